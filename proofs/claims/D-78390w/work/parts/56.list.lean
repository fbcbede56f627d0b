/-! ARRAYLIST: its members over a list of addresses -/
set_option maxRecDepth 100000
theorem ct_ok {w : XW} {y : XY} {d kc ks : Nat} {as : List Value} {m : XM} {P : Option Value → XM → Prop} {X : String → XM → Prop} (h : XOk w → CT w y d kc ks as m P X) : CT w y d kc ks as m P X := fun ok => h ok ok
theorem g_alenq {w : XW} {y : XY} {Z : XZ} {d kc ks pc q : Nat} {lv : List (Option Value)} {st : List Value} {m : XM} {t n a : Nat} {f : Nat → Option Nat} {ty : FieldType} (ht : xTs[t]? = some ty) (hd : decode y.2.1 pc = .ok (.arraylength, 1)) (hq : pc + 1 = q) (hm : xkn w m a (rA t n f)) (kk : G w y Z d kc ks q lv (.int (nI n) :: st) m) : G w y Z d kc ks pc lv (.ref a :: st) m := g_alen ht hd hq hm kk
theorem g_aleni {w : XW} {y : XY} {Z : XZ} {d kc ks pc q : Nat} {lv : List (Option Value)} {st : List Value} {m : XM} {t n a : Nat} {f : Nat → Int32} {ty : FieldType} (ht : xTs[t]? = some ty) (hd : decode y.2.1 pc = .ok (.arraylength, 1)) (hq : pc + 1 = q) (hm : xkn w m a (iA t n f)) (kk : G w y Z d kc ks q lv (.int (nI n) :: st) m) : G w y Z d kc ks pc lv (.ref a :: st) m := g_alen ht hd hq hm kk
theorem nI_sh1 {n : Nat} (h : n < 2 ^ 30) : nI n >>> (nI 1 &&& 31) = nI (n / 2) := by
  have k := pk_shrN (n := n) (by omega) (nI 1 &&& 31) 1 (by decide)
  rw [Nat.pow_one] at k
  exact k
/-- a list object, its array, how many places it has, what it holds -/
def AL (w : XW) (m : XM) (la ar cap : Nat) (is : List Nat) : Prop := ∃ (mc : Int32) (f : Nat → Option Nat), m la = some (.inr (16, [.int mc, .ref ar, .int (nI is.length)])) ∧ is.length ≤ cap ∧ cap ≤ 400 ∧ (∀ j, j < is.length → f j = is[j]?) ∧ ((cap = 0 ∧ ar = xad w 0) ∨ (10 ≤ cap ∧ m ar = some (rA 5 cap f)))
/-- what an insertion makes: places, room -/
def alN (len cap : Nat) : Nat := if len = cap then (if cap = 0 then 10 else cap + max 1 (cap / 2)) else cap
def alS (len cap : Nat) : Nat := if len = cap then alN len cap else 0
def insN (is : List Nat) (i x : Nat) : List Nat := is.take i ++ x :: is.drop i
def rmvN (is : List Nat) (i : Nat) : List Nat := is.take i ++ is.drop (i + 1)
/-- cells of old that stay: all but those -/
def xKeep (m m' : XM) (l : List Nat) : Prop := (∀ a, m a ≠ none → a ∉ l → m' a = m a) ∧ ∀ a, m a ≠ none → m' a ≠ none
theorem xKeep_rf (m : XM) (l : List Nat) : xKeep m m l := ⟨fun _ _ _ => rfl, fun _ h => h⟩
theorem xKeep_tr {m m1 m2 : XM} {l : List Nat} (h : xKeep m m1 l) (h2 : xKeep m1 m2 l) : xKeep m m2 l := ⟨fun a ha hl => (h2.1 a (h.2 a ha) hl).trans (h.1 a ha hl), fun a ha => h2.2 a (h.2 a ha)⟩
theorem xKeep_u {m m1 : XM} {l : List Nat} {b : Nat} {e : va_E} (h : xKeep m m1 l) (hb : b ∈ l ∨ m b = none) : xKeep m (xu m1 b e) l := by
  refine ⟨fun a ha hl => ?_, fun a ha => ?_⟩
  · rw [xu_ne (fun e => by subst e; rcases hb with hb | hb; exact hl hb; exact ha hb)]
    exact h.1 a ha hl
  · by_cases e : a = b
    · subst e; rw [xu_eq]; exact fun h => by cases h
    · rw [xu_ne e]; exact h.2 a ha
theorem xKeep_mono {m m1 : XM} {l l' : List Nat} (h : xKeep m m1 l) (hl : ∀ a ∈ l, a ∈ l' ∨ m a = none) : xKeep m m1 l' :=
  ⟨fun a ha hn => h.1 a ha (fun hm => (hl a hm).elim hn ha), h.2⟩
/-- objects that an array of objects takes -/
def xob (m : XM) (a : Nat) : Prop := ∃ (ci : Nat) (fs : List Value), m a = some (.inr (ci, fs)) ∧ ci < 18
theorem xob_any {w : XW} {m : XM} {a : Nat} (h : xob m a) : xany w m "java/lang/Object" a := by
  obtain ⟨ci, fs, h, hc⟩ := h
  rcases (by omega : ci = 0 ∨ ci = 1 ∨ ci = 2 ∨ ci = 3 ∨ ci = 4 ∨ ci = 5 ∨ ci = 6 ∨ ci = 7 ∨ ci = 8 ∨ ci = 9 ∨ ci = 10 ∨ ci = 11 ∨ ci = 12 ∨ ci = 13 ∨ ci = 14 ∨ ci = 15 ∨ ci = 16 ∨ ci = 17) with rfl | rfl | rfl | rfl | rfl | rfl | rfl | rfl | rfl | rfl | rfl | rfl | rfl | rfl | rfl | rfl | rfl | rfl
  · exact xany_obj (Or.inl h) xc_X1.1 (by decide) (Or.inr q2745)
  · exact xany_obj (Or.inl h) xc_X2.1 (by decide) (Or.inr q2750)
  · exact xany_obj (Or.inl h) xc_X3.1 (by decide) (Or.inr q2743)
  · exact xany_obj (Or.inl h) xc_X4.1 (by decide) (Or.inr q2744)
  · exact xany_obj (Or.inl h) xc_X5.1 (by decide) (Or.inr q2753)
  · exact xany_obj (Or.inl h) xc_X6.1 (by decide) (Or.inr q2756)
  · exact xany_obj (Or.inl h) xc_X7.1 (by decide) (Or.inr q2757)
  · exact xany_obj (Or.inl h) xc_X9.1 (by decide) (Or.inr q2761)
  · exact xany_obj (Or.inl h) xc_X10.1 (by decide) (Or.inr q2762)
  · exact xany_obj (Or.inl h) xc_X11.1 (by decide) (Or.inr q2763)
  · exact xany_obj (Or.inl h) xc_J1.1 (by decide) (Or.inr q2746)
  · exact xany_obj (Or.inl h) xc_J18.1 (by decide) (Or.inr q2740)
  · exact xany_obj (Or.inl h) xc_J2.1 (by decide) (Or.inr q2747)
  · exact xany_obj (Or.inl h) xc_J4.1 (by decide) (Or.inr q2748)
  · exact xany_obj (Or.inl h) xc_J5.1 (by decide) (Or.inr q2760)
  · exact xany_obj (Or.inl h) xc_J14.1 (by decide) (Or.inr q2759)
  · exact xany_obj (Or.inl h) xc_J26.1 (by decide) (Or.inr q2751)
  · exact xany_obj (Or.inl h) xc_J27.1 (by decide) (Or.inr q2752)
theorem xob_u {m : XM} {a b ci : Nat} {fs fs' : List Value} (hb : m b = some (.inr (ci, fs))) (h : xob m a) : xob (xu m b (.inr (ci, fs'))) a := by
  obtain ⟨cj, gs, h1, h2⟩ := h
  by_cases e : a = b
  · subst e
    rw [hb] at h1; cases h1
    exact ⟨ci, fs', xu_eq _ _ _, h2⟩
  · exact ⟨cj, gs, (xu_ne e).trans h1, h2⟩
theorem xob_n {m : XM} {a b : Nat} {e : va_E} (hb : m b = none) (h : xob m a) : xob (xu m b e) a := by
  obtain ⟨cj, gs, h1, h2⟩ := h
  exact ⟨cj, gs, (xu_ne (fun e => by subst e; rw [hb] at h1; cases h1)).trans h1, h2⟩
theorem xob_r {m : XM} {a b n t : Nat} {f : Nat → Option Nat} {e : va_E} (hb : m b = some (rA t n f)) (h : xob m a) : xob (xu m b e) a := by
  obtain ⟨cj, gs, h1, h2⟩ := h
  exact ⟨cj, gs, (xu_ne (fun e => by subst e; rw [hb] at h1; cases h1)).trans h1, h2⟩
section AL17
variable {w : XW} {m : XM} {d la ar cap : Nat} {is : List Nat}
theorem al_ne {n t : Nat} {f : Nat → Option Nat} {fs : List Value} {ci : Nat} (h1 : m la = some (.inr (ci, fs))) (h2 : m ar = some (rA t n f)) : la ≠ ar := fun e => by subst e; rw [h1] at h2; cases h2
theorem c_size (hd : 1 ≤ d) (h : AL w m la ar cap is) : CT w MJ26_size d 0 0 [.ref la] m (xRet (some (.int (nI is.length))) m) xN := by
  obtain ⟨mc, f, h1, h2, h3, h4, h5⟩ := h
  refine ct_intro (lv := [some (.ref la)]) 0 (by decide) rfl (Nat.le_of_ble_eq_true rfl) rfl ?_
  first | refine g_aload_n dJ26_size_0 rfl rfl rfl ?_ | refine g_aload_nR dJ26_size_0 rfl rfl rfl ?_ | refine g_aload_nN dJ26_size_0 rfl rfl rfl ?_
  refine g_get fl_J26_48_J26 dJ26_size_1 rfl (Or.inl (by first | assumption | exact xu_eq _ _ _ | exact (xu_ne (by first | assumption | exact Ne.symm (by assumption))).trans (by first | assumption | exact xu_eq _ _ _) | exact (xu_ne (by first | assumption | exact Ne.symm (by assumption))).trans ((xu_ne (by first | assumption | exact Ne.symm (by assumption))).trans (by first | assumption | exact xu_eq _ _ _)) | exact (xu_ne (by first | assumption | exact Ne.symm (by assumption))).trans ((xu_ne (by first | assumption | exact Ne.symm (by assumption))).trans ((xu_ne (by first | assumption | exact Ne.symm (by assumption))).trans (by first | assumption | exact xu_eq _ _ _))))) rfl ?_
  refine g_ireturn dJ26_size_4 rfl ?_
  exact ⟨rfl, rfl⟩
theorem c_isEmpty (hd : 1 ≤ d) (h : AL w m la ar cap is) : CT w MJ26_isEmpty d 0 0 [.ref la] m (xRet (some (.int (xB (decide (is = []))))) m) xN := by
  obtain ⟨mc, f, h1, h2, h3, h4, h5⟩ := h
  refine ct_intro (lv := [some (.ref la)]) 0 (by decide) rfl (Nat.le_of_ble_eq_true rfl) rfl ?_
  first | refine g_aload_n dJ26_isEmpty_0 rfl rfl rfl ?_ | refine g_aload_nR dJ26_isEmpty_0 rfl rfl rfl ?_ | refine g_aload_nN dJ26_isEmpty_0 rfl rfl rfl ?_
  refine g_get fl_J26_48_J26 dJ26_isEmpty_1 rfl (Or.inl (by first | assumption | exact xu_eq _ _ _ | exact (xu_ne (by first | assumption | exact Ne.symm (by assumption))).trans (by first | assumption | exact xu_eq _ _ _) | exact (xu_ne (by first | assumption | exact Ne.symm (by assumption))).trans ((xu_ne (by first | assumption | exact Ne.symm (by assumption))).trans (by first | assumption | exact xu_eq _ _ _)) | exact (xu_ne (by first | assumption | exact Ne.symm (by assumption))).trans ((xu_ne (by first | assumption | exact Ne.symm (by assumption))).trans ((xu_ne (by first | assumption | exact Ne.symm (by assumption))).trans (by first | assumption | exact xu_eq _ _ _))))) rfl ?_
  refine g_ifn_ne (tgt := 11) dJ26_isEmpty_4 (by decide) rfl (by omega) (fun c_4 => ?_) (fun c_4 => ?_)
  · refine g_iconst (v := (nI 0)) dJ26_isEmpty_11 rfl rfl ?_
    refine g_zreturn dJ26_isEmpty_12 rfl rfl ?_
    refine ⟨?_, rfl⟩
    cases is with
    | nil => first | rfl | (exact absurd rfl c_4)
    | cons a l => first | rfl | (simp at c_4)
  · refine g_iconst (v := (nI 1)) dJ26_isEmpty_7 rfl rfl ?_
    refine g_goto (tgt := 12) dJ26_isEmpty_8 (by decide) ?_
    refine g_zreturn dJ26_isEmpty_12 rfl rfl ?_
    refine ⟨?_, rfl⟩
    cases is with
    | nil => first | rfl | (exact absurd rfl c_4)
    | cons a l => first | rfl | (simp at c_4)
theorem c_pcheck {i n : Nat} {v : Value} (hd : 1 ≤ d) (hi : i < n) (hn : n < 2 ^ 31) (hv : v.category = 1) : CT w MJ17_checkIndex d 0 0 [.int (nI i), .int (nI n), v] m (xRet (some (.int (nI i))) m) xN := by
  refine ct_intro (lv := [some (.int (nI i)), some (.int (nI n)), some v]) 0 (by decide) rfl (by cases v <;> first | exact Nat.le_of_ble_eq_true rfl | (simp [Value.category] at hv)) (by cases v <;> first | rfl | (simp [Value.category] at hv)) ?_
  refine g_iload_n dJ17_checkIndex_0 rfl rfl rfl ?_
  refine g_if_lt (tgt := 9) dJ17_checkIndex_1 (by decide) rfl (fun c_1 => absurd c_1 (nI_pos (by omega))) (fun c_1 => ?_)
  refine g_iload_n dJ17_checkIndex_4 rfl rfl rfl ?_
  refine g_iload_n dJ17_checkIndex_5 rfl rfl rfl ?_
  refine g_icmpn_lt (tgt := 16) dJ17_checkIndex_6 (by decide) rfl (by omega) (by omega) (fun c_6 => ?_) (fun c_6 => by omega)
  refine g_iload_n dJ17_checkIndex_16 rfl rfl rfl ?_
  refine g_ireturn dJ17_checkIndex_17 rfl ?_
  exact ⟨rfl, rfl⟩
theorem c_ocheck {i n : Nat} (hd : 2 ≤ d) (hi : i < n) (hn : n < 2 ^ 31) : CT w MJ23_checkIndex d 0 0 [.int (nI i), .int (nI n)] m (xRet (some (.int (nI i))) m) xN := by
  refine ct_intro (lv := [some (.int (nI i)), some (.int (nI n))]) 0 (by decide) rfl (Nat.le_of_ble_eq_true rfl) rfl ?_
  refine g_iload_n dJ23_checkIndex_0 rfl rfl rfl ?_
  refine g_iload_n dJ23_checkIndex_1 rfl rfl rfl ?_
  refine g_null dJ23_checkIndex_2 rfl ?_
  refine g_staticP iS_J17_checkIndex q1111 (c_pcheck (d := d - 1) (by omega) hi hn rfl) dJ23_checkIndex_3 rfl rfl rfl (by first | exact Nat.le_of_ble_eq_true rfl | simp [Value.category, rf_cat]) (by omega) xN_no ?_
  refine g_ireturn dJ23_checkIndex_6 rfl ?_
  exact ⟨rfl, rfl⟩
theorem c_elementData {i x : Nat} (hd : 1 ≤ d) (h : AL w m la ar cap is) (hi : is[i]? = some x) : CT w MJ26_elementData d 0 0 [.ref la, .int (nI i)] m (xRet (some (.ref x)) m) xN := by
  obtain ⟨mc, f, h1, h2, h3, h4, h5⟩ := h
  have hl : i < is.length := (List.getElem?_eq_some_iff.mp hi).1
  rcases h5 with ⟨h5, -⟩ | ⟨h5, h6⟩
  · omega
  refine ct_intro (lv := [some (.ref la), some (.int (nI i))]) 0 (by decide) rfl (Nat.le_of_ble_eq_true rfl) rfl ?_
  first | refine g_aload_n dJ26_elementData_0 rfl rfl rfl ?_ | refine g_aload_nR dJ26_elementData_0 rfl rfl rfl ?_ | refine g_aload_nN dJ26_elementData_0 rfl rfl rfl ?_
  refine g_get fl_J26_9_J26 dJ26_elementData_1 rfl (Or.inl (by first | assumption | exact xu_eq _ _ _ | exact (xu_ne (by first | assumption | exact Ne.symm (by assumption))).trans (by first | assumption | exact xu_eq _ _ _) | exact (xu_ne (by first | assumption | exact Ne.symm (by assumption))).trans ((xu_ne (by first | assumption | exact Ne.symm (by assumption))).trans (by first | assumption | exact xu_eq _ _ _)) | exact (xu_ne (by first | assumption | exact Ne.symm (by assumption))).trans ((xu_ne (by first | assumption | exact Ne.symm (by assumption))).trans ((xu_ne (by first | assumption | exact Ne.symm (by assumption))).trans (by first | assumption | exact xu_eq _ _ _))))) rfl ?_
  refine g_iload_n dJ26_elementData_4 rfl rfl rfl ?_
  refine g_aaldn (t := 5) rfl dJ26_elementData_5 rfl (by first | assumption | exact Or.inl (by first | assumption | exact xu_eq _ _ _ | exact (xu_ne (by first | assumption | exact Ne.symm (by assumption))).trans (by first | assumption | exact xu_eq _ _ _) | exact (xu_ne (by first | assumption | exact Ne.symm (by assumption))).trans ((xu_ne (by first | assumption | exact Ne.symm (by assumption))).trans (by first | assumption | exact xu_eq _ _ _)) | exact (xu_ne (by first | assumption | exact Ne.symm (by assumption))).trans ((xu_ne (by first | assumption | exact Ne.symm (by assumption))).trans ((xu_ne (by first | assumption | exact Ne.symm (by assumption))).trans (by first | assumption | exact xu_eq _ _ _))))) (by omega) (by omega) ?_
  rw [h4 i hl, hi]
  refine g_areturn dJ26_elementData_6 rfl (Or.inl ⟨_, rfl⟩) (by first | exact Or.inr ⟨_, rfl⟩ | exact Or.inl rfl | exact rf_is _) ?_
  exact ⟨rfl, rfl⟩
theorem c_get {i x : Nat} (hd : 3 ≤ d) (h : AL w m la ar cap is) (hi : is[i]? = some x) : CT w MJ26_get d 0 0 [.ref la, .int (nI i)] m (xRet (some (.ref x)) m) xN := by
  have hA := h
  obtain ⟨mc, f, h1, h2, h3, h4, h5⟩ := h
  have hl : i < is.length := (List.getElem?_eq_some_iff.mp hi).1
  refine ct_intro (lv := [some (.ref la), some (.int (nI i))]) 0 (by decide) rfl (Nat.le_of_ble_eq_true rfl) rfl ?_
  refine g_iload_n dJ26_get_0 rfl rfl rfl ?_
  first | refine g_aload_n dJ26_get_1 rfl rfl rfl ?_ | refine g_aload_nR dJ26_get_1 rfl rfl rfl ?_ | refine g_aload_nN dJ26_get_1 rfl rfl rfl ?_
  refine g_get fl_J26_48_J26 dJ26_get_2 rfl (Or.inl (by first | assumption | exact xu_eq _ _ _ | exact (xu_ne (by first | assumption | exact Ne.symm (by assumption))).trans (by first | assumption | exact xu_eq _ _ _) | exact (xu_ne (by first | assumption | exact Ne.symm (by assumption))).trans ((xu_ne (by first | assumption | exact Ne.symm (by assumption))).trans (by first | assumption | exact xu_eq _ _ _)) | exact (xu_ne (by first | assumption | exact Ne.symm (by assumption))).trans ((xu_ne (by first | assumption | exact Ne.symm (by assumption))).trans ((xu_ne (by first | assumption | exact Ne.symm (by assumption))).trans (by first | assumption | exact xu_eq _ _ _))))) rfl ?_
  refine g_staticP iS_J23_checkIndex q1108 (c_ocheck (d := d - 1) (by omega) hl (by omega)) dJ26_get_5 rfl rfl rfl (by first | exact Nat.le_of_ble_eq_true rfl | simp [Value.category, rf_cat]) (by omega) xN_no ?_
  refine g_pop dJ26_get_8 rfl (by first | rfl | exact rf_cat _) ?_
  first | refine g_aload_n dJ26_get_9 rfl rfl rfl ?_ | refine g_aload_nR dJ26_get_9 rfl rfl rfl ?_ | refine g_aload_nN dJ26_get_9 rfl rfl rfl ?_
  refine g_iload_n dJ26_get_10 rfl rfl rfl ?_
  refine g_virtualP iV_J26_elementData q1114 (c_elementData (d := d - 1) (by omega) hA hi) (Or.inl (by first | assumption | exact xu_eq _ _ _ | exact (xu_ne (by first | assumption | exact Ne.symm (by assumption))).trans (by first | assumption | exact xu_eq _ _ _) | exact (xu_ne (by first | assumption | exact Ne.symm (by assumption))).trans ((xu_ne (by first | assumption | exact Ne.symm (by assumption))).trans (by first | assumption | exact xu_eq _ _ _)) | exact (xu_ne (by first | assumption | exact Ne.symm (by assumption))).trans ((xu_ne (by first | assumption | exact Ne.symm (by assumption))).trans ((xu_ne (by first | assumption | exact Ne.symm (by assumption))).trans (by first | assumption | exact xu_eq _ _ _))))) rfl (by decide) dJ26_get_11 rfl rfl rfl (by first | exact Nat.le_of_ble_eq_true rfl | simp [Value.category, rf_cat]) (by omega) xN_no ?_
  refine g_areturn dJ26_get_14 rfl (Or.inl ⟨_, rfl⟩) (by first | exact Or.inr ⟨_, rfl⟩ | exact Or.inl rfl | exact rf_is _) ?_
  exact ⟨rfl, rfl⟩
theorem c_rangeAdd {i : Nat} (hd : 1 ≤ d) (h : AL w m la ar cap is) (hi : i ≤ is.length) : CT w MJ26_rangeCheckForAdd d 0 0 [.ref la, .int (nI i)] m (xRet none m) xN := by
  obtain ⟨mc, f, h1, h2, h3, h4, h5⟩ := h
  refine ct_intro (lv := [some (.ref la), some (.int (nI i))]) 0 (by decide) rfl (Nat.le_of_ble_eq_true rfl) rfl ?_
  refine g_iload_n dJ26_rangeCheckForAdd_0 rfl rfl rfl ?_
  first | refine g_aload_n dJ26_rangeCheckForAdd_1 rfl rfl rfl ?_ | refine g_aload_nR dJ26_rangeCheckForAdd_1 rfl rfl rfl ?_ | refine g_aload_nN dJ26_rangeCheckForAdd_1 rfl rfl rfl ?_
  refine g_get fl_J26_48_J26 dJ26_rangeCheckForAdd_2 rfl (Or.inl (by first | assumption | exact xu_eq _ _ _ | exact (xu_ne (by first | assumption | exact Ne.symm (by assumption))).trans (by first | assumption | exact xu_eq _ _ _) | exact (xu_ne (by first | assumption | exact Ne.symm (by assumption))).trans ((xu_ne (by first | assumption | exact Ne.symm (by assumption))).trans (by first | assumption | exact xu_eq _ _ _)) | exact (xu_ne (by first | assumption | exact Ne.symm (by assumption))).trans ((xu_ne (by first | assumption | exact Ne.symm (by assumption))).trans ((xu_ne (by first | assumption | exact Ne.symm (by assumption))).trans (by first | assumption | exact xu_eq _ _ _))))) rfl ?_
  refine g_icmpn_gt (tgt := 12) dJ26_rangeCheckForAdd_5 (by decide) rfl (by omega) (by omega) (fun c_5 => by omega) (fun c_5 => ?_)
  refine g_iload_n dJ26_rangeCheckForAdd_8 rfl rfl rfl ?_
  refine g_if_ge (tgt := 25) dJ26_rangeCheckForAdd_9 (by decide) rfl (fun c_9 => ?_) (fun c_9 => absurd (nI_pos' (by omega)) c_9)
  exact g_return dJ26_rangeCheckForAdd_25 rfl ⟨rfl, rfl⟩
theorem c_newLength {a b c : Nat} (hd : 1 ≤ d) (ha : a ≤ 100000) (hb : b ≤ 100000) (hc : c ≤ 100000) (h0 : 0 < a + max b c) : CT w MJ7_newLength d 0 0 [.int (nI a), .int (nI b), .int (nI c)] m (xRet (some (.int (nI (a + max b c)))) m) xN := by
  have hm : max b c ≤ 100000 := by omega
  refine ct_intro (lv := [some (.int (nI a)), some (.int (nI b)), some (.int (nI c)), none]) 1 (by decide) rfl (Nat.le_of_ble_eq_true rfl) rfl ?_
  refine g_iload_n dJ7_newLength_0 rfl rfl rfl ?_
  refine g_iload_n dJ7_newLength_1 rfl rfl rfl ?_
  refine g_iload_n dJ7_newLength_2 rfl rfl rfl ?_
  refine g_maxn q379 dJ7_newLength_3 rfl (by first | exact Nat.le_of_ble_eq_true rfl | simp [Value.category, rf_cat]) (by omega) (by omega) (by omega) ?_
  refine g_iaddn dJ7_newLength_6 rfl ?_
  refine g_ist3 dJ7_newLength_7 rfl (by decide) (k := ?_)
  refine g_iconst (v := (nI 0)) dJ7_newLength_8 rfl rfl ?_
  refine g_iload_n dJ7_newLength_9 rfl rfl rfl ?_
  refine g_icmpn_ge (tgt := 21) dJ7_newLength_10 (by decide) rfl (by omega) (by omega) (fun c_10 => by omega) (fun c_10 => ?_)
  refine g_iload_n dJ7_newLength_13 rfl rfl rfl ?_
  refine g_ldc (v := nI 2147483639) dJ7_newLength_14 rfl q382 ?_
  refine g_icmpn_gt (tgt := 21) dJ7_newLength_16 (by decide) rfl (by omega) (by omega) (fun c_16 => by omega) (fun c_16 => ?_)
  refine g_iload_n dJ7_newLength_19 rfl rfl rfl ?_
  refine g_ireturn dJ7_newLength_20 rfl ?_
  exact ⟨rfl, rfl⟩
end AL17
section AL17b
variable {w : XW} {m : XM} {d la ar cap : Nat} {is : List Nat}
theorem c_copyOf5 {n cap' : Nat} {f : Nat → Option Nat} (hd : 2 ≤ d) (ok : XOk w) (hm : m ar = some (rA 5 n f)) (hn : n ≤ cap') (hc : cap' ≤ 100000) (hel : ∀ i, i < n → ∀ z, f i = some z → xob m z) : CT w MJ16_copyOf_3 d 1 cap' [.ref ar, .int (nI cap'), .ref (xad w 5)] m (fun v m' => ∃ a, m a = none ∧ xBase w ≤ a ∧ v = some (.ref a) ∧ m' = xu m a (rA 5 cap' (va_cpy f (fun _ => none) 0 0 n))) xN := by
  have hmi : XCo w → va_Mi "[Ljava/lang/Object;" (xad w 5) (xs0 w) := fun h => h.2.2.2.2.2.2.2.2.2.1
  refine ct_intro (lv := [some (.ref ar), some (.int (nI cap')), some (.ref (xad w 5)), none]) 1 (by decide) rfl (Nat.le_of_ble_eq_true rfl) rfl ?_
  first | refine g_aload_n dJ16_copyOf_3_0 rfl rfl rfl ?_ | refine g_aload_nR dJ16_copyOf_3_0 rfl rfl rfl ?_ | refine g_aload_nN dJ16_copyOf_3_0 rfl rfl rfl ?_
  refine g_ldcM q1378 hmi dJ16_copyOf_3_1 rfl ?_
  refine g_acmp_neQ (tgt := 13) dJ16_copyOf_3_3 (by decide) rfl (fun c_3 => absurd rfl c_3) (fun c_3 => ?_)
  refine g_iload_n dJ16_copyOf_3_6 rfl rfl rfl ?_
  refine g_newq q1379 q1240 (t := 5) rfl dJ16_copyOf_3_7 rfl (by omega) (by omega) (by omega) (fun a_7 hno_7 hb_7 => ?_)
  refine g_goto (tgt := 24) dJ16_copyOf_3_10 (by decide) ?_
  have hne : ar ≠ a_7 := fun e => by subst e; rw [hm] at hno_7; cases hno_7
  have h7 := xu_eq m a_7 (rA 5 cap' fun _ => none)
  have hm' : xu m a_7 (rA 5 cap' fun _ => none) ar = some (rA 5 n f) := (xu_ne hne).trans hm
  first | refine g_ast3 dJ16_copyOf_3_24 rfl (by decide) (k := ?_) | refine g_astR3 dJ16_copyOf_3_24 rfl (by decide) (k := ?_) | refine g_astN3 dJ16_copyOf_3_24 rfl (by decide) (k := ?_)
  first | refine g_aload_n dJ16_copyOf_3_25 rfl rfl rfl ?_ | refine g_aload_nR dJ16_copyOf_3_25 rfl rfl rfl ?_ | refine g_aload_nN dJ16_copyOf_3_25 rfl rfl rfl ?_
  refine g_iconst (v := (nI 0)) dJ16_copyOf_3_26 rfl rfl ?_
  first | refine g_aload_n dJ16_copyOf_3_27 rfl rfl rfl ?_ | refine g_aload_nR dJ16_copyOf_3_27 rfl rfl rfl ?_ | refine g_aload_nN dJ16_copyOf_3_27 rfl rfl rfl ?_
  refine g_iconst (v := (nI 0)) dJ16_copyOf_3_28 rfl rfl ?_
  first | refine g_aload_n dJ16_copyOf_3_29 rfl rfl rfl ?_ | refine g_aload_nR dJ16_copyOf_3_29 rfl rfl rfl ?_ | refine g_aload_nN dJ16_copyOf_3_29 rfl rfl rfl ?_
  refine g_alenq (t := 5) rfl dJ16_copyOf_3_30 rfl (by first | assumption | exact Or.inl (by first | assumption | exact xu_eq _ _ _ | exact (xu_ne (by first | assumption | exact Ne.symm (by assumption))).trans (by first | assumption | exact xu_eq _ _ _) | exact (xu_ne (by first | assumption | exact Ne.symm (by assumption))).trans ((xu_ne (by first | assumption | exact Ne.symm (by assumption))).trans (by first | assumption | exact xu_eq _ _ _)) | exact (xu_ne (by first | assumption | exact Ne.symm (by assumption))).trans ((xu_ne (by first | assumption | exact Ne.symm (by assumption))).trans ((xu_ne (by first | assumption | exact Ne.symm (by assumption))).trans (by first | assumption | exact xu_eq _ _ _))))) ?_
  refine g_iload_n dJ16_copyOf_3_31 rfl rfl rfl ?_
  refine g_minn q397 dJ16_copyOf_3_32 rfl (by first | exact Nat.le_of_ble_eq_true rfl | simp [Value.category, rf_cat]) (by omega) (by omega) (by omega) ?_
  rw [Nat.min_eq_left hn]
  refine g_acopyq q400 dJ16_copyOf_3_35 rfl (by first | assumption | exact Or.inl (by first | assumption | exact xu_eq _ _ _ | exact (xu_ne (by first | assumption | exact Ne.symm (by assumption))).trans (by first | assumption | exact xu_eq _ _ _) | exact (xu_ne (by first | assumption | exact Ne.symm (by assumption))).trans ((xu_ne (by first | assumption | exact Ne.symm (by assumption))).trans (by first | assumption | exact xu_eq _ _ _)) | exact (xu_ne (by first | assumption | exact Ne.symm (by assumption))).trans ((xu_ne (by first | assumption | exact Ne.symm (by assumption))).trans ((xu_ne (by first | assumption | exact Ne.symm (by assumption))).trans (by first | assumption | exact xu_eq _ _ _))))) (by first | assumption | exact xu_eq _ _ _ | exact (xu_ne (by first | assumption | exact Ne.symm (by assumption))).trans (by first | assumption | exact xu_eq _ _ _) | exact (xu_ne (by first | assumption | exact Ne.symm (by assumption))).trans ((xu_ne (by first | assumption | exact Ne.symm (by assumption))).trans (by first | assumption | exact xu_eq _ _ _)) | exact (xu_ne (by first | assumption | exact Ne.symm (by assumption))).trans ((xu_ne (by first | assumption | exact Ne.symm (by assumption))).trans ((xu_ne (by first | assumption | exact Ne.symm (by assumption))).trans (by first | assumption | exact xu_eq _ _ _)))) (by omega) (by omega) (by omega) (by omega) (fun i hi z hz => by rw [Nat.zero_add] at hz; exact xob_any (xob_n hno_7 (hel i hi z hz))) (by first | exact Nat.le_of_ble_eq_true rfl | simp [Value.category, rf_cat]) (by omega) ?_
  rw [xu_xu]
  first | refine g_aload_n dJ16_copyOf_3_38 rfl rfl rfl ?_ | refine g_aload_nR dJ16_copyOf_3_38 rfl rfl rfl ?_ | refine g_aload_nN dJ16_copyOf_3_38 rfl rfl rfl ?_
  refine g_areturn dJ16_copyOf_3_39 rfl (Or.inr ⟨_, rfl⟩) (Or.inr ⟨_, rfl⟩) ?_
  exact ⟨_, hno_7, hb_7, rfl, rfl⟩
theorem c_copyOf {n cap' : Nat} {f : Nat → Option Nat} (hd : 3 ≤ d) (ok : XOk w) (hm : m ar = some (rA 5 n f)) (hn : n ≤ cap') (hc : cap' ≤ 100000) (hel : ∀ i, i < n → ∀ z, f i = some z → xob m z) : CT w MJ16_copyOf_2 d 1 cap' [.ref ar, .int (nI cap')] m (fun v m' => ∃ a, m a = none ∧ xBase w ≤ a ∧ v = some (.ref a) ∧ m' = xu m a (rA 5 cap' (va_cpy f (fun _ => none) 0 0 n))) xN := by
  refine ct_intro (lv := [some (.ref ar), some (.int (nI cap'))]) 0 (by decide) rfl (Nat.le_of_ble_eq_true rfl) rfl ?_
  first | refine g_aload_n dJ16_copyOf_2_0 rfl rfl rfl ?_ | refine g_aload_nR dJ16_copyOf_2_0 rfl rfl rfl ?_ | refine g_aload_nN dJ16_copyOf_2_0 rfl rfl rfl ?_
  refine g_iload_n dJ16_copyOf_2_1 rfl rfl rfl ?_
  first | refine g_aload_n dJ16_copyOf_2_2 rfl rfl rfl ?_ | refine g_aload_nR dJ16_copyOf_2_2 rfl rfl rfl ?_ | refine g_aload_nN dJ16_copyOf_2_2 rfl rfl rfl ?_
  refine g_getC5 q1374 (Or.inl hm) dJ16_copyOf_2_3 rfl (by first | exact Nat.le_of_ble_eq_true rfl | simp [Value.category, rf_cat]) (by omega) ?_
  refine g_static iS_J16_copyOf_3 q1375 (c_copyOf5 (d := d - 1) (by omega) ok hm hn hc hel) dJ16_copyOf_2_6 rfl rfl rfl (by first | exact Nat.le_of_ble_eq_true rfl | simp [Value.category, rf_cat]) (by omega) (by omega) (by omega) xN_no (fun v_6 m_6 h_6 => ?_)
  obtain ⟨a, h1, h2, rfl, rfl⟩ := h_6
  refine g_areturn dJ16_copyOf_2_9 rfl (Or.inr ⟨_, rfl⟩) (Or.inr ⟨_, rfl⟩) ?_
  exact ⟨_, h1, h2, rfl, rfl⟩
/-- growing: a new array, the old one's contents in it -/
theorem c_grow2 (hd : 5 ≤ d) (ok : XOk w) (h : AL w m la ar cap is) (hc : is.length = cap) (hl : is.length ≤ 250) (hel : ∀ z ∈ is, xob m z) : CT w MJ26_grow_2 d 1 (alS is.length cap) [.ref la, .int (nI (is.length + 1))] m (fun v m' => ∃ ar' mc f', m ar' = none ∧ xBase w ≤ ar' ∧ v = some (.ref ar') ∧ m' = xu (xu m ar' (rA 5 (alN is.length cap) f')) la (.inr (16, [.int mc, .ref ar', .int (nI is.length)])) ∧ (∀ j, j < is.length → f' j = is[j]?) ∧ ∃ ci fs, m la = some (.inr (ci, fs)) ∧ fs.head? = some (.int mc)) xN := by
  obtain ⟨mc, f, h1, h2, h3, h4, h5⟩ := h
  have hx0 := (xco ok).2.2.2.2.2.2.2.2.2.2.2.1.1
  unfold alS alN
  rw [if_pos hc, if_pos hc]
  rcases h5 with ⟨h5, h6⟩ | ⟨h5, h6⟩
  · have e0 : is = [] := List.eq_nil_of_length_eq_zero (by omega)
    subst e0
    subst h6
    rw [if_pos h5]
    subst h5
    have hxk : xkn w m (xad w 0) (rA 5 0 (fun _ => none)) := Or.inr hx0
    refine ct_intro (lv := [some (.ref la), some (.int (nI 1)), none, none]) 2 (by decide) rfl (Nat.le_of_ble_eq_true rfl) rfl ?_
    first | refine g_aload_n dJ26_grow_2_0 rfl rfl rfl ?_ | refine g_aload_nR dJ26_grow_2_0 rfl rfl rfl ?_ | refine g_aload_nN dJ26_grow_2_0 rfl rfl rfl ?_
    refine g_get fl_J26_9_J26 dJ26_grow_2_1 rfl (Or.inl (by first | assumption | exact xu_eq _ _ _ | exact (xu_ne (by first | assumption | exact Ne.symm (by assumption))).trans (by first | assumption | exact xu_eq _ _ _) | exact (xu_ne (by first | assumption | exact Ne.symm (by assumption))).trans ((xu_ne (by first | assumption | exact Ne.symm (by assumption))).trans (by first | assumption | exact xu_eq _ _ _)) | exact (xu_ne (by first | assumption | exact Ne.symm (by assumption))).trans ((xu_ne (by first | assumption | exact Ne.symm (by assumption))).trans ((xu_ne (by first | assumption | exact Ne.symm (by assumption))).trans (by first | assumption | exact xu_eq _ _ _))))) rfl ?_
    refine g_alenq (t := 5) rfl dJ26_grow_2_4 rfl hxk ?_
    refine g_ist2 dJ26_grow_2_5 rfl (by decide) (k := ?_)
    refine g_iload_n dJ26_grow_2_6 rfl rfl rfl ?_
    refine g_ifn_gt (tgt := 20) dJ26_grow_2_7 (by decide) rfl (by omega) (fun c_7 => by omega) (fun c_7 => ?_)
    first | refine g_aload_n dJ26_grow_2_10 rfl rfl rfl ?_ | refine g_aload_nR dJ26_grow_2_10 rfl rfl rfl ?_ | refine g_aload_nN dJ26_grow_2_10 rfl rfl rfl ?_
    refine g_get fl_J26_9_J26 dJ26_grow_2_11 rfl (Or.inl (by first | assumption | exact xu_eq _ _ _ | exact (xu_ne (by first | assumption | exact Ne.symm (by assumption))).trans (by first | assumption | exact xu_eq _ _ _) | exact (xu_ne (by first | assumption | exact Ne.symm (by assumption))).trans ((xu_ne (by first | assumption | exact Ne.symm (by assumption))).trans (by first | assumption | exact xu_eq _ _ _)) | exact (xu_ne (by first | assumption | exact Ne.symm (by assumption))).trans ((xu_ne (by first | assumption | exact Ne.symm (by assumption))).trans ((xu_ne (by first | assumption | exact Ne.symm (by assumption))).trans (by first | assumption | exact xu_eq _ _ _))))) rfl ?_
    refine g_gets q1173 (fun h => h.2.1) dJ26_grow_2_14 rfl ?_
    refine g_acmp_eqQ (tgt := 45) dJ26_grow_2_17 (by decide) rfl (fun c_17 => ?_) (fun c_17 => absurd rfl c_17)
    first | refine g_aload_n dJ26_grow_2_45 rfl rfl rfl ?_ | refine g_aload_nR dJ26_grow_2_45 rfl rfl rfl ?_ | refine g_aload_nN dJ26_grow_2_45 rfl rfl rfl ?_
    refine g_bipush (v := (nI 10)) dJ26_grow_2_46 rfl rfl ?_
    refine g_iload_n dJ26_grow_2_48 rfl rfl rfl ?_
    refine g_maxn q1533 dJ26_grow_2_49 rfl (by first | exact Nat.le_of_ble_eq_true rfl | simp [Value.category, rf_cat]) (by omega) (by omega) (by omega) ?_
    rw [show max 10 1 = 10 from rfl]
    refine g_newq q1534 q1240 (t := 5) rfl dJ26_grow_2_52 rfl (by omega) (by omega) (by omega) (fun a_52 hno_52 hb_52 => ?_)
    have hal : la ≠ a_52 := fun e => by subst e; rw [h1] at hno_52; cases hno_52
    refine g_dup_x1 dJ26_grow_2_55 rfl (by first | rfl | exact rf_cat _) (by first | rfl | exact rf_cat _) ?_
    refine g_put1 fl_J26_9_J26 dJ26_grow_2_56 rfl (by first | assumption | exact xu_eq _ _ _ | exact (xu_ne (by first | assumption | exact Ne.symm (by assumption))).trans (by first | assumption | exact xu_eq _ _ _) | exact (xu_ne (by first | assumption | exact Ne.symm (by assumption))).trans ((xu_ne (by first | assumption | exact Ne.symm (by assumption))).trans (by first | assumption | exact xu_eq _ _ _)) | exact (xu_ne (by first | assumption | exact Ne.symm (by assumption))).trans ((xu_ne (by first | assumption | exact Ne.symm (by assumption))).trans ((xu_ne (by first | assumption | exact Ne.symm (by assumption))).trans (by first | assumption | exact xu_eq _ _ _)))) rfl rfl ?_
    refine g_areturn dJ26_grow_2_59 rfl (Or.inr ⟨_, rfl⟩) (Or.inr ⟨_, rfl⟩) ?_
    exact ⟨a_52, mc, _, hno_52, hb_52, rfl, rfl, fun j hj => by simp at hj, _, _, h1, rfl⟩
  · rw [if_neg (by omega)]
    have hne := al_ne h1 h6
    refine ct_intro (lv := [some (.ref la), some (.int (nI (is.length + 1))), none, none]) 2 (by decide) rfl (Nat.le_of_ble_eq_true rfl) rfl ?_
    first | refine g_aload_n dJ26_grow_2_0 rfl rfl rfl ?_ | refine g_aload_nR dJ26_grow_2_0 rfl rfl rfl ?_ | refine g_aload_nN dJ26_grow_2_0 rfl rfl rfl ?_
    refine g_get fl_J26_9_J26 dJ26_grow_2_1 rfl (Or.inl (by first | assumption | exact xu_eq _ _ _ | exact (xu_ne (by first | assumption | exact Ne.symm (by assumption))).trans (by first | assumption | exact xu_eq _ _ _) | exact (xu_ne (by first | assumption | exact Ne.symm (by assumption))).trans ((xu_ne (by first | assumption | exact Ne.symm (by assumption))).trans (by first | assumption | exact xu_eq _ _ _)) | exact (xu_ne (by first | assumption | exact Ne.symm (by assumption))).trans ((xu_ne (by first | assumption | exact Ne.symm (by assumption))).trans ((xu_ne (by first | assumption | exact Ne.symm (by assumption))).trans (by first | assumption | exact xu_eq _ _ _))))) rfl ?_
    refine g_alenq (t := 5) rfl dJ26_grow_2_4 rfl (by first | assumption | exact Or.inl (by first | assumption | exact xu_eq _ _ _ | exact (xu_ne (by first | assumption | exact Ne.symm (by assumption))).trans (by first | assumption | exact xu_eq _ _ _) | exact (xu_ne (by first | assumption | exact Ne.symm (by assumption))).trans ((xu_ne (by first | assumption | exact Ne.symm (by assumption))).trans (by first | assumption | exact xu_eq _ _ _)) | exact (xu_ne (by first | assumption | exact Ne.symm (by assumption))).trans ((xu_ne (by first | assumption | exact Ne.symm (by assumption))).trans ((xu_ne (by first | assumption | exact Ne.symm (by assumption))).trans (by first | assumption | exact xu_eq _ _ _))))) ?_
    refine g_ist2 dJ26_grow_2_5 rfl (by decide) (k := ?_)
    refine g_iload_n dJ26_grow_2_6 rfl rfl rfl ?_
    refine g_ifn_gt (tgt := 20) dJ26_grow_2_7 (by decide) rfl (by omega) (fun c_7 => ?_) (fun c_7 => by omega)
    refine g_iload_n dJ26_grow_2_20 rfl rfl rfl ?_
    refine g_iload_n dJ26_grow_2_21 rfl rfl rfl ?_
    refine g_iload_n dJ26_grow_2_22 rfl rfl rfl ?_
    refine g_isubn dJ26_grow_2_23 rfl (by omega) ?_
    refine g_iload_n dJ26_grow_2_24 rfl rfl rfl ?_
    refine g_iconst (v := (nI 1)) dJ26_grow_2_25 rfl rfl ?_
    refine g_ishr dJ26_grow_2_26 rfl ?_
    rw [nI_sh1 (by omega)]
    refine g_staticP iS_J7_newLength q1531 (c_newLength (a := cap) (b := is.length + 1 - cap) (c := cap / 2) (d := d - 1) (by omega) (by omega) (by omega) (by omega) (by omega)) dJ26_grow_2_27 rfl rfl rfl (by first | exact Nat.le_of_ble_eq_true rfl | simp [Value.category, rf_cat]) (by omega) xN_no ?_
    refine g_ist3 dJ26_grow_2_30 rfl (by decide) (k := ?_)
    first | refine g_aload_n dJ26_grow_2_31 rfl rfl rfl ?_ | refine g_aload_nR dJ26_grow_2_31 rfl rfl rfl ?_ | refine g_aload_nN dJ26_grow_2_31 rfl rfl rfl ?_
    first | refine g_aload_n dJ26_grow_2_32 rfl rfl rfl ?_ | refine g_aload_nR dJ26_grow_2_32 rfl rfl rfl ?_ | refine g_aload_nN dJ26_grow_2_32 rfl rfl rfl ?_
    refine g_get fl_J26_9_J26 dJ26_grow_2_33 rfl (Or.inl (by first | assumption | exact xu_eq _ _ _ | exact (xu_ne (by first | assumption | exact Ne.symm (by assumption))).trans (by first | assumption | exact xu_eq _ _ _) | exact (xu_ne (by first | assumption | exact Ne.symm (by assumption))).trans ((xu_ne (by first | assumption | exact Ne.symm (by assumption))).trans (by first | assumption | exact xu_eq _ _ _)) | exact (xu_ne (by first | assumption | exact Ne.symm (by assumption))).trans ((xu_ne (by first | assumption | exact Ne.symm (by assumption))).trans ((xu_ne (by first | assumption | exact Ne.symm (by assumption))).trans (by first | assumption | exact xu_eq _ _ _))))) rfl ?_
    rw [show is.length + 1 - cap = 1 by omega]
    refine g_iload_n dJ26_grow_2_36 rfl rfl rfl ?_
    refine g_static iS_J16_copyOf_2 q1532 (c_copyOf (d := d - 1) (cap' := cap + max 1 (cap / 2)) (by omega) ok h6 (by omega) (by omega) (fun i hi z hz => by rw [h4 i (by omega)] at hz; exact hel z (List.mem_of_getElem? hz))) dJ26_grow_2_37 rfl rfl rfl (by first | exact Nat.le_of_ble_eq_true rfl | simp [Value.category, rf_cat]) (by omega) (by omega) (by omega) xN_no (fun v_37 m_37 h_37 => ?_)
    obtain ⟨a, g1, g2, rfl, rfl⟩ := h_37
    have hal : la ≠ a := fun e => by subst e; rw [h1] at g1; cases g1
    have h1' : xu m a (rA 5 (cap + max 1 (cap / 2)) (va_cpy f (fun _ => none) 0 0 cap)) la = some (.inr (16, [.int mc, .ref ar, .int (nI is.length)])) := (xu_ne hal).trans h1
    refine g_dup_x1 dJ26_grow_2_40 rfl (by first | rfl | exact rf_cat _) (by first | rfl | exact rf_cat _) ?_
    refine g_put1 fl_J26_9_J26 dJ26_grow_2_41 rfl (by first | assumption | exact xu_eq _ _ _ | exact (xu_ne (by first | assumption | exact Ne.symm (by assumption))).trans (by first | assumption | exact xu_eq _ _ _) | exact (xu_ne (by first | assumption | exact Ne.symm (by assumption))).trans ((xu_ne (by first | assumption | exact Ne.symm (by assumption))).trans (by first | assumption | exact xu_eq _ _ _)) | exact (xu_ne (by first | assumption | exact Ne.symm (by assumption))).trans ((xu_ne (by first | assumption | exact Ne.symm (by assumption))).trans ((xu_ne (by first | assumption | exact Ne.symm (by assumption))).trans (by first | assumption | exact xu_eq _ _ _)))) rfl rfl ?_
    refine g_areturn dJ26_grow_2_44 rfl (Or.inr ⟨_, rfl⟩) (Or.inr ⟨_, rfl⟩) ?_
    exact ⟨a, mc, _, g1, g2, rfl, rfl, fun j hj => by rw [pk_cpy_in (by omega) (by omega), show 0 + (j - 0) = j by omega]; exact h4 j hj, _, _, h1, rfl⟩
end AL17b
section AL17c
variable {w : XW} {m : XM} {d la ar cap : Nat} {is : List Nat}
theorem c_grow1 (hd : 6 ≤ d) (ok : XOk w) (h : AL w m la ar cap is) (hc : is.length = cap) (hl : is.length ≤ 250) (hel : ∀ z ∈ is, xob m z) : CT w MJ26_grow d 1 (alS is.length cap) [.ref la] m (fun v m' => ∃ ar' mc f', m ar' = none ∧ xBase w ≤ ar' ∧ v = some (.ref ar') ∧ m' = xu (xu m ar' (rA 5 (alN is.length cap) f')) la (.inr (16, [.int mc, .ref ar', .int (nI is.length)])) ∧ (∀ j, j < is.length → f' j = is[j]?) ∧ ∃ ci fs, m la = some (.inr (ci, fs)) ∧ fs.head? = some (.int mc)) xN := by
  have hA := h
  obtain ⟨mc, f, h1, h2, h3, h4, h5⟩ := h
  refine ct_intro (lv := [some (.ref la)]) 0 (by decide) rfl (Nat.le_of_ble_eq_true rfl) rfl ?_
  first | refine g_aload_n dJ26_grow_0 rfl rfl rfl ?_ | refine g_aload_nR dJ26_grow_0 rfl rfl rfl ?_ | refine g_aload_nN dJ26_grow_0 rfl rfl rfl ?_
  first | refine g_aload_n dJ26_grow_1 rfl rfl rfl ?_ | refine g_aload_nR dJ26_grow_1 rfl rfl rfl ?_ | refine g_aload_nN dJ26_grow_1 rfl rfl rfl ?_
  refine g_get fl_J26_48_J26 dJ26_grow_2 rfl (Or.inl (by first | assumption | exact xu_eq _ _ _ | exact (xu_ne (by first | assumption | exact Ne.symm (by assumption))).trans (by first | assumption | exact xu_eq _ _ _) | exact (xu_ne (by first | assumption | exact Ne.symm (by assumption))).trans ((xu_ne (by first | assumption | exact Ne.symm (by assumption))).trans (by first | assumption | exact xu_eq _ _ _)) | exact (xu_ne (by first | assumption | exact Ne.symm (by assumption))).trans ((xu_ne (by first | assumption | exact Ne.symm (by assumption))).trans ((xu_ne (by first | assumption | exact Ne.symm (by assumption))).trans (by first | assumption | exact xu_eq _ _ _))))) rfl ?_
  refine g_iconst (v := (nI 1)) dJ26_grow_5 rfl rfl ?_
  refine g_iaddn dJ26_grow_6 rfl ?_
  refine g_virtual iV_J26_grow_2 q1527 (c_grow2 (d := d - 1) (by omega) ok hA hc hl hel) (Or.inl (by first | assumption | exact xu_eq _ _ _ | exact (xu_ne (by first | assumption | exact Ne.symm (by assumption))).trans (by first | assumption | exact xu_eq _ _ _) | exact (xu_ne (by first | assumption | exact Ne.symm (by assumption))).trans ((xu_ne (by first | assumption | exact Ne.symm (by assumption))).trans (by first | assumption | exact xu_eq _ _ _)) | exact (xu_ne (by first | assumption | exact Ne.symm (by assumption))).trans ((xu_ne (by first | assumption | exact Ne.symm (by assumption))).trans ((xu_ne (by first | assumption | exact Ne.symm (by assumption))).trans (by first | assumption | exact xu_eq _ _ _))))) rfl (by decide) dJ26_grow_7 rfl rfl rfl (by first | exact Nat.le_of_ble_eq_true rfl | simp [Value.category, rf_cat]) (by omega) (by omega) (by omega) xN_no (fun v_7 m_7 h_7 => ?_)
  obtain ⟨a, mc', f', g1, g2, rfl, rfl, g3, g4⟩ := h_7
  refine g_areturn dJ26_grow_10 rfl (Or.inr ⟨_, rfl⟩) (Or.inr ⟨_, rfl⟩) ?_
  exact ⟨a, mc', f', g1, g2, rfl, rfl, g3, g4⟩
theorem AL_mod {mc : Int32} (h : AL w m la ar cap is) (h1 : m la = some (.inr (16, [.int mc, .ref ar, .int (nI is.length)]))) (mc' : Int32) : AL w (xu m la (.inr (16, [.int mc', .ref ar, .int (nI is.length)]))) la ar cap is := by
  obtain ⟨mc0, f, h0, h2, h3, h4, h5⟩ := h
  refine ⟨mc', f, xu_eq _ _ _, h2, h3, h4, ?_⟩
  rcases h5 with h5 | ⟨h5, h6⟩
  · exact Or.inl h5
  · exact Or.inr ⟨h5, (xu_ne (al_ne h1 h6).symm).trans h6⟩
theorem alN_le {len cap : Nat} (h : len ≤ cap) (h2 : len ≤ 250) (h3 : cap ≤ 400) : cap ≤ alN len cap ∧ alN len cap ≤ 400 ∧ len < alN len cap := by
  unfold alN
  split
  · split
    · omega
    · omega
  · omega
theorem insN_at {is : List Nat} {i x j : Nat} (h : i ≤ is.length) : (insN is i x)[j]? = if j < i then is[j]? else if j = i then some x else is[j - 1]? := by
  unfold insN
  by_cases hj : j < i
  · rw [if_pos hj, List.getElem?_append_left (by simp; omega), List.getElem?_take, if_pos hj]
  · rw [if_neg hj, List.getElem?_append_right (by simp; omega)]
    have e : j - (is.take i).length = j - i := by simp; omega
    rw [e]
    by_cases h2 : j = i
    · subst h2; simp
    · rw [if_neg h2]
      obtain ⟨k, hk⟩ : ∃ k, j - i = k + 1 := ⟨j - i - 1, by omega⟩
      rw [hk, List.getElem?_cons_succ, List.getElem?_drop]
      congr 1; omega
theorem insN_len {is : List Nat} {i x : Nat} (h : i ≤ is.length) : (insN is i x).length = is.length + 1 := by
  simp [insN]; omega
theorem alP_ins {f : Nat → Option Nat} {is : List Nat} {i x n : Nat} (h : ∀ j, j < is.length → f j = is[j]?) (hi : i ≤ is.length) (hn : is.length < n) : ∀ j, j < (insN is i x).length → va_up (va_cpy f f i (i + 1) (is.length - i)) i (some x) j = (insN is i x)[j]? := by
  intro j hj
  rw [insN_len hi] at hj
  rw [insN_at hi]
  by_cases h1 : j < i
  · rw [if_pos h1, va_up_ne _ _ (by omega), pk_cpy_out (Or.inl (by omega))]; exact h j (by omega)
  · rw [if_neg h1]
    by_cases h2 : j = i
    · subst h2; rw [va_up_self, if_pos rfl]
    · rw [if_neg h2, va_up_ne _ _ h2, pk_cpy_in (by omega) (by omega), h _ (by omega)]
      congr 1; omega
/-- the old cells that an insertion writes -/
def alF (la ar len cap : Nat) : List Nat := la :: (if len = cap then [] else [ar])
theorem alF_la {la ar len cap : Nat} : la ∈ alF la ar len cap := List.mem_cons_self
/-- add(i, x) -/
theorem c_add {i x : Nat} (hd : 7 ≤ d) (h : AL w m la ar cap is) (hi : i ≤ is.length) (hl : is.length ≤ 250) (hel : ∀ z ∈ is, xob m z) (hx : xob m x) : CT w MJ26_add d 1 (alS is.length cap) [.ref la, .int (nI i), .ref x] m (fun v m' => none = v ∧ ∃ ar', AL w m' la ar' (alN is.length cap) (insN is i x) ∧ xKeep m m' (alF la ar is.length cap) ∧ ((ar' = ar ∧ cap ≠ 0) ∨ m ar' = none) ∧ m' ar' ≠ none ∧ ∀ z, xob m z → xob m' z) xN := by
  have hA := h
  refine ct_ok fun ok => ?_
  obtain ⟨mc, f, h1, h2, h3, h4, h5⟩ := h
  obtain ⟨n1, n2, n3⟩ := alN_le h2 hl h3
  have fin : ∀ (ar' : Nat) (m1 : XM) (f1 : Nat → Option Nat) (mc1 : Int32), m1 la = some (.inr (16, [.int mc1, .ref ar', .int (nI is.length)])) → m1 ar' = some (rA 5 (alN is.length cap) f1) → (∀ j, j < is.length → f1 j = is[j]?) → xKeep m m1 (alF la ar is.length cap) → (ar' ∈ alF la ar is.length cap ∨ m ar' = none) → ((ar' = ar ∧ cap ≠ 0) ∨ m ar' = none) → (∀ z, xob m z → xob m1 z) → ∀ kc ks, G w MJ26_add (xZ w (fun v m' => none = v ∧ ∃ ar', AL w m' la ar' (alN is.length cap) (insN is i x) ∧ xKeep m m' (alF la ar is.length cap) ∧ ((ar' = ar ∧ cap ≠ 0) ∨ m ar' = none) ∧ m' ar' ≠ none ∧ ∀ z, xob m z → xob m' z) xN) d kc ks 38 [some (.ref la), some (.int (nI i)), some (.ref x), some (.int (nI is.length)), some (.ref ar')] [] m1 := by
    intro ar' m1 f1 mc1 g1 g2 g3 g4 g7 g5 g6 kc ks
    have hne := al_ne g1 g2
    have hxx := g6 x hx
    first | refine g_aload dJ26_add_38 rfl rfl ?_ | refine g_aloadR dJ26_add_38 rfl rfl ?_ | refine g_aloadN dJ26_add_38 rfl rfl ?_
    refine g_iload_n dJ26_add_40 rfl rfl rfl ?_
    first | refine g_aload dJ26_add_41 rfl rfl ?_ | refine g_aloadR dJ26_add_41 rfl rfl ?_ | refine g_aloadN dJ26_add_41 rfl rfl ?_
    refine g_iload_n dJ26_add_43 rfl rfl rfl ?_
    refine g_iconst (v := (nI 1)) dJ26_add_44 rfl rfl ?_
    refine g_iaddn dJ26_add_45 rfl ?_
    refine g_iload_n dJ26_add_46 rfl rfl rfl ?_
    refine g_iload_n dJ26_add_47 rfl rfl rfl ?_
    refine g_isubn dJ26_add_48 rfl (by omega) ?_
    refine g_acopyq q1472 dJ26_add_49 rfl (by first | assumption | exact Or.inl (by first | assumption | exact xu_eq _ _ _ | exact (xu_ne (by first | assumption | exact Ne.symm (by assumption))).trans (by first | assumption | exact xu_eq _ _ _) | exact (xu_ne (by first | assumption | exact Ne.symm (by assumption))).trans ((xu_ne (by first | assumption | exact Ne.symm (by assumption))).trans (by first | assumption | exact xu_eq _ _ _)) | exact (xu_ne (by first | assumption | exact Ne.symm (by assumption))).trans ((xu_ne (by first | assumption | exact Ne.symm (by assumption))).trans ((xu_ne (by first | assumption | exact Ne.symm (by assumption))).trans (by first | assumption | exact xu_eq _ _ _))))) (by first | assumption | exact xu_eq _ _ _ | exact (xu_ne (by first | assumption | exact Ne.symm (by assumption))).trans (by first | assumption | exact xu_eq _ _ _) | exact (xu_ne (by first | assumption | exact Ne.symm (by assumption))).trans ((xu_ne (by first | assumption | exact Ne.symm (by assumption))).trans (by first | assumption | exact xu_eq _ _ _)) | exact (xu_ne (by first | assumption | exact Ne.symm (by assumption))).trans ((xu_ne (by first | assumption | exact Ne.symm (by assumption))).trans ((xu_ne (by first | assumption | exact Ne.symm (by assumption))).trans (by first | assumption | exact xu_eq _ _ _)))) (by omega) (by omega) (by omega) (by omega) (fun j hj z hz => xob_any (g6 z (hel z (List.mem_of_getElem? (i := i + j) (by rw [← g3 _ (by omega)]; exact hz))))) (by first | exact Nat.le_of_ble_eq_true rfl | simp [Value.category, rf_cat]) (by omega) ?_
    first | refine g_aload dJ26_add_52 rfl rfl ?_ | refine g_aloadR dJ26_add_52 rfl rfl ?_ | refine g_aloadN dJ26_add_52 rfl rfl ?_
    refine g_iload_n dJ26_add_54 rfl rfl rfl ?_
    first | refine g_aload_n dJ26_add_55 rfl rfl rfl ?_ | refine g_aload_nR dJ26_add_55 rfl rfl rfl ?_ | refine g_aload_nN dJ26_add_55 rfl rfl rfl ?_
    rw [show i + 1 = i + 1 from rfl]
    refine g_aastn (t := 5) rfl dJ26_add_56 rfl (by first | assumption | exact xu_eq _ _ _ | exact (xu_ne (by first | assumption | exact Ne.symm (by assumption))).trans (by first | assumption | exact xu_eq _ _ _) | exact (xu_ne (by first | assumption | exact Ne.symm (by assumption))).trans ((xu_ne (by first | assumption | exact Ne.symm (by assumption))).trans (by first | assumption | exact xu_eq _ _ _)) | exact (xu_ne (by first | assumption | exact Ne.symm (by assumption))).trans ((xu_ne (by first | assumption | exact Ne.symm (by assumption))).trans ((xu_ne (by first | assumption | exact Ne.symm (by assumption))).trans (by first | assumption | exact xu_eq _ _ _)))) (by omega) (by omega) (xob_any (xob_r g2 hxx)) ?_
    first | refine g_aload_n dJ26_add_57 rfl rfl rfl ?_ | refine g_aload_nR dJ26_add_57 rfl rfl rfl ?_ | refine g_aload_nN dJ26_add_57 rfl rfl rfl ?_
    refine g_iload_n dJ26_add_58 rfl rfl rfl ?_
    refine g_iconst (v := (nI 1)) dJ26_add_59 rfl rfl ?_
    refine g_iaddn dJ26_add_60 rfl ?_
    refine g_put2 fl_J26_48_J26 dJ26_add_61 rfl (by first | assumption | exact xu_eq _ _ _ | exact (xu_ne (by first | assumption | exact Ne.symm (by assumption))).trans (by first | assumption | exact xu_eq _ _ _) | exact (xu_ne (by first | assumption | exact Ne.symm (by assumption))).trans ((xu_ne (by first | assumption | exact Ne.symm (by assumption))).trans (by first | assumption | exact xu_eq _ _ _)) | exact (xu_ne (by first | assumption | exact Ne.symm (by assumption))).trans ((xu_ne (by first | assumption | exact Ne.symm (by assumption))).trans ((xu_ne (by first | assumption | exact Ne.symm (by assumption))).trans (by first | assumption | exact xu_eq _ _ _)))) rfl rfl ?_
    refine g_return dJ26_add_64 rfl ⟨rfl, ar', ⟨mc1, va_up (va_cpy f1 f1 i (i + 1) (is.length - i)) i (some x), ?_, by rw [insN_len hi]; omega, n2, alP_ins g3 hi n3, Or.inr ⟨?_, ?_⟩⟩, ?_, g5, ?_, ?_⟩
    · rw [xu_eq, insN_len hi]
    · unfold alN at n3 n1 ⊢
      rcases h5 with ⟨h5, -⟩ | ⟨h5, -⟩
      · subst h5
        by_cases e : is.length = 0
        · rw [if_pos e, if_pos rfl]; omega
        · omega
      · omega
    · rw [xu_ne hne.symm, xu_eq]
    · exact xKeep_u (xKeep_u (xKeep_u g4 g7) g7) (Or.inl alF_la)
    · rw [xu_ne hne.symm, xu_eq]; exact fun e => by cases e
    · intro z hz
      exact xob_u (by rw [xu_ne hne, xu_ne hne]; exact g1) (xob_r (xu_eq _ _ _) (xob_r g2 (g6 z hz)))
  refine ct_intro (lv := [some (.ref la), some (.int (nI i)), some (.ref x), none, none]) 2 (by decide) rfl (Nat.le_of_ble_eq_true rfl) rfl ?_
  by_cases hc : is.length = cap
  · have hxk : ∀ m', m' = xu m la (.inr (16, [.int (mc + nI 1), .ref ar, .int (nI is.length)])) → xkn w m' ar (rA 5 cap f) ∨ True := fun _ _ => Or.inr trivial
    have hxk2 : ∃ g, xkn w (xu m la (.inr (16, [.int (mc + nI 1), .ref ar, .int (nI is.length)]))) ar (rA 5 cap g) := by
      rcases h5 with ⟨h5, h6⟩ | ⟨h5, h6⟩
      · subst h6; rw [h5]; exact ⟨_, Or.inr (xco ok).2.2.2.2.2.2.2.2.2.2.2.1.1⟩
      · exact ⟨_, Or.inl ((xu_ne (al_ne h1 h6).symm).trans h6)⟩
    obtain ⟨g, hxk2⟩ := hxk2
    have hA1 := AL_mod hA h1 (mc + nI 1)
    have he1 : ∀ z, xob m z → xob (xu m la (.inr (16, [.int (mc + nI 1), .ref ar, .int (nI is.length)]))) z := fun z hz => xob_u h1 hz
    first | refine g_aload_n dJ26_add_0 rfl rfl rfl ?_ | refine g_aload_nR dJ26_add_0 rfl rfl rfl ?_ | refine g_aload_nN dJ26_add_0 rfl rfl rfl ?_
    refine g_iload_n dJ26_add_1 rfl rfl rfl ?_
    refine g_virtualP iV_J26_rangeCheckForAdd q1493 (c_rangeAdd (d := d - 1) (by omega) hA hi) (Or.inl (by first | assumption | exact xu_eq _ _ _ | exact (xu_ne (by first | assumption | exact Ne.symm (by assumption))).trans (by first | assumption | exact xu_eq _ _ _) | exact (xu_ne (by first | assumption | exact Ne.symm (by assumption))).trans ((xu_ne (by first | assumption | exact Ne.symm (by assumption))).trans (by first | assumption | exact xu_eq _ _ _)) | exact (xu_ne (by first | assumption | exact Ne.symm (by assumption))).trans ((xu_ne (by first | assumption | exact Ne.symm (by assumption))).trans ((xu_ne (by first | assumption | exact Ne.symm (by assumption))).trans (by first | assumption | exact xu_eq _ _ _))))) rfl (by decide) dJ26_add_2 rfl rfl rfl (by first | exact Nat.le_of_ble_eq_true rfl | simp [Value.category, rf_cat]) (by omega) xN_no ?_
    first | refine g_aload_n dJ26_add_5 rfl rfl rfl ?_ | refine g_aload_nR dJ26_add_5 rfl rfl rfl ?_ | refine g_aload_nN dJ26_add_5 rfl rfl rfl ?_
    refine g_dup dJ26_add_6 rfl (by first | rfl | exact rf_cat _) ?_
    refine g_get fl_J26_63_J26 dJ26_add_7 rfl (Or.inl (by first | assumption | exact xu_eq _ _ _ | exact (xu_ne (by first | assumption | exact Ne.symm (by assumption))).trans (by first | assumption | exact xu_eq _ _ _) | exact (xu_ne (by first | assumption | exact Ne.symm (by assumption))).trans ((xu_ne (by first | assumption | exact Ne.symm (by assumption))).trans (by first | assumption | exact xu_eq _ _ _)) | exact (xu_ne (by first | assumption | exact Ne.symm (by assumption))).trans ((xu_ne (by first | assumption | exact Ne.symm (by assumption))).trans ((xu_ne (by first | assumption | exact Ne.symm (by assumption))).trans (by first | assumption | exact xu_eq _ _ _))))) rfl ?_
    refine g_iconst (v := (nI 1)) dJ26_add_10 rfl rfl ?_
    refine g_iadd dJ26_add_11 rfl ?_
    refine g_put0 fl_J26_63_J26 dJ26_add_12 rfl (by first | assumption | exact xu_eq _ _ _ | exact (xu_ne (by first | assumption | exact Ne.symm (by assumption))).trans (by first | assumption | exact xu_eq _ _ _) | exact (xu_ne (by first | assumption | exact Ne.symm (by assumption))).trans ((xu_ne (by first | assumption | exact Ne.symm (by assumption))).trans (by first | assumption | exact xu_eq _ _ _)) | exact (xu_ne (by first | assumption | exact Ne.symm (by assumption))).trans ((xu_ne (by first | assumption | exact Ne.symm (by assumption))).trans ((xu_ne (by first | assumption | exact Ne.symm (by assumption))).trans (by first | assumption | exact xu_eq _ _ _)))) rfl rfl ?_
    first | refine g_aload_n dJ26_add_15 rfl rfl rfl ?_ | refine g_aload_nR dJ26_add_15 rfl rfl rfl ?_ | refine g_aload_nN dJ26_add_15 rfl rfl rfl ?_
    refine g_get fl_J26_48_J26 dJ26_add_16 rfl (Or.inl (by first | assumption | exact xu_eq _ _ _ | exact (xu_ne (by first | assumption | exact Ne.symm (by assumption))).trans (by first | assumption | exact xu_eq _ _ _) | exact (xu_ne (by first | assumption | exact Ne.symm (by assumption))).trans ((xu_ne (by first | assumption | exact Ne.symm (by assumption))).trans (by first | assumption | exact xu_eq _ _ _)) | exact (xu_ne (by first | assumption | exact Ne.symm (by assumption))).trans ((xu_ne (by first | assumption | exact Ne.symm (by assumption))).trans ((xu_ne (by first | assumption | exact Ne.symm (by assumption))).trans (by first | assumption | exact xu_eq _ _ _))))) rfl ?_
    refine g_dup dJ26_add_19 rfl (by first | rfl | exact rf_cat _) ?_
    refine g_ist3 dJ26_add_20 rfl (by decide) (k := ?_)
    first | refine g_aload_n dJ26_add_21 rfl rfl rfl ?_ | refine g_aload_nR dJ26_add_21 rfl rfl rfl ?_ | refine g_aload_nN dJ26_add_21 rfl rfl rfl ?_
    refine g_get fl_J26_9_J26 dJ26_add_22 rfl (Or.inl (by first | assumption | exact xu_eq _ _ _ | exact (xu_ne (by first | assumption | exact Ne.symm (by assumption))).trans (by first | assumption | exact xu_eq _ _ _) | exact (xu_ne (by first | assumption | exact Ne.symm (by assumption))).trans ((xu_ne (by first | assumption | exact Ne.symm (by assumption))).trans (by first | assumption | exact xu_eq _ _ _)) | exact (xu_ne (by first | assumption | exact Ne.symm (by assumption))).trans ((xu_ne (by first | assumption | exact Ne.symm (by assumption))).trans ((xu_ne (by first | assumption | exact Ne.symm (by assumption))).trans (by first | assumption | exact xu_eq _ _ _))))) rfl ?_
    refine g_dup dJ26_add_25 rfl (by first | rfl | exact rf_cat _) ?_
    first | refine g_ast4 dJ26_add_26 rfl (by decide) (k := ?_) | refine g_astR4 dJ26_add_26 rfl (by decide) (k := ?_) | refine g_astN4 dJ26_add_26 rfl (by decide) (k := ?_)
    refine g_alenq (t := 5) rfl dJ26_add_28 rfl (by first | assumption | exact Or.inl (by first | assumption | exact xu_eq _ _ _ | exact (xu_ne (by first | assumption | exact Ne.symm (by assumption))).trans (by first | assumption | exact xu_eq _ _ _) | exact (xu_ne (by first | assumption | exact Ne.symm (by assumption))).trans ((xu_ne (by first | assumption | exact Ne.symm (by assumption))).trans (by first | assumption | exact xu_eq _ _ _)) | exact (xu_ne (by first | assumption | exact Ne.symm (by assumption))).trans ((xu_ne (by first | assumption | exact Ne.symm (by assumption))).trans ((xu_ne (by first | assumption | exact Ne.symm (by assumption))).trans (by first | assumption | exact xu_eq _ _ _))))) ?_
    refine g_icmpn_ne (tgt := 38) dJ26_add_29 (by decide) rfl (by omega) (by omega) (fun c_29 => by omega) (fun c_29 => ?_)
    first | refine g_aload_n dJ26_add_32 rfl rfl rfl ?_ | refine g_aload_nR dJ26_add_32 rfl rfl rfl ?_ | refine g_aload_nN dJ26_add_32 rfl rfl rfl ?_
    refine g_virtual iV_J26_grow q1523 (c_grow1 (d := d - 1) (by omega) ok hA1 hc hl (fun z hz => he1 z (hel z hz))) (Or.inl (by first | assumption | exact xu_eq _ _ _ | exact (xu_ne (by first | assumption | exact Ne.symm (by assumption))).trans (by first | assumption | exact xu_eq _ _ _) | exact (xu_ne (by first | assumption | exact Ne.symm (by assumption))).trans ((xu_ne (by first | assumption | exact Ne.symm (by assumption))).trans (by first | assumption | exact xu_eq _ _ _)) | exact (xu_ne (by first | assumption | exact Ne.symm (by assumption))).trans ((xu_ne (by first | assumption | exact Ne.symm (by assumption))).trans ((xu_ne (by first | assumption | exact Ne.symm (by assumption))).trans (by first | assumption | exact xu_eq _ _ _))))) rfl (by decide) dJ26_add_33 rfl rfl rfl (by first | exact Nat.le_of_ble_eq_true rfl | simp [Value.category, rf_cat]) (by omega) (by omega) (by omega) xN_no (fun v_33 m_33 h_33 => ?_)
    obtain ⟨a, mc', f', g1, g2, rfl, rfl, g3, -⟩ := h_33
    have hla : a ≠ la := fun e => by subst e; rw [xu_eq] at g1; cases g1
    have hma : m a = none := by rw [xu_ne hla] at g1; exact g1
    first | refine g_ast4 dJ26_add_36 rfl (by decide) (k := ?_) | refine g_astR4 dJ26_add_36 rfl (by decide) (k := ?_) | refine g_astN4 dJ26_add_36 rfl (by decide) (k := ?_)
    refine fin a _ f' mc' (xu_eq _ _ _) ((xu_ne hla).trans (xu_eq _ _ _)) g3 (xKeep_u (xKeep_u (xKeep_u (xKeep_rf _ _) (Or.inl alF_la)) (Or.inr hma)) (Or.inl alF_la)) (Or.inr hma) (Or.inr hma) ?_ _ _
    intro z hz
    exact xob_u ((xu_ne hla.symm).trans (xu_eq _ _ _)) (xob_n g1 (he1 z hz))
  · rcases h5 with ⟨h5, h6⟩ | ⟨h5, h6⟩
    · omega
    have hne := al_ne h1 h6
    have eN : alN is.length cap = cap := by unfold alN; rw [if_neg hc]
    first | refine g_aload_n dJ26_add_0 rfl rfl rfl ?_ | refine g_aload_nR dJ26_add_0 rfl rfl rfl ?_ | refine g_aload_nN dJ26_add_0 rfl rfl rfl ?_
    refine g_iload_n dJ26_add_1 rfl rfl rfl ?_
    refine g_virtualP iV_J26_rangeCheckForAdd q1493 (c_rangeAdd (d := d - 1) (by omega) hA hi) (Or.inl (by first | assumption | exact xu_eq _ _ _ | exact (xu_ne (by first | assumption | exact Ne.symm (by assumption))).trans (by first | assumption | exact xu_eq _ _ _) | exact (xu_ne (by first | assumption | exact Ne.symm (by assumption))).trans ((xu_ne (by first | assumption | exact Ne.symm (by assumption))).trans (by first | assumption | exact xu_eq _ _ _)) | exact (xu_ne (by first | assumption | exact Ne.symm (by assumption))).trans ((xu_ne (by first | assumption | exact Ne.symm (by assumption))).trans ((xu_ne (by first | assumption | exact Ne.symm (by assumption))).trans (by first | assumption | exact xu_eq _ _ _))))) rfl (by decide) dJ26_add_2 rfl rfl rfl (by first | exact Nat.le_of_ble_eq_true rfl | simp [Value.category, rf_cat]) (by omega) xN_no ?_
    first | refine g_aload_n dJ26_add_5 rfl rfl rfl ?_ | refine g_aload_nR dJ26_add_5 rfl rfl rfl ?_ | refine g_aload_nN dJ26_add_5 rfl rfl rfl ?_
    refine g_dup dJ26_add_6 rfl (by first | rfl | exact rf_cat _) ?_
    refine g_get fl_J26_63_J26 dJ26_add_7 rfl (Or.inl (by first | assumption | exact xu_eq _ _ _ | exact (xu_ne (by first | assumption | exact Ne.symm (by assumption))).trans (by first | assumption | exact xu_eq _ _ _) | exact (xu_ne (by first | assumption | exact Ne.symm (by assumption))).trans ((xu_ne (by first | assumption | exact Ne.symm (by assumption))).trans (by first | assumption | exact xu_eq _ _ _)) | exact (xu_ne (by first | assumption | exact Ne.symm (by assumption))).trans ((xu_ne (by first | assumption | exact Ne.symm (by assumption))).trans ((xu_ne (by first | assumption | exact Ne.symm (by assumption))).trans (by first | assumption | exact xu_eq _ _ _))))) rfl ?_
    refine g_iconst (v := (nI 1)) dJ26_add_10 rfl rfl ?_
    refine g_iadd dJ26_add_11 rfl ?_
    refine g_put0 fl_J26_63_J26 dJ26_add_12 rfl (by first | assumption | exact xu_eq _ _ _ | exact (xu_ne (by first | assumption | exact Ne.symm (by assumption))).trans (by first | assumption | exact xu_eq _ _ _) | exact (xu_ne (by first | assumption | exact Ne.symm (by assumption))).trans ((xu_ne (by first | assumption | exact Ne.symm (by assumption))).trans (by first | assumption | exact xu_eq _ _ _)) | exact (xu_ne (by first | assumption | exact Ne.symm (by assumption))).trans ((xu_ne (by first | assumption | exact Ne.symm (by assumption))).trans ((xu_ne (by first | assumption | exact Ne.symm (by assumption))).trans (by first | assumption | exact xu_eq _ _ _)))) rfl rfl ?_
    first | refine g_aload_n dJ26_add_15 rfl rfl rfl ?_ | refine g_aload_nR dJ26_add_15 rfl rfl rfl ?_ | refine g_aload_nN dJ26_add_15 rfl rfl rfl ?_
    refine g_get fl_J26_48_J26 dJ26_add_16 rfl (Or.inl (by first | assumption | exact xu_eq _ _ _ | exact (xu_ne (by first | assumption | exact Ne.symm (by assumption))).trans (by first | assumption | exact xu_eq _ _ _) | exact (xu_ne (by first | assumption | exact Ne.symm (by assumption))).trans ((xu_ne (by first | assumption | exact Ne.symm (by assumption))).trans (by first | assumption | exact xu_eq _ _ _)) | exact (xu_ne (by first | assumption | exact Ne.symm (by assumption))).trans ((xu_ne (by first | assumption | exact Ne.symm (by assumption))).trans ((xu_ne (by first | assumption | exact Ne.symm (by assumption))).trans (by first | assumption | exact xu_eq _ _ _))))) rfl ?_
    refine g_dup dJ26_add_19 rfl (by first | rfl | exact rf_cat _) ?_
    refine g_ist3 dJ26_add_20 rfl (by decide) (k := ?_)
    first | refine g_aload_n dJ26_add_21 rfl rfl rfl ?_ | refine g_aload_nR dJ26_add_21 rfl rfl rfl ?_ | refine g_aload_nN dJ26_add_21 rfl rfl rfl ?_
    refine g_get fl_J26_9_J26 dJ26_add_22 rfl (Or.inl (by first | assumption | exact xu_eq _ _ _ | exact (xu_ne (by first | assumption | exact Ne.symm (by assumption))).trans (by first | assumption | exact xu_eq _ _ _) | exact (xu_ne (by first | assumption | exact Ne.symm (by assumption))).trans ((xu_ne (by first | assumption | exact Ne.symm (by assumption))).trans (by first | assumption | exact xu_eq _ _ _)) | exact (xu_ne (by first | assumption | exact Ne.symm (by assumption))).trans ((xu_ne (by first | assumption | exact Ne.symm (by assumption))).trans ((xu_ne (by first | assumption | exact Ne.symm (by assumption))).trans (by first | assumption | exact xu_eq _ _ _))))) rfl ?_
    refine g_dup dJ26_add_25 rfl (by first | rfl | exact rf_cat _) ?_
    first | refine g_ast4 dJ26_add_26 rfl (by decide) (k := ?_) | refine g_astR4 dJ26_add_26 rfl (by decide) (k := ?_) | refine g_astN4 dJ26_add_26 rfl (by decide) (k := ?_)
    refine g_alenq (t := 5) rfl dJ26_add_28 rfl (by first | assumption | exact Or.inl (by first | assumption | exact xu_eq _ _ _ | exact (xu_ne (by first | assumption | exact Ne.symm (by assumption))).trans (by first | assumption | exact xu_eq _ _ _) | exact (xu_ne (by first | assumption | exact Ne.symm (by assumption))).trans ((xu_ne (by first | assumption | exact Ne.symm (by assumption))).trans (by first | assumption | exact xu_eq _ _ _)) | exact (xu_ne (by first | assumption | exact Ne.symm (by assumption))).trans ((xu_ne (by first | assumption | exact Ne.symm (by assumption))).trans ((xu_ne (by first | assumption | exact Ne.symm (by assumption))).trans (by first | assumption | exact xu_eq _ _ _))))) ?_
    refine g_icmpn_ne (tgt := 38) dJ26_add_29 (by decide) rfl (by omega) (by omega) (fun c_29 => ?_) (fun c_29 => by omega)
    refine fin ar _ f _ (xu_eq _ _ _) (by rw [eN]; exact (xu_ne hne.symm).trans h6) h4 (xKeep_u (xKeep_rf _ _) (Or.inl alF_la)) (Or.inl (by unfold alF; rw [if_neg hc]; simp)) (Or.inl ⟨rfl, by omega⟩) ?_ _ _
    intro z hz
    exact xob_u h1 hz
end AL17c
section AL17d
variable {w : XW} {m : XM} {d la ar cap : Nat} {is : List Nat}
theorem rmvN_len {is : List Nat} {i : Nat} (h : i < is.length) : (rmvN is i).length = is.length - 1 := by
  simp [rmvN]; omega
theorem rmvN_at {is : List Nat} {i j : Nat} (h : i < is.length) : (rmvN is i)[j]? = if j < i then is[j]? else is[j + 1]? := by
  unfold rmvN
  by_cases hj : j < i
  · rw [if_pos hj, List.getElem?_append_left (by simp; omega), List.getElem?_take, if_pos hj]
  · rw [if_neg hj, List.getElem?_append_right (by simp; omega), List.getElem?_drop]
    congr 1; simp; omega
theorem c_fastRemove {i : Nat} {f : Nat → Option Nat} {mc : Int32} (hd : 1 ≤ d) (hi : i < is.length) (h1 : m la = some (.inr (16, [.int mc, .ref ar, .int (nI is.length)]))) (h2 : is.length ≤ cap) (h3 : cap ≤ 400) (h4 : ∀ j, j < is.length → f j = is[j]?) (h5 : 10 ≤ cap) (h6 : m ar = some (rA 5 cap f)) (hel : ∀ z ∈ is, xob m z) : CT w MJ26_fastRemove d 0 0 [.ref la, .ref ar, .int (nI i)] m (fun v m' => none = v ∧ AL w m' la ar cap (rmvN is i) ∧ xKeep m m' [la, ar] ∧ ∀ z, xob m z → xob m' z) xN := by
  have hne := al_ne h1 h6
  have fin : ∀ (m1 : XM) (f1 : Nat → Option Nat) (mc1 : Int32), m1 la = some (.inr (16, [.int mc1, .ref ar, .int (nI is.length)])) → m1 ar = some (rA 5 cap f1) → (∀ j, j < is.length - 1 → f1 j = (rmvN is i)[j]?) → xKeep m m1 [la, ar] → (∀ z, xob m z → xob m1 z) → G w MJ26_fastRemove (xZ w (fun v m' => none = v ∧ AL w m' la ar cap (rmvN is i) ∧ xKeep m m' [la, ar] ∧ ∀ z, xob m z → xob m' z) xN) d 0 0 34 [some (.ref la), some (.ref ar), some (.int (nI i)), some (.int (nI (is.length - 1)))] [] m1 := by
    intro m1 f1 mc1 g1 g2 g3 g4 g6
    first | refine g_aload_n dJ26_fastRemove_34 rfl rfl rfl ?_ | refine g_aload_nR dJ26_fastRemove_34 rfl rfl rfl ?_ | refine g_aload_nN dJ26_fastRemove_34 rfl rfl rfl ?_
    first | refine g_aload_n dJ26_fastRemove_35 rfl rfl rfl ?_ | refine g_aload_nR dJ26_fastRemove_35 rfl rfl rfl ?_ | refine g_aload_nN dJ26_fastRemove_35 rfl rfl rfl ?_
    refine g_iload_n dJ26_fastRemove_36 rfl rfl rfl ?_
    refine g_dup_x1 dJ26_fastRemove_37 rfl (by first | rfl | exact rf_cat _) (by first | rfl | exact rf_cat _) ?_
    refine g_put2 fl_J26_48_J26 dJ26_fastRemove_38 rfl (by first | assumption | exact xu_eq _ _ _ | exact (xu_ne (by first | assumption | exact Ne.symm (by assumption))).trans (by first | assumption | exact xu_eq _ _ _) | exact (xu_ne (by first | assumption | exact Ne.symm (by assumption))).trans ((xu_ne (by first | assumption | exact Ne.symm (by assumption))).trans (by first | assumption | exact xu_eq _ _ _)) | exact (xu_ne (by first | assumption | exact Ne.symm (by assumption))).trans ((xu_ne (by first | assumption | exact Ne.symm (by assumption))).trans ((xu_ne (by first | assumption | exact Ne.symm (by assumption))).trans (by first | assumption | exact xu_eq _ _ _)))) rfl rfl ?_
    refine g_null dJ26_fastRemove_41 rfl ?_
    refine g_aastNn (t := 5) rfl dJ26_fastRemove_42 rfl (by first | assumption | exact xu_eq _ _ _ | exact (xu_ne (by first | assumption | exact Ne.symm (by assumption))).trans (by first | assumption | exact xu_eq _ _ _) | exact (xu_ne (by first | assumption | exact Ne.symm (by assumption))).trans ((xu_ne (by first | assumption | exact Ne.symm (by assumption))).trans (by first | assumption | exact xu_eq _ _ _)) | exact (xu_ne (by first | assumption | exact Ne.symm (by assumption))).trans ((xu_ne (by first | assumption | exact Ne.symm (by assumption))).trans ((xu_ne (by first | assumption | exact Ne.symm (by assumption))).trans (by first | assumption | exact xu_eq _ _ _)))) (by omega) (by omega) ?_
    refine g_return dJ26_fastRemove_43 rfl ⟨rfl, ⟨mc1, va_up f1 (is.length - 1) none, ?_, by rw [rmvN_len hi]; omega, h3, fun j hj => ?_, Or.inr ⟨h5, xu_eq _ _ _⟩⟩, xKeep_u (xKeep_u g4 (Or.inl (by simp))) (Or.inl (by simp)), fun z hz => xob_r ((xu_ne hne.symm).trans g2) (xob_u g1 (g6 z hz))⟩
    · rw [xu_ne hne, xu_eq, rmvN_len hi]
    · rw [rmvN_len hi] at hj
      rw [va_up_ne _ _ (by omega)]; exact g3 j hj
  refine ct_intro (lv := [some (.ref la), some (.ref ar), some (.int (nI i)), none]) 1 (by decide) rfl (Nat.le_of_ble_eq_true rfl) rfl ?_
  have he1 : ∀ z, xob m z → xob (xu m la (.inr (16, [.int (mc + nI 1), .ref ar, .int (nI is.length)]))) z := fun z hz => xob_u h1 hz
  have hm1 : xu m la (.inr (16, [.int (mc + nI 1), .ref ar, .int (nI is.length)])) ar = some (rA 5 cap f) := (xu_ne hne.symm).trans h6
  first | refine g_aload_n dJ26_fastRemove_0 rfl rfl rfl ?_ | refine g_aload_nR dJ26_fastRemove_0 rfl rfl rfl ?_ | refine g_aload_nN dJ26_fastRemove_0 rfl rfl rfl ?_
  refine g_dup dJ26_fastRemove_1 rfl (by first | rfl | exact rf_cat _) ?_
  refine g_get fl_J26_63_J26 dJ26_fastRemove_2 rfl (Or.inl (by first | assumption | exact xu_eq _ _ _ | exact (xu_ne (by first | assumption | exact Ne.symm (by assumption))).trans (by first | assumption | exact xu_eq _ _ _) | exact (xu_ne (by first | assumption | exact Ne.symm (by assumption))).trans ((xu_ne (by first | assumption | exact Ne.symm (by assumption))).trans (by first | assumption | exact xu_eq _ _ _)) | exact (xu_ne (by first | assumption | exact Ne.symm (by assumption))).trans ((xu_ne (by first | assumption | exact Ne.symm (by assumption))).trans ((xu_ne (by first | assumption | exact Ne.symm (by assumption))).trans (by first | assumption | exact xu_eq _ _ _))))) rfl ?_
  refine g_iconst (v := (nI 1)) dJ26_fastRemove_5 rfl rfl ?_
  refine g_iadd dJ26_fastRemove_6 rfl ?_
  refine g_put0 fl_J26_63_J26 dJ26_fastRemove_7 rfl (by first | assumption | exact xu_eq _ _ _ | exact (xu_ne (by first | assumption | exact Ne.symm (by assumption))).trans (by first | assumption | exact xu_eq _ _ _) | exact (xu_ne (by first | assumption | exact Ne.symm (by assumption))).trans ((xu_ne (by first | assumption | exact Ne.symm (by assumption))).trans (by first | assumption | exact xu_eq _ _ _)) | exact (xu_ne (by first | assumption | exact Ne.symm (by assumption))).trans ((xu_ne (by first | assumption | exact Ne.symm (by assumption))).trans ((xu_ne (by first | assumption | exact Ne.symm (by assumption))).trans (by first | assumption | exact xu_eq _ _ _)))) rfl rfl ?_
  first | refine g_aload_n dJ26_fastRemove_10 rfl rfl rfl ?_ | refine g_aload_nR dJ26_fastRemove_10 rfl rfl rfl ?_ | refine g_aload_nN dJ26_fastRemove_10 rfl rfl rfl ?_
  refine g_get fl_J26_48_J26 dJ26_fastRemove_11 rfl (Or.inl (by first | assumption | exact xu_eq _ _ _ | exact (xu_ne (by first | assumption | exact Ne.symm (by assumption))).trans (by first | assumption | exact xu_eq _ _ _) | exact (xu_ne (by first | assumption | exact Ne.symm (by assumption))).trans ((xu_ne (by first | assumption | exact Ne.symm (by assumption))).trans (by first | assumption | exact xu_eq _ _ _)) | exact (xu_ne (by first | assumption | exact Ne.symm (by assumption))).trans ((xu_ne (by first | assumption | exact Ne.symm (by assumption))).trans ((xu_ne (by first | assumption | exact Ne.symm (by assumption))).trans (by first | assumption | exact xu_eq _ _ _))))) rfl ?_
  refine g_iconst (v := (nI 1)) dJ26_fastRemove_14 rfl rfl ?_
  refine g_isubn dJ26_fastRemove_15 rfl (by omega) ?_
  refine g_dup dJ26_fastRemove_16 rfl (by first | rfl | exact rf_cat _) ?_
  refine g_ist3 dJ26_fastRemove_17 rfl (by decide) (k := ?_)
  refine g_iload_n dJ26_fastRemove_18 rfl rfl rfl ?_
  refine g_icmpn_le (tgt := 34) dJ26_fastRemove_19 (by decide) rfl (by omega) (by omega) (fun c_19 => ?_) (fun c_19 => ?_)
  · refine fin _ f _ (xu_eq _ _ _) hm1 (fun j hj => ?_) (xKeep_u (xKeep_rf _ _) (Or.inl (by simp))) he1
    rw [rmvN_at hi, if_pos (by omega)]; exact h4 j (by omega)
  · first | refine g_aload_n dJ26_fastRemove_22 rfl rfl rfl ?_ | refine g_aload_nR dJ26_fastRemove_22 rfl rfl rfl ?_ | refine g_aload_nN dJ26_fastRemove_22 rfl rfl rfl ?_
    refine g_iload_n dJ26_fastRemove_23 rfl rfl rfl ?_
    refine g_iconst (v := (nI 1)) dJ26_fastRemove_24 rfl rfl ?_
    refine g_iaddn dJ26_fastRemove_25 rfl ?_
    first | refine g_aload_n dJ26_fastRemove_26 rfl rfl rfl ?_ | refine g_aload_nR dJ26_fastRemove_26 rfl rfl rfl ?_ | refine g_aload_nN dJ26_fastRemove_26 rfl rfl rfl ?_
    refine g_iload_n dJ26_fastRemove_27 rfl rfl rfl ?_
    refine g_iload_n dJ26_fastRemove_28 rfl rfl rfl ?_
    refine g_iload_n dJ26_fastRemove_29 rfl rfl rfl ?_
    refine g_isubn dJ26_fastRemove_30 rfl (by omega) ?_
    refine g_acopyq q1472 dJ26_fastRemove_31 rfl (by first | assumption | exact Or.inl (by first | assumption | exact xu_eq _ _ _ | exact (xu_ne (by first | assumption | exact Ne.symm (by assumption))).trans (by first | assumption | exact xu_eq _ _ _) | exact (xu_ne (by first | assumption | exact Ne.symm (by assumption))).trans ((xu_ne (by first | assumption | exact Ne.symm (by assumption))).trans (by first | assumption | exact xu_eq _ _ _)) | exact (xu_ne (by first | assumption | exact Ne.symm (by assumption))).trans ((xu_ne (by first | assumption | exact Ne.symm (by assumption))).trans ((xu_ne (by first | assumption | exact Ne.symm (by assumption))).trans (by first | assumption | exact xu_eq _ _ _))))) (by first | assumption | exact xu_eq _ _ _ | exact (xu_ne (by first | assumption | exact Ne.symm (by assumption))).trans (by first | assumption | exact xu_eq _ _ _) | exact (xu_ne (by first | assumption | exact Ne.symm (by assumption))).trans ((xu_ne (by first | assumption | exact Ne.symm (by assumption))).trans (by first | assumption | exact xu_eq _ _ _)) | exact (xu_ne (by first | assumption | exact Ne.symm (by assumption))).trans ((xu_ne (by first | assumption | exact Ne.symm (by assumption))).trans ((xu_ne (by first | assumption | exact Ne.symm (by assumption))).trans (by first | assumption | exact xu_eq _ _ _)))) (by omega) (by omega) (by omega) (by omega) (fun j hj z hz => xob_any (he1 z (hel z (List.mem_of_getElem? (i := i + 1 + j) (by rw [← h4 _ (by omega)]; exact hz))))) (by first | exact Nat.le_of_ble_eq_true rfl | simp [Value.category, rf_cat]) (by omega) ?_
    refine fin _ _ _ ((xu_ne hne).trans (xu_eq _ _ _)) (xu_eq _ _ _) (fun j hj => ?_) (xKeep_u (xKeep_u (xKeep_rf _ _) (Or.inl (by simp))) (Or.inl (by simp))) (fun z hz => xob_r hm1 (he1 z hz))
    rw [rmvN_at hi]
    by_cases hji : j < i
    · rw [if_pos hji, pk_cpy_out (Or.inl (by omega))]; exact h4 j (by omega)
    · rw [if_neg hji, pk_cpy_in (by omega) (by omega), h4 _ (by omega)]; congr 1; omega
/-- remove(i) -/
theorem c_remv {i x : Nat} (hd : 4 ≤ d) (h : AL w m la ar cap is) (hi : is[i]? = some x) (hel : ∀ z ∈ is, xob m z) : CT w MJ26_remove d 0 0 [.ref la, .int (nI i)] m (fun v m' => some (.ref x) = v ∧ AL w m' la ar cap (rmvN is i) ∧ xKeep m m' [la, ar] ∧ 10 ≤ cap ∧ ∀ z, xob m z → xob m' z) xN := by
  obtain ⟨mc, f, h1, h2, h3, h4, h5⟩ := h
  have hl : i < is.length := (List.getElem?_eq_some_iff.mp hi).1
  rcases h5 with ⟨h5, -⟩ | ⟨h5, h6⟩
  · omega
  have hfi : f i = some x := (h4 i hl).trans hi
  refine ct_intro (lv := [some (.ref la), some (.int (nI i)), none, none]) 2 (by decide) rfl (Nat.le_of_ble_eq_true rfl) rfl ?_
  refine g_iload_n dJ26_remove_0 rfl rfl rfl ?_
  first | refine g_aload_n dJ26_remove_1 rfl rfl rfl ?_ | refine g_aload_nR dJ26_remove_1 rfl rfl rfl ?_ | refine g_aload_nN dJ26_remove_1 rfl rfl rfl ?_
  refine g_get fl_J26_48_J26 dJ26_remove_2 rfl (Or.inl (by first | assumption | exact xu_eq _ _ _ | exact (xu_ne (by first | assumption | exact Ne.symm (by assumption))).trans (by first | assumption | exact xu_eq _ _ _) | exact (xu_ne (by first | assumption | exact Ne.symm (by assumption))).trans ((xu_ne (by first | assumption | exact Ne.symm (by assumption))).trans (by first | assumption | exact xu_eq _ _ _)) | exact (xu_ne (by first | assumption | exact Ne.symm (by assumption))).trans ((xu_ne (by first | assumption | exact Ne.symm (by assumption))).trans ((xu_ne (by first | assumption | exact Ne.symm (by assumption))).trans (by first | assumption | exact xu_eq _ _ _))))) rfl ?_
  refine g_staticP iS_J23_checkIndex q1108 (c_ocheck (d := d - 1) (by omega) hl (by omega)) dJ26_remove_5 rfl rfl rfl (by first | exact Nat.le_of_ble_eq_true rfl | simp [Value.category, rf_cat]) (by omega) xN_no ?_
  refine g_pop dJ26_remove_8 rfl (by first | rfl | exact rf_cat _) ?_
  first | refine g_aload_n dJ26_remove_9 rfl rfl rfl ?_ | refine g_aload_nR dJ26_remove_9 rfl rfl rfl ?_ | refine g_aload_nN dJ26_remove_9 rfl rfl rfl ?_
  refine g_get fl_J26_9_J26 dJ26_remove_10 rfl (Or.inl (by first | assumption | exact xu_eq _ _ _ | exact (xu_ne (by first | assumption | exact Ne.symm (by assumption))).trans (by first | assumption | exact xu_eq _ _ _) | exact (xu_ne (by first | assumption | exact Ne.symm (by assumption))).trans ((xu_ne (by first | assumption | exact Ne.symm (by assumption))).trans (by first | assumption | exact xu_eq _ _ _)) | exact (xu_ne (by first | assumption | exact Ne.symm (by assumption))).trans ((xu_ne (by first | assumption | exact Ne.symm (by assumption))).trans ((xu_ne (by first | assumption | exact Ne.symm (by assumption))).trans (by first | assumption | exact xu_eq _ _ _))))) rfl ?_
  first | refine g_ast2 dJ26_remove_13 rfl (by decide) (k := ?_) | refine g_astR2 dJ26_remove_13 rfl (by decide) (k := ?_) | refine g_astN2 dJ26_remove_13 rfl (by decide) (k := ?_)
  first | refine g_aload_n dJ26_remove_14 rfl rfl rfl ?_ | refine g_aload_nR dJ26_remove_14 rfl rfl rfl ?_ | refine g_aload_nN dJ26_remove_14 rfl rfl rfl ?_
  refine g_iload_n dJ26_remove_15 rfl rfl rfl ?_
  refine g_aaldn (t := 5) rfl dJ26_remove_16 rfl (by first | assumption | exact Or.inl (by first | assumption | exact xu_eq _ _ _ | exact (xu_ne (by first | assumption | exact Ne.symm (by assumption))).trans (by first | assumption | exact xu_eq _ _ _) | exact (xu_ne (by first | assumption | exact Ne.symm (by assumption))).trans ((xu_ne (by first | assumption | exact Ne.symm (by assumption))).trans (by first | assumption | exact xu_eq _ _ _)) | exact (xu_ne (by first | assumption | exact Ne.symm (by assumption))).trans ((xu_ne (by first | assumption | exact Ne.symm (by assumption))).trans ((xu_ne (by first | assumption | exact Ne.symm (by assumption))).trans (by first | assumption | exact xu_eq _ _ _))))) (by omega) (by omega) ?_
  rw [hfi]
  show G w _ _ _ _ _ _ _ [.ref x] _
  first | refine g_ast3 dJ26_remove_17 rfl (by decide) (k := ?_) | refine g_astR3 dJ26_remove_17 rfl (by decide) (k := ?_) | refine g_astN3 dJ26_remove_17 rfl (by decide) (k := ?_)
  first | refine g_aload_n dJ26_remove_18 rfl rfl rfl ?_ | refine g_aload_nR dJ26_remove_18 rfl rfl rfl ?_ | refine g_aload_nN dJ26_remove_18 rfl rfl rfl ?_
  first | refine g_aload_n dJ26_remove_19 rfl rfl rfl ?_ | refine g_aload_nR dJ26_remove_19 rfl rfl rfl ?_ | refine g_aload_nN dJ26_remove_19 rfl rfl rfl ?_
  refine g_iload_n dJ26_remove_20 rfl rfl rfl ?_
  refine g_virtual iV_J26_fastRemove q1468 (c_fastRemove (d := d - 1) (by omega) hl h1 h2 h3 h4 h5 h6 hel) (Or.inl (by first | assumption | exact xu_eq _ _ _ | exact (xu_ne (by first | assumption | exact Ne.symm (by assumption))).trans (by first | assumption | exact xu_eq _ _ _) | exact (xu_ne (by first | assumption | exact Ne.symm (by assumption))).trans ((xu_ne (by first | assumption | exact Ne.symm (by assumption))).trans (by first | assumption | exact xu_eq _ _ _)) | exact (xu_ne (by first | assumption | exact Ne.symm (by assumption))).trans ((xu_ne (by first | assumption | exact Ne.symm (by assumption))).trans ((xu_ne (by first | assumption | exact Ne.symm (by assumption))).trans (by first | assumption | exact xu_eq _ _ _))))) rfl (by decide) dJ26_remove_21 rfl rfl rfl (by first | exact Nat.le_of_ble_eq_true rfl | simp [Value.category, rf_cat]) (by omega) (by omega) (by omega) xN_no (fun v_21 m_21 h_21 => ?_)
  obtain ⟨rfl, g1, g2, g3⟩ := h_21
  first | refine g_aload_n dJ26_remove_24 rfl rfl rfl ?_ | refine g_aload_nR dJ26_remove_24 rfl rfl rfl ?_ | refine g_aload_nN dJ26_remove_24 rfl rfl rfl ?_
  refine g_areturn dJ26_remove_25 rfl (Or.inl ⟨_, rfl⟩) (Or.inr ⟨_, rfl⟩) ?_
  exact ⟨rfl, g1, g2, h5, g3⟩
/-- clear() -/
theorem c_clr (hd : 1 ≤ d) (h : AL w m la ar cap is) : CT w MJ26_clear d 0 0 [.ref la] m (fun v m' => none = v ∧ AL w m' la ar cap [] ∧ xKeep m m' (la :: if cap = 0 then [] else [ar]) ∧ ∀ z, xob m z → xob m' z) xN := by
  refine ct_ok fun ok => ?_
  obtain ⟨mc, f, h1, h2, h3, h4, h5⟩ := h
  refine ct_intro (lv := [some (.ref la), none, none, none]) 3 (by decide) rfl (Nat.le_of_ble_eq_true rfl) rfl ?_
  rcases h5 with ⟨h5, h6⟩ | ⟨h5, h6⟩
  · have e0 : is = [] := List.eq_nil_of_length_eq_zero (by omega)
    subst e0; subst h6
    first | refine g_aload_n dJ26_clear_0 rfl rfl rfl ?_ | refine g_aload_nR dJ26_clear_0 rfl rfl rfl ?_ | refine g_aload_nN dJ26_clear_0 rfl rfl rfl ?_
    refine g_dup dJ26_clear_1 rfl (by first | rfl | exact rf_cat _) ?_
    refine g_get fl_J26_63_J26 dJ26_clear_2 rfl (Or.inl (by first | assumption | exact xu_eq _ _ _ | exact (xu_ne (by first | assumption | exact Ne.symm (by assumption))).trans (by first | assumption | exact xu_eq _ _ _) | exact (xu_ne (by first | assumption | exact Ne.symm (by assumption))).trans ((xu_ne (by first | assumption | exact Ne.symm (by assumption))).trans (by first | assumption | exact xu_eq _ _ _)) | exact (xu_ne (by first | assumption | exact Ne.symm (by assumption))).trans ((xu_ne (by first | assumption | exact Ne.symm (by assumption))).trans ((xu_ne (by first | assumption | exact Ne.symm (by assumption))).trans (by first | assumption | exact xu_eq _ _ _))))) rfl ?_
    refine g_iconst (v := (nI 1)) dJ26_clear_5 rfl rfl ?_
    refine g_iadd dJ26_clear_6 rfl ?_
    refine g_put0 fl_J26_63_J26 dJ26_clear_7 rfl (by first | assumption | exact xu_eq _ _ _ | exact (xu_ne (by first | assumption | exact Ne.symm (by assumption))).trans (by first | assumption | exact xu_eq _ _ _) | exact (xu_ne (by first | assumption | exact Ne.symm (by assumption))).trans ((xu_ne (by first | assumption | exact Ne.symm (by assumption))).trans (by first | assumption | exact xu_eq _ _ _)) | exact (xu_ne (by first | assumption | exact Ne.symm (by assumption))).trans ((xu_ne (by first | assumption | exact Ne.symm (by assumption))).trans ((xu_ne (by first | assumption | exact Ne.symm (by assumption))).trans (by first | assumption | exact xu_eq _ _ _)))) rfl rfl ?_
    first | refine g_aload_n dJ26_clear_10 rfl rfl rfl ?_ | refine g_aload_nR dJ26_clear_10 rfl rfl rfl ?_ | refine g_aload_nN dJ26_clear_10 rfl rfl rfl ?_
    refine g_get fl_J26_9_J26 dJ26_clear_11 rfl (Or.inl (by first | assumption | exact xu_eq _ _ _ | exact (xu_ne (by first | assumption | exact Ne.symm (by assumption))).trans (by first | assumption | exact xu_eq _ _ _) | exact (xu_ne (by first | assumption | exact Ne.symm (by assumption))).trans ((xu_ne (by first | assumption | exact Ne.symm (by assumption))).trans (by first | assumption | exact xu_eq _ _ _)) | exact (xu_ne (by first | assumption | exact Ne.symm (by assumption))).trans ((xu_ne (by first | assumption | exact Ne.symm (by assumption))).trans ((xu_ne (by first | assumption | exact Ne.symm (by assumption))).trans (by first | assumption | exact xu_eq _ _ _))))) rfl ?_
    first | refine g_ast1 dJ26_clear_14 rfl (by decide) (k := ?_) | refine g_astR1 dJ26_clear_14 rfl (by decide) (k := ?_) | refine g_astN1 dJ26_clear_14 rfl (by decide) (k := ?_)
    first | refine g_aload_n dJ26_clear_15 rfl rfl rfl ?_ | refine g_aload_nR dJ26_clear_15 rfl rfl rfl ?_ | refine g_aload_nN dJ26_clear_15 rfl rfl rfl ?_
    refine g_get fl_J26_48_J26 dJ26_clear_16 rfl (Or.inl (by first | assumption | exact xu_eq _ _ _ | exact (xu_ne (by first | assumption | exact Ne.symm (by assumption))).trans (by first | assumption | exact xu_eq _ _ _) | exact (xu_ne (by first | assumption | exact Ne.symm (by assumption))).trans ((xu_ne (by first | assumption | exact Ne.symm (by assumption))).trans (by first | assumption | exact xu_eq _ _ _)) | exact (xu_ne (by first | assumption | exact Ne.symm (by assumption))).trans ((xu_ne (by first | assumption | exact Ne.symm (by assumption))).trans ((xu_ne (by first | assumption | exact Ne.symm (by assumption))).trans (by first | assumption | exact xu_eq _ _ _))))) rfl ?_
    refine g_ist2 dJ26_clear_19 rfl (by decide) (k := ?_)
    first | refine g_aload_n dJ26_clear_20 rfl rfl rfl ?_ | refine g_aload_nR dJ26_clear_20 rfl rfl rfl ?_ | refine g_aload_nN dJ26_clear_20 rfl rfl rfl ?_
    refine g_iconst (v := (nI 0)) dJ26_clear_21 rfl rfl ?_
    refine g_dup_x1 dJ26_clear_22 rfl (by first | rfl | exact rf_cat _) (by first | rfl | exact rf_cat _) ?_
    refine g_put2 fl_J26_48_J26 dJ26_clear_23 rfl (by first | assumption | exact xu_eq _ _ _ | exact (xu_ne (by first | assumption | exact Ne.symm (by assumption))).trans (by first | assumption | exact xu_eq _ _ _) | exact (xu_ne (by first | assumption | exact Ne.symm (by assumption))).trans ((xu_ne (by first | assumption | exact Ne.symm (by assumption))).trans (by first | assumption | exact xu_eq _ _ _)) | exact (xu_ne (by first | assumption | exact Ne.symm (by assumption))).trans ((xu_ne (by first | assumption | exact Ne.symm (by assumption))).trans ((xu_ne (by first | assumption | exact Ne.symm (by assumption))).trans (by first | assumption | exact xu_eq _ _ _)))) rfl rfl ?_
    refine g_ist3 dJ26_clear_26 rfl (by decide) (k := ?_)
    refine g_iload_n dJ26_clear_27 rfl rfl rfl ?_
    refine g_iload_n dJ26_clear_28 rfl rfl rfl ?_
    refine g_icmpn_ge (tgt := 42) dJ26_clear_29 (by decide) rfl (by omega) (by omega) (fun c_29 => ?_) (fun c_29 => by omega)
    exact g_return dJ26_clear_42 rfl ⟨rfl, ⟨_, fun _ => none, xu_eq _ _ _, by simp, h3, fun j hj => by simp at hj, Or.inl ⟨h5, rfl⟩⟩, xKeep_u (xKeep_u (xKeep_rf _ _) (Or.inl List.mem_cons_self)) (Or.inl List.mem_cons_self), fun z hz => xob_u (xu_eq _ _ _) (xob_u h1 hz)⟩
  · have hne := al_ne h1 h6
    have loop : ∀ t k m1 f1 mc1, is.length - k < t → k ≤ is.length → m1 la = some (.inr (16, [.int mc1, .ref ar, .int (nI 0)])) → m1 ar = some (rA 5 cap f1) → xKeep m m1 (la :: if cap = 0 then [] else [ar]) → (∀ z, xob m z → xob m1 z) → G w MJ26_clear (xZ w (fun v m' => none = v ∧ AL w m' la ar cap [] ∧ xKeep m m' (la :: if cap = 0 then [] else [ar]) ∧ ∀ z, xob m z → xob m' z) xN) d 0 0 27 [some (.ref la), some (.ref ar), some (.int (nI is.length)), some (.int (nI k))] [] m1 := by
      intro t
      induction t with
      | zero => intro k m1 f1 mc1 h; omega
      | succ t ih =>
        intro k m1 f1 mc1 h hk g1 g2 g3 g4
        refine g_iload_n dJ26_clear_27 rfl rfl rfl ?_
        refine g_iload_n dJ26_clear_28 rfl rfl rfl ?_
        refine g_icmpn_ge (tgt := 42) dJ26_clear_29 (by decide) rfl (by omega) (by omega) (fun c_29 => ?_) (fun c_29 => ?_)
        · exact g_return dJ26_clear_42 rfl ⟨rfl, ⟨mc1, f1, g1, by simp, h3, fun j hj => by simp at hj, Or.inr ⟨h5, g2⟩⟩, g3, g4⟩
        · first | refine g_aload_n dJ26_clear_32 rfl rfl rfl ?_ | refine g_aload_nR dJ26_clear_32 rfl rfl rfl ?_ | refine g_aload_nN dJ26_clear_32 rfl rfl rfl ?_
          refine g_iload_n dJ26_clear_33 rfl rfl rfl ?_
          refine g_null dJ26_clear_34 rfl ?_
          refine g_aastNn (t := 5) rfl dJ26_clear_35 rfl (by first | assumption | exact xu_eq _ _ _ | exact (xu_ne (by first | assumption | exact Ne.symm (by assumption))).trans (by first | assumption | exact xu_eq _ _ _) | exact (xu_ne (by first | assumption | exact Ne.symm (by assumption))).trans ((xu_ne (by first | assumption | exact Ne.symm (by assumption))).trans (by first | assumption | exact xu_eq _ _ _)) | exact (xu_ne (by first | assumption | exact Ne.symm (by assumption))).trans ((xu_ne (by first | assumption | exact Ne.symm (by assumption))).trans ((xu_ne (by first | assumption | exact Ne.symm (by assumption))).trans (by first | assumption | exact xu_eq _ _ _)))) (by omega) (by omega) ?_
          refine g_incn3 dJ26_clear_36 rfl (by decide) (k := ?_)
          refine g_goto (tgt := 27) dJ26_clear_39 (by decide) ?_
          exact ih (k + 1) _ _ mc1 (by omega) (by omega) ((xu_ne hne).trans g1) (xu_eq _ _ _) (xKeep_u g3 (Or.inl (by rw [if_neg (by omega)]; simp))) (fun z hz => xob_r g2 (g4 z hz))
    first | refine g_aload_n dJ26_clear_0 rfl rfl rfl ?_ | refine g_aload_nR dJ26_clear_0 rfl rfl rfl ?_ | refine g_aload_nN dJ26_clear_0 rfl rfl rfl ?_
    refine g_dup dJ26_clear_1 rfl (by first | rfl | exact rf_cat _) ?_
    refine g_get fl_J26_63_J26 dJ26_clear_2 rfl (Or.inl (by first | assumption | exact xu_eq _ _ _ | exact (xu_ne (by first | assumption | exact Ne.symm (by assumption))).trans (by first | assumption | exact xu_eq _ _ _) | exact (xu_ne (by first | assumption | exact Ne.symm (by assumption))).trans ((xu_ne (by first | assumption | exact Ne.symm (by assumption))).trans (by first | assumption | exact xu_eq _ _ _)) | exact (xu_ne (by first | assumption | exact Ne.symm (by assumption))).trans ((xu_ne (by first | assumption | exact Ne.symm (by assumption))).trans ((xu_ne (by first | assumption | exact Ne.symm (by assumption))).trans (by first | assumption | exact xu_eq _ _ _))))) rfl ?_
    refine g_iconst (v := (nI 1)) dJ26_clear_5 rfl rfl ?_
    refine g_iadd dJ26_clear_6 rfl ?_
    refine g_put0 fl_J26_63_J26 dJ26_clear_7 rfl (by first | assumption | exact xu_eq _ _ _ | exact (xu_ne (by first | assumption | exact Ne.symm (by assumption))).trans (by first | assumption | exact xu_eq _ _ _) | exact (xu_ne (by first | assumption | exact Ne.symm (by assumption))).trans ((xu_ne (by first | assumption | exact Ne.symm (by assumption))).trans (by first | assumption | exact xu_eq _ _ _)) | exact (xu_ne (by first | assumption | exact Ne.symm (by assumption))).trans ((xu_ne (by first | assumption | exact Ne.symm (by assumption))).trans ((xu_ne (by first | assumption | exact Ne.symm (by assumption))).trans (by first | assumption | exact xu_eq _ _ _)))) rfl rfl ?_
    first | refine g_aload_n dJ26_clear_10 rfl rfl rfl ?_ | refine g_aload_nR dJ26_clear_10 rfl rfl rfl ?_ | refine g_aload_nN dJ26_clear_10 rfl rfl rfl ?_
    refine g_get fl_J26_9_J26 dJ26_clear_11 rfl (Or.inl (by first | assumption | exact xu_eq _ _ _ | exact (xu_ne (by first | assumption | exact Ne.symm (by assumption))).trans (by first | assumption | exact xu_eq _ _ _) | exact (xu_ne (by first | assumption | exact Ne.symm (by assumption))).trans ((xu_ne (by first | assumption | exact Ne.symm (by assumption))).trans (by first | assumption | exact xu_eq _ _ _)) | exact (xu_ne (by first | assumption | exact Ne.symm (by assumption))).trans ((xu_ne (by first | assumption | exact Ne.symm (by assumption))).trans ((xu_ne (by first | assumption | exact Ne.symm (by assumption))).trans (by first | assumption | exact xu_eq _ _ _))))) rfl ?_
    first | refine g_ast1 dJ26_clear_14 rfl (by decide) (k := ?_) | refine g_astR1 dJ26_clear_14 rfl (by decide) (k := ?_) | refine g_astN1 dJ26_clear_14 rfl (by decide) (k := ?_)
    first | refine g_aload_n dJ26_clear_15 rfl rfl rfl ?_ | refine g_aload_nR dJ26_clear_15 rfl rfl rfl ?_ | refine g_aload_nN dJ26_clear_15 rfl rfl rfl ?_
    refine g_get fl_J26_48_J26 dJ26_clear_16 rfl (Or.inl (by first | assumption | exact xu_eq _ _ _ | exact (xu_ne (by first | assumption | exact Ne.symm (by assumption))).trans (by first | assumption | exact xu_eq _ _ _) | exact (xu_ne (by first | assumption | exact Ne.symm (by assumption))).trans ((xu_ne (by first | assumption | exact Ne.symm (by assumption))).trans (by first | assumption | exact xu_eq _ _ _)) | exact (xu_ne (by first | assumption | exact Ne.symm (by assumption))).trans ((xu_ne (by first | assumption | exact Ne.symm (by assumption))).trans ((xu_ne (by first | assumption | exact Ne.symm (by assumption))).trans (by first | assumption | exact xu_eq _ _ _))))) rfl ?_
    refine g_ist2 dJ26_clear_19 rfl (by decide) (k := ?_)
    first | refine g_aload_n dJ26_clear_20 rfl rfl rfl ?_ | refine g_aload_nR dJ26_clear_20 rfl rfl rfl ?_ | refine g_aload_nN dJ26_clear_20 rfl rfl rfl ?_
    refine g_iconst (v := (nI 0)) dJ26_clear_21 rfl rfl ?_
    refine g_dup_x1 dJ26_clear_22 rfl (by first | rfl | exact rf_cat _) (by first | rfl | exact rf_cat _) ?_
    refine g_put2 fl_J26_48_J26 dJ26_clear_23 rfl (by first | assumption | exact xu_eq _ _ _ | exact (xu_ne (by first | assumption | exact Ne.symm (by assumption))).trans (by first | assumption | exact xu_eq _ _ _) | exact (xu_ne (by first | assumption | exact Ne.symm (by assumption))).trans ((xu_ne (by first | assumption | exact Ne.symm (by assumption))).trans (by first | assumption | exact xu_eq _ _ _)) | exact (xu_ne (by first | assumption | exact Ne.symm (by assumption))).trans ((xu_ne (by first | assumption | exact Ne.symm (by assumption))).trans ((xu_ne (by first | assumption | exact Ne.symm (by assumption))).trans (by first | assumption | exact xu_eq _ _ _)))) rfl rfl ?_
    refine g_ist3 dJ26_clear_26 rfl (by decide) (k := ?_)
    exact loop (is.length + 1) 0 _ f _ (by omega) (by omega) (xu_eq _ _ _) ((xu_ne hne.symm).trans ((xu_ne hne.symm).trans h6)) (xKeep_u (xKeep_u (xKeep_rf _ _) (Or.inl List.mem_cons_self)) (Or.inl List.mem_cons_self)) (fun z hz => xob_u (xu_eq _ _ _) (xob_u h1 hz))
/-- a new list -/
theorem c_J24i {a : Nat} (hd : 2 ≤ d) : CT w MJ24_init d 0 0 [.ref a] m (xRet none m) xN := by
  refine ct_intro (lv := [some (.ref a)]) 0 (by decide) rfl (Nat.le_of_ble_eq_true rfl) rfl ?_
  first | refine g_aload_n dJ24_init_0 rfl rfl rfl ?_ | refine g_aload_nR dJ24_init_0 rfl rfl rfl ?_ | refine g_aload_nN dJ24_init_0 rfl rfl rfl ?_
  refine g_objInit q1172 q110 q111 dJ24_init_1 rfl (by omega) (by first | exact Nat.le_of_ble_eq_true rfl | simp [Value.category, rf_cat]) ?_
  exact g_return dJ24_init_4 rfl ⟨rfl, rfl⟩
theorem c_J25i {a : Nat} {mc : Int32} {e s : Value} (hd : 3 ≤ d) (h : m a = some (.inr (16, [.int mc, e, s]))) : CT w MJ25_init d 0 0 [.ref a] m (xRet none (xu m a (.inr (16, [.int (nI 0), e, s])))) xN := by
  refine ct_intro (lv := [some (.ref a)]) 0 (by decide) rfl (Nat.le_of_ble_eq_true rfl) rfl ?_
  first | refine g_aload_n dJ25_init_0 rfl rfl rfl ?_ | refine g_aload_nR dJ25_init_0 rfl rfl rfl ?_ | refine g_aload_nN dJ25_init_0 rfl rfl rfl ?_
  refine g_ctorP iC_J24_init q1169 (c_J24i (d := d - 1) (by omega)) dJ25_init_1 rfl rfl rfl (by first | exact Nat.le_of_ble_eq_true rfl | simp [Value.category, rf_cat]) (by omega) xN_no ?_
  first | refine g_aload_n dJ25_init_4 rfl rfl rfl ?_ | refine g_aload_nR dJ25_init_4 rfl rfl rfl ?_ | refine g_aload_nN dJ25_init_4 rfl rfl rfl ?_
  refine g_iconst (v := (nI 0)) dJ25_init_5 rfl rfl ?_
  refine g_put0 fl_J25_7_J26 dJ25_init_6 rfl (by first | assumption | exact xu_eq _ _ _ | exact (xu_ne (by first | assumption | exact Ne.symm (by assumption))).trans (by first | assumption | exact xu_eq _ _ _) | exact (xu_ne (by first | assumption | exact Ne.symm (by assumption))).trans ((xu_ne (by first | assumption | exact Ne.symm (by assumption))).trans (by first | assumption | exact xu_eq _ _ _)) | exact (xu_ne (by first | assumption | exact Ne.symm (by assumption))).trans ((xu_ne (by first | assumption | exact Ne.symm (by assumption))).trans ((xu_ne (by first | assumption | exact Ne.symm (by assumption))).trans (by first | assumption | exact xu_eq _ _ _)))) rfl rfl ?_
  exact g_return dJ25_init_9 rfl ⟨rfl, rfl⟩
theorem c_init {a : Nat} {mc : Int32} {e : Value} (hd : 4 ≤ d) (h : m a = some (.inr (16, [.int mc, e, .int 0]))) : CT w MJ26_init d 0 0 [.ref a] m (fun v m' => none = v ∧ m' = xu m a (.inr (16, [.int (nI 0), .ref (xad w 0), .int 0])) ∧ AL w m' a (xad w 0) 0 []) xN := by
  refine ct_intro (lv := [some (.ref a)]) 0 (by decide) rfl (Nat.le_of_ble_eq_true rfl) rfl ?_
  first | refine g_aload_n dJ26_init_0 rfl rfl rfl ?_ | refine g_aload_nR dJ26_init_0 rfl rfl rfl ?_ | refine g_aload_nN dJ26_init_0 rfl rfl rfl ?_
  refine g_ctor iC_J25_init q1166 (c_J25i (d := d - 1) (by omega) h) dJ26_init_1 rfl rfl rfl (by first | exact Nat.le_of_ble_eq_true rfl | simp [Value.category, rf_cat]) (by omega) (by omega) (by omega) xN_no (fun v_1 m_1 h_1 => ?_)
  obtain ⟨rfl, rfl⟩ := h_1
  first | refine g_aload_n dJ26_init_4 rfl rfl rfl ?_ | refine g_aload_nR dJ26_init_4 rfl rfl rfl ?_ | refine g_aload_nN dJ26_init_4 rfl rfl rfl ?_
  refine g_gets q1173 (fun h => h.2.1) dJ26_init_5 rfl ?_
  skip
  refine g_put1 fl_J26_9_J26 dJ26_init_8 rfl (by first | assumption | exact xu_eq _ _ _ | exact (xu_ne (by first | assumption | exact Ne.symm (by assumption))).trans (by first | assumption | exact xu_eq _ _ _) | exact (xu_ne (by first | assumption | exact Ne.symm (by assumption))).trans ((xu_ne (by first | assumption | exact Ne.symm (by assumption))).trans (by first | assumption | exact xu_eq _ _ _)) | exact (xu_ne (by first | assumption | exact Ne.symm (by assumption))).trans ((xu_ne (by first | assumption | exact Ne.symm (by assumption))).trans ((xu_ne (by first | assumption | exact Ne.symm (by assumption))).trans (by first | assumption | exact xu_eq _ _ _)))) rfl rfl ?_
  refine g_return dJ26_init_11 rfl ⟨rfl, ?_, ⟨nI 0, fun _ => none, xu_eq _ _ _, by simp, by omega, fun j hj => by simp at hj, Or.inl ⟨rfl, rfl⟩⟩⟩
  rw [xu_xu]
end AL17d
