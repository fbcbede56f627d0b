/-! TWIN: pages, what is done on them -/
set_option maxRecDepth 100000
def frI : Option Nat → Int32
  | none => -9
  | some a => nI a
def lf (L : List Int32) : Nat → Int32 := fun j => L.getD j 0
def Pl (f : Nat → Int32) (L : List Int32) : Prop := (∀ j, j < L.length → f j = lf L j) ∧ f 180 = nI L.length ∧ L.length ≤ 180
def Pg (f : Nat → Int32) (L : List Int32) (c : Nat) (fr : Option Nat) : Prop := Pl f L ∧ f 181 = nI c ∧ f 182 = frI fr
def remL (L : List Int32) (a b : Nat) : List Int32 := L.take a ++ L.drop b
def insL (L : List Int32) (a : Nat) (s : Int32) : List Int32 := L.take a ++ s :: L.drop a
theorem remL_len {L : List Int32} {a b : Nat} (h : a ≤ b) (hb : b ≤ L.length) : (remL L a b).length = L.length - (b - a) := by
  simp [remL]; omega
theorem insL_len {L : List Int32} {a : Nat} {s : Int32} (h : a ≤ L.length) : (insL L a s).length = L.length + 1 := by
  simp [insL]; omega
theorem lf_rem {L : List Int32} {a b j : Nat} (h : a ≤ b) (hb : b ≤ L.length) : lf (remL L a b) j = if j < a then lf L j else lf L (j + (b - a)) := by
  simp only [lf, remL, List.getD_eq_getElem?_getD]
  by_cases hj : j < a
  · rw [if_pos hj, List.getElem?_append_left (by simp; omega), List.getElem?_take, if_pos hj]
  · rw [if_neg hj, List.getElem?_append_right (by simp; omega), List.getElem?_drop]
    congr 2; simp; omega
theorem lf_ins {L : List Int32} {a j : Nat} {s : Int32} (h : a ≤ L.length) : lf (insL L a s) j = if j < a then lf L j else if j = a then s else lf L (j - 1) := by
  simp only [lf, insL, List.getD_eq_getElem?_getD]
  by_cases hj : j < a
  · rw [if_pos hj, List.getElem?_append_left (by simp; omega), List.getElem?_take, if_pos hj]
  · rw [if_neg hj, List.getElem?_append_right (by simp; omega)]
    have e : j - (L.take a).length = j - a := by simp; omega
    rw [e]
    by_cases h2 : j = a
    · subst h2; simp
    · rw [if_neg h2]
      obtain ⟨i, hi⟩ : ∃ i, j - a = i + 1 := ⟨j - a - 1, by omega⟩
      rw [hi, List.getElem?_cons_succ, List.getElem?_drop]
      congr 2; omega
theorem pl_rem {f : Nat → Int32} {L : List Int32} {a b : Nat} (h : Pl f L) (hab : a ≤ b) (hb : b ≤ L.length) : Pl (upd (remK f a b L.length) 180 (nI (L.length - (b - a)))) (remL L a b) := by
  obtain ⟨h1, h2, h3⟩ := h
  have hl := remL_len hab hb
  refine ⟨fun j hj => ?_, by rw [upd_eq, hl], by omega⟩
  rw [upd_ne (by omega), lf_rem hab hb]
  unfold remK
  by_cases hj1 : j < a
  · rw [if_pos hj1, if_neg (by omega), h1 j (by omega)]
  · rw [if_neg hj1, if_pos (by omega), h1 _ (by omega)]
theorem pl_put {f : Nat → Int32} {L : List Int32} {a : Nat} {s : Int32} (h : Pl f L) (ha : a ≤ L.length) (hl : L.length < 180) : Pl (upd (upd (putK f L.length a) a s) 180 (nI (L.length + 1))) (insL L a s) := by
  obtain ⟨h1, h2, h3⟩ := h
  have hl2 := insL_len (s := s) ha
  refine ⟨fun j hj => ?_, by rw [upd_eq, hl2], by omega⟩
  rw [upd_ne (by omega), lf_ins ha]
  by_cases hja : j = a
  · subst hja; rw [upd_eq, if_neg (by omega), if_pos rfl]
  · rw [upd_ne hja]; unfold putK
    by_cases hj1 : j < a
    · rw [if_pos hj1, if_neg (by omega), h1 j (by omega)]
    · rw [if_neg hj1, if_neg hja, if_pos (by omega), h1 _ (by omega)]
theorem pl_u {f : Nat → Int32} {L : List Int32} {k : Nat} {x : Int32} (h : Pl f L) (hk : 180 < k) : Pl (upd f k x) L := by
  obtain ⟨h1, h2, h3⟩ := h
  exact ⟨fun j hj => by rw [upd_ne (by omega)]; exact h1 j hj, by rw [upd_ne (by omega)]; exact h2, h3⟩
theorem rem_hi {f : Nat → Int32} {a b n k : Nat} {x : Int32} (hn : n ≤ 180) (hab : a ≤ b) (hb : b ≤ n) (hk : 180 < k) : upd (remK f a b n) 180 x k = f k := by
  rw [upd_ne (by omega)]; unfold remK; rw [if_neg (by omega)]
theorem put_hi {f : Nat → Int32} {a n k : Nat} {x s : Int32} (hn : n < 180) (ha : a ≤ n) (hk : 180 < k) : upd (upd (putK f n a) a s) 180 x k = f k := by
  rw [upd_ne (by omega), upd_ne (by omega)]; unfold putK; rw [if_neg (by omega)]
theorem frI_n {fr : Option Nat} (h : ∀ a, fr = some a → a < 1000) : frI fr = -9 ↔ fr = none := by
  cases fr with
  | none => simp [frI]
  | some a =>
    simp only [frI, reduceCtorEq, iff_false]
    intro e
    have h1 := nI_toInt (n := a) (by have := h a rfl; omega)
    rw [e] at h1
    have h2 : (-9 : Int32).toInt = -9 := by decide
    omega
/- the scanning functions look at the list alone -/
theorem rowEnd_c {f g : Nat → Int32} {n : Nat} (h : ∀ j, j < n → f j = g j) (dp : Int32) (k : Nat) : rowEndF f n dp k = rowEndF g n dp k := by
  fun_induction rowEndF f n dp k with
  | case1 dp k h1 h2 ih => rw [ih]; conv => rhs; rw [rowEndF, if_pos h1, if_pos h2, ← h k h1]
  | case2 dp k h1 h2 h3 => rw [rowEndF, if_pos h1, if_neg h2, ← h k h1, if_pos h3]
  | case3 dp k h1 h2 h3 h4 => rw [rowEndF, if_pos h1, if_neg h2, ← h k h1, if_neg h3, if_pos h4]
  | case4 dp k h1 h2 h3 h4 ih => rw [ih]; conv => rhs; rw [rowEndF, if_pos h1, if_neg h2, ← h k h1, if_neg h3, if_neg h4]
  | case5 dp k h1 => rw [rowEndF, if_neg h1]
theorem endOf_c {f g : Nat → Int32} {n : Nat} (h : ∀ j, j < n → f j = g j) (dp : Int32) (k : Nat) : endOfF f n dp k = endOfF g n dp k := by
  fun_induction endOfF f n dp k with
  | case1 dp k h1 h2 ih => rw [ih]; conv => rhs; rw [endOfF, if_pos h1, if_pos h2, ← h k h1]
  | case2 dp k h1 h2 h3 => rw [endOfF, if_pos h1, if_neg h2, ← h k h1, if_pos h3]
  | case3 dp k h1 h2 h3 ih => rw [ih]; conv => rhs; rw [endOfF, if_pos h1, if_neg h2, ← h k h1, if_neg h3]
  | case4 dp k h1 => rw [endOfF, if_neg h1]
theorem beginOf_c {f g : Nat → Int32} (dp : Int32) (k : Nat) (h : ∀ j, j < k → f j = g j) : beginOfF f dp k = beginOfF g dp k := by
  induction k generalizing dp with
  | zero => rfl
  | succ k ih => simp only [beginOfF]; rw [h k (by omega), ih _ (fun j hj => h j (by omega))]
theorem rowStart_c {f g : Nat → Int32} (dp : Int32) (k : Nat) (h : ∀ j, j < k → f j = g j) : rowStartF f dp k = rowStartF g dp k := by
  induction k generalizing dp with
  | zero => rfl
  | succ k ih => simp only [rowStartF]; rw [h k (by omega), ih _ (fun j hj => h j (by omega))]
theorem all_c {f g : Nat → Int32} {to : Nat} (h : ∀ j, j < to → f j = g j) (c k : Nat) : allF f to c k = allF g to c k := by
  fun_induction allF f to c k with
  | case1 c k h1 ih => rw [ih]; conv => rhs; rw [allF, if_pos h1, ← h k h1]
  | case2 c k h1 => rw [allF, if_neg h1]
theorem lev_c {f g : Nat → Int32} {to : Nat} (h : ∀ j, j < to → f j = g j) (c : Int32) (k : Nat) : levF f to c k = levF g to c k := by
  fun_induction levF f to c k with
  | case1 c k h1 ih => rw [ih]; conv => rhs; rw [levF, if_pos h1, ← h k h1]
  | case2 c k h1 => rw [levF, if_neg h1]
theorem deep_c {f g : Nat → Int32} {to : Nat} (h : ∀ j, j < to → f j = g j) (c mo : Int32) (k : Nat) : deepF f to c mo k = deepF g to c mo k := by
  fun_induction deepF f to c mo k with
  | case1 c mo k h1 ih => simp only [dite_eq_ite] at ih; rw [ih]; conv => rhs; rw [deepF, if_pos h1, ← h k h1]
  | case2 c mo k h1 => rw [deepF, if_neg h1]
theorem all_le {f : Nat → Int32} {a b n : Nat} (hb : b ≤ n) (c : Nat) : ∀ k, k ≤ a → a ≤ b → c + allF f b 0 a ≤ allF f n c k := by
  have mono : ∀ t to k c, to - k < t → c ≤ allF f to c k := by
    intro t
    induction t with
    | zero => intro to k c h; omega
    | succ t ih =>
      intro to k c h
      rw [allF]; split
      · exact Nat.le_trans (Nat.le_add_right _ _) (ih to (k + 1) _ (by omega))
      · exact Nat.le_refl _
  have add : ∀ t to k c, to - k < t → allF f to c k = c + allF f to 0 k := by
    intro t
    induction t with
    | zero => intro to k c h; omega
    | succ t ih =>
      intro to k c h
      rw [allF]; conv => rhs; rw [allF]
      split
      · rw [ih to (k + 1) _ (by omega), ih to (k + 1) (0 + _) (by omega)]; omega
      · rfl
  have ext : ∀ t k c, n - k < t → k ≤ b → allF f b c k ≤ allF f n c k := by
    intro t
    induction t with
    | zero => intro k c h; omega
    | succ t ih =>
      intro k c h hk
      rw [allF]; conv => rhs; rw [allF]
      by_cases h1 : k < b
      · rw [if_pos h1, if_pos (by omega)]; exact ih (k + 1) _ (by omega) (by omega)
      · rw [if_neg h1]
        split
        · exact Nat.le_trans (Nat.le_add_right _ _) (mono _ n (k + 1) _ (Nat.lt_succ_self _))
        · exact Nat.le_refl _
  intro k hk hab
  have skip : ∀ t k c, a - k < t → k ≤ a → c + allF f b 0 a ≤ allF f n c k := by
    intro t
    induction t with
    | zero => intro k c h; omega
    | succ t ih =>
      intro k c h hk
      by_cases h1 : k = a
      · subst h1
        rw [← add _ b k c (Nat.lt_succ_self _)]
        exact ext _ k c (Nat.lt_succ_self _) hab
      · conv => rhs; rw [allF, if_pos (show k < n by omega)]
        have := ih (k + 1) (c + oneF (f k)) (by omega) (by omega)
        omega
  exact skip _ k c (Nat.lt_succ_self _) hk
section TW2
variable {w : XW} {m : XM} {d : Nat} {r c : Nat} {f : Nat → Int32} {L : List Int32}
/-- what is behind: another page in its place -/
def xPg (r : Nat) (m : XM) (v : Option Value) (L : List Int32) (c : Nat) (fr : Option Nat) : Option Value → XM → Prop := fun v' m' => v = v' ∧ ∃ f', Pg f' L c fr ∧ m' = xu m r (iA 0 184 f')
theorem c_clearN (hd : 2 ≤ d) (hm : m r = some (iA 0 184 f)) (hp : Pg f L c none) : CT w MX5_clear d 0 0 [.ref r] m (xPg r m none L c none) xN := by
  obtain ⟨⟨h1, h180, h3⟩, h181, h182⟩ := id hp
  have h182 : f 182 = -9 := h182
  refine ct_intro (lv := [some (.ref r)]) 0 (by decide) rfl (Nat.le_of_ble_eq_true rfl) rfl ?_
  first | refine g_aload_n dX5_clear_0 rfl rfl rfl ?_ | refine g_aload_nR dX5_clear_0 rfl rfl rfl ?_ | refine g_aload_nN dX5_clear_0 rfl rfl rfl ?_
  refine g_sipush (v := (nI 182)) dX5_clear_1 rfl rfl ?_
  refine g_ialdn dX5_clear_4 rfl (Or.inl (by first | assumption | exact xu_eq _ _ _)) (j := 182) (by omega) (by omega) ?_
  rw [h182]
  refine g_bipush (v := (-9)) dX5_clear_5 rfl rfl ?_
  refine g_icmp_eq (tgt := 41) dX5_clear_7 (by decide) rfl (fun c_7 => ?_) (fun c_7 => ?_)
  · refine g_return dX5_clear_41 rfl ?_
    exact ⟨rfl, f, hp, (xu_self hm).symm⟩
  · exact absurd rfl c_7
theorem c_clearS {a : Nat} (hd : 2 ≤ d) (hm : m r = some (iA 0 184 f)) (hp : Pg f L c (some a)) (hac : a ≤ c) (hc : c ≤ L.length) : CT w MX5_clear d 0 0 [.ref r] m (xPg r m none (remL L a c) a none) xN := by
  obtain ⟨⟨h1, h180, h3⟩, h181, h182⟩ := id hp
  have h182 : f 182 = nI a := h182
  have hne : ¬ nI a = -9 := fun e => by
    have := (frI_n (fr := some a) (by intro b hb; cases hb; omega)).mp e
    cases this
  have hr := fun (k : Nat) (hk : 180 < k) => rem_hi (f := f) (k := k) (x := nI (L.length - (c - a))) h3 hac hc hk
  refine ct_intro (lv := [some (.ref r)]) 0 (by decide) rfl (Nat.le_of_ble_eq_true rfl) rfl ?_
  first | refine g_aload_n dX5_clear_0 rfl rfl rfl ?_ | refine g_aload_nR dX5_clear_0 rfl rfl rfl ?_ | refine g_aload_nN dX5_clear_0 rfl rfl rfl ?_
  refine g_sipush (v := (nI 182)) dX5_clear_1 rfl rfl ?_
  refine g_ialdn dX5_clear_4 rfl (Or.inl (by first | assumption | exact xu_eq _ _ _)) (j := 182) (by omega) (by omega) ?_
  rw [h182]
  refine g_bipush (v := (-9)) dX5_clear_5 rfl rfl ?_
  refine g_icmp_eq (tgt := 41) dX5_clear_7 (by decide) rfl (fun c_7 => ?_) (fun c_7 => ?_)
  · exact absurd c_7 hne
  · first | refine g_aload_n dX5_clear_10 rfl rfl rfl ?_ | refine g_aload_nR dX5_clear_10 rfl rfl rfl ?_ | refine g_aload_nN dX5_clear_10 rfl rfl rfl ?_
    first | refine g_aload_n dX5_clear_11 rfl rfl rfl ?_ | refine g_aload_nR dX5_clear_11 rfl rfl rfl ?_ | refine g_aload_nN dX5_clear_11 rfl rfl rfl ?_
    refine g_sipush (v := (nI 182)) dX5_clear_12 rfl rfl ?_
    refine g_ialdn dX5_clear_15 rfl (Or.inl (by first | assumption | exact xu_eq _ _ _)) (j := 182) (by omega) (by omega) ?_
    rw [h182]
    first | refine g_aload_n dX5_clear_16 rfl rfl rfl ?_ | refine g_aload_nR dX5_clear_16 rfl rfl rfl ?_ | refine g_aload_nN dX5_clear_16 rfl rfl rfl ?_
    refine g_sipush (v := (nI 181)) dX5_clear_17 rfl rfl ?_
    refine g_ialdn dX5_clear_20 rfl (Or.inl (by first | assumption | exact xu_eq _ _ _)) (j := 181) (by omega) (by omega) ?_
    rw [h181]
    refine g_staticR iS_X5_remove q2634 (c_remove (d := d - 1) (by omega) hm h180 h3 hac hc) dX5_clear_21 rfl rfl rfl (by first | exact Nat.le_of_ble_eq_true rfl | simp [Value.category, rf_cat]) (by omega) (by omega) (by omega) xN_no ?_
    have h182 := (hr 182 (by omega)).trans h182
    first | refine g_aload_n dX5_clear_24 rfl rfl rfl ?_ | refine g_aload_nR dX5_clear_24 rfl rfl rfl ?_ | refine g_aload_nN dX5_clear_24 rfl rfl rfl ?_
    refine g_sipush (v := (nI 181)) dX5_clear_25 rfl rfl ?_
    first | refine g_aload_n dX5_clear_28 rfl rfl rfl ?_ | refine g_aload_nR dX5_clear_28 rfl rfl rfl ?_ | refine g_aload_nN dX5_clear_28 rfl rfl rfl ?_
    refine g_sipush (v := (nI 182)) dX5_clear_29 rfl rfl ?_
    refine g_ialdn dX5_clear_32 rfl (Or.inl (by first | assumption | exact xu_eq _ _ _)) (j := 182) (by omega) (by omega) ?_
    rw [h182]
    refine g_iastnU dX5_clear_33 rfl (by omega) (by omega) (j := 181) ?_
    first | refine g_aload_n dX5_clear_34 rfl rfl rfl ?_ | refine g_aload_nR dX5_clear_34 rfl rfl rfl ?_ | refine g_aload_nN dX5_clear_34 rfl rfl rfl ?_
    refine g_sipush (v := (nI 182)) dX5_clear_35 rfl rfl ?_
    refine g_bipush (v := (-9)) dX5_clear_38 rfl rfl ?_
    refine g_iastnU dX5_clear_40 rfl (by omega) (by omega) (j := 182) ?_
    refine g_return dX5_clear_41 rfl ?_
    exact ⟨rfl, _, ⟨pl_u (pl_u (pl_rem hp.1 hac hc) (by omega)) (by omega), by rw [upd_ne (by omega), upd_eq], upd_eq _ _ _⟩, rfl⟩
end TW2
