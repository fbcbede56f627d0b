/-! TREES AS FLAT LISTS: the items of a row, the rows that are opened, the items' addresses, heights -/
set_option maxRecDepth 100000
def drs (r : Nat) : List XE → List Nat
  | [] => []
  | .inl (_, i, r') :: L => if r' = r then i :: drs r L else drs r L
  | .inr (.inl (_, i, r', _, _)) :: L => if r' = r then i :: drs r L else drs r L
  | .inr (.inr _) :: L => drs r L
def opn : List XE → List Nat
  | [] => []
  | .inl _ :: L => opn L
  | .inr (.inl (k, _, _, o, p)) :: L => if k = 1 then o :: p :: opn L else o :: opn L
  | .inr (.inr _) :: L => opn L
def itm : List XE → List Nat
  | [] => []
  | .inl (_, i, _) :: L => i :: itm L
  | .inr (.inl (_, i, _, _, _)) :: L => i :: itm L
  | .inr (.inr _) :: L => itm L
/-- the rows that items name as theirs -/
def rws : List XE → List Nat
  | [] => []
  | .inl (_, _, r) :: L => r :: rws L
  | .inr (.inl (_, _, r, _, _)) :: L => r :: rws L
  | .inr (.inr _) :: L => rws L
theorem drs_app (r : Nat) (A B : List XE) : drs r (A ++ B) = drs r A ++ drs r B := by
  induction A with
  | nil => rfl
  | cons x A ih =>
    obtain ⟨c, i, r'⟩ | ⟨k, i, r', o, p⟩ | b := x
    · simp only [List.cons_append, drs, ih]; split <;> rfl
    · simp only [List.cons_append, drs, ih]; split <;> rfl
    · simp only [List.cons_append, drs, ih]
theorem opn_app (A B : List XE) : opn (A ++ B) = opn A ++ opn B := by
  induction A with
  | nil => rfl
  | cons x A ih =>
    obtain ⟨c, i, r'⟩ | ⟨k, i, r', o, p⟩ | b := x
    · simp only [List.cons_append, opn, ih]
    · simp only [List.cons_append, opn, ih]; split <;> rfl
    · simp only [List.cons_append, opn, ih]
theorem itm_app (A B : List XE) : itm (A ++ B) = itm A ++ itm B := by
  induction A with
  | nil => rfl
  | cons x A ih =>
    obtain ⟨c, i, r'⟩ | ⟨k, i, r', o, p⟩ | b := x <;> simp only [List.cons_append, itm, ih]
theorem rws_app (A B : List XE) : rws (A ++ B) = rws A ++ rws B := by
  induction A with
  | nil => rfl
  | cons x A ih =>
    obtain ⟨c, i, r'⟩ | ⟨k, i, r', o, p⟩ | b := x <;> simp only [List.cons_append, rws, ih]
theorem opn_sI (k i r o p : Nat) (A B : List XE) : opn (sI k i r o p A B) = if k = 1 then o :: p :: (opn A ++ opn B) else o :: opn A := by
  by_cases hk : k = 1
  · subst hk; rw [sI_1]; simp [opn, opn_app]
  · rw [sI_n hk]; simp [opn, opn_app, hk]
theorem itm_sI (k i r o p : Nat) (A B : List XE) : itm (sI k i r o p A B) = i :: (itm A ++ if k = 1 then itm B else []) := by
  by_cases hk : k = 1
  · subst hk; rw [sI_1]; simp [itm, itm_app]
  · rw [sI_n hk]; simp [itm, itm_app, hk]
theorem rws_sI (k i r o p : Nat) (A B : List XE) : rws (sI k i r o p A B) = r :: (rws A ++ if k = 1 then rws B else []) := by
  by_cases hk : k = 1
  · subst hk; rw [sI_1]; simp [rws, rws_app]
  · rw [sI_n hk]; simp [rws, rws_app, hk]
theorem drs_sI (s k i r o p : Nat) (A B : List XE) : drs s (sI k i r o p A B) = (if r = s then [i] else []) ++ (drs s A ++ if k = 1 then drs s B else []) := by
  by_cases hk : k = 1
  · subst hk; rw [sI_1]
    simp only [drs, drs_app, List.append_nil, if_true]
    split <;> simp [drs, drs_app]
  · rw [sI_n hk]
    simp only [drs, drs_app, hk, if_false, List.append_nil]
    split <;> simp
/-- an item of a row's names the row or one that is opened in it -/
theorem rws_in : ∀ (r : Nat) (M : List XE), Bd r M → ∀ s ∈ rws M, s = r ∨ s ∈ opn M := by
  refine bd_ind (fun r s hs => by simp [rws] at hs) (fun r c i M hb ih s hs => ?_) (fun r k i o p A B M hA hB hM iA iB iM s hs => ?_)
  · simp only [rws, List.mem_cons] at hs
    rcases hs with rfl | hs
    · exact Or.inl rfl
    · exact ih s hs
  · rw [rws_app, rws_sI] at hs
    rw [opn_app, opn_sI]
    simp only [List.mem_append, List.mem_cons] at hs ⊢
    by_cases hk : k = 1
    · rw [if_pos hk] at hs ⊢
      simp only [List.mem_cons, List.mem_append]
      rcases hs with (rfl | hs | hs) | hs
      · exact Or.inl rfl
      · rcases iA s hs with rfl | h
        · exact Or.inr (Or.inl (Or.inl rfl))
        · exact Or.inr (Or.inl (Or.inr (Or.inr (Or.inl h))))
      · rcases iB hk s hs with rfl | h
        · exact Or.inr (Or.inl (Or.inr (Or.inl rfl)))
        · exact Or.inr (Or.inl (Or.inr (Or.inr (Or.inr h))))
      · rcases iM s hs with rfl | h
        · exact Or.inl rfl
        · exact Or.inr (Or.inr h)
    · rw [if_neg hk] at hs ⊢
      simp only [List.mem_cons]
      rcases hs with (rfl | hs | hs) | hs
      · exact Or.inl rfl
      · rcases iA s hs with rfl | h
        · exact Or.inr (Or.inl (Or.inl rfl))
        · exact Or.inr (Or.inl (Or.inr h))
      · simp at hs
      · rcases iM s hs with rfl | h
        · exact Or.inl rfl
        · exact Or.inr (Or.inr h)
theorem drs_no {s : Nat} {M : List XE} (h : s ∉ rws M) : drs s M = [] := by
  induction M with
  | nil => rfl
  | cons x M ih =>
    obtain ⟨c, i, r'⟩ | ⟨k, i, r', o, p⟩ | b := x
    · simp only [rws, List.mem_cons, not_or] at h
      rw [drs, if_neg (fun e => h.1 e.symm)]; exact ih h.2
    · simp only [rws, List.mem_cons, not_or] at h
      rw [drs, if_neg (fun e => h.1 e.symm)]; exact ih h.2
    · exact ih h
theorem drs_out {r s : Nat} {M : List XE} (h : Bd r M) (h1 : s ≠ r) (h2 : s ∉ opn M) : drs s M = [] :=
  drs_no (fun hs => (rws_in r M h s hs).elim h1 h2)
theorem rws_drs {s : Nat} {M : List XE} (h : drs s M = []) : s ∉ rws M := by
  induction M with
  | nil => simp [rws]
  | cons x M ih =>
    obtain ⟨c, i, r'⟩ | ⟨k, i, r', o, p⟩ | b := x
    · simp only [drs] at h
      by_cases e : r' = s
      · rw [if_pos e] at h; cases h
      · rw [if_neg e] at h
        simp only [rws, List.mem_cons, not_or]
        exact ⟨fun h => e h.symm, ih h⟩
    · simp only [drs] at h
      by_cases e : r' = s
      · rw [if_pos e] at h; cases h
      · rw [if_neg e] at h
        simp only [rws, List.mem_cons, not_or]
        exact ⟨fun h => e h.symm, ih h⟩
    · exact ih h
/-- how many items there are; the height -/
def cnt : List XE → Nat
  | [] => 0
  | .inl _ :: L => cnt L + 1
  | .inr (.inl _) :: L => cnt L + 1
  | .inr (.inr _) :: L => cnt L
def dpF (c mx : Nat) : List XE → Nat
  | [] => mx
  | .inl _ :: L => dpF c mx L
  | .inr (.inl _) :: L => dpF (c + 1) (max mx (c + 1)) L
  | .inr (.inr false) :: L => dpF c mx L
  | .inr (.inr true) :: L => dpF (c - 1) mx L
def hts (L : List XE) : Nat := dpF 0 0 L
theorem cnt_app (A B : List XE) : cnt (A ++ B) = cnt A + cnt B := by
  induction A with
  | nil => simp [cnt]
  | cons x A ih =>
    obtain ⟨c, i, r'⟩ | ⟨k, i, r', o, p⟩ | b := x <;> simp only [List.cons_append, cnt, ih] <;> omega
theorem cnt_sI (k i r o p : Nat) (A B : List XE) : cnt (sI k i r o p A B) = 1 + (cnt A + if k = 1 then cnt B else 0) := by
  by_cases hk : k = 1
  · subst hk; rw [sI_1]; simp [cnt, cnt_app]; omega
  · rw [sI_n hk]; simp [cnt, cnt_app, hk]; omega
theorem dpF_bd : ∀ (r : Nat) (M : List XE), Bd r M → ∀ (c mx : Nat) (N : List XE), dpF c mx (M ++ N) = dpF c (max mx (if hts M = 0 then 0 else c + hts M)) N := by
  have hmx : ∀ (M : List XE) (c mx : Nat), mx ≤ dpF c mx M := by
    intro M
    induction M with
    | nil => intro c mx; exact Nat.le_refl _
    | cons x M ih =>
      intro c mx
      obtain ⟨c', i, r'⟩ | ⟨k, i, r', o, p⟩ | b := x
      · exact ih c mx
      · exact Nat.le_trans (Nat.le_max_left _ _) (ih (c + 1) _)
      · cases b with
        | false => exact ih c mx
        | true => exact ih (c - 1) mx
  refine bd_ind (fun r c mx N => ?_) (fun r c0 i M hb ih c mx N => ?_) (fun r k i o p A B M hA hB hM iA iB iM c mx N => ?_)
  · simp [hts, dpF]
  · exact ih c mx N
  · have one : ∀ (c mx : Nat) (N : List XE), dpF c mx (sI k i r o p A B ++ N) = dpF c (max mx (c + 1 + max (hts A) (if k = 1 then hts B else 0))) N := by
      intro c mx N
      by_cases hk : k = 1
      · subst hk
        rw [sI_1]
        simp only [List.cons_append, List.append_assoc, dpF]
        rw [iA (c + 1) _ _]
        simp only [List.cons_append, List.nil_append, dpF]
        rw [iB rfl (c + 1) _ _]
        simp only [dpF, Nat.add_sub_cancel, if_true]
        congr 1
        split <;> split <;> omega
      · rw [sI_n hk]
        simp only [List.cons_append, List.append_assoc, dpF]
        rw [iA (c + 1) _ _]
        simp only [List.cons_append, List.nil_append, dpF, Nat.add_sub_cancel, hk, if_false]
        congr 1
        split <;> omega
    have one' : ∀ (c mx : Nat) (N : List XE), dpF c mx (sI k i r o p A B ++ N) = dpF c (max mx (c + 1 + max (hts A) (if k = 1 then hts B else 0))) N := one
    generalize max (hts A) (if k = 1 then hts B else 0) = X at one one'
    have e : hts (sI k i r o p A B ++ M) = max (1 + X) (hts M) := by
      have h1 : hts (sI k i r o p A B ++ M) = dpF 0 (max 0 (0 + 1 + X)) M := one 0 0 M
      have h2 := iM 0 (max 0 (0 + 1 + X)) []
      rw [List.append_nil] at h2
      have h3 : dpF 0 (max (max 0 (0 + 1 + X)) (if hts M = 0 then 0 else 0 + hts M)) [] = max (max 0 (0 + 1 + X)) (if hts M = 0 then 0 else 0 + hts M) := rfl
      rw [h1, h2, h3]
      by_cases hM : hts M = 0
      · rw [if_pos hM]; omega
      · rw [if_neg hM]; omega
    rw [List.append_assoc, one, iM, e]
    congr 1
    rw [if_neg (show ¬ max (1 + X) (hts M) = 0 by omega)]
    by_cases hM : hts M = 0
    · rw [if_pos hM]; omega
    · rw [if_neg hM]; omega
theorem hts_nil : hts [] = 0 := rfl
theorem hts_S (c i r : Nat) (M : List XE) : hts (eS c i r :: M) = hts M := rfl
theorem hts_app {r : Nat} {A B : List XE} (hA : Bd r A) (hB : Bd r B) : hts (A ++ B) = max (hts A) (hts B) := by
  have h1 := dpF_bd r A hA 0 0 B
  have h2 := dpF_bd r B hB 0 (max 0 (if hts A = 0 then 0 else 0 + hts A)) []
  rw [List.append_nil] at h2
  show dpF 0 0 (A ++ B) = _
  rw [h1, h2]
  simp only [dpF]
  split <;> split <;> omega
theorem hts_sI {k i r o p : Nat} {A B : List XE} (hA : Bd o A) (hB : k = 1 → Bd p B) : hts (sI k i r o p A B) = 1 + max (hts A) (if k = 1 then hts B else 0) := by
  by_cases hk : k = 1
  · subst hk
    rw [sI_1]
    show dpF 1 1 (A ++ (eD :: B ++ [eN])) = _
    rw [dpF_bd o A hA]
    simp only [List.cons_append, dpF]
    rw [dpF_bd p B (hB rfl)]
    simp only [dpF, if_true]
    split <;> split <;> omega
  · rw [sI_n hk]
    show dpF 1 1 (A ++ [eN]) = _
    rw [dpF_bd o A hA]
    simp only [dpF, hk, if_false]
    split <;> omega
