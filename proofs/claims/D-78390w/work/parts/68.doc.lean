/-! A TREE IN THE STORE -/
set_option maxRecDepth 100000
/-- what the store holds of an element -/
def EK (T : XT) : XE → Prop
  | .inl (c, i, r) => T.2.1 i = some (.inl c) ∧ T.2.2 i = some r
  | .inr (.inl (k, i, r, o, p)) => (∃ rs rd, T.2.1 i = some (.inr (k, o, p, rs, rd))) ∧ T.2.2 i = some r ∧ (∃ cap is, T.1 o = some (some i, 0, cap, is)) ∧ (k = 1 → ∃ cap is, T.1 p = some (some i, 1, cap, is))
  | _ => True
/-- a row with all that is in it -/
def DT (T : XT) (r : Nat) (M : List XE) : Prop := Bd r M ∧ (r :: opn M).Nodup ∧ (itm M).Nodup ∧ (∀ s ∈ r :: opn M, ∃ own sl cap, T.1 s = some (own, sl, cap, drs s M)) ∧ ∀ x ∈ M, EK T x
theorem dt_row {T : XT} {r : Nat} {M : List XE} (h : DT T r M) : ∃ own sl cap, T.1 r = some (own, sl, cap, drs r M) := h.2.2.2.1 r List.mem_cons_self
theorem drs_sS (c i r : Nat) (Y : List XE) : drs r (eS c i r :: Y) = i :: drs r Y := by
  show (if r = r then i :: drs r Y else drs r Y) = _
  rw [if_pos rfl]
theorem drs_own {r k i o p : Nat} {A B : List XE} (hA : Bd o A) (hB : k = 1 → Bd p B) (h : r ∉ opn (sI k i r o p A B)) : drs r (sI k i r o p A B) = [i] := by
  rw [opn_sI] at h
  rw [drs_sI, if_pos rfl]
  by_cases hk : k = 1
  · rw [if_pos hk] at h ⊢
    simp only [List.mem_cons, List.mem_append, not_or] at h
    rw [drs_out hA h.1 h.2.2.1, drs_out (hB hk) h.2.1 h.2.2.2]; rfl
  · rw [if_neg hk] at h ⊢
    simp only [List.mem_cons, not_or] at h
    rw [drs_out hA h.1 h.2]; rfl
theorem dt_sym {T : XT} {r c i : Nat} {X Y : List XE} (h : DT T r (X ++ eS c i r :: Y)) : drs r (X ++ eS c i r :: Y) = drs r X ++ i :: drs r Y ∧ T.2.1 i = some (.inl c) ∧ T.2.2 i = some r := by
  refine ⟨by rw [drs_app, drs_sS], ?_⟩
  exact h.2.2.2.2 (eS c i r) (by simp)
theorem dt_str {T : XT} {r k i o p : Nat} {A B X Y : List XE} (h : DT T r (X ++ (sI k i r o p A B ++ Y))) (hX : Bd r X) (hA : Bd o A) (hB : k = 1 → Bd p B) (hY : Bd r Y) :
    drs r (X ++ (sI k i r o p A B ++ Y)) = drs r X ++ i :: drs r Y ∧ drs r (sI k i r o p A B) = [i] ∧ DT T o A ∧ (k = 1 → DT T p B) ∧ (∃ rs rd, T.2.1 i = some (.inr (k, o, p, rs, rd))) ∧ T.2.2 i = some r ∧ (∃ cap, T.1 o = some (some i, 0, cap, drs o A)) ∧ (k = 1 → p ≠ o ∧ ∃ cap, T.1 p = some (some i, 1, cap, drs p B)) := by
  obtain ⟨h1, h2, h3, h4, h5⟩ := h
  have hop : opn (X ++ (sI k i r o p A B ++ Y)) = opn X ++ (opn (sI k i r o p A B) ++ opn Y) := by rw [opn_app, opn_app]
  have hit : itm (X ++ (sI k i r o p A B ++ Y)) = itm X ++ (itm (sI k i r o p A B) ++ itm Y) := by rw [itm_app, itm_app]
  rw [hop] at h2 h4
  rw [hit] at h3
  have hr : r ∉ opn (sI k i r o p A B) := by
    intro hm
    rw [List.nodup_cons] at h2
    exact h2.1 (List.mem_append_right _ (List.mem_append_left _ hm))
  have hself := drs_own hA hB hr
  have hdr : ∀ s ∈ opn (sI k i r o p A B), drs s (X ++ (sI k i r o p A B ++ Y)) = drs s (sI k i r o p A B) := by
    intro s hs
    have e1 : s ≠ r := fun e => hr (e ▸ hs)
    rw [List.nodup_cons, List.nodup_append, List.nodup_append] at h2
    have e2 : s ∉ opn X := fun hx => h2.2.2.2 s hx s (List.mem_append_left _ hs) rfl
    have e3 : s ∉ opn Y := fun hy => h2.2.2.1.2.2 s hs s hy rfl
    rw [drs_app, drs_app, drs_out hX e1 e2, drs_out hY e1 e3]; simp
  have hek : EK T (eB k i r o p) := by
    refine h5 _ ?_
    unfold sI
    simp
  obtain ⟨k1, k2, ⟨c3, i3, k3⟩, k4⟩ := hek
  have hmA : ∀ x ∈ A, x ∈ X ++ (sI k i r o p A B ++ Y) := by
    intro x hx; unfold sI
    simp only [List.mem_append, List.mem_cons]
    exact Or.inr (Or.inl (Or.inr (Or.inl hx)))
  have hnsI : (opn (sI k i r o p A B)).Nodup := by
    rw [List.nodup_cons, List.nodup_append, List.nodup_append] at h2
    exact h2.2.2.1.1
  have hisI : (itm (sI k i r o p A B)).Nodup := by
    rw [List.nodup_append, List.nodup_append] at h3
    exact h3.2.1.1
  by_cases hk : k = 1
  · have eo : opn (sI k i r o p A B) = o :: p :: (opn A ++ opn B) := by rw [opn_sI, if_pos hk]
    have ei : itm (sI k i r o p A B) = i :: (itm A ++ itm B) := by rw [itm_sI, if_pos hk]
    rw [eo] at hnsI hdr hr h4
    rw [ei] at hisI
    have hmB : ∀ x ∈ B, x ∈ X ++ (sI k i r o p A B ++ Y) := by
      intro x hx; unfold sI
      simp only [List.mem_append, List.mem_cons, if_pos hk]
      exact Or.inr (Or.inl (Or.inr (Or.inr (Or.inl (Or.inr hx)))))
    simp only [List.nodup_cons, List.nodup_append, List.mem_cons, List.mem_append, not_or] at hnsI hisI hr
    obtain ⟨⟨n1, n2, n3⟩, ⟨n4, n5⟩, n6, n7, n8⟩ := hnsI
    obtain ⟨⟨j1, j2⟩, j3, j4, j5⟩ := hisI
    have dA : ∀ s, s ∈ o :: opn A → drs s (X ++ (sI k i r o p A B ++ Y)) = drs s A := by
      intro s hs
      have hs' : s ∈ o :: p :: (opn A ++ opn B) := by
        rcases List.mem_cons.mp hs with rfl | hs
        · simp
        · simp [hs]
      rw [hdr s hs', drs_sI, if_pos hk]
      have a1 : r ≠ s := by
        rintro rfl
        rcases List.mem_cons.mp hs with e | hs
        · exact hr.1 e
        · exact hr.2.2.1 hs
      have a2 : drs s B = [] := by
        refine drs_out (hB hk) ?_ ?_
        · rintro rfl
          rcases List.mem_cons.mp hs with e | hs
          · exact n1 e.symm
          · exact n4 hs
        · intro hb
          rcases List.mem_cons.mp hs with rfl | hs
          · exact n3 hb
          · exact n8 s hs s hb rfl
      rw [if_neg a1, a2]; simp
    have dB : ∀ s, s ∈ p :: opn B → drs s (X ++ (sI k i r o p A B ++ Y)) = drs s B := by
      intro s hs
      have hs' : s ∈ o :: p :: (opn A ++ opn B) := by
        rcases List.mem_cons.mp hs with rfl | hs
        · simp
        · simp [hs]
      rw [hdr s hs', drs_sI, if_pos hk]
      have a1 : r ≠ s := by
        rintro rfl
        rcases List.mem_cons.mp hs with e | hs
        · exact hr.2.1 e
        · exact hr.2.2.2 hs
      have a2 : drs s A = [] := by
        refine drs_out hA ?_ ?_
        · rintro rfl
          rcases List.mem_cons.mp hs with e | hs
          · exact n1 e
          · exact n3 hs
        · intro hb
          rcases List.mem_cons.mp hs with rfl | hs
          · exact n4 hb
          · exact n8 s hb s hs rfl
      rw [if_neg a1, a2]; simp
    have rA : ∀ s ∈ o :: opn A, ∃ own sl cap, T.1 s = some (own, sl, cap, drs s A) := by
      intro s hs
      obtain ⟨ow, sl, cap, e⟩ := h4 s (by
        rcases List.mem_cons.mp hs with rfl | hs
        · simp
        · simp [hs])
      rw [dA s hs] at e; exact ⟨ow, sl, cap, e⟩
    have rB : ∀ s ∈ p :: opn B, ∃ own sl cap, T.1 s = some (own, sl, cap, drs s B) := by
      intro s hs
      obtain ⟨ow, sl, cap, e⟩ := h4 s (by
        rcases List.mem_cons.mp hs with rfl | hs
        · simp
        · simp [hs])
      rw [dB s hs] at e; exact ⟨ow, sl, cap, e⟩
    refine ⟨?_, hself, ⟨hA, List.nodup_cons.mpr ⟨n2, n6⟩, j3, rA, fun x hx => h5 x (hmA x hx)⟩, fun _ => ⟨hB hk, List.nodup_cons.mpr ⟨n5, n7⟩, j4, rB, fun x hx => h5 x (hmB x hx)⟩, k1, k2, ?_, fun _ => ⟨fun e => n1 e.symm, ?_⟩⟩
    · rw [drs_app, drs_app, hself]; rfl
    · obtain ⟨ow, sl, cap, e⟩ := rA o List.mem_cons_self
      rw [k3] at e; cases e
      exact ⟨_, k3⟩
    · obtain ⟨ow, sl, cap, e⟩ := rB p List.mem_cons_self
      obtain ⟨c4, i4, k4⟩ := k4 hk
      rw [k4] at e; cases e
      exact ⟨_, k4⟩
  · have eo : opn (sI k i r o p A B) = o :: opn A := by rw [opn_sI, if_neg hk]
    have ei : itm (sI k i r o p A B) = i :: itm A := by rw [itm_sI, if_neg hk]; simp
    rw [eo] at hnsI hdr hr h4
    rw [ei] at hisI
    simp only [List.mem_cons, not_or] at hr
    have dA : ∀ s, s ∈ o :: opn A → drs s (X ++ (sI k i r o p A B ++ Y)) = drs s A := by
      intro s hs
      rw [hdr s hs, drs_sI, if_neg hk]
      have a1 : r ≠ s := by
        rintro rfl
        rcases List.mem_cons.mp hs with e | hs
        · exact hr.1 e
        · exact hr.2 hs
      rw [if_neg a1]; simp
    have rA : ∀ s ∈ o :: opn A, ∃ own sl cap, T.1 s = some (own, sl, cap, drs s A) := by
      intro s hs
      obtain ⟨ow, sl, cap, e⟩ := h4 s (by
        rcases List.mem_cons.mp hs with rfl | hs
        · simp
        · simp [hs])
      rw [dA s hs] at e; exact ⟨ow, sl, cap, e⟩
    refine ⟨?_, hself, ⟨hA, hnsI, (List.nodup_cons.mp hisI).2, rA, fun x hx => h5 x (hmA x hx)⟩, fun h => absurd h hk, k1, k2, ?_, fun h => absurd h hk⟩
    · rw [drs_app, drs_app, hself]; rfl
    · obtain ⟨ow, sl, cap, e⟩ := rA o List.mem_cons_self
      rw [k3] at e; cases e
      exact ⟨_, k3⟩
