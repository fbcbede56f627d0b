/-! A ROW AND THE STRUCTURE ABOUT IT -/
set_option maxRecDepth 100000
theorem dt_strH {T : XT} {top r k i o p : Nat} {A B X Y : List XE} {q : Option Nat} {S : XK} (h : DT T top (X ++ (sI k i r o p A B ++ Y))) (hH : HO top X Y r q S) (hA : Bd o A) (hB : k = 1 → Bd p B) :
    drs r (X ++ (sI k i r o p A B ++ Y)) = drs r X ++ i :: drs r Y ∧ drs r (sI k i r o p A B) = [i] ∧ DT T o A ∧ (k = 1 → DT T p B) ∧ (∃ rs rd, T.2.1 i = some (.inr (k, o, p, rs, rd))) ∧ T.2.2 i = some r ∧ (∃ cap, T.1 o = some (some i, 0, cap, drs o A)) ∧ (k = 1 → p ≠ o ∧ ∃ cap, T.1 p = some (some i, 1, cap, drs p B)) := by
  obtain ⟨h1, h2, h3, h4, h5⟩ := h
  have hop : opn (X ++ (sI k i r o p A B ++ Y)) = opn X ++ (opn (sI k i r o p A B) ++ opn Y) := by rw [opn_app, opn_app]
  have hit : itm (X ++ (sI k i r o p A B ++ Y)) = itm X ++ (itm (sI k i r o p A B) ++ itm Y) := by rw [itm_app, itm_app]
  rw [hop] at h2 h4
  rw [hit] at h3
  have hr : r ∉ opn (sI k i r o p A B) := by
    intro hm
    rw [List.nodup_cons, List.nodup_append] at h2
    rcases ho_r hH with rfl | hx
    · exact h2.1 (List.mem_append_right _ (List.mem_append_left _ hm))
    · exact h2.2.2.2 r hx r (List.mem_append_left _ hm) rfl
  have hself := drs_own hA hB hr
  have hdr : ∀ s ∈ opn (sI k i r o p A B), drs s (X ++ (sI k i r o p A B ++ Y)) = drs s (sI k i r o p A B) := by
    intro s hs
    rw [List.nodup_cons, List.nodup_append, List.nodup_append] at h2
    have e4 : s ∉ top :: (opn X ++ opn Y) := by
      simp only [List.mem_cons, List.mem_append, not_or]
      refine ⟨?_, fun hx => h2.2.2.2 s hx s (List.mem_append_left _ hs) rfl, fun hy => h2.2.2.1.2.2 s hs s hy rfl⟩
      rintro rfl
      exact h2.1 (List.mem_append_right _ (List.mem_append_left _ hs))
    obtain ⟨o1, o2⟩ := ho_out (M := []) hH e4
    rw [drs_app, drs_app, o1, o2]; simp
  have hek : EK T (eB k i r o p) := by
    refine h5 _ ?_
    unfold sI
    simp
  obtain ⟨k1, k2, ⟨c3, i3, k3⟩, k4⟩ := hek
  have hmA : ∀ x ∈ A, x ∈ X ++ (sI k i r o p A B ++ Y) := by
    intro x hx; unfold sI
    simp only [List.mem_append, List.mem_cons]
    exact Or.inr (Or.inl (Or.inr (Or.inl hx)))
  have hnsI : (opn (sI k i r o p A B)).Nodup := by
    rw [List.nodup_cons, List.nodup_append, List.nodup_append] at h2
    exact h2.2.2.1.1
  have hisI : (itm (sI k i r o p A B)).Nodup := by
    rw [List.nodup_append, List.nodup_append] at h3
    exact h3.2.1.1
  by_cases hk : k = 1
  · have eo : opn (sI k i r o p A B) = o :: p :: (opn A ++ opn B) := by rw [opn_sI, if_pos hk]
    have ei : itm (sI k i r o p A B) = i :: (itm A ++ itm B) := by rw [itm_sI, if_pos hk]
    rw [eo] at hnsI hdr hr h4
    rw [ei] at hisI
    have hmB : ∀ x ∈ B, x ∈ X ++ (sI k i r o p A B ++ Y) := by
      intro x hx; unfold sI
      simp only [List.mem_append, List.mem_cons, if_pos hk]
      exact Or.inr (Or.inl (Or.inr (Or.inr (Or.inl (Or.inr hx)))))
    simp only [List.nodup_cons, List.nodup_append, List.mem_cons, List.mem_append, not_or] at hnsI hisI hr
    obtain ⟨⟨n1, n2, n3⟩, ⟨n4, n5⟩, n6, n7, n8⟩ := hnsI
    obtain ⟨⟨j1, j2⟩, j3, j4, j5⟩ := hisI
    have dA : ∀ s, s ∈ o :: opn A → drs s (X ++ (sI k i r o p A B ++ Y)) = drs s A := by
      intro s hs
      have hs' : s ∈ o :: p :: (opn A ++ opn B) := by
        rcases List.mem_cons.mp hs with rfl | hs
        · simp
        · simp [hs]
      rw [hdr s hs', drs_sI, if_pos hk]
      have a1 : r ≠ s := by
        rintro rfl
        rcases List.mem_cons.mp hs with e | hs
        · exact hr.1 e
        · exact hr.2.2.1 hs
      have a2 : drs s B = [] := by
        refine drs_out (hB hk) ?_ ?_
        · rintro rfl
          rcases List.mem_cons.mp hs with e | hs
          · exact n1 e.symm
          · exact n4 hs
        · intro hb
          rcases List.mem_cons.mp hs with rfl | hs
          · exact n3 hb
          · exact n8 s hs s hb rfl
      rw [if_neg a1, a2]; simp
    have dB : ∀ s, s ∈ p :: opn B → drs s (X ++ (sI k i r o p A B ++ Y)) = drs s B := by
      intro s hs
      have hs' : s ∈ o :: p :: (opn A ++ opn B) := by
        rcases List.mem_cons.mp hs with rfl | hs
        · simp
        · simp [hs]
      rw [hdr s hs', drs_sI, if_pos hk]
      have a1 : r ≠ s := by
        rintro rfl
        rcases List.mem_cons.mp hs with e | hs
        · exact hr.2.1 e
        · exact hr.2.2.2 hs
      have a2 : drs s A = [] := by
        refine drs_out hA ?_ ?_
        · rintro rfl
          rcases List.mem_cons.mp hs with e | hs
          · exact n1 e
          · exact n3 hs
        · intro hb
          rcases List.mem_cons.mp hs with rfl | hs
          · exact n4 hb
          · exact n8 s hb s hs rfl
      rw [if_neg a1, a2]; simp
    have rA : ∀ s ∈ o :: opn A, ∃ own sl cap, T.1 s = some (own, sl, cap, drs s A) := by
      intro s hs
      obtain ⟨ow, sl, cap, e⟩ := h4 s (by
        rcases List.mem_cons.mp hs with rfl | hs
        · simp
        · simp [hs])
      rw [dA s hs] at e; exact ⟨ow, sl, cap, e⟩
    have rB : ∀ s ∈ p :: opn B, ∃ own sl cap, T.1 s = some (own, sl, cap, drs s B) := by
      intro s hs
      obtain ⟨ow, sl, cap, e⟩ := h4 s (by
        rcases List.mem_cons.mp hs with rfl | hs
        · simp
        · simp [hs])
      rw [dB s hs] at e; exact ⟨ow, sl, cap, e⟩
    refine ⟨?_, hself, ⟨hA, List.nodup_cons.mpr ⟨n2, n6⟩, j3, rA, fun x hx => h5 x (hmA x hx)⟩, fun _ => ⟨hB hk, List.nodup_cons.mpr ⟨n5, n7⟩, j4, rB, fun x hx => h5 x (hmB x hx)⟩, k1, k2, ?_, fun _ => ⟨fun e => n1 e.symm, ?_⟩⟩
    · rw [drs_app, drs_app, hself]; rfl
    · obtain ⟨ow, sl, cap, e⟩ := rA o List.mem_cons_self
      rw [k3] at e; cases e
      exact ⟨_, k3⟩
    · obtain ⟨ow, sl, cap, e⟩ := rB p List.mem_cons_self
      obtain ⟨c4, i4, k4⟩ := k4 hk
      rw [k4] at e; cases e
      exact ⟨_, k4⟩
  · have eo : opn (sI k i r o p A B) = o :: opn A := by rw [opn_sI, if_neg hk]
    have ei : itm (sI k i r o p A B) = i :: itm A := by rw [itm_sI, if_neg hk]; simp
    rw [eo] at hnsI hdr hr h4
    rw [ei] at hisI
    simp only [List.mem_cons, not_or] at hr
    have dA : ∀ s, s ∈ o :: opn A → drs s (X ++ (sI k i r o p A B ++ Y)) = drs s A := by
      intro s hs
      rw [hdr s hs, drs_sI, if_neg hk]
      have a1 : r ≠ s := by
        rintro rfl
        rcases List.mem_cons.mp hs with e | hs
        · exact hr.1 e
        · exact hr.2 hs
      rw [if_neg a1]; simp
    have rA : ∀ s ∈ o :: opn A, ∃ own sl cap, T.1 s = some (own, sl, cap, drs s A) := by
      intro s hs
      obtain ⟨ow, sl, cap, e⟩ := h4 s (by
        rcases List.mem_cons.mp hs with rfl | hs
        · simp
        · simp [hs])
      rw [dA s hs] at e; exact ⟨ow, sl, cap, e⟩
    refine ⟨?_, hself, ⟨hA, hnsI, (List.nodup_cons.mp hisI).2, rA, fun x hx => h5 x (hmA x hx)⟩, fun h => absurd h hk, k1, k2, ?_, fun h => absurd h hk⟩
    · rw [drs_app, drs_app, hself]; rfl
    · obtain ⟨ow, sl, cap, e⟩ := rA o List.mem_cons_self
      rw [k3] at e; cases e
      exact ⟨_, k3⟩

theorem bd_whole {top r : Nat} {P : List XE} {q : Option Nat} (h : scn [(top, none)] P = some [(r, q)]) : r = top ∧ q = none ∧ Bd top P := by
  obtain ⟨S1, h1, -⟩ := scn_bot (S := []) h
  have : S1 = [] := by
    have := congrArg List.length h1
    simpa using this
  subst this
  cases h1
  exact ⟨rfl, rfl, h⟩
/-- a row's context: the row is the tree's own, or a slot of a structure -/
def RC (T : XT) (top : Nat) (P Q : List XE) (r : Nat) (S : XK) (U M1 M2 V : List XE) : Prop :=
  (S = [] ∧ r = top ∧ U = [] ∧ V = []) ∨ ∃ (g : Nat × Option Nat) (S' : XK) (k i o p : Nat) (X1 A B V' : List XE), S = g :: S' ∧ scn [(top, none)] X1 = some (g :: S') ∧ HO top X1 V' g.1 g.2 S' ∧ Bd o A ∧ (k = 1 → Bd p B) ∧ P ++ Q = X1 ++ (sI k i g.1 o p A B ++ V') ∧
    ((r = o ∧ A = M1 ++ M2 ∧ U = X1 ++ [eB k i g.1 o p] ∧ V = (if k = 1 then eD :: B else []) ++ eN :: V') ∨ (k = 1 ∧ r = p ∧ B = M1 ++ M2 ∧ U = X1 ++ eB k i g.1 o p :: (A ++ [eD]) ∧ V = eN :: V'))
theorem rc_of0 {T : XT} {top r : Nat} {P Q : List XE} {q : Option Nat} {S : XK} (h : DT T top (P ++ Q)) (hP : scn [(top, none)] P = some ((r, q) :: S)) :
    ∃ U M1 M2 V, P = U ++ M1 ∧ Q = M2 ++ V ∧ Bd r M1 ∧ Bd r M2 ∧ HO top U V r q S ∧ RC T top P Q r S U M1 M2 V ∧ DT T r (M1 ++ M2) := by
  have hb := h.1
  have hQ : scn ((r, q) :: S) Q = some [(top, none)] := by
    have := hb; unfold Bd at this; rw [scn_app' _ hP] at this; exact this
  cases S with
  | nil =>
    obtain ⟨rfl, rfl, hbP⟩ := bd_whole hP
    exact ⟨[], P, Q, [], rfl, by simp, hbP, hQ, ⟨rfl, rfl⟩, Or.inl ⟨rfl, rfl, rfl, rfl⟩, h⟩
  | cons g S' =>
    obtain ⟨X1, k, i, o, p, A, a1, a2, a3⟩ := e_ctx P.length P (Nat.le_refl _) [(top, none)] (r, q) g S' hP (by simp)
    obtain ⟨A2, B2, M', b1, b2, b3, b4⟩ := e_pop Q.length Q (Nat.le_refl _) r q (g :: S') _ hQ (by simp)
    rcases a3 with ⟨a3, a4⟩ | ⟨B, rfl, a3, a4, a5⟩
    · obtain ⟨e1, e2⟩ := Prod.mk.inj a4
      subst e2
      have e1' := e1.symm
      subst e1'
      have hAA : Bd o (A ++ A2) := bd_app a2 b1
      have hBB : k = 1 → Bd p B2 := fun hk => b2 p (by unfold eP; rw [if_pos hk])
      have hV : (if (eP k p).isSome = true then eD :: B2 else []) = if k = 1 then eD :: B2 else [] := by
        unfold eP; by_cases hk : k = 1 <;> simp [hk]
      rw [hV] at b3
      have hL : P ++ Q = X1 ++ (sI k i g.1 o p (A ++ A2) B2 ++ M') := by rw [a3, b3]; unfold sI; simp
      have hH : HO top X1 M' g.1 g.2 S' := ⟨a1, b4⟩
      have hT := h; rw [hL] at hT
      obtain ⟨-, -, dA, -⟩ := dt_strH hT hH hAA hBB
      have hU : scn [(top, none)] (X1 ++ [eB k i g.1 o p]) = some ((o, eP k p) :: g :: S') := by rw [scn_app' _ a1, scn_cons, stp_sB]; rfl
      refine ⟨X1 ++ [eB k i g.1 o p], A, A2, (if k = 1 then eD :: B2 else []) ++ eN :: M', by rw [a3]; simp, b3, a2, b1, ⟨hU, ?_⟩, Or.inr ⟨g, S', k, i, o, p, X1, A ++ A2, B2, M', rfl, a1, hH, hAA, hBB, hL, Or.inl ⟨rfl, rfl, rfl, rfl⟩⟩, dA⟩
      rw [b3, scn_app' _ (bd_any b1 _ _)] at hQ; exact hQ
    · obtain ⟨e1, e2⟩ := Prod.mk.inj a4
      subst e2
      have e1' := e1.symm
      subst e1'
      have hBB : Bd p (B ++ A2) := bd_app a5 b1
      have b3 : Q = A2 ++ eN :: M' := b3
      have hL : P ++ Q = X1 ++ (sI 1 i g.1 o p A (B ++ A2) ++ M') := by rw [a3, b3, sI_1]; simp
      have hH : HO top X1 M' g.1 g.2 S' := ⟨a1, b4⟩
      have hT := h; rw [hL] at hT
      obtain ⟨-, -, -, dB, -⟩ := dt_strH hT hH a2 (fun _ => hBB)
      have hU : scn [(top, none)] (X1 ++ eB 1 i g.1 o p :: (A ++ [eD])) = some ((p, none) :: g :: S') := by
        rw [scn_app' _ a1, scn_cons, stp_sB]
        show scn ((o, some p) :: g :: S') (A ++ [eD]) = _
        rw [scn_app' _ (bd_any a2 _ _)]; rfl
      refine ⟨X1 ++ eB 1 i g.1 o p :: (A ++ [eD]), B, A2, eN :: M', by rw [a3]; simp, b3, a5, b1, ⟨hU, ?_⟩, Or.inr ⟨g, S', 1, i, o, p, X1, A, B ++ A2, M', rfl, a1, hH, a2, fun _ => hBB, hL, Or.inr ⟨rfl, rfl, rfl, rfl, rfl⟩⟩, dB rfl⟩
      rw [b3, scn_app' _ (bd_any b1 _ _)] at hQ; exact hQ

theorem dt_at {T : XT} {top r : Nat} {U V M : List XE} {q : Option Nat} {S : XK} (h : DT T top (U ++ (M ++ V))) (hH : HO top U V r q S) (hM : Bd r M) : ∃ own sl cap, T.1 r = some (own, sl, cap, drs r (U ++ (M ++ V))) := by
  refine h.2.2.2.1 r ?_
  rcases ho_r hH with rfl | hx
  · exact List.mem_cons_self
  · exact List.mem_cons_of_mem _ (by rw [opn_app]; exact List.mem_append_left _ hx)
theorem rc_of {T : XT} {top r : Nat} {P Q : List XE} {q : Option Nat} {S : XK} (h : DT T top (P ++ Q)) (hP : scn [(top, none)] P = some ((r, q) :: S)) :
    ∃ U M1 M2 V, P = U ++ M1 ∧ Q = M2 ++ V ∧ Bd r M1 ∧ Bd r M2 ∧ HO top U V r q S ∧ RC T top P Q r S U M1 M2 V ∧ DT T r (M1 ++ M2) ∧ drs r U = [] ∧ drs r V = [] ∧ drs r (P ++ Q) = drs r M1 ++ drs r M2 := by
  obtain ⟨U, M1, M2, V, rfl, rfl, h3, h4, h5, h6, h7⟩ := rc_of0 h hP
  refine ⟨U, M1, M2, V, rfl, rfl, h3, h4, h5, h6, h7, ?_⟩
  have e : U ++ M1 ++ (M2 ++ V) = U ++ ((M1 ++ M2) ++ V) := by simp
  rw [e] at h
  obtain ⟨ow, sl, cap, e1⟩ := dt_at h h5 (bd_app h3 h4)
  obtain ⟨ow2, sl2, cap2, e2⟩ := dt_row h7
  rw [e1] at e2
  have e3 : drs r (U ++ ((M1 ++ M2) ++ V)) = drs r (M1 ++ M2) := (Prod.mk.inj (Prod.mk.inj (Prod.mk.inj (Option.some.inj e2)).2).2).2
  have e4 := congrArg List.length e3
  rw [drs_app, drs_app, List.length_append, List.length_append] at e4
  have u0 : drs r U = [] := List.eq_nil_of_length_eq_zero (by omega)
  have v0 : drs r V = [] := List.eq_nil_of_length_eq_zero (by omega)
  refine ⟨u0, v0, ?_⟩
  rw [e, e3, drs_app]
