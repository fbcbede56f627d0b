/-! DOCUMENTS: another caret, another selection -/
set_option maxRecDepth 100000
theorem dc_mv2 {w : XW} {id D : Nat} {g : XG} {m : XM} {T : XT} {top r : Nat} {P N Q : List XE} {q : Option Nat} {S : XK} (h : DC w g m id D T top r P N Q q S) {r' i s : Nat} {P' N' Q' : List XE} {q' : Option Nat} {S' : XK} (e : P ++ (N ++ Q) = P' ++ (N' ++ Q')) (hP : scn [(top, none)] P' = some ((r', q') :: S')) (hN : Bd r' N') (hi : i = (drs r' (P' ++ N')).length) (hs : s = (drs r' N').length) : DC w g (xu m D (.inr (2, [.ref top, .ref r', .int (nI i), .int (nI s)]))) id D T top r' P' N' Q' q' S' := by
  obtain ⟨h1, h2, ⟨h3, h3'⟩, h4, ⟨sl0, cap0, h5⟩, h6, h7, h8, h9⟩ := h
  have hgD : (g D).1 ≠ id := by rw [h3]; exact fun e => h3' e.symm
  subst hi; subst hs
  refine ⟨sm_D h1 hgD (by rw [h2]; exact fun h => by cases h), xu_eq _ _ _, ⟨h3, h3'⟩, ?_, ?_, hP, hN, ?_, ?_⟩
  · rw [← e]; exact h4
  · rw [← e]; exact ⟨_, _, h5⟩
  · rw [← e]; exact h8
  · rw [← e]; exact h9
/-- one item has one address -/
theorem it1_1 {r : Nat} {X : List XE} (h : It1 r X) (hr : r ∉ opn X) : ∃ x, drs r X = [x] := by
  rcases h with ⟨c, i, rfl⟩ | ⟨k, i, o, p, A, B, rfl, hA, hB⟩
  · exact ⟨i, by rw [drs_sS]; rfl⟩
  · exact ⟨i, drs_own hA hB hr⟩
/-- the row of the caret is opened once -/
theorem dc_nor {w : XW} {id D : Nat} {g : XG} {m : XM} {T : XT} {top r : Nat} {P N Q X Y : List XE} {q q' : Option Nat} {S S' : XK} {P' : List XE} (h : DC w g m id D T top r P N Q q S) (e : P ++ (N ++ Q) = P' ++ (X ++ Y)) (hP : scn [(top, none)] P' = some ((r, q') :: S')) (hX : Bd r X) : r ∉ opn X := by
  have h4 := h.2.2.2.1
  rw [e] at h4
  exact (List.nodup_cons.mp (pt_of h4 (ho_of h4.1 hP hX) hX).2.1).1
