/-! THE SAME SHAPE -/
set_option maxRecDepth 100000
theorem sh_app {A B L : List XE} (h : L.map shE = (A ++ B).map shE) : ∃ A' B', L = A' ++ B' ∧ A'.map shE = A.map shE ∧ B'.map shE = B.map shE := by
  rw [List.map_append] at h
  obtain ⟨A', B', e, h1, h2⟩ := List.map_eq_append_iff.mp h
  exact ⟨A', B', e, h1, h2⟩
theorem sh_cons {x : XE} {B L : List XE} (h : L.map shE = (x :: B).map shE) : ∃ y B', L = y :: B' ∧ shE y = shE x ∧ B'.map shE = B.map shE := by
  cases L with
  | nil => simp at h
  | cons y L =>
    rw [List.map_cons, List.map_cons] at h
    obtain ⟨h1, h2⟩ := List.cons.inj h
    exact ⟨y, L, rfl, h1, h2⟩
theorem sh_S {y : XE} {c i r : Nat} (h : shE y = shE (eS c i r)) : ∃ i' r', y = eS c i' r' := by
  obtain ⟨c', i', r'⟩ | ⟨k, i', r', o, p⟩ | b := y <;> simp [shE] at h
  subst h; exact ⟨i', r', rfl⟩
theorem sh_B {y : XE} {k i r o p : Nat} (h : shE y = shE (eB k i r o p)) : ∃ i' r' o' p', y = eB k i' r' o' p' := by
  obtain ⟨c', i', r'⟩ | ⟨k', i', r', o', p'⟩ | b := y <;> simp [shE] at h
  subst h; exact ⟨i', r', o', p', rfl⟩
theorem sh_b {y : XE} {b : Bool} (h : shE y = shE (.inr (.inr b))) : y = .inr (.inr b) := by
  obtain ⟨c', i', r'⟩ | ⟨k', i', r', o', p'⟩ | b' := y <;> simp [shE] at h
  subst h; rfl
theorem nd_tail {r : Nat} {X M : List XE} (h : (r :: opn (X ++ M)).Nodup) : r ∉ opn X ∧ (r :: opn M).Nodup := by
  rw [opn_app, List.nodup_cons, List.nodup_append] at h
  exact ⟨fun hm => h.1 (List.mem_append_left _ hm), List.nodup_cons.mpr ⟨fun hm => h.1 (List.mem_append_right _ hm), h.2.2.1⟩⟩
/-- items of the shape of a row's items, where a scan goes through -/
theorem sh_bd : ∀ (r : Nat) (N : List XE), Bd r N → ∀ (N' : List XE) (f : Nat × Option Nat) (S S2 : XK), N'.map shE = N.map shE → scn (f :: S) N' = some S2 → Bd f.1 N' ∧ S2 = f :: S ∧ ((f.1 :: opn N').Nodup → (r :: opn N).Nodup → (drs f.1 N').length = (drs r N).length) := by
  refine bd_ind (fun r N' f S S2 h hs => ?_) (fun r c i M hb ih N' f S S2 h hs => ?_) (fun r k i o p A B M hA hB hM iA iB iM N' f S S2 h hs => ?_)
  · have : N' = [] := by simpa using h
    subst this
    rw [scn_nil] at hs; cases hs
    exact ⟨bd_nil _, rfl, fun _ _ => rfl⟩
  · obtain ⟨y, M', rfl, h1, h2⟩ := sh_cons h
    obtain ⟨i', r', rfl⟩ := sh_S h1
    obtain ⟨S1, s1, s2⟩ := scn_cons' hs
    obtain ⟨rfl, rfl⟩ := stp_S s1
    obtain ⟨a1, a2, a3⟩ := ih M' f S S2 h2 s2
    exact ⟨bd_sym c i' a1, a2, fun n1 n2 => by rw [drs_sS, drs_sS, List.length_cons, List.length_cons, a3 n1 n2]⟩
  · obtain ⟨X, M', rfl, h1, h2⟩ := sh_app h
    by_cases hk : k = 1
    · subst hk
      rw [sI_1] at h1
      obtain ⟨y, X1, rfl, h3, h4⟩ := sh_cons h1
      obtain ⟨i', r', o', p', rfl⟩ := sh_B h3
      obtain ⟨A', X2, rfl, h5, h6⟩ := sh_app h4
      rw [List.cons_append] at h6
      obtain ⟨y2, X3, rfl, h7, h8⟩ := sh_cons h6
      have := sh_b h7; subst this
      obtain ⟨B', X4, rfl, h9, h10⟩ := sh_app h8
      obtain ⟨y3, X5, rfl, h11, h12⟩ := sh_cons h10
      have := sh_b h11; subst this
      have : X5 = [] := by simpa using h12
      subst this
      rw [List.cons_append] at hs
      obtain ⟨S1, s1, s2⟩ := scn_cons' hs
      obtain ⟨rfl, rfl⟩ := stp_B s1
      rw [List.append_assoc] at s2
      obtain ⟨S3, s3, s4⟩ := scn_split s2
      obtain ⟨a1, rfl, -⟩ := iA A' _ _ _ h5 s3
      rw [List.cons_append] at s4
      obtain ⟨S5, s5, s6⟩ := scn_cons' s4
      have s5' : S5 = (p', none) :: f :: S := by
        have : stp ((o', some p') :: f :: S) eD = some S5 := s5
        rw [stp_sD] at this; cases this; rfl
      subst s5'
      rw [List.append_assoc] at s6
      obtain ⟨S7, s7, s8⟩ := scn_split s6
      obtain ⟨b1, rfl, -⟩ := iB rfl B' _ _ _ h9 s7
      rw [List.cons_append, List.nil_append] at s8
      obtain ⟨S9, s9, s10⟩ := scn_cons' s8
      rw [stp_sN] at s9; cases s9
      obtain ⟨m1, m2, m3⟩ := iM M' f S S2 h2 s10
      have e : eB 1 i' f.1 o' p' :: (A' ++ eD :: (B' ++ [eN])) = sI 1 i' f.1 o' p' A' B' := by rw [sI_1]; rfl
      have e' : (eB 1 i' f.1 o' p' :: (A' ++ .inr (.inr false) :: (B' ++ [.inr (.inr true)]))) = sI 1 i' f.1 o' p' A' B' := e
      rw [e']
      refine ⟨bd_app (bd_sI a1 (fun _ => b1)) m1, m2, fun n1 n2 => ?_⟩
      obtain ⟨n3, n4⟩ := nd_tail n1
      obtain ⟨n5, n6⟩ := nd_tail n2
      rw [drs_app, drs_app, drs_own a1 (fun _ => b1) n3, drs_own hA hB n5, List.length_append, List.length_append, m3 n4 n6]; rfl
    · rw [sI_n hk] at h1
      obtain ⟨y, X1, rfl, h3, h4⟩ := sh_cons h1
      obtain ⟨i', r', o', p', rfl⟩ := sh_B h3
      obtain ⟨A', X2, rfl, h5, h6⟩ := sh_app h4
      obtain ⟨y3, X5, rfl, h11, h12⟩ := sh_cons h6
      have := sh_b h11; subst this
      have : X5 = [] := by simpa using h12
      subst this
      rw [List.cons_append] at hs
      obtain ⟨S1, s1, s2⟩ := scn_cons' hs
      obtain ⟨rfl, rfl⟩ := stp_B s1
      rw [List.append_assoc] at s2
      obtain ⟨S3, s3, s4⟩ := scn_split s2
      obtain ⟨a1, rfl, -⟩ := iA A' _ _ _ h5 s3
      rw [List.cons_append, List.nil_append] at s4
      obtain ⟨S9, s9, s10⟩ := scn_cons' s4
      have s9' : S9 = f :: S := by
        have e : eP k p' = none := by unfold eP; rw [if_neg hk]
        rw [e] at s9
        have : stp ((o', none) :: f :: S) eN = some S9 := s9
        rw [stp_sN] at this; cases this; rfl
      subst s9'
      obtain ⟨m1, m2, m3⟩ := iM M' f S S2 h2 s10
      have e' : (eB k i' f.1 o' p' :: (A' ++ [.inr (.inr true)])) = sI k i' f.1 o' p' A' [] := by rw [sI_n hk]
      rw [e']
      refine ⟨bd_app (bd_sI a1 (fun h => absurd h hk)) m1, m2, fun n1 n2 => ?_⟩
      obtain ⟨n3, n4⟩ := nd_tail n1
      obtain ⟨n5, n6⟩ := nd_tail n2
      rw [drs_app, drs_app, drs_own a1 (fun h => absurd h hk) n3, drs_own hA hB n5, List.length_append, List.length_append, m3 n4 n6]; rfl
