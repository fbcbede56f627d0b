/-! NEW ITEMS AT THE END OF A ROW -/
set_option maxRecDepth 100000
/-- from T to T': N is new (no address of it was in m), its items are the row t's; else nothing but t's list has changed -/
def FT (m : XM) (T T' : XT) (t : Nat) (N : List XE) : Prop := Bd t N ∧ (opn N).Nodup ∧ (itm N).Nodup ∧ (∀ s ∈ opn N, m s = none) ∧ (∀ i ∈ itm N, m i = none) ∧ (∀ s ∈ opn N, ∃ own sl cap, T'.1 s = some (own, sl, cap, drs s N)) ∧ (∀ x ∈ N, EK T' x) ∧ (∀ s, m s ≠ none → s ≠ t → T'.1 s = T.1 s) ∧ ∀ i, m i ≠ none → T'.2.1 i = T.2.1 i ∧ T'.2.2 i = T.2.2 i
theorem ft_nil (m : XM) (T : XT) (t : Nat) : FT m T T t [] :=
  ⟨bd_nil t, List.nodup_nil, List.nodup_nil, fun s hs => by simp [opn] at hs, fun s hs => by simp [itm] at hs, fun s hs => by simp [opn] at hs, fun x hx => by simp at hx, fun _ _ _ => rfl, fun _ _ => ⟨rfl, rfl⟩⟩
/-- an element's facts stay where its rows' owners and its own do -/
theorem ek_mv {T T' : XT} {x : XE} (h : EK T x) (hk : ∀ i ∈ itm [x], T'.2.1 i = T.2.1 i ∧ T'.2.2 i = T.2.2 i) (hr : ∀ s ∈ opn [x], ∀ ow sl cap is, T.1 s = some (ow, sl, cap, is) → ∃ cap' is', T'.1 s = some (ow, sl, cap', is')) : EK T' x := by
  obtain ⟨c, i, r⟩ | ⟨k, i, r, o, p⟩ | b := x
  · obtain ⟨k1, k2⟩ := hk i (by simp [itm])
    exact ⟨k1.trans h.1, k2.trans h.2⟩
  · obtain ⟨k1, k2⟩ := hk i (by simp [itm])
    obtain ⟨⟨rs, rd, a1⟩, a2, ⟨c3, i3, a3⟩, a4⟩ := h
    refine ⟨⟨rs, rd, k1.trans a1⟩, k2.trans a2, hr o (by by_cases hk1 : k = 1 <;> simp [opn, hk1]) _ _ _ _ a3, fun hk1 => ?_⟩
    obtain ⟨c4, i4, a4⟩ := a4 hk1
    exact hr p (by simp [opn, hk1]) _ _ _ _ a4
  · trivial
theorem itm_sub {x : XE} {L : List XE} (hx : x ∈ L) : ∀ i ∈ itm [x], i ∈ itm L := by
  intro i hi
  obtain ⟨A, B, rfl⟩ := List.append_of_mem hx
  rw [itm_app, show x :: B = [x] ++ B from rfl, itm_app]
  exact List.mem_append_right _ (List.mem_append_left _ hi)
theorem opn_sub {x : XE} {L : List XE} (hx : x ∈ L) : ∀ i ∈ opn [x], i ∈ opn L := by
  intro i hi
  obtain ⟨A, B, rfl⟩ := List.append_of_mem hx
  rw [opn_app, show x :: B = [x] ++ B from rfl, opn_app]
  exact List.mem_append_right _ (List.mem_append_left _ hi)
theorem ft_app {m m1 : XM} {T T1 T2 : XT} {t : Nat} {N1 N2 : List XE} (h1 : FT m T T1 t N1) (h2 : FT m1 T1 T2 t N2) (hm : ∀ a, m a ≠ none → m1 a ≠ none) (ht : m t ≠ none) (hR : ∀ s ∈ opn N1, m1 s ≠ none) (hK : ∀ i ∈ itm N1, m1 i ≠ none) : FT m T T2 t (N1 ++ N2) := by
  obtain ⟨a1, a2, a3, a4, a5, a6, a7, a8, a9⟩ := h1
  obtain ⟨b1, b2, b3, b4, b5, b6, b7, b8, b9⟩ := h2
  have hm' : ∀ a, m1 a = none → m a = none := fun a h => by
    by_cases e : m a = none
    · exact e
    · exact absurd h (hm a e)
  have ht1 : ∀ s ∈ opn N1, s ≠ t := fun s hs e => by subst e; exact ht (a4 _ hs)
  have ht2 : ∀ s ∈ opn N2, s ≠ t := fun s hs e => by subst e; exact ht (hm' _ (b4 _ hs))
  have ho : ∀ s ∈ opn N1, s ∉ opn N2 := fun s h1 h2 => hR s h1 (b4 s h2)
  refine ⟨bd_app a1 b1, ?_, ?_, ?_, ?_, ?_, ?_, ?_, ?_⟩
  · rw [opn_app]
    exact List.nodup_append.mpr ⟨a2, b2, fun x hx y hy e => by subst e; exact hR x hx (b4 x hy)⟩
  · rw [itm_app]
    exact List.nodup_append.mpr ⟨a3, b3, fun x hx y hy e => by subst e; exact hK x hx (b5 x hy)⟩
  · intro s hs
    rw [opn_app] at hs
    rcases List.mem_append.mp hs with hs | hs
    · exact a4 s hs
    · exact hm' s (b4 s hs)
  · intro s hs
    rw [itm_app] at hs
    rcases List.mem_append.mp hs with hs | hs
    · exact a5 s hs
    · exact hm' s (b5 s hs)
  · intro s hs
    rw [opn_app] at hs
    rcases List.mem_append.mp hs with hs | hs
    · obtain ⟨ow, sl, cap, e⟩ := a6 s hs
      refine ⟨ow, sl, cap, ?_⟩
      rw [b8 s (hR s hs) (ht1 s hs), e, drs_app, drs_out b1 (ht1 s hs) (ho s hs), List.append_nil]
    · obtain ⟨ow, sl, cap, e⟩ := b6 s hs
      refine ⟨ow, sl, cap, ?_⟩
      rw [e, drs_app, drs_out a1 (ht2 s hs) (fun h => ho s h hs)]; rfl
  · intro x hx
    rcases List.mem_append.mp hx with hx | hx
    · refine ek_mv (a7 x hx) (fun i hi => b9 i (hK i (itm_sub hx i hi))) (fun s hs ow sl cap is e => ?_)
      have hs' := opn_sub hx s hs
      exact ⟨cap, is, by rw [b8 s (hR s hs') (ht1 s hs')]; exact e⟩
    · exact b7 x hx
  · intro s hs hst
    rw [b8 s (hm s hs) hst, a8 s hs hst]
  · intro i hi
    obtain ⟨c1, c2⟩ := b9 i (hm i hi)
    obtain ⟨d1, d2⟩ := a9 i hi
    exact ⟨c1.trans d1, c2.trans d2⟩
theorem ft_sym {m : XM} {T : XT} {t a c : Nat} {v : XR} (ha : m a = none) (ht : m t ≠ none) : FT m T (uF T.1 t (some v), uF T.2.1 a (some (.inl c)), uF (uF T.2.2 a none) a (some t)) t [eS c a t] := by
  refine ⟨bd_sym c a (bd_nil t), List.nodup_nil, by simp [itm], fun s hs => by simp [opn] at hs, fun i hi => ?_, fun s hs => by simp [opn] at hs, fun x hx => ?_, fun s hs hst => uF_ne hst, fun i hi => ?_⟩
  · simp only [itm, List.mem_cons, List.not_mem_nil, or_false] at hi
    rw [hi]; exact ha
  · simp only [List.mem_cons, List.not_mem_nil, or_false] at hx
    subst hx
    exact ⟨uF_eq _ _ _, uF_eq _ _ _⟩
  · have : i ≠ a := fun e => by subst e; exact hi ha
    exact ⟨uF_ne this, (uF_ne this).trans (uF_ne this)⟩
/-- a structure with its rows filled, put at the end of the row t -/
theorem ft_str {m m1 m2 : XM} {T T1 T2 T3 T4 : XT} {t k a o p : Nat} {NA NB : List XE} {v : XR}
    (ha : m a = none) (ho : m o = none) (hp : k = 1 → m p = none ∧ p ≠ o) (ht : m t ≠ none)
    (hT1 : ∀ s, m s ≠ none → T1.1 s = T.1 s) (hK1 : ∀ i, m i ≠ none → T1.2.1 i = T.2.1 i ∧ T1.2.2 i = T.2.2 i) (hKa : ∃ rs rd, T1.2.1 a = some (.inr (k, o, p, rs, rd))) (h1p : k = 1 → ∃ cap is, T1.1 p = some (some a, 1, cap, is))
    (hA : FT m1 T1 T2 o NA) (hm1 : ∀ b, m b ≠ none → m1 b ≠ none) (h1a : m1 a ≠ none) (h1o : m1 o ≠ none) (h1pm : k = 1 → m1 p ≠ none) (hAo : ∃ cap, T2.1 o = some (some a, 0, cap, drs o NA))
    (hB : k = 1 → FT m2 T2 T3 p NB) (hB' : k ≠ 1 → T3 = T2) (hm2 : ∀ b, m1 b ≠ none → m2 b ≠ none) (h2o : ∀ s ∈ opn NA, m2 s ≠ none) (h2i : ∀ i ∈ itm NA, m2 i ≠ none) (hBp : k = 1 → ∃ cap, T3.1 p = some (some a, 1, cap, drs p NB))
    (hT4 : T4 = (uF T3.1 t (some v), T3.2.1, uF T3.2.2 a (some t))) : FT m T T4 t (sI k a t o p NA NB) := by
  obtain ⟨a1, a2, a3, a4, a5, a6, a7, a8, a9⟩ := hA
  have hm1' : ∀ b, m1 b = none → m b = none := fun b h => by
    by_cases e : m b = none
    · exact e
    · exact absurd h (hm1 b e)
  have hto : o ≠ t := fun e => by subst e; exact ht ho
  have htA : ∀ s ∈ opn NA, s ≠ t := fun s hs e => by subst e; exact ht (hm1' _ (a4 _ hs))
  have hoA : o ∉ opn NA := fun h => h1o (a4 o h)
  have haA : a ∉ itm NA := fun h => h1a (a5 a h)
  have hb4 : T4.1 = uF T3.1 t (some v) := by rw [hT4]
  have hk4 : T4.2.1 = T3.2.1 := by rw [hT4]
  have hw4 : T4.2.2 = uF T3.2.2 a (some t) := by rw [hT4]
  have hat : ∀ i ∈ itm NA, i ≠ a := fun i hi e => haA (e ▸ hi)
  by_cases hk : k = 1
  · obtain ⟨b1, b2, b3, b4, b5, b6, b7, b8, b9⟩ := hB hk
    obtain ⟨hp, hpo⟩ := hp hk
    have h1pm := h1pm hk
    have hm2' : ∀ b, m2 b = none → m1 b = none := fun b h => by
      by_cases e : m1 b = none
      · exact e
      · exact absurd h (hm2 b e)
    have hpt : p ≠ t := fun e => by subst e; exact ht hp
    have htB : ∀ s ∈ opn NB, s ≠ t := fun s hs e => by subst e; exact ht (hm1' _ (hm2' _ (b4 _ hs)))
    have hoB : o ∉ opn NB := fun h => hm2 o h1o (b4 o h)
    have hpA : p ∉ opn NA := fun h => h1pm (a4 p h)
    have hpB : p ∉ opn NB := fun h => hm2 p h1pm (b4 p h)
    have hAB : ∀ s ∈ opn NA, s ∉ opn NB := fun s h1 h2 => h2o s h1 (b4 s h2)
    have haB : a ∉ itm NB := fun h => hm2 a h1a (b5 a h)
    have eo : opn (sI k a t o p NA NB) = o :: p :: (opn NA ++ opn NB) := by rw [opn_sI, if_pos hk]
    have ei : itm (sI k a t o p NA NB) = a :: (itm NA ++ itm NB) := by rw [itm_sI, if_pos hk]
    have dA : ∀ s, s ∈ o :: opn NA → drs s (sI k a t o p NA NB) = drs s NA := by
      intro s hs
      rw [drs_sI, if_pos hk]
      have n1 : t ≠ s := by
        rcases List.mem_cons.mp hs with rfl | hs
        · exact hto.symm
        · exact (htA s hs).symm
      have n2 : drs s NB = [] := by
        rcases List.mem_cons.mp hs with rfl | hs
        · exact drs_out b1 hpo.symm hoB
        · exact drs_out b1 (fun e => by subst e; exact hpA hs) (hAB s hs)
      rw [if_neg n1, n2]; simp
    have dB : ∀ s, s ∈ p :: opn NB → drs s (sI k a t o p NA NB) = drs s NB := by
      intro s hs
      rw [drs_sI, if_pos hk]
      have n1 : t ≠ s := by
        rcases List.mem_cons.mp hs with rfl | hs
        · exact hpt.symm
        · exact (htB s hs).symm
      have n2 : drs s NA = [] := by
        rcases List.mem_cons.mp hs with rfl | hs
        · exact drs_out a1 hpo hpA
        · exact drs_out a1 (fun e => by subst e; exact hoB hs) (fun h => hAB s h hs)
      rw [if_neg n1, n2]; simp
    have r3 : ∀ s, s ≠ t → T4.1 s = T3.1 s := fun s hs => by rw [hb4]; exact uF_ne hs
    have r2 : ∀ s, m2 s ≠ none → s ≠ t → s ≠ p → T4.1 s = T2.1 s := fun s h1 h2 h3 => (r3 s h2).trans (b8 s h1 h3)
    have k2 : ∀ i, m2 i ≠ none → i ≠ a → T4.2.1 i = T2.2.1 i ∧ T4.2.2 i = T2.2.2 i := fun i h1 h2 => by
      rw [hk4, hw4, uF_ne h2]; exact b9 i h1
    obtain ⟨ca, ea⟩ := hAo
    obtain ⟨cb, eb⟩ := hBp hk
    have r4o : T4.1 o = some (some a, 0, ca, drs o NA) := (r2 o (hm2 o h1o) hto hpo.symm).trans ea
    have r4p : T4.1 p = some (some a, 1, cb, drs p NB) := (r3 p hpt).trans eb
    refine ⟨bd_sI a1 (fun _ => b1), ?_, ?_, ?_, ?_, ?_, ?_, ?_, ?_⟩
    · rw [eo]
      simp only [List.nodup_cons, List.nodup_append, List.mem_cons, List.mem_append, not_or]
      exact ⟨⟨hpo.symm, hoA, hoB⟩, ⟨hpA, hpB⟩, a2, b2, fun x hx y hy e => by subst e; exact hAB x hx hy⟩
    · rw [ei]
      simp only [List.nodup_cons, List.nodup_append, List.mem_append, not_or]
      exact ⟨⟨haA, haB⟩, a3, b3, fun x hx y hy e => by subst e; exact h2i x hx (b5 x hy)⟩
    · rw [eo]; intro s hs
      simp only [List.mem_cons, List.mem_append] at hs
      rcases hs with rfl | rfl | hs | hs
      · exact ho
      · exact hp
      · exact hm1' s (a4 s hs)
      · exact hm1' s (hm2' s (b4 s hs))
    · rw [ei]; intro s hs
      simp only [List.mem_cons, List.mem_append] at hs
      rcases hs with rfl | hs | hs
      · exact ha
      · exact hm1' s (a5 s hs)
      · exact hm1' s (hm2' s (b5 s hs))
    · rw [eo]; intro s hs
      simp only [List.mem_cons, List.mem_append] at hs
      rcases hs with rfl | rfl | hs | hs
      · exact ⟨_, _, _, by rw [dA s List.mem_cons_self]; exact r4o⟩
      · exact ⟨_, _, _, by rw [dB s List.mem_cons_self]; exact r4p⟩
      · obtain ⟨ow, sl, cap, e⟩ := a6 s hs
        exact ⟨ow, sl, cap, by rw [dA s (List.mem_cons_of_mem _ hs), r2 s (h2o s hs) (htA s hs) (fun e => by subst e; exact hpA hs)]; exact e⟩
      · obtain ⟨ow, sl, cap, e⟩ := b6 s hs
        exact ⟨ow, sl, cap, by rw [dB s (List.mem_cons_of_mem _ hs), r3 s (htB s hs)]; exact e⟩
    · intro x hx
      unfold sI at hx
      simp only [List.mem_cons, List.mem_append, if_pos hk, List.not_mem_nil, or_false] at hx
      rcases hx with rfl | hx | (rfl | hx) | rfl
      · obtain ⟨rs, rd, hka⟩ := hKa
        refine ⟨⟨rs, rd, ?_⟩, ?_, ⟨_, _, r4o⟩, fun _ => ⟨_, _, r4p⟩⟩
        · rw [hk4, (b9 a (hm2 a h1a)).1, (a9 a h1a).1]; exact hka
        · rw [hw4]; exact uF_eq _ _ _
      · refine ek_mv (a7 x hx) (fun i hi => k2 i (h2i i (itm_sub hx i hi)) (hat i (itm_sub hx i hi))) (fun s hs ow sl cap is e => ?_)
        have hs' := opn_sub hx s hs
        exact ⟨cap, is, by rw [r2 s (h2o s hs') (htA s hs') (fun e => by subst e; exact hpA hs')]; exact e⟩
      · trivial
      · refine ek_mv (b7 x hx) (fun i hi => ?_) (fun s hs ow sl cap is e => ?_)
        · have : i ≠ a := fun e => haB (e ▸ itm_sub hx i hi)
          rw [hk4, hw4, uF_ne this]; exact ⟨rfl, rfl⟩
        · exact ⟨cap, is, by rw [r3 s (htB s (opn_sub hx s hs))]; exact e⟩
      · trivial
    · intro s hs hst
      rw [r2 s (hm2 s (hm1 s hs)) hst (fun e => by subst e; exact hs hp), a8 s (hm1 s hs) (fun e => by subst e; exact hs ho), hT1 s hs]
    · intro i hi
      have hia : i ≠ a := fun e => by subst e; exact hi ha
      obtain ⟨c1, c2⟩ := k2 i (hm2 i (hm1 i hi)) hia
      obtain ⟨d1, d2⟩ := a9 i (hm1 i hi)
      obtain ⟨e1, e2⟩ := hK1 i hi
      exact ⟨c1.trans (d1.trans e1), c2.trans (d2.trans e2)⟩
  · have hB' := hB' hk
    subst hB'
    have eo : opn (sI k a t o p NA NB) = o :: opn NA := by rw [opn_sI, if_neg hk]
    have ei : itm (sI k a t o p NA NB) = a :: itm NA := by rw [itm_sI, if_neg hk]; simp
    have dA : ∀ s, s ∈ o :: opn NA → drs s (sI k a t o p NA NB) = drs s NA := by
      intro s hs
      rw [drs_sI, if_neg hk]
      have n1 : t ≠ s := by
        rcases List.mem_cons.mp hs with rfl | hs
        · exact hto.symm
        · exact (htA s hs).symm
      rw [if_neg n1]; simp
    have r3 : ∀ s, s ≠ t → T4.1 s = T3.1 s := fun s hs => by rw [hb4]; exact uF_ne hs
    have k2 : ∀ i, i ≠ a → T4.2.1 i = T3.2.1 i ∧ T4.2.2 i = T3.2.2 i := fun i h2 => by
      rw [hk4, hw4, uF_ne h2]; exact ⟨rfl, rfl⟩
    obtain ⟨ca, ea⟩ := hAo
    have r4o : T4.1 o = some (some a, 0, ca, drs o NA) := (r3 o hto).trans ea
    refine ⟨bd_sI a1 (fun h => absurd h hk), ?_, ?_, ?_, ?_, ?_, ?_, ?_, ?_⟩
    · rw [eo]; exact List.nodup_cons.mpr ⟨hoA, a2⟩
    · rw [ei]; exact List.nodup_cons.mpr ⟨haA, a3⟩
    · rw [eo]; intro s hs
      rcases List.mem_cons.mp hs with rfl | hs
      · exact ho
      · exact hm1' s (a4 s hs)
    · rw [ei]; intro s hs
      rcases List.mem_cons.mp hs with rfl | hs
      · exact ha
      · exact hm1' s (a5 s hs)
    · rw [eo]; intro s hs
      rcases List.mem_cons.mp hs with rfl | hs
      · exact ⟨_, _, _, by rw [dA s List.mem_cons_self]; exact r4o⟩
      · obtain ⟨ow, sl, cap, e⟩ := a6 s hs
        exact ⟨ow, sl, cap, by rw [dA s (List.mem_cons_of_mem _ hs), r3 s (htA s hs)]; exact e⟩
    · intro x hx
      unfold sI at hx
      simp only [List.mem_cons, List.mem_append, if_neg hk, List.not_mem_nil, or_false, false_or] at hx
      rcases hx with rfl | hx | rfl
      · obtain ⟨rs, rd, hka⟩ := hKa
        refine ⟨⟨rs, rd, ?_⟩, ?_, ⟨_, _, r4o⟩, fun h => absurd h hk⟩
        · rw [hk4, (a9 a h1a).1]; exact hka
        · rw [hw4]; exact uF_eq _ _ _
      · refine ek_mv (a7 x hx) (fun i hi => k2 i (hat i (itm_sub hx i hi))) (fun s hs ow sl cap is e => ?_)
        exact ⟨cap, is, by rw [r3 s (htA s (opn_sub hx s hs))]; exact e⟩
      · trivial
    · intro s hs hst
      rw [r3 s hst, a8 s (hm1 s hs) (fun e => by subst e; exact hs ho), hT1 s hs]
    · intro i hi
      have hia : i ≠ a := fun e => by subst e; exact hi ha
      obtain ⟨c1, c2⟩ := k2 i hia
      obtain ⟨d1, d2⟩ := a9 i (hm1 i hi)
      obtain ⟨e1, e2⟩ := hK1 i hi
      exact ⟨c1.trans (d1.trans e1), c2.trans (d2.trans e2)⟩
