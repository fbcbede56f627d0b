/-! A ROW IN ITS TREE: what is about it, what another content makes of the tree -/
set_option maxRecDepth 100000
/-- the rows that a stack names -/
def krs : XK → List Nat
  | [] => []
  | (r, none) :: S => r :: krs S
  | (r, some p) :: S => r :: p :: krs S
theorem stp_krs {S S' : XK} {x : XE} (h : stp S x = some S') : (∀ s ∈ rws [x], s ∈ krs S) ∧ ∀ s ∈ krs S', s ∈ krs S ∨ s ∈ opn [x] := by
  cases S with
  | nil => exact (stp_0 h).elim
  | cons f T =>
    obtain ⟨fr, fq⟩ := f
    obtain ⟨c, i, r⟩ | ⟨k, i, r, o, p⟩ | b := x
    · obtain ⟨rfl, rfl⟩ := stp_S h
      refine ⟨fun s hs => ?_, fun s hs => Or.inl hs⟩
      simp only [rws, List.mem_cons, List.not_mem_nil, or_false] at hs
      subst hs; cases fq <;> simp [krs]
    · obtain ⟨rfl, rfl⟩ := stp_B h
      refine ⟨fun s hs => ?_, fun s hs => ?_⟩
      · simp only [rws, List.mem_cons, List.not_mem_nil, or_false] at hs
        subst hs; cases fq <;> simp [krs]
      · unfold eP at hs
        by_cases hk : k = 1
        · rw [if_pos hk] at hs
          simp only [krs, List.mem_cons] at hs
          rcases hs with rfl | rfl | hs
          · exact Or.inr (by simp [opn, hk])
          · exact Or.inr (by simp [opn, hk])
          · exact Or.inl hs
        · rw [if_neg hk] at hs
          simp only [krs, List.mem_cons] at hs
          rcases hs with rfl | hs
          · exact Or.inr (by simp [opn, hk])
          · exact Or.inl hs
    · cases b with
      | false =>
        obtain ⟨p, g, T', h1, rfl, rfl⟩ := stp_D h
        simp only at h1; subst h1
        refine ⟨fun s hs => by simp [rws] at hs, fun s hs => Or.inl ?_⟩
        simp only [krs, List.mem_cons] at hs ⊢
        rcases hs with rfl | hs
        · exact Or.inr (Or.inl rfl)
        · exact Or.inr (Or.inr hs)
      | true =>
        obtain ⟨g, T', h1, rfl, rfl⟩ := stp_N h
        simp only at h1; subst h1
        refine ⟨fun s hs => by simp [rws] at hs, fun s hs => Or.inl ?_⟩
        simp only [krs, List.mem_cons]
        exact Or.inr hs
theorem opn_1 (x : XE) (L : List XE) : opn (x :: L) = opn [x] ++ opn L := by
  rw [← opn_app]; rfl
theorem rws_1 (x : XE) (L : List XE) : rws (x :: L) = rws [x] ++ rws L := by
  rw [← rws_app]; rfl
theorem scn_krs {X : List XE} : ∀ {S S' : XK}, scn S X = some S' → (∀ s ∈ rws X, s ∈ krs S ∨ s ∈ opn X) ∧ ∀ s ∈ krs S', s ∈ krs S ∨ s ∈ opn X := by
  induction X with
  | nil => intro S S' h; rw [scn_nil] at h; cases h; exact ⟨fun s hs => by simp [rws] at hs, fun s hs => Or.inl hs⟩
  | cons x X ih =>
    intro S S' h
    obtain ⟨S1, h1, h2⟩ := scn_cons' h
    obtain ⟨a1, a2⟩ := stp_krs h1
    obtain ⟨b1, b2⟩ := ih h2
    rw [opn_1, rws_1]
    refine ⟨fun s hs => ?_, fun s hs => ?_⟩
    · rcases List.mem_append.mp hs with hs | hs
      · exact Or.inl (a1 s hs)
      · rcases b1 s hs with hs | hs
        · rcases a2 s hs with hs | hs
          · exact Or.inl hs
          · exact Or.inr (List.mem_append_left _ hs)
        · exact Or.inr (List.mem_append_right _ hs)
    · rcases b2 s hs with hs | hs
      · rcases a2 s hs with hs | hs
        · exact Or.inl hs
        · exact Or.inr (List.mem_append_left _ hs)
      · exact Or.inr (List.mem_append_right _ hs)
/-- a row r is open behind U, and V goes on behind it -/
def HO (top : Nat) (U V : List XE) (r : Nat) (q : Option Nat) (S : XK) : Prop := scn [(top, none)] U = some ((r, q) :: S) ∧ scn ((r, q) :: S) V = some [(top, none)]
theorem ho_bd {top r : Nat} {U V M : List XE} {q : Option Nat} {S : XK} (h : HO top U V r q S) (hM : Bd r M) : Bd top (U ++ (M ++ V)) := by
  unfold Bd
  rw [scn_app' _ h.1, scn_app' _ (bd_any hM _ _)]; exact h.2
theorem ho_of {top r : Nat} {U V M : List XE} {q : Option Nat} {S : XK} (h : Bd top (U ++ (M ++ V))) (hU : scn [(top, none)] U = some ((r, q) :: S)) (hM : Bd r M) : HO top U V r q S := by
  unfold Bd at h
  rw [scn_app' _ hU, scn_app' _ (bd_any hM _ _)] at h
  exact ⟨hU, h⟩
/-- rows opened in the hole are named nowhere else -/
theorem ho_out {top r s : Nat} {U V M : List XE} {q : Option Nat} {S : XK} (h : HO top U V r q S) (hs : s ∉ top :: (opn U ++ opn V)) : drs s U = [] ∧ drs s V = [] := by
  obtain ⟨a1, a2⟩ := scn_krs h.1
  obtain ⟨b1, -⟩ := scn_krs h.2
  simp only [List.mem_cons, List.mem_append, not_or] at hs
  have hk : ∀ z ∈ krs [(top, none)], z = top := fun z hz => by simpa [krs] using hz
  refine ⟨drs_no (fun hx => ?_), drs_no (fun hx => ?_)⟩
  · rcases a1 s hx with hx | hx
    · exact hs.1 (hk s hx)
    · exact hs.2.1 hx
  · rcases b1 s hx with hx | hx
    · rcases a2 s hx with hx | hx
      · exact hs.1 (hk s hx)
      · exact hs.2.1 hx
    · exact hs.2.2 hx
theorem ho_r {top r : Nat} {U V : List XE} {q : Option Nat} {S : XK} (h : HO top U V r q S) : r = top ∨ r ∈ opn U := by
  obtain ⟨a1, a2⟩ := scn_krs h.1
  rcases a2 r (by cases q <;> simp [krs]) with hx | hx
  · exact Or.inl (by simpa [krs] using hx)
  · exact Or.inr hx
/-- another content of an open row -/
theorem dt_repl {T T' : XT} {top r : Nat} {U V M N : List XE} {q : Option Nat} {S : XK} (h : DT T top (U ++ (M ++ V))) (hH : HO top U V r q S) (hM : Bd r M) (hN : Bd r N)
    (hop : (top :: (opn U ++ (opn N ++ opn V))).Nodup) (hit : (itm U ++ (itm N ++ itm V)).Nodup)
    (hr : ∀ ow sl cap, T.1 r = some (ow, sl, cap, drs r (U ++ (M ++ V))) → ∃ cap', T'.1 r = some (ow, sl, cap', drs r (U ++ (N ++ V))))
    (hs : ∀ s, s ∈ top :: (opn U ++ opn V) → s ≠ r → T'.1 s = T.1 s) (hso : ∀ s ∈ opn N, ∃ own sl cap, T'.1 s = some (own, sl, cap, drs s N))
    (hk : ∀ i, i ∈ itm U ++ itm V → T'.2.1 i = T.2.1 i ∧ T'.2.2 i = T.2.2 i) (hkN : ∀ x ∈ N, EK T' x) : DT T' top (U ++ (N ++ V)) := by
  obtain ⟨h1, h2, h3, h4, h5⟩ := h
  have eop : opn (U ++ (N ++ V)) = opn U ++ (opn N ++ opn V) := by rw [opn_app, opn_app]
  have eop0 : opn (U ++ (M ++ V)) = opn U ++ (opn M ++ opn V) := by rw [opn_app, opn_app]
  have hrM : ∀ s, s ∈ top :: (opn U ++ opn V) → s ≠ r → drs s M = [] := by
    intro s hs1 hs2
    refine drs_out hM hs2 (fun hm => ?_)
    rw [eop0, List.nodup_cons, List.nodup_append, List.nodup_append] at h2
    simp only [List.mem_cons, List.mem_append] at hs1 h2
    rcases hs1 with rfl | hs1 | hs1
    · exact h2.1 (Or.inr (Or.inl hm))
    · exact h2.2.2.2 s hs1 s (Or.inl hm) rfl
    · exact h2.2.2.1.2.2 s hm s hs1 rfl
  have hrN : ∀ s, s ∈ top :: (opn U ++ opn V) → s ≠ r → drs s N = [] := by
    intro s hs1 hs2
    refine drs_out hN hs2 (fun hm => ?_)
    have h2 := hop
    rw [List.nodup_cons, List.nodup_append, List.nodup_append] at h2
    simp only [List.mem_cons, List.mem_append] at hs1 h2
    rcases hs1 with rfl | hs1 | hs1
    · exact h2.1 (Or.inr (Or.inl hm))
    · exact h2.2.2.2 s hs1 s (Or.inl hm) rfl
    · exact h2.2.2.1.2.2 s hm s hs1 rfl
  have old : ∀ s, s ∈ top :: (opn U ++ opn V) → ∃ own sl cap, T'.1 s = some (own, sl, cap, drs s (U ++ (N ++ V))) ∧ ∃ cap0, T.1 s = some (own, sl, cap0, drs s (U ++ (M ++ V))) := by
    intro s hs1
    have hs0 : s ∈ top :: opn (U ++ (M ++ V)) := by
      rw [eop0]; simp only [List.mem_cons, List.mem_append] at hs1 ⊢
      rcases hs1 with hs1 | hs1 | hs1
      · exact Or.inl hs1
      · exact Or.inr (Or.inl hs1)
      · exact Or.inr (Or.inr (Or.inr hs1))
    obtain ⟨ow, sl, cap, e⟩ := h4 s hs0
    by_cases hsr : s = r
    · subst hsr
      obtain ⟨cap', e'⟩ := hr _ _ _ e
      exact ⟨ow, sl, cap', e', cap, e⟩
    · refine ⟨ow, sl, cap, ?_, cap, e⟩
      rw [hs s hs1 hsr, e, drs_app, drs_app, drs_app, drs_app, hrM s hs1 hsr, hrN s hs1 hsr]
  have ek : ∀ x, (x ∈ U ∨ x ∈ V) → EK T' x := by
    intro x hx
    have hx0 : x ∈ U ++ (M ++ V) := by
      simp only [List.mem_append]
      rcases hx with hx | hx
      · exact Or.inl hx
      · exact Or.inr (Or.inr hx)
    have e0 := h5 x hx0
    have hin : ∀ i, i ∈ itm [x] → i ∈ itm U ++ itm V := by
      have sub : ∀ (L : List XE), x ∈ L → ∀ i ∈ itm [x], i ∈ itm L := by
        intro L hL i hi
        obtain ⟨A, B, rfl⟩ := List.append_of_mem hL
        rw [itm_app, show x :: B = [x] ++ B from rfl, itm_app]
        exact List.mem_append_right _ (List.mem_append_left _ hi)
      intro i hi
      rcases hx with hx | hx
      · exact List.mem_append_left _ (sub U hx i hi)
      · exact List.mem_append_right _ (sub V hx i hi)
    have hro : ∀ s ∈ opn [x], s ∈ top :: (opn U ++ opn V) := by
      have sub : ∀ (L : List XE), x ∈ L → ∀ i ∈ opn [x], i ∈ opn L := by
        intro L hL i hi
        obtain ⟨A, B, rfl⟩ := List.append_of_mem hL
        rw [opn_app, show x :: B = [x] ++ B from rfl, opn_app]
        exact List.mem_append_right _ (List.mem_append_left _ hi)
      intro i hi
      rcases hx with hx | hx
      · exact List.mem_cons_of_mem _ (List.mem_append_left _ (sub U hx i hi))
      · exact List.mem_cons_of_mem _ (List.mem_append_right _ (sub V hx i hi))
    obtain ⟨c, i, r'⟩ | ⟨k, i, r', o, p⟩ | b := x
    · obtain ⟨k1, k2⟩ := hk i (hin i (by simp [itm]))
      exact ⟨k1.trans e0.1, k2.trans e0.2⟩
    · obtain ⟨k1, k2⟩ := hk i (hin i (by simp [itm]))
      obtain ⟨⟨rs, rd, a1⟩, a2, ⟨c3, i3, a3⟩, a4⟩ := e0
      refine ⟨⟨rs, rd, k1.trans a1⟩, k2.trans a2, ?_, fun hk1 => ?_⟩
      · obtain ⟨ow, sl, cap, b1, cap0, b2⟩ := old o (hro o (by by_cases hk1 : k = 1 <;> simp [opn, hk1]))
        rw [a3] at b2; cases b2
        exact ⟨_, _, b1⟩
      · obtain ⟨c4, i4, a4⟩ := a4 hk1
        obtain ⟨ow, sl, cap, b1, cap0, b2⟩ := old p (hro p (by simp [opn, hk1]))
        rw [a4] at b2; cases b2
        exact ⟨_, _, b1⟩
    · trivial
  refine ⟨ho_bd hH hN, by rw [eop]; exact hop, by rw [itm_app, itm_app]; exact hit, fun s hs1 => ?_, fun x hx => ?_⟩
  · rw [eop] at hs1
    by_cases hsm : s ∈ top :: (opn U ++ opn V)
    · obtain ⟨ow, sl, cap, b1, -⟩ := old s hsm
      exact ⟨ow, sl, cap, b1⟩
    · have hsN : s ∈ opn N := by
        simp only [List.mem_cons, List.mem_append, not_or] at hs1 hsm
        rcases hs1 with hs1 | hs1 | hs1 | hs1
        · exact absurd hs1 hsm.1
        · exact absurd hs1 hsm.2.1
        · exact hs1
        · exact absurd hs1 hsm.2.2
      obtain ⟨own, sl, cap, e⟩ := hso s hsN
      obtain ⟨o1, o2⟩ := ho_out (M := N) hH hsm
      exact ⟨own, sl, cap, by rw [drs_app, drs_app, o1, o2]; simpa using e⟩
  · simp only [List.mem_append] at hx
    rcases hx with hx | hx | hx
    · exact ek x (Or.inl hx)
    · exact hkN x hx
    · exact ek x (Or.inr hx)
