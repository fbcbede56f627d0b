/-! TREES AS FLAT LISTS WITH ADDRESSES: elements, stacks, balance -/
set_option maxRecDepth 100000
/-- an element: a symbol (code, address, its row); a begin (kind, address, its row, the rows that it opens); a border (false) or an end (true) -/
abbrev XE : Type := (Nat × Nat × Nat) ⊕ ((Nat × Nat × Nat × Nat × Nat) ⊕ Bool)
abbrev eS (c i r : Nat) : XE := .inl (c, i, r)
abbrev eB (k i r o p : Nat) : XE := .inr (.inl (k, i, r, o, p))
abbrev eD : XE := .inr (.inr false)
abbrev eN : XE := .inr (.inr true)
/-- the twin's sign -/
def sg : XE → Int32
  | .inl (c, _, _) => nI c
  | .inr (.inl (k, _, _, _, _)) => -(nI k)
  | .inr (.inr false) => -10
  | .inr (.inr true) => -11
def eP (k p : Nat) : Option Nat := if k = 1 then some p else none
/-- a stack of open rows: the row, the row behind its border -/
abbrev XK : Type := List (Nat × Option Nat)
def stp : XK → XE → Option XK
  | [], _ => none
  | f :: T, .inl (_, _, r) => if r = f.1 then some (f :: T) else none
  | f :: T, .inr (.inl (k, _, r, o, p)) => if r = f.1 then some ((o, eP k p) :: f :: T) else none
  | f :: T, .inr (.inr b) => match b, f.2, T with
    | false, some p, g :: T' => some ((p, none) :: g :: T')
    | true, none, g :: T' => some (g :: T')
    | _, _, _ => none
def scn : XK → List XE → Option XK
  | S, [] => some S
  | S, x :: L => match stp S x with
    | some S' => scn S' L
    | none => none
theorem scn_nil (S : XK) : scn S [] = some S := rfl
theorem scn_cons (S : XK) (x : XE) (L : List XE) : scn S (x :: L) = (stp S x).bind (fun S' => scn S' L) := by
  rw [scn]; cases stp S x <;> rfl
theorem scn_app (S : XK) (A B : List XE) : scn S (A ++ B) = (scn S A).bind (fun S' => scn S' B) := by
  induction A generalizing S with
  | nil => rfl
  | cons x A ih =>
    rw [List.cons_append, scn_cons, scn_cons]
    cases stp S x with
    | none => rfl
    | some S' => exact ih S'
theorem scn_app' {S S' : XK} {A : List XE} (B : List XE) (h : scn S A = some S') : scn S (A ++ B) = scn S' B := by
  rw [scn_app, h]; rfl
theorem scn_split {S S2 : XK} {A B : List XE} (h : scn S (A ++ B) = some S2) : ∃ S1, scn S A = some S1 ∧ scn S1 B = some S2 := by
  rw [scn_app] at h
  cases hA : scn S A with
  | none => rw [hA] at h; cases h
  | some S1 => rw [hA] at h; exact ⟨S1, rfl, h⟩
theorem scn_cons' {S S2 : XK} {x : XE} {L : List XE} (h : scn S (x :: L) = some S2) : ∃ S1, stp S x = some S1 ∧ scn S1 L = some S2 := by
  rw [scn_cons] at h
  cases hA : stp S x with
  | none => rw [hA] at h; cases h
  | some S1 => rw [hA] at h; exact ⟨S1, rfl, h⟩
theorem stp_S {f : Nat × Option Nat} {T S : XK} {c i r : Nat} (h : stp (f :: T) (eS c i r) = some S) : r = f.1 ∧ S = f :: T := by
  unfold stp at h
  split at h <;> simp_all
theorem stp_B {f : Nat × Option Nat} {T S : XK} {k i r o p : Nat} (h : stp (f :: T) (eB k i r o p) = some S) : r = f.1 ∧ S = (o, eP k p) :: f :: T := by
  unfold stp at h
  split at h <;> simp_all
theorem stp_D {f : Nat × Option Nat} {T S : XK} (h : stp (f :: T) eD = some S) : ∃ p g T', f.2 = some p ∧ T = g :: T' ∧ S = (p, none) :: g :: T' := by
  obtain ⟨r, q⟩ := f
  cases q with
  | none => cases T <;> simp [stp] at h
  | some p =>
    cases T with
    | nil => simp [stp] at h
    | cons g T' => simp [stp] at h; exact ⟨p, g, T', rfl, rfl, h.symm⟩
theorem stp_N {f : Nat × Option Nat} {T S : XK} (h : stp (f :: T) eN = some S) : ∃ g T', f.2 = none ∧ T = g :: T' ∧ S = g :: T' := by
  obtain ⟨r, q⟩ := f
  cases q with
  | some p => cases T <;> simp [stp] at h
  | none =>
    cases T with
    | nil => simp [stp] at h
    | cons g T' => simp [stp] at h; exact ⟨g, T', rfl, rfl, h.symm⟩
theorem stp_0 {x : XE} {S : XK} (h : stp [] x = some S) : False := by
  unfold stp at h; cases h
theorem stp_sS (f : Nat × Option Nat) (T : XK) (c i : Nat) : stp (f :: T) (eS c i f.1) = some (f :: T) := by
  simp [stp]
theorem stp_sB (f : Nat × Option Nat) (T : XK) (k i o p : Nat) : stp (f :: T) (eB k i f.1 o p) = some ((o, eP k p) :: f :: T) := by
  simp [stp]
theorem stp_sD (r p : Nat) (g : Nat × Option Nat) (T : XK) : stp ((r, some p) :: g :: T) eD = some ((p, none) :: g :: T) := rfl
theorem stp_sN (r : Nat) (g : Nat × Option Nat) (T : XK) : stp ((r, none) :: g :: T) eN = some (g :: T) := rfl
/-- the lowest row stays -/
theorem stp_bot {S S2 : XK} {r : Nat} {x : XE} (h : stp (S ++ [(r, none)]) x = some S2) : ∃ S1, S2 = S1 ++ [(r, none)] ∧ ∀ q U, stp (S ++ (r, q) :: U) x = some (S1 ++ (r, q) :: U) := by
  obtain ⟨c, i, r'⟩ | ⟨k, i, r', o, p⟩ | b := x
  · cases S with
    | nil =>
      obtain ⟨h1, h2⟩ := stp_S h
      simp only at h1; subst h1
      exact ⟨[], h2, fun q U => stp_sS (r', q) U c i⟩
    | cons f S =>
      obtain ⟨h1, h2⟩ := stp_S h
      subst h1
      exact ⟨f :: S, h2, fun q U => stp_sS f _ c i⟩
  · cases S with
    | nil =>
      obtain ⟨h1, h2⟩ := stp_B h
      simp only at h1; subst h1
      exact ⟨[(o, eP k p)], h2, fun q U => stp_sB (r', q) U k i o p⟩
    | cons f S =>
      obtain ⟨h1, h2⟩ := stp_B h
      subst h1
      exact ⟨(o, eP k p) :: f :: S, h2, fun q U => stp_sB f _ k i o p⟩
  · cases b with
    | false =>
      cases S with
      | nil =>
        obtain ⟨p, g, T', h1, h2, h3⟩ := stp_D h
        cases h1
      | cons f S =>
        obtain ⟨p, g, T', h1, h2, h3⟩ := stp_D h
        obtain ⟨fr, fq⟩ := f
        simp only at h1; subst h1
        refine ⟨(p, none) :: S, by rw [h3, ← h2]; rfl, fun q U => ?_⟩
        cases S with
        | nil => rfl
        | cons s S => rfl
    | true =>
      cases S with
      | nil =>
        obtain ⟨g, T', h1, h2, h3⟩ := stp_N h
        cases h2
      | cons f S =>
        obtain ⟨g, T', h1, h2, h3⟩ := stp_N h
        obtain ⟨fr, fq⟩ := f
        simp only at h1; subst h1
        refine ⟨S, h3.trans h2.symm, fun q U => ?_⟩
        cases S with
        | nil => rfl
        | cons s S => rfl
theorem scn_bot {M : List XE} : ∀ {S S2 : XK} {r : Nat}, scn (S ++ [(r, none)]) M = some S2 → ∃ S1, S2 = S1 ++ [(r, none)] ∧ ∀ q U, scn (S ++ (r, q) :: U) M = some (S1 ++ (r, q) :: U) := by
  induction M with
  | nil => intro S S2 r h; rw [scn_nil] at h; cases h; exact ⟨S, rfl, fun q U => rfl⟩
  | cons x M ih =>
    intro S S2 r h
    obtain ⟨S1, h1, h2⟩ := scn_cons' h
    obtain ⟨S3, rfl, h4⟩ := stp_bot h1
    obtain ⟨S5, h5, h6⟩ := ih h2
    exact ⟨S5, h5, fun q U => by rw [scn_cons, h4]; exact h6 q U⟩
/-- the items of a row, with all that is in them -/
def Bd (r : Nat) (M : List XE) : Prop := scn [(r, none)] M = some [(r, none)]
theorem bd_any {r : Nat} {M : List XE} (h : Bd r M) (q : Option Nat) (U : XK) : scn ((r, q) :: U) M = some ((r, q) :: U) := by
  obtain ⟨S1, h1, h2⟩ := scn_bot (S := []) h
  have : S1 = [] := by
    have := congrArg List.length h1
    simp at this
    exact this
  subst this
  exact h2 q U
theorem bd_nil (r : Nat) : Bd r [] := rfl
theorem bd_app {r : Nat} {A B : List XE} (hA : Bd r A) (hB : Bd r B) : Bd r (A ++ B) := by
  unfold Bd; rw [scn_app' B hA]; exact hB
theorem bd_sym {r : Nat} {M : List XE} (c i : Nat) (h : Bd r M) : Bd r (eS c i r :: M) := by
  unfold Bd; rw [scn_cons, stp_sS]; exact h
/-- a structure whole: its first slot's items A, its second slot's B (of a fraction alone) -/
def sI (k i r o p : Nat) (A B : List XE) : List XE := eB k i r o p :: (A ++ ((if k = 1 then eD :: B else []) ++ [eN]))
theorem sI_1 (i r o p : Nat) (A B : List XE) : sI 1 i r o p A B = eB 1 i r o p :: (A ++ (eD :: B ++ [eN])) := rfl
theorem sI_n {k : Nat} (h : k ≠ 1) (i r o p : Nat) (A B : List XE) : sI k i r o p A B = eB k i r o p :: (A ++ [eN]) := by
  unfold sI; rw [if_neg h]; rfl
theorem scn_sI {k i o p : Nat} {A B : List XE} (f : Nat × Option Nat) (T : XK) (hA : Bd o A) (hB : k = 1 → Bd p B) : scn (f :: T) (sI k i f.1 o p A B) = some (f :: T) := by
  by_cases hk : k = 1
  · subst hk
    rw [sI_1, scn_cons, stp_sB]
    show scn ((o, some p) :: f :: T) (A ++ (eD :: B ++ [eN])) = _
    rw [scn_app' _ (bd_any hA _ _), List.cons_append, scn_cons, stp_sD]
    show scn ((p, none) :: f :: T) (B ++ [eN]) = _
    rw [scn_app' _ (bd_any (hB rfl) _ _)]
    rfl
  · rw [sI_n hk, scn_cons, stp_sB]
    show scn ((o, eP k p) :: f :: T) (A ++ [eN]) = _
    rw [scn_app' _ (bd_any hA _ _)]
    unfold eP; rw [if_neg hk]
    rfl
theorem bd_sI {k i r o p : Nat} {A B : List XE} (hA : Bd o A) (hB : k = 1 → Bd p B) : Bd r (sI k i r o p A B) := scn_sI (r, none) [] hA hB
/-- an open row's items end -/
theorem e_pop : ∀ (n : Nat) (M : List XE), M.length ≤ n → ∀ (r : Nat) (q : Option Nat) (T S : XK), scn ((r, q) :: T) M = some S → S.length ≤ T.length →
    ∃ A B M', Bd r A ∧ (∀ p, q = some p → Bd p B) ∧ M = A ++ ((if q.isSome = true then eD :: B else []) ++ eN :: M') ∧ scn T M' = some S := by
  intro n
  induction n with
  | zero =>
    intro M hM r q T S h hl
    obtain rfl : M = [] := List.eq_nil_of_length_eq_zero (by omega)
    cases h
    simp at hl
    omega
  | succ n ih =>
    intro M hM r q T S h hl
    cases M with
    | nil => cases h; simp at hl; omega
    | cons x M =>
      simp only [List.length_cons] at hM
      obtain ⟨S1, h1, h2⟩ := scn_cons' h
      obtain ⟨c, i, r'⟩ | ⟨k, i, r', o, p⟩ | b := x
      · obtain ⟨rfl, rfl⟩ := stp_S h1
        obtain ⟨A, B, M', e1, e2, e3, e4⟩ := ih M (by omega) _ q T S h2 hl
        exact ⟨eS c i r' :: A, B, M', bd_sym c i e1, e2, by rw [e3]; rfl, e4⟩
      · obtain ⟨rfl, rfl⟩ := stp_B h1
        obtain ⟨A, B, M1, e1, e2, e3, e4⟩ := ih M (by omega) o (eP k p) ((r', q) :: T) S h2 (by simp; omega)
        have hM1 : M1.length ≤ n := by
          have := congrArg List.length e3
          simp at this; omega
        obtain ⟨A2, B2, M2, a1, a2, a3, a4⟩ := ih M1 hM1 r' q T S e4 hl
        have hsi : eB k i r' o p :: M = sI k i r' o p A B ++ M1 := by
          rw [e3]
          unfold sI eP
          by_cases hk : k = 1
          · simp [hk]
          · simp [hk]
        refine ⟨sI k i r' o p A B ++ A2, B2, M2, bd_app (bd_sI e1 (fun hk => e2 p (by unfold eP; rw [if_pos hk]))) a1, a2, ?_, a4⟩
        rw [hsi, a3, List.append_assoc]
      · cases b with
        | false =>
          obtain ⟨p, g, T', d1, rfl, rfl⟩ := stp_D h1
          simp only at d1; subst d1
          obtain ⟨A, B, M', e1, e2, e3, e4⟩ := ih M (by omega) p none (g :: T') S h2 hl
          refine ⟨[], A, M', bd_nil r, fun p' hp => by cases hp; exact e1, ?_, e4⟩
          rw [e3]; rfl
        | true =>
          obtain ⟨g, T', d1, rfl, rfl⟩ := stp_N h1
          simp only at d1; subst d1
          exact ⟨[], [], M, bd_nil r, (fun p' hp => by cases hp), rfl, h2⟩
theorem bd_cases {r : Nat} {M : List XE} (h : Bd r M) : M = [] ∨ (∃ c i M', M = eS c i r :: M' ∧ Bd r M') ∨ (∃ k i o p A B M', M = sI k i r o p A B ++ M' ∧ Bd o A ∧ (k = 1 → Bd p B) ∧ Bd r M') := by
  cases M with
  | nil => exact Or.inl rfl
  | cons x M =>
    obtain ⟨S1, h1, h2⟩ := scn_cons' h
    obtain ⟨c, i, r'⟩ | ⟨k, i, r', o, p⟩ | b := x
    · obtain ⟨rfl, rfl⟩ := stp_S h1
      exact Or.inr (Or.inl ⟨c, i, M, rfl, h2⟩)
    · obtain ⟨rfl, rfl⟩ := stp_B h1
      obtain ⟨A, B, M1, e1, e2, e3, e4⟩ := e_pop _ M (Nat.le_refl _) o (eP k p) [(r', none)] _ h2 (Nat.le_refl _)
      refine Or.inr (Or.inr ⟨k, i, o, p, A, B, M1, ?_, e1, fun hk => e2 p (by unfold eP; rw [if_pos hk]), e4⟩)
      rw [e3]
      unfold sI eP
      by_cases hk : k = 1
      · simp [hk]
      · simp [hk]
    · cases b with
      | false => obtain ⟨p, g, T', d1, d2, d3⟩ := stp_D h1; cases d1
      | true => obtain ⟨g, T', d1, d2, d3⟩ := stp_N h1; cases d2
theorem sI_len (k i r o p : Nat) (A B : List XE) : (sI k i r o p A B).length = A.length + 2 + (if k = 1 then B.length + 1 else 0) := by
  unfold sI
  by_cases hk : k = 1
  · simp [hk]; omega
  · simp [hk]
theorem bd_ind {P : Nat → List XE → Prop} (h0 : ∀ r, P r []) (h1 : ∀ r c i M, Bd r M → P r M → P r (eS c i r :: M))
    (h2 : ∀ r k i o p A B M, Bd o A → (k = 1 → Bd p B) → Bd r M → P o A → (k = 1 → P p B) → P r M → P r (sI k i r o p A B ++ M)) : ∀ r M, Bd r M → P r M := by
  have key : ∀ n r M, M.length ≤ n → Bd r M → P r M := by
    intro n
    induction n with
    | zero =>
      intro r M hM h
      obtain rfl : M = [] := List.eq_nil_of_length_eq_zero (by omega)
      exact h0 r
    | succ n ih =>
      intro r M hM h
      rcases bd_cases h with rfl | ⟨c, i, M', rfl, hb⟩ | ⟨k, i, o, p, A, B, M', rfl, hA, hB, hb⟩
      · exact h0 r
      · exact h1 r c i M' hb (ih r M' (by simp at hM; omega) hb)
      · have hl := sI_len k i r o p A B
        rw [List.length_append, hl] at hM
        refine h2 r k i o p A B M' hA hB hb (ih o A (by omega) hA) (fun hk => ih p B ?_ (hB hk)) (ih r M' (by omega) hb)
        rw [if_pos hk] at hM; omega
  exact fun r M h => key M.length r M (Nat.le_refl _) h
/-- the structure about an open row: what is ahead of it, what of the row has been passed -/
theorem e_ctx : ∀ (n : Nat) (X : List XE), X.length ≤ n → ∀ (S0 : XK) (f g : Nat × Option Nat) (T : XK), scn S0 X = some (f :: g :: T) → S0.length ≤ T.length + 1 →
    ∃ X1 k i o p A, scn S0 X1 = some (g :: T) ∧ Bd o A ∧ ((X = X1 ++ eB k i g.1 o p :: A ∧ f = (o, eP k p)) ∨ (∃ B, k = 1 ∧ X = X1 ++ eB 1 i g.1 o p :: (A ++ eD :: B) ∧ f = (p, none) ∧ Bd p B)) := by
  intro n
  induction n with
  | zero =>
    intro X hX S0 f g T h hl
    obtain rfl : X = [] := List.eq_nil_of_length_eq_zero (by omega)
    cases h
    simp only [List.length_cons] at hl
    omega
  | succ n ih =>
    intro X hX S0 f g T h hl
    rcases List.eq_nil_or_concat X with rfl | ⟨Y, x, rfl⟩
    · cases h; simp only [List.length_cons] at hl; omega
    · simp only [List.concat_eq_append] at h hX ⊢
      rw [List.length_append] at hX
      simp only [List.length_cons, List.length_nil] at hX
      obtain ⟨S1, h1, h2⟩ := scn_split h
      obtain ⟨S2, h3, h4⟩ := scn_cons' h2
      cases h4
      cases S1 with
      | nil => exact (stp_0 h3).elim
      | cons f1 T1 =>
        obtain ⟨c, i, r'⟩ | ⟨k, i, r', o, p⟩ | b := x
        · obtain ⟨e1, e2⟩ := stp_S h3
          cases e2
          obtain ⟨X1, k, i', o, p, A, a1, a2, a3⟩ := ih Y (by omega) S0 f g T h1 hl
          rcases a3 with ⟨a3, a4⟩ | ⟨B, a3, a4, a5, a6⟩
          · refine ⟨X1, k, i', o, p, A ++ [eS c i r'], a1, bd_app a2 ?_, Or.inl ⟨by rw [a3]; simp, a4⟩⟩
            rw [e1, a4]; exact bd_sym c i (bd_nil o)
          · refine ⟨X1, k, i', o, p, A, a1, a2, Or.inr ⟨B ++ [eS c i r'], a3, by rw [a4]; simp, a5, bd_app a6 ?_⟩⟩
            rw [e1, a5]; exact bd_sym c i (bd_nil p)
        · obtain ⟨e1, e2⟩ := stp_B h3
          cases e2
          exact ⟨Y, k, i, o, p, [], h1, bd_nil o, Or.inl ⟨by rw [e1], rfl⟩⟩
        · cases b with
          | false =>
            obtain ⟨p, g1, T', d1, rfl, d3⟩ := stp_D h3
            cases d3
            obtain ⟨fr, fq⟩ := f1
            simp only at d1; subst d1
            obtain ⟨X1, k, i', o, p', A, a1, a2, a3⟩ := ih Y (by omega) S0 (fr, some p) g T h1 hl
            rcases a3 with ⟨a3, a4⟩ | ⟨B, a3, a4, a5, a6⟩
            · have hk : k = 1 := by
                have := congrArg Prod.snd a4
                simp only [eP] at this
                by_cases hk : k = 1
                · exact hk
                · rw [if_neg hk] at this; cases this
              subst hk
              have hp : p = p' := by
                have := congrArg Prod.snd a4
                simpa [eP] using this
              subst hp
              exact ⟨X1, 1, i', o, p, A, a1, a2, Or.inr ⟨[], rfl, by rw [a3]; simp, rfl, bd_nil p⟩⟩
            · cases a5
          | true =>
            obtain ⟨g1, T', d1, rfl, d3⟩ := stp_N h3
            cases d3
            obtain ⟨hr, hq⟩ := f1
            simp only at d1; subst d1
            obtain ⟨Y1, k, i', o, p, A, a1, a2, a3⟩ := ih Y (by omega) S0 (hr, none) f (g :: T) h1 (by simp only [List.length_cons]; omega)
            have hY1 : Y1.length ≤ n := by
              rcases a3 with ⟨a3, a4⟩ | ⟨B, a3, a4, a5, a6⟩
              · have := congrArg List.length a3; simp at this; omega
              · have := congrArg List.length a4; simp at this; omega
            obtain ⟨X1, k2, i2, o2, p2, A2, b1, b2, b3⟩ := ih Y1 hY1 S0 f g T a1 hl
            -- the structure that ended, whole
            have hs : ∃ Bq, Y ++ [eN] = Y1 ++ sI k i' f.1 o p A Bq ∧ (k = 1 → Bd p Bq) := by
              rcases a3 with ⟨a3, a4⟩ | ⟨B, a3, a4, a5, a6⟩
              · have hk : k ≠ 1 := by
                  intro hk
                  have := congrArg Prod.snd a4
                  simp [eP, hk] at this
                exact ⟨[], by rw [a3, sI_n hk]; simp, fun h => absurd h hk⟩
              · subst a3
                exact ⟨B, by rw [a4, sI_1]; simp, fun _ => a6⟩
            obtain ⟨Bq, hs1, hs2⟩ := hs
            have hbd : Bd f.1 (sI k i' f.1 o p A Bq) := bd_sI a2 hs2
            rcases b3 with ⟨b3, b4⟩ | ⟨B2, b3, b4, b5, b6⟩
            · refine ⟨X1, k2, i2, o2, p2, A2 ++ sI k i' f.1 o p A Bq, b1, bd_app b2 (by rw [b4] at hbd ⊢; exact hbd), Or.inl ⟨by rw [hs1, b3]; simp, b4⟩⟩
            · refine ⟨X1, k2, i2, o2, p2, A2, b1, b2, Or.inr ⟨B2 ++ sI k i' f.1 o p A Bq, b3, by rw [hs1, b4]; simp, b5, bd_app b6 (by rw [b5] at hbd ⊢; exact hbd)⟩⟩
