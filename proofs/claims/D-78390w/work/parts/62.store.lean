/-! THE COMPONENT'S MEMORY AS A STORE: rows, kinds of items, items' rows; a ghost tells every cell's colour and part -/
set_option maxRecDepth 100000
/-- a cell's colour (whose document), its part (0 row, 1 list, 2 list's array, 3 item, 4 slots, 5 other), whose -/
abbrev XG : Type := Nat → Nat × Nat × Nat
/-- a row: owner, slot, capacity, items -/
abbrev XR : Type := Option Nat × Nat × Nat × List Nat
/-- an item: a symbol's code, or kind, first row, second row, size and depth as read -/
abbrev XI : Type := Nat ⊕ (Nat × Nat × Nat × Nat × Nat)
abbrev XT : Type := (Nat → Option XR) × (Nat → Option XI) × (Nat → Option Nat)
def uF {α : Type} (f : Nat → α) (a : Nat) (v : α) : Nat → α := fun q => if q = a then v else f q
theorem uF_eq {α : Type} (f : Nat → α) (a : Nat) (v : α) : uF f a v a = v := if_pos rfl
theorem uF_ne {α : Type} {f : Nat → α} {a b : Nat} {v : α} (h : b ≠ a) : uF f a v b = f b := if_neg h
/-- a row in the memory -/
def RW (w : XW) (g : XG) (m : XM) (id r : Nat) (v : XR) : Prop := ∃ la ar bx, m r = some (.inr (3, [.ref la, va_rf v.1, .int (nI v.2.1), va_rf bx])) ∧ AL w m la ar v.2.2.1 v.2.2.2 ∧ g r = (id, 0, r) ∧ g la = (id, 1, r) ∧ (v.2.2.1 ≠ 0 → g ar = (id, 2, r))
def KW (g : XG) (m : XM) (id i : Nat) (v : XI) (o : Option Nat) : Prop := g i = (id, 3, i) ∧ match v with
  | .inl c => m i = some (.inr (9, [va_rf o, .int (nI c)])) ∧ c < 65536
  | .inr (k, p, q, rs, rd) => ∃ sa bx f, m i = some (.inr (7, [va_rf o, .int (nI k), .ref sa, .int (nI rs), .int (nI rd), va_rf bx])) ∧ m sa = some (rA 6 (if k = 1 then 2 else 1) f) ∧ f 0 = some p ∧ (k = 1 → f 1 = some q) ∧ g sa = (id, 4, i) ∧ 1 ≤ k ∧ k < 6 ∧ rd < 10000
def SM (w : XW) (g : XG) (m : XM) (id : Nat) (T : XT) : Prop := (∀ r v, T.1 r = some v → RW w g m id r v ∧ ∀ z ∈ v.2.2.2, T.2.1 z ≠ none) ∧ ∀ i v, T.2.1 i = some v → KW g m id i v (T.2.2 i)
/-- what a call on a document of this colour leaves: old cells keep their ghost, cells of other colours stay, new cells are its own -/
def Fr (id : Nat) (g : XG) (m : XM) (g' : XG) (m' : XM) : Prop := (∀ a, m a ≠ none → g' a = g a ∧ m' a ≠ none ∧ ((g a).1 ≠ id → m' a = m a)) ∧ ∀ a, m a = none → m' a ≠ none → (g' a).1 = id
/-- a ghost for new cells -/
def gN (g : XG) (m : XM) (f : XG) : XG := fun a => if (m a).isNone = true then f a else g a
theorem gN_old {g : XG} {m : XM} {f : XG} {a : Nat} (h : m a ≠ none) : gN g m f a = g a := by
  unfold gN; cases e : m a with
  | none => exact absurd e h
  | some x => simp
theorem gN_new {g : XG} {m : XM} {f : XG} {a : Nat} (h : m a = none) : gN g m f a = f a := by
  unfold gN; rw [h]; rfl
theorem Fr_tr {id : Nat} {g g1 g2 : XG} {m m1 m2 : XM} (h : Fr id g m g1 m1) (h2 : Fr id g1 m1 g2 m2) : Fr id g m g2 m2 := by
  refine ⟨fun a ha => ?_, fun a ha => ?_⟩
  · obtain ⟨e1, e2, e3⟩ := h.1 a ha
    obtain ⟨f1, f2, f3⟩ := h2.1 a e2
    exact ⟨f1.trans e1, f2, fun hn => (f3 (by rw [e1]; exact hn)).trans (e3 hn)⟩
  · intro h2a
    by_cases hm : m1 a = none
    · exact h2.2 a hm h2a
    · rw [(h2.1 a hm).1]; exact h.2 a ha hm
theorem Fr_al {id : Nat} {g g1 : XG} {m m1 : XM} (h : Fr id g m g1 m1) {a : Nat} (ha : m a ≠ none) (hn : (g a).1 ≠ id) : m1 a = m a := (h.1 a ha).2.2 hn
/-- a document of another colour stays -/
theorem SM_fr {w : XW} {g g1 : XG} {m m1 : XM} {id jd : Nat} {T : XT} (hF : Fr jd g m g1 m1) (hn : id ≠ jd) (h : SM w g m id T) : SM w g1 m1 id T := by
  have old : ∀ {a : Nat} {e : va_E} {x : Nat × Nat}, m a = some e → g a = (id, x) → m1 a = some e ∧ g1 a = (id, x) := by
    intro a e x h1 h2
    have hs : m a ≠ none := by rw [h1]; exact fun h => by cases h
    obtain ⟨f1, f2, f3⟩ := hF.1 a hs
    exact ⟨(f3 (by rw [h2]; exact hn)).trans h1, f1.trans h2⟩
  refine ⟨fun r v hr => ?_, fun i v hi => ?_⟩
  · obtain ⟨⟨la, ar, bx, h1, ⟨mc, f, k1, k2, k3, k4, k5⟩, h3, h4, h5⟩, hz⟩ := h.1 r v hr
    have e1 := old h1 h3
    have e2 := old k1 h4
    refine ⟨⟨la, ar, bx, e1.1, ⟨mc, f, e2.1, k2, k3, k4, ?_⟩, e1.2, e2.2, fun hc => ?_⟩, hz⟩
    · rcases k5 with k5 | ⟨k5, k6⟩
      · exact Or.inl k5
      · exact Or.inr ⟨k5, (old k6 (h5 (by omega))).1⟩
    · rcases k5 with ⟨k5, -⟩ | ⟨k5, k6⟩
      · exact absurd k5 hc
      · exact (old k6 (h5 hc)).2
  · obtain ⟨h1, h2⟩ := h.2 i v hi
    cases v with
    | inl c =>
      obtain ⟨h2, h3⟩ := h2
      exact ⟨(old h2 h1).2, (old h2 h1).1, h3⟩
    | inr v =>
      obtain ⟨k, p, q, rs, rd⟩ := v
      obtain ⟨sa, bx, f, a1, a2, a3, a4, a5, a6⟩ := h2
      exact ⟨(old a1 h1).2, sa, bx, f, (old a1 h1).1, (old a2 a5).1, a3, a4, (old a2 a5).2, a6⟩
theorem sm_xob {w : XW} {g : XG} {m : XM} {id : Nat} {T : XT} (h : SM w g m id T) {i : Nat} (hi : T.2.1 i ≠ none) : xob m i := by
  cases e : T.2.1 i with
  | none => exact absurd e hi
  | some v =>
    obtain ⟨h1, h2⟩ := h.2 i v e
    cases v with
    | inl c => exact ⟨_, _, h2.1, by decide⟩
    | inr v => obtain ⟨k, p, q, rs, rd⟩ := v; obtain ⟨sa, bx, f, a1, -⟩ := h2; exact ⟨_, _, a1, by decide⟩
/-- a list of a row's has changed, nothing else of old has -/
theorem sm_list {w : XW} {g : XG} {m m' : XM} {id : Nat} {T : XT} (h : SM w g m id T) {r : Nat} {own bx : Option Nat} {sl cap cap' la ar ar' : Nat} {is is' : List Nat} {l : List Nat}
    (hR : T.1 r = some (own, sl, cap, is)) (h1 : m r = some (.inr (3, [.ref la, va_rf own, .int (nI sl), va_rf bx]))) (h3 : g la = (id, 1, r)) (h4 : cap ≠ 0 → g ar = (id, 2, r)) (hm : m la ≠ none)
    (hA' : AL w m' la ar' cap' is') (hK : xKeep m m' l) (hl : ∀ a ∈ l, a = la ∨ (a = ar ∧ cap ≠ 0)) (har : cap' = 0 ∨ (ar' = ar ∧ cap ≠ 0 ∧ m ar ≠ none) ∨ m ar' = none) (hz : ∀ z ∈ is', T.2.1 z ≠ none) :
    ∃ g', SM w g' m' id (uF T.1 r (some (own, sl, cap', is')), T.2) ∧ Fr id g m g' m' := by
  have gr : g r = (id, 0, r) := by
    obtain ⟨⟨la, ar, bx, -, -, e, -⟩, -⟩ := h.1 r _ hR
    exact e
  have keep : ∀ a, m a ≠ none → g a ≠ (id, 1, r) → g a ≠ (id, 2, r) → m' a = m a := by
    intro a ha n1 n2
    refine hK.1 a ha (fun hm => ?_)
    rcases hl a hm with rfl | ⟨rfl, hc⟩
    · exact n1 h3
    · exact n2 (h4 hc)
  have old : ∀ {a : Nat} {e : va_E} {x : Nat × Nat}, m a = some e → g a = (id, x) → x ≠ (1, r) → x ≠ (2, r) → m' a = some e ∧ gN g m (fun a => if a = ar' then (id, 2, r) else (id, 5, 0)) a = (id, x) := by
    intro a e x a1 a2 n1 n2
    have hs : m a ≠ none := by rw [a1]; exact fun h => by cases h
    refine ⟨(keep a hs ?_ ?_).trans a1, (gN_old hs).trans a2⟩
    · rw [a2]; exact fun e => n1 (Prod.mk.inj e).2
    · rw [a2]; exact fun e => n2 (Prod.mk.inj e).2
  refine ⟨gN g m (fun a => if a = ar' then (id, 2, r) else (id, 5, 0)), ⟨fun s v hs => ?_, fun i v hi => ?_⟩, ⟨fun a ha => ⟨gN_old ha, hK.2 a ha, fun hn => ?_⟩, fun a ha => ?_⟩⟩
  · by_cases e : s = r
    · subst e
      replace hs := (uF_eq T.1 s _).symm.trans hs
      cases hs
      have e1 := old h1 gr (by simp) (by simp)
      refine ⟨⟨la, ar', bx, e1.1, hA', e1.2, (gN_old hm).trans h3, fun hc => ?_⟩, hz⟩
      rcases har with har | ⟨har, hc0, hm0⟩ | har
      · exact absurd har hc
      · subst har; exact (gN_old hm0).trans (h4 hc0)
      · exact (gN_new har).trans (if_pos rfl)
    · replace hs := (uF_ne (f := T.1) e).symm.trans hs
      obtain ⟨⟨la2, ar2, bx2, k1, ⟨mc, f, k2, k3, k4, k5, k6⟩, k7, k8, k9⟩, hz2⟩ := h.1 s v hs
      have e1 := old k1 k7 (by simp) (by simp)
      have e2 := old k2 k8 (by simpa using e) (by simp)
      refine ⟨⟨la2, ar2, bx2, e1.1, ⟨mc, f, e2.1, k3, k4, k5, ?_⟩, e1.2, e2.2, fun hc => ?_⟩, hz2⟩
      · rcases k6 with k6 | ⟨k6, k6'⟩
        · exact Or.inl k6
        · exact Or.inr ⟨k6, (old k6' (k9 (by omega)) (by simp) (by simpa using e)).1⟩
      · rcases k6 with ⟨k6, -⟩ | ⟨k6, k6'⟩
        · exact absurd k6 hc
        · exact (old k6' (k9 hc) (by simp) (by simpa using e)).2
  · obtain ⟨a0, h2⟩ := h.2 i v hi
    cases v with
    | inl c =>
      obtain ⟨h2, h3⟩ := h2
      have e1 := old h2 a0 (by simp) (by simp)
      exact ⟨e1.2, e1.1, h3⟩
    | inr v =>
      obtain ⟨k, p, q, rs, rd⟩ := v
      obtain ⟨sa, bx2, f, a1, a2, a3, a4, a5, a6⟩ := h2
      have e1 := old a1 a0 (by simp) (by simp)
      have e2 := old a2 a5 (by simp) (by simp)
      exact ⟨e1.2, sa, bx2, f, e1.1, e2.1, a3, a4, e2.2, a6⟩
  · refine keep a ha (fun e => hn (by rw [e])) (fun e => hn (by rw [e]))
  · intro _; rw [gN_new ha]; split <;> rfl
theorem Fr_rf (id : Nat) (g : XG) (m : XM) : Fr id g m g m := ⟨fun _ h => ⟨rfl, h, fun _ => rfl⟩, fun _ h h2 => absurd h h2⟩
/-- one cell of this colour has changed -/
theorem fr_u {id : Nat} {g : XG} {m : XM} {a : Nat} {e : va_E} (h : (g a).1 = id) (hm : m a ≠ none) : Fr id g m g (xu m a e) := by
  refine ⟨fun b hb => ⟨rfl, ?_, fun hn => ?_⟩, fun b hb h2 => ?_⟩
  · by_cases e : b = a
    · subst e; rw [xu_eq]; exact fun h => by cases h
    · rw [xu_ne e]; exact hb
  · rw [xu_ne (fun e => by subst e; exact hn h)]
  · by_cases e : b = a
    · subst e; exact absurd hb hm
    · rw [xu_ne e] at h2; exact absurd hb h2
/-- a new cell -/
theorem fr_n {id : Nat} {g : XG} {m : XM} {a : Nat} {e : va_E} {x : Nat × Nat} (hm : m a = none) : Fr id g m (uF g a (id, x)) (xu m a e) := by
  refine ⟨fun b hb => ?_, fun b hb h2 => ?_⟩
  · have : b ≠ a := fun e => by subst e; exact hb hm
    rw [uF_ne this, xu_ne this]
    exact ⟨rfl, hb, fun _ => rfl⟩
  · by_cases e : b = a
    · subst e; rw [uF_eq]
    · rw [xu_ne e] at h2; exact absurd hb h2
/-- an item's or a row's cell has changed -/
theorem sm_cell {w : XW} {g : XG} {m : XM} {id : Nat} {T T' : XT} {a t : Nat} {e0 e : va_E} (h : SM w g m id T) (ha : m a = some e0) (hg : g a = (id, t, a)) (ht : t = 0 ∨ t = 3)
    (hR : ∀ r v, T'.1 r = some v → (∀ z ∈ v.2.2.2, T'.2.1 z ≠ none) ∧ if r = a then ∃ own sl bx bx2 la, T.1 r = some (own, sl, v.2.2) ∧ m a = some (.inr (3, [.ref la, va_rf own, .int (nI sl), va_rf bx])) ∧ e = .inr (3, [.ref la, va_rf v.1, .int (nI v.2.1), va_rf bx2]) else T.1 r = some v)
    (hK : ∀ i v, T'.2.1 i = some v → if i = a then KW g (xu m a e) id i v (T'.2.2 i) else T.2.1 i = some v ∧ T'.2.2 i = T.2.2 i) : SM w g (xu m a e) id T' := by
  have old : ∀ {b : Nat} {e1 : va_E} {x : Nat × Nat}, m b = some e1 → g b = (id, x) → x ≠ (t, a) → xu m a e b = some e1 ∧ g b = (id, x) := by
    intro b e1 x b1 b2 b3
    have hs : m b ≠ none := by rw [b1]; exact fun h => by cases h
    refine ⟨(xu_ne fun e => ?_).trans b1, b2⟩
    subst e; rw [hg] at b2; exact b3 (Prod.mk.inj b2).2.symm
  refine ⟨fun r v hr => ?_, fun i v hi => ?_⟩
  · obtain ⟨hz, hr2⟩ := hR r v hr
    refine ⟨?_, hz⟩
    have fin : ∀ {own sl bx bx2 la}, T.1 r = some (own, sl, v.2.2) → (r ≠ a → own = v.1 ∧ sl = v.2.1) → (r = a → m a = some (.inr (3, [.ref la, va_rf own, .int (nI sl), va_rf bx])) ∧ e = .inr (3, [.ref la, va_rf v.1, .int (nI v.2.1), va_rf bx2])) → RW w g (xu m a e) id r v := by
      intro own sl bx bx2 la h1 hne heq
      obtain ⟨⟨la2, ar2, bx3, k1, ⟨mc, f, k2, k3, k4, k5, k6⟩, k7, k8, k9⟩, -⟩ := h.1 r _ h1
      have e2 := old k2 k8 (by rcases ht with rfl | rfl <;> simp)
      refine ⟨la2, ar2, if r = a then bx2 else bx3, ?_, ⟨mc, f, e2.1, k3, k4, k5, ?_⟩, ?_, e2.2, fun hc => ?_⟩
      · by_cases er : r = a
        · subst er
          obtain ⟨q1, q2⟩ := heq rfl
          rw [q1] at k1
          have := Option.some.inj k1
          have hl : la = la2 := by
            have := (Prod.mk.inj (Sum.inr.inj this)).2
            simpa using (List.cons.inj this).1
          rw [xu_eq, q2, if_pos rfl, hl]
        · obtain ⟨q1, q2⟩ := hne er
          subst q1; subst q2
          rw [xu_ne er, if_neg er]; exact k1
      · rcases k6 with k6 | ⟨k6, k6'⟩
        · exact Or.inl k6
        · exact Or.inr ⟨k6, (old k6' (k9 (by have : 10 ≤ v.2.2.1 := k6; show v.2.2.1 ≠ 0; omega)) (by rcases ht with rfl | rfl <;> simp)).1⟩
      · exact k7
      · rcases k6 with ⟨k6, -⟩ | ⟨k6, k6'⟩
        · exact absurd k6 hc
        · exact (old k6' (k9 hc) (by rcases ht with rfl | rfl <;> simp)).2
    by_cases er : r = a
    · rw [if_pos er] at hr2
      obtain ⟨own, sl, bx, bx2, la, q1, q2, q3⟩ := hr2
      exact fin q1 (fun h => absurd er h) (fun _ => ⟨q2, q3⟩)
    · rw [if_neg er] at hr2
      exact fin (own := v.1) (sl := v.2.1) (bx := none) (bx2 := none) (la := 0) hr2 (fun _ => ⟨rfl, rfl⟩) (fun h => absurd h er)
  · have hi2 := hK i v hi
    by_cases ei : i = a
    · rw [if_pos ei] at hi2; exact hi2
    · rw [if_neg ei] at hi2
      obtain ⟨a0, h2⟩ := h.2 i v hi2.1
      rw [hi2.2]
      cases v with
      | inl c =>
        obtain ⟨h2, h3⟩ := h2
        have e1 := old h2 a0 (by rcases ht with rfl | rfl <;> simp [ei])
        exact ⟨e1.2, e1.1, h3⟩
      | inr v =>
        obtain ⟨k, p, q, rs, rd⟩ := v
        obtain ⟨sa, bx2, f, a1, a2, a3, a4, a5, a6⟩ := h2
        have e1 := old a1 a0 (by rcases ht with rfl | rfl <;> simp [ei])
        have e2 := old a2 a5 (by rcases ht with rfl | rfl <;> simp)
        exact ⟨e1.2, sa, bx2, f, e1.1, e2.1, a3, a4, e2.2, a6⟩
/-- nothing of old has changed -/
theorem sm_old {w : XW} {g g' : XG} {m m' : XM} {id : Nat} {T : XT} (hk : ∀ a, m a ≠ none → m' a = m a ∧ g' a = g a) (h : SM w g m id T) : SM w g' m' id T := by
  have old : ∀ {b : Nat} {e1 : va_E} {x : Nat × Nat × Nat}, m b = some e1 → g b = x → m' b = some e1 ∧ g' b = x := by
    intro b e1 x b1 b2
    obtain ⟨k1, k2⟩ := hk b (by rw [b1]; exact fun h => by cases h)
    exact ⟨k1.trans b1, k2.trans b2⟩
  refine ⟨fun r v hr => ?_, fun i v hi => ?_⟩
  · obtain ⟨⟨la2, ar2, bx2, k1, ⟨mc, f, k2, k3, k4, k5, k6⟩, k7, k8, k9⟩, hz2⟩ := h.1 r v hr
    have e1 := old k1 k7
    have e2 := old k2 k8
    refine ⟨⟨la2, ar2, bx2, e1.1, ⟨mc, f, e2.1, k3, k4, k5, ?_⟩, e1.2, e2.2, fun hc => ?_⟩, hz2⟩
    · rcases k6 with k6 | ⟨k6, k6'⟩
      · exact Or.inl k6
      · exact Or.inr ⟨k6, (old k6' (k9 (by omega))).1⟩
    · rcases k6 with ⟨k6, -⟩ | ⟨k6, k6'⟩
      · exact absurd k6 hc
      · exact (old k6' (k9 hc)).2
  · obtain ⟨a0, h2⟩ := h.2 i v hi
    cases v with
    | inl c =>
      obtain ⟨h2, h3⟩ := h2
      have e1 := old h2 a0
      exact ⟨e1.2, e1.1, h3⟩
    | inr v =>
      obtain ⟨k, p, q, rs, rd⟩ := v
      obtain ⟨sa, bx2, f, a1, a2, a3, a4, a5, a6⟩ := h2
      have e1 := old a1 a0
      have e2 := old a2 a5
      exact ⟨e1.2, sa, bx2, f, e1.1, e2.1, a3, a4, e2.2, a6⟩
theorem sm_n {w : XW} {g : XG} {m : XM} {id : Nat} {T : XT} {a : Nat} {e : va_E} {x : Nat × Nat} (h : SM w g m id T) (hm : m a = none) : SM w (uF g a (id, x)) (xu m a e) id T :=
  sm_old (fun b hb => by
    have : b ≠ a := fun e => by subst e; exact hb hm
    exact ⟨xu_ne this, uF_ne this⟩) h
theorem sm_Rnone {w : XW} {g : XG} {m : XM} {id : Nat} {T : XT} {a : Nat} (h : SM w g m id T) (hm : m a = none) : T.1 a = none := by
  cases e : T.1 a with
  | none => rfl
  | some v => obtain ⟨⟨la, ar, bx, h1, -⟩, -⟩ := h.1 a v e; rw [hm] at h1; cases h1
theorem sm_Knone {w : XW} {g : XG} {m : XM} {id : Nat} {T : XT} {a : Nat} (h : SM w g m id T) (hm : m a = none) : T.2.1 a = none := by
  cases e : T.2.1 a with
  | none => rfl
  | some v =>
    obtain ⟨-, h1⟩ := h.2 a v e
    cases v with
    | inl c => rw [hm] at h1; exact absurd h1.1 (fun h => by cases h)
    | inr v => obtain ⟨k, p, q, rs, rd⟩ := v; obtain ⟨sa, bx, f, h1, -⟩ := h1; rw [hm] at h1; cases h1
/-- one more row -/
theorem sm_addR {w : XW} {g : XG} {m : XM} {id : Nat} {T : XT} {r : Nat} {v : XR} (h : SM w g m id T) (hr : RW w g m id r v) (hz : ∀ z ∈ v.2.2.2, T.2.1 z ≠ none) : SM w g m id (uF T.1 r (some v), T.2) := by
  refine ⟨fun s u hs => ?_, h.2⟩
  by_cases e : s = r
  · subst e
    replace hs := (uF_eq T.1 s _).symm.trans hs
    cases hs
    exact ⟨hr, hz⟩
  · exact h.1 s u ((uF_ne (f := T.1) e).symm.trans hs)
/-- one more item -/
theorem sm_addK {w : XW} {g : XG} {m : XM} {id : Nat} {T : XT} {i : Nat} {v : XI} {o : Option Nat} (h : SM w g m id T) (hk : KW g m id i v o) : SM w g m id (T.1, uF T.2.1 i (some v), uF T.2.2 i o) := by
  refine ⟨fun s u hs => ⟨(h.1 s u hs).1, fun z hz => ?_⟩, fun j u hj => ?_⟩
  · show uF T.2.1 i (some v) z ≠ none
    by_cases e : z = i
    · subst e; rw [uF_eq]; exact fun h => by cases h
    · rw [uF_ne e]; exact (h.1 s u hs).2 z hz
  · show KW g m id j u (uF T.2.2 i o j)
    by_cases e : j = i
    · subst e
      replace hj := (uF_eq T.2.1 j _).symm.trans hj
      cases hj
      rw [uF_eq]; exact hk
    · rw [uF_ne e]
      exact h.2 j u ((uF_ne (f := T.2.1) e).symm.trans hj)
/-- an item's row -/
theorem sm_setW {w : XW} {g : XG} {m : XM} {id : Nat} {T : XT} {x ci : Nat} {o : Option Nat} {v0 : Value} {fs : List Value} (h : SM w g m id T) (hk : T.2.1 x ≠ none) (hm : m x = some (.inr (ci, v0 :: fs))) : SM w g (xu m x (.inr (ci, va_rf o :: fs))) id (T.1, T.2.1, uF T.2.2 x o) ∧ Fr id g m g (xu m x (.inr (ci, va_rf o :: fs))) := by
  have hg : g x = (id, 3, x) := by
    cases e : T.2.1 x with
    | none => exact absurd e hk
    | some v => exact (h.2 x v e).1
  refine ⟨sm_cell h hm hg (Or.inr rfl) (fun r v hr => ⟨(h.1 r v hr).2, ?_⟩) (fun i v hi => ?_), fr_u (by rw [hg]) (by rw [hm]; exact fun h => by cases h)⟩
  · have : r ≠ x := by
      intro e; subst e
      obtain ⟨⟨la, ar, bx, -, -, e, -⟩, -⟩ := h.1 r v hr
      rw [hg] at e; cases e
    rw [if_neg this]; exact hr
  · by_cases e : i = x
    · subst e
      rw [if_pos rfl]
      show KW g _ id i v (uF T.2.2 i o i)
      rw [uF_eq]
      obtain ⟨a0, h2⟩ := h.2 i v hi
      cases v with
      | inl c =>
        obtain ⟨h2, h3⟩ := h2
        rw [hm] at h2; cases h2
        exact ⟨a0, xu_eq _ _ _, h3⟩
      | inr v =>
        obtain ⟨k, p, q, rs, rd⟩ := v
        obtain ⟨sa, bx2, f, a1, a2, a3, a4, a5, a6⟩ := h2
        rw [hm] at a1; cases a1
        refine ⟨a0, sa, bx2, f, xu_eq _ _ _, (xu_ne fun e => ?_).trans a2, a3, a4, a5, a6⟩
        subst e; rw [hm] at a2; cases a2
    · rw [if_neg e]; exact ⟨hi, uF_ne e⟩
/-- a row's owner and slot -/
theorem sm_own {w : XW} {g : XG} {m : XM} {id : Nat} {T : XT} {r la : Nat} {own own' bx bx' : Option Nat} {sl sl' : Nat} {v : Nat × List Nat} (h : SM w g m id T) (hr : T.1 r = some (own, sl, v)) (hm : m r = some (.inr (3, [.ref la, va_rf own, .int (nI sl), va_rf bx]))) :
    SM w g (xu m r (.inr (3, [.ref la, va_rf own', .int (nI sl'), va_rf bx']))) id (uF T.1 r (some (own', sl', v)), T.2) ∧ Fr id g m g (xu m r (.inr (3, [.ref la, va_rf own', .int (nI sl'), va_rf bx']))) := by
  have hg : g r = (id, 0, r) := by
    obtain ⟨⟨la, ar, bx, -, -, e, -⟩, -⟩ := h.1 r _ hr
    exact e
  refine ⟨sm_cell h hm hg (Or.inl rfl) (fun s u hs => ?_) (fun i u hi => ?_), fr_u (by rw [hg]) (by rw [hm]; exact fun h => by cases h)⟩
  · by_cases e : s = r
    · subst e
      replace hs := (uF_eq T.1 s _).symm.trans hs
      cases hs
      exact ⟨(h.1 s _ hr).2, by rw [if_pos rfl]; exact ⟨own, sl, bx, bx', la, hr, hm, rfl⟩⟩
    · replace hs := (uF_ne (f := T.1) e).symm.trans hs
      exact ⟨(h.1 s _ hs).2, by rw [if_neg e]; exact hs⟩
  · have : i ≠ r := by
      intro e; subst e
      have := (h.2 i u hi).1
      rw [hg] at this; cases this
    rw [if_neg this]; exact ⟨hi, rfl⟩
/-- a symbol's sign -/
theorem sm_sign {w : XW} {g : XG} {m : XM} {id : Nat} {T : XT} {x c c' : Nat} {v0 v1 : Value} (h : SM w g m id T) (hk : T.2.1 x = some (.inl c)) (hm : m x = some (.inr (9, [v0, v1]))) (hc : c' < 65536) : SM w g (xu m x (.inr (9, [v0, .int (nI c')]))) id (T.1, uF T.2.1 x (some (.inl c')), T.2.2) ∧ Fr id g m g (xu m x (.inr (9, [v0, .int (nI c')]))) := by
  have hg := (h.2 x _ hk).1
  refine ⟨sm_cell h hm hg (Or.inr rfl) (fun r v hr => ⟨fun z hz => ?_, ?_⟩) (fun i v hi => ?_), fr_u (by rw [hg]) (by rw [hm]; exact fun h => by cases h)⟩
  · show uF T.2.1 x (some (.inl c')) z ≠ none
    by_cases e : z = x
    · subst e; rw [uF_eq]; exact fun h => by cases h
    · rw [uF_ne e]; exact (h.1 r v hr).2 z hz
  · have : r ≠ x := by
      intro e; subst e
      obtain ⟨⟨la, ar, bx, -, -, e, -⟩, -⟩ := h.1 r v hr
      rw [hg] at e; cases e
    rw [if_neg this]; exact hr
  · by_cases e : i = x
    · subst e
      rw [if_pos rfl]
      replace hi := (uF_eq T.2.1 i _).symm.trans hi
      cases hi
      obtain ⟨a0, h2, h3⟩ := h.2 i _ hk
      rw [hm] at h2; cases h2
      exact ⟨a0, xu_eq _ _ _, hc⟩
    · rw [if_neg e]; exact ⟨(uF_ne (f := T.2.1) e).symm.trans hi, rfl⟩
/-- a cell that the store does not know -/
theorem sm_free {w : XW} {g : XG} {m : XM} {id : Nat} {T : XT} {a t x : Nat} {e : va_E} (h : SM w g m id T) (hm : m a ≠ none) (hg : g a = (id, t, x)) (ht : t = 5 ∨ ((t = 3 ∨ t = 4) ∧ T.2.1 x = none)) : SM w g (xu m a e) id T ∧ Fr id g m g (xu m a e) := by
  refine ⟨?_, fr_u (by rw [hg]) hm⟩
  have old : ∀ {b : Nat} {e1 : va_E} {y : Nat × Nat}, m b = some e1 → g b = (id, y) → (y.1 = 5 → False) → ((y.1 = 3 ∨ y.1 = 4) → T.2.1 y.2 ≠ none) → xu m a e b = some e1 := by
    intro b e1 y b1 b2 b3 b4
    refine (xu_ne fun e => ?_).trans b1
    subst e; rw [hg] at b2
    cases b2
    rcases ht with ht | ⟨ht, hx⟩
    · exact b3 ht
    · exact b4 ht hx
  refine ⟨fun r v hr => ?_, fun i v hi => ?_⟩
  · obtain ⟨⟨la2, ar2, bx2, k1, ⟨mc, f, k2, k3, k4, k5, k6⟩, k7, k8, k9⟩, hz2⟩ := h.1 r v hr
    refine ⟨⟨la2, ar2, bx2, old k1 k7 (by simp) (by simp), ⟨mc, f, old k2 k8 (by simp) (by simp), k3, k4, k5, ?_⟩, k7, k8, k9⟩, hz2⟩
    rcases k6 with k6 | ⟨k6, k6'⟩
    · exact Or.inl k6
    · exact Or.inr ⟨k6, old k6' (k9 (by omega)) (by simp) (by simp)⟩
  · obtain ⟨a0, h2⟩ := h.2 i v hi
    have hni : T.2.1 i ≠ none := by rw [hi]; exact fun h => by cases h
    cases v with
    | inl c =>
      obtain ⟨h2, h3⟩ := h2
      exact ⟨a0, old h2 a0 (by simp) (fun _ => hni), h3⟩
    | inr v =>
      obtain ⟨k, p, q, rs, rd⟩ := v
      obtain ⟨sa, bx2, f, a1, a2, a3, a4, a5, a6⟩ := h2
      exact ⟨a0, sa, bx2, f, old a1 a0 (by simp) (fun _ => hni), old a2 a5 (by simp) (fun _ => hni), a3, a4, a5, a6⟩
