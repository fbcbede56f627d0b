/-! PARTS OF A ROW -/
set_option maxRecDepth 100000
/-- items of a row r with all that is in them; nothing of r itself -/
def PT (T : XT) (r : Nat) (N : List XE) : Prop := Bd r N ∧ (r :: opn N).Nodup ∧ (itm N).Nodup ∧ (∀ s ∈ opn N, ∃ own sl cap, T.1 s = some (own, sl, cap, drs s N)) ∧ ∀ x ∈ N, EK T x
theorem pt_nil (T : XT) (r : Nat) : PT T r [] := ⟨bd_nil r, by simp [opn], by simp [itm], fun s hs => by simp [opn] at hs, fun x hx => by simp at hx⟩
theorem pt_dt {T : XT} {r : Nat} {N : List XE} {own : Option Nat} {sl cap : Nat} (h : PT T r N) (hr : T.1 r = some (own, sl, cap, drs r N)) : DT T r N :=
  ⟨h.1, h.2.1, h.2.2.1, fun s hs => by
    rcases List.mem_cons.mp hs with rfl | hs
    · exact ⟨own, sl, cap, hr⟩
    · exact h.2.2.2.1 s hs, h.2.2.2.2⟩
theorem dt_ptw {T : XT} {r : Nat} {N : List XE} (h : DT T r N) : PT T r N := ⟨h.1, h.2.1, h.2.2.1, fun s hs => h.2.2.2.1 s (List.mem_cons_of_mem _ hs), h.2.2.2.2⟩
theorem ft_pt {m : XM} {T T' : XT} {t : Nat} {N : List XE} (h : FT m T T' t N) (ht : m t ≠ none) : PT T' t N :=
  ⟨h.1, List.nodup_cons.mpr ⟨fun hm => ht (h.2.2.2.1 t hm), h.2.1⟩, h.2.2.1, h.2.2.2.2.2.1, h.2.2.2.2.2.2.1⟩
theorem pt_of {T : XT} {top r : Nat} {P N Q : List XE} {q : Option Nat} {S : XK} (h : DT T top (P ++ (N ++ Q))) (hH : HO top P Q r q S) (hN : Bd r N) : PT T r N := by
  obtain ⟨h1, h2, h3, h4, h5⟩ := h
  rw [opn_app, opn_app] at h2 h4
  rw [itm_app, itm_app] at h3
  have hn := h2
  rw [List.nodup_cons, List.nodup_append, List.nodup_append] at hn
  have hr : r ∉ opn N := by
    intro hm
    rcases ho_r hH with rfl | hx
    · exact hn.1 (List.mem_append_right _ (List.mem_append_left _ hm))
    · exact hn.2.2.2 r hx r (List.mem_append_left _ hm) rfl
  refine ⟨hN, List.nodup_cons.mpr ⟨hr, hn.2.2.1.1⟩, (List.nodup_append.mp (List.nodup_append.mp h3).2.1).1, fun s hs => ?_, fun x hx => h5 x (by simp [hx])⟩
  obtain ⟨ow, sl, cap, e⟩ := h4 s (List.mem_cons_of_mem _ (List.mem_append_right _ (List.mem_append_left _ hs)))
  have e4 : s ∉ top :: (opn P ++ opn Q) := by
    simp only [List.mem_cons, List.mem_append, not_or]
    refine ⟨?_, fun hx => hn.2.2.2 s hx s (List.mem_append_left _ hs) rfl, fun hy => hn.2.2.1.2.2 s hs s hy rfl⟩
    rintro rfl
    exact hn.1 (List.mem_append_right _ (List.mem_append_left _ hs))
  obtain ⟨o1, o2⟩ := ho_out (M := []) hH e4
  exact ⟨ow, sl, cap, by rw [e, drs_app, drs_app, o1, o2]; simp⟩
theorem pt_mv {T T' : XT} {r : Nat} {N : List XE} (h : PT T r N) (hr : ∀ s ∈ opn N, T'.1 s = T.1 s) (hk : ∀ i ∈ itm N, T'.2.1 i = T.2.1 i ∧ T'.2.2 i = T.2.2 i) : PT T' r N :=
  ⟨h.1, h.2.1, h.2.2.1, fun s hs => by rw [hr s hs]; exact h.2.2.2.1 s hs, fun x hx => ek_mv (h.2.2.2.2 x hx) (fun i hi => hk i (itm_sub hx i hi)) (fun s hs ow sl cap is e => ⟨cap, is, by rw [hr s (opn_sub hx s hs)]; exact e⟩)⟩
theorem ek_drs {T : XT} {r : Nat} {N : List XE} (h : ∀ x ∈ N, EK T x) : ∀ i ∈ drs r N, T.2.2 i = some r := by
  induction N with
  | nil => intro i hi; simp [drs] at hi
  | cons x N ih =>
    have ih := ih (fun y hy => h y (List.mem_cons_of_mem _ hy))
    have h0 := h x List.mem_cons_self
    intro i hi
    obtain ⟨c, j, s⟩ | ⟨k, j, s, o, p⟩ | b := x
    · simp only [drs] at hi
      by_cases e : s = r
      · rw [if_pos e] at hi
        rcases List.mem_cons.mp hi with rfl | hi
        · rw [h0.2, e]
        · exact ih i hi
      · rw [if_neg e] at hi; exact ih i hi
    · simp only [drs] at hi
      by_cases e : s = r
      · rw [if_pos e] at hi
        rcases List.mem_cons.mp hi with rfl | hi
        · rw [h0.2.1, e]
        · exact ih i hi
      · rw [if_neg e] at hi; exact ih i hi
    · exact ih i hi
theorem drs_mem {x : XE} {N : List XE} (hx : x ∈ N) (r i : Nat) (h : i ∈ drs r [x]) : i ∈ drs r N := by
  obtain ⟨A, B, rfl⟩ := List.append_of_mem hx
  rw [drs_app, show x :: B = [x] ++ B from rfl, drs_app]
  exact List.mem_append_right _ (List.mem_append_left _ h)
/-- the items of a row are another row's -/
theorem pt_ren {T T' : XT} {r t : Nat} {N : List XE} (h : PT T r N) (hr : ∀ s ∈ opn N, T'.1 s = T.1 s) (hk : ∀ i ∈ itm N, T'.2.1 i = T.2.1 i) (h1 : ∀ i ∈ drs r N, T'.2.2 i = some t) (h2 : ∀ i ∈ itm N, i ∉ drs r N → T'.2.2 i = T.2.2 i) (ht : t ∉ opn N) : PT T' t (rnL r t N) := by
  have hro : r ∉ opn N := (List.nodup_cons.mp h.2.1).1
  refine ⟨rn_bd h.1 hro, by rw [rn_opn]; exact List.nodup_cons.mpr ⟨ht, (List.nodup_cons.mp h.2.1).2⟩, by rw [rn_itm]; exact h.2.2.1, fun s hs => ?_, fun x hx => ?_⟩
  · rw [rn_opn] at hs
    have n1 : s ≠ r := fun e => by subst e; exact hro hs
    have n2 : s ≠ t := fun e => by subst e; exact ht hs
    rw [rn_drs N n1 n2, hr s hs]
    exact h.2.2.2.1 s hs
  · obtain ⟨y, hy, rfl⟩ := List.mem_map.mp hx
    have e0 := h.2.2.2.2 y hy
    have hin := itm_sub hy
    have hop := opn_sub hy
    obtain ⟨c, i, s⟩ | ⟨k, i, s, o, p⟩ | b := y
    · have hi := hin i (by simp [itm])
      refine ⟨(hk i hi).trans e0.1, ?_⟩
      show T'.2.2 i = some (if s = r then t else s)
      by_cases e : s = r
      · rw [if_pos e]; exact h1 i (drs_mem hy r i (by simp [drs, e]))
      · rw [if_neg e, h2 i hi (fun hm => e (by have := (ek_drs h.2.2.2.2 i hm).symm.trans e0.2; cases this; rfl))]; exact e0.2
    · have hi := hin i (by simp [itm])
      obtain ⟨⟨rs, rd, a1⟩, a2, ⟨c3, i3, a3⟩, a4⟩ := e0
      refine ⟨⟨rs, rd, (hk i hi).trans a1⟩, ?_, ⟨c3, i3, by rw [hr o (hop o (by by_cases hk1 : k = 1 <;> simp [opn, hk1]))]; exact a3⟩, fun hk1 => ?_⟩
      · show T'.2.2 i = some (if s = r then t else s)
        by_cases e : s = r
        · rw [if_pos e]; exact h1 i (drs_mem hy r i (by simp [drs, e]))
        · rw [if_neg e, h2 i hi (fun hm => e (by have := (ek_drs h.2.2.2.2 i hm).symm.trans a2; cases this; rfl))]; exact a2
      · obtain ⟨c4, i4, a4⟩ := a4 hk1
        exact ⟨c4, i4, by rw [hr p (hop p (by simp [opn, hk1]))]; exact a4⟩
    · trivial
/-- the tree with another content behind a gap -/
theorem dt_new {T T' : XT} {top r : Nat} {P N N' Q : List XE} {q : Option Nat} {S : XK} {ow : Option Nat} {sl cap : Nat} (h : DT T top (P ++ (N ++ Q))) (hH : HO top P Q r q S) (hN : Bd r N) (hP : PT T' r N')
    (hop : ∀ s ∈ opn N', s ∈ opn N ∨ (s ∉ top :: (opn P ++ opn Q))) (hit : ∀ i ∈ itm N', i ∈ itm N ∨ (i ∉ itm P ++ itm Q))
    (h0 : T.1 r = some (ow, sl, cap, drs r (P ++ (N ++ Q)))) (hr : ∃ cap', T'.1 r = some (ow, sl, cap', drs r (P ++ (N' ++ Q))))
    (hs : ∀ s, s ∈ top :: (opn P ++ opn Q) → s ≠ r → T'.1 s = T.1 s) (hk : ∀ i, i ∈ itm P ++ itm Q → T'.2.1 i = T.2.1 i ∧ T'.2.2 i = T.2.2 i) : DT T' top (P ++ (N' ++ Q)) := by
  have hn := h.2.1
  have hi := h.2.2.1
  rw [opn_app, opn_app] at hn
  rw [itm_app, itm_app] at hi
  have hop' : ∀ s ∈ opn N', s ≠ top ∧ s ∉ opn P ∧ s ∉ opn Q := by
    intro s h1
    rcases hop s h1 with h1 | h1
    · rw [List.nodup_cons, List.nodup_append, List.nodup_append] at hn
      refine ⟨?_, fun hx => hn.2.2.2 s hx s (List.mem_append_left _ h1) rfl, fun hy => hn.2.2.1.2.2 s h1 s hy rfl⟩
      rintro rfl
      exact hn.1 (List.mem_append_right _ (List.mem_append_left _ h1))
    · simp only [List.mem_cons, List.mem_append, not_or] at h1; exact h1
  have hit' : ∀ s ∈ itm N', s ∉ itm P ∧ s ∉ itm Q := by
    intro s h1
    rcases hit s h1 with h1 | h1
    · rw [List.nodup_append, List.nodup_append] at hi
      exact ⟨fun hx => hi.2.2 s hx s (List.mem_append_left _ h1) rfl, fun hy => hi.2.1.2.2 s h1 s hy rfl⟩
    · simp only [List.mem_append, not_or] at h1; exact h1
  refine dt_repl h hH hN hP.1 ?_ ?_ (fun ow2 sl2 cap2 e => ?_) hs hP.2.2.2.1 hk hP.2.2.2.2
  · rw [List.nodup_cons, List.nodup_append, List.nodup_append] at hn ⊢
    refine ⟨fun hm => ?_, hn.2.1, ⟨(List.nodup_cons.mp hP.2.1).2, hn.2.2.1.2.1, fun x hx y hy e => by subst e; exact (hop' x hx).2.2 hy⟩, fun x hx y hy e => ?_⟩
    · rcases List.mem_append.mp hm with hm | hm
      · exact hn.1 (List.mem_append_left _ hm)
      · rcases List.mem_append.mp hm with hm | hm
        · exact (hop' top hm).1 rfl
        · exact hn.1 (List.mem_append_right _ (List.mem_append_right _ hm))
    · subst e
      rcases List.mem_append.mp hy with hy | hy
      · exact (hop' x hy).2.1 hx
      · exact hn.2.2.2 x hx x (List.mem_append_right _ hy) rfl
  · rw [List.nodup_append, List.nodup_append] at hi ⊢
    refine ⟨hi.1, ⟨hP.2.2.1, hi.2.1.2.1, fun x hx y hy e => by subst e; exact (hit' x hx).2 hy⟩, fun x hx y hy e => ?_⟩
    subst e
    rcases List.mem_append.mp hy with hy | hy
    · exact (hit' x hy).1 hx
    · exact hi.2.2 x hx x (List.mem_append_right _ hy) rfl
  · rw [h0] at e; cases e; exact hr
