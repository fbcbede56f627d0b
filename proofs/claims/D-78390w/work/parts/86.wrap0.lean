/-! WRAP: heights at a gap; a new structure, both kinds -/
set_option maxRecDepth 100000
theorem dpF_max : ∀ (M : List XE) (c a b : Nat), dpF c (max a b) M = max (dpF c a M) b := by
  intro M
  induction M with
  | nil => intro c a b; rfl
  | cons x M ih =>
    intro c a b
    obtain ⟨c', i, r'⟩ | ⟨k, i, r', o, p⟩ | b' := x
    · exact ih c a b
    · show dpF (c + 1) (max (max a b) (c + 1)) M = max (dpF (c + 1) (max a (c + 1)) M) b
      rw [show max (max a b) (c + 1) = max (max a (c + 1)) b from by omega]
      exact ih (c + 1) _ b
    · cases b' with
      | false => exact ih c a b
      | true => exact ih (c - 1) a b
/-- the height with a content put at a gap of level |S| -/
theorem hts_gap {top r : Nat} {P M Q : List XE} {f : Nat × Option Nat} {S : XK} (h : scn [(top, none)] P = some (f :: S)) (hM : Bd r M) : hts (P ++ (M ++ Q)) = max (hts (P ++ Q)) (if hts M = 0 then 0 else S.length + hts M) := by
  obtain ⟨mx', e1, e2⟩ := scn_hts P _ _ 0 h (by simp)
  simp only [List.length_cons, List.length_nil, Nat.add_sub_cancel] at e1 e2
  show dpF 0 0 _ = max (dpF 0 0 _) _
  rw [e2, e2, dpF_bd r M hM, dpF_max]
theorem sh_dpF : ∀ {A B : List XE}, A.map shE = B.map shE → ∀ c mx, dpF c mx A = dpF c mx B := by
  intro A
  induction A with
  | nil => intro B h c mx; cases B with
    | nil => rfl
    | cons y B => simp at h
  | cons x A ih =>
    intro B h c mx
    cases B with
    | nil => simp at h
    | cons y B =>
      rw [List.map_cons, List.map_cons] at h
      obtain ⟨h1, h2⟩ := List.cons.inj h
      have i1 := ih h2
      obtain ⟨c', i, r⟩ | ⟨k, i, r, o, p⟩ | b := x <;> obtain ⟨c'', i', r'⟩ | ⟨k', i', r', o', p'⟩ | b' := y <;> simp [shE] at h1
      · exact i1 c mx
      · exact i1 (c + 1) _
      · subst h1
        cases b with
        | false => exact i1 c mx
        | true => exact i1 (c - 1) mx
theorem sh_hts {A B : List XE} (h : A.map shE = B.map shE) : hts A = hts B := sh_dpF h 0 0
theorem rn_sh (r t : Nat) (L : List XE) : (rnL r t L).map shE = L.map shE := by
  unfold rnL
  rw [List.map_map]
  refine List.map_congr_left (fun x _ => ?_)
  obtain ⟨c, i, s⟩ | ⟨k, i, s, o, p⟩ | b := x <;> rfl
theorem sh_sg {A B : List XE} (h : A.map shE = B.map shE) : A.map sg = B.map sg := by
  have e : ∀ x, sg x = (fun y : Nat ⊕ (Nat ⊕ Bool) => match y with
    | .inl c => nI c
    | .inr (.inl k) => -(nI k)
    | .inr (.inr false) => -10
    | .inr (.inr true) => -11) (shE x) := by
    intro x
    obtain ⟨c, i, s⟩ | ⟨k, i, s, o, p⟩ | b := x
    · rfl
    · rfl
    · cases b <;> rfl
  have : ∀ L : List XE, L.map sg = (L.map shE).map (fun y : Nat ⊕ (Nat ⊕ Bool) => match y with
    | .inl c => nI c
    | .inr (.inl k) => -(nI k)
    | .inr (.inr false) => -10
    | .inr (.inr true) => -11) := by
    intro L; rw [List.map_map]; exact List.map_congr_left (fun x _ => e x)
  rw [this, this, h]
section W1
variable {w : XW} {id d D : Nat}
/-- the store after wrap -/
def wrT (T2 : XT) (r t a o : Nat) (vr vo vt : XR) (l : List Nat) : XT := (uF (uF (uF T2.1 r (some vr)) o (some vo)) t (some vt), T2.2.1, uW (uF T2.2.2 a (some r)) l o)
/-- the tree after wrap -/
theorem dt_wrap {T1 T2 : XT} {m1 : XM} {top r t a o p k sl cap cap2 cap4 : Nat} {P Q NT : List XE} {q : Option Nat} {S : XK} {own : Option Nat} {vt : XR}
    (h1 : DT T1 top (P ++ ([] ++ Q))) (hH : HO top P Q r q S) (hNT : PT T1 t NT) (hR : T1.1 r = some (own, sl, cap, drs r P ++ drs r Q))
    (hkn : ∀ s ∈ top :: (opn P ++ (opn NT ++ opn Q)), m1 s ≠ none) (hki : ∀ i ∈ itm P ++ (itm NT ++ itm Q), m1 i ≠ none) (hrm : m1 r ≠ none) (htm : m1 t ≠ none)
    (ha : m1 a = none) (ho : m1 o = none) (hp : k = 1 → m1 p = none ∧ p ≠ o) (hdis : ∀ s ∈ opn NT, s ≠ top ∧ s ∉ opn P ∧ s ∉ opn Q) (hdisi : ∀ s ∈ itm NT, s ∉ itm P ∧ s ∉ itm Q) (htt : t ∉ top :: (opn P ++ (opn NT ++ opn Q))) (hrN : r ∉ opn NT) (hrt : r ≠ t)
    (hrows : ∀ s, m1 s ≠ none → T2.1 s = T1.1 s) (hitems : ∀ i, m1 i ≠ none → T2.2.1 i = T1.2.1 i ∧ T2.2.2 i = T1.2.2 i) (hKa : T2.2.1 a = some (.inr (k, o, p, 1, 1))) (hTp : k = 1 → T2.1 p = some (some a, 1, 0, [])) :
    DT (wrT T2 r t a o (own, sl, cap2, insN (drs r P ++ drs r Q) (drs r P).length a) (some a, 0, cap4, drs t NT) vt (drs t NT)) top (P ++ (sI k a r o p (rnL t o NT) [] ++ Q)) ∧ r ∉ opn (sI k a r o p (rnL t o NT) []) := by
  generalize hT4 : wrT T2 r t a o (own, sl, cap2, insN (drs r P ++ drs r Q) (drs r P).length a) (some a, 0, cap4, drs t NT) vt (drs t NT) = T4
  have e1 : T4.1 = uF (uF (uF T2.1 r (some (own, sl, cap2, insN (drs r P ++ drs r Q) (drs r P).length a))) o (some (some a, 0, cap4, drs t NT))) t (some vt) := by rw [← hT4]; rfl
  have e2 : T4.2.1 = T2.2.1 := by rw [← hT4]; rfl
  have e3 : T4.2.2 = uW (uF T2.2.2 a (some r)) (drs t NT) o := by rw [← hT4]; rfl
  have nn : ∀ {x y : Nat}, m1 x ≠ none → m1 y = none → x ≠ y := fun h1 h2 e => by subst e; exact h1 h2
  have hto := nn htm ho
  have hro := nn hrm ho
  have hra := nn hrm ha
  have knN : ∀ s ∈ opn NT, m1 s ≠ none := fun s hs => hkn s (List.mem_cons_of_mem _ (List.mem_append_right _ (List.mem_append_left _ hs)))
  have kiN : ∀ s ∈ itm NT, m1 s ≠ none := fun s hs => hki s (List.mem_append_right _ (List.mem_append_left _ hs))
  have htN : t ∉ opn NT := (List.nodup_cons.mp hNT.2.1).1
  have hoN : o ∉ opn NT := fun h => knN o h ho
  have haN : a ∉ itm NT := fun h => kiN a h ha
  have haD : a ∉ drs t NT := fun h => haN (drs_itm h)
  have rows : ∀ s, s ≠ t → s ≠ o → s ≠ r → T4.1 s = T2.1 s := fun s n1 n2 n3 => by rw [e1, uF_ne n1, uF_ne n2, uF_ne n3]
  have r4r : T4.1 r = some (own, sl, cap2, insN (drs r P ++ drs r Q) (drs r P).length a) := by rw [e1, uF_ne hrt, uF_ne hro, uF_eq]
  have r4o : T4.1 o = some (some a, 0, cap4, drs t NT) := by rw [e1, uF_ne hto.symm, uF_eq]
  have hPA : PT T4 o (rnL t o NT) := by
    refine pt_ren hNT (fun s hs => ?_) (fun i hi => by rw [e2]; exact (hitems i (kiN i hi)).1) (fun i hi => by rw [e3]; exact uW_in hi) (fun i hi hn => ?_) hoN
    · rw [rows s (fun e => by subst e; exact htN hs) (fun e => by subst e; exact hoN hs) (fun e => by subst e; exact hrN hs)]
      exact hrows s (knN s hs)
    · rw [e3, uW_out hn, uF_ne (fun e => by subst e; exact haN hi)]
      exact (hitems i (kiN i hi)).2
  have hdo : drs o (rnL t o NT) = drs t NT := rn_drs_t NT (fun hm => (rws_in t NT hNT.1 o hm).elim (fun e => hto e.symm) hoN)
  have hP4 : PT T4 r (sI k a r o p (rnL t o NT) []) := by
    refine pt_str (rs := 1) (rd := 1) (ca := cap4) (cb := 0) hPA (fun _ => pt_nil _ _) (by rw [e2]; exact hKa) (by rw [e3, uW_out haD, uF_eq]) (by rw [hdo]; exact r4o) (fun hk => ?_) ?_ (fun hk => ?_) (fun hk => ?_) (fun _ => by simp [opn]) (fun _ s _ => by simp [opn]) (by rw [rn_itm]; exact haN) (fun _ => by simp [itm]) (fun _ s _ => by simp [itm])
    · obtain ⟨p1, p2⟩ := hp hk
      rw [rows p (nn htm p1).symm p2 (nn hrm p1).symm]; exact hTp hk
    · rw [rn_opn]; simp only [List.mem_cons, not_or]; exact ⟨hro, hrN⟩
    · obtain ⟨p1, p2⟩ := hp hk
      simp only [opn, List.mem_cons, List.not_mem_nil, or_false]; exact nn hrm p1
    · obtain ⟨p1, p2⟩ := hp hk
      rw [rn_opn]; simp only [List.mem_cons, not_or]; exact ⟨p2, fun h => knN p h p1⟩
  have hrS : r ∉ opn (sI k a r o p (rnL t o NT) []) := (List.nodup_cons.mp hP4.2.1).1
  refine ⟨dt_new h1 hH (bd_nil r) hP4 (fun s hs => Or.inr ?_) (fun i hi => Or.inr ?_) (by rw [hR, List.nil_append, drs_app]) ⟨cap2, ?_⟩ (fun s hs hsr => ?_) (fun i hi => ?_), hrS⟩
  · rw [opn_sI] at hs
    have case : ∀ s, (s = o ∨ (k = 1 ∧ s = p) ∨ s ∈ opn NT) → s ∉ top :: (opn P ++ opn Q) := by
      intro s hs hm
      have hm2 : s ∈ top :: (opn P ++ (opn NT ++ opn Q)) := by
        simp only [List.mem_cons, List.mem_append] at hm ⊢
        rcases hm with hm | hm | hm
        · exact Or.inl hm
        · exact Or.inr (Or.inl hm)
        · exact Or.inr (Or.inr (Or.inr hm))
      rcases hs with rfl | ⟨hk, rfl⟩ | hs
      · exact hkn _ hm2 ho
      · exact hkn _ hm2 (hp hk).1
      · obtain ⟨d1, d2, d3⟩ := hdis s hs
        simp only [List.mem_cons, List.mem_append] at hm
        rcases hm with hm | hm | hm
        · exact d1 hm
        · exact d2 hm
        · exact d3 hm
    by_cases hk : k = 1
    · rw [if_pos hk, rn_opn] at hs
      simp only [List.mem_cons, List.mem_append, opn, List.not_mem_nil, or_false] at hs
      rcases hs with hs | hs | hs
      · exact case s (Or.inl hs)
      · exact case s (Or.inr (Or.inl ⟨hk, hs⟩))
      · exact case s (Or.inr (Or.inr hs))
    · rw [if_neg hk, rn_opn] at hs
      simp only [List.mem_cons] at hs
      rcases hs with hs | hs
      · exact case s (Or.inl hs)
      · exact case s (Or.inr (Or.inr hs))
  · rw [itm_sI, rn_itm] at hi
    have hi : i = a ∨ i ∈ itm NT := by
      by_cases hk : k = 1
      · simpa [hk, itm] using hi
      · simpa [hk] using hi
    intro hm
    rcases hi with rfl | hi
    · exact hki i (by simp only [List.mem_append] at hm ⊢; rcases hm with hm | hm; exact Or.inl hm; exact Or.inr (Or.inr hm)) ha
    · rcases List.mem_append.mp hm with hm | hm
      · exact (hdisi i hi).1 hm
      · exact (hdisi i hi).2 hm
  · rw [r4r, insN_mid, drs_app, drs_app, drs_own hPA.1 (fun _ => bd_nil p) hrS]; rfl
  · have hs2 : s ∈ top :: (opn P ++ (opn NT ++ opn Q)) := by
      simp only [List.mem_cons, List.mem_append] at hs ⊢
      rcases hs with hm | hm | hm
      · exact Or.inl hm
      · exact Or.inr (Or.inl hm)
      · exact Or.inr (Or.inr (Or.inr hm))
    rw [rows s (fun e => by subst e; exact htt hs2) (nn (hkn s hs2) ho) hsr]
    exact hrows s (hkn s hs2)
  · have hi2 : i ∈ itm P ++ (itm NT ++ itm Q) := by
      simp only [List.mem_append] at hi ⊢
      rcases hi with hm | hm
      · exact Or.inl hm
      · exact Or.inr (Or.inr hm)
    have hnd : i ∉ drs t NT := fun h => by
      have := hdisi i (drs_itm h)
      rcases List.mem_append.mp hi with hm | hm
      · exact this.1 hm
      · exact this.2 hm
    obtain ⟨c1, c2⟩ := hitems i (hki i hi2)
    exact ⟨by rw [e2]; exact c1, by rw [e3, uW_out hnd, uF_ne (nn (hki i hi2) ha)]; exact c2⟩
end W1
