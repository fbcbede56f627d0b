/-! A ROW'S ITEMS APART; ITEMS THAT GO TO ANOTHER ROW -/
set_option maxRecDepth 100000
theorem bd_pre {r : Nat} {N M2 Q V : List XE} (hN : Bd r N) (hM : Bd r M2) (e : N ++ Q = M2 ++ V) (hV : V = [] ∨ ∃ y V', V = y :: V' ∧ clE y = true) : ∃ M3, M2 = N ++ M3 ∧ Bd r M3 ∧ Q = M3 ++ V := by
  rcases List.append_eq_append_iff.mp e with ⟨W, h1, h2⟩ | ⟨W, h1, h2⟩
  · refine ⟨W, h1, ?_, h2⟩
    unfold Bd at hM
    rw [h1, scn_app' _ hN] at hM; exact hM
  · have hW : Bd r W := by
      unfold Bd at hN
      rw [h1, scn_app' _ hM] at hN; exact hN
    cases W with
    | nil => exact ⟨[], by simpa using h1.symm, bd_nil r, by simpa using h2.symm⟩
    | cons y W =>
      rcases hV with hV | ⟨y', V', hV, hy⟩
      · rw [hV] at h2; cases h2
      · rw [hV] at h2
        obtain ⟨rfl, -⟩ := List.cons.inj h2
        obtain ⟨S1, h3, -⟩ := scn_cons' hW
        obtain ⟨c, i, r'⟩ | ⟨k, i, r', o, p⟩ | b := y'
        · cases hy
        · cases hy
        · cases b with
          | false => obtain ⟨p, g, T', d1, -⟩ := stp_D h3; cases d1
          | true => obtain ⟨g, T', d1, d2, -⟩ := stp_N h3; cases d2
theorem rc3 {T : XT} {top r : Nat} {P N Q : List XE} {q : Option Nat} {S : XK} (h : DT T top (P ++ (N ++ Q))) (hP : scn [(top, none)] P = some ((r, q) :: S)) (hN : Bd r N) :
    ∃ U M1 M2 V, P = U ++ M1 ∧ Q = M2 ++ V ∧ Bd r M1 ∧ Bd r M2 ∧ HO top U V r q S ∧ RC T top P (N ++ Q) r S U M1 (N ++ M2) V ∧ DT T r (M1 ++ (N ++ M2)) ∧ drs r U = [] ∧ drs r V = [] ∧ drs r (P ++ (N ++ Q)) = drs r M1 ++ (drs r N ++ drs r M2) ∧ drs r P = drs r M1 := by
  obtain ⟨U, M1, M2, V, h1, h2, h3, h4, h5, h6, h7, h8, h9, h10⟩ := rc_of h hP
  have hV : V = [] ∨ ∃ y V', V = y :: V' ∧ clE y = true := by
    rcases h6 with ⟨-, -, -, e⟩ | ⟨g, S', k, i, o, p, X1, A, B, V', -, -, -, -, -, -, e⟩
    · exact Or.inl e
    · right
      rcases e with ⟨-, -, -, e⟩ | ⟨-, -, -, -, e⟩
      · by_cases hk : k = 1
        · exact ⟨_, _, by rw [e, if_pos hk]; rfl, rfl⟩
        · exact ⟨_, _, by rw [e, if_neg hk]; rfl, rfl⟩
      · exact ⟨_, _, e, rfl⟩
  obtain ⟨M3, rfl, hM3, rfl⟩ := bd_pre hN h4 h2 hV
  refine ⟨U, M1, M3, V, h1, rfl, h3, hM3, h5, h6, h7, h8, h9, by rw [h10, drs_app], by rw [h1, drs_app, h8]; rfl⟩
/-- the row r's name is t -/
def rnE (r t : Nat) : XE → XE
  | .inl (c, i, s) => .inl (c, i, if s = r then t else s)
  | .inr (.inl (k, i, s, o, p)) => .inr (.inl (k, i, if s = r then t else s, o, p))
  | x => x
def rnL (r t : Nat) (L : List XE) : List XE := L.map (rnE r t)
theorem rn_app (r t : Nat) (A B : List XE) : rnL r t (A ++ B) = rnL r t A ++ rnL r t B := List.map_append
theorem rn_id {r t : Nat} {L : List XE} (h : r ∉ rws L) : rnL r t L = L := by
  induction L with
  | nil => rfl
  | cons x L ih =>
    unfold rnL at ih ⊢
    obtain ⟨c, i, s⟩ | ⟨k, i, s, o, p⟩ | b := x
    · simp only [rws, List.mem_cons, not_or] at h
      rw [List.map_cons, ih h.2]
      show (.inl (c, i, if s = r then t else s) : XE) :: L = _
      rw [if_neg (fun e => h.1 e.symm)]
    · simp only [rws, List.mem_cons, not_or] at h
      rw [List.map_cons, ih h.2]
      show (.inr (.inl (k, i, if s = r then t else s, o, p)) : XE) :: L = _
      rw [if_neg (fun e => h.1 e.symm)]
    · rw [List.map_cons, ih h]; rfl
theorem rn_opn (r t : Nat) (L : List XE) : opn (rnL r t L) = opn L := by
  induction L with
  | nil => rfl
  | cons x L ih =>
    obtain ⟨c, i, s⟩ | ⟨k, i, s, o, p⟩ | b := x
    · exact ih
    · show (if k = 1 then o :: p :: opn (rnL r t L) else o :: opn (rnL r t L)) = _
      rw [ih]; rfl
    · exact ih
theorem rn_itm (r t : Nat) (L : List XE) : itm (rnL r t L) = itm L := by
  induction L with
  | nil => rfl
  | cons x L ih =>
    obtain ⟨c, i, s⟩ | ⟨k, i, s, o, p⟩ | b := x
    · show i :: itm (rnL r t L) = i :: itm L; rw [ih]
    · show i :: itm (rnL r t L) = i :: itm L; rw [ih]
    · exact ih
theorem rn_sg (r t : Nat) (L : List XE) : (rnL r t L).map sg = L.map sg := by
  unfold rnL
  rw [List.map_map]
  refine List.map_congr_left (fun x _ => ?_)
  obtain ⟨c, i, s⟩ | ⟨k, i, s, o, p⟩ | b := x <;> rfl
theorem rn_sI {k i r o p t : Nat} {A B : List XE} (hA : Bd o A) (hB : k = 1 → Bd p B) (h : r ∉ opn (sI k i r o p A B)) : rnL r t (sI k i r o p A B) = sI k i t o p A B := by
  rw [opn_sI] at h
  have hx : (if r = r then t else r) = t := if_pos rfl
  by_cases hk : k = 1
  · rw [if_pos hk] at h
    simp only [List.mem_cons, List.mem_append, not_or] at h
    have a1 : rnL r t A = A := rn_id (fun hs => (rws_in o A hA r hs).elim h.1 h.2.2.1)
    have b1 : rnL r t B = B := rn_id (fun hs => (rws_in p B (hB hk) r hs).elim h.2.1 h.2.2.2)
    subst hk
    rw [sI_1, sI_1]
    unfold rnL at a1 b1 ⊢
    simp only [List.map_cons, List.map_append, a1, b1, List.map_nil]
    simp [rnE]
  · rw [if_neg hk] at h
    simp only [List.mem_cons, not_or] at h
    have a1 : rnL r t A = A := rn_id (fun hs => (rws_in o A hA r hs).elim h.1 h.2)
    rw [sI_n hk, sI_n hk]
    unfold rnL at a1 ⊢
    simp only [List.map_cons, List.map_append, a1, List.map_nil]
    simp [rnE]
theorem rn_bd {r t : Nat} {N : List XE} (h : Bd r N) : r ∉ opn N → Bd t (rnL r t N) := by
  refine bd_ind (P := fun r N => r ∉ opn N → Bd t (rnL r t N)) (fun r _ => bd_nil t) (fun r c i M hb ih hr => ?_) (fun r k i o p A B M hA hB hM iA iB iM hr => ?_) r N h
  · show Bd t (.inl (c, i, if r = r then t else r) :: rnL r t M)
    rw [if_pos rfl]
    exact bd_sym c i (ih hr)
  · rw [opn_app] at hr
    rw [rn_app, rn_sI hA hB (fun hm => hr (List.mem_append_left _ hm))]
    exact bd_app (bd_sI hA hB) (iM (fun hm => hr (List.mem_append_right _ hm)))
theorem rn_drs {r t s : Nat} (L : List XE) (h1 : s ≠ r) (h2 : s ≠ t) : drs s (rnL r t L) = drs s L := by
  induction L with
  | nil => rfl
  | cons x L ih =>
    obtain ⟨c, i, z⟩ | ⟨k, i, z, o, p⟩ | b := x
    · show (if (if z = r then t else z) = s then i :: drs s (rnL r t L) else drs s (rnL r t L)) = if z = s then i :: drs s L else drs s L
      rw [ih]
      by_cases hz : z = r
      · rw [if_pos hz, if_neg (fun e => h2 e.symm), if_neg (fun e => h1 (by rw [← e, hz]))]
      · rw [if_neg hz]
    · show (if (if z = r then t else z) = s then i :: drs s (rnL r t L) else drs s (rnL r t L)) = if z = s then i :: drs s L else drs s L
      rw [ih]
      by_cases hz : z = r
      · rw [if_pos hz, if_neg (fun e => h2 e.symm), if_neg (fun e => h1 (by rw [← e, hz]))]
      · rw [if_neg hz]
    · exact ih
theorem rn_drs_t {r t : Nat} (L : List XE) (h : t ∉ rws L) : drs t (rnL r t L) = drs r L := by
  induction L with
  | nil => rfl
  | cons x L ih =>
    obtain ⟨c, i, z⟩ | ⟨k, i, z, o, p⟩ | b := x
    · simp only [rws, List.mem_cons, not_or] at h
      show (if (if z = r then t else z) = t then i :: drs t (rnL r t L) else drs t (rnL r t L)) = if z = r then i :: drs r L else drs r L
      rw [ih h.2]
      by_cases hz : z = r
      · rw [if_pos hz, if_pos rfl, if_pos hz]
      · rw [if_neg hz, if_neg (fun e => h.1 e.symm), if_neg hz]
    · simp only [rws, List.mem_cons, not_or] at h
      show (if (if z = r then t else z) = t then i :: drs t (rnL r t L) else drs t (rnL r t L)) = if z = r then i :: drs r L else drs r L
      rw [ih h.2]
      by_cases hz : z = r
      · rw [if_pos hz, if_pos rfl, if_pos hz]
      · rw [if_neg hz, if_neg (fun e => h.1 e.symm), if_neg hz]
    · exact ih h
