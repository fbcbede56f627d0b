/-! TWIN: its state told as lists; acts on pages -/
set_option maxRecDepth 100000
/-- signs, caret, where the selection begins -/
abbrev XPage : Type := List Int32 × Nat × Option Nat
def Pgx (f : Nat → Int32) (p : XPage) : Prop := Pg f p.1 p.2.1 p.2.2
theorem Pgx_c {f g : Nat → Int32} {p : XPage} (h : ∀ j, j < 184 → g j = f j) (hp : Pgx f p) : Pgx g p := by
  obtain ⟨⟨h1, h2, h3⟩, h4, h5⟩ := hp
  exact ⟨⟨fun j hj => by rw [h j (by omega)]; exact h1 j hj, by rw [h _ (by omega)]; exact h2, h3⟩, by rw [h _ (by omega)]; exact h4, by rw [h _ (by omega)]; exact h5⟩
theorem Pgx_l {f : Nat → Int32} {p : XPage} (h : Pgx f p) : Pl f p.1 := h.1
/-- text, page, noted pages, two kept pages, what is copied -/
abbrev XSt : Type := List Int32 × XPage × List XPage × (Option XPage × Option XPage) × List Int32
def stT (s : XSt) : List Int32 := s.1
def stP (s : XSt) : XPage := s.2.1
def stH (s : XSt) : List XPage := s.2.2.1
def stK (s : XSt) : Option XPage × Option XPage := s.2.2.2.1
def stC (s : XSt) : List Int32 := s.2.2.2.2
def kpP (b : Int32) (f : Nat → Int32) (o : Option XPage) : Prop := b = xB o.isSome ∧ ∀ p, o = some p → Pgx f p
def tIn (F : Nat → Nat → Int32) (s : XSt) : Prop :=
  (∀ j, j < (stT s).length → F 1 j = lf (stT s) j) ∧ (stT s).length ≤ 120 ∧ Pgx (F 3) (stP s) ∧ (stH s).length ≤ 14 ∧ (∀ k p, (stH s)[k]? = some p → Pgx (fun j => F 5 (184 * k + j)) p) ∧ kpP (F 8 0) (F 7) (stK s).1 ∧ kpP (F 8 1) (fun j => F 7 (184 + j)) (stK s).2 ∧ Pl (F 9) (stC s)
def TS (A : Nat → Nat) (rf : Int32) (s : XSt) (m : XM) : Prop := ∃ (ls rs dp : Int32) (F : Nat → Nat → Int32), TM A rf (nI (stT s).length) (nI (stH s).length) ls rs dp F m ∧ tIn F s
/-- an answer, a refusal's number, the state behind -/
def TR (A : Nat → Nat) (m : XM) (v : Int32) (code : Nat) (s : XSt) : Option Value → XM → Prop := fun v' m' => some (.int v) = v' ∧ TS A (nI code) s m' ∧ XOf A m m'
def noteL (l : List XPage) (p : XPage) : List XPage := (if l.length = 14 then l.tail else l) ++ [p]
theorem noteL_len {l : List XPage} {p : XPage} : (noteL l p).length = noteA l.length + 1 := by
  unfold noteL noteA
  split
  · rw [List.length_append, List.length_tail]; simp; omega
  · simp
theorem note_in {f D : Nat → Int32} {l : List XPage} {p : XPage} (hl : l.length ≤ 14) (hp : Pgx f p) (h : ∀ k q, l[k]? = some q → Pgx (fun j => D (184 * k + j)) q) : ∀ k q, (noteL l p)[k]? = some q → Pgx (fun j => noteF f D l.length (184 * k + j)) q := by
  intro k q hq
  have hlen : k < (noteL l p).length := by
    rcases Nat.lt_or_ge k (noteL l p).length with z | z
    · exact z
    · rw [List.getElem?_eq_none z] at hq; cases hq
  rw [noteL_len] at hlen
  by_cases hk : k = noteA l.length
  · subst hk
    have e : q = p := by
      unfold noteL at hq
      rw [List.getElem?_append_right (by unfold noteA; split <;> simp; omega)] at hq
      have e0 : noteA l.length - (if l.length = 14 then l.tail else l).length = 0 := by
        unfold noteA; split <;> simp; omega
      rw [e0] at hq
      simpa using hq.symm
    subst e
    refine Pgx_c (fun j hj => ?_) hp
    unfold noteF cpF cpK
    rw [if_pos (by omega)]
    congr 1; omega
  · have hkl : k < noteA l.length := by omega
    have hA := noteA_le hl
    by_cases h14 : l.length = 14
    · have e : l[k + 1]? = some q := by
        unfold noteL at hq
        rw [if_pos h14, List.getElem?_append_left (by rw [List.length_tail]; unfold noteA at hkl; rw [if_pos h14] at hkl; omega)] at hq
        simpa [List.getElem?_tail] using hq
      refine Pgx_c (fun j hj => ?_) (h (k + 1) q e)
      unfold noteF cpF cpK
      have : noteA l.length = 13 := by unfold noteA; rw [if_pos h14]
      rw [if_neg (by omega), if_pos h14]
      unfold shK
      rw [if_pos (by omega)]
      congr 1; omega
    · have e : l[k]? = some q := by
        unfold noteL at hq
        rw [if_neg h14, List.getElem?_append_left (by unfold noteA at hkl; rw [if_neg h14] at hkl; exact hkl)] at hq
        exact hq
      refine Pgx_c (fun j hj => ?_) (h k q e)
      unfold noteF cpF cpK
      have : noteA l.length = l.length := by unfold noteA; rw [if_neg h14]
      rw [if_neg (by omega), if_neg h14]
/-- the state with a page taken -/
def takeS (s : XSt) (q : XPage) : XSt := (stT s, q, noteL (stH s) (stP s), stK s, stC s)
theorem tIn_take {F F' : Nat → Nat → Int32} {s : XSt} {q : XPage} {g : Nat → Int32} (h : tIn F s) (hq : Pgx g q) (h1 : F' 1 = F 1) (h3 : F' 3 = cpF g 0 (F 3) 0) (h5 : F' 5 = noteF (F 3) (F 5) (stH s).length) (h7 : F' 7 = F 7) (h8 : F' 8 = F 8) (h9 : F' 9 = F 9) : tIn F' (takeS s q) := by
  obtain ⟨a1, a2, a3, a4, a5, a6, a7, a8⟩ := h
  refine ⟨by rw [h1]; exact a1, a2, ?_, ?_, ?_, by rw [h7, h8]; exact a6, by rw [h7, h8]; exact a7, by rw [h9]; exact a8⟩
  · rw [h3]
    exact Pgx_c (fun j hj => by unfold cpF cpK; rw [if_pos (by omega)]; congr 1; omega) hq
  · show (noteL (stH s) (stP s)).length ≤ 14
    rw [noteL_len]; have := noteA_le a4; omega
  · rw [h5]; exact note_in a4 a3 a5
theorem tIn_mono {F F' : Nat → Nat → Int32} {s : XSt} (h : tIn F s) (h1 : F' 1 = F 1) (h3 : F' 3 = F 3) (h5 : F' 5 = F 5) (h7 : F' 7 = F 7) (h8 : F' 8 = F 8) (h9 : F' 9 = F 9) : tIn F' s := by
  obtain ⟨a1, a2, a3, a4, a5, a6, a7, a8⟩ := h
  exact ⟨by rw [h1]; exact a1, a2, by rw [h3]; exact a3, a4, by rw [h5]; exact a5, by rw [h7, h8]; exact a6, by rw [h7, h8]; exact a7, by rw [h9]; exact a8⟩
theorem tIn_cur {F F' : Nat → Nat → Int32} {s : XSt} {q : XPage} (h : tIn F s) (hq : Pgx (F' 3) q) (h1 : F' 1 = F 1) (h5 : F' 5 = F 5) (h7 : F' 7 = F 7) (h8 : F' 8 = F 8) (h9 : F' 9 = F 9) : tIn F' (stT s, q, stH s, stK s, stC s) := by
  obtain ⟨a1, a2, a3, a4, a5, a6, a7, a8⟩ := h
  exact ⟨by rw [h1]; exact a1, a2, hq, a4, by rw [h5]; exact a5, by rw [h7, h8]; exact a6, by rw [h7, h8]; exact a7, by rw [h9]; exact a8⟩
/-- what the acts make of a page -/
def typD (p : XPage) (s : Int32) : Option XPage :=
  if symF s = true ∧ allL p.1 0 p.1.length - goneL p.1 p.2.1 p.2.2 ≠ 60 then some (insL (clrL p.1 p.2.1 p.2.2) (clrC p.2.1 p.2.2) s, clrC p.2.1 p.2.2 + 1, none) else none
def wrD (p : XPage) (k : Int32) : Option XPage :=
  if inL k.toInt64 1 5 = true ∧ allL p.1 0 p.1.length ≠ 60 ∧ levF (lf p.1) (clrC p.2.1 p.2.2) 0 0 + nI 1 + deepF (lf p.1) p.2.1 0 0 (clrC p.2.1 p.2.2) ≤ nI 5 then some (wrL p.1 (clrC p.2.1 p.2.2) p.2.1 k, (if clrC p.2.1 p.2.2 = p.2.1 then clrC p.2.1 p.2.2 + 1 else p.2.1 + 2), none) else none
def bkD (p : XPage) : Option XPage := (backD p.1 p.2.1 p.2.2).map fun q => (q.1, q.2, none)
def grD (p : XPage) : Option XPage := (growD p.1 p.2.1 p.2.2).map fun q => (p.1, q.1, some q.2)
def pgO (r : Nat) (m : XM) (p : XPage) (o : Option XPage) : Option Value → XM → Prop := fun v m' => some (.int (xB o.isSome)) = v ∧ ∃ f', m' = xu m r (iA 0 184 f') ∧ Pgx f' (o.getD p)
def Ipx (p : XPage) : Prop := InP p.1 p.2.1 p.2.2
section TW8
variable {w : XW} {d : Nat} {m : XM} {r : Nat} {f : Nat → Int32} {p : XPage}
theorem q_types {s : Int32} (hd : 4 ≤ d) (hm : m r = some (iA 0 184 f)) (hp : Pgx f p) (hi : Ipx p) (hsz : allL p.1 0 p.1.length - goneL p.1 p.2.1 p.2.2 ≠ 60 → (clrL p.1 p.2.1 p.2.2).length < 180) : CT w MX5_types d 0 0 [.ref r, .int s] m (pgO r m p (typD p s)) xN := by
  refine CT_post (p_types hd hm hp hi hsz) fun v m' h => ?_
  unfold typP at h
  unfold typD
  split at h
  · next hc =>
    rw [if_pos hc]
    obtain ⟨h1, f', h2, h3⟩ := h
    exact ⟨h1, f', h3, h2⟩
  · next hc =>
    rw [if_neg hc]
    obtain ⟨h1, rfl⟩ := h
    exact ⟨h1, f, (xu_self hm).symm, hp⟩
theorem q_wraps {k : Int32} (hd : 4 ≤ d) (hm : m r = some (iA 0 184 f)) (hp : Pgx f p) (hi : Ipx p) (hsz : allL p.1 0 p.1.length ≠ 60 → p.1.length ≤ 177) : CT w MX5_wraps d 0 0 [.ref r, .int k] m (pgO r m p (wrD p k)) xN := by
  refine CT_post (p_wraps hd hm hp hi (fun h => hsz h.2.1)) fun v m' h => ?_
  unfold wrD
  by_cases hc : wrOk p.1 (clrC p.2.1 p.2.2) p.2.1 k
  · have hc2 := hc
    unfold wrOk at hc2
    rw [if_pos hc2]
    obtain ⟨h1, f', h2, h3⟩ := h.1 hc
    exact ⟨h1, f', h3, h2⟩
  · have hc2 := hc
    unfold wrOk at hc2
    rw [if_neg hc2]
    obtain ⟨h1, rfl⟩ := h.2 hc
    exact ⟨h1, f, (xu_self hm).symm, hp⟩
theorem q_backs (hd : 5 ≤ d) (hm : m r = some (iA 0 184 f)) (hp : Pgx f p) (hi : Ipx p) (hb : Bal p.1) (he : rowStartL p.1 p.2.1 ≠ 0 → endOfL p.1 (rowStartL p.1 p.2.1) < p.1.length) : CT w MX5_backs d 0 0 [.ref r] m (pgO r m p (bkD p)) xN := by
  refine CT_post (p_backs hd hm hp hi hb he) fun v m' h => ?_
  unfold backP at h
  unfold bkD
  cases hc : backD p.1 p.2.1 p.2.2 with
  | none =>
    rw [hc] at h
    obtain ⟨h1, rfl⟩ := h
    exact ⟨h1, f, (xu_self hm).symm, hp⟩
  | some q =>
    rw [hc] at h
    obtain ⟨h1, f', h2, h3⟩ := h
    exact ⟨h1, f', h3, h2⟩
theorem q_grows (hd : 5 ≤ d) (hm : m r = some (iA 0 184 f)) (hp : Pgx f p) (hi : Ipx p) (hb : Bal p.1) (he : rowStartL p.1 p.2.1 ≠ 0 → endOfL p.1 (rowEndL p.1 p.2.1) < p.1.length) : CT w MX5_grows d 0 0 [.ref r] m (pgO r m p (grD p)) xN := by
  refine CT_post (p_grows hd hm hp hi hb he) fun v m' h => ?_
  unfold growP at h
  unfold grD
  cases hc : growD p.1 p.2.1 p.2.2 with
  | none =>
    rw [hc] at h
    obtain ⟨h1, rfl⟩ := h
    exact ⟨h1, f, (xu_self hm).symm, hp⟩
  | some q =>
    rw [hc] at h
    obtain ⟨h1, f', h2, h3⟩ := h
    exact ⟨h1, f', h3, h2⟩
end TW8
section TW8b
variable {w : XW} {d : Nat} {m : XM} {A : Nat → Nat} {rf ts ac ls rs dp x : Int32} {F : Nat → Nat → Int32} {p : XPage} {o : Option XPage} {s : XSt}
theorem t_ref0 (hd : 1 ≤ d) (hT : TM A rf ts ac ls rs dp F m) : CT w MX5_refused d 0 0 [.ref (A 0), .int (nI 0)] m (tP A m (some (.int (nI 0))) (nI 0) ts ac ls rs dp F) xN := t_refused hd (by omega) hT
theorem t_refS {x : Nat} (hd : 1 ≤ d) (h1 : 1 ≤ x) (h5 : x ≤ 5) (hT : TM A rf ts ac ls rs dp F m) : CT w MX5_refused d 0 0 [.ref (A 0), .int (nI x)] m (tP A m (some (.int (nI 1))) (nI x) ts ac ls rs dp F) xN := by
  have := t_refused (w := w) hd h5 hT
  rwa [show decide (0 < x) = true from decide_eq_true h1] at this
/-- the twin's state, and a page on trial -/
def TSp (A : Nat → Nat) (rf : Int32) (s : XSt) (p : XPage) (m : XM) : Prop := ∃ (ls rs dp : Int32) (F : Nat → Nat → Int32), TM A rf (nI (stT s).length) (nI (stH s).length) ls rs dp F m ∧ tIn F s ∧ Pgx (F 4) p
def tS (A : Nat → Nat) (m : XM) (v : Option Value) (rf : Int32) (s : XSt) (p : XPage) : Option Value → XM → Prop := fun v' m' => v = v' ∧ TSp A rf s p m' ∧ XOf A m m'
theorem pg_cp {f g : Nat → Int32} (h : Pgx f p) : Pgx (cpF f 0 g 0) p := Pgx_c (fun j hj => by unfold cpF cpK; rw [if_pos (by omega)]; congr 1; omega) h
theorem tIn_4 {g : Nat → Int32} (h : tIn F s) : tIn (fset F 4 g) s := tIn_mono h rfl rfl rfl rfl rfl rfl
theorem s_copy (hd : 1 ≤ d) (h : TS A rf s m) : CT w MX5_copyPage d 0 0 [.ref (A 3), .int (nI 0), .ref (A 4), .int (nI 0)] m (tS A m none rf s (stP s)) xN := by
  obtain ⟨ls, rs, dp, F, hT, hs⟩ := h
  refine CT_post (t_copy (i := 3) (k := 4) (N1 := 184) (N2 := 184) hd rfl rfl rfl rfl rfl rfl (by decide) (by omega) (by omega) rfl rfl hT) fun v m' h => ?_
  obtain ⟨h1, h2, h3⟩ := h
  exact ⟨h1, ⟨_, _, _, _, h2, tIn_4 hs, pg_cp hs.2.2.1⟩, h3⟩
theorem s_op {y : XY} {as : List Value} (hT : TM A rf (nI (stT s).length) (nI (stH s).length) ls rs dp F m) (hs : tIn F s) (h : CT w y d 0 0 as m (pgO (A 4) m p o) xN) : CT w y d 0 0 as m (tS A m (some (.int (xB o.isSome))) rf s (o.getD p)) xN := by
  refine CT_post h fun v m' h => ?_
  obtain ⟨h1, f', rfl, h2⟩ := h
  exact ⟨h1, ⟨_, _, _, _, tm_xu hT rfl rfl rfl, tIn_4 hs, h2⟩, xo_u 4 rfl (xo_rf A m)⟩
theorem s_take (hd : 3 ≤ d) (h : TSp A rf s p m) : CT w MX5_take d 0 0 [.ref (A 0)] m (tS A m none rf (takeS s p) p) xN := by
  obtain ⟨ls, rs, dp, F, hT, hs, h4⟩ := h
  refine CT_post (t_take hd hs.2.2.2.1 rfl rfl rfl hT) fun v m' h => ?_
  obtain ⟨h1, h2, h3⟩ := h
  have h2' : TM A rf (nI (stT (takeS s p)).length) (nI (stH (takeS s p)).length) ls rs dp (fset (fset F 5 (noteF (F 3) (F 5) (stH s).length)) 3 (cpF (F 4) 0 (F 3) 0)) m' := by
    show TM A rf _ (nI (noteL (stH s) (stP s)).length) _ _ _ _ _
    rw [noteL_len]; exact h2
  exact ⟨h1, ⟨ls, rs, dp, _, h2', tIn_take hs h4 rfl rfl rfl rfl rfl rfl, h4⟩, h3⟩
/-- typing: the refusal's number, the answer, the state behind -/
def uType (s : XSt) (c : Int32) : Nat × Int32 × XSt :=
  if symF c = true then match typD (stP s) c with
    | some q => (0, nI (allL q.1 0 q.1.length), takeS s q)
    | none => (2, 0, s)
  else (1, 0, s)
theorem u_type {c : Int32} (hd : 6 ≤ d) (hs : TS A rf s m) (hi : Ipx (stP s)) (hsz : allL (stP s).1 0 (stP s).1.length - goneL (stP s).1 (stP s).2.1 (stP s).2.2 ≠ 60 → (clrL (stP s).1 (stP s).2.1 (stP s).2.2).length < 180) : CT w MX5_type d 0 0 [.ref (A 0), .int c] m (TR A m (uType s c).2.1 (uType s c).1 (uType s c).2.2) xN := by
  obtain ⟨ls, rs, dp, F, hT, hs⟩ := hs
  have hO := xo_rf A m
  refine ct_intro (lv := [some (.ref (A 0)), some (.int c)]) 0 (by decide) rfl (Nat.le_of_ble_eq_true rfl) rfl ?_
  refine g_aload_n dX5_type_0 rfl rfl rfl ?_
  refine g_get fl_X5_13_X5 dX5_type_1 rfl (Or.inl (tm_o hT)) rfl ?_
  refine g_iconst (v := (nI 0)) dX5_type_4 rfl rfl ?_
  refine g_aload_n dX5_type_5 rfl rfl rfl ?_
  refine g_get fl_X5_16_X5 dX5_type_6 rfl (Or.inl (tm_o hT)) rfl ?_
  refine g_iconst (v := (nI 0)) dX5_type_9 rfl rfl ?_
  refine g_static iS_X5_copyPage q2622 (s_copy (d := d - 1) (by omega) ⟨_, _, _, _, hT, hs⟩) dX5_type_10 rfl rfl rfl (by first | exact Nat.le_of_ble_eq_true rfl | simp [Value.category, rf_cat]) (by omega) (by omega) (by omega) xN_no (fun v_10 m_10 h_10 => ?_)
  obtain ⟨rfl, ⟨ls, rs, dp, F, hT, hs, h4⟩, hO2⟩ := h_10
  replace hO := xo_tr hO hO2
  have h3 := hs.2.2.1
  refine g_aload_n dX5_type_13 rfl rfl rfl ?_
  refine g_iload_n dX5_type_14 rfl rfl rfl ?_
  refine g_staticP iS_X5_isSymbol q2625 (c_isSymbol (d := d - 1) (by omega) _) dX5_type_15 rfl rfl rfl (by first | exact Nat.le_of_ble_eq_true rfl | simp [Value.category, rf_cat]) (by omega) xN_no ?_
  refine g_ifB_ne (tgt := 25) dX5_type_18 (by decide) rfl (fun c_18 => ?_) (fun c_18 => ?_)
  · refine g_aload_n dX5_type_25 rfl rfl rfl ?_
    refine g_get fl_X5_16_X5 dX5_type_26 rfl (Or.inl (tm_o hT)) rfl ?_
    refine g_iload_n dX5_type_29 rfl rfl rfl ?_
    refine g_static iS_X5_types q2628 (s_op hT hs (q_types (d := d - 1) (by omega) (tm_at 4 hT rfl rfl rfl rfl) h4 hi hsz)) dX5_type_30 rfl rfl rfl (by first | exact Nat.le_of_ble_eq_true rfl | simp [Value.category, rf_cat]) (by omega) (by omega) (by omega) xN_no (fun v_30 m_30 h_30 => ?_)
    obtain ⟨rfl, ⟨ls, rs, dp, F, hT, hs, h4⟩, hO2⟩ := h_30
    replace hO := xo_tr hO hO2
    have h3 := hs.2.2.1
    refine g_ifB_eq (tgt := 40) dX5_type_33 (by decide) rfl (fun c_33 => ?_) (fun c_33 => ?_)
    · refine g_iconst (v := (nI 2)) dX5_type_40 rfl rfl ?_
      refine g_virtual iV_X5_refused q2451 (t_refS (d := d - 1) (by omega) (x := 2) (by omega) (by omega) hT) (Or.inl (tm_o hT)) rfl (by decide) dX5_type_41 rfl rfl rfl (by first | exact Nat.le_of_ble_eq_true rfl | simp [Value.category, rf_cat]) (by omega) (by omega) (by omega) xN_no (fun v_41 m_41 h_41 => ?_)
      obtain ⟨rfl, hT, hO2⟩ := h_41
      replace hO := xo_tr hO hO2
      refine g_ifn_eq (tgt := 49) dX5_type_44 (by decide) rfl (by omega) (fun c_44 => by omega) (fun _ => ?_)
      refine g_iconst (v := (nI 0)) dX5_type_47 rfl rfl ?_
      refine g_ireturn dX5_type_48 rfl ?_
      first | (have e : uType s c = (1, 0, s) := by unfold uType; rw [if_neg (by rw [c_18]; decide)]) | (have e : uType s c = (2, 0, s) := by unfold uType; rw [if_pos c_18, Option.isSome_eq_false_iff.mp c_33 |> Option.isNone_iff_eq_none.mp])
      rw [e]
      exact ⟨rfl, ⟨_, _, _, _, hT, hs⟩, hO⟩
    · refine g_iconst (v := (nI 0)) dX5_type_36 rfl rfl ?_
      refine g_goto (tgt := 41) dX5_type_37 (by decide) ?_
      refine g_virtual iV_X5_refused q2451 (t_ref0 (d := d - 1) (by omega) hT) (Or.inl (tm_o hT)) rfl (by decide) dX5_type_41 rfl rfl rfl (by first | exact Nat.le_of_ble_eq_true rfl | simp [Value.category, rf_cat]) (by omega) (by omega) (by omega) xN_no (fun v_41 m_41 h_41 => ?_)
      obtain ⟨rfl, hT, hO2⟩ := h_41
      replace hO := xo_tr hO hO2
      refine g_ifn_eq (tgt := 49) dX5_type_44 (by decide) rfl (by omega) (fun _ => ?_) (fun c_44 => by omega)
      refine g_aload_n dX5_type_49 rfl rfl rfl ?_
      obtain ⟨q, hq⟩ := Option.isSome_iff_exists.mp c_33
      refine g_virtual iV_X5_take q2640 (s_take (d := d - 1) (by omega) ⟨_, _, _, _, hT, hs, h4⟩) (Or.inl (tm_o hT)) rfl (by decide) dX5_type_50 rfl rfl rfl (by first | exact Nat.le_of_ble_eq_true rfl | simp [Value.category, rf_cat]) (by omega) (by omega) (by omega) xN_no (fun v_50 m_50 h_50 => ?_)
      obtain ⟨rfl, ⟨ls, rs, dp, F, hT, hs, h4⟩, hO2⟩ := h_50
      replace hO := xo_tr hO hO2
      have h3 := hs.2.2.1
      rw [hq] at h3
      have h3_180 : F 3 180 = nI q.1.length := h3.1.2.1
      have hpl := Pgx_l h3
      change Pl _ q.1 at hpl
      refine g_aload_n dX5_type_53 rfl rfl rfl ?_
      refine g_get fl_X5_13_X5 dX5_type_54 rfl (Or.inl (tm_o hT)) rfl ?_
      refine g_iconst (v := (nI 0)) dX5_type_57 rfl rfl ?_
      refine g_aload_n dX5_type_58 rfl rfl rfl ?_
      refine g_get fl_X5_13_X5 dX5_type_59 rfl (Or.inl (tm_o hT)) rfl ?_
      refine g_sipush (v := (nI 180)) dX5_type_62 rfl rfl ?_
      refine t_ialdn (k := 3) (N := 184) (f := F 3) hT rfl rfl rfl (by first | rfl | assumption) dX5_type_65 rfl (by omega) ?_
      rw [h3_180]
      refine g_staticP iS_X5_allIn q2508 (p_allIn (d := d - 1) (by omega) (by first | exact tm_at 3 hT rfl rfl rfl rfl | exact tm_at 4 hT rfl rfl rfl rfl | exact tm_at 9 hT rfl rfl rfl rfl) (by assumption) (by omega) (by omega)) dX5_type_66 rfl rfl rfl (by first | exact Nat.le_of_ble_eq_true rfl | simp [Value.category, rf_cat]) (by omega) xN_no ?_
      refine g_ireturn dX5_type_69 rfl ?_
      have e : uType s c = (0, nI (allL q.1 0 q.1.length), takeS s q) := by unfold uType; rw [if_pos c_18, hq]
      rw [e]
      rw [hq] at hT hs
      exact ⟨rfl, ⟨_, _, _, _, hT, hs⟩, hO⟩
  · refine g_iconst (v := (nI 1)) dX5_type_21 rfl rfl ?_
    refine g_goto (tgt := 41) dX5_type_22 (by decide) ?_
    refine g_virtual iV_X5_refused q2451 (t_refS (d := d - 1) (by omega) (x := 1) (by omega) (by omega) hT) (Or.inl (tm_o hT)) rfl (by decide) dX5_type_41 rfl rfl rfl (by first | exact Nat.le_of_ble_eq_true rfl | simp [Value.category, rf_cat]) (by omega) (by omega) (by omega) xN_no (fun v_41 m_41 h_41 => ?_)
    obtain ⟨rfl, hT, hO2⟩ := h_41
    replace hO := xo_tr hO hO2
    refine g_ifn_eq (tgt := 49) dX5_type_44 (by decide) rfl (by omega) (fun c_44 => by omega) (fun _ => ?_)
    refine g_iconst (v := (nI 0)) dX5_type_47 rfl rfl ?_
    refine g_ireturn dX5_type_48 rfl ?_
    first | (have e : uType s c = (1, 0, s) := by unfold uType; rw [if_neg (by rw [c_18]; decide)]) | (have e : uType s c = (2, 0, s) := by unfold uType; rw [if_pos c_18, Option.isSome_eq_false_iff.mp c_33 |> Option.isNone_iff_eq_none.mp])
    rw [e]
    exact ⟨rfl, ⟨_, _, _, _, hT, hs⟩, hO⟩
end TW8b
