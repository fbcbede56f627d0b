/-! TWIN: moving up and down -/
set_option maxRecDepth 100000
theorem items_ub (f : Nat → Int32) (n to c k : Nat) : itemsF f n to c k ≤ c + (to - k) := by
  fun_induction itemsF f n to c k with
  | case1 c k h1 ih => have := itemEnd_gt f n k; omega
  | case2 c k h1 => omega
section TW17
variable {w : XW} {d : Nat} {m : XM} {A : Nat → Nat} {rf : Int32} {s : XSt}
/-- by items on, at most n, up to a row's end -/
def skipL (L : List Int32) (en : Nat) : Nat → Nat → Nat
  | 0, at_ => at_
  | n + 1, at_ => if at_ < en then skipL L en n (itemEndL L at_) else at_
theorem skip_le {L : List Int32} {en : Nat} (hb : Bal L) (he : en ≤ L.length) (n at_ : Nat) (h : at_ ≤ L.length) : skipL L en n at_ ≤ L.length := by
  induction n generalizing at_ with
  | zero => exact h
  | succ n ih =>
    rw [skipL]
    split
    · exact ih _ (itemEnd_le hb (by omega))
    · exact h
/-- the begin of the structure whose slot begins behind it -/
def begL (L : List Int32) (st : Nat) : Nat := if lf L (st - 1) = -10 then beginOfL L (st - 1) else st - 1
theorem begL_lt {L : List Int32} {st : Nat} (h : 0 < st) : begL L st < st := by
  unfold begL
  split
  · have := beginOf_le (lf L) 0 (st - 1)
    unfold beginOfL; omega
  · omega
def mvTo (L : List Int32) (up : Bool) (st g : Nat) : Nat :=
  let a := if up = true then begL L st + 1 else rowEndL L st + 1
  skipL L (rowEndL L a) (itemsL L st g) a
def mvHit (L : List Int32) (up : Bool) (st : Nat) : Bool := if up = true then decide (lf L (st - 1) = -10) else decide (lf L (st - 1) = -1)
def mvF (L : List Int32) (up : Bool) (g : Nat) : Option Nat :=
  if h : 0 < rowStartL L g then if mvHit L up (rowStartL L g) = true then some (mvTo L up (rowStartL L g) g) else mvF L up (begL L (rowStartL L g)) else none
termination_by g
decreasing_by
  have h1 := begL_lt (L := L) h
  have h2 : rowStartL L g ≤ g := rowStart_le (lf L) 0 g
  omega
def mvD (L : List Int32) (up : Bool) (c : Nat) : Option Nat := match mvF L up c with
  | some g => some g
  | none => if c < L.length ∧ lf L c = (if up = true then -2 else -3) then some (c + 1)
    else if 0 < rowStartL L c ∧ lf L (rowStartL L c - 1) = (if up = true then -3 else -2) then some (rowEndL L c + 1) else none
def uMv (s : XSt) (up : Bool) : Nat × Int32 × XSt := match mvD (stP s).1 up (stP s).2.1 with
  | some g => (0, nI g, (stT s, ((stP s).1, g, none), stH s, stK s, stC s))
  | none => (0, -9, s)
theorem s_goTo {rf ls rs dp ts ac : Int32} {F : Nat → Nat → Int32} {c : Nat} {p : XPage} (hd : 1 ≤ d) (hT : TM A rf ts ac ls rs dp F m) (h3 : Pgx (F 3) p) : CT w MX5_goTo d 0 0 [.ref (A 0), .int (nI c)] m (fun v m' => some (.int (nI c)) = v ∧ ∃ f, TM A rf ts ac ls rs dp (fset F 3 f) m' ∧ Pgx f (p.1, c, none) ∧ XOf A m m') xN := by
  have hO := xo_rf A m
  refine ct_intro (lv := [some (.ref (A 0)), some (.int (nI c))]) 0 (by decide) rfl (Nat.le_of_ble_eq_true rfl) rfl ?_
  refine g_aload_n dX5_goTo_0 rfl rfl rfl ?_
  refine g_get fl_X5_13_X5 dX5_goTo_1 rfl (Or.inl (tm_o hT)) rfl ?_
  refine g_sipush (v := (nI 181)) dX5_goTo_4 rfl rfl ?_
  refine g_iload_n dX5_goTo_7 rfl rfl rfl ?_
  refine t_iastn (k := 3) (N := 184) (f := F 3) hT hO rfl rfl rfl (by first | rfl | assumption) dX5_goTo_8 rfl (by omega) (fun m_8 f_8 e_8 hT hO => ?_)
  refine g_aload_n dX5_goTo_9 rfl rfl rfl ?_
  refine g_get fl_X5_13_X5 dX5_goTo_10 rfl (Or.inl (tm_o hT)) rfl ?_
  refine g_sipush (v := (nI 182)) dX5_goTo_13 rfl rfl ?_
  refine g_bipush (v := -9) dX5_goTo_16 rfl rfl ?_
  refine t_iastn (k := 3) (N := 184) (f := f_8) hT hO rfl rfl rfl (by first | rfl | assumption) dX5_goTo_18 rfl (by omega) (fun m_18 f_18 e_18 hT hO => ?_)
  refine g_iload_n dX5_goTo_19 rfl rfl rfl ?_
  refine g_ireturn dX5_goTo_20 rfl ?_
  rw [fset_fset] at hT
  refine ⟨rfl, _, hT, ?_, hO⟩
  rw [e_18, e_8]
  exact ⟨pl_u (pl_u h3.1 (by omega)) (by omega), by rw [upd_ne (by omega), upd_eq], upd_eq _ _ _⟩
theorem u_mv {up : Bool} (hd : 5 ≤ d) (hs : TS A rf s m) (hi : Ipx (stP s)) (hb : Bal (stP s).1) (hE : ∀ g, g ≤ (stP s).1.length → 0 < rowStartL (stP s).1 g → rowEndL (stP s).1 g < (stP s).1.length ∧ rowEndL (stP s).1 (rowStartL (stP s).1 g) < (stP s).1.length) : CT w MX5_moveVertically d 0 0 [.ref (A 0), .int (xB up)] m (TR A m (uMv s up).2.1 (uMv s up).1 (uMv s up).2.2) xN := by
  obtain ⟨ls, rs, dp, F, hT, hs⟩ := hs
  have hO := xo_rf A m
  have h3 := hs.2.2.1
  have h3_180 : F 3 180 = nI (stP s).1.length := h3.1.2.1
  have h3_181 : F 3 181 = nI (stP s).2.1 := h3.2.1
  have hlen := h3.1.2.2
  have hpl := Pgx_l h3
  have hi1 := hi.1
  obtain ⟨L, eL⟩ : ∃ L, L = (stP s).1 := ⟨_, rfl⟩
  obtain ⟨c, ec⟩ : ∃ c, c = (stP s).2.1 := ⟨_, rfl⟩
  rw [← eL] at hb hE h3_180 hlen hpl hi1
  rw [← ec] at h3_181 hi1
  have hre := fun g (h : g ≤ L.length) => (show g ≤ rowEndL L g ∧ rowEndL L g ≤ L.length from rowEnd_le (lf L) L.length 0 g h)
  have hrs := fun g => (show rowStartL L g ≤ g from rowStart_le (lf L) 0 g)
  have hv : ∀ j, j < L.length → F 3 j = lf L j := hpl.1
  have fin : ∀ g m', mvD L up c = some g → TM A 0 (nI (stT s).length) (nI (stH s).length) ls rs dp F m' → XOf A m m' → ∀ (v : Option Value) m2, (some (.int (nI g)) = v ∧ ∃ f, TM A 0 (nI (stT s).length) (nI (stH s).length) ls rs dp (fset F 3 f) m2 ∧ Pgx f ((stP s).1, g, none) ∧ XOf A m' m2) → TR A m (uMv s up).2.1 (uMv s up).1 (uMv s up).2.2 v m2 := by
    rintro g m' hg hT hO v m2 ⟨hv, f, h1, h2, h3⟩
    have e : uMv s up = (0, nI g, (stT s, ((stP s).1, g, none), stH s, stK s, stC s)) := by unfold uMv; rw [← eL, ← ec, hg]
    rw [e]
    exact ⟨hv, ⟨_, _, _, _, h1, tIn_cur hs h2 rfl rfl rfl rfl rfl⟩, xo_tr hO h3⟩
  have land : ∀ t k at_ en n g0 x3 x4 x5 x6 m', n - k < t → k ≤ n → n ≤ 400 → at_ ≤ L.length → en ≤ L.length → xc1 x6 = true → mvD L up c = some g0 → skipL L en (n - k) at_ = g0 → TM A 0 (nI (stT s).length) (nI (stH s).length) ls rs dp F m' → XOf A m m' → G w MX5_moveVertically (xZ w (TR A m (uMv s up).2.1 (uMv s up).1 (uMv s up).2.2) xN) d 0 0 152 [some (.ref (A 0)), some (.int (xB up)), some (.int (nI c)), x3, x4, x5, x6, some (.int (nI n)), some (.int (nI at_)), some (.int (nI en)), some (.int (nI k))] [] m' := by
    intro t
    induction t with
    | zero => intro k at_ en n g0 x3 x4 x5 x6 m' h; omega
    | succ t ih =>
      intro k at_ en n g0 x3 x4 x5 x6 m' h hk hn ha he h6 hg hsk hT hO
      have hie := fun (z : at_ < L.length) => itemEnd_le hb z
      refine g_iload dX5_moveVertically_152 rfl rfl ?_
      refine g_iload dX5_moveVertically_154 rfl rfl ?_
      refine g_icmpn_ge (tgt := 183) dX5_moveVertically_156 (by decide) rfl (by omega) (by omega) (fun c_156 => ?_) (fun c_156 => ?_)
      · refine g_aload_n dX5_moveVertically_183 rfl rfl rfl ?_
        refine g_iload dX5_moveVertically_184 rfl rfl ?_
        refine g_virtual iV_X5_goTo q2599 (s_goTo (d := d - 1) (by omega) hT h3) (Or.inl (tm_o hT)) rfl (by decide) dX5_moveVertically_186 rfl rfl rfl (by first | exact Nat.le_of_ble_eq_true rfl | simp [Value.category, rf_cat]) (by omega) (by omega) (by omega) xN_no (fun v_186 m_186 h_186 => ?_)
        obtain ⟨rfl, h_186⟩ := h_186
        refine g_ireturn dX5_moveVertically_189 rfl ?_
        have e : at_ = g0 := by
          rw [← hsk]
          first | (rw [show n - k = 0 by omega]; rfl) | (obtain ⟨z, hz⟩ : ∃ z, n - k = z + 1 := ⟨n - k - 1, by omega⟩; rw [hz, skipL, if_neg (by omega)])
        subst e
        exact fin _ _ hg hT hO _ _ ⟨rfl, h_186⟩
      · refine g_iload dX5_moveVertically_159 rfl rfl ?_
        refine g_iload dX5_moveVertically_161 rfl rfl ?_
        refine g_icmpn_ge (tgt := 183) dX5_moveVertically_163 (by decide) rfl (by omega) (by omega) (fun c_163 => ?_) (fun c_163 => ?_)
        · refine g_aload_n dX5_moveVertically_183 rfl rfl rfl ?_
          refine g_iload dX5_moveVertically_184 rfl rfl ?_
          refine g_virtual iV_X5_goTo q2599 (s_goTo (d := d - 1) (by omega) hT h3) (Or.inl (tm_o hT)) rfl (by decide) dX5_moveVertically_186 rfl rfl rfl (by first | exact Nat.le_of_ble_eq_true rfl | simp [Value.category, rf_cat]) (by omega) (by omega) (by omega) xN_no (fun v_186 m_186 h_186 => ?_)
          obtain ⟨rfl, h_186⟩ := h_186
          refine g_ireturn dX5_moveVertically_189 rfl ?_
          have e : at_ = g0 := by
            rw [← hsk]
            first | (rw [show n - k = 0 by omega]; rfl) | (obtain ⟨z, hz⟩ : ∃ z, n - k = z + 1 := ⟨n - k - 1, by omega⟩; rw [hz, skipL, if_neg (by omega)])
          subst e
          exact fin _ _ hg hT hO _ _ ⟨rfl, h_186⟩
        · refine g_aload_n dX5_moveVertically_166 rfl rfl rfl ?_
          refine g_get fl_X5_13_X5 dX5_moveVertically_167 rfl (Or.inl (tm_o hT)) rfl ?_
          refine g_iload dX5_moveVertically_170 rfl rfl ?_
          refine g_staticP iS_X5_itemEnd q2542 (p_itemEnd (d := d - 1) (by omega) (by first | exact tm_at 3 hT rfl rfl rfl rfl | exact tm_at 4 hT rfl rfl rfl rfl) (by assumption) (by assumption) (by omega)) dX5_moveVertically_172 rfl rfl rfl (by first | exact Nat.le_of_ble_eq_true rfl | simp [Value.category, rf_cat]) (by omega) xN_no ?_
          refine g_ist8 dX5_moveVertically_175 rfl (by decide) (k := ?_)
          refine g_incn10 dX5_moveVertically_177 rfl (by decide) (k := ?_)
          refine g_goto (tgt := 152) dX5_moveVertically_180 (by decide) ?_
          refine ih (k + 1) _ _ _ _ _ _ _ _ _ (by omega) (by omega) hn (hie (by omega)) he h6 hg ?_ hT hO
          rw [show n - k = (n - (k + 1)) + 1 by omega, skipL, if_pos (by omega)] at hsk
          exact hsk
  have out : mvF L up c = none → ∀ x3 x4 x5 x6 x7 x8 x9 x10 m', xc1 x3 = true → TM A 0 (nI (stT s).length) (nI (stH s).length) ls rs dp F m' → XOf A m m' → G w MX5_moveVertically (xZ w (TR A m (uMv s up).2.1 (uMv s up).1 (uMv s up).2.2) xN) d 0 0 206 [some (.ref (A 0)), some (.int (xB up)), some (.int (nI c)), x3, x4, x5, x6, x7, x8, x9, x10] [] m' := by
    intro hno x3 x4 x5 x6 x7 x8 x9 x10 m' hx3 hT hO
    have k1 : (c < L.length ∧ lf L c = (if up = true then -2 else -3)) → mvD L up c = some (c + 1) := fun h => by unfold mvD; rw [hno]; simp only; rw [if_pos h]
    have k2 : ¬ (c < L.length ∧ lf L c = (if up = true then -2 else -3)) → (0 < rowStartL L c ∧ lf L (rowStartL L c - 1) = (if up = true then -3 else -2)) → mvD L up c = some (rowEndL L c + 1) := fun h h' => by unfold mvD; rw [hno]; simp only; rw [if_neg h, if_pos h']
    have k3 : ¬ (c < L.length ∧ lf L c = (if up = true then -2 else -3)) → ¬ (0 < rowStartL L c ∧ lf L (rowStartL L c - 1) = (if up = true then -3 else -2)) → TR A m (uMv s up).2.1 (uMv s up).1 (uMv s up).2.2 (some (.int (-9))) m' := fun h h' => by
      have e : uMv s up = (0, -9, s) := by unfold uMv mvD; rw [← eL, ← ec, hno]; simp only; rw [if_neg h, if_neg h']
      rw [e]
      exact ⟨rfl, ⟨_, _, _, _, hT, hs⟩, hO⟩
    clear land
    cases up with
    | true =>
      have tail : ¬ (c < L.length ∧ lf L c = -2) → G w MX5_moveVertically (xZ w (TR A m (uMv s true).2.1 (uMv s true).1 (uMv s true).2.2) xN) d 0 0 246 [some (.ref (A 0)), some (.int (xB true)), some (.int (nI c)), x3, x4, x5, x6, x7, x8, x9, x10] [] m' := by
        intro hn1
        have hrc := hrs c
        refine g_aload_n dX5_moveVertically_246 rfl rfl rfl ?_
        refine g_get fl_X5_13_X5 dX5_moveVertically_247 rfl (Or.inl (tm_o hT)) rfl ?_
        refine g_iload_n dX5_moveVertically_250 rfl rfl rfl ?_
        refine g_staticP iS_X5_rowStart q2530 (p_rowStart (d := d - 1) (by omega) (by first | exact tm_at 3 hT rfl rfl rfl rfl | exact tm_at 4 hT rfl rfl rfl rfl) (by assumption) (by omega)) dX5_moveVertically_251 rfl rfl rfl (by first | exact Nat.le_of_ble_eq_true rfl | simp [Value.category, rf_cat]) (by omega) xN_no ?_
        refine g_ist4 dX5_moveVertically_254 rfl (by decide) (k := ?_)
        refine g_iload dX5_moveVertically_256 rfl rfl ?_
        refine g_ifn_le (tgt := 299) dX5_moveVertically_258 (by decide) rfl (by omega) (fun c_258 => ?_) (fun c_258 => ?_)
        · refine g_bipush (v := (-9)) dX5_moveVertically_299 rfl rfl ?_
          exact g_ireturn dX5_moveVertically_301 rfl (k3 hn1 (fun h => by first | omega | exact absurd h.2 (by assumption)))
        · refine g_aload_n dX5_moveVertically_261 rfl rfl rfl ?_
          refine g_get fl_X5_13_X5 dX5_moveVertically_262 rfl (Or.inl (tm_o hT)) rfl ?_
          refine g_iload dX5_moveVertically_265 rfl rfl ?_
          refine g_iconst (v := (nI 1)) dX5_moveVertically_267 rfl rfl ?_
          refine g_isubn dX5_moveVertically_268 rfl (by omega) ?_
          refine t_ialdn (k := 3) (N := 184) (f := F 3) hT rfl rfl rfl (by first | rfl | assumption) dX5_moveVertically_269 rfl (by omega) ?_
          rw [hv _ (by omega)]
          refine g_iload_n dX5_moveVertically_270 rfl rfl rfl ?_
          refine g_ifB_eq (tgt := 279) dX5_moveVertically_271 (by decide) rfl (fun c_271 => ?_) (fun c_271 => ?_)
          · cases c_271
          · refine g_bipush (v := (-3)) dX5_moveVertically_274 rfl rfl ?_
            refine g_goto (tgt := 281) dX5_moveVertically_276 (by decide) ?_
            refine g_icmp_ne (tgt := 299) dX5_moveVertically_281 (by decide) rfl (fun c_281 => ?_) (fun c_281 => ?_)
            · refine g_bipush (v := (-9)) dX5_moveVertically_299 rfl rfl ?_
              exact g_ireturn dX5_moveVertically_301 rfl (k3 hn1 (fun h => by first | omega | exact absurd h.2 (by assumption)))
            · refine g_aload_n dX5_moveVertically_284 rfl rfl rfl ?_
              refine g_aload_n dX5_moveVertically_285 rfl rfl rfl ?_
              refine g_get fl_X5_13_X5 dX5_moveVertically_286 rfl (Or.inl (tm_o hT)) rfl ?_
              refine g_iload_n dX5_moveVertically_289 rfl rfl rfl ?_
              refine g_staticP iS_X5_rowEnd q2533 (p_rowEnd (d := d - 1) (by omega) (tm_at 3 hT rfl rfl rfl rfl) hpl (by omega)) dX5_moveVertically_290 rfl rfl rfl (by first | exact Nat.le_of_ble_eq_true rfl | simp [Value.category, rf_cat]) (by omega) xN_no ?_
              refine g_iconst (v := (nI 1)) dX5_moveVertically_293 rfl rfl ?_
              refine g_iaddn dX5_moveVertically_294 rfl ?_
              refine g_virtual iV_X5_goTo q2599 (s_goTo (d := d - 1) (by omega) hT h3) (Or.inl (tm_o hT)) rfl (by decide) dX5_moveVertically_295 rfl rfl rfl (by first | exact Nat.le_of_ble_eq_true rfl | simp [Value.category, rf_cat]) (by omega) (by omega) (by omega) xN_no (fun v_295 m_295 h_295 => ?_)
              obtain ⟨rfl, h_295⟩ := h_295
              exact g_ireturn dX5_moveVertically_298 rfl (fin _ _ (k2 hn1 ⟨by omega, by assumption⟩) hT hO _ _ ⟨rfl, h_295⟩)
      refine g_iload_n dX5_moveVertically_206 rfl rfl rfl ?_
      refine g_aload_n dX5_moveVertically_207 rfl rfl rfl ?_
      refine g_get fl_X5_13_X5 dX5_moveVertically_208 rfl (Or.inl (tm_o hT)) rfl ?_
      refine g_sipush (v := (nI 180)) dX5_moveVertically_211 rfl rfl ?_
      refine t_ialdn (k := 3) (N := 184) (f := F 3) hT rfl rfl rfl (by first | rfl | assumption) dX5_moveVertically_214 rfl (by omega) ?_
      rw [h3_180]
      refine g_icmpn_ge (tgt := 246) dX5_moveVertically_215 (by decide) rfl (by omega) (by omega) (fun c_215 => ?_) (fun c_215 => ?_)
      · exact tail (fun h => by first | omega | exact absurd h.2 (by assumption))
      · refine g_aload_n dX5_moveVertically_218 rfl rfl rfl ?_
        refine g_get fl_X5_13_X5 dX5_moveVertically_219 rfl (Or.inl (tm_o hT)) rfl ?_
        refine g_iload_n dX5_moveVertically_222 rfl rfl rfl ?_
        refine t_ialdn (k := 3) (N := 184) (f := F 3) hT rfl rfl rfl (by first | rfl | assumption) dX5_moveVertically_223 rfl (by omega) ?_
        rw [hv _ (by omega)]
        refine g_iload_n dX5_moveVertically_224 rfl rfl rfl ?_
        refine g_ifB_eq (tgt := 233) dX5_moveVertically_225 (by decide) rfl (fun c_225 => ?_) (fun c_225 => ?_)
        · cases c_225
        · refine g_bipush (v := (-2)) dX5_moveVertically_228 rfl rfl ?_
          refine g_goto (tgt := 235) dX5_moveVertically_230 (by decide) ?_
          refine g_icmp_ne (tgt := 246) dX5_moveVertically_235 (by decide) rfl (fun c_235 => ?_) (fun c_235 => ?_)
          · exact tail (fun h => by first | omega | exact absurd h.2 (by assumption))
          · refine g_aload_n dX5_moveVertically_238 rfl rfl rfl ?_
            refine g_iload_n dX5_moveVertically_239 rfl rfl rfl ?_
            refine g_iconst (v := (nI 1)) dX5_moveVertically_240 rfl rfl ?_
            refine g_iaddn dX5_moveVertically_241 rfl ?_
            refine g_virtual iV_X5_goTo q2599 (s_goTo (d := d - 1) (by omega) hT h3) (Or.inl (tm_o hT)) rfl (by decide) dX5_moveVertically_242 rfl rfl rfl (by first | exact Nat.le_of_ble_eq_true rfl | simp [Value.category, rf_cat]) (by omega) (by omega) (by omega) xN_no (fun v_242 m_242 h_242 => ?_)
            obtain ⟨rfl, h_242⟩ := h_242
            exact g_ireturn dX5_moveVertically_245 rfl (fin _ _ (k1 ⟨by omega, by assumption⟩) hT hO _ _ ⟨rfl, h_242⟩)
    | false =>
      have tail : ¬ (c < L.length ∧ lf L c = -3) → G w MX5_moveVertically (xZ w (TR A m (uMv s false).2.1 (uMv s false).1 (uMv s false).2.2) xN) d 0 0 246 [some (.ref (A 0)), some (.int (xB false)), some (.int (nI c)), x3, x4, x5, x6, x7, x8, x9, x10] [] m' := by
        intro hn1
        have hrc := hrs c
        refine g_aload_n dX5_moveVertically_246 rfl rfl rfl ?_
        refine g_get fl_X5_13_X5 dX5_moveVertically_247 rfl (Or.inl (tm_o hT)) rfl ?_
        refine g_iload_n dX5_moveVertically_250 rfl rfl rfl ?_
        refine g_staticP iS_X5_rowStart q2530 (p_rowStart (d := d - 1) (by omega) (by first | exact tm_at 3 hT rfl rfl rfl rfl | exact tm_at 4 hT rfl rfl rfl rfl) (by assumption) (by omega)) dX5_moveVertically_251 rfl rfl rfl (by first | exact Nat.le_of_ble_eq_true rfl | simp [Value.category, rf_cat]) (by omega) xN_no ?_
        refine g_ist4 dX5_moveVertically_254 rfl (by decide) (k := ?_)
        refine g_iload dX5_moveVertically_256 rfl rfl ?_
        refine g_ifn_le (tgt := 299) dX5_moveVertically_258 (by decide) rfl (by omega) (fun c_258 => ?_) (fun c_258 => ?_)
        · refine g_bipush (v := (-9)) dX5_moveVertically_299 rfl rfl ?_
          exact g_ireturn dX5_moveVertically_301 rfl (k3 hn1 (fun h => by first | omega | exact absurd h.2 (by assumption)))
        · refine g_aload_n dX5_moveVertically_261 rfl rfl rfl ?_
          refine g_get fl_X5_13_X5 dX5_moveVertically_262 rfl (Or.inl (tm_o hT)) rfl ?_
          refine g_iload dX5_moveVertically_265 rfl rfl ?_
          refine g_iconst (v := (nI 1)) dX5_moveVertically_267 rfl rfl ?_
          refine g_isubn dX5_moveVertically_268 rfl (by omega) ?_
          refine t_ialdn (k := 3) (N := 184) (f := F 3) hT rfl rfl rfl (by first | rfl | assumption) dX5_moveVertically_269 rfl (by omega) ?_
          rw [hv _ (by omega)]
          refine g_iload_n dX5_moveVertically_270 rfl rfl rfl ?_
          refine g_ifB_eq (tgt := 279) dX5_moveVertically_271 (by decide) rfl (fun c_271 => ?_) (fun c_271 => ?_)
          · refine g_bipush (v := (-2)) dX5_moveVertically_279 rfl rfl ?_
            refine g_icmp_ne (tgt := 299) dX5_moveVertically_281 (by decide) rfl (fun c_281 => ?_) (fun c_281 => ?_)
            · refine g_bipush (v := (-9)) dX5_moveVertically_299 rfl rfl ?_
              exact g_ireturn dX5_moveVertically_301 rfl (k3 hn1 (fun h => by first | omega | exact absurd h.2 (by assumption)))
            · refine g_aload_n dX5_moveVertically_284 rfl rfl rfl ?_
              refine g_aload_n dX5_moveVertically_285 rfl rfl rfl ?_
              refine g_get fl_X5_13_X5 dX5_moveVertically_286 rfl (Or.inl (tm_o hT)) rfl ?_
              refine g_iload_n dX5_moveVertically_289 rfl rfl rfl ?_
              refine g_staticP iS_X5_rowEnd q2533 (p_rowEnd (d := d - 1) (by omega) (tm_at 3 hT rfl rfl rfl rfl) hpl (by omega)) dX5_moveVertically_290 rfl rfl rfl (by first | exact Nat.le_of_ble_eq_true rfl | simp [Value.category, rf_cat]) (by omega) xN_no ?_
              refine g_iconst (v := (nI 1)) dX5_moveVertically_293 rfl rfl ?_
              refine g_iaddn dX5_moveVertically_294 rfl ?_
              refine g_virtual iV_X5_goTo q2599 (s_goTo (d := d - 1) (by omega) hT h3) (Or.inl (tm_o hT)) rfl (by decide) dX5_moveVertically_295 rfl rfl rfl (by first | exact Nat.le_of_ble_eq_true rfl | simp [Value.category, rf_cat]) (by omega) (by omega) (by omega) xN_no (fun v_295 m_295 h_295 => ?_)
              obtain ⟨rfl, h_295⟩ := h_295
              exact g_ireturn dX5_moveVertically_298 rfl (fin _ _ (k2 hn1 ⟨by omega, by assumption⟩) hT hO _ _ ⟨rfl, h_295⟩)
          · cases c_271
      refine g_iload_n dX5_moveVertically_206 rfl rfl rfl ?_
      refine g_aload_n dX5_moveVertically_207 rfl rfl rfl ?_
      refine g_get fl_X5_13_X5 dX5_moveVertically_208 rfl (Or.inl (tm_o hT)) rfl ?_
      refine g_sipush (v := (nI 180)) dX5_moveVertically_211 rfl rfl ?_
      refine t_ialdn (k := 3) (N := 184) (f := F 3) hT rfl rfl rfl (by first | rfl | assumption) dX5_moveVertically_214 rfl (by omega) ?_
      rw [h3_180]
      refine g_icmpn_ge (tgt := 246) dX5_moveVertically_215 (by decide) rfl (by omega) (by omega) (fun c_215 => ?_) (fun c_215 => ?_)
      · exact tail (fun h => by first | omega | exact absurd h.2 (by assumption))
      · refine g_aload_n dX5_moveVertically_218 rfl rfl rfl ?_
        refine g_get fl_X5_13_X5 dX5_moveVertically_219 rfl (Or.inl (tm_o hT)) rfl ?_
        refine g_iload_n dX5_moveVertically_222 rfl rfl rfl ?_
        refine t_ialdn (k := 3) (N := 184) (f := F 3) hT rfl rfl rfl (by first | rfl | assumption) dX5_moveVertically_223 rfl (by omega) ?_
        rw [hv _ (by omega)]
        refine g_iload_n dX5_moveVertically_224 rfl rfl rfl ?_
        refine g_ifB_eq (tgt := 233) dX5_moveVertically_225 (by decide) rfl (fun c_225 => ?_) (fun c_225 => ?_)
        · refine g_bipush (v := (-3)) dX5_moveVertically_233 rfl rfl ?_
          refine g_icmp_ne (tgt := 246) dX5_moveVertically_235 (by decide) rfl (fun c_235 => ?_) (fun c_235 => ?_)
          · exact tail (fun h => by first | omega | exact absurd h.2 (by assumption))
          · refine g_aload_n dX5_moveVertically_238 rfl rfl rfl ?_
            refine g_iload_n dX5_moveVertically_239 rfl rfl rfl ?_
            refine g_iconst (v := (nI 1)) dX5_moveVertically_240 rfl rfl ?_
            refine g_iaddn dX5_moveVertically_241 rfl ?_
            refine g_virtual iV_X5_goTo q2599 (s_goTo (d := d - 1) (by omega) hT h3) (Or.inl (tm_o hT)) rfl (by decide) dX5_moveVertically_242 rfl rfl rfl (by first | exact Nat.le_of_ble_eq_true rfl | simp [Value.category, rf_cat]) (by omega) (by omega) (by omega) xN_no (fun v_242 m_242 h_242 => ?_)
            obtain ⟨rfl, h_242⟩ := h_242
            exact g_ireturn dX5_moveVertically_245 rfl (fin _ _ (k1 ⟨by omega, by assumption⟩) hT hO _ _ ⟨rfl, h_242⟩)
        · cases c_225
  have loop : ∀ t g x5 x6 x7 x8 x9 x10 m', g < t → g ≤ L.length → mvF L up c = mvF L up g → TM A 0 (nI (stT s).length) (nI (stH s).length) ls rs dp F m' → XOf A m m' → G w MX5_moveVertically (xZ w (TR A m (uMv s up).2.1 (uMv s up).1 (uMv s up).2.2) xN) d 0 0 26 [some (.ref (A 0)), some (.int (xB up)), some (.int (nI c)), some (.int (nI g)), some (.int (nI (rowStartL L g))), x5, x6, x7, x8, x9, x10] [] m' := by
    intro t
    induction t with
    | zero => intro g x5 x6 x7 x8 x9 x10 m' h; omega
    | succ t ih =>
      intro g x5 x6 x7 x8 x9 x10 m' h hgl hme hT hO
      have hrg := hrs g
      obtain ⟨st, est⟩ : ∃ st, st = rowStartL L g := ⟨_, rfl⟩
      rw [← est] at hrg ⊢
      have hrst := hre st (by omega)
      have hits := items_ub (lf L) L.length g 0 st
      change itemsL L st g ≤ 0 + (g - st) at hits
      have hmv : 0 < st → mvHit L up st = true → mvD L up c = some (mvTo L up st g) := fun h1 h2 => by
        unfold mvD; rw [hme, mvF, ← est, dif_pos h1, if_pos h2]
      have tail : ∀ x5 m', 0 < st → xc1 x5 = true → mvHit L up st = true → TM A 0 (nI (stT s).length) (nI (stH s).length) ls rs dp F m' → XOf A m m' → G w MX5_moveVertically (xZ w (TR A m (uMv s up).2.1 (uMv s up).1 (uMv s up).2.2) xN) d 0 0 102 [some (.ref (A 0)), some (.int (xB up)), some (.int (nI c)), some (.int (nI g)), some (.int (nI st)), x5, some (.int (nI (begL L st))), x7, x8, x9, x10] [] m' := by
        intro x5 m' hst hx5 hh hT hO
        have hmv := hmv hst hh
        have hbl := begL_lt (L := L) hst
        have hEs := hE g hgl (by omega)
        have hre1 := hre (begL L st + 1) (by omega)
        have hes : rowEndL L st < L.length := by rw [est]; exact hEs.2
        have hEs := hEs.1
        have hre2 := hre (rowEndL L st + 1) (by omega)
        have next : ∀ at_ m', at_ ≤ L.length → mvTo L up st g = skipL L (rowEndL L at_) (itemsL L st g) at_ → TM A 0 (nI (stT s).length) (nI (stH s).length) ls rs dp F m' → XOf A m m' → G w MX5_moveVertically (xZ w (TR A m (uMv s up).2.1 (uMv s up).1 (uMv s up).2.2) xN) d 0 0 136 [some (.ref (A 0)), some (.int (xB up)), some (.int (nI c)), some (.int (nI g)), some (.int (nI st)), x5, some (.int (nI (begL L st))), some (.int (nI (itemsL L st g))), x8, x9, x10] [.int (nI at_)] m' := by
          intro at_ m' hat hto hT hO
          have hra := hre at_ hat
          refine g_ist8 dX5_moveVertically_136 rfl (by decide) (k := ?_)
          refine g_aload_n dX5_moveVertically_138 rfl rfl rfl ?_
          refine g_get fl_X5_13_X5 dX5_moveVertically_139 rfl (Or.inl (tm_o hT)) rfl ?_
          refine g_iload dX5_moveVertically_142 rfl rfl ?_
          refine g_staticP iS_X5_rowEnd q2533 (p_rowEnd (d := d - 1) (by omega) (by first | exact tm_at 3 hT rfl rfl rfl rfl | exact tm_at 4 hT rfl rfl rfl rfl) (by assumption) (by omega)) dX5_moveVertically_144 rfl rfl rfl (by first | exact Nat.le_of_ble_eq_true rfl | simp [Value.category, rf_cat]) (by omega) xN_no ?_
          refine g_ist9 dX5_moveVertically_147 rfl (by decide) (k := ?_)
          refine g_iconst (v := (nI 0)) dX5_moveVertically_149 rfl rfl ?_
          refine g_ist10 dX5_moveVertically_150 rfl (by decide) (k := ?_)
          exact land (itemsL L st g + 1) 0 _ _ _ _ _ _ _ _ _ (by omega) (by omega) (by omega) hat hra.2 rfl hmv hto.symm hT hO
        refine g_aload_n dX5_moveVertically_102 rfl rfl rfl ?_
        refine g_get fl_X5_13_X5 dX5_moveVertically_103 rfl (Or.inl (tm_o hT)) rfl ?_
        refine g_iload dX5_moveVertically_106 rfl rfl ?_
        refine g_iload_n dX5_moveVertically_108 rfl rfl rfl ?_
        refine g_staticP iS_X5_itemsIn q2539 (p_itemsIn (d := d - 1) (by omega) (by first | exact tm_at 3 hT rfl rfl rfl rfl | exact tm_at 4 hT rfl rfl rfl rfl | exact tm_at 9 hT rfl rfl rfl rfl) (by assumption) (by assumption) (by omega) (by omega)) dX5_moveVertically_109 rfl rfl rfl (by first | exact Nat.le_of_ble_eq_true rfl | simp [Value.category, rf_cat]) (by omega) xN_no ?_
        refine g_ist7 dX5_moveVertically_112 rfl (by decide) (k := ?_)
        refine g_iload_n dX5_moveVertically_114 rfl rfl rfl ?_
        refine g_ifB_eq (tgt := 125) dX5_moveVertically_115 (by decide) rfl (fun c_115 => ?_) (fun c_115 => ?_)
        · refine g_aload_n dX5_moveVertically_125 rfl rfl rfl ?_
          refine g_get fl_X5_13_X5 dX5_moveVertically_126 rfl (Or.inl (tm_o hT)) rfl ?_
          refine g_iload dX5_moveVertically_129 rfl rfl ?_
          refine g_staticP iS_X5_rowEnd q2533 (p_rowEnd (d := d - 1) (by omega) (by first | exact tm_at 3 hT rfl rfl rfl rfl | exact tm_at 4 hT rfl rfl rfl rfl) (by assumption) (by omega)) dX5_moveVertically_131 rfl rfl rfl (by first | exact Nat.le_of_ble_eq_true rfl | simp [Value.category, rf_cat]) (by omega) xN_no ?_
          refine g_iconst (v := (nI 1)) dX5_moveVertically_134 rfl rfl ?_
          refine g_iaddn dX5_moveVertically_135 rfl ?_
          refine next _ _ (by omega) ?_ hT hO
          simp only [mvTo]
          first | rw [if_pos (by assumption)] | rw [if_neg (by rw [Bool.not_eq_true]; assumption)]
        · refine g_iload dX5_moveVertically_118 rfl rfl ?_
          refine g_iconst (v := (nI 1)) dX5_moveVertically_120 rfl rfl ?_
          refine g_iaddn dX5_moveVertically_121 rfl ?_
          refine g_goto (tgt := 136) dX5_moveVertically_122 (by decide) ?_
          refine next _ _ (by omega) ?_ hT hO
          simp only [mvTo]
          first | rw [if_pos (by assumption)] | rw [if_neg (by rw [Bool.not_eq_true]; assumption)]
      have more : ∀ x5 m', 0 < st → xc1 x5 = true → mvHit L up st = false → TM A 0 (nI (stT s).length) (nI (stH s).length) ls rs dp F m' → XOf A m m' → G w MX5_moveVertically (xZ w (TR A m (uMv s up).2.1 (uMv s up).1 (uMv s up).2.2) xN) d 0 0 190 [some (.ref (A 0)), some (.int (xB up)), some (.int (nI c)), some (.int (nI g)), some (.int (nI st)), x5, some (.int (nI (begL L st))), x7, x8, x9, x10] [] m' := by
        intro x5 m' hst hx5 hh hT hO
        have hbl := begL_lt (L := L) hst
        refine g_iload dX5_moveVertically_190 rfl rfl ?_
        refine g_ist3 dX5_moveVertically_192 rfl (by decide) (k := ?_)
        refine g_aload_n dX5_moveVertically_193 rfl rfl rfl ?_
        refine g_get fl_X5_13_X5 dX5_moveVertically_194 rfl (Or.inl (tm_o hT)) rfl ?_
        refine g_iload_n dX5_moveVertically_197 rfl rfl rfl ?_
        refine g_staticP iS_X5_rowStart q2530 (p_rowStart (d := d - 1) (by omega) (by first | exact tm_at 3 hT rfl rfl rfl rfl | exact tm_at 4 hT rfl rfl rfl rfl) (by assumption) (by omega)) dX5_moveVertically_198 rfl rfl rfl (by first | exact Nat.le_of_ble_eq_true rfl | simp [Value.category, rf_cat]) (by omega) xN_no ?_
        refine g_ist4 dX5_moveVertically_201 rfl (by decide) (k := ?_)
        refine g_goto (tgt := 26) dX5_moveVertically_203 (by decide) ?_
        refine ih _ _ _ _ _ _ _ _ (by omega) (by omega) ?_ hT hO
        rw [hme]
        conv => lhs; rw [mvF]
        rw [← est, dif_pos hst, if_neg (by rw [hh]; decide)]
      have mid : ∀ x5 m', 0 < st → (x5 = some (.int (nI 1)) ∧ lf L (st - 1) = -10 ∨ x5 = some (.int (nI 0)) ∧ ¬ lf L (st - 1) = -10) → TM A 0 (nI (stT s).length) (nI (stH s).length) ls rs dp F m' → XOf A m m' → G w MX5_moveVertically (xZ w (TR A m (uMv s up).2.1 (uMv s up).1 (uMv s up).2.2) xN) d 0 0 77 [some (.ref (A 0)), some (.int (xB up)), some (.int (nI c)), some (.int (nI g)), some (.int (nI st)), x5, some (.int (nI (begL L st))), x7, x8, x9, x10] [] m' := by
        intro x5 m' hst hx hT hO
        rcases hx with ⟨rfl, hl⟩ | ⟨rfl, hl⟩
        · cases up with
          | true =>
            refine g_iload_n dX5_moveVertically_77 rfl rfl rfl ?_
            refine g_ifB_eq (tgt := 89) dX5_moveVertically_78 (by decide) rfl (fun c_78 => ?_) (fun c_78 => ?_)
            · cases c_78
            · refine g_iload dX5_moveVertically_81 rfl rfl ?_
              refine g_ifn_eq (tgt := 190) dX5_moveVertically_83 (by decide) rfl (by omega) (fun c_83 => by omega) (fun _ => ?_)
              refine g_goto (tgt := 102) dX5_moveVertically_86 (by decide) ?_
              exact tail _ _ hst rfl (by unfold mvHit; rw [if_pos rfl]; exact decide_eq_true hl) hT hO
          | false =>
            refine g_iload_n dX5_moveVertically_77 rfl rfl rfl ?_
            refine g_ifB_eq (tgt := 89) dX5_moveVertically_78 (by decide) rfl (fun c_78 => ?_) (fun c_78 => ?_)
            · refine g_aload_n dX5_moveVertically_89 rfl rfl rfl ?_
              refine g_get fl_X5_13_X5 dX5_moveVertically_90 rfl (Or.inl (tm_o hT)) rfl ?_
              refine g_iload dX5_moveVertically_93 rfl rfl ?_
              refine g_iconst (v := (nI 1)) dX5_moveVertically_95 rfl rfl ?_
              refine g_isubn dX5_moveVertically_96 rfl (by omega) ?_
              refine t_ialdn (k := 3) (N := 184) (f := F 3) hT rfl rfl rfl (by first | rfl | assumption) dX5_moveVertically_97 rfl (by omega) ?_
              rw [hv _ (by omega)]
              refine g_iconst (v := (-1)) dX5_moveVertically_98 rfl rfl ?_
              refine g_icmp_ne (tgt := 190) dX5_moveVertically_99 (by decide) rfl (fun c_99 => ?_) (fun c_99 => ?_)
              · exact more _ _ hst rfl (by unfold mvHit; rw [if_neg (by decide)]; exact decide_eq_false (by assumption)) hT hO
              · exact tail _ _ hst rfl (by unfold mvHit; rw [if_neg (by decide)]; exact decide_eq_true (by assumption)) hT hO
            · cases c_78
        · cases up with
          | true =>
            refine g_iload_n dX5_moveVertically_77 rfl rfl rfl ?_
            refine g_ifB_eq (tgt := 89) dX5_moveVertically_78 (by decide) rfl (fun c_78 => ?_) (fun c_78 => ?_)
            · cases c_78
            · refine g_iload dX5_moveVertically_81 rfl rfl ?_
              refine g_ifn_eq (tgt := 190) dX5_moveVertically_83 (by decide) rfl (by omega) (fun _ => ?_) (fun c_83 => by omega)
              exact more _ _ hst rfl (by unfold mvHit; rw [if_pos rfl]; exact decide_eq_false hl) hT hO
          | false =>
            refine g_iload_n dX5_moveVertically_77 rfl rfl rfl ?_
            refine g_ifB_eq (tgt := 89) dX5_moveVertically_78 (by decide) rfl (fun c_78 => ?_) (fun c_78 => ?_)
            · refine g_aload_n dX5_moveVertically_89 rfl rfl rfl ?_
              refine g_get fl_X5_13_X5 dX5_moveVertically_90 rfl (Or.inl (tm_o hT)) rfl ?_
              refine g_iload dX5_moveVertically_93 rfl rfl ?_
              refine g_iconst (v := (nI 1)) dX5_moveVertically_95 rfl rfl ?_
              refine g_isubn dX5_moveVertically_96 rfl (by omega) ?_
              refine t_ialdn (k := 3) (N := 184) (f := F 3) hT rfl rfl rfl (by first | rfl | assumption) dX5_moveVertically_97 rfl (by omega) ?_
              rw [hv _ (by omega)]
              refine g_iconst (v := (-1)) dX5_moveVertically_98 rfl rfl ?_
              refine g_icmp_ne (tgt := 190) dX5_moveVertically_99 (by decide) rfl (fun c_99 => ?_) (fun c_99 => ?_)
              · exact more _ _ hst rfl (by unfold mvHit; rw [if_neg (by decide)]; exact decide_eq_false (by assumption)) hT hO
              · exact tail _ _ hst rfl (by unfold mvHit; rw [if_neg (by decide)]; exact decide_eq_true (by assumption)) hT hO
            · cases c_78
      refine g_iload dX5_moveVertically_26 rfl rfl ?_
      refine g_ifn_le (tgt := 206) dX5_moveVertically_28 (by decide) rfl (by omega) (fun c_28 => ?_) (fun c_28 => ?_)
      · refine out ?_ _ _ _ _ _ _ _ _ _ rfl hT hO
        rw [hme, mvF, ← est, dif_neg (by omega)]
      · refine g_aload_n dX5_moveVertically_31 rfl rfl rfl ?_
        refine g_get fl_X5_13_X5 dX5_moveVertically_32 rfl (Or.inl (tm_o hT)) rfl ?_
        refine g_iload dX5_moveVertically_35 rfl rfl ?_
        refine g_iconst (v := (nI 1)) dX5_moveVertically_37 rfl rfl ?_
        refine g_isubn dX5_moveVertically_38 rfl (by omega) ?_
        refine t_ialdn (k := 3) (N := 184) (f := F 3) hT rfl rfl rfl (by first | rfl | assumption) dX5_moveVertically_39 rfl (by omega) ?_
        rw [hv _ (by omega)]
        refine g_bipush (v := (-10)) dX5_moveVertically_40 rfl rfl ?_
        refine g_icmp_ne (tgt := 49) dX5_moveVertically_42 (by decide) rfl (fun c_42 => ?_) (fun c_42 => ?_)
        · refine g_iconst (v := (nI 0)) dX5_moveVertically_49 rfl rfl ?_
          refine g_ist5 dX5_moveVertically_50 rfl (by decide) (k := ?_)
          refine g_iload dX5_moveVertically_52 rfl rfl ?_
          refine g_ifn_eq (tgt := 71) dX5_moveVertically_54 (by decide) rfl (by omega) (fun _ => ?_) (fun c_54 => by omega)
          refine g_iload dX5_moveVertically_71 rfl rfl ?_
          refine g_iconst (v := (nI 1)) dX5_moveVertically_73 rfl rfl ?_
          refine g_isubn dX5_moveVertically_74 rfl (by omega) ?_
          skip
          refine g_ist6 dX5_moveVertically_75 rfl (by decide) (k := ?_)
          exact (by
          have e : begL L st = st - 1 := by unfold begL; rw [if_neg (by assumption)]
          rw [← e]
          exact mid _ _ (by omega) (Or.inr ⟨rfl, by assumption⟩) hT hO)
        · refine g_iconst (v := (nI 1)) dX5_moveVertically_45 rfl rfl ?_
          refine g_goto (tgt := 50) dX5_moveVertically_46 (by decide) ?_
          refine g_ist5 dX5_moveVertically_50 rfl (by decide) (k := ?_)
          refine g_iload dX5_moveVertically_52 rfl rfl ?_
          refine g_ifn_eq (tgt := 71) dX5_moveVertically_54 (by decide) rfl (by omega) (fun c_54 => by omega) (fun _ => ?_)
          have hbg := hb.2 (st - 1) (by omega) (Or.inr (by assumption))
          refine g_aload_n dX5_moveVertically_57 rfl rfl rfl ?_
          refine g_get fl_X5_13_X5 dX5_moveVertically_58 rfl (Or.inl (tm_o hT)) rfl ?_
          refine g_iload dX5_moveVertically_61 rfl rfl ?_
          refine g_iconst (v := (nI 1)) dX5_moveVertically_63 rfl rfl ?_
          refine g_isubn dX5_moveVertically_64 rfl (by omega) ?_
          refine g_staticP iS_X5_beginOf q2575 (p_beginOf (d := d - 1) (by omega) (tm_at 3 hT rfl rfl rfl rfl) hpl (by omega) hbg) dX5_moveVertically_65 rfl rfl rfl (by first | exact Nat.le_of_ble_eq_true rfl | simp [Value.category, rf_cat]) (by omega) xN_no ?_
          refine g_goto (tgt := 75) dX5_moveVertically_68 (by decide) ?_
          skip
          refine g_ist6 dX5_moveVertically_75 rfl (by decide) (k := ?_)
          exact (by
          have e : begL L st = beginOfL L (st - 1) := by unfold begL; rw [if_pos (by assumption)]
          rw [← e]
          exact mid _ _ (by omega) (Or.inl ⟨rfl, by assumption⟩) hT hO)
  refine ct_intro (lv := [some (.ref (A 0)), some (.int (xB up)), none, none, none, none, none, none, none, none, none]) 9 (by decide) rfl (Nat.le_of_ble_eq_true rfl) rfl ?_
  refine g_aload_n dX5_moveVertically_0 rfl rfl rfl ?_
  refine g_iconst (v := 0) dX5_moveVertically_1 rfl rfl ?_
  refine t_put0 hT hO fl_X5_71_X5 dX5_moveVertically_2 rfl (fun m_2 hT hO => ?_)
  refine g_aload_n dX5_moveVertically_5 rfl rfl rfl ?_
  refine g_get fl_X5_13_X5 dX5_moveVertically_6 rfl (Or.inl (tm_o hT)) rfl ?_
  refine g_sipush (v := (nI 181)) dX5_moveVertically_9 rfl rfl ?_
  refine t_ialdn (k := 3) (N := 184) (f := F 3) hT rfl rfl rfl (by first | rfl | assumption) dX5_moveVertically_12 rfl (by omega) ?_
  rw [h3_181]
  refine g_ist2 dX5_moveVertically_13 rfl (by decide) (k := ?_)
  refine g_iload_n dX5_moveVertically_14 rfl rfl rfl ?_
  refine g_ist3 dX5_moveVertically_15 rfl (by decide) (k := ?_)
  refine g_aload_n dX5_moveVertically_16 rfl rfl rfl ?_
  refine g_get fl_X5_13_X5 dX5_moveVertically_17 rfl (Or.inl (tm_o hT)) rfl ?_
  refine g_iload_n dX5_moveVertically_20 rfl rfl rfl ?_
  refine g_staticP iS_X5_rowStart q2530 (p_rowStart (d := d - 1) (by omega) (by first | exact tm_at 3 hT rfl rfl rfl rfl | exact tm_at 4 hT rfl rfl rfl rfl) (by assumption) (by omega)) dX5_moveVertically_21 rfl rfl rfl (by first | exact Nat.le_of_ble_eq_true rfl | simp [Value.category, rf_cat]) (by omega) xN_no ?_
  refine g_ist4 dX5_moveVertically_24 rfl (by decide) (k := ?_)
  exact loop (c + 1) c _ _ _ _ _ _ _ (by omega) hi1 rfl hT hO
end TW17
