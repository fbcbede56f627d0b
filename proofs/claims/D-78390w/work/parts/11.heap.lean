/-! HEAP: fields, arrays, new objects -/
set_option maxRecDepth 100000
/-- a class by its number: name, fields, their types -/
def XCl (ci : Nat) (C : String) (T : u_T) (N : Nat) (tf : Nat → FieldType) : Prop :=
  vwCl[ci]? = some (C, T, N) ∧ ci < 100 ∧ (∀ x ∈ u_ws C T N, x ∈ lw_all) ∧ (∀ k, k < N → parseFieldDescriptor (T k).2.2.1 = some (tf k)) ∧ (∀ a, a < N → ∀ b, b < N → a ≠ b → (T a).2.1 ≠ (T b).2.1)
/-- what a place of a class's pool says of a field: its place in the object, its type, whether it is final, its declarer -/
def XF (own : String) (index ci k : Nat) (ty : FieldType) (fin : Bool) (dc : String) : Prop := ∃ (C : String) (T : u_T) (N : Nat) (tf : Nat → FieldType) (ref : String),
  XCl ci C T N tf ∧ k < N ∧ tf k = ty ∧ (T k).2.2.2 = fin ∧ (T k).1 = dc ∧ (ref = (T k).1 ∨ Cond.sameField ref (T k).1 (T k).2.1 (T k).2.2.1 ∈ lw_all) ∧
  (Cond.fieldLink own index ref (T k).2.1 (T k).2.2.1 ∈ lw_all ∨ ∃ host, Cond.fieldLinkNest own index ref (T k).2.1 (T k).2.2.1 host ∈ lw_tbl)
/-- the same of a final field of the class itself, for its constructor -/
def XFF (own : String) (index ci k : Nat) (ty : FieldType) : Prop := ∃ (C : String) (T : u_T) (N : Nat) (tf : Nat → FieldType) (ref : String),
  XCl ci C T N tf ∧ k < N ∧ tf k = ty ∧ (T k).2.2.2 = true ∧ (T k).1 = own ∧ (ref = (T k).1 ∨ Cond.sameField ref (T k).1 (T k).2.1 (T k).2.2.1 ∈ lw_all) ∧
  Cond.fieldLink own index ref (T k).2.1 (T k).2.2.1 ∈ lw_all
/-- a cell that the map or the old cells hold -/
def xkn (w : XW) (m : XM) (a : Nat) (e : va_E) : Prop := m a = some e ∨ xro w a = some e
section HEAPS
variable {w : XW} {y : XY} {Z : XZ} {d kc ks pc q : Nat} {lv : List (Option Value)} {st : List Value} {m : XM}
theorem xkn_at {H : Heap} {a : Nat} {e : va_E} (ok : XOk w) (hr : xRep w m H) (h : xkn w m a e) : xAt w a e H := by
  rcases h with h | h
  · exact (hr.2.2 a e h).2
  · obtain ⟨h1, h2⟩ := ok.2.2.2.2.1 a e h
    exact xAt_kept h2 (hr.2.1 a h1)
theorem x_same {args : Array Value} {s : State} {T : u_T} {k : Nat} {ref : String} (hts : ∀ x ∈ lw_all, x.before args s = true) (h : ref = (T k).1 ∨ Cond.sameField ref (T k).1 (T k).2.1 (T k).2.2.1 ∈ lw_all) : ∀ x, s.fieldFound? (T k).1 (T k).2.1 (T k).2.2.1 = some x → s.fieldFound? ref (T k).2.1 (T k).2.2.1 = some x := by
  rcases h with h | h
  · subst h; exact fun x h => h
  · exact fun x hx => u_same (hts _ h) x hx
theorem x_obj {a ci : Nat} {fs : List Value} {H : Heap} {C : String} {T : u_T} {N : Nat} (hc : vwCl[ci]? = some (C, T, N)) (hci : ci < 100) (h : xAt w a (.inr (ci, fs)) H) : t_OB a ((xD w).1 ci) N ((xD w).2 ci) H (vp_V fs) := by
  obtain ⟨r, h1, h2⟩ := h.1 hci
  have : r = (C, T, N) := Option.some.inj (h1.symm.trans hc)
  subst this
  exact h2
theorem g_get {index ci k : Nat} {ty : FieldType} {fin : Bool} {dc : String} {a : Nat} {fs : List Value} {v : Value} (hf : XF y.1.cls index ci k ty fin dc) (hd : decode y.2.1 pc = .ok (.getfield index, 3)) (hq : pc + 3 = q) (hm : xkn w m a (.inr (ci, fs))) (hv : fs[k]? = some v) (kk : G w y Z d kc ks q lv (v :: st) m) : G w y Z d kc ks pc lv (.ref a :: st) m := by
  subst hq
  intro ok p e R s mi args below meth c H locs cells slots Q ls cx hl
  obtain ⟨C, T, N, tf, ref, ⟨hc, hci, hin, -, -⟩, hk, -, -, -, hsame, hlink⟩ := hf
  have hts := cx_ts cx
  obtain ⟨cell, q1, q2, q3, q4⟩ := x_obj hc hci (xkn_at ok (cx_rep cx) hm)
  obtain ⟨hS, hfc, kC, hkC, hkind⟩ := (cx_K ok cx).1 ci _ hc
  obtain ⟨cf, kf, fi, f, hi, hsl⟩ := hS k hk
  have hst := (u_facts hfc hkC (u_lays hts hin hk) hi).1
  have hsv : cell.slots[f.slot]? = some v := by rw [hsl, q4 k hk]; simp [vp_V, hv]
  rcases hlink with hlink | ⟨host, hlink⟩
  · exact W.getf (cx_x cx) (cx_b cx) (cx_own cx) (hts _ hlink) (x_same hts hsame _ hi) hst q1 (by rw [q3]; exact fun h => by cases h) hsv rfl rfl hd (kk ok cx hl)
  · exact va_Wgetf (cx_x cx) (cx_b cx) (cx_own cx) (va_Nw.use rfl (va_Nw.warmF (cx_w cx) (va_Nw.of rfl (ok.1 _ hlink)))) (x_same hts hsame _ hi) hst q1 (by rw [q3]; exact fun h => by cases h) hsv rfl rfl hd (kk ok cx hl)
theorem x_S {s : State} {H H1 : Heap} {locs : List Loc} {a k : Nat} (h : va_S (xFree w) s.heap H locs) (z : H1.size = H.size) (oq : ∀ q : Nat, q ≠ a → H1[q]? = H[q]?) (ha : xBase w ≤ a) : va_S (xFree w) s.heap H1 (locs ++ [⟨a, k⟩]) := h.put z oq ha
theorem x_Snew {s : State} {H H1 : Heap} {locs : List Loc} (h : va_S (xFree w) s.heap H locs) (z : H1.size = H.size + 1) (o1 : ∀ q : Nat, q < H.size → H1[q]? = H[q]?) : va_S (xFree w) s.heap H1 locs :=
  ⟨Nat.le_trans h.1 (by omega), fun x h1 h2 => (o1 x (Nat.lt_of_lt_of_le h1 h.1)).trans (h.2.1 x h1 h2), h.2.2⟩
theorem g_put {index ci k : Nat} {ty : FieldType} {dc : String} {a : Nat} {fs fs' : List Value} {v : Value} (hf : XF y.1.cls index ci k ty false dc) (hd : decode y.2.1 pc = .ok (.putfield index, 3)) (hq : pc + 3 = q) (hm : m a = some (.inr (ci, fs))) (hl9 : k < fs.length) (hn : narrow ty v = v) (hft : fits ty v = true) (hs : fs.set k v = fs') (kk : G w y Z d kc ks q lv st (xu m a (.inr (ci, fs')))) : G w y Z d kc ks pc lv (v :: .ref a :: st) m := by
  subst hq; subst hs
  intro ok p e R s mi args below meth c H locs cells slots Q ls cx hl
  obtain ⟨C, T, N, tf, ref, ⟨hc, hci, hin, hty, hnm⟩, hk, htk, hfin, -, hsame, hlink⟩ := hf
  subst htk
  have hts := cx_ts cx
  have hK := cx_K ok cx
  have hap := va_apart (own := C) hts hin tf hty hnm hK hc
  obtain ⟨hb, hat⟩ := (cx_rep cx).2.2 a _ hm
  obtain ⟨cell, q1, q2, q3, q4⟩ := x_obj hc hci hat
  obtain ⟨hS, hfc, kC, hkC, hkind⟩ := hK.1 ci _ hc
  obtain ⟨cf, kf, fi, f, hi, hsl⟩ := hS k hk
  have hlay := hts _ (hin _ (u_in_lay hk))
  unfold u_lay at hlay
  rw [if_neg (by rw [hfin]; decide)] at hlay
  have hst := (u_facts hfc hkC (u_lays hts hin hk) hi).1
  have h6 := u_store hfc hkC hkind hlay hi (hty k hk) hn hft
  have key : ∀ H' : Heap, H'[a]? = some (cell.setSlot f.slot v) → H'.size = H.size → (∀ q, q ≠ a → H'[q]? = H[q]?) → W p (xl w) e R s mi args below meth c H' (locs ++ [⟨a, f.slot⟩]) cells slots Q (F0 mi (pc + 3) ls st) := by
    intro H' e1 e2 e3
    rw [hsl] at e1
    refine kk ok (cx_to cx (cx_kc cx) (cx_ks cx) (xRep_put (cx_rep cx) hm ⟨fun _ => ⟨_, hc, t_OB.to (V := updV (vp_V fs) k v) ⟨_, e1, q2, q3, t_set q4 hap hk v⟩ (fun j _ => vp_updV_set hl9 v j)⟩, fun h => absurd hci (by omega)⟩ e2 e3) (x_S (cx_S cx) e2 e3 hb)) hl
  rcases hlink with hlink | ⟨host, hlink⟩
  · exact W.putK (cx_x cx) (cx_b cx) (f := f) ⟨cx_own cx, hts _ hlink, ⟨_, _, _, x_same hts hsame _ hi⟩, hst⟩ (by rw [q2]; exact h6) q1 q3 (by rw [hsl]; exact k2_hasslot (q4 k hk)) rfl rfl hd key
  · exact va_WputK (cx_x cx) (cx_b cx) (cx_own cx) (va_Nw.use rfl (va_Nw.warmF (cx_w cx) (va_Nw.of rfl (ok.1 _ hlink)))) (x_same hts hsame _ hi) hst (by rw [q2]; exact h6) q1 q3 (by rw [hsl]; exact k2_hasslot (q4 k hk)) rfl rfl hd key
theorem g_putF {index ci k : Nat} {ty : FieldType} {a : Nat} {fs fs' : List Value} {v : Value} (hf : XFF y.1.cls index ci k ty) (hin2 : y.1.name = "<init>") (hd : decode y.2.1 pc = .ok (.putfield index, 3)) (hq : pc + 3 = q) (hm : m a = some (.inr (ci, fs))) (hl9 : k < fs.length) (hn : narrow ty v = v) (hft : fits ty v = true) (hs : fs.set k v = fs') (kk : G w y Z d kc ks q lv st (xu m a (.inr (ci, fs')))) : G w y Z d kc ks pc lv (v :: .ref a :: st) m := by
  subst hq; subst hs
  intro ok p e R s mi args below meth c H locs cells slots Q ls cx hl
  obtain ⟨C, T, N, tf, ref, ⟨hc, hci, hin, hty, hnm⟩, hk, htk, hfin, hdc, hsame, hlink⟩ := hf
  subst htk
  have hts := cx_ts cx
  have hK := cx_K ok cx
  have hap := va_apart (own := C) hts hin tf hty hnm hK hc
  obtain ⟨hb, hat⟩ := (cx_rep cx).2.2 a _ hm
  obtain ⟨cell, q1, q2, q3, q4⟩ := x_obj hc hci hat
  obtain ⟨hS, hfc, kC, hkC, hkind⟩ := hK.1 ci _ hc
  obtain ⟨cf, kf, fi, f, hi, hsl⟩ := hS k hk
  have hlay := hts _ (hin _ (u_in_lay hk))
  unfold u_lay at hlay
  rw [if_pos hfin] at hlay
  have hst := (u_facts hfc hkC (u_lays hts hin hk) hi).1
  have hown := cx_own cx
  have hcf : mi.cls = cf := by
    obtain ⟨_, _, c', _, _, _, -, -, hf', -, -, -, hown2, -⟩ := Cond.laysFinal_spec hlay
    have e1 : c' = cf := by have := hi.symm.trans hf'; simp at this; exact this.1.symm
    rw [hdc] at hown2
    rw [← e1]; exact Option.some.inj (hown.symm.trans hown2)
  have h6 := u_fits hfc hkC hkind (Or.inr hlay) hi (hty k hk) hn hft
  have key : ∀ H' : Heap, H'[a]? = some (cell.setSlot f.slot v) → H'.size = H.size → (∀ q, q ≠ a → H'[q]? = H[q]?) → W p (xl w) e R s mi args below meth c H' (locs ++ [⟨a, f.slot⟩]) cells slots Q (F0 mi (pc + 3) ls st) := by
    intro H' e1 e2 e3
    rw [hsl] at e1
    refine kk ok (cx_to cx (cx_kc cx) (cx_ks cx) (xRep_put (cx_rep cx) hm ⟨fun _ => ⟨_, hc, t_OB.to (V := updV (vp_V fs) k v) ⟨_, e1, q2, q3, t_set q4 hap hk v⟩ (fun j _ => vp_updV_set hl9 v j)⟩, fun h => absurd hci (by omega)⟩ e2 e3) (x_S (cx_S cx) e2 e3 hb)) hl
  exact W.putFinK (cx_x cx) (cx_b cx) (cx_own cx) (hts _ hlink) (x_same hts hsame _ hi) hst hcf ((cx_nm cx).trans hin2) (by rw [q2]; exact h6) q1 q3 (by rw [hsl]; exact k2_hasslot (q4 k hk)) rfl rfl hd key
/-- a new object: link, class, its fields' first values -/
def XNw (own : String) (index ci N : Nat) (fs : List Value) : Prop := ∃ (C : String) (T : u_T) (tf : Nat → FieldType), XCl ci C T N tf ∧ Cond.classLink own index C ∈ lw_all ∧ Cond.instantiable C N ∈ lw_all ∧ Cond.initialized C ∈ lw_all ∧ ∀ j, j < N → defaultValue (tf j) = vp_V fs j
theorem g_new {index ci N : Nat} {fs : List Value} (hf : XNw y.1.cls index ci N fs) (hd : decode y.2.1 pc = .ok (.new index, 3)) (hq : pc + 3 = q) (h1 : 1 ≤ kc) (h2 : N ≤ ks) (kk : ∀ a : Nat, m a = none → xBase w ≤ a → G w y Z d (kc - 1) (ks - N) q lv (.ref a :: st) (xu m a (.inr (ci, fs)))) : G w y Z d kc ks pc lv st m := by
  subst hq
  intro ok p e R s mi args below meth c H locs cells slots Q ls cx hl
  obtain ⟨C, T, tf, ⟨hc, hci, hin, hty, hnm⟩, hcl, hins, hini, hfs⟩ := hf
  have hts := cx_ts cx
  have hKn := (cx_K ok cx).1 ci _ hc
  have hr := cx_rep cx
  have k1 := cx_kc cx
  have k2 := cx_ks cx
  refine W.newcK (cx_x cx) (cx_b cx) (cx_own cx) (hts _ hcl) (hts _ hins) (hts _ hini) rfl hd (by omega) (by omega) hKn.2.1 rfl fun H1 kC hkC e1 z1 o1 => ?_
  exact kk H.size (xRep_no hr) hr.1 ok (cx_to cx (by omega) (by omega) (xRep_new hr ⟨fun _ => ⟨_, hc, (u_born tf hts hin hKn hkC e1 hty).to hfs⟩, fun h => absurd hci (by omega)⟩ z1 o1) (x_Snew (cx_S cx) z1 o1)) hl
/-- arrays of numbers -/
abbrev iA (t n : Nat) (f : Nat → Int32) : va_E := .inl (t, n, .inl f)
abbrev lA (t n : Nat) (f : Nat → Int64) : va_E := .inl (t, n, .inr (.inl f))
abbrev rA (t n : Nat) (f : Nat → Option Nat) : va_E := .inl (t, n, .inr (.inr (.inr (.inr f))))
theorem x_ty (ok : XOk w) {p : Program} {R : Room} {s : State} {mi : MethodId} {args : Array Value} {below : List Frame} {meth : Method} {c : Code} {H : Heap} {locs : List Loc} {cells slots : Nat} {Q : State → Prop} (cx : Cx w y Z d kc ks m p R s mi args below meth c H locs cells slots Q) {t : Nat} {ty : FieldType} (ht : xTs[t]? = some ty) : ArrOfT s (xTY w t) ty ∧ va_RA s (xTY w t) ty := (cx_K ok cx).2 t _ (xtys_at w ht)
theorem g_alen {t : Nat} {x : vp_A} {a : Nat} {ty : FieldType} (ht : xTs[t]? = some ty) (hd : decode y.2.1 pc = .ok (.arraylength, 1)) (hq : pc + 1 = q) (hm : xkn w m a (.inl (t, x))) (kk : G w y Z d kc ks q lv (.int (nI x.1) :: st) m) : G w y Z d kc ks pc lv (.ref a :: st) m := by
  subst hq
  intro ok p e R s mi args below meth c H locs cells slots Q ls cx hl
  have hP : va_P (xD w) vwCl [(a, .inl (xTY w t, x))] H := fun k q hk => by
    match k, hk with
    | 0, hk => cases hk; exact xkn_at ok (cx_rep cx) hm
    | k + 1, hk => simp at hk
  exact va_alen (cx_x cx) (cx_b cx) (cx_K ok cx) hP 0 t rfl (xtys_at w ht) rfl hd (kk ok cx hl)
theorem g_iald {n : Nat} {f : Nat → Int32} {a : Nat} {i : Int32} (hd : decode y.2.1 pc = .ok (.iaload, 1)) (hq : pc + 1 = q) (hm : xkn w m a (iA 0 n f)) (hi : vp_in i n) (kk : G w y Z d kc ks q lv (.int (f i.toNatClampNeg) :: st) m) : G w y Z d kc ks pc lv (.int i :: .ref a :: st) m := by
  subst hq
  intro ok p e R s mi args below meth c H locs cells slots Q ls cx hl
  have hP : va_P (xD w) vwCl [(a, .inl (xTY w 0, n, .inl f))] H := fun k q hk => by
    match k, hk with
    | 0, hk => cases hk; exact xkn_at ok (cx_rep cx) hm
    | k + 1, hk => simp at hk
  exact va_iald (cx_x cx) (cx_b cx) (cx_K ok cx) hP 0 0 rfl (xtys_at w rfl) hi hd (kk ok cx hl)
theorem g_ialdn {n j : Nat} {f : Nat → Int32} {a : Nat} (hd : decode y.2.1 pc = .ok (.iaload, 1)) (hq : pc + 1 = q) (hm : xkn w m a (iA 0 n f)) (hi : j < n) (hn : n < 2 ^ 31) (kk : G w y Z d kc ks q lv (.int (f j) :: st) m) : G w y Z d kc ks pc lv (.int (nI j) :: .ref a :: st) m :=
  g_iald hd hq hm (vp_in_nI hi hn) (by rw [nI_clamp (by omega)]; exact kk)
theorem g_zald {n : Nat} {f : Nat → Int32} {a : Nat} {i : Int32} (hd : decode y.2.1 pc = .ok (.baload, 1)) (hq : pc + 1 = q) (hm : xkn w m a (iA 1 n f)) (hi : vp_in i n) (kk : G w y Z d kc ks q lv (.int (f i.toNatClampNeg) :: st) m) : G w y Z d kc ks pc lv (.int i :: .ref a :: st) m := by
  subst hq
  intro ok p e R s mi args below meth c H locs cells slots Q ls cx hl
  have hP : va_P (xD w) vwCl [(a, .inl (xTY w 1, n, .inl f))] H := fun k q hk => by
    match k, hk with
    | 0, hk => cases hk; exact xkn_at ok (cx_rep cx) hm
    | k + 1, hk => simp at hk
  exact va_zald (cx_x cx) (cx_b cx) (cx_K ok cx) hP 0 1 rfl (xtys_at w rfl) hi hd (kk ok cx hl)
theorem g_zaldn {n j : Nat} {f : Nat → Int32} {a : Nat} (hd : decode y.2.1 pc = .ok (.baload, 1)) (hq : pc + 1 = q) (hm : xkn w m a (iA 1 n f)) (hi : j < n) (hn : n < 2 ^ 31) (kk : G w y Z d kc ks q lv (.int (f j) :: st) m) : G w y Z d kc ks pc lv (.int (nI j) :: .ref a :: st) m :=
  g_zald hd hq hm (vp_in_nI hi hn) (by rw [nI_clamp (by omega)]; exact kk)
theorem g_bald {n : Nat} {f : Nat → Int32} {a : Nat} {i : Int32} (hd : decode y.2.1 pc = .ok (.baload, 1)) (hq : pc + 1 = q) (hm : xkn w m a (iA 4 n f)) (hi : vp_in i n) (kk : G w y Z d kc ks q lv (.int (f i.toNatClampNeg) :: st) m) : G w y Z d kc ks pc lv (.int i :: .ref a :: st) m := by
  subst hq
  intro ok p e R s mi args below meth c H locs cells slots Q ls cx hl
  have hP : va_P (xD w) vwCl [(a, .inl (xTY w 4, n, .inl f))] H := fun k q hk => by
    match k, hk with
    | 0, hk => cases hk; exact xkn_at ok (cx_rep cx) hm
    | k + 1, hk => simp at hk
  exact va_bald (cx_x cx) (cx_b cx) (cx_K ok cx) hP 0 4 rfl (xtys_at w rfl) hi hd (kk ok cx hl)
theorem g_baldn {n j : Nat} {f : Nat → Int32} {a : Nat} (hd : decode y.2.1 pc = .ok (.baload, 1)) (hq : pc + 1 = q) (hm : xkn w m a (iA 4 n f)) (hi : j < n) (hn : n < 2 ^ 31) (kk : G w y Z d kc ks q lv (.int (f j) :: st) m) : G w y Z d kc ks pc lv (.int (nI j) :: .ref a :: st) m :=
  g_bald hd hq hm (vp_in_nI hi hn) (by rw [nI_clamp (by omega)]; exact kk)
theorem g_cald {n : Nat} {f : Nat → Int32} {a : Nat} {i : Int32} (hd : decode y.2.1 pc = .ok (.caload, 1)) (hq : pc + 1 = q) (hm : xkn w m a (iA 2 n f)) (hi : vp_in i n) (kk : G w y Z d kc ks q lv (.int (f i.toNatClampNeg) :: st) m) : G w y Z d kc ks pc lv (.int i :: .ref a :: st) m := by
  subst hq
  intro ok p e R s mi args below meth c H locs cells slots Q ls cx hl
  have hP : va_P (xD w) vwCl [(a, .inl (xTY w 2, n, .inl f))] H := fun k q hk => by
    match k, hk with
    | 0, hk => cases hk; exact xkn_at ok (cx_rep cx) hm
    | k + 1, hk => simp at hk
  exact va_cald (cx_x cx) (cx_b cx) (cx_K ok cx) hP 0 2 rfl (xtys_at w rfl) hi hd (kk ok cx hl)
theorem g_caldn {n j : Nat} {f : Nat → Int32} {a : Nat} (hd : decode y.2.1 pc = .ok (.caload, 1)) (hq : pc + 1 = q) (hm : xkn w m a (iA 2 n f)) (hi : j < n) (hn : n < 2 ^ 31) (kk : G w y Z d kc ks q lv (.int (f j) :: st) m) : G w y Z d kc ks pc lv (.int (nI j) :: .ref a :: st) m :=
  g_cald hd hq hm (vp_in_nI hi hn) (by rw [nI_clamp (by omega)]; exact kk)
theorem g_lald {n : Nat} {f : Nat → Int64} {a : Nat} {i : Int32} (hd : decode y.2.1 pc = .ok (.laload, 1)) (hq : pc + 1 = q) (hm : xkn w m a (lA 3 n f)) (hi : vp_in i n) (kk : G w y Z d kc ks q lv (.long (f i.toNatClampNeg) :: st) m) : G w y Z d kc ks pc lv (.int i :: .ref a :: st) m := by
  subst hq
  intro ok p e R s mi args below meth c H locs cells slots Q ls cx hl
  have hP : va_P (xD w) vwCl [(a, .inl (xTY w 3, n, .inr (.inl f)))] H := fun k q hk => by
    match k, hk with
    | 0, hk => cases hk; exact xkn_at ok (cx_rep cx) hm
    | k + 1, hk => simp at hk
  exact va_lald (cx_x cx) (cx_b cx) (cx_K ok cx) hP 0 3 rfl (xtys_at w rfl) hi hd (kk ok cx hl)
theorem g_aald {t n : Nat} {C : String} {f : Nat → Option Nat} {a : Nat} {i : Int32} (ht : xTs[t]? = some (.object C)) (hd : decode y.2.1 pc = .ok (.aaload, 1)) (hq : pc + 1 = q) (hm : xkn w m a (rA t n f)) (hi : vp_in i n) (kk : G w y Z d kc ks q lv (va_rf (f i.toNatClampNeg) :: st) m) : G w y Z d kc ks pc lv (.int i :: .ref a :: st) m := by
  subst hq
  intro ok p e R s mi args below meth c H locs cells slots Q ls cx hl
  have hP : va_P (xD w) vwCl [(a, .inl (xTY w t, n, .inr (.inr (.inr (.inr f)))))] H := fun k q hk => by
    match k, hk with
    | 0, hk => cases hk; exact xkn_at ok (cx_rep cx) hm
    | k + 1, hk => simp at hk
  exact va_aldq (cx_x cx) (cx_b cx) (cx_K ok cx) hP 0 t rfl (xtys_at w ht) hi hd (kk ok cx hl)
theorem g_aaldn {t n j : Nat} {C : String} {f : Nat → Option Nat} {a : Nat} (ht : xTs[t]? = some (.object C)) (hd : decode y.2.1 pc = .ok (.aaload, 1)) (hq : pc + 1 = q) (hm : xkn w m a (rA t n f)) (hi : j < n) (hn : n < 2 ^ 31) (kk : G w y Z d kc ks q lv (va_rf (f j) :: st) m) : G w y Z d kc ks pc lv (.int (nI j) :: .ref a :: st) m :=
  g_aald ht hd hq hm (vp_in_nI hi hn) (by rw [nI_clamp (by omega)]; exact kk)
theorem g_iast {n : Nat} {f : Nat → Int32} {a : Nat} {i x : Int32} (hd : decode y.2.1 pc = .ok (.iastore, 1)) (hq : pc + 1 = q) (hm : m a = some (iA 0 n f)) (hi : vp_in i n) (kk : G w y Z d kc ks q lv st (xu m a (iA 0 n (upd f i.toNatClampNeg x)))) : G w y Z d kc ks pc lv (.int x :: .int i :: .ref a :: st) m := by
  subst hq
  intro ok p e R s mi args below meth c H locs cells slots Q ls cx hl
  obtain ⟨hb, hat⟩ := (cx_rep cx).2.2 a _ hm
  have hT := (x_ty ok cx (t := 0) rfl).1
  refine W.iast (cx_x cx) (cx_b cx) hat (hT n (fun j => .int (f j))) (fun q => by cases q) (by show ¬ (i < 0 ∨ (arrV _ _ _).slots.size ≤ _); rw [arrV_size]; exact hi) rfl rfl hd fun H1 e1 z oq => ?_
  · refine kk ok (cx_to cx (cx_kc cx) (cx_ks cx) (xRep_put (cx_rep cx) hm ?_ z oq) (x_S (cx_S cx) z oq hb)) hl
    show H1[a]? = some (vp_cell _ _)
    rw [e1]
    rw [vp_cell_i, vp_cell_i, arrV_store]
    congr 2
    funext j
    by_cases hj : j = i.toNatClampNeg
    · subst hj
      simp [updV, upd]
    · simp [updV, upd, hj]
theorem g_iastn {n j : Nat} {f : Nat → Int32} {a : Nat} {x : Int32} (hd : decode y.2.1 pc = .ok (.iastore, 1)) (hq : pc + 1 = q) (hm : m a = some (iA 0 n f)) (hi : j < n) (hb : n < 2 ^ 31) (kk : G w y Z d kc ks q lv st (xu m a (iA 0 n (upd f j x)))) : G w y Z d kc ks pc lv (.int x :: .int (nI j) :: .ref a :: st) m :=
  g_iast hd hq hm (vp_in_nI hi hb) (by rw [nI_clamp (by omega)]; exact kk)
theorem g_zast {n : Nat} {f : Nat → Int32} {a : Nat} {i x : Int32} (hd : decode y.2.1 pc = .ok (.bastore, 1)) (hq : pc + 1 = q) (hm : m a = some (iA 1 n f)) (hi : vp_in i n) (hn : narrow .boolean (.int x) = .int x) (kk : G w y Z d kc ks q lv st (xu m a (iA 1 n (upd f i.toNatClampNeg x)))) : G w y Z d kc ks pc lv (.int x :: .int i :: .ref a :: st) m := by
  subst hq
  intro ok p e R s mi args below meth c H locs cells slots Q ls cx hl
  obtain ⟨hb, hat⟩ := (cx_rep cx).2.2 a _ hm
  have hT := (x_ty ok cx (t := 1) rfl).1
  refine W.zast (cx_x cx) (cx_b cx) hat (hT n (fun j => .int (f j))) (fun q => by cases q) (by show ¬ (i < 0 ∨ (arrV _ _ _).slots.size ≤ _); rw [arrV_size]; exact hi) rfl rfl hd fun H1 e1 z oq => ?_
  · rw [hn] at e1
    refine kk ok (cx_to cx (cx_kc cx) (cx_ks cx) (xRep_put (cx_rep cx) hm ?_ z oq) (x_S (cx_S cx) z oq hb)) hl
    show H1[a]? = some (vp_cell _ _)
    rw [e1]
    rw [vp_cell_i, vp_cell_i, arrV_store]
    congr 2
    funext j
    by_cases hj : j = i.toNatClampNeg
    · subst hj
      simp [updV, upd]
    · simp [updV, upd, hj]
theorem g_zastn {n j : Nat} {f : Nat → Int32} {a : Nat} {x : Int32} (hd : decode y.2.1 pc = .ok (.bastore, 1)) (hq : pc + 1 = q) (hm : m a = some (iA 1 n f)) (hi : j < n) (hb : n < 2 ^ 31) (hn : narrow .boolean (.int x) = .int x) (kk : G w y Z d kc ks q lv st (xu m a (iA 1 n (upd f j x)))) : G w y Z d kc ks pc lv (.int x :: .int (nI j) :: .ref a :: st) m :=
  g_zast hd hq hm (vp_in_nI hi hb) hn (by rw [nI_clamp (by omega)]; exact kk)
theorem g_bast {n : Nat} {f : Nat → Int32} {a : Nat} {i x : Int32} (hd : decode y.2.1 pc = .ok (.bastore, 1)) (hq : pc + 1 = q) (hm : m a = some (iA 4 n f)) (hi : vp_in i n) (hn : narrow .byte (.int x) = .int x) (kk : G w y Z d kc ks q lv st (xu m a (iA 4 n (upd f i.toNatClampNeg x)))) : G w y Z d kc ks pc lv (.int x :: .int i :: .ref a :: st) m := by
  subst hq
  intro ok p e R s mi args below meth c H locs cells slots Q ls cx hl
  obtain ⟨hb, hat⟩ := (cx_rep cx).2.2 a _ hm
  have hT := (x_ty ok cx (t := 4) rfl).1
  refine W.bast (cx_x cx) (cx_b cx) hat (hT n (fun j => .int (f j))) (fun q => by cases q) (by show ¬ (i < 0 ∨ (arrV _ _ _).slots.size ≤ _); rw [arrV_size]; exact hi) rfl rfl hd fun H1 e1 z oq => ?_
  · rw [hn] at e1
    refine kk ok (cx_to cx (cx_kc cx) (cx_ks cx) (xRep_put (cx_rep cx) hm ?_ z oq) (x_S (cx_S cx) z oq hb)) hl
    show H1[a]? = some (vp_cell _ _)
    rw [e1]
    rw [vp_cell_i, vp_cell_i, arrV_store]
    congr 2
    funext j
    by_cases hj : j = i.toNatClampNeg
    · subst hj
      simp [updV, upd]
    · simp [updV, upd, hj]
theorem g_bastn {n j : Nat} {f : Nat → Int32} {a : Nat} {x : Int32} (hd : decode y.2.1 pc = .ok (.bastore, 1)) (hq : pc + 1 = q) (hm : m a = some (iA 4 n f)) (hi : j < n) (hb : n < 2 ^ 31) (hn : narrow .byte (.int x) = .int x) (kk : G w y Z d kc ks q lv st (xu m a (iA 4 n (upd f j x)))) : G w y Z d kc ks pc lv (.int x :: .int (nI j) :: .ref a :: st) m :=
  g_bast hd hq hm (vp_in_nI hi hb) hn (by rw [nI_clamp (by omega)]; exact kk)
theorem g_cast {n : Nat} {f : Nat → Int32} {a : Nat} {i x : Int32} (hd : decode y.2.1 pc = .ok (.castore, 1)) (hq : pc + 1 = q) (hm : m a = some (iA 2 n f)) (hi : vp_in i n) (hn : narrow .char (.int x) = .int x) (kk : G w y Z d kc ks q lv st (xu m a (iA 2 n (upd f i.toNatClampNeg x)))) : G w y Z d kc ks pc lv (.int x :: .int i :: .ref a :: st) m := by
  subst hq
  intro ok p e R s mi args below meth c H locs cells slots Q ls cx hl
  obtain ⟨hb, hat⟩ := (cx_rep cx).2.2 a _ hm
  have hT := (x_ty ok cx (t := 2) rfl).1
  refine W.cast (cx_x cx) (cx_b cx) hat (hT n (fun j => .int (f j))) (fun q => by cases q) (by show ¬ (i < 0 ∨ (arrV _ _ _).slots.size ≤ _); rw [arrV_size]; exact hi) rfl rfl hd fun H1 e1 z oq => ?_
  · rw [hn] at e1
    refine kk ok (cx_to cx (cx_kc cx) (cx_ks cx) (xRep_put (cx_rep cx) hm ?_ z oq) (x_S (cx_S cx) z oq hb)) hl
    show H1[a]? = some (vp_cell _ _)
    rw [e1]
    rw [vp_cell_i, vp_cell_i, arrV_store]
    congr 2
    funext j
    by_cases hj : j = i.toNatClampNeg
    · subst hj
      simp [updV, upd]
    · simp [updV, upd, hj]
theorem g_castn {n j : Nat} {f : Nat → Int32} {a : Nat} {x : Int32} (hd : decode y.2.1 pc = .ok (.castore, 1)) (hq : pc + 1 = q) (hm : m a = some (iA 2 n f)) (hi : j < n) (hb : n < 2 ^ 31) (hn : narrow .char (.int x) = .int x) (kk : G w y Z d kc ks q lv st (xu m a (iA 2 n (upd f j x)))) : G w y Z d kc ks pc lv (.int x :: .int (nI j) :: .ref a :: st) m :=
  g_cast hd hq hm (vp_in_nI hi hb) hn (by rw [nI_clamp (by omega)]; exact kk)
theorem g_last {n : Nat} {f : Nat → Int64} {a : Nat} {i : Int32} {x : Int64} (hd : decode y.2.1 pc = .ok (.lastore, 1)) (hq : pc + 1 = q) (hm : m a = some (lA 3 n f)) (hi : vp_in i n) (kk : G w y Z d kc ks q lv st (xu m a (lA 3 n (vp_updL f i.toNatClampNeg x)))) : G w y Z d kc ks pc lv (.long x :: .int i :: .ref a :: st) m := by
  subst hq
  intro ok p e R s mi args below meth c H locs cells slots Q ls cx hl
  obtain ⟨hb, hat⟩ := (cx_rep cx).2.2 a _ hm
  have hT := (x_ty ok cx (t := 3) rfl).1
  refine W.last (cx_x cx) (cx_b cx) hat (hT n (fun j => .long (f j))) (fun q => by cases q) (by show ¬ (i < 0 ∨ (arrV _ _ _).slots.size ≤ _); rw [arrV_size]; exact hi) rfl rfl hd fun H1 e1 z oq => ?_
  refine kk ok (cx_to cx (cx_kc cx) (cx_ks cx) (xRep_put (cx_rep cx) hm ?_ z oq) (x_S (cx_S cx) z oq hb)) hl
  show H1[a]? = some (vp_cell _ _)
  rw [e1]
  rw [vp_cell_l, vp_cell_l, arrV_store]
  congr 2
  funext j
  by_cases hj : j = i.toNatClampNeg
  · subst hj
    simp [updV, vp_updL]
  · simp [updV, vp_updL, hj]
/-- v can stand in an array over E -/
def xany (w : XW) (m : XM) (E : String) (v : Nat) : Prop := XOk w → ∀ (s : State) (H : Heap), (xs0 w).WarmedH s.vm → xRep w m H → va_Any E s H v

theorem g_newi {n : Nat} (hw : Cond.arrayClass .int ∈ lw_all) (hd : decode y.2.1 pc = .ok (.newarray .int, 2)) (hq : pc + 2 = q) (hn : n ≤ 60000000) (h1 : 1 ≤ kc) (h2 : n ≤ ks) (kk : ∀ a : Nat, m a = none → xBase w ≤ a → G w y Z d (kc - 1) (ks - n) q lv (.ref a :: st) (xu m a (iA 0 n (fun _ => 0)))) : G w y Z d kc ks pc lv (.int (nI n) :: st) m := by
  subst hq
  intro ok p e R s mi args below meth c H locs cells slots Q ls cx hl
  have hr := cx_rep cx
  have k1 := cx_kc cx
  have k2 := cx_ks cx
  have hcl : (nI n).toNatClampNeg = n := nI_clamp (by omega)
  refine va_newaK (cx_x cx) (cx_b cx) (atype := .int) (cx_ts cx _ hw) rfl hd rfl (nI_pos (by omega)) hcl (by show n * 4 ≤ _; omega) (by omega) (by omega) rfl fun H1 cA e1 z1 o1 hAr hNm => ?_
  have hT : (xTY w 0) = cA := Option.some.inj (((x_ty ok cx (t := 0) rfl).2).symm.trans hNm)
  refine kk H.size (xRep_no hr) hr.1 ok (cx_to cx (by omega) (by omega) (xRep_new hr ?_ z1 o1) (x_Snew (cx_S cx) z1 o1)) hl
  show H1[H.size]? = some (vp_cell _ _)
  rw [vp_cell_i, hT]
  exact e1
theorem g_newz {n : Nat} (hw : Cond.arrayClass .boolean ∈ lw_all) (hd : decode y.2.1 pc = .ok (.newarray .boolean, 2)) (hq : pc + 2 = q) (hn : n ≤ 60000000) (h1 : 1 ≤ kc) (h2 : n ≤ ks) (kk : ∀ a : Nat, m a = none → xBase w ≤ a → G w y Z d (kc - 1) (ks - n) q lv (.ref a :: st) (xu m a (iA 1 n (fun _ => 0)))) : G w y Z d kc ks pc lv (.int (nI n) :: st) m := by
  subst hq
  intro ok p e R s mi args below meth c H locs cells slots Q ls cx hl
  have hr := cx_rep cx
  have k1 := cx_kc cx
  have k2 := cx_ks cx
  have hcl : (nI n).toNatClampNeg = n := nI_clamp (by omega)
  refine va_newaK (cx_x cx) (cx_b cx) (atype := .boolean) (cx_ts cx _ hw) rfl hd rfl (nI_pos (by omega)) hcl (by show n * 1 ≤ _; omega) (by omega) (by omega) rfl fun H1 cA e1 z1 o1 hAr hNm => ?_
  have hT : (xTY w 1) = cA := Option.some.inj (((x_ty ok cx (t := 1) rfl).2).symm.trans hNm)
  refine kk H.size (xRep_no hr) hr.1 ok (cx_to cx (by omega) (by omega) (xRep_new hr ?_ z1 o1) (x_Snew (cx_S cx) z1 o1)) hl
  show H1[H.size]? = some (vp_cell _ _)
  rw [vp_cell_i, hT]
  exact e1
theorem g_newc {n : Nat} (hw : Cond.arrayClass .char ∈ lw_all) (hd : decode y.2.1 pc = .ok (.newarray .char, 2)) (hq : pc + 2 = q) (hn : n ≤ 60000000) (h1 : 1 ≤ kc) (h2 : n ≤ ks) (kk : ∀ a : Nat, m a = none → xBase w ≤ a → G w y Z d (kc - 1) (ks - n) q lv (.ref a :: st) (xu m a (iA 2 n (fun _ => 0)))) : G w y Z d kc ks pc lv (.int (nI n) :: st) m := by
  subst hq
  intro ok p e R s mi args below meth c H locs cells slots Q ls cx hl
  have hr := cx_rep cx
  have k1 := cx_kc cx
  have k2 := cx_ks cx
  have hcl : (nI n).toNatClampNeg = n := nI_clamp (by omega)
  refine va_newaK (cx_x cx) (cx_b cx) (atype := .char) (cx_ts cx _ hw) rfl hd rfl (nI_pos (by omega)) hcl (by show n * 2 ≤ _; omega) (by omega) (by omega) rfl fun H1 cA e1 z1 o1 hAr hNm => ?_
  have hT : (xTY w 2) = cA := Option.some.inj (((x_ty ok cx (t := 2) rfl).2).symm.trans hNm)
  refine kk H.size (xRep_no hr) hr.1 ok (cx_to cx (by omega) (by omega) (xRep_new hr ?_ z1 o1) (x_Snew (cx_S cx) z1 o1)) hl
  show H1[H.size]? = some (vp_cell _ _)
  rw [vp_cell_i, hT]
  exact e1
theorem g_newb {n : Nat} (hw : Cond.arrayClass .byte ∈ lw_all) (hd : decode y.2.1 pc = .ok (.newarray .byte, 2)) (hq : pc + 2 = q) (hn : n ≤ 60000000) (h1 : 1 ≤ kc) (h2 : n ≤ ks) (kk : ∀ a : Nat, m a = none → xBase w ≤ a → G w y Z d (kc - 1) (ks - n) q lv (.ref a :: st) (xu m a (iA 4 n (fun _ => 0)))) : G w y Z d kc ks pc lv (.int (nI n) :: st) m := by
  subst hq
  intro ok p e R s mi args below meth c H locs cells slots Q ls cx hl
  have hr := cx_rep cx
  have k1 := cx_kc cx
  have k2 := cx_ks cx
  have hcl : (nI n).toNatClampNeg = n := nI_clamp (by omega)
  refine va_newaK (cx_x cx) (cx_b cx) (atype := .byte) (cx_ts cx _ hw) rfl hd rfl (nI_pos (by omega)) hcl (by show n * 1 ≤ _; omega) (by omega) (by omega) rfl fun H1 cA e1 z1 o1 hAr hNm => ?_
  have hT : (xTY w 4) = cA := Option.some.inj (((x_ty ok cx (t := 4) rfl).2).symm.trans hNm)
  refine kk H.size (xRep_no hr) hr.1 ok (cx_to cx (by omega) (by omega) (xRep_new hr ?_ z1 o1) (x_Snew (cx_S cx) z1 o1)) hl
  show H1[H.size]? = some (vp_cell _ _)
  rw [vp_cell_i, hT]
  exact e1
theorem g_newl {n : Nat} (hw : Cond.arrayClass .long ∈ lw_all) (hd : decode y.2.1 pc = .ok (.newarray .long, 2)) (hq : pc + 2 = q) (hn : n ≤ 60000000) (h1 : 1 ≤ kc) (h2 : n ≤ ks) (kk : ∀ a : Nat, m a = none → xBase w ≤ a → G w y Z d (kc - 1) (ks - n) q lv (.ref a :: st) (xu m a (lA 3 n (fun _ => 0)))) : G w y Z d kc ks pc lv (.int (nI n) :: st) m := by
  subst hq
  intro ok p e R s mi args below meth c H locs cells slots Q ls cx hl
  have hr := cx_rep cx
  have k1 := cx_kc cx
  have k2 := cx_ks cx
  have hcl : (nI n).toNatClampNeg = n := nI_clamp (by omega)
  refine va_newaK (cx_x cx) (cx_b cx) (atype := .long) (cx_ts cx _ hw) rfl hd rfl (nI_pos (by omega)) hcl (by show n * 8 ≤ _; omega) (by omega) (by omega) rfl fun H1 cA e1 z1 o1 hAr hNm => ?_
  have hT : (xTY w 3) = cA := Option.some.inj (((x_ty ok cx (t := 3) rfl).2).symm.trans hNm)
  refine kk H.size (xRep_no hr) hr.1 ok (cx_to cx (by omega) (by omega) (xRep_new hr ?_ z1 o1) (x_Snew (cx_S cx) z1 o1)) hl
  show H1[H.size]? = some (vp_cell _ _)
  rw [vp_cell_l, hT]
  exact e1
end HEAPS
section PUTS
variable {w : XW} {y : XY} {Z : XZ} {d kc ks pc q : Nat} {lv : List (Option Value)} {st : List Value} {m : XM}
theorem g_put0 {index ci : Nat} {ty : FieldType} {dc : String} {a : Nat} {o0 : Value} {l : List Value} {v : Value} (hf : XF y.1.cls index ci 0 ty false dc) (hd : decode y.2.1 pc = .ok (.putfield index, 3)) (hq : pc + 3 = q) (hm : m a = some (.inr (ci, o0 :: l))) (hn : narrow ty v = v) (hft : fits ty v = true) (kk : G w y Z d kc ks q lv st (xu m a (.inr (ci, v :: l)))) : G w y Z d kc ks pc lv (v :: .ref a :: st) m :=
  g_put hf hd hq hm (by simp) hn hft rfl kk
theorem g_putF0 {index ci : Nat} {ty : FieldType} {a : Nat} {o0 : Value} {l : List Value} {v : Value} (hf : XFF y.1.cls index ci 0 ty) (hin : y.1.name = "<init>") (hd : decode y.2.1 pc = .ok (.putfield index, 3)) (hq : pc + 3 = q) (hm : m a = some (.inr (ci, o0 :: l))) (hn : narrow ty v = v) (hft : fits ty v = true) (kk : G w y Z d kc ks q lv st (xu m a (.inr (ci, v :: l)))) : G w y Z d kc ks pc lv (v :: .ref a :: st) m :=
  g_putF hf hin hd hq hm (by simp) hn hft rfl kk
theorem g_put1 {index ci : Nat} {ty : FieldType} {dc : String} {a : Nat} {o0 o1 : Value} {l : List Value} {v : Value} (hf : XF y.1.cls index ci 1 ty false dc) (hd : decode y.2.1 pc = .ok (.putfield index, 3)) (hq : pc + 3 = q) (hm : m a = some (.inr (ci, o0 :: o1 :: l))) (hn : narrow ty v = v) (hft : fits ty v = true) (kk : G w y Z d kc ks q lv st (xu m a (.inr (ci, o0 :: v :: l)))) : G w y Z d kc ks pc lv (v :: .ref a :: st) m :=
  g_put hf hd hq hm (by simp) hn hft rfl kk
theorem g_putF1 {index ci : Nat} {ty : FieldType} {a : Nat} {o0 o1 : Value} {l : List Value} {v : Value} (hf : XFF y.1.cls index ci 1 ty) (hin : y.1.name = "<init>") (hd : decode y.2.1 pc = .ok (.putfield index, 3)) (hq : pc + 3 = q) (hm : m a = some (.inr (ci, o0 :: o1 :: l))) (hn : narrow ty v = v) (hft : fits ty v = true) (kk : G w y Z d kc ks q lv st (xu m a (.inr (ci, o0 :: v :: l)))) : G w y Z d kc ks pc lv (v :: .ref a :: st) m :=
  g_putF hf hin hd hq hm (by simp) hn hft rfl kk
theorem g_put2 {index ci : Nat} {ty : FieldType} {dc : String} {a : Nat} {o0 o1 o2 : Value} {l : List Value} {v : Value} (hf : XF y.1.cls index ci 2 ty false dc) (hd : decode y.2.1 pc = .ok (.putfield index, 3)) (hq : pc + 3 = q) (hm : m a = some (.inr (ci, o0 :: o1 :: o2 :: l))) (hn : narrow ty v = v) (hft : fits ty v = true) (kk : G w y Z d kc ks q lv st (xu m a (.inr (ci, o0 :: o1 :: v :: l)))) : G w y Z d kc ks pc lv (v :: .ref a :: st) m :=
  g_put hf hd hq hm (by simp) hn hft rfl kk
theorem g_putF2 {index ci : Nat} {ty : FieldType} {a : Nat} {o0 o1 o2 : Value} {l : List Value} {v : Value} (hf : XFF y.1.cls index ci 2 ty) (hin : y.1.name = "<init>") (hd : decode y.2.1 pc = .ok (.putfield index, 3)) (hq : pc + 3 = q) (hm : m a = some (.inr (ci, o0 :: o1 :: o2 :: l))) (hn : narrow ty v = v) (hft : fits ty v = true) (kk : G w y Z d kc ks q lv st (xu m a (.inr (ci, o0 :: o1 :: v :: l)))) : G w y Z d kc ks pc lv (v :: .ref a :: st) m :=
  g_putF hf hin hd hq hm (by simp) hn hft rfl kk
theorem g_put3 {index ci : Nat} {ty : FieldType} {dc : String} {a : Nat} {o0 o1 o2 o3 : Value} {l : List Value} {v : Value} (hf : XF y.1.cls index ci 3 ty false dc) (hd : decode y.2.1 pc = .ok (.putfield index, 3)) (hq : pc + 3 = q) (hm : m a = some (.inr (ci, o0 :: o1 :: o2 :: o3 :: l))) (hn : narrow ty v = v) (hft : fits ty v = true) (kk : G w y Z d kc ks q lv st (xu m a (.inr (ci, o0 :: o1 :: o2 :: v :: l)))) : G w y Z d kc ks pc lv (v :: .ref a :: st) m :=
  g_put hf hd hq hm (by simp) hn hft rfl kk
theorem g_putF3 {index ci : Nat} {ty : FieldType} {a : Nat} {o0 o1 o2 o3 : Value} {l : List Value} {v : Value} (hf : XFF y.1.cls index ci 3 ty) (hin : y.1.name = "<init>") (hd : decode y.2.1 pc = .ok (.putfield index, 3)) (hq : pc + 3 = q) (hm : m a = some (.inr (ci, o0 :: o1 :: o2 :: o3 :: l))) (hn : narrow ty v = v) (hft : fits ty v = true) (kk : G w y Z d kc ks q lv st (xu m a (.inr (ci, o0 :: o1 :: o2 :: v :: l)))) : G w y Z d kc ks pc lv (v :: .ref a :: st) m :=
  g_putF hf hin hd hq hm (by simp) hn hft rfl kk
theorem g_put4 {index ci : Nat} {ty : FieldType} {dc : String} {a : Nat} {o0 o1 o2 o3 o4 : Value} {l : List Value} {v : Value} (hf : XF y.1.cls index ci 4 ty false dc) (hd : decode y.2.1 pc = .ok (.putfield index, 3)) (hq : pc + 3 = q) (hm : m a = some (.inr (ci, o0 :: o1 :: o2 :: o3 :: o4 :: l))) (hn : narrow ty v = v) (hft : fits ty v = true) (kk : G w y Z d kc ks q lv st (xu m a (.inr (ci, o0 :: o1 :: o2 :: o3 :: v :: l)))) : G w y Z d kc ks pc lv (v :: .ref a :: st) m :=
  g_put hf hd hq hm (by simp) hn hft rfl kk
theorem g_putF4 {index ci : Nat} {ty : FieldType} {a : Nat} {o0 o1 o2 o3 o4 : Value} {l : List Value} {v : Value} (hf : XFF y.1.cls index ci 4 ty) (hin : y.1.name = "<init>") (hd : decode y.2.1 pc = .ok (.putfield index, 3)) (hq : pc + 3 = q) (hm : m a = some (.inr (ci, o0 :: o1 :: o2 :: o3 :: o4 :: l))) (hn : narrow ty v = v) (hft : fits ty v = true) (kk : G w y Z d kc ks q lv st (xu m a (.inr (ci, o0 :: o1 :: o2 :: o3 :: v :: l)))) : G w y Z d kc ks pc lv (v :: .ref a :: st) m :=
  g_putF hf hin hd hq hm (by simp) hn hft rfl kk
theorem g_put5 {index ci : Nat} {ty : FieldType} {dc : String} {a : Nat} {o0 o1 o2 o3 o4 o5 : Value} {l : List Value} {v : Value} (hf : XF y.1.cls index ci 5 ty false dc) (hd : decode y.2.1 pc = .ok (.putfield index, 3)) (hq : pc + 3 = q) (hm : m a = some (.inr (ci, o0 :: o1 :: o2 :: o3 :: o4 :: o5 :: l))) (hn : narrow ty v = v) (hft : fits ty v = true) (kk : G w y Z d kc ks q lv st (xu m a (.inr (ci, o0 :: o1 :: o2 :: o3 :: o4 :: v :: l)))) : G w y Z d kc ks pc lv (v :: .ref a :: st) m :=
  g_put hf hd hq hm (by simp) hn hft rfl kk
theorem g_putF5 {index ci : Nat} {ty : FieldType} {a : Nat} {o0 o1 o2 o3 o4 o5 : Value} {l : List Value} {v : Value} (hf : XFF y.1.cls index ci 5 ty) (hin : y.1.name = "<init>") (hd : decode y.2.1 pc = .ok (.putfield index, 3)) (hq : pc + 3 = q) (hm : m a = some (.inr (ci, o0 :: o1 :: o2 :: o3 :: o4 :: o5 :: l))) (hn : narrow ty v = v) (hft : fits ty v = true) (kk : G w y Z d kc ks q lv st (xu m a (.inr (ci, o0 :: o1 :: o2 :: o3 :: o4 :: v :: l)))) : G w y Z d kc ks pc lv (v :: .ref a :: st) m :=
  g_putF hf hin hd hq hm (by simp) hn hft rfl kk
theorem g_put6 {index ci : Nat} {ty : FieldType} {dc : String} {a : Nat} {o0 o1 o2 o3 o4 o5 o6 : Value} {l : List Value} {v : Value} (hf : XF y.1.cls index ci 6 ty false dc) (hd : decode y.2.1 pc = .ok (.putfield index, 3)) (hq : pc + 3 = q) (hm : m a = some (.inr (ci, o0 :: o1 :: o2 :: o3 :: o4 :: o5 :: o6 :: l))) (hn : narrow ty v = v) (hft : fits ty v = true) (kk : G w y Z d kc ks q lv st (xu m a (.inr (ci, o0 :: o1 :: o2 :: o3 :: o4 :: o5 :: v :: l)))) : G w y Z d kc ks pc lv (v :: .ref a :: st) m :=
  g_put hf hd hq hm (by simp) hn hft rfl kk
theorem g_putF6 {index ci : Nat} {ty : FieldType} {a : Nat} {o0 o1 o2 o3 o4 o5 o6 : Value} {l : List Value} {v : Value} (hf : XFF y.1.cls index ci 6 ty) (hin : y.1.name = "<init>") (hd : decode y.2.1 pc = .ok (.putfield index, 3)) (hq : pc + 3 = q) (hm : m a = some (.inr (ci, o0 :: o1 :: o2 :: o3 :: o4 :: o5 :: o6 :: l))) (hn : narrow ty v = v) (hft : fits ty v = true) (kk : G w y Z d kc ks q lv st (xu m a (.inr (ci, o0 :: o1 :: o2 :: o3 :: o4 :: o5 :: v :: l)))) : G w y Z d kc ks pc lv (v :: .ref a :: st) m :=
  g_putF hf hin hd hq hm (by simp) hn hft rfl kk
theorem g_put7 {index ci : Nat} {ty : FieldType} {dc : String} {a : Nat} {o0 o1 o2 o3 o4 o5 o6 o7 : Value} {l : List Value} {v : Value} (hf : XF y.1.cls index ci 7 ty false dc) (hd : decode y.2.1 pc = .ok (.putfield index, 3)) (hq : pc + 3 = q) (hm : m a = some (.inr (ci, o0 :: o1 :: o2 :: o3 :: o4 :: o5 :: o6 :: o7 :: l))) (hn : narrow ty v = v) (hft : fits ty v = true) (kk : G w y Z d kc ks q lv st (xu m a (.inr (ci, o0 :: o1 :: o2 :: o3 :: o4 :: o5 :: o6 :: v :: l)))) : G w y Z d kc ks pc lv (v :: .ref a :: st) m :=
  g_put hf hd hq hm (by simp) hn hft rfl kk
theorem g_putF7 {index ci : Nat} {ty : FieldType} {a : Nat} {o0 o1 o2 o3 o4 o5 o6 o7 : Value} {l : List Value} {v : Value} (hf : XFF y.1.cls index ci 7 ty) (hin : y.1.name = "<init>") (hd : decode y.2.1 pc = .ok (.putfield index, 3)) (hq : pc + 3 = q) (hm : m a = some (.inr (ci, o0 :: o1 :: o2 :: o3 :: o4 :: o5 :: o6 :: o7 :: l))) (hn : narrow ty v = v) (hft : fits ty v = true) (kk : G w y Z d kc ks q lv st (xu m a (.inr (ci, o0 :: o1 :: o2 :: o3 :: o4 :: o5 :: o6 :: v :: l)))) : G w y Z d kc ks pc lv (v :: .ref a :: st) m :=
  g_putF hf hin hd hq hm (by simp) hn hft rfl kk
theorem g_put8 {index ci : Nat} {ty : FieldType} {dc : String} {a : Nat} {o0 o1 o2 o3 o4 o5 o6 o7 o8 : Value} {l : List Value} {v : Value} (hf : XF y.1.cls index ci 8 ty false dc) (hd : decode y.2.1 pc = .ok (.putfield index, 3)) (hq : pc + 3 = q) (hm : m a = some (.inr (ci, o0 :: o1 :: o2 :: o3 :: o4 :: o5 :: o6 :: o7 :: o8 :: l))) (hn : narrow ty v = v) (hft : fits ty v = true) (kk : G w y Z d kc ks q lv st (xu m a (.inr (ci, o0 :: o1 :: o2 :: o3 :: o4 :: o5 :: o6 :: o7 :: v :: l)))) : G w y Z d kc ks pc lv (v :: .ref a :: st) m :=
  g_put hf hd hq hm (by simp) hn hft rfl kk
theorem g_putF8 {index ci : Nat} {ty : FieldType} {a : Nat} {o0 o1 o2 o3 o4 o5 o6 o7 o8 : Value} {l : List Value} {v : Value} (hf : XFF y.1.cls index ci 8 ty) (hin : y.1.name = "<init>") (hd : decode y.2.1 pc = .ok (.putfield index, 3)) (hq : pc + 3 = q) (hm : m a = some (.inr (ci, o0 :: o1 :: o2 :: o3 :: o4 :: o5 :: o6 :: o7 :: o8 :: l))) (hn : narrow ty v = v) (hft : fits ty v = true) (kk : G w y Z d kc ks q lv st (xu m a (.inr (ci, o0 :: o1 :: o2 :: o3 :: o4 :: o5 :: o6 :: o7 :: v :: l)))) : G w y Z d kc ks pc lv (v :: .ref a :: st) m :=
  g_putF hf hin hd hq hm (by simp) hn hft rfl kk
theorem g_put9 {index ci : Nat} {ty : FieldType} {dc : String} {a : Nat} {o0 o1 o2 o3 o4 o5 o6 o7 o8 o9 : Value} {l : List Value} {v : Value} (hf : XF y.1.cls index ci 9 ty false dc) (hd : decode y.2.1 pc = .ok (.putfield index, 3)) (hq : pc + 3 = q) (hm : m a = some (.inr (ci, o0 :: o1 :: o2 :: o3 :: o4 :: o5 :: o6 :: o7 :: o8 :: o9 :: l))) (hn : narrow ty v = v) (hft : fits ty v = true) (kk : G w y Z d kc ks q lv st (xu m a (.inr (ci, o0 :: o1 :: o2 :: o3 :: o4 :: o5 :: o6 :: o7 :: o8 :: v :: l)))) : G w y Z d kc ks pc lv (v :: .ref a :: st) m :=
  g_put hf hd hq hm (by simp) hn hft rfl kk
theorem g_putF9 {index ci : Nat} {ty : FieldType} {a : Nat} {o0 o1 o2 o3 o4 o5 o6 o7 o8 o9 : Value} {l : List Value} {v : Value} (hf : XFF y.1.cls index ci 9 ty) (hin : y.1.name = "<init>") (hd : decode y.2.1 pc = .ok (.putfield index, 3)) (hq : pc + 3 = q) (hm : m a = some (.inr (ci, o0 :: o1 :: o2 :: o3 :: o4 :: o5 :: o6 :: o7 :: o8 :: o9 :: l))) (hn : narrow ty v = v) (hft : fits ty v = true) (kk : G w y Z d kc ks q lv st (xu m a (.inr (ci, o0 :: o1 :: o2 :: o3 :: o4 :: o5 :: o6 :: o7 :: o8 :: v :: l)))) : G w y Z d kc ks pc lv (v :: .ref a :: st) m :=
  g_putF hf hin hd hq hm (by simp) hn hft rfl kk
theorem g_put10 {index ci : Nat} {ty : FieldType} {dc : String} {a : Nat} {o0 o1 o2 o3 o4 o5 o6 o7 o8 o9 o10 : Value} {l : List Value} {v : Value} (hf : XF y.1.cls index ci 10 ty false dc) (hd : decode y.2.1 pc = .ok (.putfield index, 3)) (hq : pc + 3 = q) (hm : m a = some (.inr (ci, o0 :: o1 :: o2 :: o3 :: o4 :: o5 :: o6 :: o7 :: o8 :: o9 :: o10 :: l))) (hn : narrow ty v = v) (hft : fits ty v = true) (kk : G w y Z d kc ks q lv st (xu m a (.inr (ci, o0 :: o1 :: o2 :: o3 :: o4 :: o5 :: o6 :: o7 :: o8 :: o9 :: v :: l)))) : G w y Z d kc ks pc lv (v :: .ref a :: st) m :=
  g_put hf hd hq hm (by simp) hn hft rfl kk
theorem g_putF10 {index ci : Nat} {ty : FieldType} {a : Nat} {o0 o1 o2 o3 o4 o5 o6 o7 o8 o9 o10 : Value} {l : List Value} {v : Value} (hf : XFF y.1.cls index ci 10 ty) (hin : y.1.name = "<init>") (hd : decode y.2.1 pc = .ok (.putfield index, 3)) (hq : pc + 3 = q) (hm : m a = some (.inr (ci, o0 :: o1 :: o2 :: o3 :: o4 :: o5 :: o6 :: o7 :: o8 :: o9 :: o10 :: l))) (hn : narrow ty v = v) (hft : fits ty v = true) (kk : G w y Z d kc ks q lv st (xu m a (.inr (ci, o0 :: o1 :: o2 :: o3 :: o4 :: o5 :: o6 :: o7 :: o8 :: o9 :: v :: l)))) : G w y Z d kc ks pc lv (v :: .ref a :: st) m :=
  g_putF hf hin hd hq hm (by simp) hn hft rfl kk
theorem g_put11 {index ci : Nat} {ty : FieldType} {dc : String} {a : Nat} {o0 o1 o2 o3 o4 o5 o6 o7 o8 o9 o10 o11 : Value} {l : List Value} {v : Value} (hf : XF y.1.cls index ci 11 ty false dc) (hd : decode y.2.1 pc = .ok (.putfield index, 3)) (hq : pc + 3 = q) (hm : m a = some (.inr (ci, o0 :: o1 :: o2 :: o3 :: o4 :: o5 :: o6 :: o7 :: o8 :: o9 :: o10 :: o11 :: l))) (hn : narrow ty v = v) (hft : fits ty v = true) (kk : G w y Z d kc ks q lv st (xu m a (.inr (ci, o0 :: o1 :: o2 :: o3 :: o4 :: o5 :: o6 :: o7 :: o8 :: o9 :: o10 :: v :: l)))) : G w y Z d kc ks pc lv (v :: .ref a :: st) m :=
  g_put hf hd hq hm (by simp) hn hft rfl kk
theorem g_putF11 {index ci : Nat} {ty : FieldType} {a : Nat} {o0 o1 o2 o3 o4 o5 o6 o7 o8 o9 o10 o11 : Value} {l : List Value} {v : Value} (hf : XFF y.1.cls index ci 11 ty) (hin : y.1.name = "<init>") (hd : decode y.2.1 pc = .ok (.putfield index, 3)) (hq : pc + 3 = q) (hm : m a = some (.inr (ci, o0 :: o1 :: o2 :: o3 :: o4 :: o5 :: o6 :: o7 :: o8 :: o9 :: o10 :: o11 :: l))) (hn : narrow ty v = v) (hft : fits ty v = true) (kk : G w y Z d kc ks q lv st (xu m a (.inr (ci, o0 :: o1 :: o2 :: o3 :: o4 :: o5 :: o6 :: o7 :: o8 :: o9 :: o10 :: v :: l)))) : G w y Z d kc ks pc lv (v :: .ref a :: st) m :=
  g_putF hf hin hd hq hm (by simp) hn hft rfl kk
theorem g_put12 {index ci : Nat} {ty : FieldType} {dc : String} {a : Nat} {o0 o1 o2 o3 o4 o5 o6 o7 o8 o9 o10 o11 o12 : Value} {l : List Value} {v : Value} (hf : XF y.1.cls index ci 12 ty false dc) (hd : decode y.2.1 pc = .ok (.putfield index, 3)) (hq : pc + 3 = q) (hm : m a = some (.inr (ci, o0 :: o1 :: o2 :: o3 :: o4 :: o5 :: o6 :: o7 :: o8 :: o9 :: o10 :: o11 :: o12 :: l))) (hn : narrow ty v = v) (hft : fits ty v = true) (kk : G w y Z d kc ks q lv st (xu m a (.inr (ci, o0 :: o1 :: o2 :: o3 :: o4 :: o5 :: o6 :: o7 :: o8 :: o9 :: o10 :: o11 :: v :: l)))) : G w y Z d kc ks pc lv (v :: .ref a :: st) m :=
  g_put hf hd hq hm (by simp) hn hft rfl kk
theorem g_putF12 {index ci : Nat} {ty : FieldType} {a : Nat} {o0 o1 o2 o3 o4 o5 o6 o7 o8 o9 o10 o11 o12 : Value} {l : List Value} {v : Value} (hf : XFF y.1.cls index ci 12 ty) (hin : y.1.name = "<init>") (hd : decode y.2.1 pc = .ok (.putfield index, 3)) (hq : pc + 3 = q) (hm : m a = some (.inr (ci, o0 :: o1 :: o2 :: o3 :: o4 :: o5 :: o6 :: o7 :: o8 :: o9 :: o10 :: o11 :: o12 :: l))) (hn : narrow ty v = v) (hft : fits ty v = true) (kk : G w y Z d kc ks q lv st (xu m a (.inr (ci, o0 :: o1 :: o2 :: o3 :: o4 :: o5 :: o6 :: o7 :: o8 :: o9 :: o10 :: o11 :: v :: l)))) : G w y Z d kc ks pc lv (v :: .ref a :: st) m :=
  g_putF hf hin hd hq hm (by simp) hn hft rfl kk
theorem g_put13 {index ci : Nat} {ty : FieldType} {dc : String} {a : Nat} {o0 o1 o2 o3 o4 o5 o6 o7 o8 o9 o10 o11 o12 o13 : Value} {l : List Value} {v : Value} (hf : XF y.1.cls index ci 13 ty false dc) (hd : decode y.2.1 pc = .ok (.putfield index, 3)) (hq : pc + 3 = q) (hm : m a = some (.inr (ci, o0 :: o1 :: o2 :: o3 :: o4 :: o5 :: o6 :: o7 :: o8 :: o9 :: o10 :: o11 :: o12 :: o13 :: l))) (hn : narrow ty v = v) (hft : fits ty v = true) (kk : G w y Z d kc ks q lv st (xu m a (.inr (ci, o0 :: o1 :: o2 :: o3 :: o4 :: o5 :: o6 :: o7 :: o8 :: o9 :: o10 :: o11 :: o12 :: v :: l)))) : G w y Z d kc ks pc lv (v :: .ref a :: st) m :=
  g_put hf hd hq hm (by simp) hn hft rfl kk
theorem g_putF13 {index ci : Nat} {ty : FieldType} {a : Nat} {o0 o1 o2 o3 o4 o5 o6 o7 o8 o9 o10 o11 o12 o13 : Value} {l : List Value} {v : Value} (hf : XFF y.1.cls index ci 13 ty) (hin : y.1.name = "<init>") (hd : decode y.2.1 pc = .ok (.putfield index, 3)) (hq : pc + 3 = q) (hm : m a = some (.inr (ci, o0 :: o1 :: o2 :: o3 :: o4 :: o5 :: o6 :: o7 :: o8 :: o9 :: o10 :: o11 :: o12 :: o13 :: l))) (hn : narrow ty v = v) (hft : fits ty v = true) (kk : G w y Z d kc ks q lv st (xu m a (.inr (ci, o0 :: o1 :: o2 :: o3 :: o4 :: o5 :: o6 :: o7 :: o8 :: o9 :: o10 :: o11 :: o12 :: v :: l)))) : G w y Z d kc ks pc lv (v :: .ref a :: st) m :=
  g_putF hf hin hd hq hm (by simp) hn hft rfl kk
theorem g_put14 {index ci : Nat} {ty : FieldType} {dc : String} {a : Nat} {o0 o1 o2 o3 o4 o5 o6 o7 o8 o9 o10 o11 o12 o13 o14 : Value} {l : List Value} {v : Value} (hf : XF y.1.cls index ci 14 ty false dc) (hd : decode y.2.1 pc = .ok (.putfield index, 3)) (hq : pc + 3 = q) (hm : m a = some (.inr (ci, o0 :: o1 :: o2 :: o3 :: o4 :: o5 :: o6 :: o7 :: o8 :: o9 :: o10 :: o11 :: o12 :: o13 :: o14 :: l))) (hn : narrow ty v = v) (hft : fits ty v = true) (kk : G w y Z d kc ks q lv st (xu m a (.inr (ci, o0 :: o1 :: o2 :: o3 :: o4 :: o5 :: o6 :: o7 :: o8 :: o9 :: o10 :: o11 :: o12 :: o13 :: v :: l)))) : G w y Z d kc ks pc lv (v :: .ref a :: st) m :=
  g_put hf hd hq hm (by simp) hn hft rfl kk
theorem g_putF14 {index ci : Nat} {ty : FieldType} {a : Nat} {o0 o1 o2 o3 o4 o5 o6 o7 o8 o9 o10 o11 o12 o13 o14 : Value} {l : List Value} {v : Value} (hf : XFF y.1.cls index ci 14 ty) (hin : y.1.name = "<init>") (hd : decode y.2.1 pc = .ok (.putfield index, 3)) (hq : pc + 3 = q) (hm : m a = some (.inr (ci, o0 :: o1 :: o2 :: o3 :: o4 :: o5 :: o6 :: o7 :: o8 :: o9 :: o10 :: o11 :: o12 :: o13 :: o14 :: l))) (hn : narrow ty v = v) (hft : fits ty v = true) (kk : G w y Z d kc ks q lv st (xu m a (.inr (ci, o0 :: o1 :: o2 :: o3 :: o4 :: o5 :: o6 :: o7 :: o8 :: o9 :: o10 :: o11 :: o12 :: o13 :: v :: l)))) : G w y Z d kc ks pc lv (v :: .ref a :: st) m :=
  g_putF hf hin hd hq hm (by simp) hn hft rfl kk
theorem g_put15 {index ci : Nat} {ty : FieldType} {dc : String} {a : Nat} {o0 o1 o2 o3 o4 o5 o6 o7 o8 o9 o10 o11 o12 o13 o14 o15 : Value} {l : List Value} {v : Value} (hf : XF y.1.cls index ci 15 ty false dc) (hd : decode y.2.1 pc = .ok (.putfield index, 3)) (hq : pc + 3 = q) (hm : m a = some (.inr (ci, o0 :: o1 :: o2 :: o3 :: o4 :: o5 :: o6 :: o7 :: o8 :: o9 :: o10 :: o11 :: o12 :: o13 :: o14 :: o15 :: l))) (hn : narrow ty v = v) (hft : fits ty v = true) (kk : G w y Z d kc ks q lv st (xu m a (.inr (ci, o0 :: o1 :: o2 :: o3 :: o4 :: o5 :: o6 :: o7 :: o8 :: o9 :: o10 :: o11 :: o12 :: o13 :: o14 :: v :: l)))) : G w y Z d kc ks pc lv (v :: .ref a :: st) m :=
  g_put hf hd hq hm (by simp) hn hft rfl kk
theorem g_putF15 {index ci : Nat} {ty : FieldType} {a : Nat} {o0 o1 o2 o3 o4 o5 o6 o7 o8 o9 o10 o11 o12 o13 o14 o15 : Value} {l : List Value} {v : Value} (hf : XFF y.1.cls index ci 15 ty) (hin : y.1.name = "<init>") (hd : decode y.2.1 pc = .ok (.putfield index, 3)) (hq : pc + 3 = q) (hm : m a = some (.inr (ci, o0 :: o1 :: o2 :: o3 :: o4 :: o5 :: o6 :: o7 :: o8 :: o9 :: o10 :: o11 :: o12 :: o13 :: o14 :: o15 :: l))) (hn : narrow ty v = v) (hft : fits ty v = true) (kk : G w y Z d kc ks q lv st (xu m a (.inr (ci, o0 :: o1 :: o2 :: o3 :: o4 :: o5 :: o6 :: o7 :: o8 :: o9 :: o10 :: o11 :: o12 :: o13 :: o14 :: v :: l)))) : G w y Z d kc ks pc lv (v :: .ref a :: st) m :=
  g_putF hf hin hd hq hm (by simp) hn hft rfl kk
theorem g_put16 {index ci : Nat} {ty : FieldType} {dc : String} {a : Nat} {o0 o1 o2 o3 o4 o5 o6 o7 o8 o9 o10 o11 o12 o13 o14 o15 o16 : Value} {l : List Value} {v : Value} (hf : XF y.1.cls index ci 16 ty false dc) (hd : decode y.2.1 pc = .ok (.putfield index, 3)) (hq : pc + 3 = q) (hm : m a = some (.inr (ci, o0 :: o1 :: o2 :: o3 :: o4 :: o5 :: o6 :: o7 :: o8 :: o9 :: o10 :: o11 :: o12 :: o13 :: o14 :: o15 :: o16 :: l))) (hn : narrow ty v = v) (hft : fits ty v = true) (kk : G w y Z d kc ks q lv st (xu m a (.inr (ci, o0 :: o1 :: o2 :: o3 :: o4 :: o5 :: o6 :: o7 :: o8 :: o9 :: o10 :: o11 :: o12 :: o13 :: o14 :: o15 :: v :: l)))) : G w y Z d kc ks pc lv (v :: .ref a :: st) m :=
  g_put hf hd hq hm (by simp) hn hft rfl kk
theorem g_putF16 {index ci : Nat} {ty : FieldType} {a : Nat} {o0 o1 o2 o3 o4 o5 o6 o7 o8 o9 o10 o11 o12 o13 o14 o15 o16 : Value} {l : List Value} {v : Value} (hf : XFF y.1.cls index ci 16 ty) (hin : y.1.name = "<init>") (hd : decode y.2.1 pc = .ok (.putfield index, 3)) (hq : pc + 3 = q) (hm : m a = some (.inr (ci, o0 :: o1 :: o2 :: o3 :: o4 :: o5 :: o6 :: o7 :: o8 :: o9 :: o10 :: o11 :: o12 :: o13 :: o14 :: o15 :: o16 :: l))) (hn : narrow ty v = v) (hft : fits ty v = true) (kk : G w y Z d kc ks q lv st (xu m a (.inr (ci, o0 :: o1 :: o2 :: o3 :: o4 :: o5 :: o6 :: o7 :: o8 :: o9 :: o10 :: o11 :: o12 :: o13 :: o14 :: o15 :: v :: l)))) : G w y Z d kc ks pc lv (v :: .ref a :: st) m :=
  g_putF hf hin hd hq hm (by simp) hn hft rfl kk
theorem g_put17 {index ci : Nat} {ty : FieldType} {dc : String} {a : Nat} {o0 o1 o2 o3 o4 o5 o6 o7 o8 o9 o10 o11 o12 o13 o14 o15 o16 o17 : Value} {l : List Value} {v : Value} (hf : XF y.1.cls index ci 17 ty false dc) (hd : decode y.2.1 pc = .ok (.putfield index, 3)) (hq : pc + 3 = q) (hm : m a = some (.inr (ci, o0 :: o1 :: o2 :: o3 :: o4 :: o5 :: o6 :: o7 :: o8 :: o9 :: o10 :: o11 :: o12 :: o13 :: o14 :: o15 :: o16 :: o17 :: l))) (hn : narrow ty v = v) (hft : fits ty v = true) (kk : G w y Z d kc ks q lv st (xu m a (.inr (ci, o0 :: o1 :: o2 :: o3 :: o4 :: o5 :: o6 :: o7 :: o8 :: o9 :: o10 :: o11 :: o12 :: o13 :: o14 :: o15 :: o16 :: v :: l)))) : G w y Z d kc ks pc lv (v :: .ref a :: st) m :=
  g_put hf hd hq hm (by simp) hn hft rfl kk
theorem g_putF17 {index ci : Nat} {ty : FieldType} {a : Nat} {o0 o1 o2 o3 o4 o5 o6 o7 o8 o9 o10 o11 o12 o13 o14 o15 o16 o17 : Value} {l : List Value} {v : Value} (hf : XFF y.1.cls index ci 17 ty) (hin : y.1.name = "<init>") (hd : decode y.2.1 pc = .ok (.putfield index, 3)) (hq : pc + 3 = q) (hm : m a = some (.inr (ci, o0 :: o1 :: o2 :: o3 :: o4 :: o5 :: o6 :: o7 :: o8 :: o9 :: o10 :: o11 :: o12 :: o13 :: o14 :: o15 :: o16 :: o17 :: l))) (hn : narrow ty v = v) (hft : fits ty v = true) (kk : G w y Z d kc ks q lv st (xu m a (.inr (ci, o0 :: o1 :: o2 :: o3 :: o4 :: o5 :: o6 :: o7 :: o8 :: o9 :: o10 :: o11 :: o12 :: o13 :: o14 :: o15 :: o16 :: v :: l)))) : G w y Z d kc ks pc lv (v :: .ref a :: st) m :=
  g_putF hf hin hd hq hm (by simp) hn hft rfl kk
theorem g_put18 {index ci : Nat} {ty : FieldType} {dc : String} {a : Nat} {o0 o1 o2 o3 o4 o5 o6 o7 o8 o9 o10 o11 o12 o13 o14 o15 o16 o17 o18 : Value} {l : List Value} {v : Value} (hf : XF y.1.cls index ci 18 ty false dc) (hd : decode y.2.1 pc = .ok (.putfield index, 3)) (hq : pc + 3 = q) (hm : m a = some (.inr (ci, o0 :: o1 :: o2 :: o3 :: o4 :: o5 :: o6 :: o7 :: o8 :: o9 :: o10 :: o11 :: o12 :: o13 :: o14 :: o15 :: o16 :: o17 :: o18 :: l))) (hn : narrow ty v = v) (hft : fits ty v = true) (kk : G w y Z d kc ks q lv st (xu m a (.inr (ci, o0 :: o1 :: o2 :: o3 :: o4 :: o5 :: o6 :: o7 :: o8 :: o9 :: o10 :: o11 :: o12 :: o13 :: o14 :: o15 :: o16 :: o17 :: v :: l)))) : G w y Z d kc ks pc lv (v :: .ref a :: st) m :=
  g_put hf hd hq hm (by simp) hn hft rfl kk
theorem g_putF18 {index ci : Nat} {ty : FieldType} {a : Nat} {o0 o1 o2 o3 o4 o5 o6 o7 o8 o9 o10 o11 o12 o13 o14 o15 o16 o17 o18 : Value} {l : List Value} {v : Value} (hf : XFF y.1.cls index ci 18 ty) (hin : y.1.name = "<init>") (hd : decode y.2.1 pc = .ok (.putfield index, 3)) (hq : pc + 3 = q) (hm : m a = some (.inr (ci, o0 :: o1 :: o2 :: o3 :: o4 :: o5 :: o6 :: o7 :: o8 :: o9 :: o10 :: o11 :: o12 :: o13 :: o14 :: o15 :: o16 :: o17 :: o18 :: l))) (hn : narrow ty v = v) (hft : fits ty v = true) (kk : G w y Z d kc ks q lv st (xu m a (.inr (ci, o0 :: o1 :: o2 :: o3 :: o4 :: o5 :: o6 :: o7 :: o8 :: o9 :: o10 :: o11 :: o12 :: o13 :: o14 :: o15 :: o16 :: o17 :: v :: l)))) : G w y Z d kc ks pc lv (v :: .ref a :: st) m :=
  g_putF hf hin hd hq hm (by simp) hn hft rfl kk
theorem g_put19 {index ci : Nat} {ty : FieldType} {dc : String} {a : Nat} {o0 o1 o2 o3 o4 o5 o6 o7 o8 o9 o10 o11 o12 o13 o14 o15 o16 o17 o18 o19 : Value} {l : List Value} {v : Value} (hf : XF y.1.cls index ci 19 ty false dc) (hd : decode y.2.1 pc = .ok (.putfield index, 3)) (hq : pc + 3 = q) (hm : m a = some (.inr (ci, o0 :: o1 :: o2 :: o3 :: o4 :: o5 :: o6 :: o7 :: o8 :: o9 :: o10 :: o11 :: o12 :: o13 :: o14 :: o15 :: o16 :: o17 :: o18 :: o19 :: l))) (hn : narrow ty v = v) (hft : fits ty v = true) (kk : G w y Z d kc ks q lv st (xu m a (.inr (ci, o0 :: o1 :: o2 :: o3 :: o4 :: o5 :: o6 :: o7 :: o8 :: o9 :: o10 :: o11 :: o12 :: o13 :: o14 :: o15 :: o16 :: o17 :: o18 :: v :: l)))) : G w y Z d kc ks pc lv (v :: .ref a :: st) m :=
  g_put hf hd hq hm (by simp) hn hft rfl kk
theorem g_putF19 {index ci : Nat} {ty : FieldType} {a : Nat} {o0 o1 o2 o3 o4 o5 o6 o7 o8 o9 o10 o11 o12 o13 o14 o15 o16 o17 o18 o19 : Value} {l : List Value} {v : Value} (hf : XFF y.1.cls index ci 19 ty) (hin : y.1.name = "<init>") (hd : decode y.2.1 pc = .ok (.putfield index, 3)) (hq : pc + 3 = q) (hm : m a = some (.inr (ci, o0 :: o1 :: o2 :: o3 :: o4 :: o5 :: o6 :: o7 :: o8 :: o9 :: o10 :: o11 :: o12 :: o13 :: o14 :: o15 :: o16 :: o17 :: o18 :: o19 :: l))) (hn : narrow ty v = v) (hft : fits ty v = true) (kk : G w y Z d kc ks q lv st (xu m a (.inr (ci, o0 :: o1 :: o2 :: o3 :: o4 :: o5 :: o6 :: o7 :: o8 :: o9 :: o10 :: o11 :: o12 :: o13 :: o14 :: o15 :: o16 :: o17 :: o18 :: v :: l)))) : G w y Z d kc ks pc lv (v :: .ref a :: st) m :=
  g_putF hf hin hd hq hm (by simp) hn hft rfl kk
theorem g_put20 {index ci : Nat} {ty : FieldType} {dc : String} {a : Nat} {o0 o1 o2 o3 o4 o5 o6 o7 o8 o9 o10 o11 o12 o13 o14 o15 o16 o17 o18 o19 o20 : Value} {l : List Value} {v : Value} (hf : XF y.1.cls index ci 20 ty false dc) (hd : decode y.2.1 pc = .ok (.putfield index, 3)) (hq : pc + 3 = q) (hm : m a = some (.inr (ci, o0 :: o1 :: o2 :: o3 :: o4 :: o5 :: o6 :: o7 :: o8 :: o9 :: o10 :: o11 :: o12 :: o13 :: o14 :: o15 :: o16 :: o17 :: o18 :: o19 :: o20 :: l))) (hn : narrow ty v = v) (hft : fits ty v = true) (kk : G w y Z d kc ks q lv st (xu m a (.inr (ci, o0 :: o1 :: o2 :: o3 :: o4 :: o5 :: o6 :: o7 :: o8 :: o9 :: o10 :: o11 :: o12 :: o13 :: o14 :: o15 :: o16 :: o17 :: o18 :: o19 :: v :: l)))) : G w y Z d kc ks pc lv (v :: .ref a :: st) m :=
  g_put hf hd hq hm (by simp) hn hft rfl kk
theorem g_putF20 {index ci : Nat} {ty : FieldType} {a : Nat} {o0 o1 o2 o3 o4 o5 o6 o7 o8 o9 o10 o11 o12 o13 o14 o15 o16 o17 o18 o19 o20 : Value} {l : List Value} {v : Value} (hf : XFF y.1.cls index ci 20 ty) (hin : y.1.name = "<init>") (hd : decode y.2.1 pc = .ok (.putfield index, 3)) (hq : pc + 3 = q) (hm : m a = some (.inr (ci, o0 :: o1 :: o2 :: o3 :: o4 :: o5 :: o6 :: o7 :: o8 :: o9 :: o10 :: o11 :: o12 :: o13 :: o14 :: o15 :: o16 :: o17 :: o18 :: o19 :: o20 :: l))) (hn : narrow ty v = v) (hft : fits ty v = true) (kk : G w y Z d kc ks q lv st (xu m a (.inr (ci, o0 :: o1 :: o2 :: o3 :: o4 :: o5 :: o6 :: o7 :: o8 :: o9 :: o10 :: o11 :: o12 :: o13 :: o14 :: o15 :: o16 :: o17 :: o18 :: o19 :: v :: l)))) : G w y Z d kc ks pc lv (v :: .ref a :: st) m :=
  g_putF hf hin hd hq hm (by simp) hn hft rfl kk
theorem g_put21 {index ci : Nat} {ty : FieldType} {dc : String} {a : Nat} {o0 o1 o2 o3 o4 o5 o6 o7 o8 o9 o10 o11 o12 o13 o14 o15 o16 o17 o18 o19 o20 o21 : Value} {l : List Value} {v : Value} (hf : XF y.1.cls index ci 21 ty false dc) (hd : decode y.2.1 pc = .ok (.putfield index, 3)) (hq : pc + 3 = q) (hm : m a = some (.inr (ci, o0 :: o1 :: o2 :: o3 :: o4 :: o5 :: o6 :: o7 :: o8 :: o9 :: o10 :: o11 :: o12 :: o13 :: o14 :: o15 :: o16 :: o17 :: o18 :: o19 :: o20 :: o21 :: l))) (hn : narrow ty v = v) (hft : fits ty v = true) (kk : G w y Z d kc ks q lv st (xu m a (.inr (ci, o0 :: o1 :: o2 :: o3 :: o4 :: o5 :: o6 :: o7 :: o8 :: o9 :: o10 :: o11 :: o12 :: o13 :: o14 :: o15 :: o16 :: o17 :: o18 :: o19 :: o20 :: v :: l)))) : G w y Z d kc ks pc lv (v :: .ref a :: st) m :=
  g_put hf hd hq hm (by simp) hn hft rfl kk
theorem g_putF21 {index ci : Nat} {ty : FieldType} {a : Nat} {o0 o1 o2 o3 o4 o5 o6 o7 o8 o9 o10 o11 o12 o13 o14 o15 o16 o17 o18 o19 o20 o21 : Value} {l : List Value} {v : Value} (hf : XFF y.1.cls index ci 21 ty) (hin : y.1.name = "<init>") (hd : decode y.2.1 pc = .ok (.putfield index, 3)) (hq : pc + 3 = q) (hm : m a = some (.inr (ci, o0 :: o1 :: o2 :: o3 :: o4 :: o5 :: o6 :: o7 :: o8 :: o9 :: o10 :: o11 :: o12 :: o13 :: o14 :: o15 :: o16 :: o17 :: o18 :: o19 :: o20 :: o21 :: l))) (hn : narrow ty v = v) (hft : fits ty v = true) (kk : G w y Z d kc ks q lv st (xu m a (.inr (ci, o0 :: o1 :: o2 :: o3 :: o4 :: o5 :: o6 :: o7 :: o8 :: o9 :: o10 :: o11 :: o12 :: o13 :: o14 :: o15 :: o16 :: o17 :: o18 :: o19 :: o20 :: v :: l)))) : G w y Z d kc ks pc lv (v :: .ref a :: st) m :=
  g_putF hf hin hd hq hm (by simp) hn hft rfl kk
theorem g_put22 {index ci : Nat} {ty : FieldType} {dc : String} {a : Nat} {o0 o1 o2 o3 o4 o5 o6 o7 o8 o9 o10 o11 o12 o13 o14 o15 o16 o17 o18 o19 o20 o21 o22 : Value} {l : List Value} {v : Value} (hf : XF y.1.cls index ci 22 ty false dc) (hd : decode y.2.1 pc = .ok (.putfield index, 3)) (hq : pc + 3 = q) (hm : m a = some (.inr (ci, o0 :: o1 :: o2 :: o3 :: o4 :: o5 :: o6 :: o7 :: o8 :: o9 :: o10 :: o11 :: o12 :: o13 :: o14 :: o15 :: o16 :: o17 :: o18 :: o19 :: o20 :: o21 :: o22 :: l))) (hn : narrow ty v = v) (hft : fits ty v = true) (kk : G w y Z d kc ks q lv st (xu m a (.inr (ci, o0 :: o1 :: o2 :: o3 :: o4 :: o5 :: o6 :: o7 :: o8 :: o9 :: o10 :: o11 :: o12 :: o13 :: o14 :: o15 :: o16 :: o17 :: o18 :: o19 :: o20 :: o21 :: v :: l)))) : G w y Z d kc ks pc lv (v :: .ref a :: st) m :=
  g_put hf hd hq hm (by simp) hn hft rfl kk
theorem g_putF22 {index ci : Nat} {ty : FieldType} {a : Nat} {o0 o1 o2 o3 o4 o5 o6 o7 o8 o9 o10 o11 o12 o13 o14 o15 o16 o17 o18 o19 o20 o21 o22 : Value} {l : List Value} {v : Value} (hf : XFF y.1.cls index ci 22 ty) (hin : y.1.name = "<init>") (hd : decode y.2.1 pc = .ok (.putfield index, 3)) (hq : pc + 3 = q) (hm : m a = some (.inr (ci, o0 :: o1 :: o2 :: o3 :: o4 :: o5 :: o6 :: o7 :: o8 :: o9 :: o10 :: o11 :: o12 :: o13 :: o14 :: o15 :: o16 :: o17 :: o18 :: o19 :: o20 :: o21 :: o22 :: l))) (hn : narrow ty v = v) (hft : fits ty v = true) (kk : G w y Z d kc ks q lv st (xu m a (.inr (ci, o0 :: o1 :: o2 :: o3 :: o4 :: o5 :: o6 :: o7 :: o8 :: o9 :: o10 :: o11 :: o12 :: o13 :: o14 :: o15 :: o16 :: o17 :: o18 :: o19 :: o20 :: o21 :: v :: l)))) : G w y Z d kc ks pc lv (v :: .ref a :: st) m :=
  g_putF hf hin hd hq hm (by simp) hn hft rfl kk
theorem g_put23 {index ci : Nat} {ty : FieldType} {dc : String} {a : Nat} {o0 o1 o2 o3 o4 o5 o6 o7 o8 o9 o10 o11 o12 o13 o14 o15 o16 o17 o18 o19 o20 o21 o22 o23 : Value} {l : List Value} {v : Value} (hf : XF y.1.cls index ci 23 ty false dc) (hd : decode y.2.1 pc = .ok (.putfield index, 3)) (hq : pc + 3 = q) (hm : m a = some (.inr (ci, o0 :: o1 :: o2 :: o3 :: o4 :: o5 :: o6 :: o7 :: o8 :: o9 :: o10 :: o11 :: o12 :: o13 :: o14 :: o15 :: o16 :: o17 :: o18 :: o19 :: o20 :: o21 :: o22 :: o23 :: l))) (hn : narrow ty v = v) (hft : fits ty v = true) (kk : G w y Z d kc ks q lv st (xu m a (.inr (ci, o0 :: o1 :: o2 :: o3 :: o4 :: o5 :: o6 :: o7 :: o8 :: o9 :: o10 :: o11 :: o12 :: o13 :: o14 :: o15 :: o16 :: o17 :: o18 :: o19 :: o20 :: o21 :: o22 :: v :: l)))) : G w y Z d kc ks pc lv (v :: .ref a :: st) m :=
  g_put hf hd hq hm (by simp) hn hft rfl kk
theorem g_putF23 {index ci : Nat} {ty : FieldType} {a : Nat} {o0 o1 o2 o3 o4 o5 o6 o7 o8 o9 o10 o11 o12 o13 o14 o15 o16 o17 o18 o19 o20 o21 o22 o23 : Value} {l : List Value} {v : Value} (hf : XFF y.1.cls index ci 23 ty) (hin : y.1.name = "<init>") (hd : decode y.2.1 pc = .ok (.putfield index, 3)) (hq : pc + 3 = q) (hm : m a = some (.inr (ci, o0 :: o1 :: o2 :: o3 :: o4 :: o5 :: o6 :: o7 :: o8 :: o9 :: o10 :: o11 :: o12 :: o13 :: o14 :: o15 :: o16 :: o17 :: o18 :: o19 :: o20 :: o21 :: o22 :: o23 :: l))) (hn : narrow ty v = v) (hft : fits ty v = true) (kk : G w y Z d kc ks q lv st (xu m a (.inr (ci, o0 :: o1 :: o2 :: o3 :: o4 :: o5 :: o6 :: o7 :: o8 :: o9 :: o10 :: o11 :: o12 :: o13 :: o14 :: o15 :: o16 :: o17 :: o18 :: o19 :: o20 :: o21 :: o22 :: v :: l)))) : G w y Z d kc ks pc lv (v :: .ref a :: st) m :=
  g_putF hf hin hd hq hm (by simp) hn hft rfl kk
theorem g_put24 {index ci : Nat} {ty : FieldType} {dc : String} {a : Nat} {o0 o1 o2 o3 o4 o5 o6 o7 o8 o9 o10 o11 o12 o13 o14 o15 o16 o17 o18 o19 o20 o21 o22 o23 o24 : Value} {l : List Value} {v : Value} (hf : XF y.1.cls index ci 24 ty false dc) (hd : decode y.2.1 pc = .ok (.putfield index, 3)) (hq : pc + 3 = q) (hm : m a = some (.inr (ci, o0 :: o1 :: o2 :: o3 :: o4 :: o5 :: o6 :: o7 :: o8 :: o9 :: o10 :: o11 :: o12 :: o13 :: o14 :: o15 :: o16 :: o17 :: o18 :: o19 :: o20 :: o21 :: o22 :: o23 :: o24 :: l))) (hn : narrow ty v = v) (hft : fits ty v = true) (kk : G w y Z d kc ks q lv st (xu m a (.inr (ci, o0 :: o1 :: o2 :: o3 :: o4 :: o5 :: o6 :: o7 :: o8 :: o9 :: o10 :: o11 :: o12 :: o13 :: o14 :: o15 :: o16 :: o17 :: o18 :: o19 :: o20 :: o21 :: o22 :: o23 :: v :: l)))) : G w y Z d kc ks pc lv (v :: .ref a :: st) m :=
  g_put hf hd hq hm (by simp) hn hft rfl kk
theorem g_putF24 {index ci : Nat} {ty : FieldType} {a : Nat} {o0 o1 o2 o3 o4 o5 o6 o7 o8 o9 o10 o11 o12 o13 o14 o15 o16 o17 o18 o19 o20 o21 o22 o23 o24 : Value} {l : List Value} {v : Value} (hf : XFF y.1.cls index ci 24 ty) (hin : y.1.name = "<init>") (hd : decode y.2.1 pc = .ok (.putfield index, 3)) (hq : pc + 3 = q) (hm : m a = some (.inr (ci, o0 :: o1 :: o2 :: o3 :: o4 :: o5 :: o6 :: o7 :: o8 :: o9 :: o10 :: o11 :: o12 :: o13 :: o14 :: o15 :: o16 :: o17 :: o18 :: o19 :: o20 :: o21 :: o22 :: o23 :: o24 :: l))) (hn : narrow ty v = v) (hft : fits ty v = true) (kk : G w y Z d kc ks q lv st (xu m a (.inr (ci, o0 :: o1 :: o2 :: o3 :: o4 :: o5 :: o6 :: o7 :: o8 :: o9 :: o10 :: o11 :: o12 :: o13 :: o14 :: o15 :: o16 :: o17 :: o18 :: o19 :: o20 :: o21 :: o22 :: o23 :: v :: l)))) : G w y Z d kc ks pc lv (v :: .ref a :: st) m :=
  g_putF hf hin hd hq hm (by simp) hn hft rfl kk
theorem g_put25 {index ci : Nat} {ty : FieldType} {dc : String} {a : Nat} {o0 o1 o2 o3 o4 o5 o6 o7 o8 o9 o10 o11 o12 o13 o14 o15 o16 o17 o18 o19 o20 o21 o22 o23 o24 o25 : Value} {l : List Value} {v : Value} (hf : XF y.1.cls index ci 25 ty false dc) (hd : decode y.2.1 pc = .ok (.putfield index, 3)) (hq : pc + 3 = q) (hm : m a = some (.inr (ci, o0 :: o1 :: o2 :: o3 :: o4 :: o5 :: o6 :: o7 :: o8 :: o9 :: o10 :: o11 :: o12 :: o13 :: o14 :: o15 :: o16 :: o17 :: o18 :: o19 :: o20 :: o21 :: o22 :: o23 :: o24 :: o25 :: l))) (hn : narrow ty v = v) (hft : fits ty v = true) (kk : G w y Z d kc ks q lv st (xu m a (.inr (ci, o0 :: o1 :: o2 :: o3 :: o4 :: o5 :: o6 :: o7 :: o8 :: o9 :: o10 :: o11 :: o12 :: o13 :: o14 :: o15 :: o16 :: o17 :: o18 :: o19 :: o20 :: o21 :: o22 :: o23 :: o24 :: v :: l)))) : G w y Z d kc ks pc lv (v :: .ref a :: st) m :=
  g_put hf hd hq hm (by simp) hn hft rfl kk
theorem g_putF25 {index ci : Nat} {ty : FieldType} {a : Nat} {o0 o1 o2 o3 o4 o5 o6 o7 o8 o9 o10 o11 o12 o13 o14 o15 o16 o17 o18 o19 o20 o21 o22 o23 o24 o25 : Value} {l : List Value} {v : Value} (hf : XFF y.1.cls index ci 25 ty) (hin : y.1.name = "<init>") (hd : decode y.2.1 pc = .ok (.putfield index, 3)) (hq : pc + 3 = q) (hm : m a = some (.inr (ci, o0 :: o1 :: o2 :: o3 :: o4 :: o5 :: o6 :: o7 :: o8 :: o9 :: o10 :: o11 :: o12 :: o13 :: o14 :: o15 :: o16 :: o17 :: o18 :: o19 :: o20 :: o21 :: o22 :: o23 :: o24 :: o25 :: l))) (hn : narrow ty v = v) (hft : fits ty v = true) (kk : G w y Z d kc ks q lv st (xu m a (.inr (ci, o0 :: o1 :: o2 :: o3 :: o4 :: o5 :: o6 :: o7 :: o8 :: o9 :: o10 :: o11 :: o12 :: o13 :: o14 :: o15 :: o16 :: o17 :: o18 :: o19 :: o20 :: o21 :: o22 :: o23 :: o24 :: v :: l)))) : G w y Z d kc ks pc lv (v :: .ref a :: st) m :=
  g_putF hf hin hd hq hm (by simp) hn hft rfl kk
end PUTS
