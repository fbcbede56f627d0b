/-! CALLS -/
set_option maxRecDepth 100000
def xps : Option Value → List Value → List Value
  | none, l => l
  | some v, l => v :: l
theorem xps_eq (v : Option Value) (l : List Value) : v.toList ++ l = xps v l := by cases v <;> rfl
/-- a method's own words: static; virtual of its class; constructor -/
def XInS (y : XY) (n : Nat) : Prop := Cond.static y.1 ∈ lw_all ∧ Cond.initialized y.1.cls ∈ lw_all ∧ Cond.code y.1 y.2.1 y.2.2.1 y.2.2.2.1 ∈ lw_all ∧ (y.1.cls ≠ "java/lang/invoke/MethodHandle" ∧ y.1.cls ≠ "java/lang/invoke/VarHandle" ∧ (parseMethodDescriptor y.1.desc).map (fun d => d.parameters.length) = some n) ∧ y.2.2.1 ≤ 77
def XInV (y : XY) (n : Nat) : Prop := Cond.instanceMethod y.1 ∈ lw_all ∧ Cond.selects y.1.cls y.1 y.1 ∈ lw_all ∧ Cond.initialized y.1.cls ∈ lw_all ∧ Cond.code y.1 y.2.1 y.2.2.1 y.2.2.2.1 ∈ lw_all ∧ (y.1.cls ≠ "java/lang/invoke/MethodHandle" ∧ y.1.cls ≠ "java/lang/invoke/VarHandle" ∧ (parseMethodDescriptor y.1.desc).map (fun d => d.parameters.length) = some n) ∧ y.2.2.1 ≤ 77
def XInC (y : XY) (n : Nat) : Prop := Cond.instanceMethod y.1 ∈ lw_all ∧ Cond.initialized y.1.cls ∈ lw_all ∧ Cond.code y.1 y.2.1 y.2.2.1 none ∈ lw_all ∧ y.2.2.2.1 = none ∧ y.1.name = "<init>" ∧ (y.1.cls ≠ "java/lang/invoke/MethodHandle" ∧ y.1.cls ≠ "java/lang/invoke/VarHandle" ∧ (parseMethodDescriptor y.1.desc).map (fun d => d.parameters.length) = some n) ∧ y.2.2.1 ≤ 77
/-- an interface's method x, that a receiver of class C runs as y -/
def XInI (x : MethodName) (C : String) (y : XY) (n : Nat) : Prop := Cond.selects C x y.1 ∈ lw_all ∧ Cond.instanceMethod y.1 ∈ lw_all ∧ Cond.initialized y.1.cls ∈ lw_all ∧ Cond.code y.1 y.2.1 y.2.2.1 y.2.2.2.1 ∈ lw_all ∧ Cond.declares x ∈ lw_tbl ∧ Cond.interfaceMethod x.cls x.cls x.name x.desc ∈ lw_tbl ∧ Cond.publicMethod y.1 ∈ lw_tbl ∧ Cond.unhidden C x.name x.desc ∈ lw_tbl ∧ Cond.castable C x.cls ∈ lw_tbl ∧ (x.cls ≠ "java/lang/invoke/MethodHandle" ∧ x.cls ≠ "java/lang/invoke/VarHandle" ∧ (parseMethodDescriptor x.desc).map (fun d => d.parameters.length) = some n) ∧ y.2.2.1 ≤ 77
/-- a superclass's method x (abstract: only declared), that a receiver of class C runs as y -/
def XInU (x : MethodName) (C : String) (y : XY) (n : Nat) : Prop := Cond.sameMethod x.cls x.cls x.name x.desc ∈ lw_all ∧ Cond.selects C x y.1 ∈ lw_all ∧ Cond.instanceMethod y.1 ∈ lw_all ∧ Cond.initialized y.1.cls ∈ lw_all ∧ Cond.code y.1 y.2.1 y.2.2.1 y.2.2.2.1 ∈ lw_all ∧ Cond.declares x ∈ lw_tbl ∧ (x.cls ≠ "java/lang/invoke/MethodHandle" ∧ x.cls ≠ "java/lang/invoke/VarHandle" ∧ (parseMethodDescriptor x.desc).map (fun d => d.parameters.length) = some n) ∧ y.2.2.1 ≤ 77
theorem x_blind {w : XW} {as : List Value} {m : XM} : FrameBlind (xPc w as m) := fun a U g mk q => ⟨q.1, q.2.1, q.2.2⟩
theorem x_pre {w : XW} {y : XY} {Z : XZ} {d kc ks : Nat} {m : XM} {p : Program} {R : Room} {s : State} {mi : MethodId} {args : Array Value} {below : List Frame} {meth : Method} {c : Code} {H : Heap} {locs : List Loc} {cells slots : Nat} {Q : State → Prop} {as : List Value} (cx : Cx w y Z d kc ks m p R s mi args below meth c H locs cells slots Q) : ∀ U : State, U.heap = H → s.WarmedH U.vm → xPc w as m as.toArray U :=
  fun U hU hW => ⟨rfl, State.WarmedH.trans (cx_w cx) hW, by rw [hU]; exact cx_rep cx⟩
section CALLS
variable {w : XW} {y : XY} {Z : XZ} {d kc ks pc q : Nat} {lv : List (Option Value)} {st : List Value} {m : XM}
theorem x_Stand {p : Program} {l : Launch} {e : Env} {R : Room} {s : State} {mi : MethodId} {args : Array Value} {below : List Frame} {meth : Method} {c : Code} {T : State} {locs : List Loc} {cells slots : Nat} (X : Stand p l e R s mi args below meth c T locs cells slots) : s.heap.size ≤ T.heap.size := X.same.2.1
theorem x_join {w : XW} {s t : State} {T' : State} {H : Heap} {locs L : List Loc} {m' : XM} (hS : va_S (xFree w) s.heap H locs) (hold : ∀ q : Nat, q < xBase w → s.heap[q]? = (xs0 w).heap[q]?) (h1 : s.heap.size ≤ T'.heap.size) (e1 : T'.heap = t.heap) (hr : xRep w m' t.heap) (hL : ∀ q ∈ L, xFree w q.base) : va_S (xFree w) s.heap T'.heap (locs ++ L) :=
  ⟨h1, fun q hq hn => by
    have hlt : q < xBase w := Nat.lt_of_not_le hn
    rw [e1, hr.2.1 q hlt, hold q hlt], fun z hz => by
    rcases List.mem_append.mp hz with h | h
    · exact hS.2.2 z h
    · exact hL z h⟩
theorem g_consume {y2 : XY} {mc ms : Nat} {rest st0 : List Value} {a : Array Value} {P' : Option Value → XM → Prop} {X' : String → XM → Prop} (ok : XOk w) {p : Program} {e : Env} {R : Room} {s : State} {mi : MethodId} {args : Array Value} {below : List Frame} {meth : Method} {c : Code} {H : Heap} {locs : List Loc} {cells slots : Nat} {Q : State → Prop} {ls : Array Slot}
    (cx : Cx w y Z d kc ks m p R s mi args below meth c H locs cells slots Q) (hl : xlv ls y.2.2.1 lv) (hkc : mc ≤ kc) (hks : ms ≤ ks)
    (hr : vx_Run p (xl w) e R s mi args below meth c H locs cells slots mc ms (F0 mi pc ls st0) rest (xQc w P' a) (xXC w X') (xFree w))
    (hX : ∀ E m', ¬ X' E m') (k : ∀ (v : Option Value) (m' : XM), P' v m' → G w y Z d (kc - mc) (ks - ms) (pc + 3) lv (xps v rest) m') :
    W p (xl w) e R s mi args below meth c H locs cells slots Q (F0 mi pc ls st0) := by
  intro T hT X
  rcases hr T hT X with ⟨v, st₀, t, T', L, h0, X', hL, e1, e2, ⟨r, m', hv, hP, hrep⟩, hst⟩ | ⟨q, st₀, t, T', L, E, ce, h0, X', hL, e1, e2, ⟨m', hx, -⟩, -⟩
  · cases hv
    have k1 := cx_kc cx
    have k2 := cx_ks cx
    have cx2 : Cx w y Z d (kc - mc) (ks - ms) m' p R s mi args below meth c T'.heap (locs ++ L) (cells + mc) (slots + ms) Q :=
      cx_to cx (by omega) (by omega) (by rw [e1]; exact hrep) (x_join (cx_S cx) (cx_old cx) (x_Stand X') e1 hrep hL)
    obtain ⟨t2, a1, b1⟩ := k v m' hP ok cx2 hl T' rfl X'
    refine ⟨t2, hst t2 ?_, b1⟩
    rw [xps_eq]
    exact a1
  · exact absurd hx (hX E m')
theorem g_consume5 {mc ms : Nat} {rest st0 : List Value} {a : Array Value} {P' : Option Value → XM → Prop} {X' : String → XM → Prop} (ok : XOk w) {p : Program} {e : Env} {R : Room} {s : State} {mi : MethodId} {args : Array Value} {below : List Frame} {meth : Method} {c : Code} {H : Heap} {locs : List Loc} {cells slots : Nat} {Q : State → Prop} {ls : Array Slot}
    (cx : Cx w y Z d kc ks m p R s mi args below meth c H locs cells slots Q) (hl : xlv ls y.2.2.1 lv) (hkc : mc ≤ kc) (hks : ms ≤ ks)
    (hr : vx_Run5 p (xl w) e R s mi args below meth c H locs cells slots mc ms (F0 mi pc ls st0) rest (xQc w P' a) (xXC w X') (xFree w))
    (hX : ∀ E m', ¬ X' E m') (k : ∀ (v : Option Value) (m' : XM), P' v m' → G w y Z d (kc - mc) (ks - ms) (pc + 5) lv (xps v rest) m') :
    W p (xl w) e R s mi args below meth c H locs cells slots Q (F0 mi pc ls st0) := by
  intro T hT X
  rcases hr T hT X with ⟨v, st₀, t, T', L, h0, X', hL, e1, e2, ⟨r, m', hv, hP, hrep⟩, hst⟩ | ⟨q, st₀, t, T', L, E, ce, h0, X', hL, e1, e2, ⟨m', hx, -⟩, -⟩
  · cases hv
    have k1 := cx_kc cx
    have k2 := cx_ks cx
    have cx2 : Cx w y Z d (kc - mc) (ks - ms) m' p R s mi args below meth c T'.heap (locs ++ L) (cells + mc) (slots + ms) Q :=
      cx_to cx (by omega) (by omega) (by rw [e1]; exact hrep) (x_join (cx_S cx) (cx_old cx) (x_Stand X') e1 hrep hL)
    obtain ⟨t2, a1, b1⟩ := k v m' hP ok cx2 hl T' rfl X'
    refine ⟨t2, hst t2 ?_, b1⟩
    rw [xps_eq]
    exact a1
  · exact absurd hx (hX E m')
/-- a callee that may throw, in a method without handlers: what it throws goes on out -/
theorem g_consumeX {P : Option Value → XM → Prop} {X : String → XM → Prop} {mc ms : Nat} {rest st0 : List Value} {a : Array Value} {P' : Option Value → XM → Prop} {X' : String → XM → Prop} (ok : XOk w) {p : Program} {e : Env} {R : Room} {s : State} {mi : MethodId} {args : Array Value} {below : List Frame} {meth : Method} {c : Code} {H : Heap} {locs : List Loc} {cells slots : Nat} {Q : State → Prop} {ls : Array Slot}
    (hh : y.2.2.2.2 = []) (cx : Cx w y (xZ w P X) d kc ks m p R s mi args below meth c H locs cells slots Q) (hl : xlv ls y.2.2.1 lv) (hkc : mc ≤ kc) (hks : ms ≤ ks)
    (hr : vx_Run p (xl w) e R s mi args below meth c H locs cells slots mc ms (F0 mi pc ls st0) rest (xQc w P' a) (xXC w X') (xFree w))
    (hX : ∀ E m', X' E m' → X E m') (k : ∀ (v : Option Value) (m' : XM), P' v m' → G w y (xZ w P X) d (kc - mc) (ks - ms) (pc + 3) lv (xps v rest) m') :
    W p (xl w) e R s mi args below meth c H locs cells slots Q (F0 mi pc ls st0) := by
  intro T hT X
  have k1 := cx_kc cx
  have k2 := cx_ks cx
  rcases hr T hT X with ⟨v, st₀, t, T', L, h0, X', hL, e1, e2, ⟨r, m', hv, hP, hrep⟩, hst⟩ | ⟨q, st₀, t, T', L, E, ce, h0, X', hL, e1, e2, ⟨m', hx, hrep⟩, hce, hcv, hcl, hst⟩
  · cases hv
    have cx2 : Cx w y (xZ w P _) d (kc - mc) (ks - ms) m' p R s mi args below meth c T'.heap (locs ++ L) (cells + mc) (slots + ms) Q :=
      cx_to cx (by omega) (by omega) (by rw [e1]; exact hrep) (x_join (cx_S cx) (cx_old cx) (x_Stand X') e1 hrep hL)
    obtain ⟨t2, a1, b1⟩ := k v m' hP ok cx2 hl T' rfl X'
    refine ⟨t2, hst t2 ?_, b1⟩
    rw [xps_eq]
    exact a1
  · have hS2 := x_join (w := w) (cx_S cx) (cx_old cx) (x_Stand X') e1 hrep hL
    rw [cx_q cx]
    have ho := vx_out (p := p) (l := xl w) (e := e) (R := R) (s := s) (m := mi) (args := args) (below := below) (meth := meth) (c := c) (H := T'.heap) (locs := locs ++ L) (cells := cells + mc) (slots := slots + ms) (free := xFree w) (Qc := xQc w P) (XC := xXC w _) (ls := ls) (rest := rest) (pc := pc) (E := E) (ce := ce) (q := q) (mc := R.cells) (ms := R.slots)
      (by rw [cx_ex cx, hh]; intro x hx; cases hx) (cx_lk cx) (by rw [e1]; exact hce) hcv hcl (fun t2 ht2 _ => ⟨m', hX E m' hx, by rw [ht2, e1]; exact hrep⟩) hS2.2.2 (by omega) (by omega)
    obtain ⟨t2, a1, b1⟩ := ho T' rfl X'
    exact ⟨t2, hst.trans a1, b1⟩
theorem x_room {d' kc' ks' n : Nat} {R : Room} (h1 : d' + 1 ≤ d) (hf : d ≤ R.frames) (hlo : 96 * d ≤ R.locals) (hn : n ≤ 77) : (xRm d' kc' ks').frames + 1 ≤ R.frames ∧ 8 + (n + 11) + (xRm d' kc' ks').locals ≤ R.locals := by
  constructor
  · exact Nat.le_trans h1 hf
  · show 8 + (n + 11) + 96 * d' ≤ R.locals
    omega
theorem g_static {i n d' kc' ks' : Nat} {y2 : XY} {as rest stk : List Value} {P' : Option Value → XM → Prop} {X' : String → XM → Prop} (hi : XInS y2 n) (hl0 : Cond.methodLink y.1.cls i y2.1 ∈ lw_all) (hc : CT w y2 d' kc' ks' as m P' X') (hd : decode y.2.1 pc = .ok (.invokestatic i, 3)) (hq : pc + 3 = q) (hst : stk = as.reverse ++ rest) (hn : as.length = n) (hcat : (rest.map fun v => v.category).sum ≤ 8) (h1 : d' + 1 ≤ d) (hkc : kc' ≤ kc) (hks : ks' ≤ ks) (hX : ∀ E m', ¬ X' E m') (k : ∀ (v : Option Value) (m' : XM), P' v m' → G w y Z d (kc - kc') (ks - ks') q lv (xps v rest) m') : G w y Z d kc ks pc lv stk m := by
  subst hq
  intro ok p e R s mi args below meth c H locs cells slots Q ls cx hl
  have k1 := cx_kc cx
  have k2 := cx_ks cx
  refine g_consume (y2 := y2) ok cx hl hkc hks (vx_runS (As := as) (rest := rest) ⟨cx_x cx, cx_b cx, cx_ml cx, cx_own cx, cx_ts cx⟩ (hc ok) (va_cwS n (cx_ts cx) (lw_S hl0 hi.1 hi.2.1 hi.2.2.1) rfl rfl rfl hi.2.2.2.1 (x_room h1 (cx_fr cx) (cx_lo cx) hi.2.2.2.2)) ⟨x_blind, x_pre cx⟩ rfl hn hl.1 hst (lv_room hcat) hd ⟨by omega, by omega⟩) hX k
theorem g_staticX {P : Option Value → XM → Prop} {X : String → XM → Prop} {i n d' kc' ks' : Nat} {y2 : XY} {as rest stk : List Value} {P' : Option Value → XM → Prop} {X' : String → XM → Prop} (hi : XInS y2 n) (hl0 : Cond.methodLink y.1.cls i y2.1 ∈ lw_all) (hc : CT w y2 d' kc' ks' as m P' X') (hd : decode y.2.1 pc = .ok (.invokestatic i, 3)) (hq : pc + 3 = q) (hst : stk = as.reverse ++ rest) (hn : as.length = n) (hcat : (rest.map fun v => v.category).sum ≤ 8) (h1 : d' + 1 ≤ d) (hkc : kc' ≤ kc) (hks : ks' ≤ ks) (hh : y.2.2.2.2 = []) (hX : ∀ E m', X' E m' → X E m') (k : ∀ (v : Option Value) (m' : XM), P' v m' → G w y (xZ w P X) d (kc - kc') (ks - ks') q lv (xps v rest) m') : G w y (xZ w P X) d kc ks pc lv stk m := by
  subst hq
  intro ok p e R s mi args below meth c H locs cells slots Q ls cx hl
  have k1 := cx_kc cx
  have k2 := cx_ks cx
  refine g_consumeX ok hh cx hl hkc hks (vx_runS (As := as) (rest := rest) ⟨cx_x cx, cx_b cx, cx_ml cx, cx_own cx, cx_ts cx⟩ (hc ok) (va_cwS n (cx_ts cx) (lw_S hl0 hi.1 hi.2.1 hi.2.2.1) rfl rfl rfl hi.2.2.2.1 (x_room h1 (cx_fr cx) (cx_lo cx) hi.2.2.2.2)) ⟨x_blind, x_pre cx⟩ rfl hn hl.1 hst (lv_room hcat) hd ⟨by omega, by omega⟩) hX k
theorem x_recv {s : State} {H : Heap} {a ci : Nat} {fs : List Value} {C : String} {T : u_T} {N : Nat} {p : Program} {R : Room} {mi : MethodId} {args : Array Value} {below : List Frame} {meth : Method} {c : Code} {locs : List Loc} {cells slots : Nat} {Q : State → Prop} (ok : XOk w) (cx : Cx w y Z d kc ks m p R s mi args below meth c H locs cells slots Q) (hc : vwCl[ci]? = some (C, T, N)) (hci : ci < 100) (hm : xkn w m a (.inr (ci, fs))) : ∃ cell : Cell, H[a]? = some cell ∧ cell.vm.isStatics = false ∧ s.vm.findClass C = some cell.cls := by
  obtain ⟨cell, q1, q2, q3, q4⟩ := x_obj hc hci (xkn_at ok (cx_rep cx) hm)
  exact ⟨cell, q1, by rw [q3]; rfl, by rw [q2]; exact ((cx_K ok cx).1 ci _ hc).2.1⟩
theorem g_virtual {i n d' kc' ks' b ci N : Nat} {T : u_T} {fs : List Value} {y2 : XY} {as rest stk : List Value} {P' : Option Value → XM → Prop} {X' : String → XM → Prop} (hi : XInV y2 n) (hl0 : Cond.methodLink y.1.cls i y2.1 ∈ lw_all) (hc : CT w y2 d' kc' ks' (.ref b :: as) m P' X') (hm : xkn w m b (.inr (ci, fs))) (hci : vwCl[ci]? = some (y2.1.cls, T, N)) (hci2 : ci < 100) (hd : decode y.2.1 pc = .ok (.invokevirtual i, 3)) (hq : pc + 3 = q) (hst : stk = as.reverse ++ .ref b :: rest) (hn : as.length = n) (hcat : (rest.map fun v => v.category).sum ≤ 8) (h1 : d' + 1 ≤ d) (hkc : kc' ≤ kc) (hks : ks' ≤ ks) (hX : ∀ E m', ¬ X' E m') (k : ∀ (v : Option Value) (m' : XM), P' v m' → G w y Z d (kc - kc') (ks - ks') q lv (xps v rest) m') : G w y Z d kc ks pc lv stk m := by
  subst hq
  intro ok p e R s mi args below meth c H locs cells slots Q ls cx hl
  have k1 := cx_kc cx
  have k2 := cx_ks cx
  refine g_consume (y2 := y2) ok cx hl hkc hks (vx_runV (C := y2.1.cls) (As := as) (rest := rest) ⟨cx_x cx, cx_b cx, cx_ml cx, cx_own cx, cx_ts cx⟩ (hc ok) (cwV n (cx_ts cx) (lw_V hl0 hi.1 hi.2.1 hi.2.2.1 hi.2.2.2.1) rfl rfl rfl ⟨rfl, hi.2.2.2.2.1⟩ (x_room h1 (cx_fr cx) (cx_lo cx) hi.2.2.2.2.2)) ⟨x_blind, x_recv ok cx hci hci2 hm, x_pre cx⟩ rfl hn hl.1 hst (lv_room hcat) hd ⟨by omega, by omega⟩) hX k
theorem g_virtualX {P : Option Value → XM → Prop} {X : String → XM → Prop} {i n d' kc' ks' b ci N : Nat} {T : u_T} {fs : List Value} {y2 : XY} {as rest stk : List Value} {P' : Option Value → XM → Prop} {X' : String → XM → Prop} (hi : XInV y2 n) (hl0 : Cond.methodLink y.1.cls i y2.1 ∈ lw_all) (hc : CT w y2 d' kc' ks' (.ref b :: as) m P' X') (hm : xkn w m b (.inr (ci, fs))) (hci : vwCl[ci]? = some (y2.1.cls, T, N)) (hci2 : ci < 100) (hd : decode y.2.1 pc = .ok (.invokevirtual i, 3)) (hq : pc + 3 = q) (hst : stk = as.reverse ++ .ref b :: rest) (hn : as.length = n) (hcat : (rest.map fun v => v.category).sum ≤ 8) (h1 : d' + 1 ≤ d) (hkc : kc' ≤ kc) (hks : ks' ≤ ks) (hh : y.2.2.2.2 = []) (hX : ∀ E m', X' E m' → X E m') (k : ∀ (v : Option Value) (m' : XM), P' v m' → G w y (xZ w P X) d (kc - kc') (ks - ks') q lv (xps v rest) m') : G w y (xZ w P X) d kc ks pc lv stk m := by
  subst hq
  intro ok p e R s mi args below meth c H locs cells slots Q ls cx hl
  have k1 := cx_kc cx
  have k2 := cx_ks cx
  refine g_consumeX ok hh cx hl hkc hks (vx_runV (C := y2.1.cls) (As := as) (rest := rest) ⟨cx_x cx, cx_b cx, cx_ml cx, cx_own cx, cx_ts cx⟩ (hc ok) (cwV n (cx_ts cx) (lw_V hl0 hi.1 hi.2.1 hi.2.2.1 hi.2.2.2.1) rfl rfl rfl ⟨rfl, hi.2.2.2.2.1⟩ (x_room h1 (cx_fr cx) (cx_lo cx) hi.2.2.2.2.2)) ⟨x_blind, x_recv ok cx hci hci2 hm, x_pre cx⟩ rfl hn hl.1 hst (lv_room hcat) hd ⟨by omega, by omega⟩) hX k
/-- a constructor -/
theorem g_ctor {i n d' kc' ks' b : Nat} {y2 : XY} {as rest stk : List Value} {P' : Option Value → XM → Prop} {X' : String → XM → Prop} (hi : XInC y2 n) (hl0 : Cond.methodLink y.1.cls i y2.1 ∈ lw_all) (hc : CT w y2 d' kc' ks' (.ref b :: as) m P' X') (hd : decode y.2.1 pc = .ok (.invokespecial i, 3)) (hq : pc + 3 = q) (hst : stk = as.reverse ++ .ref b :: rest) (hn : as.length = n) (hcat : (rest.map fun v => v.category).sum ≤ 8) (h1 : d' + 1 ≤ d) (hkc : kc' ≤ kc) (hks : ks' ≤ ks) (hX : ∀ E m', ¬ X' E m') (k : ∀ (v : Option Value) (m' : XM), P' v m' → G w y Z d (kc - kc') (ks - ks') q lv (xps v rest) m') : G w y Z d kc ks pc lv stk m := by
  subst hq
  intro ok p e R s mi args below meth c H locs cells slots Q ls cx hl
  have k1 := cx_kc cx
  have k2 := cx_ks cx
  obtain ⟨ym, yc, yl, yr, yh⟩ := y2
  obtain ⟨i1, i2, i3, i4, i5, i6, i7⟩ := hi
  dsimp only at hl0 i1 i2 i3 i4 i5 i6 i7
  subst i4
  refine g_consume (y2 := (ym, yc, yl, none, yh)) ok cx hl hkc hks (vx_runI (As := as) (rest := rest) ⟨cx_x cx, cx_b cx, cx_ml cx, cx_own cx, cx_ts cx⟩ (hc ok) (cwI n (cx_ts cx) (lw_meth i3) rfl rfl rfl (cx_ts cx _ i2) (cx_ts cx _ hl0) (cx_ts cx _ i1) i5 i6 (x_room h1 (cx_fr cx) (cx_lo cx) i7)) ⟨x_blind, x_pre cx⟩ rfl hn hl.1 hst (lv_room hcat) hd ⟨by omega, by omega⟩) hX k
theorem g_objInit {i a : Nat} (hl0 : Cond.methodLink y.1.cls i objectInit ∈ lw_all) (hl1 : Cond.instanceMethod objectInit ∈ lw_all) (hl2 : Cond.code objectInit ⟨#[0xb1]⟩ 1 none ∈ lw_all) (hd : decode y.2.1 pc = .ok (.invokespecial i, 3)) (hq : pc + 3 = q) (h1 : 1 ≤ d) (hcat : (st.map fun v => v.category).sum ≤ 8) (k : G w y Z d kc ks q lv st m) : G w y Z d kc ks pc lv (.ref a :: st) m := by
  subst hq
  intro ok p e R s mi args below meth c H locs cells slots Q ls cx hl
  have k1 := cx_fr cx
  have k2 := cx_lo cx
  have hc8 := lv_room (pc := pc) (ls := ls) (rest := Value.ref a :: st) (m := mi) hcat
  exact W.objInit (cx_x cx) (cx_b cx) (cx_own cx) (cx_ts cx _ hl0) (cx_ts cx _ hl1) (cx_ts cx _ hl2) rfl (by rw [cx_ml cx]; exact hl.1) rfl hd (by omega) (by omega) (k ok cx hl)
/-- nest mates: static, virtual, constructor -/
theorem x_nl {args : Array Value} {s : State} {own : String} {i : Nat} {x : MethodName} {host : String} (ok : XOk w) (hW : (xs0 w).WarmedH s.vm) (h : Cond.methodLinkNest own i x host ∈ lw_tbl) : va_Nw (.methodLinkNest own i x host) s := va_Nw.warmM hW (va_Nw.of rfl (ok.1 _ h))
theorem g_staticN {i n d' kc' ks' : Nat} {host : String} {y2 : XY} {as rest stk : List Value} {P' : Option Value → XM → Prop} {X' : String → XM → Prop} (hi : XInS y2 n) (hl0 : Cond.methodLinkNest y.1.cls i y2.1 host ∈ lw_tbl) (hc : CT w y2 d' kc' ks' as m P' X') (hd : decode y.2.1 pc = .ok (.invokestatic i, 3)) (hq : pc + 3 = q) (hst : stk = as.reverse ++ rest) (hn : as.length = n) (hcat : (rest.map fun v => v.category).sum ≤ 8) (h1 : d' + 1 ≤ d) (hkc : kc' ≤ kc) (hks : ks' ≤ ks) (hX : ∀ E m', ¬ X' E m') (k : ∀ (v : Option Value) (m' : XM), P' v m' → G w y Z d (kc - kc') (ks - ks') q lv (xps v rest) m') : G w y Z d kc ks pc lv stk m := by
  subst hq
  intro ok p e R s mi args below meth c H locs cells slots Q ls cx hl
  have k1 := cx_kc cx
  have k2 := cx_ks cx
  refine g_consume (y2 := y2) ok cx hl hkc hks (vx_runSN (As := as) (rest := rest) ⟨cx_x cx, cx_b cx, cx_ml cx, cx_own cx, cx_ts cx⟩ (hc ok) ⟨va_cnB n (cx_ts cx) (lw_meth hi.2.2.1) rfl rfl rfl (x_nl (args := args) ok (cx_w cx) hl0) (cx_ts cx _ hi.2.1) hi.2.2.2.1 (x_room h1 (cx_fr cx) (cx_lo cx) hi.2.2.2.2), cx_ts cx _ hi.1, trivial⟩ ⟨x_blind, x_pre cx⟩ rfl hn hl.1 hst (lv_room hcat) hd ⟨by omega, by omega⟩) hX k
theorem g_virtualN {i n d' kc' ks' b ci N : Nat} {host : String} {T : u_T} {fs : List Value} {y2 : XY} {as rest stk : List Value} {P' : Option Value → XM → Prop} {X' : String → XM → Prop} (hi : XInV y2 n) (hl0 : Cond.methodLinkNest y.1.cls i y2.1 host ∈ lw_tbl) (hc : CT w y2 d' kc' ks' (.ref b :: as) m P' X') (hm : xkn w m b (.inr (ci, fs))) (hci : vwCl[ci]? = some (y2.1.cls, T, N)) (hci2 : ci < 100) (hd : decode y.2.1 pc = .ok (.invokevirtual i, 3)) (hq : pc + 3 = q) (hst : stk = as.reverse ++ .ref b :: rest) (hn : as.length = n) (hcat : (rest.map fun v => v.category).sum ≤ 8) (h1 : d' + 1 ≤ d) (hkc : kc' ≤ kc) (hks : ks' ≤ ks) (hX : ∀ E m', ¬ X' E m') (k : ∀ (v : Option Value) (m' : XM), P' v m' → G w y Z d (kc - kc') (ks - ks') q lv (xps v rest) m') : G w y Z d kc ks pc lv stk m := by
  subst hq
  intro ok p e R s mi args below meth c H locs cells slots Q ls cx hl
  have k1 := cx_kc cx
  have k2 := cx_ks cx
  refine g_consume (y2 := y2) ok cx hl hkc hks (vx_runVN (C := y2.1.cls) (As := as) (rest := rest) ⟨cx_x cx, cx_b cx, cx_ml cx, cx_own cx, cx_ts cx⟩ (hc ok) ⟨va_cnB n (cx_ts cx) (lw_meth hi.2.2.2.1) rfl rfl rfl (x_nl (args := args) ok (cx_w cx) hl0) (cx_ts cx _ hi.2.2.1) hi.2.2.2.2.1 (x_room h1 (cx_fr cx) (cx_lo cx) hi.2.2.2.2.2), cx_ts cx _ hi.1, cx_ts cx _ hi.2.1⟩ ⟨x_blind, x_recv ok cx hci hci2 hm, x_pre cx⟩ rfl hn hl.1 hst (lv_room hcat) hd ⟨by omega, by omega⟩) hX k
theorem g_ctorN {i n d' kc' ks' b : Nat} {host : String} {y2 : XY} {as rest stk : List Value} {P' : Option Value → XM → Prop} {X' : String → XM → Prop} (hi : XInC y2 n) (hl0 : Cond.methodLinkNest y.1.cls i y2.1 host ∈ lw_tbl) (hc : CT w y2 d' kc' ks' (.ref b :: as) m P' X') (hd : decode y.2.1 pc = .ok (.invokespecial i, 3)) (hq : pc + 3 = q) (hst : stk = as.reverse ++ .ref b :: rest) (hn : as.length = n) (hcat : (rest.map fun v => v.category).sum ≤ 8) (h1 : d' + 1 ≤ d) (hkc : kc' ≤ kc) (hks : ks' ≤ ks) (hX : ∀ E m', ¬ X' E m') (k : ∀ (v : Option Value) (m' : XM), P' v m' → G w y Z d (kc - kc') (ks - ks') q lv (xps v rest) m') : G w y Z d kc ks pc lv stk m := by
  subst hq
  intro ok p e R s mi args below meth c H locs cells slots Q ls cx hl
  have k1 := cx_kc cx
  have k2 := cx_ks cx
  obtain ⟨ym, yc, yl, yr, yh⟩ := y2
  obtain ⟨i1, i2, i3, i4, i5, i6, i7⟩ := hi
  dsimp only at hl0 i1 i2 i3 i4 i5 i6 i7
  subst i4
  refine g_consume (y2 := (ym, yc, yl, none, yh)) ok cx hl hkc hks (vx_runIN (As := as) (rest := rest) ⟨cx_x cx, cx_b cx, cx_ml cx, cx_own cx, cx_ts cx⟩ (hc ok) ⟨va_cnB n (cx_ts cx) (lw_meth i3) rfl rfl rfl (x_nl (args := args) ok (cx_w cx) hl0) (cx_ts cx _ i2) i6 (x_room h1 (cx_fr cx) (cx_lo cx) i7), i5, cx_ts cx _ i1⟩ ⟨x_blind, x_pre cx⟩ rfl hn hl.1 hst (lv_room hcat) hd ⟨by omega, by omega⟩) hX k
/-- an interface's method -/
theorem lw_F {own : String} {idx : Nat} {C : String} {x y : MethodName} {b : ByteArray} {L : Nat} {r : Option FieldType} (h1 : Cond.methodLink own idx x ∈ lw_all) (h2 : Cond.selects C x y ∈ lw_all) (h3 : Cond.instanceMethod y ∈ lw_all) (h4 : Cond.initialized y.cls ∈ lw_all) (h5 : Cond.code y b L r ∈ lw_all) : GoodIn lw_all (va_wsF own idx C x y (ws_ y b L r)) := by
  refine lw_app ?_ (lw_meth h5)
  intro w hw
  simp only [List.mem_cons, List.not_mem_nil, or_false] at hw
  rcases hw with e | e | e | e
  · rw [e]; exact h1
  · rw [e]; exact h2
  · rw [e]; exact h3
  · rw [e]; exact h4
theorem g_iface {i cnt n d' kc' ks' b ci N : Nat} {x : MethodName} {C : String} {T : u_T} {fs : List Value} {y2 : XY} {as rest stk : List Value} {P' : Option Value → XM → Prop} {X' : String → XM → Prop} (hi : XInI x C y2 n) (hl0 : Cond.methodLink y.1.cls i x ∈ lw_all) (hc : CT w y2 d' kc' ks' (.ref b :: as) m P' X') (hm : xkn w m b (.inr (ci, fs))) (hci : vwCl[ci]? = some (C, T, N)) (hci2 : ci < 100) (hd : decode y.2.1 pc = .ok (.invokeinterface i cnt, 5)) (hq : pc + 5 = q) (hst : stk = as.reverse ++ .ref b :: rest) (hn : as.length = n) (hcat : (rest.map fun v => v.category).sum ≤ 8) (h1 : d' + 1 ≤ d) (hkc : kc' ≤ kc) (hks : ks' ≤ ks) (hX : ∀ E m', ¬ X' E m') (k : ∀ (v : Option Value) (m' : XM), P' v m' → G w y Z d (kc - kc') (ks - ks') q lv (xps v rest) m') : G w y Z d kc ks pc lv stk m := by
  subst hq
  intro ok p e R s mi args below meth c H locs cells slots Q ls cx hl
  have k1 := cx_kc cx
  have k2 := cx_ks cx
  obtain ⟨i1, i2, i3, i4, i5, i6, i7, i8, i9, i10, i11⟩ := hi
  have hF : va_Fw C x y2.1 s := va_Fw.moved ⟨i10.1, i10.2.1⟩ (cx_w cx).alike (va_Fw.of (ok.1 _ i5) (ok.1 _ i6) (ok.1 _ i7) (ok.1 _ i8) (ok.1 _ i9))
  have hat : ClassAt s C ((xD w).1 ci) := ((cx_K ok cx).1 ci _ hci).2
  refine g_consume5 ok cx hl hkc hks (vx_runF (C := C) (As := as) (rest := rest) hat ⟨cx_x cx, cx_b cx, cx_ml cx, cx_own cx, cx_ts cx⟩ (hc ok) (va_cwF n (cx_ts cx) (lw_F hl0 i1 i2 i3 i4) rfl rfl rfl hF i10 (x_room h1 (cx_fr cx) (cx_lo cx) i11)) ⟨x_blind, x_recv ok cx hci hci2 hm, x_pre cx⟩ rfl hn hl.1 hst (lv_room hcat) hd ⟨by omega, by omega⟩) hX k
theorem lw_U {own : String} {idx : Nat} {C owner : String} {x y : MethodName} {b : ByteArray} {L : Nat} {r : Option FieldType} (h1 : Cond.methodLink own idx x ∈ lw_all) (h2 : Cond.sameMethod x.cls owner x.name x.desc ∈ lw_all) (h3 : Cond.selects C x y ∈ lw_all) (h4 : Cond.instanceMethod y ∈ lw_all) (h5 : Cond.initialized y.cls ∈ lw_all) (h6 : Cond.code y b L r ∈ lw_all) : GoodIn lw_all (va_wsU own idx C owner x y (ws_ y b L r)) := by
  refine lw_app ?_ (lw_meth h6)
  intro w hw
  simp only [List.mem_cons, List.not_mem_nil, or_false] at hw
  rcases hw with e | e | e | e | e
  · rw [e]; exact h1
  · rw [e]; exact h2
  · rw [e]; exact h3
  · rw [e]; exact h4
  · rw [e]; exact h5
/-- an abstract method of a superclass -/
theorem g_virtualA {i n d' kc' ks' b ci N : Nat} {x : MethodName} {C : String} {T : u_T} {fs : List Value} {y2 : XY} {as rest stk : List Value} {P' : Option Value → XM → Prop} {X' : String → XM → Prop} (hi : XInU x C y2 n) (hl0 : Cond.methodLink y.1.cls i x ∈ lw_all) (hc : CT w y2 d' kc' ks' (.ref b :: as) m P' X') (hm : xkn w m b (.inr (ci, fs))) (hci : vwCl[ci]? = some (C, T, N)) (hci2 : ci < 100) (hd : decode y.2.1 pc = .ok (.invokevirtual i, 3)) (hq : pc + 3 = q) (hst : stk = as.reverse ++ .ref b :: rest) (hn : as.length = n) (hcat : (rest.map fun v => v.category).sum ≤ 8) (h1 : d' + 1 ≤ d) (hkc : kc' ≤ kc) (hks : ks' ≤ ks) (hX : ∀ E m', ¬ X' E m') (k : ∀ (v : Option Value) (m' : XM), P' v m' → G w y Z d (kc - kc') (ks - ks') q lv (xps v rest) m') : G w y Z d kc ks pc lv stk m := by
  subst hq
  intro ok p e R s mi args below meth c H locs cells slots Q ls cx hl
  have k1 := cx_kc cx
  have k2 := cx_ks cx
  obtain ⟨i1, i2, i3, i4, i5, i6, i7, i8⟩ := hi
  have hz : va_Nw (.declares ⟨x.cls, x.name, x.desc⟩) s := va_Nw.warmD (cx_w cx) (va_Nw.of rfl (ok.1 _ i6))
  refine g_consume (y2 := y2) ok cx hl hkc hks (vx_runU (C := C) (As := as) (rest := rest) ⟨cx_x cx, cx_b cx, cx_ml cx, cx_own cx, cx_ts cx⟩ (hc ok) (va_cwA n (cx_ts cx) (lw_U hl0 i1 i2 i3 i4 i5) rfl rfl rfl hz i7 (x_room h1 (cx_fr cx) (cx_lo cx) i8)) ⟨x_blind, x_recv ok cx hci hci2 hm, x_pre cx⟩ rfl hn hl.1 hst (lv_room hcat) hd ⟨by omega, by omega⟩) hX k
end CALLS
/-- a contract that says the answer and the map behind it -/
def xRet (r : Option Value) (m2 : XM) : Option Value → XM → Prop := fun v m' => r = v ∧ m2 = m'
theorem xN_no : ∀ (E : String) (m' : XM), ¬ xN E m' := fun _ _ h => h
section CALLSR
variable {w : XW} {y : XY} {Z : XZ} {d kc ks pc q : Nat} {lv : List (Option Value)} {st : List Value} {m : XM}
theorem g_staticR {i n d' kc' ks' : Nat} {y2 : XY} {as rest stk : List Value} {r : Option Value} {m2 : XM} {X' : String → XM → Prop} (hi : XInS y2 n) (hl0 : Cond.methodLink y.1.cls i y2.1 ∈ lw_all) (hc : CT w y2 d' kc' ks' as m (xRet r m2) X') (hd : decode y.2.1 pc = .ok (.invokestatic i, 3)) (hq : pc + 3 = q) (hst : stk = as.reverse ++ rest) (hn : as.length = n) (hcat : (rest.map fun v => v.category).sum ≤ 8) (h1 : d' + 1 ≤ d) (hkc : kc' ≤ kc) (hks : ks' ≤ ks) (hX : ∀ E m', ¬ X' E m') (k : G w y Z d (kc - kc') (ks - ks') q lv (xps r rest) m2) : G w y Z d kc ks pc lv stk m :=
  g_static hi hl0 hc hd hq hst hn hcat h1 hkc hks hX (fun v m' hp => by obtain ⟨rfl, rfl⟩ := hp; exact k)
theorem g_staticP {i n d'  : Nat} {y2 : XY} {as rest stk : List Value} {r : Option Value} {X' : String → XM → Prop} (hi : XInS y2 n) (hl0 : Cond.methodLink y.1.cls i y2.1 ∈ lw_all) (hc : CT w y2 d' 0 0 as m (xRet r m) X') (hd : decode y.2.1 pc = .ok (.invokestatic i, 3)) (hq : pc + 3 = q) (hst : stk = as.reverse ++ rest) (hn : as.length = n) (hcat : (rest.map fun v => v.category).sum ≤ 8) (h1 : d' + 1 ≤ d) (hX : ∀ E m', ¬ X' E m') (k : G w y Z d kc ks q lv (xps r rest) m) : G w y Z d kc ks pc lv stk m :=
  g_staticR hi hl0 hc hd hq hst hn hcat h1 (Nat.zero_le _) (Nat.zero_le _) hX k
theorem g_staticXR {P : Option Value → XM → Prop} {X : String → XM → Prop} {i n d' kc' ks' : Nat} {y2 : XY} {as rest stk : List Value} {r : Option Value} {m2 : XM} {X' : String → XM → Prop} (hi : XInS y2 n) (hl0 : Cond.methodLink y.1.cls i y2.1 ∈ lw_all) (hc : CT w y2 d' kc' ks' as m (xRet r m2) X') (hd : decode y.2.1 pc = .ok (.invokestatic i, 3)) (hq : pc + 3 = q) (hst : stk = as.reverse ++ rest) (hn : as.length = n) (hcat : (rest.map fun v => v.category).sum ≤ 8) (h1 : d' + 1 ≤ d) (hkc : kc' ≤ kc) (hks : ks' ≤ ks) (hh : y.2.2.2.2 = []) (hX : ∀ E m', X' E m' → X E m') (k : G w y (xZ w P X) d (kc - kc') (ks - ks') q lv (xps r rest) m2) : G w y (xZ w P X) d kc ks pc lv stk m :=
  g_staticX hi hl0 hc hd hq hst hn hcat h1 hkc hks hh hX (fun v m' hp => by obtain ⟨rfl, rfl⟩ := hp; exact k)
theorem g_staticXP {P : Option Value → XM → Prop} {X : String → XM → Prop} {i n d'  : Nat} {y2 : XY} {as rest stk : List Value} {r : Option Value} {X' : String → XM → Prop} (hi : XInS y2 n) (hl0 : Cond.methodLink y.1.cls i y2.1 ∈ lw_all) (hc : CT w y2 d' 0 0 as m (xRet r m) X') (hd : decode y.2.1 pc = .ok (.invokestatic i, 3)) (hq : pc + 3 = q) (hst : stk = as.reverse ++ rest) (hn : as.length = n) (hcat : (rest.map fun v => v.category).sum ≤ 8) (h1 : d' + 1 ≤ d) (hh : y.2.2.2.2 = []) (hX : ∀ E m', X' E m' → X E m') (k : G w y (xZ w P X) d kc ks q lv (xps r rest) m) : G w y (xZ w P X) d kc ks pc lv stk m :=
  g_staticXR hi hl0 hc hd hq hst hn hcat h1 (Nat.zero_le _) (Nat.zero_le _) hh hX k
theorem g_virtualR {i n d' kc' ks' b ci N : Nat} {T : u_T} {fs : List Value} {y2 : XY} {as rest stk : List Value} {r : Option Value} {m2 : XM} {X' : String → XM → Prop} (hi : XInV y2 n) (hl0 : Cond.methodLink y.1.cls i y2.1 ∈ lw_all) (hc : CT w y2 d' kc' ks' (.ref b :: as) m (xRet r m2) X') (hm : xkn w m b (.inr (ci, fs))) (hci : vwCl[ci]? = some (y2.1.cls, T, N)) (hci2 : ci < 100) (hd : decode y.2.1 pc = .ok (.invokevirtual i, 3)) (hq : pc + 3 = q) (hst : stk = as.reverse ++ .ref b :: rest) (hn : as.length = n) (hcat : (rest.map fun v => v.category).sum ≤ 8) (h1 : d' + 1 ≤ d) (hkc : kc' ≤ kc) (hks : ks' ≤ ks) (hX : ∀ E m', ¬ X' E m') (k : G w y Z d (kc - kc') (ks - ks') q lv (xps r rest) m2) : G w y Z d kc ks pc lv stk m :=
  g_virtual hi hl0 hc hm hci hci2 hd hq hst hn hcat h1 hkc hks hX (fun v m' hp => by obtain ⟨rfl, rfl⟩ := hp; exact k)
theorem g_virtualP {i n d'  b ci N : Nat} {T : u_T} {fs : List Value} {y2 : XY} {as rest stk : List Value} {r : Option Value} {X' : String → XM → Prop} (hi : XInV y2 n) (hl0 : Cond.methodLink y.1.cls i y2.1 ∈ lw_all) (hc : CT w y2 d' 0 0 (.ref b :: as) m (xRet r m) X') (hm : xkn w m b (.inr (ci, fs))) (hci : vwCl[ci]? = some (y2.1.cls, T, N)) (hci2 : ci < 100) (hd : decode y.2.1 pc = .ok (.invokevirtual i, 3)) (hq : pc + 3 = q) (hst : stk = as.reverse ++ .ref b :: rest) (hn : as.length = n) (hcat : (rest.map fun v => v.category).sum ≤ 8) (h1 : d' + 1 ≤ d) (hX : ∀ E m', ¬ X' E m') (k : G w y Z d kc ks q lv (xps r rest) m) : G w y Z d kc ks pc lv stk m :=
  g_virtualR hi hl0 hc hm hci hci2 hd hq hst hn hcat h1 (Nat.zero_le _) (Nat.zero_le _) hX k
theorem g_virtualXR {P : Option Value → XM → Prop} {X : String → XM → Prop} {i n d' kc' ks' b ci N : Nat} {T : u_T} {fs : List Value} {y2 : XY} {as rest stk : List Value} {r : Option Value} {m2 : XM} {X' : String → XM → Prop} (hi : XInV y2 n) (hl0 : Cond.methodLink y.1.cls i y2.1 ∈ lw_all) (hc : CT w y2 d' kc' ks' (.ref b :: as) m (xRet r m2) X') (hm : xkn w m b (.inr (ci, fs))) (hci : vwCl[ci]? = some (y2.1.cls, T, N)) (hci2 : ci < 100) (hd : decode y.2.1 pc = .ok (.invokevirtual i, 3)) (hq : pc + 3 = q) (hst : stk = as.reverse ++ .ref b :: rest) (hn : as.length = n) (hcat : (rest.map fun v => v.category).sum ≤ 8) (h1 : d' + 1 ≤ d) (hkc : kc' ≤ kc) (hks : ks' ≤ ks) (hh : y.2.2.2.2 = []) (hX : ∀ E m', X' E m' → X E m') (k : G w y (xZ w P X) d (kc - kc') (ks - ks') q lv (xps r rest) m2) : G w y (xZ w P X) d kc ks pc lv stk m :=
  g_virtualX hi hl0 hc hm hci hci2 hd hq hst hn hcat h1 hkc hks hh hX (fun v m' hp => by obtain ⟨rfl, rfl⟩ := hp; exact k)
theorem g_virtualXP {P : Option Value → XM → Prop} {X : String → XM → Prop} {i n d'  b ci N : Nat} {T : u_T} {fs : List Value} {y2 : XY} {as rest stk : List Value} {r : Option Value} {X' : String → XM → Prop} (hi : XInV y2 n) (hl0 : Cond.methodLink y.1.cls i y2.1 ∈ lw_all) (hc : CT w y2 d' 0 0 (.ref b :: as) m (xRet r m) X') (hm : xkn w m b (.inr (ci, fs))) (hci : vwCl[ci]? = some (y2.1.cls, T, N)) (hci2 : ci < 100) (hd : decode y.2.1 pc = .ok (.invokevirtual i, 3)) (hq : pc + 3 = q) (hst : stk = as.reverse ++ .ref b :: rest) (hn : as.length = n) (hcat : (rest.map fun v => v.category).sum ≤ 8) (h1 : d' + 1 ≤ d) (hh : y.2.2.2.2 = []) (hX : ∀ E m', X' E m' → X E m') (k : G w y (xZ w P X) d kc ks q lv (xps r rest) m) : G w y (xZ w P X) d kc ks pc lv stk m :=
  g_virtualXR hi hl0 hc hm hci hci2 hd hq hst hn hcat h1 (Nat.zero_le _) (Nat.zero_le _) hh hX k
theorem g_ctorR {i n d' kc' ks' b : Nat} {y2 : XY} {as rest stk : List Value} {r : Option Value} {m2 : XM} {X' : String → XM → Prop} (hi : XInC y2 n) (hl0 : Cond.methodLink y.1.cls i y2.1 ∈ lw_all) (hc : CT w y2 d' kc' ks' (.ref b :: as) m (xRet r m2) X') (hd : decode y.2.1 pc = .ok (.invokespecial i, 3)) (hq : pc + 3 = q) (hst : stk = as.reverse ++ .ref b :: rest) (hn : as.length = n) (hcat : (rest.map fun v => v.category).sum ≤ 8) (h1 : d' + 1 ≤ d) (hkc : kc' ≤ kc) (hks : ks' ≤ ks) (hX : ∀ E m', ¬ X' E m') (k : G w y Z d (kc - kc') (ks - ks') q lv (xps r rest) m2) : G w y Z d kc ks pc lv stk m :=
  g_ctor hi hl0 hc hd hq hst hn hcat h1 hkc hks hX (fun v m' hp => by obtain ⟨rfl, rfl⟩ := hp; exact k)
theorem g_ctorP {i n d'  b : Nat} {y2 : XY} {as rest stk : List Value} {r : Option Value} {X' : String → XM → Prop} (hi : XInC y2 n) (hl0 : Cond.methodLink y.1.cls i y2.1 ∈ lw_all) (hc : CT w y2 d' 0 0 (.ref b :: as) m (xRet r m) X') (hd : decode y.2.1 pc = .ok (.invokespecial i, 3)) (hq : pc + 3 = q) (hst : stk = as.reverse ++ .ref b :: rest) (hn : as.length = n) (hcat : (rest.map fun v => v.category).sum ≤ 8) (h1 : d' + 1 ≤ d) (hX : ∀ E m', ¬ X' E m') (k : G w y Z d kc ks q lv (xps r rest) m) : G w y Z d kc ks pc lv stk m :=
  g_ctorR hi hl0 hc hd hq hst hn hcat h1 (Nat.zero_le _) (Nat.zero_le _) hX k
theorem g_staticNR {i n d' kc' ks' : Nat} {host : String} {y2 : XY} {as rest stk : List Value} {r : Option Value} {m2 : XM} {X' : String → XM → Prop} (hi : XInS y2 n) (hl0 : Cond.methodLinkNest y.1.cls i y2.1 host ∈ lw_tbl) (hc : CT w y2 d' kc' ks' as m (xRet r m2) X') (hd : decode y.2.1 pc = .ok (.invokestatic i, 3)) (hq : pc + 3 = q) (hst : stk = as.reverse ++ rest) (hn : as.length = n) (hcat : (rest.map fun v => v.category).sum ≤ 8) (h1 : d' + 1 ≤ d) (hkc : kc' ≤ kc) (hks : ks' ≤ ks) (hX : ∀ E m', ¬ X' E m') (k : G w y Z d (kc - kc') (ks - ks') q lv (xps r rest) m2) : G w y Z d kc ks pc lv stk m :=
  g_staticN hi hl0 hc hd hq hst hn hcat h1 hkc hks hX (fun v m' hp => by obtain ⟨rfl, rfl⟩ := hp; exact k)
theorem g_staticNP {i n d'  : Nat} {host : String} {y2 : XY} {as rest stk : List Value} {r : Option Value} {X' : String → XM → Prop} (hi : XInS y2 n) (hl0 : Cond.methodLinkNest y.1.cls i y2.1 host ∈ lw_tbl) (hc : CT w y2 d' 0 0 as m (xRet r m) X') (hd : decode y.2.1 pc = .ok (.invokestatic i, 3)) (hq : pc + 3 = q) (hst : stk = as.reverse ++ rest) (hn : as.length = n) (hcat : (rest.map fun v => v.category).sum ≤ 8) (h1 : d' + 1 ≤ d) (hX : ∀ E m', ¬ X' E m') (k : G w y Z d kc ks q lv (xps r rest) m) : G w y Z d kc ks pc lv stk m :=
  g_staticNR hi hl0 hc hd hq hst hn hcat h1 (Nat.zero_le _) (Nat.zero_le _) hX k
theorem g_virtualNR {i n d' kc' ks' b ci N : Nat} {host : String} {T : u_T} {fs : List Value} {y2 : XY} {as rest stk : List Value} {r : Option Value} {m2 : XM} {X' : String → XM → Prop} (hi : XInV y2 n) (hl0 : Cond.methodLinkNest y.1.cls i y2.1 host ∈ lw_tbl) (hc : CT w y2 d' kc' ks' (.ref b :: as) m (xRet r m2) X') (hm : xkn w m b (.inr (ci, fs))) (hci : vwCl[ci]? = some (y2.1.cls, T, N)) (hci2 : ci < 100) (hd : decode y.2.1 pc = .ok (.invokevirtual i, 3)) (hq : pc + 3 = q) (hst : stk = as.reverse ++ .ref b :: rest) (hn : as.length = n) (hcat : (rest.map fun v => v.category).sum ≤ 8) (h1 : d' + 1 ≤ d) (hkc : kc' ≤ kc) (hks : ks' ≤ ks) (hX : ∀ E m', ¬ X' E m') (k : G w y Z d (kc - kc') (ks - ks') q lv (xps r rest) m2) : G w y Z d kc ks pc lv stk m :=
  g_virtualN hi hl0 hc hm hci hci2 hd hq hst hn hcat h1 hkc hks hX (fun v m' hp => by obtain ⟨rfl, rfl⟩ := hp; exact k)
theorem g_virtualNP {i n d'  b ci N : Nat} {host : String} {T : u_T} {fs : List Value} {y2 : XY} {as rest stk : List Value} {r : Option Value} {X' : String → XM → Prop} (hi : XInV y2 n) (hl0 : Cond.methodLinkNest y.1.cls i y2.1 host ∈ lw_tbl) (hc : CT w y2 d' 0 0 (.ref b :: as) m (xRet r m) X') (hm : xkn w m b (.inr (ci, fs))) (hci : vwCl[ci]? = some (y2.1.cls, T, N)) (hci2 : ci < 100) (hd : decode y.2.1 pc = .ok (.invokevirtual i, 3)) (hq : pc + 3 = q) (hst : stk = as.reverse ++ .ref b :: rest) (hn : as.length = n) (hcat : (rest.map fun v => v.category).sum ≤ 8) (h1 : d' + 1 ≤ d) (hX : ∀ E m', ¬ X' E m') (k : G w y Z d kc ks q lv (xps r rest) m) : G w y Z d kc ks pc lv stk m :=
  g_virtualNR hi hl0 hc hm hci hci2 hd hq hst hn hcat h1 (Nat.zero_le _) (Nat.zero_le _) hX k
theorem g_ctorNR {i n d' kc' ks' b : Nat} {host : String} {y2 : XY} {as rest stk : List Value} {r : Option Value} {m2 : XM} {X' : String → XM → Prop} (hi : XInC y2 n) (hl0 : Cond.methodLinkNest y.1.cls i y2.1 host ∈ lw_tbl) (hc : CT w y2 d' kc' ks' (.ref b :: as) m (xRet r m2) X') (hd : decode y.2.1 pc = .ok (.invokespecial i, 3)) (hq : pc + 3 = q) (hst : stk = as.reverse ++ .ref b :: rest) (hn : as.length = n) (hcat : (rest.map fun v => v.category).sum ≤ 8) (h1 : d' + 1 ≤ d) (hkc : kc' ≤ kc) (hks : ks' ≤ ks) (hX : ∀ E m', ¬ X' E m') (k : G w y Z d (kc - kc') (ks - ks') q lv (xps r rest) m2) : G w y Z d kc ks pc lv stk m :=
  g_ctorN hi hl0 hc hd hq hst hn hcat h1 hkc hks hX (fun v m' hp => by obtain ⟨rfl, rfl⟩ := hp; exact k)
theorem g_ctorNP {i n d'  b : Nat} {host : String} {y2 : XY} {as rest stk : List Value} {r : Option Value} {X' : String → XM → Prop} (hi : XInC y2 n) (hl0 : Cond.methodLinkNest y.1.cls i y2.1 host ∈ lw_tbl) (hc : CT w y2 d' 0 0 (.ref b :: as) m (xRet r m) X') (hd : decode y.2.1 pc = .ok (.invokespecial i, 3)) (hq : pc + 3 = q) (hst : stk = as.reverse ++ .ref b :: rest) (hn : as.length = n) (hcat : (rest.map fun v => v.category).sum ≤ 8) (h1 : d' + 1 ≤ d) (hX : ∀ E m', ¬ X' E m') (k : G w y Z d kc ks q lv (xps r rest) m) : G w y Z d kc ks pc lv stk m :=
  g_ctorNR hi hl0 hc hd hq hst hn hcat h1 (Nat.zero_le _) (Nat.zero_le _) hX k
theorem g_ifaceR {i cnt n d' kc' ks' b ci N : Nat} {x : MethodName} {C : String} {T : u_T} {fs : List Value} {y2 : XY} {as rest stk : List Value} {r : Option Value} {m2 : XM} {X' : String → XM → Prop} (hi : XInI x C y2 n) (hl0 : Cond.methodLink y.1.cls i x ∈ lw_all) (hc : CT w y2 d' kc' ks' (.ref b :: as) m (xRet r m2) X') (hm : xkn w m b (.inr (ci, fs))) (hci : vwCl[ci]? = some (C, T, N)) (hci2 : ci < 100) (hd : decode y.2.1 pc = .ok (.invokeinterface i cnt, 5)) (hq : pc + 5 = q) (hst : stk = as.reverse ++ .ref b :: rest) (hn : as.length = n) (hcat : (rest.map fun v => v.category).sum ≤ 8) (h1 : d' + 1 ≤ d) (hkc : kc' ≤ kc) (hks : ks' ≤ ks) (hX : ∀ E m', ¬ X' E m') (k : G w y Z d (kc - kc') (ks - ks') q lv (xps r rest) m2) : G w y Z d kc ks pc lv stk m :=
  g_iface hi hl0 hc hm hci hci2 hd hq hst hn hcat h1 hkc hks hX (fun v m' hp => by obtain ⟨rfl, rfl⟩ := hp; exact k)
theorem g_ifaceP {i cnt n d'  b ci N : Nat} {x : MethodName} {C : String} {T : u_T} {fs : List Value} {y2 : XY} {as rest stk : List Value} {r : Option Value} {X' : String → XM → Prop} (hi : XInI x C y2 n) (hl0 : Cond.methodLink y.1.cls i x ∈ lw_all) (hc : CT w y2 d' 0 0 (.ref b :: as) m (xRet r m) X') (hm : xkn w m b (.inr (ci, fs))) (hci : vwCl[ci]? = some (C, T, N)) (hci2 : ci < 100) (hd : decode y.2.1 pc = .ok (.invokeinterface i cnt, 5)) (hq : pc + 5 = q) (hst : stk = as.reverse ++ .ref b :: rest) (hn : as.length = n) (hcat : (rest.map fun v => v.category).sum ≤ 8) (h1 : d' + 1 ≤ d) (hX : ∀ E m', ¬ X' E m') (k : G w y Z d kc ks q lv (xps r rest) m) : G w y Z d kc ks pc lv stk m :=
  g_ifaceR hi hl0 hc hm hci hci2 hd hq hst hn hcat h1 (Nat.zero_le _) (Nat.zero_le _) hX k
theorem g_virtualAR {i n d' kc' ks' b ci N : Nat} {x : MethodName} {C : String} {T : u_T} {fs : List Value} {y2 : XY} {as rest stk : List Value} {r : Option Value} {m2 : XM} {X' : String → XM → Prop} (hi : XInU x C y2 n) (hl0 : Cond.methodLink y.1.cls i x ∈ lw_all) (hc : CT w y2 d' kc' ks' (.ref b :: as) m (xRet r m2) X') (hm : xkn w m b (.inr (ci, fs))) (hci : vwCl[ci]? = some (C, T, N)) (hci2 : ci < 100) (hd : decode y.2.1 pc = .ok (.invokevirtual i, 3)) (hq : pc + 3 = q) (hst : stk = as.reverse ++ .ref b :: rest) (hn : as.length = n) (hcat : (rest.map fun v => v.category).sum ≤ 8) (h1 : d' + 1 ≤ d) (hkc : kc' ≤ kc) (hks : ks' ≤ ks) (hX : ∀ E m', ¬ X' E m') (k : G w y Z d (kc - kc') (ks - ks') q lv (xps r rest) m2) : G w y Z d kc ks pc lv stk m :=
  g_virtualA hi hl0 hc hm hci hci2 hd hq hst hn hcat h1 hkc hks hX (fun v m' hp => by obtain ⟨rfl, rfl⟩ := hp; exact k)
theorem g_virtualAP {i n d'  b ci N : Nat} {x : MethodName} {C : String} {T : u_T} {fs : List Value} {y2 : XY} {as rest stk : List Value} {r : Option Value} {X' : String → XM → Prop} (hi : XInU x C y2 n) (hl0 : Cond.methodLink y.1.cls i x ∈ lw_all) (hc : CT w y2 d' 0 0 (.ref b :: as) m (xRet r m) X') (hm : xkn w m b (.inr (ci, fs))) (hci : vwCl[ci]? = some (C, T, N)) (hci2 : ci < 100) (hd : decode y.2.1 pc = .ok (.invokevirtual i, 3)) (hq : pc + 3 = q) (hst : stk = as.reverse ++ .ref b :: rest) (hn : as.length = n) (hcat : (rest.map fun v => v.category).sum ≤ 8) (h1 : d' + 1 ≤ d) (hX : ∀ E m', ¬ X' E m') (k : G w y Z d kc ks q lv (xps r rest) m) : G w y Z d kc ks pc lv stk m :=
  g_virtualAR hi hl0 hc hm hci hci2 hd hq hst hn hcat h1 (Nat.zero_le _) (Nat.zero_le _) hX k
theorem CT_post {kc' ks' : Nat} {as : List Value} {P P' : Option Value → XM → Prop} {X : String → XM → Prop} (h : CT w y d kc' ks' as m P X) (hP : ∀ v m', P v m' → P' v m') : CT w y d kc' ks' as m P' X := by
  intro ok
  refine MetFree.mono (h ok) (fun a s h => h) (fun _ _ _ _ _ h => h) (fun a s o t _ hq => ?_)
  rcases hq with ⟨⟨r, m', h1, h2, h3⟩, h4⟩ | h
  · exact Or.inl ⟨⟨r, m', h1, hP r m' h2, h3⟩, h4⟩
  · exact Or.inr h
end CALLSR
