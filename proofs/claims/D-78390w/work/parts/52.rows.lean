/-! ROWS: statics, casts, references stored, arrays of references -/
set_option maxRecDepth 100000
theorem xco {w : XW} (ok : XOk w) : XCo w := ok.2.2.2.2.2
section ROWS14
variable {w : XW} {y : XY} {Z : XZ} {d kc ks pc q : Nat} {lv : List (Option Value)} {st : List Value} {m : XM}
theorem x_Z {C n d0 : String} {v : Value} {s : State} {H : Heap} (hz : xZst w C n d0 v) (hW : (xs0 w).WarmedH s.vm) (hr : xRep w m H) : va_Z C n d0 v (xFree w) s H :=
  (va_Z.moved hW.alike hz).kept (fun a _ h2 => hr.2.1 a (Nat.lt_of_not_le h2))
theorem x_T {ty : FieldType} {a n : Nat} {f : Nat → Value} {s : State} {H : Heap} (hz : va_T ty a n f (xFree w) (xs0 w) (xs0 w).heap) (hW : (xs0 w).WarmedH s.vm) (hr : xRep w m H) : va_T ty a n f (xFree w) s H :=
  (va_T.moved hW.alike hz).kept (fun a _ h2 => hr.2.1 a (Nat.lt_of_not_le h2))
theorem g_gets {index : Nat} {C n d0 : String} {v : Value} (hl0 : Cond.fieldLink y.1.cls index C n d0 ∈ lw_all) (hz : XCo w → xZst w C n d0 v) (hd : decode y.2.1 pc = .ok (.getstatic index, 3)) (hq : pc + 3 = q) (kk : G w y Z d kc ks q lv (v :: st) m) : G w y Z d kc ks pc lv st m := by
  subst hq
  intro ok p e R s mi args below meth c H locs cells slots Q ls cx hl
  obtain ⟨cf, kf, fi, f, a, cell, h1, h2, h3, h4, h5, h6, h7, h8⟩ := x_Z (hz (xco ok)) (cx_w cx) (cx_rep cx)
  exact W.gets (cx_x cx) (cx_b cx) (cx_own cx) (cx_ts cx _ hl0) h1 h2 h3 h4 h5 (fun e => by rw [e] at h6; cases h6) h7 rfl hd (kk ok cx hl)
/-- a static that holds null or something -/
theorem g_getsq {index : Nat} {C n d0 : String} (hl0 : Cond.fieldLink y.1.cls index C n d0 ∈ lw_all) (hz : XCo w → va_Zq C n d0 (xFree w) (xs0 w) (xs0 w).heap) (hd : decode y.2.1 pc = .ok (.getstatic index, 3)) (hq : pc + 3 = q) (kk : ∀ r : Option Nat, G w y Z d kc ks q lv (va_rf r :: st) m) : G w y Z d kc ks pc lv st m := by
  intro ok
  rcases hz (xco ok) with h | ⟨t, h⟩
  · exact g_gets hl0 (fun _ => h) hd hq (kk none) ok
  · exact g_gets hl0 (fun _ => h) hd hq (kk (some t)) ok
/-- an element of a table of the start's objects -/
theorem g_aaldT {C : String} {a n j : Nat} {f : Nat → Value} (hz : XCo w → va_T (.object C) a n f (xFree w) (xs0 w) (xs0 w).heap) (hd : decode y.2.1 pc = .ok (.aaload, 1)) (hq : pc + 1 = q) (hj : j < n) (hn : n < 2 ^ 31) (kk : G w y Z d kc ks q lv (f j :: st) m) : G w y Z d kc ks pc lv (.int (nI j) :: .ref a :: st) m := by
  subst hq
  intro ok p e R s mi args below meth c H locs cells slots Q ls cx hl
  have hT := x_T (hz (xco ok)) (cx_w cx) (cx_rep cx)
  obtain ⟨cell, h1, h2, h3, h4, h5, h6, h7⟩ := hT
  have hb : ¬ (nI j < 0 ∨ cell.slots.size ≤ (nI j).toNatClampNeg) := by
    rintro (h | h)
    · exact nI_pos (by omega) h
    · rw [nI_clamp (by omega)] at h; omega
  exact W.aald (v := f j) (ty := .object C) (cx_x cx) (cx_b cx) h1 h2 rfl h3 hb (by rw [nI_clamp (by omega)]; exact h6 j hj) rfl rfl hd (kk ok cx hl)
theorem g_castO {index ci N : Nat} {nm C : String} {T : u_T} {a : Nat} {fs : List Value} (hl0 : Cond.classLink y.1.cls index nm ∈ lw_all) (hc : vwCl[ci]? = some (C, T, N)) (hci : ci < 100) (hk : C = nm ∨ Cond.castable C nm ∈ lw_tbl) (hd : decode y.2.1 pc = .ok (.checkcast index, 3)) (hq : pc + 3 = q) (hm : xkn w m a (.inr (ci, fs))) (kk : G w y Z d kc ks q lv (.ref a :: st) m) : G w y Z d kc ks pc lv (.ref a :: st) m := by
  subst hq
  intro ok p e R s mi args below meth c H locs cells slots Q ls cx hl
  have hr := x_recv ok cx hc hci hm
  rcases hk with rfl | hk
  · exact va_castE (cx_x cx) (cx_b cx) (cx_own cx) (cx_ts cx _ hl0) hr hd (kk ok cx hl)
  · exact va_castY (cx_x cx) (cx_b cx) (cx_own cx) (cx_ts cx _ hl0) (va_Nw.warmC (cx_w cx) (va_Nw.of rfl (ok.1 _ hk))) hr hd (kk ok cx hl)
theorem g_castN {index : Nat} (hd : decode y.2.1 pc = .ok (.checkcast index, 3)) (hq : pc + 3 = q) (kk : G w y Z d kc ks q lv (.null :: st) m) : G w y Z d kc ks pc lv (.null :: st) m := by
  subst hq
  intro ok p e R s mi args below meth c H locs cells slots Q ls cx hl
  exact lv_castN (cx_x cx) (cx_b cx) hd (kk ok cx hl)
theorem g_castA {index t : Nat} {E : String} {nm : String} {a n : Nat} {f : Nat → Option Nat} (hl0 : Cond.classLink y.1.cls index nm ∈ lw_all) (ht : xTs[t]? = some (.object E)) (he : "[" ++ (FieldType.object E).toString = nm) (hd : decode y.2.1 pc = .ok (.checkcast index, 3)) (hq : pc + 3 = q) (hm : xkn w m a (rA t n f)) (kk : G w y Z d kc ks q lv (.ref a :: st) m) : G w y Z d kc ks pc lv (.ref a :: st) m := by
  subst hq
  intro ok p e R s mi args below meth c H locs cells slots Q ls cx hl
  have hP : va_P (xD w) vwCl [(a, .inl (xTY w t, n, .inr (.inr (.inr (.inr f)))))] H := fun k q hk => by
    match k, hk with
    | 0, hk => cases hk; exact xkn_at ok (cx_rep cx) hm
    | k + 1, hk => simp at hk
  exact va_castA (cx_x cx) (cx_b cx) (cx_own cx) (cx_ts cx _ hl0) hP 0 rfl (va_nmO (x_ty ok cx ht).2 he) hd (kk ok cx hl)
theorem g_instY {index ci N : Nat} {nm C : String} {T : u_T} {a : Nat} {fs : List Value} (hl0 : Cond.classLink y.1.cls index nm ∈ lw_all) (hc : vwCl[ci]? = some (C, T, N)) (hci : ci < 100) (hk : C = nm) (hd : decode y.2.1 pc = .ok (.instanceof index, 3)) (hq : pc + 3 = q) (hm : xkn w m a (.inr (ci, fs))) (kk : G w y Z d kc ks q lv (.int (nI 1) :: st) m) : G w y Z d kc ks pc lv (.ref a :: st) m := by
  subst hq; subst hk
  intro ok p e R s mi args below meth c H locs cells slots Q ls cx hl
  exact va_instE (cx_x cx) (cx_b cx) (cx_own cx) (cx_ts cx _ hl0) (x_recv ok cx hc hci hm) hd (kk ok cx hl)
theorem g_instN {index ci N : Nat} {nm C : String} {T : u_T} {a : Nat} {fs : List Value} (hl0 : Cond.classLink y.1.cls index nm ∈ lw_all) (hc : vwCl[ci]? = some (C, T, N)) (hci : ci < 100) (hk : XCo w → va_Nc C nm (xs0 w)) (hd : decode y.2.1 pc = .ok (.instanceof index, 3)) (hq : pc + 3 = q) (hm : xkn w m a (.inr (ci, fs))) (kk : G w y Z d kc ks q lv (.int (nI 0) :: st) m) : G w y Z d kc ks pc lv (.ref a :: st) m := by
  subst hq
  intro ok p e R s mi args below meth c H locs cells slots Q ls cx hl
  exact va_instNo (cx_x cx) (cx_b cx) (cx_own cx) (cx_ts cx _ hl0) (va_Nc.moved (cx_w cx).alike (hk (xco ok))) (x_recv ok cx hc hci hm) hd (kk ok cx hl)
theorem xnc {w : XW} {C T : String} (h : (C, T) ∈ [("FormulaEditor$Symbol", "FormulaEditor$Structure"), ("FormulaEditor$Structure", "FormulaEditor$Symbol"), ("java/util/HashMap$Node", "java/util/HashMap$TreeNode"), ("java/lang/IllegalStateException", "java/lang/IllegalArgumentException"), ("java/lang/IllegalArgumentException", "java/lang/IndexOutOfBoundsException"), ("java/lang/IllegalStateException", "java/lang/IndexOutOfBoundsException")]) : XCo w → va_Nc C T (xs0 w) :=
  fun hc => hc.2.2.2.2.2.2.2.2.2.2.1 _ h
/-- an object that the map holds may lie in an array over E -/
theorem xany_obj {a ci N : Nat} {C E : String} {T : u_T} {fs : List Value} (hm : xkn w m a (.inr (ci, fs))) (hc : vwCl[ci]? = some (C, T, N)) (hci : ci < 100) (hk : C = E ∨ Cond.castable C E ∈ lw_tbl) : xany w m E a := by
  intro ok s H hW hr
  obtain ⟨cell, q1, q2, q3, q4⟩ := x_obj hc hci (xkn_at ok hr hm)
  have hfc := (va_K.moved hW.alike ok.2.1).1 ci _ hc
  have hcl : s.vm.findClass C = some cell.cls := by rw [q2]; exact hfc.2.1
  obtain ⟨kC, hkC, -⟩ := Vm.findClass_spec hcl
  refine ⟨cell, q1, by rw [q3]; rfl, ⟨kC, hkC⟩, fun comp hcomp => ?_⟩
  rcases hk with rfl | hk
  · rw [hcl] at hcomp; cases hcomp; exact va_asg _ _
  · obtain ⟨c0, t0, f1, f2, f3⟩ := Cond.castable_spec (va_Nw.use (A := #[]) rfl (va_Nw.warmC hW (va_Nw.of rfl (ok.1 _ hk))))
    cases hcl.symm.trans f1
    cases hcomp.symm.trans f2
    exact f3
theorem g_aast {t n : Nat} {C : String} {f : Nat → Option Nat} {a v : Nat} {i : Int32} (ht : xTs[t]? = some (.object C)) (hd : decode y.2.1 pc = .ok (.aastore, 1)) (hq : pc + 1 = q) (hm : m a = some (rA t n f)) (hi : vp_in i n) (hv : xany w m C v) (kk : G w y Z d kc ks q lv st (xu m a (rA t n (va_up f i.toNatClampNeg (some v))))) : G w y Z d kc ks pc lv (.ref v :: .int i :: .ref a :: st) m := by
  subst hq
  intro ok p e R s mi args below meth c H locs cells slots Q ls cx hl
  have hlt : i.toNatClampNeg < n := Nat.not_le.mp fun q => hi (Or.inr q)
  have h0 : ¬ i < 0 := fun q => hi (Or.inl q)
  obtain ⟨hb, hat⟩ := (cx_rep cx).2.2 a _ hm
  obtain ⟨cellV, g1, g3, ⟨kC, hkC⟩, hasg⟩ := hv ok s H (cx_w cx) (cx_rep cx)
  obtain ⟨kA, comp, k1, k2, k3, -⟩ := (x_ty ok cx ht).2
  obtain ⟨kE, hkE, -⟩ := Vm.findClass_spec k3
  refine W.aast (cx_x cx) (cx_b cx) hat (fun q h => by cases h) (fun h => by cases h) k1 k2 rfl hkE ⟨h0, by show _ < (arrV _ _ _).slots.size; rw [arrV_size]; exact hlt⟩ g1 (fun q h => by rw [h] at g3; cases g3) hkC (hasg _ k3) rfl rfl hd fun H1 e1 z oq => ?_
  refine kk ok (cx_to cx (cx_kc cx) (cx_ks cx) (xRep_put (cx_rep cx) hm ?_ z oq) (x_S (cx_S cx) z oq hb)) hl
  show H1[a]? = some (vp_cell _ _)
  rw [e1]
  rw [vp_cell_q, vp_cell_q, arrV_store]
  congr 2
  funext j
  by_cases hj : j = i.toNatClampNeg
  · subst hj
    simp [updV, va_up, va_rf]
  · simp [updV, va_up, hj]
theorem g_aastn {t n j : Nat} {C : String} {f : Nat → Option Nat} {a v : Nat} (ht : xTs[t]? = some (.object C)) (hd : decode y.2.1 pc = .ok (.aastore, 1)) (hq : pc + 1 = q) (hm : m a = some (rA t n f)) (hi : j < n) (hn : n < 2 ^ 31) (hv : xany w m C v) (kk : G w y Z d kc ks q lv st (xu m a (rA t n (va_up f j (some v))))) : G w y Z d kc ks pc lv (.ref v :: .int (nI j) :: .ref a :: st) m :=
  g_aast ht hd hq hm (vp_in_nI hi hn) hv (by rw [nI_clamp (by omega)]; exact kk)
theorem g_aastN {t n : Nat} {C : String} {f : Nat → Option Nat} {a : Nat} {i : Int32} (ht : xTs[t]? = some (.object C)) (hd : decode y.2.1 pc = .ok (.aastore, 1)) (hq : pc + 1 = q) (hm : m a = some (rA t n f)) (hi : vp_in i n) (kk : G w y Z d kc ks q lv st (xu m a (rA t n (va_up f i.toNatClampNeg none)))) : G w y Z d kc ks pc lv (.null :: .int i :: .ref a :: st) m := by
  subst hq
  intro ok p e R s mi args below meth c H locs cells slots Q ls cx hl
  obtain ⟨hb, hat⟩ := (cx_rep cx).2.2 a _ hm
  have hT := (x_ty ok cx ht).1
  refine va_WaastN (cx_x cx) (cx_b cx) hat (hT n (fun j => va_rf (f j))) (fun q => by cases q) (by show ¬ (i < 0 ∨ (arrV _ _ _).slots.size ≤ _); rw [arrV_size]; exact hi) rfl rfl hd fun H1 e1 z oq => ?_
  refine kk ok (cx_to cx (cx_kc cx) (cx_ks cx) (xRep_put (cx_rep cx) hm ?_ z oq) (x_S (cx_S cx) z oq hb)) hl
  show H1[a]? = some (vp_cell _ _)
  rw [e1]
  rw [vp_cell_q, vp_cell_q, arrV_store]
  congr 2
  funext j
  by_cases hj : j = i.toNatClampNeg
  · subst hj
    simp [updV, va_up, va_rf]
  · simp [updV, va_up, hj]
theorem g_aastNn {t n j : Nat} {C : String} {f : Nat → Option Nat} {a : Nat} (ht : xTs[t]? = some (.object C)) (hd : decode y.2.1 pc = .ok (.aastore, 1)) (hq : pc + 1 = q) (hm : m a = some (rA t n f)) (hi : j < n) (hn : n < 2 ^ 31) (kk : G w y Z d kc ks q lv st (xu m a (rA t n (va_up f j none)))) : G w y Z d kc ks pc lv (.null :: .int (nI j) :: .ref a :: st) m :=
  g_aastN ht hd hq hm (vp_in_nI hi hn) (by rw [nI_clamp (by omega)]; exact kk)
theorem g_newq {index t n : Nat} {C : String} (hl0 : Cond.classLink y.1.cls index C ∈ lw_all) (hov : Cond.arrayOver (.object C) ∈ lw_tbl) (ht : xTs[t]? = some (.object C)) (hd : decode y.2.1 pc = .ok (.anewarray index, 3)) (hq : pc + 3 = q) (hn : n ≤ 60000000) (h1 : 1 ≤ kc) (h2 : n ≤ ks) (kk : ∀ a : Nat, m a = none → xBase w ≤ a → G w y Z d (kc - 1) (ks - n) q lv (.ref a :: st) (xu m a (rA t n (fun _ => none)))) : G w y Z d kc ks pc lv (.int (nI n) :: st) m := by
  subst hq
  intro ok p e R s mi args below meth c H locs cells slots Q ls cx hl
  have hr := cx_rep cx
  have k1 := cx_kc cx
  have k2 := cx_ks cx
  have hcl : (nI n).toNatClampNeg = n := nI_clamp (by omega)
  refine W.anew (cx_x cx) (cx_b cx) (cx_own cx) (cx_ts cx _ hl0) (va_AO.use (va_AO.moved (cx_w cx).alike (va_AO.of (ok.1 _ hov)))) rfl hd rfl (nI_pos (by omega)) (by rw [hcl]; omega) (by omega) (by rw [hcl]; omega) fun cA kA comp f1 f2 f3 f4 => ?_
  rw [hcl]
  generalize hH1 : H.push ({ cls := cA, slots := Array.replicate n .null, vm := .none } : Cell) = H1
  have z1 : H1.size = H.size + 1 := by rw [← hH1, Array.size_push]
  have e1 : H1[H.size]? = some (arrV cA n (fun _ => .null)) := by rw [← hH1, Array.getElem?_push_size, ← arrV_new]
  have o1 : ∀ q : Nat, q < H.size → H1[q]? = H[q]? := fun q hq => by rw [← hH1, Array.getElem?_push, if_neg (Nat.ne_of_lt hq)]
  have hT : xTY w t = cA := by
    have := va_nmO (x_ty ok cx ht).2 rfl
    exact Option.some.inj (this.symm.trans f1)
  refine kk H.size (xRep_no hr) hr.1 ok (cx_to cx (by omega) (by omega) (xRep_new hr ?_ z1 o1) (x_Snew (cx_S cx) z1 o1)) hl
  show H1[H.size]? = some (vp_cell _ _)
  rw [vp_cell_q, hT]
  exact e1
end ROWS14
