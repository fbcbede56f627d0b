/-! ROWS: System.arraycopy, Math.max and min, texts, classes, the superclass's method -/
set_option maxRecDepth 100000
section ROWS15
variable {w : XW} {y : XY} {Z : XZ} {d kc ks pc q : Nat} {lv : List (Option Value)} {st : List Value} {m : XM}
theorem x_SL {s : State} {H H1 : Heap} {locs L : List Loc} {a : Nat} (h : va_S (xFree w) s.heap H locs) (z : H1.size = H.size) (oq : ∀ q : Nat, q ≠ a → H1[q]? = H[q]?) (ha : xBase w ≤ a) (hL : ∀ q ∈ L, q.base = a) : va_S (xFree w) s.heap H1 (locs ++ L) :=
  ⟨by rw [z]; exact h.1, fun q g1 g2 => by
      rw [oq q (fun e => g2 (by rw [e]; exact ha))]
      exact h.2.1 q g1 g2, fun q hq => by
      rcases List.mem_append.mp hq with h1 | h1
      · exact h.2.2 q h1
      · rw [hL q h1]; exact ha⟩
theorem x_w8 {R : Room} (h1 : 1 ≤ d) (hlo : 96 * d ≤ R.locals) (hcat : (st.map fun v => v.category).sum ≤ 8) : (st.map fun v => v.category).sum + (nativeFrameWords "java/lang/System" "arraycopy" 5 + 11) ≤ R.locals := by
  have : nativeFrameWords "java/lang/System" "arraycopy" 5 + 11 ≤ 80 := by decide
  omega
theorem g_acopyq {index n0 n1 sp dp n a0 a : Nat} {f g : Nat → Option Nat} (hl0 : Cond.methodLink y.1.cls index arraycopyName ∈ lw_all) (hd : decode y.2.1 pc = .ok (.invokestatic index, 3)) (hq : pc + 3 = q) (hm0 : xkn w m a0 (rA 5 n0 f)) (hm1 : m a = some (rA 5 n1 g)) (h4 : sp + n ≤ n0) (h5 : dp + n ≤ n1) (hN0 : n0 ≤ 60000000) (hN1 : n1 ≤ 60000000)
    (hel : ∀ i, i < n → ∀ z, f (sp + i) = some z → xany w m "java/lang/Object" z) (hcat : (st.map fun v => v.category).sum ≤ 8) (h1 : 1 ≤ d) (kk : G w y Z d kc ks q lv st (xu m a (rA 5 n1 (va_cpy f g sp dp n)))) : G w y Z d kc ks pc lv (.int (nI n) :: .int (nI dp) :: .ref a :: .int (nI sp) :: .ref a0 :: st) m := by
  subst hq
  intro ok p e R s mi args below meth c H locs cells slots Q ls cx hl T hT X
  have ht : xTs[5]? = some (.object "java/lang/Object") := rfl
  obtain ⟨hb, hat⟩ := (cx_rep cx).2.2 a _ hm1
  have hc0 : H[a0]? = some (vp_cell (xTY w 5) (n0, .inr (.inr (.inr (.inr f))))) := xkn_at ok (cx_rep cx) hm0
  have hc1 : H[a]? = some (vp_cell (xTY w 5) (n1, .inr (.inr (.inr (.inr g))))) := hat
  obtain ⟨hA, hRA⟩ := x_ty ok cx ht
  obtain ⟨-, k0, hk0, cm0, hkk0⟩ := hA n0 (fun j => va_rf (f j))
  obtain ⟨-, k1, hk1, cm1, hkk1⟩ := hA n1 (fun j => va_rf (g j))
  have es : (nI sp).toNatClampNeg = sp := nI_clamp (by omega)
  have ed : (nI dp).toNatClampNeg = dp := nI_clamp (by omega)
  have en : (nI n).toNatClampNeg = n := nI_clamp (by omega)
  obtain ⟨vm', X', step⟩ := X.arraycopy (cx_x cx) (cx_own cx) (cx_ts cx _ hl0) (cx_ts cx _ q402) (cx_ts cx _ q401) (cx_ts cx _ q78) (src := a0) (dst := a) (cs := vp_cell (xTY w 5) (n0, .inr (.inr (.inr (.inr f))))) (cd := vp_cell (xTY w 5) (n1, .inr (.inr (.inr (.inr g))))) (srcPos := nI sp) (destPos := nI dp) (n := nI n) (by rw [hT]; exact hc0) (by rw [hT]; exact hc1)
    (fun _ h => by cases h) (fun _ h => by cases h) (fun h => by cases h) (fun h => by cases h) hk0 hk1 hkk0 hkk1 rfl (nI_pos (by omega)) (nI_pos (by omega)) (nI_pos (by omega))
    (by rw [nI_toInt (by omega), nI_toInt (by omega)]; show ¬ _ > ((arrV (xTY w 5) n0 (fun j => va_rf (f j))).slots.size : Int); rw [arrV_size]; omega)
    (by rw [nI_toInt (by omega), nI_toInt (by omega)]; show ¬ _ > ((arrV (xTY w 5) n1 (fun j => va_rf (g j))).slots.size : Int); rw [arrV_size]; omega)
    (fun vm₁ hal i hi => by
      rw [en] at hi
      rw [es]
      have e : (vp_cell (xTY w 5) (n0, .inr (.inr (.inr (.inr f))))).slots.getD (sp + i) .null = va_rf (f (sp + i)) := by
        show (arrV (xTY w 5) n0 (fun j => va_rf (f j))).slots.getD _ _ = _
        rw [Array.getD_eq_getD_getElem?, arrV_read _ _ (by omega)]
        rfl
      rw [e]
      cases hy : f (sp + i) with
      | none => exact ⟨rfl, trivial⟩
      | some z =>
        obtain ⟨cellV, g1, g2, ⟨kC, hkC⟩, hasg⟩ := hel i hi z hy ok s H (cx_w cx) (cx_rep cx)
        obtain ⟨kA, comp, r1, r2, r3, -⟩ := hRA
        cases hk1.symm.trans r1
        cases hkk1.symm.trans r2
        obtain ⟨kE, hkE, -⟩ := Vm.findClass_spec r3
        obtain ⟨kC', hkC', -⟩ := hal.2.2 _ _ hkC
        obtain ⟨kE', hkE', -⟩ := hal.2.2 _ _ hkE
        refine ⟨rfl, cellV, (show T.heap[z]? = some cellV by rw [hT]; exact g1), (fun q h => by rw [h] at g2; cases g2), ⟨kC', hkC'⟩, ?_, ?_⟩
        · exact ⟨kE', hkE'⟩
        · show vm₁.assignable _ _ = true
          rw [hal.assignable]
          exact hasg _ r3)
    (g := F0 mi pc ls (.int (nI n) :: .int (nI dp) :: .ref a :: .int (nI sp) :: .ref a0 :: st)) rfl (by rw [cx_ml cx]; exact hl.1) (rest := st) rfl (by rw [cx_b cx]; exact hd) (by have := cx_fr cx; omega) (by show 2 * 0 + _ + _ ≤ _; have := x_w8 h1 (cx_lo cx) hcat; omega)
  have e1 : copied (vp_cell (xTY w 5) (n0, .inr (.inr (.inr (.inr f))))) (vp_cell (xTY w 5) (n1, .inr (.inr (.inr (.inr g))))) (nI sp) (nI dp) (nI n) = vp_cell (xTY w 5) (n1, .inr (.inr (.inr (.inr (va_cpy f g sp dp n))))) := by
    rw [vp_cell_q, vp_cell_q, vp_cell_q]
    have := va_copied (fun z => va_rf z) (xTY w 5) (xTY w 5) f g (n0 := n0) (n1 := n1) (sp := (nI sp).toNatClampNeg) (dp := (nI dp).toNatClampNeg) (n := (nI n).toNatClampNeg) (by rw [es, en]; exact h4)
    rw [show va_cpy f g sp dp n = va_cpy f g (nI sp).toNatClampNeg (nI dp).toNatClampNeg (nI n).toNatClampNeg by rw [es, ed, en]]
    exact this
  rw [e1] at X' step
  have hl9 : a < H.size := (Array.getElem?_eq_some_iff.mp hc1).1
  generalize hv : vp_cell (xTY w 5) (n1, .inr (.inr (.inr (.inr (va_cpy f g sp dp n))))) = cv at X' step
  have hheap : ((T.setVm vm').setCell a cv).heap = H.setIfInBounds a cv := by rw [← hT]; rfl
  have oq : ∀ q : Nat, q ≠ a → (H.setIfInBounds a cv)[q]? = H[q]? := fun q hq => by simp [Array.getElem?_setIfInBounds, Ne.symm hq]
  have hz : (H.setIfInBounds a cv).size = H.size := by simp
  obtain ⟨t, a1, b1⟩ := kk ok (cx_to cx (cx_kc cx) (cx_ks cx) (xRep_put (cx_rep cx) hm1 (show (H.setIfInBounds a cv)[a]? = some (vp_cell _ _) by rw [hv]; simp [Array.getElem?_setIfInBounds, hl9]) hz oq) (x_SL (cx_S cx) hz oq hb (fun q hq => by
      obtain ⟨z, -, hz⟩ := List.mem_map.mp hq
      rw [← hz]))) hl _ hheap X'
  exact ⟨t, step t a1, b1⟩
theorem g_acopyb {index n0 n1 sp dp n a0 a : Nat} {f g : Nat → Int32} (hl0 : Cond.methodLink y.1.cls index arraycopyName ∈ lw_all) (hd : decode y.2.1 pc = .ok (.invokestatic index, 3)) (hq : pc + 3 = q) (hm0 : xkn w m a0 (iA 4 n0 f)) (hm1 : m a = some (iA 4 n1 g)) (h4 : sp + n ≤ n0) (h5 : dp + n ≤ n1) (hN0 : n0 ≤ 60000000) (hN1 : n1 ≤ 60000000)
    (hel : ∀ i, i < n → fits .byte (.int (f (sp + i))) = true) (hcat : (st.map fun v => v.category).sum ≤ 8) (h1 : 1 ≤ d) (kk : G w y Z d kc ks q lv st (xu m a (iA 4 n1 (va_cpy f g sp dp n)))) : G w y Z d kc ks pc lv (.int (nI n) :: .int (nI dp) :: .ref a :: .int (nI sp) :: .ref a0 :: st) m := by
  subst hq
  intro ok p e R s mi args below meth c H locs cells slots Q ls cx hl T hT X
  have ht : xTs[4]? = some .byte := rfl
  obtain ⟨hb, hat⟩ := (cx_rep cx).2.2 a _ hm1
  have hc0 : H[a0]? = some (vp_cell (xTY w 4) (n0, .inl f)) := xkn_at ok (cx_rep cx) hm0
  have hc1 : H[a]? = some (vp_cell (xTY w 4) (n1, .inl g)) := hat
  obtain ⟨hA, hRA⟩ := x_ty ok cx ht
  obtain ⟨-, k0, hk0, cm0, hkk0⟩ := hA n0 (fun j => .int (f j))
  obtain ⟨-, k1, hk1, cm1, hkk1⟩ := hA n1 (fun j => .int (g j))
  have es : (nI sp).toNatClampNeg = sp := nI_clamp (by omega)
  have ed : (nI dp).toNatClampNeg = dp := nI_clamp (by omega)
  have en : (nI n).toNatClampNeg = n := nI_clamp (by omega)
  obtain ⟨vm', X', step⟩ := X.arraycopy (cx_x cx) (cx_own cx) (cx_ts cx _ hl0) (cx_ts cx _ q402) (cx_ts cx _ q401) (cx_ts cx _ q78) (src := a0) (dst := a) (cs := vp_cell (xTY w 4) (n0, .inl f)) (cd := vp_cell (xTY w 4) (n1, .inl g)) (srcPos := nI sp) (destPos := nI dp) (n := nI n) (by rw [hT]; exact hc0) (by rw [hT]; exact hc1)
    (fun _ h => by cases h) (fun _ h => by cases h) (fun h => by cases h) (fun h => by cases h) hk0 hk1 hkk0 hkk1 (by simp [refKind]) (nI_pos (by omega)) (nI_pos (by omega)) (nI_pos (by omega))
    (by rw [nI_toInt (by omega), nI_toInt (by omega)]; show ¬ _ > ((arrV (xTY w 4) n0 (fun j => .int (f j))).slots.size : Int); rw [arrV_size]; omega)
    (by rw [nI_toInt (by omega), nI_toInt (by omega)]; show ¬ _ > ((arrV (xTY w 4) n1 (fun j => .int (g j))).slots.size : Int); rw [arrV_size]; omega)
    (fun vm₁ hal i hi => by
      rw [en] at hi
      rw [es]
      have e : (vp_cell (xTY w 4) (n0, .inl f)).slots.getD (sp + i) .null = .int (f (sp + i)) := by
        show (arrV (xTY w 4) n0 (fun j => .int (f j))).slots.getD _ _ = _
        rw [Array.getD_eq_getD_getElem?, arrV_read _ _ (by omega)]
        rfl
      rw [e]
      exact ⟨hel i hi, trivial⟩)
    (g := F0 mi pc ls (.int (nI n) :: .int (nI dp) :: .ref a :: .int (nI sp) :: .ref a0 :: st)) rfl (by rw [cx_ml cx]; exact hl.1) (rest := st) rfl (by rw [cx_b cx]; exact hd) (by have := cx_fr cx; omega) (by show 2 * 0 + _ + _ ≤ _; have := x_w8 h1 (cx_lo cx) hcat; omega)
  have e1 : copied (vp_cell (xTY w 4) (n0, .inl f)) (vp_cell (xTY w 4) (n1, .inl g)) (nI sp) (nI dp) (nI n) = vp_cell (xTY w 4) (n1, .inl (va_cpy f g sp dp n)) := by
    rw [vp_cell_i, vp_cell_i, vp_cell_i]
    have := va_copied (fun z => .int z) (xTY w 4) (xTY w 4) f g (n0 := n0) (n1 := n1) (sp := (nI sp).toNatClampNeg) (dp := (nI dp).toNatClampNeg) (n := (nI n).toNatClampNeg) (by rw [es, en]; exact h4)
    rw [show va_cpy f g sp dp n = va_cpy f g (nI sp).toNatClampNeg (nI dp).toNatClampNeg (nI n).toNatClampNeg by rw [es, ed, en]]
    exact this
  rw [e1] at X' step
  have hl9 : a < H.size := (Array.getElem?_eq_some_iff.mp hc1).1
  generalize hv : vp_cell (xTY w 4) (n1, .inl (va_cpy f g sp dp n)) = cv at X' step
  have hheap : ((T.setVm vm').setCell a cv).heap = H.setIfInBounds a cv := by rw [← hT]; rfl
  have oq : ∀ q : Nat, q ≠ a → (H.setIfInBounds a cv)[q]? = H[q]? := fun q hq => by simp [Array.getElem?_setIfInBounds, Ne.symm hq]
  have hz : (H.setIfInBounds a cv).size = H.size := by simp
  obtain ⟨t, a1, b1⟩ := kk ok (cx_to cx (cx_kc cx) (cx_ks cx) (xRep_put (cx_rep cx) hm1 (show (H.setIfInBounds a cv)[a]? = some (vp_cell _ _) by rw [hv]; simp [Array.getElem?_setIfInBounds, hl9]) hz oq) (x_SL (cx_S cx) hz oq hb (fun q hq => by
      obtain ⟨z, -, hz⟩ := List.mem_map.mp hq
      rw [← hz]))) hl _ hheap X'
  exact ⟨t, step t a1, b1⟩
theorem g_max {index : Nat} {x z : Int32} (hl0 : Cond.methodLink y.1.cls index Lib.Math.max.name ∈ lw_all) (hd : decode y.2.1 pc = .ok (.invokestatic index, 3)) (hq : pc + 3 = q) (hcat : (st.map fun v => v.category).sum ≤ 8) (h1 : 1 ≤ d) (kk : G w y Z d kc ks q lv (.int (if x < z then z else x) :: st) m) : G w y Z d kc ks pc lv (.int z :: .int x :: st) m := by
  subst hq
  intro ok p e R s mi args below meth c H locs cells slots Q ls cx hl
  have k1 := cx_kc cx
  have k2 := cx_ks cx
  have k3 := cx_fr cx
  have k4 := cx_lo cx
  exact va_mmax (cx_x cx) (cx_b cx) (by rw [cx_ml cx]; exact hl.1.symm) (cx_own cx) (cx_ts cx _ hl0) (cx_ts cx _ q380) (cx_ts cx _ q76) (cx_ts cx _ q381) (by omega) (by omega) (by omega) (by omega) hd (kk ok cx hl)
theorem g_min {index : Nat} {x z : Int32} (hl0 : Cond.methodLink y.1.cls index Lib.Math.min.name ∈ lw_all) (hd : decode y.2.1 pc = .ok (.invokestatic index, 3)) (hq : pc + 3 = q) (hcat : (st.map fun v => v.category).sum ≤ 8) (h1 : 1 ≤ d) (kk : G w y Z d kc ks q lv (.int (if z < x then z else x) :: st) m) : G w y Z d kc ks pc lv (.int z :: .int x :: st) m := by
  subst hq
  intro ok p e R s mi args below meth c H locs cells slots Q ls cx hl
  have k1 := cx_kc cx
  have k2 := cx_ks cx
  have k3 := cx_fr cx
  have k4 := cx_lo cx
  exact va_mmin (cx_x cx) (cx_b cx) (by rw [cx_ml cx]; exact hl.1.symm) (cx_own cx) (cx_ts cx _ hl0) (cx_ts cx _ q398) (cx_ts cx _ q76) (cx_ts cx _ q399) (by omega) (by omega) (by omega) (by omega) hd (kk ok cx hl)
theorem nI_max {a b : Nat} (ha : a < 2 ^ 31) (hb : b < 2 ^ 31) : (if nI a < nI b then nI b else nI a) = nI (max a b) := by
  by_cases h : a < b
  · rw [if_pos (nI_lt h hb), Nat.max_eq_right (by omega)]
  · rw [if_neg (nI_nlt (by omega) ha), Nat.max_eq_left (by omega)]
theorem nI_min {a b : Nat} (ha : a < 2 ^ 31) (hb : b < 2 ^ 31) : (if nI b < nI a then nI b else nI a) = nI (min a b) := by
  by_cases h : b < a
  · rw [if_pos (nI_lt h ha), Nat.min_eq_right (by omega)]
  · rw [if_neg (nI_nlt (by omega) hb), Nat.min_eq_left (by omega)]
theorem g_maxn {index a b : Nat} (hl0 : Cond.methodLink y.1.cls index Lib.Math.max.name ∈ lw_all) (hd : decode y.2.1 pc = .ok (.invokestatic index, 3)) (hq : pc + 3 = q) (hcat : (st.map fun v => v.category).sum ≤ 8) (h1 : 1 ≤ d) (ha : a < 2 ^ 31) (hb : b < 2 ^ 31) (kk : G w y Z d kc ks q lv (.int (nI (max a b)) :: st) m) : G w y Z d kc ks pc lv (.int (nI b) :: .int (nI a) :: st) m :=
  g_max hl0 hd hq hcat h1 (by rw [nI_max ha hb]; exact kk)
theorem g_minn {index a b : Nat} (hl0 : Cond.methodLink y.1.cls index Lib.Math.min.name ∈ lw_all) (hd : decode y.2.1 pc = .ok (.invokestatic index, 3)) (hq : pc + 3 = q) (hcat : (st.map fun v => v.category).sum ≤ 8) (h1 : 1 ≤ d) (ha : a < 2 ^ 31) (hb : b < 2 ^ 31) (kk : G w y Z d kc ks q lv (.int (nI (min a b)) :: st) m) : G w y Z d kc ks pc lv (.int (nI b) :: .int (nI a) :: st) m :=
  g_min hl0 hd hq hcat h1 (by rw [nI_min ha hb]; exact kk)
theorem g_ldcS {index a : Nat} {tx : String} (hz : XCo w → vk_R y.1.cls index tx a (xs0 w)) (hd : decode y.2.1 pc = .ok (.ldc index, 2)) (hq : pc + 2 = q) (kk : G w y Z d kc ks q lv (.ref a :: st) m) : G w y Z d kc ks pc lv st m := by
  subst hq
  intro ok p e R s mi args below meth c H locs cells slots Q ls cx hl
  exact va_ldcS (cx_x cx) (cx_b cx) (cx_own cx) (vk_R.warm (cx_w cx) (hz (xco ok))) hd (kk ok cx hl)
theorem g_ldcM {index a : Nat} {C : String} (hl0 : Cond.classLink y.1.cls index C ∈ lw_all) (hz : XCo w → va_Mi C a (xs0 w)) (hd : decode y.2.1 pc = .ok (.ldc index, 2)) (hq : pc + 2 = q) (kk : G w y Z d kc ks q lv (.ref a :: st) m) : G w y Z d kc ks pc lv st m := by
  subst hq
  intro ok p e R s mi args below meth c H locs cells slots Q ls cx hl
  exact va_ldcM (cx_x cx) (cx_b cx) (cx_own cx) (cx_ts cx _ hl0) (va_Mi.moved (cx_w cx).alike (hz (xco ok))) hd (kk ok cx hl)
/-- getClass() of an array of objects -/
theorem g_getC5 {index a n : Nat} {f : Nat → Option Nat} (hl0 : Cond.methodLink y.1.cls index ⟨"java/lang/Object", "getClass", "()Ljava/lang/Class;"⟩ ∈ lw_all) (hm : xkn w m a (rA 5 n f)) (hd : decode y.2.1 pc = .ok (.invokevirtual index, 3)) (hq : pc + 3 = q) (hcat : (st.map fun v => v.category).sum ≤ 8) (h1 : 1 ≤ d) (kk : G w y Z d kc ks q lv (.ref (xad w 5) :: st) m) : G w y Z d kc ks pc lv (.ref a :: st) m := by
  subst hq
  intro ok p e R s mi args below meth c H locs cells slots Q ls cx hl
  have k3 := cx_fr cx
  have k4 := cx_lo cx
  have ht : xTs[5]? = some (.object "java/lang/Object") := rfl
  have hc0 : H[a]? = some (vp_cell (xTY w 5) (n, .inr (.inr (.inr (.inr f))))) := xkn_at ok (cx_rep cx) hm
  exact va_getC (cx_x cx) (cx_b cx) (by rw [cx_ml cx]; exact hl.1.symm) (cx_own cx) (cx_ts cx _ hl0) (va_Dc.use (va_Dc.moved (cx_w cx).alike (va_Dc.of (ok.1 _ q2771)))) (cx_ts cx _ q2770) (cx_ts cx _ q659) (cx_ts cx _ q686) (va_Mi.moved (cx_w cx).alike (xco ok).2.2.2.2.2.2.2.2.2.1)
    ⟨_, hc0, rfl, va_nmO (x_ty ok cx ht).2 rfl⟩ (by omega) (by omega) hd (kk ok cx hl)
end ROWS15
