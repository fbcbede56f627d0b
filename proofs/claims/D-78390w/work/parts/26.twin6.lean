/-! TWIN: the memory of its object: A the addresses (0 the object, k the array of field k), six ints, F the arrays -/
set_option maxRecDepth 100000
def tIs (k : Nat) : Bool := match k with
  | 1 => true
  | 3 => true
  | 4 => true
  | 5 => true
  | 7 => true
  | 8 => true
  | 9 => true
  | 10 => true
  | 12 => true
  | 14 => true
  | 15 => true
  | 16 => true
  | 17 => true
  | 18 => true
  | 19 => true
  | 21 => true
  | 22 => true
  | 23 => true
  | 24 => true
  | 25 => true
  | _ => false
def tT (k : Nat) : Nat := match k with
  | 8 => 1
  | 17 => 1
  | 18 => 1
  | 19 => 1
  | _ => 0
def tN (k : Nat) : Nat := match k with
  | 1 => 120
  | 3 => 184
  | 4 => 184
  | 5 => 2576
  | 7 => 368
  | 8 => 2
  | 9 => 184
  | 10 => 1024
  | 12 => 512
  | 14 => 128
  | 15 => 128
  | 16 => 128
  | 17 => 128
  | 18 => 128
  | 19 => 128
  | 21 => 512
  | 22 => 512
  | 23 => 512
  | 24 => 512
  | 25 => 64
  | _ => 0
abbrev tFs (A : Nat → Nat) (rf ts ac ls rs dp : Int32) : List Value := [.int rf, .ref (A 1), .int ts, .ref (A 3), .ref (A 4), .ref (A 5), .int ac, .ref (A 7), .ref (A 8), .ref (A 9), .ref (A 10), .int ls, .ref (A 12), .int rs, .ref (A 14), .ref (A 15), .ref (A 16), .ref (A 17), .ref (A 18), .ref (A 19), .int dp, .ref (A 21), .ref (A 22), .ref (A 23), .ref (A 24), .ref (A 25)]
def tK (k : Nat) : Bool := k == 0 || tIs k
def TM (A : Nat → Nat) (rf ts ac ls rs dp : Int32) (F : Nat → Nat → Int32) (m : XM) : Prop :=
  m (A 0) = some (.inr (4, tFs A rf ts ac ls rs dp)) ∧ (∀ k, tIs k = true → m (A k) = some (iA (tT k) (tN k) (F k))) ∧ ∀ j k, tK j = true → tK k = true → A j = A k → j = k
/-- only the twin's own cells differ -/
def XOf (A : Nat → Nat) (m m' : XM) : Prop := ∀ a, (∀ k, tK k = true → a ≠ A k) → m' a = m a
theorem xo_rf (A : Nat → Nat) (m : XM) : XOf A m m := fun _ _ => rfl
theorem xo_tr {A : Nat → Nat} {m m1 m2 : XM} (h : XOf A m m1) (h2 : XOf A m1 m2) : XOf A m m2 := fun a ha => (h2 a ha).trans (h a ha)
theorem xo_u {A : Nat → Nat} {m m1 : XM} {e : va_E} (k : Nat) (hk : tK k = true) (h : XOf A m m1) : XOf A m (xu m1 (A k) e) := fun a ha => (xu_ne (ha k hk)).trans (h a ha)
def fset (F : Nat → Nat → Int32) (k : Nat) (f : Nat → Int32) : Nat → Nat → Int32 := fun j => if j = k then f else F j
theorem fset_eq (F : Nat → Nat → Int32) (k : Nat) (f : Nat → Int32) : fset F k f k = f := if_pos rfl
theorem fset_ne {F : Nat → Nat → Int32} {j k : Nat} {f : Nat → Int32} (h : j ≠ k) : fset F k f j = F j := if_neg h
theorem fset_fset (F : Nat → Nat → Int32) (k : Nat) (f g : Nat → Int32) : fset (fset F k f) k g = fset F k g := by
  funext j; unfold fset; split <;> rfl
theorem fset_self (F : Nat → Nat → Int32) (k : Nat) : fset F k (F k) = F := by
  funext j; unfold fset; split
  · next h => rw [h]
  · rfl
theorem tm_o {A : Nat → Nat} {rf ts ac ls rs dp : Int32} {F : Nat → Nat → Int32} {m : XM} (h : TM A rf ts ac ls rs dp F m) : m (A 0) = some (.inr (4, tFs A rf ts ac ls rs dp)) := h.1
theorem tK_is {k : Nat} (h : tIs k = true) : tK k = true := by unfold tK; rw [h, Bool.or_true]
theorem tI0 {k : Nat} (h : tIs k = true) : k ≠ 0 := by rintro rfl; cases h
theorem tm_at {A : Nat → Nat} {rf ts ac ls rs dp : Int32} {F : Nat → Nat → Int32} {m : XM} (k : Nat) {f : Nat → Int32} {t N : Nat} (h : TM A rf ts ac ls rs dp F m) (hk : tIs k = true) (ht : tT k = t) (hN : tN k = N) (hf : F k = f) : m (A k) = some (iA t N f) := by
  subst ht; subst hN; subst hf; exact h.2.1 k hk
theorem tm_xu {A : Nat → Nat} {rf ts ac ls rs dp : Int32} {F : Nat → Nat → Int32} {m : XM} {k t N : Nat} {f : Nat → Int32} (h : TM A rf ts ac ls rs dp F m) (hk : tIs k = true) (ht : tT k = t) (hN : tN k = N) : TM A rf ts ac ls rs dp (fset F k f) (xu m (A k) (iA t N f)) := by
  subst ht; subst hN
  obtain ⟨h1, h2, h3⟩ := h
  refine ⟨?_, fun j hj => ?_, h3⟩
  · rw [xu_ne (fun e => tI0 hk (h3 0 k rfl (tK_is hk) e).symm)]; exact h1
  · by_cases e : j = k
    · subst e; rw [xu_eq, fset_eq]
    · rw [xu_ne (fun q => e (h3 j k (tK_is hj) (tK_is hk) q)), fset_ne e]; exact h2 j hj
theorem tm_put {A : Nat → Nat} {rf ts ac ls rs dp rf' ts' ac' ls' rs' dp' : Int32} {F : Nat → Nat → Int32} {m : XM} (h : TM A rf ts ac ls rs dp F m) : TM A rf' ts' ac' ls' rs' dp' F (xu m (A 0) (.inr (4, tFs A rf' ts' ac' ls' rs' dp'))) := by
  obtain ⟨h1, h2, h3⟩ := h
  refine ⟨xu_eq _ _ _, fun j hj => ?_, h3⟩
  rw [xu_ne (fun e => tI0 hj (h3 j 0 (tK_is hj) rfl e))]; exact h2 j hj
theorem tN_lt {k N : Nat} (h : tN k = N) : N < 2 ^ 31 := by
  subst h; unfold tN; split <;> exact Nat.le_of_ble_eq_true rfl
/-- a contract's answer and memory behind -/
def tP (A : Nat → Nat) (m : XM) (v : Option Value) (rf ts ac ls rs dp : Int32) (F : Nat → Nat → Int32) : Option Value → XM → Prop := fun v' m' => v = v' ∧ TM A rf ts ac ls rs dp F m' ∧ XOf A m m'
/-- a page: array k -/
def tPg (k : Nat) : Prop := tIs k = true ∧ tT k = 0 ∧ tN k = 184
theorem tPg3 : tPg 3 := ⟨rfl, rfl, rfl⟩
theorem tPg4 : tPg 4 := ⟨rfl, rfl, rfl⟩
theorem tPg9 : tPg 9 := ⟨rfl, rfl, rfl⟩
section TMR
variable {w : XW} {y : XY} {Z : XZ} {d kc ks pc q : Nat} {lv : List (Option Value)} {st : List Value} {m m0 : XM} {A : Nat → Nat} {rf ts ac ls rs dp x : Int32} {F : Nat → Nat → Int32} {f : Nat → Int32} {k j N : Nat}
theorem t_ialdn (hT : TM A rf ts ac ls rs dp F m) (hk : tIs k = true) (ht : tT k = 0) (hN : tN k = N) (hf : F k = f) (hd : decode y.2.1 pc = .ok (.iaload, 1)) (hq : pc + 1 = q) (hj : j < N) (kk : G w y Z d kc ks q lv (.int (f j) :: st) m) : G w y Z d kc ks pc lv (.int (nI j) :: .ref (A k) :: st) m :=
  g_ialdn hd hq (Or.inl (tm_at k hT hk ht hN hf)) hj (tN_lt hN) kk
theorem t_zaldn (hT : TM A rf ts ac ls rs dp F m) (hk : tIs k = true) (ht : tT k = 1) (hN : tN k = N) (hf : F k = f) (hd : decode y.2.1 pc = .ok (.baload, 1)) (hq : pc + 1 = q) (hj : j < N) (kk : G w y Z d kc ks q lv (.int (f j) :: st) m) : G w y Z d kc ks pc lv (.int (nI j) :: .ref (A k) :: st) m :=
  g_zaldn hd hq (Or.inl (tm_at k hT hk ht hN hf)) hj (tN_lt hN) kk
theorem t_iastn (hT : TM A rf ts ac ls rs dp F m) (hO : XOf A m0 m) (hk : tIs k = true) (ht : tT k = 0) (hN : tN k = N) (hf : F k = f) (hd : decode y.2.1 pc = .ok (.iastore, 1)) (hq : pc + 1 = q) (hj : j < N) (kk : ∀ m' f', f' = upd f j x → TM A rf ts ac ls rs dp (fset F k f') m' → XOf A m0 m' → G w y Z d kc ks q lv st m') : G w y Z d kc ks pc lv (.int x :: .int (nI j) :: .ref (A k) :: st) m :=
  g_iastn hd hq (tm_at k hT hk ht hN hf) hj (tN_lt hN) (kk _ _ rfl (tm_xu hT hk ht hN) (xo_u k (tK_is hk) hO))
theorem t_zastn (hT : TM A rf ts ac ls rs dp F m) (hO : XOf A m0 m) (hk : tIs k = true) (ht : tT k = 1) (hN : tN k = N) (hf : F k = f) (hd : decode y.2.1 pc = .ok (.bastore, 1)) (hq : pc + 1 = q) (hj : j < N) (hn : narrow .boolean (.int x) = .int x) (kk : ∀ m' f', f' = upd f j x → TM A rf ts ac ls rs dp (fset F k f') m' → XOf A m0 m' → G w y Z d kc ks q lv st m') : G w y Z d kc ks pc lv (.int x :: .int (nI j) :: .ref (A k) :: st) m :=
  g_zastn hd hq (tm_at k hT hk ht hN hf) hj (tN_lt hN) hn (kk _ _ rfl (tm_xu hT hk ht hN) (xo_u k (tK_is hk) hO))
theorem t_put0 {index : Nat} {dc : String} (hT : TM A rf ts ac ls rs dp F m) (hO : XOf A m0 m) (hf : XF y.1.cls index 4 0 .int false dc) (hd : decode y.2.1 pc = .ok (.putfield index, 3)) (hq : pc + 3 = q) (kk : ∀ m', TM A x ts ac ls rs dp F m' → XOf A m0 m' → G w y Z d kc ks q lv st m') : G w y Z d kc ks pc lv (.int x :: .ref (A 0) :: st) m :=
  g_put0 hf hd hq hT.1 rfl rfl (kk _ (tm_put hT) (xo_u 0 rfl hO))
theorem t_put2 {index : Nat} {dc : String} (hT : TM A rf ts ac ls rs dp F m) (hO : XOf A m0 m) (hf : XF y.1.cls index 4 2 .int false dc) (hd : decode y.2.1 pc = .ok (.putfield index, 3)) (hq : pc + 3 = q) (kk : ∀ m', TM A rf x ac ls rs dp F m' → XOf A m0 m' → G w y Z d kc ks q lv st m') : G w y Z d kc ks pc lv (.int x :: .ref (A 0) :: st) m :=
  g_put2 hf hd hq hT.1 rfl rfl (kk _ (tm_put hT) (xo_u 0 rfl hO))
theorem t_put6 {index : Nat} {dc : String} (hT : TM A rf ts ac ls rs dp F m) (hO : XOf A m0 m) (hf : XF y.1.cls index 4 6 .int false dc) (hd : decode y.2.1 pc = .ok (.putfield index, 3)) (hq : pc + 3 = q) (kk : ∀ m', TM A rf ts x ls rs dp F m' → XOf A m0 m' → G w y Z d kc ks q lv st m') : G w y Z d kc ks pc lv (.int x :: .ref (A 0) :: st) m :=
  g_put6 hf hd hq hT.1 rfl rfl (kk _ (tm_put hT) (xo_u 0 rfl hO))
theorem t_put11 {index : Nat} {dc : String} (hT : TM A rf ts ac ls rs dp F m) (hO : XOf A m0 m) (hf : XF y.1.cls index 4 11 .int false dc) (hd : decode y.2.1 pc = .ok (.putfield index, 3)) (hq : pc + 3 = q) (kk : ∀ m', TM A rf ts ac x rs dp F m' → XOf A m0 m' → G w y Z d kc ks q lv st m') : G w y Z d kc ks pc lv (.int x :: .ref (A 0) :: st) m :=
  g_put11 hf hd hq hT.1 rfl rfl (kk _ (tm_put hT) (xo_u 0 rfl hO))
theorem t_put13 {index : Nat} {dc : String} (hT : TM A rf ts ac ls rs dp F m) (hO : XOf A m0 m) (hf : XF y.1.cls index 4 13 .int false dc) (hd : decode y.2.1 pc = .ok (.putfield index, 3)) (hq : pc + 3 = q) (kk : ∀ m', TM A rf ts ac ls x dp F m' → XOf A m0 m' → G w y Z d kc ks q lv st m') : G w y Z d kc ks pc lv (.int x :: .ref (A 0) :: st) m :=
  g_put13 hf hd hq hT.1 rfl rfl (kk _ (tm_put hT) (xo_u 0 rfl hO))
theorem t_put20 {index : Nat} {dc : String} (hT : TM A rf ts ac ls rs dp F m) (hO : XOf A m0 m) (hf : XF y.1.cls index 4 20 .int false dc) (hd : decode y.2.1 pc = .ok (.putfield index, 3)) (hq : pc + 3 = q) (kk : ∀ m', TM A rf ts ac ls rs x F m' → XOf A m0 m' → G w y Z d kc ks q lv st m') : G w y Z d kc ks pc lv (.int x :: .ref (A 0) :: st) m :=
  g_put20 hf hd hq hT.1 rfl rfl (kk _ (tm_put hT) (xo_u 0 rfl hO))
end TMR
section TMC
variable {w : XW} {d : Nat} {m : XM} {A : Nat → Nat} {rf ts ac ls rs dp x : Int32} {F : Nat → Nat → Int32}
theorem t_refused {x : Nat} (hd : 1 ≤ d) (hx : x ≤ 5) (hT : TM A rf ts ac ls rs dp F m) : CT w MX5_refused d 0 0 [.ref (A 0), .int (nI x)] m (tP A m (some (.int (xB (decide (0 < x))))) (nI x) ts ac ls rs dp F) xN := by
  have hO := xo_rf A m
  refine ct_intro (lv := [some (.ref (A 0)), some (.int (nI x))]) 0 (by decide) rfl (Nat.le_of_ble_eq_true rfl) rfl ?_
  refine g_aload_n dX5_refused_0 rfl rfl rfl ?_
  refine g_iload_n dX5_refused_1 rfl rfl rfl ?_
  refine t_put0 hT hO fl_X5_71_X5 dX5_refused_2 rfl (fun m_2 hT hO => ?_)
  refine g_iload_n dX5_refused_5 rfl rfl rfl ?_
  refine g_ifn_le (tgt := 13) dX5_refused_6 (by decide) rfl (by omega) (fun c_6 => ?_) (fun c_6 => ?_)
  · refine g_iconst (v := (nI 0)) dX5_refused_13 rfl rfl ?_
    refine g_zreturn dX5_refused_14 rfl rfl ?_
    exact ⟨by simp [xB, *, n_0, n_1], hT, hO⟩
  · refine g_iconst (v := (nI 1)) dX5_refused_9 rfl rfl ?_
    refine g_goto (tgt := 14) dX5_refused_10 (by decide) ?_
    refine g_zreturn dX5_refused_14 rfl rfl ?_
    exact ⟨by simp [xB, *, n_0, n_1], hT, hO⟩
theorem t_thrown (hd : 1 ≤ d) (hT : TM A rf ts ac ls rs dp F m) : CT w MX5_thrown d 0 0 [.ref (A 0)] m (xRet (some (.int rf)) m) xN := by
  refine ct_intro (lv := [some (.ref (A 0))]) 0 (by decide) rfl (Nat.le_of_ble_eq_true rfl) rfl ?_
  refine g_aload_n dX5_thrown_0 rfl rfl rfl ?_
  refine g_get fl_X5_71_X5 dX5_thrown_1 rfl (Or.inl (tm_o hT)) rfl ?_
  refine g_ireturn dX5_thrown_4 rfl ?_
  exact ⟨rfl, rfl⟩
theorem t_clearText (hd : 1 ≤ d) (hT : TM A rf ts ac ls rs dp F m) : CT w MX5_clearText d 0 0 [.ref (A 0)] m (tP A m (some (.int ts)) 0 0 ac ls rs dp F) xN := by
  have hO := xo_rf A m
  refine ct_intro (lv := [some (.ref (A 0)), none]) 1 (by decide) rfl (Nat.le_of_ble_eq_true rfl) rfl ?_
  refine g_aload_n dX5_clearText_0 rfl rfl rfl ?_
  refine g_iconst (v := (0)) dX5_clearText_1 rfl rfl ?_
  refine t_put0 hT hO fl_X5_71_X5 dX5_clearText_2 rfl (fun m_2 hT hO => ?_)
  refine g_aload_n dX5_clearText_5 rfl rfl rfl ?_
  refine g_get fl_X5_147_X5 dX5_clearText_6 rfl (Or.inl (tm_o hT)) rfl ?_
  refine g_ist1 dX5_clearText_9 rfl (by decide) (k := ?_)
  refine g_aload_n dX5_clearText_10 rfl rfl rfl ?_
  refine g_iconst (v := (0)) dX5_clearText_11 rfl rfl ?_
  refine t_put2 hT hO fl_X5_147_X5 dX5_clearText_12 rfl (fun m_12 hT hO => ?_)
  refine g_iload_n dX5_clearText_15 rfl rfl rfl ?_
  refine g_ireturn dX5_clearText_16 rfl ?_
  exact ⟨rfl, hT, hO⟩
theorem t_say {n : Nat} {f : Nat → Int32} {c : Int32} (hd : 1 ≤ d) (hn : n < 1024) (hf : F 10 = f) (hT : TM A rf ts ac (nI n) rs dp F m) : CT w MX5_say d 0 0 [.ref (A 0), .int c] m (tP A m none rf ts ac (nI (n + 1)) rs dp (fset F 10 (upd f n c))) xN := by
  have hO := xo_rf A m
  refine ct_intro (lv := [some (.ref (A 0)), some (.int c)]) 0 (by decide) rfl (Nat.le_of_ble_eq_true rfl) rfl ?_
  refine g_aload_n dX5_say_0 rfl rfl rfl ?_
  refine g_get fl_X5_32_X5 dX5_say_1 rfl (Or.inl (tm_o hT)) rfl ?_
  refine g_aload_n dX5_say_4 rfl rfl rfl ?_
  refine g_get fl_X5_193_X5 dX5_say_5 rfl (Or.inl (tm_o hT)) rfl ?_
  refine g_iload_n dX5_say_8 rfl rfl rfl ?_
  refine t_iastn (k := 10) (N := 1024) (f := f) hT hO rfl rfl rfl (by first | rfl | assumption) dX5_say_9 rfl (by omega) (fun m_9 f_9 e_9 hT hO => ?_)
  refine g_aload_n dX5_say_10 rfl rfl rfl ?_
  refine g_dup dX5_say_11 rfl (by first | rfl | exact rf_cat _) ?_
  refine g_get fl_X5_193_X5 dX5_say_12 rfl (Or.inl (tm_o hT)) rfl ?_
  refine g_iconst (v := (nI 1)) dX5_say_15 rfl rfl ?_
  refine g_iaddn dX5_say_16 rfl ?_
  refine t_put11 hT hO fl_X5_193_X5 dX5_say_17 rfl (fun m_17 hT hO => ?_)
  refine g_return dX5_say_20 rfl ?_
  subst e_9
  exact ⟨rfl, hT, hO⟩
theorem t_sayUnless {n : Nat} {b : Bool} {f : Nat → Int32} {c : Int32} (hd : 2 ≤ d) (hn : n < 1024) (hf : F 10 = f) (hT : TM A rf ts ac (nI n) rs dp F m) : CT w MX5_sayUnless d 0 0 [.ref (A 0), .int (xB b), .int c] m (tP A m none rf ts ac (nI (if b = true then n else n + 1)) rs dp (fset F 10 (if b = true then f else upd f n c))) xN := by
  have hO := xo_rf A m
  refine ct_intro (lv := [some (.ref (A 0)), some (.int (xB b)), some (.int c)]) 0 (by decide) rfl (Nat.le_of_ble_eq_true rfl) rfl ?_
  refine g_iload_n dX5_sayUnless_0 rfl rfl rfl ?_
  refine g_ifB_ne (tgt := 9) dX5_sayUnless_1 (by decide) rfl (fun c_1 => ?_) (fun c_1 => ?_)
  · refine g_return dX5_sayUnless_9 rfl ?_
    subst c_1
    exact ⟨rfl, by subst hf; rw [if_pos rfl, if_pos rfl, fset_self]; exact hT, hO⟩
  · refine g_aload_n dX5_sayUnless_4 rfl rfl rfl ?_
    refine g_iload_n dX5_sayUnless_5 rfl rfl rfl ?_
    refine g_virtual iV_X5_say q2561 (t_say (f := f) (d := d - 1) (by omega) (by omega) hf hT) (Or.inl (tm_o hT)) rfl (by decide) dX5_sayUnless_6 rfl rfl rfl (by first | exact Nat.le_of_ble_eq_true rfl | simp [Value.category, rf_cat]) (by omega) (by omega) (by omega) xN_no (fun v_6 m_6 h_6 => ?_)
    obtain ⟨rfl, hT, hO2⟩ := h_6
    replace hO := xo_tr hO hO2
    refine g_return dX5_sayUnless_9 rfl ?_
    subst c_1
    exact ⟨rfl, hT, hO⟩
theorem t_add {n : Nat} {f : Nat → Int32} {c : Int32} (hd : 1 ≤ d) (hn : n < 512) (hf : F 12 = f) (hT : TM A rf ts ac ls (nI n) dp F m) : CT w MX5_add d 0 0 [.ref (A 0), .int c] m (tP A m none rf ts ac ls (nI (n + 1)) dp (fset F 12 (upd f n c))) xN := by
  have hO := xo_rf A m
  refine ct_intro (lv := [some (.ref (A 0)), some (.int c)]) 0 (by decide) rfl (Nat.le_of_ble_eq_true rfl) rfl ?_
  refine g_aload_n dX5_add_0 rfl rfl rfl ?_
  refine g_get fl_X5_35_X5 dX5_add_1 rfl (Or.inl (tm_o hT)) rfl ?_
  refine g_aload_n dX5_add_4 rfl rfl rfl ?_
  refine g_get fl_X5_153_X5 dX5_add_5 rfl (Or.inl (tm_o hT)) rfl ?_
  refine g_iload_n dX5_add_8 rfl rfl rfl ?_
  refine t_iastn (k := 12) (N := 512) (f := f) hT hO rfl rfl rfl (by first | rfl | assumption) dX5_add_9 rfl (by omega) (fun m_9 f_9 e_9 hT hO => ?_)
  refine g_aload_n dX5_add_10 rfl rfl rfl ?_
  refine g_dup dX5_add_11 rfl (by first | rfl | exact rf_cat _) ?_
  refine g_get fl_X5_153_X5 dX5_add_12 rfl (Or.inl (tm_o hT)) rfl ?_
  refine g_iconst (v := (nI 1)) dX5_add_15 rfl rfl ?_
  refine g_iaddn dX5_add_16 rfl ?_
  refine t_put13 hT hO fl_X5_153_X5 dX5_add_17 rfl (fun m_17 hT hO => ?_)
  refine g_return dX5_add_20 rfl ?_
  subst e_9
  exact ⟨rfl, hT, hO⟩
end TMC
