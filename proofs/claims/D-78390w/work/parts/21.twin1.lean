/-! TWIN: signs, pages -/
set_option maxRecDepth 100000
theorem n_0 : nI 0 = 0 := rfl
theorem n_1 : nI 1 = 1 := rfl
theorem xu_xu (m : XM) (a : Nat) (e e' : va_E) : xu (xu m a e) a e' = xu m a e' := by
  funext q
  by_cases h : q = a
  · subst h; rw [xu_eq, xu_eq]
  · rw [xu_ne h, xu_ne h, xu_ne h]
theorem xu_self {m : XM} {a : Nat} {e : va_E} (h : m a = some e) : xu m a e = m := by
  funext q
  by_cases hq : q = a
  · subst hq; rw [xu_eq, h]
  · rw [xu_ne hq]
theorem g_iastnU {w : XW} {y : XY} {Z : XZ} {d kc ks pc q : Nat} {lv : List (Option Value)} {st : List Value} {m : XM} {n j : Nat} {f : Nat → Int32} {a : Nat} {x : Int32} (hd : decode y.2.1 pc = .ok (.iastore, 1)) (hq : pc + 1 = q) (hi : j < n) (hb : n < 2 ^ 31) (kk : G w y Z d kc ks q lv st (xu m a (iA 0 n (upd f j x)))) : G w y Z d kc ks pc lv (.int x :: .int (nI j) :: .ref a :: st) (xu m a (iA 0 n f)) :=
  g_iastn hd hq (xu_eq _ _ _) hi hb (by rw [xu_xu]; exact kk)
theorem upd_eq (f : Nat → Int32) (k : Nat) (x : Int32) : upd f k x k = x := pk_us
theorem upd_ne {f : Nat → Int32} {k j : Nat} {x : Int32} (h : j ≠ k) : upd f k x j = f j := pk_un h
def inL (v a b : Int64) : Bool := decide (¬ v < a ∧ ¬ b < v)
section TW1
variable {w : XW} {m : XM} {d : Nat}
theorem c_in (hd : 1 ≤ d) (v a b : Int64) : CT w MX5_in d 0 0 [.long v, .long a, .long b] m (xRet (some (.int (xB (inL v a b)))) m) xN := by
  refine ct_intro (lv := [some (.long v), none, some (.long a), none, some (.long b), none]) 0 (by decide) rfl (Nat.le_of_ble_eq_true rfl) rfl ?_
  refine g_lload_n dX5_in_0 rfl rfl rfl ?_
  refine g_lload_n dX5_in_1 rfl rfl rfl ?_
  refine g_lcmp dX5_in_2 rfl ?_
  refine g_if_lt (tgt := 17) dX5_in_3 (by decide) rfl (fun c_3 => ?_) (fun c_3 => ?_)
  · refine g_iconst (v := (0)) dX5_in_17 rfl rfl ?_
    refine g_zreturn dX5_in_18 rfl rfl ?_
    refine ⟨?_, rfl⟩
    first | rw [lg_cmp_lt] at c_3 | skip
    first | rw [lg_cmp_gt] at c_10 | skip
    simp [inL, xB, n_0, n_1, *]
  · refine g_lload_n dX5_in_6 rfl rfl rfl ?_
    refine g_lload dX5_in_7 rfl rfl ?_
    refine g_lcmp dX5_in_9 rfl ?_
    refine g_if_gt (tgt := 17) dX5_in_10 (by decide) rfl (fun c_10 => ?_) (fun c_10 => ?_)
    · refine g_iconst (v := (0)) dX5_in_17 rfl rfl ?_
      refine g_zreturn dX5_in_18 rfl rfl ?_
      refine ⟨?_, rfl⟩
      first | rw [lg_cmp_lt] at c_3 | skip
      first | rw [lg_cmp_gt] at c_10 | skip
      simp [inL, xB, n_0, n_1, *]
    · refine g_iconst (v := (1)) dX5_in_13 rfl rfl ?_
      refine g_goto (tgt := 18) dX5_in_14 (by decide) ?_
      refine g_zreturn dX5_in_18 rfl rfl ?_
      refine ⟨?_, rfl⟩
      first | rw [lg_cmp_lt] at c_3 | skip
      first | rw [lg_cmp_gt] at c_10 | skip
      simp [inL, xB, n_0, n_1, *]
def letF (c : Int32) : Bool := inL c.toInt64 97 122 && decide (¬ c = nI 114)
def digF (c : Int32) : Bool := inL c.toInt64 48 57
def markF (c : Int32) : Bool := decide (c = nI 43 ∨ c = nI 45 ∨ c = nI 42 ∨ c = nI 61 ∨ c = nI 44 ∨ c = nI 46)
def symF (c : Int32) : Bool := letF c || digF c || markF c
theorem c_isLetter (hd : 2 ≤ d) (c : Int32) : CT w MX5_isLetter d 0 0 [.int c] m (xRet (some (.int (xB (letF c)))) m) xN := by
  refine ct_intro (lv := [some (.int c)]) 0 (by decide) rfl (Nat.le_of_ble_eq_true rfl) rfl ?_
  refine g_iload_n dX5_isLetter_0 rfl rfl rfl ?_
  refine g_i2l dX5_isLetter_1 rfl rfl ?_
  refine g_ldc2 dX5_isLetter_2 rfl q2474 ?_
  refine g_ldc2 dX5_isLetter_5 rfl q2475 ?_
  refine g_staticP iS_X5_in q2448 (c_in (d := d - 1) (by omega) _ _ _) dX5_isLetter_8 rfl rfl rfl (by first | exact Nat.le_of_ble_eq_true rfl | simp [Value.category, rf_cat]) (by omega) xN_no ?_
  refine g_ifB_eq (tgt := 24) dX5_isLetter_11 (by decide) rfl (fun c_11 => ?_) (fun c_11 => ?_)
  · refine g_iconst (v := (nI 0)) dX5_isLetter_24 rfl rfl ?_
    refine g_zreturn dX5_isLetter_25 rfl rfl ?_
    exact ⟨by simp [letF, xB, n_0, n_1, *], rfl⟩
  · refine g_iload_n dX5_isLetter_14 rfl rfl rfl ?_
    refine g_bipush (v := (nI 114)) dX5_isLetter_15 rfl rfl ?_
    refine g_icmp_eq (tgt := 24) dX5_isLetter_17 (by decide) rfl (fun c_17 => ?_) (fun c_17 => ?_)
    · refine g_iconst (v := (nI 0)) dX5_isLetter_24 rfl rfl ?_
      refine g_zreturn dX5_isLetter_25 rfl rfl ?_
      exact ⟨by simp [letF, xB, n_0, n_1, *], rfl⟩
    · refine g_iconst (v := (nI 1)) dX5_isLetter_20 rfl rfl ?_
      refine g_goto (tgt := 25) dX5_isLetter_21 (by decide) ?_
      refine g_zreturn dX5_isLetter_25 rfl rfl ?_
      exact ⟨by simp [letF, xB, n_0, n_1, *], rfl⟩
theorem c_isDigit (hd : 2 ≤ d) (c : Int32) : CT w MX5_isDigit d 0 0 [.int c] m (xRet (some (.int (xB (digF c)))) m) xN := by
  refine ct_intro (lv := [some (.int c)]) 0 (by decide) rfl (Nat.le_of_ble_eq_true rfl) rfl ?_
  refine g_iload_n dX5_isDigit_0 rfl rfl rfl ?_
  refine g_i2l dX5_isDigit_1 rfl rfl ?_
  refine g_ldc2 dX5_isDigit_2 rfl q2479 ?_
  refine g_ldc2 dX5_isDigit_5 rfl q2480 ?_
  refine g_staticP iS_X5_in q2448 (c_in (d := d - 1) (by omega) _ _ _) dX5_isDigit_8 rfl rfl rfl (by first | exact Nat.le_of_ble_eq_true rfl | simp [Value.category, rf_cat]) (by omega) xN_no ?_
  refine g_breturn dX5_isDigit_11 rfl ?_
  exact ⟨rfl, rfl⟩
theorem c_isMark (hd : 2 ≤ d) (c : Int32) : CT w MX5_isMark d 0 0 [.int c] m (xRet (some (.int (xB (markF c)))) m) xN := by
  refine ct_intro (lv := [some (.int c)]) 0 (by decide) rfl (Nat.le_of_ble_eq_true rfl) rfl ?_
  refine g_iload_n dX5_isMark_0 rfl rfl rfl ?_
  refine g_bipush (v := (nI 43)) dX5_isMark_1 rfl rfl ?_
  refine g_icmp_eq (tgt := 36) dX5_isMark_3 (by decide) rfl (fun c_3 => ?_) (fun c_3 => ?_)
  · refine g_iconst (v := (nI 1)) dX5_isMark_36 rfl rfl ?_
    refine g_goto (tgt := 41) dX5_isMark_37 (by decide) ?_
    refine g_zreturn dX5_isMark_41 rfl rfl ?_
    exact ⟨by simp [markF, xB, n_0, n_1, *], rfl⟩
  · refine g_iload_n dX5_isMark_6 rfl rfl rfl ?_
    refine g_bipush (v := (nI 45)) dX5_isMark_7 rfl rfl ?_
    refine g_icmp_eq (tgt := 36) dX5_isMark_9 (by decide) rfl (fun c_9 => ?_) (fun c_9 => ?_)
    · refine g_iconst (v := (nI 1)) dX5_isMark_36 rfl rfl ?_
      refine g_goto (tgt := 41) dX5_isMark_37 (by decide) ?_
      refine g_zreturn dX5_isMark_41 rfl rfl ?_
      exact ⟨by simp [markF, xB, n_0, n_1, *], rfl⟩
    · refine g_iload_n dX5_isMark_12 rfl rfl rfl ?_
      refine g_bipush (v := (nI 42)) dX5_isMark_13 rfl rfl ?_
      refine g_icmp_eq (tgt := 36) dX5_isMark_15 (by decide) rfl (fun c_15 => ?_) (fun c_15 => ?_)
      · refine g_iconst (v := (nI 1)) dX5_isMark_36 rfl rfl ?_
        refine g_goto (tgt := 41) dX5_isMark_37 (by decide) ?_
        refine g_zreturn dX5_isMark_41 rfl rfl ?_
        exact ⟨by simp [markF, xB, n_0, n_1, *], rfl⟩
      · refine g_iload_n dX5_isMark_18 rfl rfl rfl ?_
        refine g_bipush (v := (nI 61)) dX5_isMark_19 rfl rfl ?_
        refine g_icmp_eq (tgt := 36) dX5_isMark_21 (by decide) rfl (fun c_21 => ?_) (fun c_21 => ?_)
        · refine g_iconst (v := (nI 1)) dX5_isMark_36 rfl rfl ?_
          refine g_goto (tgt := 41) dX5_isMark_37 (by decide) ?_
          refine g_zreturn dX5_isMark_41 rfl rfl ?_
          exact ⟨by simp [markF, xB, n_0, n_1, *], rfl⟩
        · refine g_iload_n dX5_isMark_24 rfl rfl rfl ?_
          refine g_bipush (v := (nI 44)) dX5_isMark_25 rfl rfl ?_
          refine g_icmp_eq (tgt := 36) dX5_isMark_27 (by decide) rfl (fun c_27 => ?_) (fun c_27 => ?_)
          · refine g_iconst (v := (nI 1)) dX5_isMark_36 rfl rfl ?_
            refine g_goto (tgt := 41) dX5_isMark_37 (by decide) ?_
            refine g_zreturn dX5_isMark_41 rfl rfl ?_
            exact ⟨by simp [markF, xB, n_0, n_1, *], rfl⟩
          · refine g_iload_n dX5_isMark_30 rfl rfl rfl ?_
            refine g_bipush (v := (nI 46)) dX5_isMark_31 rfl rfl ?_
            refine g_icmp_ne (tgt := 40) dX5_isMark_33 (by decide) rfl (fun c_33 => ?_) (fun c_33 => ?_)
            · refine g_iconst (v := (nI 0)) dX5_isMark_40 rfl rfl ?_
              refine g_zreturn dX5_isMark_41 rfl rfl ?_
              exact ⟨by simp [markF, xB, n_0, n_1, *], rfl⟩
            · refine g_iconst (v := (nI 1)) dX5_isMark_36 rfl rfl ?_
              refine g_goto (tgt := 41) dX5_isMark_37 (by decide) ?_
              refine g_zreturn dX5_isMark_41 rfl rfl ?_
              exact ⟨by simp [markF, xB, n_0, n_1, *], rfl⟩
theorem c_isSymbol (hd : 3 ≤ d) (c : Int32) : CT w MX5_isSymbol d 0 0 [.int c] m (xRet (some (.int (xB (symF c)))) m) xN := by
  refine ct_intro (lv := [some (.int c)]) 0 (by decide) rfl (Nat.le_of_ble_eq_true rfl) rfl ?_
  refine g_iload_n dX5_isSymbol_0 rfl rfl rfl ?_
  refine g_staticP iS_X5_isLetter q2471 (c_isLetter (d := d - 1) (by omega) _) dX5_isSymbol_1 rfl rfl rfl (by first | exact Nat.le_of_ble_eq_true rfl | simp [Value.category, rf_cat]) (by omega) xN_no ?_
  refine g_ifB_ne (tgt := 21) dX5_isSymbol_4 (by decide) rfl (fun c_4 => ?_) (fun c_4 => ?_)
  · refine g_iconst (v := (nI 1)) dX5_isSymbol_21 rfl rfl ?_
    refine g_goto (tgt := 26) dX5_isSymbol_22 (by decide) ?_
    refine g_zreturn dX5_isSymbol_26 rfl rfl ?_
    exact ⟨by simp [symF, xB, n_0, n_1, *], rfl⟩
  · refine g_iload_n dX5_isSymbol_7 rfl rfl rfl ?_
    refine g_staticP iS_X5_isDigit q2476 (c_isDigit (d := d - 1) (by omega) _) dX5_isSymbol_8 rfl rfl rfl (by first | exact Nat.le_of_ble_eq_true rfl | simp [Value.category, rf_cat]) (by omega) xN_no ?_
    refine g_ifB_ne (tgt := 21) dX5_isSymbol_11 (by decide) rfl (fun c_11 => ?_) (fun c_11 => ?_)
    · refine g_iconst (v := (nI 1)) dX5_isSymbol_21 rfl rfl ?_
      refine g_goto (tgt := 26) dX5_isSymbol_22 (by decide) ?_
      refine g_zreturn dX5_isSymbol_26 rfl rfl ?_
      exact ⟨by simp [symF, xB, n_0, n_1, *], rfl⟩
    · refine g_iload_n dX5_isSymbol_14 rfl rfl rfl ?_
      refine g_staticP iS_X5_isMark q2481 (c_isMark (d := d - 1) (by omega) _) dX5_isSymbol_15 rfl rfl rfl (by first | exact Nat.le_of_ble_eq_true rfl | simp [Value.category, rf_cat]) (by omega) xN_no ?_
      refine g_ifB_eq (tgt := 25) dX5_isSymbol_18 (by decide) rfl (fun c_18 => ?_) (fun c_18 => ?_)
      · refine g_iconst (v := (nI 0)) dX5_isSymbol_25 rfl rfl ?_
        refine g_zreturn dX5_isSymbol_26 rfl rfl ?_
        exact ⟨by simp [symF, xB, n_0, n_1, *], rfl⟩
      · refine g_iconst (v := (nI 1)) dX5_isSymbol_21 rfl rfl ?_
        refine g_goto (tgt := 26) dX5_isSymbol_22 (by decide) ?_
        refine g_zreturn dX5_isSymbol_26 rfl rfl ?_
        exact ⟨by simp [symF, xB, n_0, n_1, *], rfl⟩
def remK (f : Nat → Int32) (a b k : Nat) : Nat → Int32 := fun j => if a ≤ j ∧ j < a + (k - b) then f (j + (b - a)) else f j
theorem remK_0 (f : Nat → Int32) (a b : Nat) : remK f a b b = f := by
  funext j; unfold remK; rw [if_neg (by omega)]
theorem remK_s (f : Nat → Int32) {a b k : Nat} (h : a ≤ b) (hk : b ≤ k) : upd (remK f a b k) (a + k - b) (f k) = remK f a b (k + 1) := by
  funext j
  by_cases hj : j = a + k - b
  · subst hj
    rw [upd_eq]; unfold remK
    rw [if_pos (by omega)]
    congr 1; omega
  · rw [upd_ne hj]; unfold remK
    by_cases h1 : a ≤ j ∧ j < a + (k - b)
    · rw [if_pos h1, if_pos (by omega)]
    · rw [if_neg h1, if_neg (by omega)]
theorem l_remove {r n a b : Nat} {f : Nat → Int32} {P : Option Value → XM → Prop} (hd : 1 ≤ d) (hn : f 180 = nI n) (hn2 : n ≤ 180) (hab : a ≤ b) (hP : P none (xu m r (iA 0 184 (upd (remK f a b n) 180 (nI (n - (b - a))))))) : ∀ t k, n - k < t → b ≤ k → k ≤ n → G w MX5_remove (xZ w P xN) d 0 0 2 [some (.ref r), some (.int (nI a)), some (.int (nI b)), some (.int (nI k))] [] (xu m r (iA 0 184 (remK f a b k))) := by
  intro t
  induction t with
  | zero => intro k h; omega
  | succ t ih =>
    intro k h hk1 hk2
    have h180 : remK f a b k 180 = nI n := by unfold remK; rw [if_neg (by omega)]; exact hn
    have hkk : remK f a b k k = f k := by unfold remK; rw [if_neg (by omega)]
    refine g_iload_n dX5_remove_2 rfl rfl rfl ?_
    first | refine g_aload_n dX5_remove_3 rfl rfl rfl ?_ | refine g_aload_nR dX5_remove_3 rfl rfl rfl ?_ | refine g_aload_nN dX5_remove_3 rfl rfl rfl ?_
    refine g_sipush (v := (nI 180)) dX5_remove_4 rfl rfl ?_
    refine g_ialdn dX5_remove_7 rfl (Or.inl (xu_eq _ _ _)) (j := 180) (by omega) (by omega) ?_
    rw [h180]
    refine g_icmpn_ge (tgt := 27) dX5_remove_8 (by decide) rfl (by omega) (by omega) (fun c_8 => ?_) (fun c_8 => ?_)
    · first | refine g_aload_n dX5_remove_27 rfl rfl rfl ?_ | refine g_aload_nR dX5_remove_27 rfl rfl rfl ?_ | refine g_aload_nN dX5_remove_27 rfl rfl rfl ?_
      refine g_sipush (v := (nI 180)) dX5_remove_28 rfl rfl ?_
      refine g_dup2 dX5_remove_31 rfl (by first | rfl | exact rf_cat _) (by first | rfl | exact rf_cat _) ?_
      refine g_ialdn dX5_remove_32 rfl (Or.inl (xu_eq _ _ _)) (j := 180) (by omega) (by omega) ?_
      rw [h180]
      obtain rfl : k = n := by omega
      refine g_iload_n dX5_remove_33 rfl rfl rfl ?_
      refine g_iload_n dX5_remove_34 rfl rfl rfl ?_
      refine g_isubn dX5_remove_35 rfl (by omega) ?_
      refine g_isubn dX5_remove_36 rfl (by omega) ?_
      refine g_iastnU dX5_remove_37 rfl (by omega) (by omega) ?_
      refine g_return dX5_remove_38 rfl ?_
      exact hP
    · first | refine g_aload_n dX5_remove_11 rfl rfl rfl ?_ | refine g_aload_nR dX5_remove_11 rfl rfl rfl ?_ | refine g_aload_nN dX5_remove_11 rfl rfl rfl ?_
      refine g_iload_n dX5_remove_12 rfl rfl rfl ?_
      refine g_iload_n dX5_remove_13 rfl rfl rfl ?_
      refine g_iaddn dX5_remove_14 rfl ?_
      refine g_iload_n dX5_remove_15 rfl rfl rfl ?_
      refine g_isubn dX5_remove_16 rfl (by omega) ?_
      first | refine g_aload_n dX5_remove_17 rfl rfl rfl ?_ | refine g_aload_nR dX5_remove_17 rfl rfl rfl ?_ | refine g_aload_nN dX5_remove_17 rfl rfl rfl ?_
      refine g_iload_n dX5_remove_18 rfl rfl rfl ?_
      refine g_ialdn dX5_remove_19 rfl (Or.inl (by first | assumption | exact xu_eq _ _ _)) (by omega) (by omega) ?_
      rw [hkk]
      refine g_iastnU dX5_remove_20 rfl (by omega) (by omega) ?_
      rw [remK_s f hab hk1]
      refine g_incn3 dX5_remove_21 rfl (by decide) (k := ?_)
      refine g_goto (tgt := 2) dX5_remove_24 (by decide) ?_
      exact ih (k + 1) (by omega) (by omega) (by omega)
theorem c_remove {r n a b : Nat} {f : Nat → Int32} (hd : 1 ≤ d) (hm : m r = some (iA 0 184 f)) (hn : f 180 = nI n) (hn2 : n ≤ 180) (hab : a ≤ b) (hb : b ≤ n) : CT w MX5_remove d 0 0 [.ref r, .int (nI a), .int (nI b)] m (xRet none (xu m r (iA 0 184 (upd (remK f a b n) 180 (nI (n - (b - a))))))) xN := by
  refine ct_intro (lv := [some (.ref r), some (.int (nI a)), some (.int (nI b)), none]) 1 (by decide) rfl (Nat.le_of_ble_eq_true rfl) rfl ?_
  refine g_iload_n dX5_remove_0 rfl rfl rfl ?_
  refine g_ist3 dX5_remove_1 rfl (by decide) (k := ?_)
  rw [← xu_self hm, xu_xu]
  have := l_remove (w := w) (m := m) (r := r) hd hn hn2 hab (P := xRet none (xu m r (iA 0 184 (upd (remK f a b n) 180 (nI (n - (b - a))))))) ⟨rfl, rfl⟩ (n + 1) b (by omega) (by omega) hb
  rw [remK_0] at this
  exact this
def putK (f : Nat → Int32) (n k : Nat) : Nat → Int32 := fun j => if k < j ∧ j ≤ n then f (j - 1) else f j
theorem putK_0 (f : Nat → Int32) (n : Nat) : putK f n n = f := by
  funext j; unfold putK; rw [if_neg (by omega)]
theorem putK_s (f : Nat → Int32) {n k : Nat} (hk : k + 1 ≤ n) : upd (putK f n (k + 1)) (k + 1) (f k) = putK f n k := by
  funext j
  by_cases hj : j = k + 1
  · subst hj
    rw [upd_eq]; unfold putK
    rw [if_pos (by omega)]
    rfl
  · rw [upd_ne hj]; unfold putK
    by_cases h1 : k + 1 < j ∧ j ≤ n
    · rw [if_pos h1, if_pos (by omega)]
    · rw [if_neg h1, if_neg (by omega)]
theorem l_put {r n at_ : Nat} {f : Nat → Int32} {s : Int32} {P : Option Value → XM → Prop} (hd : 1 ≤ d) (hn : f 180 = nI n) (hn2 : n < 180) (hP : P none (xu m r (iA 0 184 (upd (upd (putK f n at_) at_ s) 180 (nI (n + 1)))))) : ∀ k, at_ ≤ k → k ≤ n → G w MX5_put (xZ w P xN) d 0 0 6 [some (.ref r), some (.int (nI at_)), some (.int s), some (.int (nI k))] [] (xu m r (iA 0 184 (putK f n k))) := by
  intro k
  have fin : at_ ≤ n → G w MX5_put (xZ w P xN) d 0 0 25 [some (.ref r), some (.int (nI at_)), some (.int s), some (.int (nI at_))] [] (xu m r (iA 0 184 (putK f n at_))) := by
    intro ha
    have h180 : upd (putK f n at_) at_ s 180 = nI n := by rw [upd_ne (by omega)]; unfold putK; rw [if_neg (by omega)]; exact hn
    first | refine g_aload_n dX5_put_25 rfl rfl rfl ?_ | refine g_aload_nR dX5_put_25 rfl rfl rfl ?_ | refine g_aload_nN dX5_put_25 rfl rfl rfl ?_
    refine g_iload_n dX5_put_26 rfl rfl rfl ?_
    refine g_iload_n dX5_put_27 rfl rfl rfl ?_
    refine g_iastnU dX5_put_28 rfl (by omega) (by omega) ?_
    first | refine g_aload_n dX5_put_29 rfl rfl rfl ?_ | refine g_aload_nR dX5_put_29 rfl rfl rfl ?_ | refine g_aload_nN dX5_put_29 rfl rfl rfl ?_
    refine g_sipush (v := (nI 180)) dX5_put_30 rfl rfl ?_
    refine g_dup2 dX5_put_33 rfl (by first | rfl | exact rf_cat _) (by first | rfl | exact rf_cat _) ?_
    refine g_ialdn dX5_put_34 rfl (Or.inl (xu_eq _ _ _)) (j := 180) (by omega) (by omega) ?_
    rw [h180]
    refine g_iconst (v := (nI 1)) dX5_put_35 rfl rfl ?_
    refine g_iaddn dX5_put_36 rfl ?_
    refine g_iastnU dX5_put_37 rfl (by omega) (by omega) ?_
    refine g_return dX5_put_38 rfl ?_
    exact hP
  induction k with
  | zero =>
    intro h1 h2
    obtain rfl : at_ = 0 := by omega
    refine g_iload_n dX5_put_6 rfl rfl rfl ?_
    refine g_iload_n dX5_put_7 rfl rfl rfl ?_
    refine g_icmpn_le (tgt := 25) dX5_put_8 (by decide) rfl (by omega) (by omega) (fun c_8 => ?_) (fun c_8 => ?_)
    · exact fin h2
    · omega
  | succ k ih =>
    intro h1 h2
    have hkk : putK f n (k + 1) k = f k := by unfold putK; rw [if_neg (by omega)]
    refine g_iload_n dX5_put_6 rfl rfl rfl ?_
    refine g_iload_n dX5_put_7 rfl rfl rfl ?_
    refine g_icmpn_le (tgt := 25) dX5_put_8 (by decide) rfl (by omega) (by omega) (fun c_8 => ?_) (fun c_8 => ?_)
    · obtain rfl : at_ = k + 1 := by omega
      exact fin h2
    · first | refine g_aload_n dX5_put_11 rfl rfl rfl ?_ | refine g_aload_nR dX5_put_11 rfl rfl rfl ?_ | refine g_aload_nN dX5_put_11 rfl rfl rfl ?_
      refine g_iload_n dX5_put_12 rfl rfl rfl ?_
      first | refine g_aload_n dX5_put_13 rfl rfl rfl ?_ | refine g_aload_nR dX5_put_13 rfl rfl rfl ?_ | refine g_aload_nN dX5_put_13 rfl rfl rfl ?_
      refine g_iload_n dX5_put_14 rfl rfl rfl ?_
      refine g_iconst (v := (nI 1)) dX5_put_15 rfl rfl ?_
      refine g_isubn dX5_put_16 rfl (by omega) ?_
      rw [show k + 1 - 1 = k from rfl]
      refine g_ialdn dX5_put_17 rfl (Or.inl (by first | assumption | exact xu_eq _ _ _)) (by omega) (by omega) ?_
      rw [hkk]
      refine g_iastnU dX5_put_18 rfl (by omega) (by omega) ?_
      rw [putK_s f h2]
      refine g_incm3 dX5_put_19 rfl (by decide) (k := ?_)
      rw [nI_p1]
      refine g_goto (tgt := 6) dX5_put_22 (by decide) ?_
      exact ih (by omega) (by omega)
theorem c_put {r n at_ : Nat} {f : Nat → Int32} {s : Int32} (hd : 1 ≤ d) (hm : m r = some (iA 0 184 f)) (hn : f 180 = nI n) (hn2 : n < 180) (ha : at_ ≤ n) : CT w MX5_put d 0 0 [.ref r, .int (nI at_), .int s] m (xRet none (xu m r (iA 0 184 (upd (upd (putK f n at_) at_ s) 180 (nI (n + 1)))))) xN := by
  refine ct_intro (lv := [some (.ref r), some (.int (nI at_)), some (.int s), none]) 1 (by decide) rfl (Nat.le_of_ble_eq_true rfl) rfl ?_
  first | refine g_aload_n dX5_put_0 rfl rfl rfl ?_ | refine g_aload_nR dX5_put_0 rfl rfl rfl ?_ | refine g_aload_nN dX5_put_0 rfl rfl rfl ?_
  refine g_sipush (v := (nI 180)) dX5_put_1 rfl rfl ?_
  refine g_ialdn dX5_put_4 rfl (Or.inl hm) (j := 180) (by omega) (by omega) ?_
  rw [hn]
  refine g_ist3 dX5_put_5 rfl (by decide) (k := ?_)
  rw [← xu_self hm, xu_xu]
  have := l_put (w := w) (m := m) (r := r) (s := s) hd hn hn2 (P := xRet none (xu m r (iA 0 184 (upd (upd (putK f n at_) at_ s) 180 (nI (n + 1)))))) ⟨rfl, rfl⟩ n ha (Nat.le_refl _)
  rw [putK_0] at this
  exact this
end TW1
