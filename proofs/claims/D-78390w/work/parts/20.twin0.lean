/-! TWIN, leaves: signs, scanning -/
set_option maxRecDepth 100000
theorem xz_cast {w : XW} {y : XY} {X : String → XM → Prop} {d kc ks pc : Nat} {lv : List (Option Value)} {st : List Value} {m m2 : XM} {r r' : Option Value} (h : r' = r) (k : G w y (xZ w (xRet r m2) X) d kc ks pc lv st m) : G w y (xZ w (xRet r' m2) X) d kc ks pc lv st m := by
  subst h; exact k
theorem bo_no {b : Bool} (h : b = false) (h2 : b = true) : False := by rw [h] at h2; cases h2
def isBg (s : Int32) : Bool := decide (¬ 0 ≤ s ∧ ¬ s ≤ -10)
/-- a step of the depth, on the way to the right; to the left -/
def dst (s : Int32) : Int32 := if isBg s = true then 1 else if s = -11 then -1 else 0
def dsb (s : Int32) : Int32 := if s = -11 then 1 else if isBg s = true then -1 else 0
def rowEndF (f : Nat → Int32) (n : Nat) (dp : Int32) (k : Nat) : Nat :=
  if k < n then if 0 < dp then rowEndF f n (dp + dst (f k)) (k + 1) else if f k = -11 then k else if f k = -10 then k else rowEndF f n (dp + dst (f k)) (k + 1) else k
termination_by n - k
def endOfF (f : Nat → Int32) (n : Nat) (dp : Int32) (k : Nat) : Nat :=
  if k < n then if 0 < dp then endOfF f n (dp + dst (f k)) (k + 1) else if f k = -11 then k else endOfF f n (dp + dst (f k)) (k + 1) else k
termination_by n - k
/-- the begin's place and 1; 0: none -/
def beginOfF (f : Nat → Int32) (dp : Int32) : Nat → Nat
  | 0 => 0
  | k + 1 => if 0 < dp then beginOfF f (dp + dsb (f k)) k else if isBg (f k) = true then k + 1 else beginOfF f (dp + dsb (f k)) k
def rowStartF (f : Nat → Int32) (dp : Int32) : Nat → Nat
  | 0 => 0
  | k + 1 => if 0 < dp then rowStartF f (dp + dsb (f k)) k else if isBg (f k) = true then k + 1 else if f k = -10 then k + 1 else rowStartF f (dp + dsb (f k)) k
def itemEndF (f : Nat → Int32) (n k : Nat) : Nat := if isBg (f k) = true then endOfF f n 0 (k + 1) + 1 else k + 1
def itemStartF (f : Nat → Int32) (g : Nat) : Nat := if f (g - 1) = -11 then beginOfF f 0 (g - 1) - 1 else g - 1
def oneF (s : Int32) : Nat := if 0 < s then 1 else if isBg s = true then 1 else 0
def allF (f : Nat → Int32) (to c k : Nat) : Nat := if k < to then allF f to (c + oneF (f k)) (k + 1) else c
termination_by to - k
def levF (f : Nat → Int32) (to : Nat) (dp : Int32) (k : Nat) : Int32 := if k < to then levF f to (dp + dst (f k)) (k + 1) else dp
termination_by to - k
def deepF (f : Nat → Int32) (to : Nat) (dp mo : Int32) (k : Nat) : Int32 := if k < to then deepF f to (dp + dst (f k)) (if dp + dst (f k) ≤ mo then mo else dp + dst (f k)) (k + 1) else mo
termination_by to - k
theorem isBg_11 : isBg (-11) = false := by decide
theorem isBg_10 : isBg (-10) = false := by decide
section TW
variable {w : XW} {m : XM} {d : Nat}
theorem c_isBegin (hd : 1 ≤ d) (s : Int32) : CT w MX5_isBegin d 0 0 [.int s] m (xRet (some (.int (xB (isBg s)))) m) xN := by
  refine ct_intro (lv := [some (.int s)]) 0 (by decide) rfl (Nat.le_of_ble_eq_true rfl) rfl ?_
  refine g_iload_n dX5_isBegin_0 rfl rfl rfl ?_
  refine g_if_ge (tgt := 14) dX5_isBegin_1 (by decide) rfl (fun c_1 => ?_) (fun c_1 => ?_)
  · refine g_iconst (v := (0)) dX5_isBegin_14 rfl rfl ?_
    refine g_zreturn dX5_isBegin_15 rfl rfl ?_
    exact ⟨by simp [isBg, xB, *], rfl⟩
  · refine g_iload_n dX5_isBegin_4 rfl rfl rfl ?_
    refine g_bipush (v := (-10)) dX5_isBegin_5 rfl rfl ?_
    refine g_icmp_le (tgt := 14) dX5_isBegin_7 (by decide) rfl (fun c_7 => ?_) (fun c_7 => ?_)
    · refine g_iconst (v := (0)) dX5_isBegin_14 rfl rfl ?_
      refine g_zreturn dX5_isBegin_15 rfl rfl ?_
      exact ⟨by simp [isBg, xB, *], rfl⟩
    · refine g_iconst (v := (1)) dX5_isBegin_10 rfl rfl ?_
      refine g_goto (tgt := 15) dX5_isBegin_11 (by decide) ?_
      refine g_zreturn dX5_isBegin_15 rfl rfl ?_
      exact ⟨by simp [isBg, xB, *], rfl⟩
theorem l_rowEnd {r n : Nat} {f : Nat → Int32} {o1 : Option Value} (hd : 2 ≤ d) (hm : m r = some (iA 0 184 f)) (hn : f 180 = nI n) (hn2 : n ≤ 180) (ho : xc1 o1 = true) : ∀ t k dp, n - k < t → k ≤ n → G w MX5_rowEnd (xZ w (xRet (some (.int (nI (rowEndF f n dp k)))) m) xN) d 0 0 4 [some (.ref r), o1, some (.int dp), some (.int (nI k))] [] m := by
  intro t
  induction t with
  | zero => intro k dp h; omega
  | succ t ih =>
    intro k dp h hk
    refine g_iload_n dX5_rowEnd_4 rfl rfl rfl ?_
    first | refine g_aload_n dX5_rowEnd_5 rfl rfl rfl ?_ | refine g_aload_nR dX5_rowEnd_5 rfl rfl rfl ?_ | refine g_aload_nN dX5_rowEnd_5 rfl rfl rfl ?_
    refine g_sipush (v := (180)) dX5_rowEnd_6 rfl rfl ?_
    refine g_ialdn dX5_rowEnd_9 rfl (Or.inl hm) (j := 180) (by omega) (by omega) ?_
    rw [hn]
    refine g_icmpn_ge (tgt := 68) dX5_rowEnd_10 (by decide) rfl (by omega) (by omega) (fun c_10 => ?_) (fun c_10 => ?_)
    · refine g_iload_n dX5_rowEnd_68 rfl rfl rfl ?_
      refine g_ireturn dX5_rowEnd_69 rfl ?_
      refine ⟨?_, rfl⟩
      conv => lhs; rw [rowEndF]
      clear ih
      first | rw [if_neg (by omega)] | (simp [*]; done)
    · refine g_iload_n dX5_rowEnd_13 rfl rfl rfl ?_
      refine g_if_gt (tgt := 33) dX5_rowEnd_14 (by decide) rfl (fun c_14 => ?_) (fun c_14 => ?_)
      · refine g_iload_n dX5_rowEnd_33 rfl rfl rfl ?_
        first | refine g_aload_n dX5_rowEnd_34 rfl rfl rfl ?_ | refine g_aload_nR dX5_rowEnd_34 rfl rfl rfl ?_ | refine g_aload_nN dX5_rowEnd_34 rfl rfl rfl ?_
        refine g_iload_n dX5_rowEnd_35 rfl rfl rfl ?_
        refine g_ialdn dX5_rowEnd_36 rfl (Or.inl (by first | assumption | exact xu_eq _ _ _)) (by omega) (by omega) ?_
        refine g_staticP iS_X5_isBegin q2511 (c_isBegin (d := d - 1) (by omega) _) dX5_rowEnd_37 rfl rfl rfl (by first | exact Nat.le_of_ble_eq_true rfl | simp [Value.category, rf_cat]) (by omega) xN_no ?_
        refine g_ifB_eq (tgt := 47) dX5_rowEnd_40 (by decide) rfl (fun c_40 => ?_) (fun c_40 => ?_)
        · first | refine g_aload_n dX5_rowEnd_47 rfl rfl rfl ?_ | refine g_aload_nR dX5_rowEnd_47 rfl rfl rfl ?_ | refine g_aload_nN dX5_rowEnd_47 rfl rfl rfl ?_
          refine g_iload_n dX5_rowEnd_48 rfl rfl rfl ?_
          refine g_ialdn dX5_rowEnd_49 rfl (Or.inl (by first | assumption | exact xu_eq _ _ _)) (by omega) (by omega) ?_
          refine g_bipush (v := (-11)) dX5_rowEnd_50 rfl rfl ?_
          refine g_icmp_ne (tgt := 59) dX5_rowEnd_52 (by decide) rfl (fun c_52 => ?_) (fun c_52 => ?_)
          · refine g_iconst (v := (0)) dX5_rowEnd_59 rfl rfl ?_
            refine g_iadd dX5_rowEnd_60 rfl ?_
            refine g_ist2 dX5_rowEnd_61 rfl (by decide) (k := ?_)
            refine g_incn3 dX5_rowEnd_62 rfl (by decide) (k := ?_)
            refine g_goto (tgt := 4) dX5_rowEnd_65 (by decide) ?_
            refine xz_cast ?_ (ih (k + 1) _ (by omega) (by omega))
            conv => lhs; rw [rowEndF]
            clear ih
            first | contradiction | exact (bo_no (b := isBg (f k)) (by assumption) (by assumption)).elim | (simp [dst, isBg_11, *]; done) | (simp only [dst, isBg_11, *, reduceIte, Bool.false_eq_true]; done) | (simp_all [dst, isBg_11]; done)
          · refine g_iconst (v := (-1)) dX5_rowEnd_55 rfl rfl ?_
            refine g_goto (tgt := 60) dX5_rowEnd_56 (by decide) ?_
            refine g_iadd dX5_rowEnd_60 rfl ?_
            refine g_ist2 dX5_rowEnd_61 rfl (by decide) (k := ?_)
            refine g_incn3 dX5_rowEnd_62 rfl (by decide) (k := ?_)
            refine g_goto (tgt := 4) dX5_rowEnd_65 (by decide) ?_
            refine xz_cast ?_ (ih (k + 1) _ (by omega) (by omega))
            conv => lhs; rw [rowEndF]
            clear ih
            first | contradiction | exact (bo_no (b := isBg (f k)) (by assumption) (by assumption)).elim | (simp [dst, isBg_11, *]; done) | (simp only [dst, isBg_11, *, reduceIte, Bool.false_eq_true]; done) | (simp_all [dst, isBg_11]; done)
        · refine g_iconst (v := (1)) dX5_rowEnd_43 rfl rfl ?_
          refine g_goto (tgt := 60) dX5_rowEnd_44 (by decide) ?_
          refine g_iadd dX5_rowEnd_60 rfl ?_
          refine g_ist2 dX5_rowEnd_61 rfl (by decide) (k := ?_)
          refine g_incn3 dX5_rowEnd_62 rfl (by decide) (k := ?_)
          refine g_goto (tgt := 4) dX5_rowEnd_65 (by decide) ?_
          refine xz_cast ?_ (ih (k + 1) _ (by omega) (by omega))
          conv => lhs; rw [rowEndF]
          clear ih
          first | contradiction | exact (bo_no (b := isBg (f k)) (by assumption) (by assumption)).elim | (simp [dst, isBg_11, *]; done) | (simp only [dst, isBg_11, *, reduceIte, Bool.false_eq_true]; done) | (simp_all [dst, isBg_11]; done)
      · first | refine g_aload_n dX5_rowEnd_17 rfl rfl rfl ?_ | refine g_aload_nR dX5_rowEnd_17 rfl rfl rfl ?_ | refine g_aload_nN dX5_rowEnd_17 rfl rfl rfl ?_
        refine g_iload_n dX5_rowEnd_18 rfl rfl rfl ?_
        refine g_ialdn dX5_rowEnd_19 rfl (Or.inl (by first | assumption | exact xu_eq _ _ _)) (by omega) (by omega) ?_
        refine g_bipush (v := (-11)) dX5_rowEnd_20 rfl rfl ?_
        refine g_icmp_eq (tgt := 68) dX5_rowEnd_22 (by decide) rfl (fun c_22 => ?_) (fun c_22 => ?_)
        · refine g_iload_n dX5_rowEnd_68 rfl rfl rfl ?_
          refine g_ireturn dX5_rowEnd_69 rfl ?_
          refine ⟨?_, rfl⟩
          conv => lhs; rw [rowEndF]
          clear ih
          first | rw [if_neg (by omega)] | (simp [*]; done)
        · first | refine g_aload_n dX5_rowEnd_25 rfl rfl rfl ?_ | refine g_aload_nR dX5_rowEnd_25 rfl rfl rfl ?_ | refine g_aload_nN dX5_rowEnd_25 rfl rfl rfl ?_
          refine g_iload_n dX5_rowEnd_26 rfl rfl rfl ?_
          refine g_ialdn dX5_rowEnd_27 rfl (Or.inl (by first | assumption | exact xu_eq _ _ _)) (by omega) (by omega) ?_
          refine g_bipush (v := (-10)) dX5_rowEnd_28 rfl rfl ?_
          refine g_icmp_eq (tgt := 68) dX5_rowEnd_30 (by decide) rfl (fun c_30 => ?_) (fun c_30 => ?_)
          · refine g_iload_n dX5_rowEnd_68 rfl rfl rfl ?_
            refine g_ireturn dX5_rowEnd_69 rfl ?_
            refine ⟨?_, rfl⟩
            conv => lhs; rw [rowEndF]
            clear ih
            first | rw [if_neg (by omega)] | (simp [*]; done)
          · refine g_iload_n dX5_rowEnd_33 rfl rfl rfl ?_
            first | refine g_aload_n dX5_rowEnd_34 rfl rfl rfl ?_ | refine g_aload_nR dX5_rowEnd_34 rfl rfl rfl ?_ | refine g_aload_nN dX5_rowEnd_34 rfl rfl rfl ?_
            refine g_iload_n dX5_rowEnd_35 rfl rfl rfl ?_
            refine g_ialdn dX5_rowEnd_36 rfl (Or.inl (by first | assumption | exact xu_eq _ _ _)) (by omega) (by omega) ?_
            refine g_staticP iS_X5_isBegin q2511 (c_isBegin (d := d - 1) (by omega) _) dX5_rowEnd_37 rfl rfl rfl (by first | exact Nat.le_of_ble_eq_true rfl | simp [Value.category, rf_cat]) (by omega) xN_no ?_
            refine g_ifB_eq (tgt := 47) dX5_rowEnd_40 (by decide) rfl (fun c_40 => ?_) (fun c_40 => ?_)
            · first | refine g_aload_n dX5_rowEnd_47 rfl rfl rfl ?_ | refine g_aload_nR dX5_rowEnd_47 rfl rfl rfl ?_ | refine g_aload_nN dX5_rowEnd_47 rfl rfl rfl ?_
              refine g_iload_n dX5_rowEnd_48 rfl rfl rfl ?_
              refine g_ialdn dX5_rowEnd_49 rfl (Or.inl (by first | assumption | exact xu_eq _ _ _)) (by omega) (by omega) ?_
              refine g_bipush (v := (-11)) dX5_rowEnd_50 rfl rfl ?_
              refine g_icmp_ne (tgt := 59) dX5_rowEnd_52 (by decide) rfl (fun c_52 => ?_) (fun c_52 => ?_)
              · refine g_iconst (v := (0)) dX5_rowEnd_59 rfl rfl ?_
                refine g_iadd dX5_rowEnd_60 rfl ?_
                refine g_ist2 dX5_rowEnd_61 rfl (by decide) (k := ?_)
                refine g_incn3 dX5_rowEnd_62 rfl (by decide) (k := ?_)
                refine g_goto (tgt := 4) dX5_rowEnd_65 (by decide) ?_
                refine xz_cast ?_ (ih (k + 1) _ (by omega) (by omega))
                conv => lhs; rw [rowEndF]
                clear ih
                first | contradiction | exact (bo_no (b := isBg (f k)) (by assumption) (by assumption)).elim | (simp [dst, isBg_11, *]; done) | (simp only [dst, isBg_11, *, reduceIte, Bool.false_eq_true]; done) | (simp_all [dst, isBg_11]; done)
              · refine g_iconst (v := (-1)) dX5_rowEnd_55 rfl rfl ?_
                refine g_goto (tgt := 60) dX5_rowEnd_56 (by decide) ?_
                refine g_iadd dX5_rowEnd_60 rfl ?_
                refine g_ist2 dX5_rowEnd_61 rfl (by decide) (k := ?_)
                refine g_incn3 dX5_rowEnd_62 rfl (by decide) (k := ?_)
                refine g_goto (tgt := 4) dX5_rowEnd_65 (by decide) ?_
                refine xz_cast ?_ (ih (k + 1) _ (by omega) (by omega))
                conv => lhs; rw [rowEndF]
                clear ih
                first | contradiction | exact (bo_no (b := isBg (f k)) (by assumption) (by assumption)).elim | (simp [dst, isBg_11, *]; done) | (simp only [dst, isBg_11, *, reduceIte, Bool.false_eq_true]; done) | (simp_all [dst, isBg_11]; done)
            · refine g_iconst (v := (1)) dX5_rowEnd_43 rfl rfl ?_
              refine g_goto (tgt := 60) dX5_rowEnd_44 (by decide) ?_
              refine g_iadd dX5_rowEnd_60 rfl ?_
              refine g_ist2 dX5_rowEnd_61 rfl (by decide) (k := ?_)
              refine g_incn3 dX5_rowEnd_62 rfl (by decide) (k := ?_)
              refine g_goto (tgt := 4) dX5_rowEnd_65 (by decide) ?_
              refine xz_cast ?_ (ih (k + 1) _ (by omega) (by omega))
              conv => lhs; rw [rowEndF]
              clear ih
              first | contradiction | exact (bo_no (b := isBg (f k)) (by assumption) (by assumption)).elim | (simp [dst, isBg_11, *]; done) | (simp only [dst, isBg_11, *, reduceIte, Bool.false_eq_true]; done) | (simp_all [dst, isBg_11]; done)
theorem c_rowEnd {r n g : Nat} {f : Nat → Int32} (hd : 2 ≤ d) (hm : m r = some (iA 0 184 f)) (hn : f 180 = nI n) (hn2 : n ≤ 180) (hg : g ≤ n) : CT w MX5_rowEnd d 0 0 [.ref r, .int (nI g)] m (xRet (some (.int (nI (rowEndF f n 0 g)))) m) xN := by
  refine ct_intro (lv := [some (.ref r), some (.int (nI g)), none, none]) 2 (by decide) rfl (Nat.le_of_ble_eq_true rfl) rfl ?_
  refine g_iconst (v := (0)) dX5_rowEnd_0 rfl rfl ?_
  refine g_ist2 dX5_rowEnd_1 rfl (by decide) (k := ?_)
  refine g_iload_n dX5_rowEnd_2 rfl rfl rfl ?_
  refine g_ist3 dX5_rowEnd_3 rfl (by decide) (k := ?_)
  exact l_rowEnd hd hm hn hn2 rfl (n + 1) g 0 (by omega) hg
theorem l_endOf {r n N : Nat} {f : Nat → Int32} {o1 : Option Value} (hd : 2 ≤ d) (hm : m r = some (iA 0 N f)) (hN : N ≤ 1000) (hn2 : n ≤ N) (ho : xc1 o1 = true) : ∀ t k dp, n - k < t → k ≤ n → endOfF f n dp k < n → G w MX5_endOf (xZ w (xRet (some (.int (nI (endOfF f n dp k)))) m) xN) d 0 0 4 [some (.ref r), o1, some (.int dp), some (.int (nI k))] [] m := by
  intro t
  induction t with
  | zero => intro k dp h; omega
  | succ t ih =>
    intro k dp h hk he
    have hkn : k < n := by
      rcases Nat.lt_or_ge k n with z | z
      · exact z
      · rw [endOfF, if_neg (by omega)] at he; omega
    refine g_iload_n dX5_endOf_4 rfl rfl rfl ?_
    refine g_if_gt (tgt := 16) dX5_endOf_5 (by decide) rfl (fun c_5 => ?_) (fun c_5 => ?_)
    · refine g_iload_n dX5_endOf_16 rfl rfl rfl ?_
      first | refine g_aload_n dX5_endOf_17 rfl rfl rfl ?_ | refine g_aload_nR dX5_endOf_17 rfl rfl rfl ?_ | refine g_aload_nN dX5_endOf_17 rfl rfl rfl ?_
      refine g_iload_n dX5_endOf_18 rfl rfl rfl ?_
      refine g_ialdn dX5_endOf_19 rfl (Or.inl (by first | assumption | exact xu_eq _ _ _)) (by omega) (by omega) ?_
      refine g_staticP iS_X5_isBegin q2511 (c_isBegin (d := d - 1) (by omega) _) dX5_endOf_20 rfl rfl rfl (by first | exact Nat.le_of_ble_eq_true rfl | simp [Value.category, rf_cat]) (by omega) xN_no ?_
      refine g_ifB_eq (tgt := 30) dX5_endOf_23 (by decide) rfl (fun c_23 => ?_) (fun c_23 => ?_)
      · first | refine g_aload_n dX5_endOf_30 rfl rfl rfl ?_ | refine g_aload_nR dX5_endOf_30 rfl rfl rfl ?_ | refine g_aload_nN dX5_endOf_30 rfl rfl rfl ?_
        refine g_iload_n dX5_endOf_31 rfl rfl rfl ?_
        refine g_ialdn dX5_endOf_32 rfl (Or.inl (by first | assumption | exact xu_eq _ _ _)) (by omega) (by omega) ?_
        refine g_bipush (v := (-11)) dX5_endOf_33 rfl rfl ?_
        refine g_icmp_ne (tgt := 42) dX5_endOf_35 (by decide) rfl (fun c_35 => ?_) (fun c_35 => ?_)
        · refine g_iconst (v := (0)) dX5_endOf_42 rfl rfl ?_
          refine g_iadd dX5_endOf_43 rfl ?_
          refine g_ist2 dX5_endOf_44 rfl (by decide) (k := ?_)
          refine g_incn3 dX5_endOf_45 rfl (by decide) (k := ?_)
          refine g_goto (tgt := 4) dX5_endOf_48 (by decide) ?_
          refine xz_cast ?_ (ih (k + 1) _ (by omega) (by omega) ?_)
          · conv => lhs; rw [endOfF]
            clear ih
            first | contradiction | exact (bo_no (b := isBg (f k)) (by assumption) (by assumption)).elim | (simp [dst, isBg_11, *]; done) | (simp only [dst, isBg_11, *, reduceIte, Bool.false_eq_true]; done) | (simp_all [dst, isBg_11]; done) | (exfalso; simp_all; done)
          · clear ih
            rw [endOfF] at he
            first | contradiction | exact (bo_no (b := isBg (f k)) (by assumption) (by assumption)).elim | (simpa [dst, isBg_11, *] using he) | (exfalso; simp_all; done)
        · refine g_iconst (v := (-1)) dX5_endOf_38 rfl rfl ?_
          refine g_goto (tgt := 43) dX5_endOf_39 (by decide) ?_
          refine g_iadd dX5_endOf_43 rfl ?_
          refine g_ist2 dX5_endOf_44 rfl (by decide) (k := ?_)
          refine g_incn3 dX5_endOf_45 rfl (by decide) (k := ?_)
          refine g_goto (tgt := 4) dX5_endOf_48 (by decide) ?_
          refine xz_cast ?_ (ih (k + 1) _ (by omega) (by omega) ?_)
          · conv => lhs; rw [endOfF]
            clear ih
            first | contradiction | exact (bo_no (b := isBg (f k)) (by assumption) (by assumption)).elim | (simp [dst, isBg_11, *]; done) | (simp only [dst, isBg_11, *, reduceIte, Bool.false_eq_true]; done) | (simp_all [dst, isBg_11]; done) | (exfalso; simp_all; done)
          · clear ih
            rw [endOfF] at he
            first | contradiction | exact (bo_no (b := isBg (f k)) (by assumption) (by assumption)).elim | (simpa [dst, isBg_11, *] using he) | (exfalso; simp_all; done)
      · refine g_iconst (v := (1)) dX5_endOf_26 rfl rfl ?_
        refine g_goto (tgt := 43) dX5_endOf_27 (by decide) ?_
        refine g_iadd dX5_endOf_43 rfl ?_
        refine g_ist2 dX5_endOf_44 rfl (by decide) (k := ?_)
        refine g_incn3 dX5_endOf_45 rfl (by decide) (k := ?_)
        refine g_goto (tgt := 4) dX5_endOf_48 (by decide) ?_
        refine xz_cast ?_ (ih (k + 1) _ (by omega) (by omega) ?_)
        · conv => lhs; rw [endOfF]
          clear ih
          first | contradiction | exact (bo_no (b := isBg (f k)) (by assumption) (by assumption)).elim | (simp [dst, isBg_11, *]; done) | (simp only [dst, isBg_11, *, reduceIte, Bool.false_eq_true]; done) | (simp_all [dst, isBg_11]; done) | (exfalso; simp_all; done)
        · clear ih
          rw [endOfF] at he
          first | contradiction | exact (bo_no (b := isBg (f k)) (by assumption) (by assumption)).elim | (simpa [dst, isBg_11, *] using he) | (exfalso; simp_all; done)
    · first | refine g_aload_n dX5_endOf_8 rfl rfl rfl ?_ | refine g_aload_nR dX5_endOf_8 rfl rfl rfl ?_ | refine g_aload_nN dX5_endOf_8 rfl rfl rfl ?_
      refine g_iload_n dX5_endOf_9 rfl rfl rfl ?_
      refine g_ialdn dX5_endOf_10 rfl (Or.inl (by first | assumption | exact xu_eq _ _ _)) (by omega) (by omega) ?_
      refine g_bipush (v := (-11)) dX5_endOf_11 rfl rfl ?_
      refine g_icmp_eq (tgt := 51) dX5_endOf_13 (by decide) rfl (fun c_13 => ?_) (fun c_13 => ?_)
      · refine g_iload_n dX5_endOf_51 rfl rfl rfl ?_
        refine g_ireturn dX5_endOf_52 rfl ?_
        refine ⟨?_, rfl⟩
        conv => lhs; rw [endOfF]
        clear ih
        simp [*]
      · refine g_iload_n dX5_endOf_16 rfl rfl rfl ?_
        first | refine g_aload_n dX5_endOf_17 rfl rfl rfl ?_ | refine g_aload_nR dX5_endOf_17 rfl rfl rfl ?_ | refine g_aload_nN dX5_endOf_17 rfl rfl rfl ?_
        refine g_iload_n dX5_endOf_18 rfl rfl rfl ?_
        refine g_ialdn dX5_endOf_19 rfl (Or.inl (by first | assumption | exact xu_eq _ _ _)) (by omega) (by omega) ?_
        refine g_staticP iS_X5_isBegin q2511 (c_isBegin (d := d - 1) (by omega) _) dX5_endOf_20 rfl rfl rfl (by first | exact Nat.le_of_ble_eq_true rfl | simp [Value.category, rf_cat]) (by omega) xN_no ?_
        refine g_ifB_eq (tgt := 30) dX5_endOf_23 (by decide) rfl (fun c_23 => ?_) (fun c_23 => ?_)
        · first | refine g_aload_n dX5_endOf_30 rfl rfl rfl ?_ | refine g_aload_nR dX5_endOf_30 rfl rfl rfl ?_ | refine g_aload_nN dX5_endOf_30 rfl rfl rfl ?_
          refine g_iload_n dX5_endOf_31 rfl rfl rfl ?_
          refine g_ialdn dX5_endOf_32 rfl (Or.inl (by first | assumption | exact xu_eq _ _ _)) (by omega) (by omega) ?_
          refine g_bipush (v := (-11)) dX5_endOf_33 rfl rfl ?_
          refine g_icmp_ne (tgt := 42) dX5_endOf_35 (by decide) rfl (fun c_35 => ?_) (fun c_35 => ?_)
          · refine g_iconst (v := (0)) dX5_endOf_42 rfl rfl ?_
            refine g_iadd dX5_endOf_43 rfl ?_
            refine g_ist2 dX5_endOf_44 rfl (by decide) (k := ?_)
            refine g_incn3 dX5_endOf_45 rfl (by decide) (k := ?_)
            refine g_goto (tgt := 4) dX5_endOf_48 (by decide) ?_
            refine xz_cast ?_ (ih (k + 1) _ (by omega) (by omega) ?_)
            · conv => lhs; rw [endOfF]
              clear ih
              first | contradiction | exact (bo_no (b := isBg (f k)) (by assumption) (by assumption)).elim | (simp [dst, isBg_11, *]; done) | (simp only [dst, isBg_11, *, reduceIte, Bool.false_eq_true]; done) | (simp_all [dst, isBg_11]; done) | (exfalso; simp_all; done)
            · clear ih
              rw [endOfF] at he
              first | contradiction | exact (bo_no (b := isBg (f k)) (by assumption) (by assumption)).elim | (simpa [dst, isBg_11, *] using he) | (exfalso; simp_all; done)
          · refine g_iconst (v := (-1)) dX5_endOf_38 rfl rfl ?_
            refine g_goto (tgt := 43) dX5_endOf_39 (by decide) ?_
            refine g_iadd dX5_endOf_43 rfl ?_
            refine g_ist2 dX5_endOf_44 rfl (by decide) (k := ?_)
            refine g_incn3 dX5_endOf_45 rfl (by decide) (k := ?_)
            refine g_goto (tgt := 4) dX5_endOf_48 (by decide) ?_
            refine xz_cast ?_ (ih (k + 1) _ (by omega) (by omega) ?_)
            · conv => lhs; rw [endOfF]
              clear ih
              first | contradiction | exact (bo_no (b := isBg (f k)) (by assumption) (by assumption)).elim | (simp [dst, isBg_11, *]; done) | (simp only [dst, isBg_11, *, reduceIte, Bool.false_eq_true]; done) | (simp_all [dst, isBg_11]; done) | (exfalso; simp_all; done)
            · clear ih
              rw [endOfF] at he
              first | contradiction | exact (bo_no (b := isBg (f k)) (by assumption) (by assumption)).elim | (simpa [dst, isBg_11, *] using he) | (exfalso; simp_all; done)
        · refine g_iconst (v := (1)) dX5_endOf_26 rfl rfl ?_
          refine g_goto (tgt := 43) dX5_endOf_27 (by decide) ?_
          refine g_iadd dX5_endOf_43 rfl ?_
          refine g_ist2 dX5_endOf_44 rfl (by decide) (k := ?_)
          refine g_incn3 dX5_endOf_45 rfl (by decide) (k := ?_)
          refine g_goto (tgt := 4) dX5_endOf_48 (by decide) ?_
          refine xz_cast ?_ (ih (k + 1) _ (by omega) (by omega) ?_)
          · conv => lhs; rw [endOfF]
            clear ih
            first | contradiction | exact (bo_no (b := isBg (f k)) (by assumption) (by assumption)).elim | (simp [dst, isBg_11, *]; done) | (simp only [dst, isBg_11, *, reduceIte, Bool.false_eq_true]; done) | (simp_all [dst, isBg_11]; done) | (exfalso; simp_all; done)
          · clear ih
            rw [endOfF] at he
            first | contradiction | exact (bo_no (b := isBg (f k)) (by assumption) (by assumption)).elim | (simpa [dst, isBg_11, *] using he) | (exfalso; simp_all; done)
theorem c_endOf {r n N g : Nat} {f : Nat → Int32} (hd : 2 ≤ d) (hm : m r = some (iA 0 N f)) (hN : N ≤ 1000) (hn2 : n ≤ N) (hg : g ≤ n) (he : endOfF f n 0 g < n) : CT w MX5_endOf d 0 0 [.ref r, .int (nI g)] m (xRet (some (.int (nI (endOfF f n 0 g)))) m) xN := by
  refine ct_intro (lv := [some (.ref r), some (.int (nI g)), none, none]) 2 (by decide) rfl (Nat.le_of_ble_eq_true rfl) rfl ?_
  refine g_iconst (v := (0)) dX5_endOf_0 rfl rfl ?_
  refine g_ist2 dX5_endOf_1 rfl (by decide) (k := ?_)
  refine g_iload_n dX5_endOf_2 rfl rfl rfl ?_
  refine g_ist3 dX5_endOf_3 rfl (by decide) (k := ?_)
  exact l_endOf hd hm hN hn2 rfl (n + 1) g 0 (by omega) hg he
theorem nI_s1 (g : Nat) : nI g - 1 = nI g + (-1) := Int32.sub_eq_add_neg _ _
theorem nI_p1 (k : Nat) : nI (k + 1) + (-1) = nI k := pk_m1 k
theorem l_beginOf {r N : Nat} {f : Nat → Int32} {o1 : Option Value} (hd : 2 ≤ d) (hm : m r = some (iA 0 N f)) (hN : N ≤ 1000) (ho : xc1 o1 = true) : ∀ j dp, j ≤ N → beginOfF f dp j ≠ 0 → G w MX5_beginOf (xZ w (xRet (some (.int (nI (beginOfF f dp j - 1)))) m) xN) d 0 0 6 [some (.ref r), o1, some (.int dp), some (.int (nI j + (-1)))] [] m := by
  intro j
  induction j with
  | zero => intro dp h h0; exact absurd rfl h0
  | succ k ih =>
    intro dp hk h0
    rw [nI_p1]
    refine g_iload_n dX5_beginOf_6 rfl rfl rfl ?_
    refine g_if_gt (tgt := 19) dX5_beginOf_7 (by decide) rfl (fun c_7 => ?_) (fun c_7 => ?_)
    · refine g_iload_n dX5_beginOf_19 rfl rfl rfl ?_
      first | refine g_aload_n dX5_beginOf_20 rfl rfl rfl ?_ | refine g_aload_nR dX5_beginOf_20 rfl rfl rfl ?_ | refine g_aload_nN dX5_beginOf_20 rfl rfl rfl ?_
      refine g_iload_n dX5_beginOf_21 rfl rfl rfl ?_
      refine g_ialdn dX5_beginOf_22 rfl (Or.inl (by first | assumption | exact xu_eq _ _ _)) (by omega) (by omega) ?_
      refine g_bipush (v := (-11)) dX5_beginOf_23 rfl rfl ?_
      refine g_icmp_ne (tgt := 32) dX5_beginOf_25 (by decide) rfl (fun c_25 => ?_) (fun c_25 => ?_)
      · first | refine g_aload_n dX5_beginOf_32 rfl rfl rfl ?_ | refine g_aload_nR dX5_beginOf_32 rfl rfl rfl ?_ | refine g_aload_nN dX5_beginOf_32 rfl rfl rfl ?_
        refine g_iload_n dX5_beginOf_33 rfl rfl rfl ?_
        refine g_ialdn dX5_beginOf_34 rfl (Or.inl (by first | assumption | exact xu_eq _ _ _)) (by omega) (by omega) ?_
        refine g_staticP iS_X5_isBegin q2511 (c_isBegin (d := d - 1) (by omega) _) dX5_beginOf_35 rfl rfl rfl (by first | exact Nat.le_of_ble_eq_true rfl | simp [Value.category, rf_cat]) (by omega) xN_no ?_
        refine g_ifB_eq (tgt := 45) dX5_beginOf_38 (by decide) rfl (fun c_38 => ?_) (fun c_38 => ?_)
        · refine g_iconst (v := (0)) dX5_beginOf_45 rfl rfl ?_
          refine g_iadd dX5_beginOf_46 rfl ?_
          refine g_ist2 dX5_beginOf_47 rfl (by decide) (k := ?_)
          refine g_incm3 dX5_beginOf_48 rfl (by decide) (k := ?_)
          refine g_goto (tgt := 6) dX5_beginOf_51 (by decide) ?_
          refine xz_cast ?_ (ih _ (by omega) ?_)
          · conv => lhs; rw [beginOfF]
            clear ih
            first | contradiction | exact (bo_no (b := isBg (f k)) (by assumption) (by assumption)).elim | (simp [dsb, isBg_11, *]; done) | (simp_all [dsb, isBg_11]; done) | (exfalso; simp_all; done)
          · clear ih
            rw [beginOfF] at h0
            first | contradiction | exact (bo_no (b := isBg (f k)) (by assumption) (by assumption)).elim | (simp only [dsb, isBg_11, *, reduceIte, Bool.false_eq_true] at h0; exact h0) | (simpa [dsb, isBg_11, c_7, *] using h0) | (exfalso; simp_all; done)
        · refine g_iconst (v := (-1)) dX5_beginOf_41 rfl rfl ?_
          refine g_goto (tgt := 46) dX5_beginOf_42 (by decide) ?_
          refine g_iadd dX5_beginOf_46 rfl ?_
          refine g_ist2 dX5_beginOf_47 rfl (by decide) (k := ?_)
          refine g_incm3 dX5_beginOf_48 rfl (by decide) (k := ?_)
          refine g_goto (tgt := 6) dX5_beginOf_51 (by decide) ?_
          refine xz_cast ?_ (ih _ (by omega) ?_)
          · conv => lhs; rw [beginOfF]
            clear ih
            first | contradiction | exact (bo_no (b := isBg (f k)) (by assumption) (by assumption)).elim | (simp [dsb, isBg_11, *]; done) | (simp_all [dsb, isBg_11]; done) | (exfalso; simp_all; done)
          · clear ih
            rw [beginOfF] at h0
            first | contradiction | exact (bo_no (b := isBg (f k)) (by assumption) (by assumption)).elim | (simp only [dsb, isBg_11, *, reduceIte, Bool.false_eq_true] at h0; exact h0) | (simpa [dsb, isBg_11, c_7, *] using h0) | (exfalso; simp_all; done)
      · refine g_iconst (v := (1)) dX5_beginOf_28 rfl rfl ?_
        refine g_goto (tgt := 46) dX5_beginOf_29 (by decide) ?_
        refine g_iadd dX5_beginOf_46 rfl ?_
        refine g_ist2 dX5_beginOf_47 rfl (by decide) (k := ?_)
        refine g_incm3 dX5_beginOf_48 rfl (by decide) (k := ?_)
        refine g_goto (tgt := 6) dX5_beginOf_51 (by decide) ?_
        refine xz_cast ?_ (ih _ (by omega) ?_)
        · conv => lhs; rw [beginOfF]
          clear ih
          first | contradiction | exact (bo_no (b := isBg (f k)) (by assumption) (by assumption)).elim | (simp [dsb, isBg_11, *]; done) | (simp_all [dsb, isBg_11]; done) | (exfalso; simp_all; done)
        · clear ih
          rw [beginOfF] at h0
          first | contradiction | exact (bo_no (b := isBg (f k)) (by assumption) (by assumption)).elim | (simp only [dsb, isBg_11, *, reduceIte, Bool.false_eq_true] at h0; exact h0) | (simpa [dsb, isBg_11, c_7, *] using h0) | (exfalso; simp_all; done)
    · first | refine g_aload_n dX5_beginOf_10 rfl rfl rfl ?_ | refine g_aload_nR dX5_beginOf_10 rfl rfl rfl ?_ | refine g_aload_nN dX5_beginOf_10 rfl rfl rfl ?_
      refine g_iload_n dX5_beginOf_11 rfl rfl rfl ?_
      refine g_ialdn dX5_beginOf_12 rfl (Or.inl (by first | assumption | exact xu_eq _ _ _)) (by omega) (by omega) ?_
      refine g_staticP iS_X5_isBegin q2511 (c_isBegin (d := d - 1) (by omega) _) dX5_beginOf_13 rfl rfl rfl (by first | exact Nat.le_of_ble_eq_true rfl | simp [Value.category, rf_cat]) (by omega) xN_no ?_
      refine g_ifB_ne (tgt := 54) dX5_beginOf_16 (by decide) rfl (fun c_16 => ?_) (fun c_16 => ?_)
      · refine g_iload_n dX5_beginOf_54 rfl rfl rfl ?_
        refine g_ireturn dX5_beginOf_55 rfl ?_
        refine ⟨?_, rfl⟩
        conv => lhs; rw [beginOfF]
        clear ih
        simp [*]
      · refine g_iload_n dX5_beginOf_19 rfl rfl rfl ?_
        first | refine g_aload_n dX5_beginOf_20 rfl rfl rfl ?_ | refine g_aload_nR dX5_beginOf_20 rfl rfl rfl ?_ | refine g_aload_nN dX5_beginOf_20 rfl rfl rfl ?_
        refine g_iload_n dX5_beginOf_21 rfl rfl rfl ?_
        refine g_ialdn dX5_beginOf_22 rfl (Or.inl (by first | assumption | exact xu_eq _ _ _)) (by omega) (by omega) ?_
        refine g_bipush (v := (-11)) dX5_beginOf_23 rfl rfl ?_
        refine g_icmp_ne (tgt := 32) dX5_beginOf_25 (by decide) rfl (fun c_25 => ?_) (fun c_25 => ?_)
        · first | refine g_aload_n dX5_beginOf_32 rfl rfl rfl ?_ | refine g_aload_nR dX5_beginOf_32 rfl rfl rfl ?_ | refine g_aload_nN dX5_beginOf_32 rfl rfl rfl ?_
          refine g_iload_n dX5_beginOf_33 rfl rfl rfl ?_
          refine g_ialdn dX5_beginOf_34 rfl (Or.inl (by first | assumption | exact xu_eq _ _ _)) (by omega) (by omega) ?_
          refine g_staticP iS_X5_isBegin q2511 (c_isBegin (d := d - 1) (by omega) _) dX5_beginOf_35 rfl rfl rfl (by first | exact Nat.le_of_ble_eq_true rfl | simp [Value.category, rf_cat]) (by omega) xN_no ?_
          refine g_ifB_eq (tgt := 45) dX5_beginOf_38 (by decide) rfl (fun c_38 => ?_) (fun c_38 => ?_)
          · refine g_iconst (v := (0)) dX5_beginOf_45 rfl rfl ?_
            refine g_iadd dX5_beginOf_46 rfl ?_
            refine g_ist2 dX5_beginOf_47 rfl (by decide) (k := ?_)
            refine g_incm3 dX5_beginOf_48 rfl (by decide) (k := ?_)
            refine g_goto (tgt := 6) dX5_beginOf_51 (by decide) ?_
            refine xz_cast ?_ (ih _ (by omega) ?_)
            · conv => lhs; rw [beginOfF]
              clear ih
              first | contradiction | exact (bo_no (b := isBg (f k)) (by assumption) (by assumption)).elim | (simp [dsb, isBg_11, *]; done) | (simp_all [dsb, isBg_11]; done) | (exfalso; simp_all; done)
            · clear ih
              rw [beginOfF] at h0
              first | contradiction | exact (bo_no (b := isBg (f k)) (by assumption) (by assumption)).elim | (simp only [dsb, isBg_11, *, reduceIte, Bool.false_eq_true] at h0; exact h0) | (simpa [dsb, isBg_11, c_7, *] using h0) | (exfalso; simp_all; done)
          · refine g_iconst (v := (-1)) dX5_beginOf_41 rfl rfl ?_
            refine g_goto (tgt := 46) dX5_beginOf_42 (by decide) ?_
            refine g_iadd dX5_beginOf_46 rfl ?_
            refine g_ist2 dX5_beginOf_47 rfl (by decide) (k := ?_)
            refine g_incm3 dX5_beginOf_48 rfl (by decide) (k := ?_)
            refine g_goto (tgt := 6) dX5_beginOf_51 (by decide) ?_
            refine xz_cast ?_ (ih _ (by omega) ?_)
            · conv => lhs; rw [beginOfF]
              clear ih
              first | contradiction | exact (bo_no (b := isBg (f k)) (by assumption) (by assumption)).elim | (simp [dsb, isBg_11, *]; done) | (simp_all [dsb, isBg_11]; done) | (exfalso; simp_all; done)
            · clear ih
              rw [beginOfF] at h0
              first | contradiction | exact (bo_no (b := isBg (f k)) (by assumption) (by assumption)).elim | (simp only [dsb, isBg_11, *, reduceIte, Bool.false_eq_true] at h0; exact h0) | (simpa [dsb, isBg_11, c_7, *] using h0) | (exfalso; simp_all; done)
        · refine g_iconst (v := (1)) dX5_beginOf_28 rfl rfl ?_
          refine g_goto (tgt := 46) dX5_beginOf_29 (by decide) ?_
          refine g_iadd dX5_beginOf_46 rfl ?_
          refine g_ist2 dX5_beginOf_47 rfl (by decide) (k := ?_)
          refine g_incm3 dX5_beginOf_48 rfl (by decide) (k := ?_)
          refine g_goto (tgt := 6) dX5_beginOf_51 (by decide) ?_
          refine xz_cast ?_ (ih _ (by omega) ?_)
          · conv => lhs; rw [beginOfF]
            clear ih
            first | contradiction | exact (bo_no (b := isBg (f k)) (by assumption) (by assumption)).elim | (simp [dsb, isBg_11, *]; done) | (simp_all [dsb, isBg_11]; done) | (exfalso; simp_all; done)
          · clear ih
            rw [beginOfF] at h0
            first | contradiction | exact (bo_no (b := isBg (f k)) (by assumption) (by assumption)).elim | (simp only [dsb, isBg_11, *, reduceIte, Bool.false_eq_true] at h0; exact h0) | (simpa [dsb, isBg_11, c_7, *] using h0) | (exfalso; simp_all; done)
theorem c_beginOf {r N g : Nat} {f : Nat → Int32} (hd : 2 ≤ d) (hm : m r = some (iA 0 N f)) (hN : N ≤ 1000) (hg : g ≤ N) (h0 : beginOfF f 0 g ≠ 0) : CT w MX5_beginOf d 0 0 [.ref r, .int (nI g)] m (xRet (some (.int (nI (beginOfF f 0 g - 1)))) m) xN := by
  refine ct_intro (lv := [some (.ref r), some (.int (nI g)), none, none]) 2 (by decide) rfl (Nat.le_of_ble_eq_true rfl) rfl ?_
  refine g_iconst (v := (0)) dX5_beginOf_0 rfl rfl ?_
  refine g_ist2 dX5_beginOf_1 rfl (by decide) (k := ?_)
  refine g_iload_n dX5_beginOf_2 rfl rfl rfl ?_
  refine g_iconst (v := (1)) dX5_beginOf_3 rfl rfl ?_
  refine g_isub dX5_beginOf_4 rfl ?_
  rw [nI_s1]
  refine g_ist3 dX5_beginOf_5 rfl (by decide) (k := ?_)
  exact l_beginOf hd hm hN rfl g 0 hg h0
theorem nI_lt0 : nI 0 + (-1) < 0 := by decide
theorem l_rowStart {r N : Nat} {f : Nat → Int32} {o1 : Option Value} (hd : 2 ≤ d) (hm : m r = some (iA 0 N f)) (hN : N ≤ 1000) (ho : xc1 o1 = true) : ∀ j dp, j ≤ N → G w MX5_rowStart (xZ w (xRet (some (.int (nI (rowStartF f dp j)))) m) xN) d 0 0 6 [some (.ref r), o1, some (.int dp), some (.int (nI j + (-1)))] [] m := by
  intro j
  induction j with
  | zero =>
    intro dp hk
    refine g_iload_n dX5_rowStart_6 rfl rfl rfl ?_
    refine g_if_lt (tgt := 66) dX5_rowStart_7 (by decide) rfl (fun c_7 => ?_) (fun c_7 => absurd nI_lt0 c_7)
    refine g_iload_n dX5_rowStart_66 rfl rfl rfl ?_
    refine g_iconst (v := (1)) dX5_rowStart_67 rfl rfl ?_
    refine g_iadd dX5_rowStart_68 rfl ?_
    refine g_ireturn dX5_rowStart_69 rfl ?_
    exact ⟨show some (Value.int (nI 0)) = some (Value.int (nI 0 + (-1) + 1)) from by decide, rfl⟩
  | succ k ih =>
    intro dp hk
    rw [nI_p1]
    refine g_iload_n dX5_rowStart_6 rfl rfl rfl ?_
    refine g_if_lt (tgt := 66) dX5_rowStart_7 (by decide) rfl (fun c_7 => ?_) (fun c_7 => ?_)
    · exact absurd c_7 (nI_pos (by omega))
    · refine g_iload_n dX5_rowStart_10 rfl rfl rfl ?_
      refine g_if_gt (tgt := 31) dX5_rowStart_11 (by decide) rfl (fun c_11 => ?_) (fun c_11 => ?_)
      · refine g_iload_n dX5_rowStart_31 rfl rfl rfl ?_
        first | refine g_aload_n dX5_rowStart_32 rfl rfl rfl ?_ | refine g_aload_nR dX5_rowStart_32 rfl rfl rfl ?_ | refine g_aload_nN dX5_rowStart_32 rfl rfl rfl ?_
        refine g_iload_n dX5_rowStart_33 rfl rfl rfl ?_
        refine g_ialdn dX5_rowStart_34 rfl (Or.inl (by first | assumption | exact xu_eq _ _ _)) (by omega) (by omega) ?_
        refine g_bipush (v := (-11)) dX5_rowStart_35 rfl rfl ?_
        refine g_icmp_ne (tgt := 44) dX5_rowStart_37 (by decide) rfl (fun c_37 => ?_) (fun c_37 => ?_)
        · first | refine g_aload_n dX5_rowStart_44 rfl rfl rfl ?_ | refine g_aload_nR dX5_rowStart_44 rfl rfl rfl ?_ | refine g_aload_nN dX5_rowStart_44 rfl rfl rfl ?_
          refine g_iload_n dX5_rowStart_45 rfl rfl rfl ?_
          refine g_ialdn dX5_rowStart_46 rfl (Or.inl (by first | assumption | exact xu_eq _ _ _)) (by omega) (by omega) ?_
          refine g_staticP iS_X5_isBegin q2511 (c_isBegin (d := d - 1) (by omega) _) dX5_rowStart_47 rfl rfl rfl (by first | exact Nat.le_of_ble_eq_true rfl | simp [Value.category, rf_cat]) (by omega) xN_no ?_
          refine g_ifB_eq (tgt := 57) dX5_rowStart_50 (by decide) rfl (fun c_50 => ?_) (fun c_50 => ?_)
          · refine g_iconst (v := (0)) dX5_rowStart_57 rfl rfl ?_
            refine g_iadd dX5_rowStart_58 rfl ?_
            refine g_ist2 dX5_rowStart_59 rfl (by decide) (k := ?_)
            refine g_incm3 dX5_rowStart_60 rfl (by decide) (k := ?_)
            refine g_goto (tgt := 6) dX5_rowStart_63 (by decide) ?_
            refine xz_cast ?_ (ih _ (by omega))
            conv => lhs; rw [rowStartF]
            clear ih
            first | contradiction | exact (bo_no (b := isBg (f k)) (by assumption) (by assumption)).elim | (simp [dsb, isBg_11, *]; done) | (simp_all [dsb, isBg_11]; done) | (exfalso; simp_all; done)
          · refine g_iconst (v := (-1)) dX5_rowStart_53 rfl rfl ?_
            refine g_goto (tgt := 58) dX5_rowStart_54 (by decide) ?_
            refine g_iadd dX5_rowStart_58 rfl ?_
            refine g_ist2 dX5_rowStart_59 rfl (by decide) (k := ?_)
            refine g_incm3 dX5_rowStart_60 rfl (by decide) (k := ?_)
            refine g_goto (tgt := 6) dX5_rowStart_63 (by decide) ?_
            refine xz_cast ?_ (ih _ (by omega))
            conv => lhs; rw [rowStartF]
            clear ih
            first | contradiction | exact (bo_no (b := isBg (f k)) (by assumption) (by assumption)).elim | (simp [dsb, isBg_11, *]; done) | (simp_all [dsb, isBg_11]; done) | (exfalso; simp_all; done)
        · refine g_iconst (v := (1)) dX5_rowStart_40 rfl rfl ?_
          refine g_goto (tgt := 58) dX5_rowStart_41 (by decide) ?_
          refine g_iadd dX5_rowStart_58 rfl ?_
          refine g_ist2 dX5_rowStart_59 rfl (by decide) (k := ?_)
          refine g_incm3 dX5_rowStart_60 rfl (by decide) (k := ?_)
          refine g_goto (tgt := 6) dX5_rowStart_63 (by decide) ?_
          refine xz_cast ?_ (ih _ (by omega))
          conv => lhs; rw [rowStartF]
          clear ih
          first | contradiction | exact (bo_no (b := isBg (f k)) (by assumption) (by assumption)).elim | (simp [dsb, isBg_11, *]; done) | (simp_all [dsb, isBg_11]; done) | (exfalso; simp_all; done)
      · first | refine g_aload_n dX5_rowStart_14 rfl rfl rfl ?_ | refine g_aload_nR dX5_rowStart_14 rfl rfl rfl ?_ | refine g_aload_nN dX5_rowStart_14 rfl rfl rfl ?_
        refine g_iload_n dX5_rowStart_15 rfl rfl rfl ?_
        refine g_ialdn dX5_rowStart_16 rfl (Or.inl (by first | assumption | exact xu_eq _ _ _)) (by omega) (by omega) ?_
        refine g_staticP iS_X5_isBegin q2511 (c_isBegin (d := d - 1) (by omega) _) dX5_rowStart_17 rfl rfl rfl (by first | exact Nat.le_of_ble_eq_true rfl | simp [Value.category, rf_cat]) (by omega) xN_no ?_
        refine g_ifB_ne (tgt := 66) dX5_rowStart_20 (by decide) rfl (fun c_20 => ?_) (fun c_20 => ?_)
        · refine g_iload_n dX5_rowStart_66 rfl rfl rfl ?_
          refine g_iconst (v := nI 1) dX5_rowStart_67 rfl rfl ?_
          refine g_iaddn dX5_rowStart_68 rfl ?_
          refine g_ireturn dX5_rowStart_69 rfl ⟨?_, rfl⟩
          conv => lhs; rw [rowStartF]
          clear ih
          simp [*]
        · first | refine g_aload_n dX5_rowStart_23 rfl rfl rfl ?_ | refine g_aload_nR dX5_rowStart_23 rfl rfl rfl ?_ | refine g_aload_nN dX5_rowStart_23 rfl rfl rfl ?_
          refine g_iload_n dX5_rowStart_24 rfl rfl rfl ?_
          refine g_ialdn dX5_rowStart_25 rfl (Or.inl (by first | assumption | exact xu_eq _ _ _)) (by omega) (by omega) ?_
          refine g_bipush (v := (-10)) dX5_rowStart_26 rfl rfl ?_
          refine g_icmp_eq (tgt := 66) dX5_rowStart_28 (by decide) rfl (fun c_28 => ?_) (fun c_28 => ?_)
          · refine g_iload_n dX5_rowStart_66 rfl rfl rfl ?_
            refine g_iconst (v := nI 1) dX5_rowStart_67 rfl rfl ?_
            refine g_iaddn dX5_rowStart_68 rfl ?_
            refine g_ireturn dX5_rowStart_69 rfl ⟨?_, rfl⟩
            conv => lhs; rw [rowStartF]
            clear ih
            simp [*]
          · refine g_iload_n dX5_rowStart_31 rfl rfl rfl ?_
            first | refine g_aload_n dX5_rowStart_32 rfl rfl rfl ?_ | refine g_aload_nR dX5_rowStart_32 rfl rfl rfl ?_ | refine g_aload_nN dX5_rowStart_32 rfl rfl rfl ?_
            refine g_iload_n dX5_rowStart_33 rfl rfl rfl ?_
            refine g_ialdn dX5_rowStart_34 rfl (Or.inl (by first | assumption | exact xu_eq _ _ _)) (by omega) (by omega) ?_
            refine g_bipush (v := (-11)) dX5_rowStart_35 rfl rfl ?_
            refine g_icmp_ne (tgt := 44) dX5_rowStart_37 (by decide) rfl (fun c_37 => ?_) (fun c_37 => ?_)
            · first | refine g_aload_n dX5_rowStart_44 rfl rfl rfl ?_ | refine g_aload_nR dX5_rowStart_44 rfl rfl rfl ?_ | refine g_aload_nN dX5_rowStart_44 rfl rfl rfl ?_
              refine g_iload_n dX5_rowStart_45 rfl rfl rfl ?_
              refine g_ialdn dX5_rowStart_46 rfl (Or.inl (by first | assumption | exact xu_eq _ _ _)) (by omega) (by omega) ?_
              refine g_staticP iS_X5_isBegin q2511 (c_isBegin (d := d - 1) (by omega) _) dX5_rowStart_47 rfl rfl rfl (by first | exact Nat.le_of_ble_eq_true rfl | simp [Value.category, rf_cat]) (by omega) xN_no ?_
              refine g_ifB_eq (tgt := 57) dX5_rowStart_50 (by decide) rfl (fun c_50 => ?_) (fun c_50 => ?_)
              · refine g_iconst (v := (0)) dX5_rowStart_57 rfl rfl ?_
                refine g_iadd dX5_rowStart_58 rfl ?_
                refine g_ist2 dX5_rowStart_59 rfl (by decide) (k := ?_)
                refine g_incm3 dX5_rowStart_60 rfl (by decide) (k := ?_)
                refine g_goto (tgt := 6) dX5_rowStart_63 (by decide) ?_
                refine xz_cast ?_ (ih _ (by omega))
                conv => lhs; rw [rowStartF]
                clear ih
                first | contradiction | exact (bo_no (b := isBg (f k)) (by assumption) (by assumption)).elim | (simp [dsb, isBg_11, *]; done) | (simp_all [dsb, isBg_11]; done) | (exfalso; simp_all; done)
              · refine g_iconst (v := (-1)) dX5_rowStart_53 rfl rfl ?_
                refine g_goto (tgt := 58) dX5_rowStart_54 (by decide) ?_
                refine g_iadd dX5_rowStart_58 rfl ?_
                refine g_ist2 dX5_rowStart_59 rfl (by decide) (k := ?_)
                refine g_incm3 dX5_rowStart_60 rfl (by decide) (k := ?_)
                refine g_goto (tgt := 6) dX5_rowStart_63 (by decide) ?_
                refine xz_cast ?_ (ih _ (by omega))
                conv => lhs; rw [rowStartF]
                clear ih
                first | contradiction | exact (bo_no (b := isBg (f k)) (by assumption) (by assumption)).elim | (simp [dsb, isBg_11, *]; done) | (simp_all [dsb, isBg_11]; done) | (exfalso; simp_all; done)
            · refine g_iconst (v := (1)) dX5_rowStart_40 rfl rfl ?_
              refine g_goto (tgt := 58) dX5_rowStart_41 (by decide) ?_
              refine g_iadd dX5_rowStart_58 rfl ?_
              refine g_ist2 dX5_rowStart_59 rfl (by decide) (k := ?_)
              refine g_incm3 dX5_rowStart_60 rfl (by decide) (k := ?_)
              refine g_goto (tgt := 6) dX5_rowStart_63 (by decide) ?_
              refine xz_cast ?_ (ih _ (by omega))
              conv => lhs; rw [rowStartF]
              clear ih
              first | contradiction | exact (bo_no (b := isBg (f k)) (by assumption) (by assumption)).elim | (simp [dsb, isBg_11, *]; done) | (simp_all [dsb, isBg_11]; done) | (exfalso; simp_all; done)
theorem c_rowStart {r N g : Nat} {f : Nat → Int32} (hd : 2 ≤ d) (hm : m r = some (iA 0 N f)) (hN : N ≤ 1000) (hg : g ≤ N) : CT w MX5_rowStart d 0 0 [.ref r, .int (nI g)] m (xRet (some (.int (nI (rowStartF f 0 g)))) m) xN := by
  refine ct_intro (lv := [some (.ref r), some (.int (nI g)), none, none]) 2 (by decide) rfl (Nat.le_of_ble_eq_true rfl) rfl ?_
  refine g_iconst (v := (0)) dX5_rowStart_0 rfl rfl ?_
  refine g_ist2 dX5_rowStart_1 rfl (by decide) (k := ?_)
  refine g_iload_n dX5_rowStart_2 rfl rfl rfl ?_
  refine g_iconst (v := (1)) dX5_rowStart_3 rfl rfl ?_
  refine g_isub dX5_rowStart_4 rfl ?_
  rw [nI_s1]
  refine g_ist3 dX5_rowStart_5 rfl (by decide) (k := ?_)
  exact l_rowStart hd hm hN rfl g 0 hg
theorem c_itemStart {r N g : Nat} {f : Nat → Int32} (hd : 3 ≤ d) (hm : m r = some (iA 0 N f)) (hN : N ≤ 1000) (hg : g ≤ N) (h1 : 1 ≤ g) (h0 : f (g - 1) = -11 → beginOfF f 0 (g - 1) ≠ 0) : CT w MX5_itemStart d 0 0 [.ref r, .int (nI g)] m (xRet (some (.int (nI (itemStartF f g)))) m) xN := by
  refine ct_intro (lv := [some (.ref r), some (.int (nI g))]) 0 (by decide) rfl (Nat.le_of_ble_eq_true rfl) rfl ?_
  first | refine g_aload_n dX5_itemStart_0 rfl rfl rfl ?_ | refine g_aload_nR dX5_itemStart_0 rfl rfl rfl ?_ | refine g_aload_nN dX5_itemStart_0 rfl rfl rfl ?_
  refine g_iload_n dX5_itemStart_1 rfl rfl rfl ?_
  refine g_iconst (v := (nI 1)) dX5_itemStart_2 rfl rfl ?_
  refine g_isubn dX5_itemStart_3 rfl (by omega) ?_
  refine g_ialdn dX5_itemStart_4 rfl (Or.inl (by first | assumption | exact xu_eq _ _ _)) (by omega) (by omega) ?_
  refine g_bipush (v := (-11)) dX5_itemStart_5 rfl rfl ?_
  refine g_icmp_ne (tgt := 20) dX5_itemStart_7 (by decide) rfl (fun c_7 => ?_) (fun c_7 => ?_)
  · refine g_iload_n dX5_itemStart_20 rfl rfl rfl ?_
    refine g_iconst (v := (nI 1)) dX5_itemStart_21 rfl rfl ?_
    refine g_isubn dX5_itemStart_22 rfl (by omega) ?_
    refine g_ireturn dX5_itemStart_23 rfl ?_
    refine ⟨?_, rfl⟩
    simp [itemStartF, *]
  · first | refine g_aload_n dX5_itemStart_10 rfl rfl rfl ?_ | refine g_aload_nR dX5_itemStart_10 rfl rfl rfl ?_ | refine g_aload_nN dX5_itemStart_10 rfl rfl rfl ?_
    refine g_iload_n dX5_itemStart_11 rfl rfl rfl ?_
    refine g_iconst (v := (nI 1)) dX5_itemStart_12 rfl rfl ?_
    refine g_isubn dX5_itemStart_13 rfl (by omega) ?_
    refine g_staticP iS_X5_beginOf q2575 (c_beginOf (d := d - 1) (by omega) hm hN (by omega) (h0 (by assumption))) dX5_itemStart_14 rfl rfl rfl (by first | exact Nat.le_of_ble_eq_true rfl | simp [Value.category, rf_cat]) (by omega) xN_no ?_
    refine g_goto (tgt := 23) dX5_itemStart_17 (by decide) ?_
    refine g_ireturn dX5_itemStart_23 rfl ?_
    refine ⟨?_, rfl⟩
    simp [itemStartF, *]
theorem c_itemEnd {r n N g : Nat} {f : Nat → Int32} (hd : 3 ≤ d) (hm : m r = some (iA 0 N f)) (hN : N ≤ 1000) (hn2 : n ≤ N) (hg : g < n) (he : isBg (f g) = true → endOfF f n 0 (g + 1) < n) : CT w MX5_itemEnd d 0 0 [.ref r, .int (nI g)] m (xRet (some (.int (nI (itemEndF f n g)))) m) xN := by
  refine ct_intro (lv := [some (.ref r), some (.int (nI g))]) 0 (by decide) rfl (Nat.le_of_ble_eq_true rfl) rfl ?_
  first | refine g_aload_n dX5_itemEnd_0 rfl rfl rfl ?_ | refine g_aload_nR dX5_itemEnd_0 rfl rfl rfl ?_ | refine g_aload_nN dX5_itemEnd_0 rfl rfl rfl ?_
  refine g_iload_n dX5_itemEnd_1 rfl rfl rfl ?_
  refine g_ialdn dX5_itemEnd_2 rfl (Or.inl (by first | assumption | exact xu_eq _ _ _)) (by omega) (by omega) ?_
  refine g_staticP iS_X5_isBegin q2511 (c_isBegin (d := d - 1) (by omega) _) dX5_itemEnd_3 rfl rfl rfl (by first | exact Nat.le_of_ble_eq_true rfl | simp [Value.category, rf_cat]) (by omega) xN_no ?_
  refine g_ifB_eq (tgt := 21) dX5_itemEnd_6 (by decide) rfl (fun c_6 => ?_) (fun c_6 => ?_)
  · refine g_iload_n dX5_itemEnd_21 rfl rfl rfl ?_
    refine g_iconst (v := (nI 1)) dX5_itemEnd_22 rfl rfl ?_
    refine g_iaddn dX5_itemEnd_23 rfl ?_
    refine g_ireturn dX5_itemEnd_24 rfl ?_
    refine ⟨?_, rfl⟩
    simp [itemEndF, *]
  · first | refine g_aload_n dX5_itemEnd_9 rfl rfl rfl ?_ | refine g_aload_nR dX5_itemEnd_9 rfl rfl rfl ?_ | refine g_aload_nN dX5_itemEnd_9 rfl rfl rfl ?_
    refine g_iload_n dX5_itemEnd_10 rfl rfl rfl ?_
    refine g_iconst (v := (nI 1)) dX5_itemEnd_11 rfl rfl ?_
    refine g_iaddn dX5_itemEnd_12 rfl ?_
    refine g_staticP iS_X5_endOf q2545 (c_endOf (d := d - 1) (by omega) hm hN hn2 (by omega) (he (by assumption))) dX5_itemEnd_13 rfl rfl rfl (by first | exact Nat.le_of_ble_eq_true rfl | simp [Value.category, rf_cat]) (by omega) xN_no ?_
    refine g_iconst (v := (nI 1)) dX5_itemEnd_16 rfl rfl ?_
    refine g_iaddn dX5_itemEnd_17 rfl ?_
    refine g_goto (tgt := 24) dX5_itemEnd_18 (by decide) ?_
    refine g_ireturn dX5_itemEnd_24 rfl ?_
    refine ⟨?_, rfl⟩
    simp [itemEndF, *]
theorem l_allIn {r N to : Nat} {f : Nat → Int32} {o1 : Option Value} (hd : 2 ≤ d) (hm : m r = some (iA 0 N f)) (hN : N ≤ 1000) (ht : to ≤ N) (ho : xc1 o1 = true) : ∀ t k c, to - k < t → k ≤ to → G w MX5_allIn (xZ w (xRet (some (.int (nI (allF f to c k)))) m) xN) d 0 0 5 [some (.ref r), o1, some (.int (nI to)), some (.int (nI c)), some (.int (nI k))] [] m := by
  intro t
  induction t with
  | zero => intro k c h; omega
  | succ t ih =>
    intro k c h hk
    refine g_iload dX5_allIn_5 rfl rfl ?_
    refine g_iload_n dX5_allIn_7 rfl rfl rfl ?_
    refine g_icmpn_ge (tgt := 42) dX5_allIn_8 (by decide) rfl (by omega) (by omega) (fun c_8 => ?_) (fun c_8 => ?_)
    · refine g_iload_n dX5_allIn_42 rfl rfl rfl ?_
      refine g_ireturn dX5_allIn_43 rfl ?_
      refine ⟨?_, rfl⟩
      conv => lhs; rw [allF]
      rw [if_neg (by omega)]
    · refine g_iload_n dX5_allIn_11 rfl rfl rfl ?_
      first | refine g_aload_n dX5_allIn_12 rfl rfl rfl ?_ | refine g_aload_nR dX5_allIn_12 rfl rfl rfl ?_ | refine g_aload_nN dX5_allIn_12 rfl rfl rfl ?_
      refine g_iload dX5_allIn_13 rfl rfl ?_
      refine g_ialdn dX5_allIn_15 rfl (Or.inl (by first | assumption | exact xu_eq _ _ _)) (by omega) (by omega) ?_
      refine g_if_gt (tgt := 29) dX5_allIn_16 (by decide) rfl (fun c_16 => ?_) (fun c_16 => ?_)
      · refine g_iconst (v := (nI 1)) dX5_allIn_29 rfl rfl ?_
        refine g_goto (tgt := 34) dX5_allIn_30 (by decide) ?_
        refine g_iaddn dX5_allIn_34 rfl ?_
        refine g_ist3 dX5_allIn_35 rfl (by decide) (k := ?_)
        refine g_incn4 dX5_allIn_36 rfl (by decide) (k := ?_)
        refine g_goto (tgt := 5) dX5_allIn_39 (by decide) ?_
        refine xz_cast ?_ (ih (k + 1) _ (by omega) (by omega))
        conv => lhs; rw [allF]
        clear ih
        first | contradiction | exact (bo_no (b := isBg (f k)) (by assumption) (by assumption)).elim | (simp [oneF, *]; done)
      · first | refine g_aload_n dX5_allIn_19 rfl rfl rfl ?_ | refine g_aload_nR dX5_allIn_19 rfl rfl rfl ?_ | refine g_aload_nN dX5_allIn_19 rfl rfl rfl ?_
        refine g_iload dX5_allIn_20 rfl rfl ?_
        refine g_ialdn dX5_allIn_22 rfl (Or.inl (by first | assumption | exact xu_eq _ _ _)) (by omega) (by omega) ?_
        refine g_staticP iS_X5_isBegin q2511 (c_isBegin (d := d - 1) (by omega) _) dX5_allIn_23 rfl rfl rfl (by first | exact Nat.le_of_ble_eq_true rfl | simp [Value.category, rf_cat]) (by omega) xN_no ?_
        refine g_ifB_eq (tgt := 33) dX5_allIn_26 (by decide) rfl (fun c_26 => ?_) (fun c_26 => ?_)
        · refine g_iconst (v := (nI 0)) dX5_allIn_33 rfl rfl ?_
          refine g_iaddn dX5_allIn_34 rfl ?_
          refine g_ist3 dX5_allIn_35 rfl (by decide) (k := ?_)
          refine g_incn4 dX5_allIn_36 rfl (by decide) (k := ?_)
          refine g_goto (tgt := 5) dX5_allIn_39 (by decide) ?_
          refine xz_cast ?_ (ih (k + 1) _ (by omega) (by omega))
          conv => lhs; rw [allF]
          clear ih
          first | contradiction | exact (bo_no (b := isBg (f k)) (by assumption) (by assumption)).elim | (simp [oneF, *]; done)
        · refine g_iconst (v := (nI 1)) dX5_allIn_29 rfl rfl ?_
          refine g_goto (tgt := 34) dX5_allIn_30 (by decide) ?_
          refine g_iaddn dX5_allIn_34 rfl ?_
          refine g_ist3 dX5_allIn_35 rfl (by decide) (k := ?_)
          refine g_incn4 dX5_allIn_36 rfl (by decide) (k := ?_)
          refine g_goto (tgt := 5) dX5_allIn_39 (by decide) ?_
          refine xz_cast ?_ (ih (k + 1) _ (by omega) (by omega))
          conv => lhs; rw [allF]
          clear ih
          first | contradiction | exact (bo_no (b := isBg (f k)) (by assumption) (by assumption)).elim | (simp [oneF, *]; done)
theorem c_allIn {r N g to : Nat} {f : Nat → Int32} (hd : 2 ≤ d) (hm : m r = some (iA 0 N f)) (hN : N ≤ 1000) (ht : to ≤ N) (hg : g ≤ to) : CT w MX5_allIn d 0 0 [.ref r, .int (nI g), .int (nI to)] m (xRet (some (.int (nI (allF f to 0 g)))) m) xN := by
  refine ct_intro (lv := [some (.ref r), some (.int (nI g)), some (.int (nI to)), none, none]) 2 (by decide) rfl (Nat.le_of_ble_eq_true rfl) rfl ?_
  refine g_iconst (v := (nI 0)) dX5_allIn_0 rfl rfl ?_
  refine g_ist3 dX5_allIn_1 rfl (by decide) (k := ?_)
  refine g_iload_n dX5_allIn_2 rfl rfl rfl ?_
  refine g_ist4 dX5_allIn_3 rfl (by decide) (k := ?_)
  exact l_allIn hd hm hN ht rfl (to + 1) g 0 (by omega) hg
theorem l_levelAt {r N to : Nat} {f : Nat → Int32} (hd : 2 ≤ d) (hm : m r = some (iA 0 N f)) (hN : N ≤ 1000) (ht : to ≤ N) : ∀ t k dp, to - k < t → k ≤ to → G w MX5_levelAt (xZ w (xRet (some (.int (levF f to dp k))) m) xN) d 0 0 4 [some (.ref r), some (.int (nI to)), some (.int dp), some (.int (nI k))] [] m := by
  intro t
  induction t with
  | zero => intro k dp h; omega
  | succ t ih =>
    intro k dp h hk
    refine g_iload_n dX5_levelAt_4 rfl rfl rfl ?_
    refine g_iload_n dX5_levelAt_5 rfl rfl rfl ?_
    refine g_icmpn_ge (tgt := 44) dX5_levelAt_6 (by decide) rfl (by omega) (by omega) (fun c_6 => ?_) (fun c_6 => ?_)
    · refine g_iload_n dX5_levelAt_44 rfl rfl rfl ?_
      refine g_ireturn dX5_levelAt_45 rfl ?_
      refine ⟨?_, rfl⟩
      conv => lhs; rw [levF]
      rw [if_neg (by omega)]
    · refine g_iload_n dX5_levelAt_9 rfl rfl rfl ?_
      first | refine g_aload_n dX5_levelAt_10 rfl rfl rfl ?_ | refine g_aload_nR dX5_levelAt_10 rfl rfl rfl ?_ | refine g_aload_nN dX5_levelAt_10 rfl rfl rfl ?_
      refine g_iload_n dX5_levelAt_11 rfl rfl rfl ?_
      refine g_ialdn dX5_levelAt_12 rfl (Or.inl (by first | assumption | exact xu_eq _ _ _)) (by omega) (by omega) ?_
      refine g_staticP iS_X5_isBegin q2511 (c_isBegin (d := d - 1) (by omega) _) dX5_levelAt_13 rfl rfl rfl (by first | exact Nat.le_of_ble_eq_true rfl | simp [Value.category, rf_cat]) (by omega) xN_no ?_
      refine g_ifB_eq (tgt := 23) dX5_levelAt_16 (by decide) rfl (fun c_16 => ?_) (fun c_16 => ?_)
      · first | refine g_aload_n dX5_levelAt_23 rfl rfl rfl ?_ | refine g_aload_nR dX5_levelAt_23 rfl rfl rfl ?_ | refine g_aload_nN dX5_levelAt_23 rfl rfl rfl ?_
        refine g_iload_n dX5_levelAt_24 rfl rfl rfl ?_
        refine g_ialdn dX5_levelAt_25 rfl (Or.inl (by first | assumption | exact xu_eq _ _ _)) (by omega) (by omega) ?_
        refine g_bipush (v := (-11)) dX5_levelAt_26 rfl rfl ?_
        refine g_icmp_ne (tgt := 35) dX5_levelAt_28 (by decide) rfl (fun c_28 => ?_) (fun c_28 => ?_)
        · refine g_iconst (v := (0)) dX5_levelAt_35 rfl rfl ?_
          refine g_iadd dX5_levelAt_36 rfl ?_
          refine g_ist2 dX5_levelAt_37 rfl (by decide) (k := ?_)
          refine g_incn3 dX5_levelAt_38 rfl (by decide) (k := ?_)
          refine g_goto (tgt := 4) dX5_levelAt_41 (by decide) ?_
          refine xz_cast ?_ (ih (k + 1) _ (by omega) (by omega))
          conv => lhs; rw [levF]
          clear ih
          first | contradiction | exact (bo_no (b := isBg (f k)) (by assumption) (by assumption)).elim | (simp [dst, isBg_11, *]; done) | (simp only [dst, isBg_11, *, reduceIte, Bool.false_eq_true]; done) | (simp_all [dst, isBg_11]; done) | (exfalso; simp_all; done)
        · refine g_iconst (v := (-1)) dX5_levelAt_31 rfl rfl ?_
          refine g_goto (tgt := 36) dX5_levelAt_32 (by decide) ?_
          refine g_iadd dX5_levelAt_36 rfl ?_
          refine g_ist2 dX5_levelAt_37 rfl (by decide) (k := ?_)
          refine g_incn3 dX5_levelAt_38 rfl (by decide) (k := ?_)
          refine g_goto (tgt := 4) dX5_levelAt_41 (by decide) ?_
          refine xz_cast ?_ (ih (k + 1) _ (by omega) (by omega))
          conv => lhs; rw [levF]
          clear ih
          first | contradiction | exact (bo_no (b := isBg (f k)) (by assumption) (by assumption)).elim | (simp [dst, isBg_11, *]; done) | (simp only [dst, isBg_11, *, reduceIte, Bool.false_eq_true]; done) | (simp_all [dst, isBg_11]; done) | (exfalso; simp_all; done)
      · refine g_iconst (v := (1)) dX5_levelAt_19 rfl rfl ?_
        refine g_goto (tgt := 36) dX5_levelAt_20 (by decide) ?_
        refine g_iadd dX5_levelAt_36 rfl ?_
        refine g_ist2 dX5_levelAt_37 rfl (by decide) (k := ?_)
        refine g_incn3 dX5_levelAt_38 rfl (by decide) (k := ?_)
        refine g_goto (tgt := 4) dX5_levelAt_41 (by decide) ?_
        refine xz_cast ?_ (ih (k + 1) _ (by omega) (by omega))
        conv => lhs; rw [levF]
        clear ih
        first | contradiction | exact (bo_no (b := isBg (f k)) (by assumption) (by assumption)).elim | (simp [dst, isBg_11, *]; done) | (simp only [dst, isBg_11, *, reduceIte, Bool.false_eq_true]; done) | (simp_all [dst, isBg_11]; done) | (exfalso; simp_all; done)
theorem c_levelAt {r N to : Nat} {f : Nat → Int32} (hd : 2 ≤ d) (hm : m r = some (iA 0 N f)) (hN : N ≤ 1000) (ht : to ≤ N) : CT w MX5_levelAt d 0 0 [.ref r, .int (nI to)] m (xRet (some (.int (levF f to 0 0))) m) xN := by
  refine ct_intro (lv := [some (.ref r), some (.int (nI to)), none, none]) 2 (by decide) rfl (Nat.le_of_ble_eq_true rfl) rfl ?_
  refine g_iconst (v := (0)) dX5_levelAt_0 rfl rfl ?_
  refine g_ist2 dX5_levelAt_1 rfl (by decide) (k := ?_)
  refine g_iconst (v := (0)) dX5_levelAt_2 rfl rfl ?_
  refine g_ist3 dX5_levelAt_3 rfl (by decide) (k := ?_)
  exact l_levelAt hd hm hN ht (to + 1) 0 0 (by omega) (by omega)
theorem l_deepest {r N to : Nat} {f : Nat → Int32} {o1 : Option Value} (hd : 2 ≤ d) (hm : m r = some (iA 0 N f)) (hN : N ≤ 1000) (ht : to ≤ N) (ho : xc1 o1 = true) : ∀ t k dp mo, to - k < t → k ≤ to → G w MX5_deepest (xZ w (xRet (some (.int (deepF f to dp mo k))) m) xN) d 0 0 8 [some (.ref r), o1, some (.int (nI to)), some (.int dp), some (.int mo), some (.int (nI k))] [] m := by
  intro t
  induction t with
  | zero => intro k dp mo h; omega
  | succ t ih =>
    intro k dp mo h hk
    refine g_iload dX5_deepest_8 rfl rfl ?_
    refine g_iload_n dX5_deepest_10 rfl rfl rfl ?_
    refine g_icmpn_ge (tgt := 65) dX5_deepest_11 (by decide) rfl (by omega) (by omega) (fun c_11 => ?_) (fun c_11 => ?_)
    · refine g_iload dX5_deepest_65 rfl rfl ?_
      refine g_ireturn dX5_deepest_67 rfl ?_
      refine ⟨?_, rfl⟩
      conv => lhs; rw [deepF]
      rw [if_neg (by omega)]
    · refine g_iload_n dX5_deepest_14 rfl rfl rfl ?_
      first | refine g_aload_n dX5_deepest_15 rfl rfl rfl ?_ | refine g_aload_nR dX5_deepest_15 rfl rfl rfl ?_ | refine g_aload_nN dX5_deepest_15 rfl rfl rfl ?_
      refine g_iload dX5_deepest_16 rfl rfl ?_
      refine g_ialdn dX5_deepest_18 rfl (Or.inl (by first | assumption | exact xu_eq _ _ _)) (by omega) (by omega) ?_
      refine g_staticP iS_X5_isBegin q2511 (c_isBegin (d := d - 1) (by omega) _) dX5_deepest_19 rfl rfl rfl (by first | exact Nat.le_of_ble_eq_true rfl | simp [Value.category, rf_cat]) (by omega) xN_no ?_
      refine g_ifB_eq (tgt := 29) dX5_deepest_22 (by decide) rfl (fun c_22 => ?_) (fun c_22 => ?_)
      · first | refine g_aload_n dX5_deepest_29 rfl rfl rfl ?_ | refine g_aload_nR dX5_deepest_29 rfl rfl rfl ?_ | refine g_aload_nN dX5_deepest_29 rfl rfl rfl ?_
        refine g_iload dX5_deepest_30 rfl rfl ?_
        refine g_ialdn dX5_deepest_32 rfl (Or.inl (by first | assumption | exact xu_eq _ _ _)) (by omega) (by omega) ?_
        refine g_bipush (v := (-11)) dX5_deepest_33 rfl rfl ?_
        refine g_icmp_ne (tgt := 42) dX5_deepest_35 (by decide) rfl (fun c_35 => ?_) (fun c_35 => ?_)
        · refine g_iconst (v := (0)) dX5_deepest_42 rfl rfl ?_
          refine g_iadd dX5_deepest_43 rfl ?_
          refine g_ist3 dX5_deepest_44 rfl (by decide) (k := ?_)
          refine g_iload_n dX5_deepest_45 rfl rfl rfl ?_
          refine g_iload dX5_deepest_46 rfl rfl ?_
          refine g_icmp_le (tgt := 55) dX5_deepest_48 (by decide) rfl (fun c_48 => ?_) (fun c_48 => ?_)
          · refine g_iload dX5_deepest_55 rfl rfl ?_
            refine g_ist4 dX5_deepest_57 rfl (by decide) (k := ?_)
            refine g_incn5 dX5_deepest_59 rfl (by decide) (k := ?_)
            refine g_goto (tgt := 8) dX5_deepest_62 (by decide) ?_
            refine xz_cast ?_ (ih (k + 1) _ _ (by omega) (by omega))
            conv => lhs; rw [deepF]
            clear ih
            first | contradiction | exact (bo_no (b := isBg (f k)) (by assumption) (by assumption)).elim | (simp [dst, isBg_11, *]; done) | (simp only [dst, isBg_11, *, reduceIte, Bool.false_eq_true]; done) | (simp_all [dst, isBg_11]; done) | (exfalso; simp_all; done)
          · refine g_iload_n dX5_deepest_51 rfl rfl rfl ?_
            refine g_goto (tgt := 57) dX5_deepest_52 (by decide) ?_
            refine g_ist4 dX5_deepest_57 rfl (by decide) (k := ?_)
            refine g_incn5 dX5_deepest_59 rfl (by decide) (k := ?_)
            refine g_goto (tgt := 8) dX5_deepest_62 (by decide) ?_
            refine xz_cast ?_ (ih (k + 1) _ _ (by omega) (by omega))
            conv => lhs; rw [deepF]
            clear ih
            first | contradiction | exact (bo_no (b := isBg (f k)) (by assumption) (by assumption)).elim | (simp [dst, isBg_11, *]; done) | (simp only [dst, isBg_11, *, reduceIte, Bool.false_eq_true]; done) | (simp_all [dst, isBg_11]; done) | (exfalso; simp_all; done)
        · refine g_iconst (v := (-1)) dX5_deepest_38 rfl rfl ?_
          refine g_goto (tgt := 43) dX5_deepest_39 (by decide) ?_
          refine g_iadd dX5_deepest_43 rfl ?_
          refine g_ist3 dX5_deepest_44 rfl (by decide) (k := ?_)
          refine g_iload_n dX5_deepest_45 rfl rfl rfl ?_
          refine g_iload dX5_deepest_46 rfl rfl ?_
          refine g_icmp_le (tgt := 55) dX5_deepest_48 (by decide) rfl (fun c_48 => ?_) (fun c_48 => ?_)
          · refine g_iload dX5_deepest_55 rfl rfl ?_
            refine g_ist4 dX5_deepest_57 rfl (by decide) (k := ?_)
            refine g_incn5 dX5_deepest_59 rfl (by decide) (k := ?_)
            refine g_goto (tgt := 8) dX5_deepest_62 (by decide) ?_
            refine xz_cast ?_ (ih (k + 1) _ _ (by omega) (by omega))
            conv => lhs; rw [deepF]
            clear ih
            first | contradiction | exact (bo_no (b := isBg (f k)) (by assumption) (by assumption)).elim | (simp [dst, isBg_11, *]; done) | (simp only [dst, isBg_11, *, reduceIte, Bool.false_eq_true]; done) | (simp_all [dst, isBg_11]; done) | (exfalso; simp_all; done)
          · refine g_iload_n dX5_deepest_51 rfl rfl rfl ?_
            refine g_goto (tgt := 57) dX5_deepest_52 (by decide) ?_
            refine g_ist4 dX5_deepest_57 rfl (by decide) (k := ?_)
            refine g_incn5 dX5_deepest_59 rfl (by decide) (k := ?_)
            refine g_goto (tgt := 8) dX5_deepest_62 (by decide) ?_
            refine xz_cast ?_ (ih (k + 1) _ _ (by omega) (by omega))
            conv => lhs; rw [deepF]
            clear ih
            first | contradiction | exact (bo_no (b := isBg (f k)) (by assumption) (by assumption)).elim | (simp [dst, isBg_11, *]; done) | (simp only [dst, isBg_11, *, reduceIte, Bool.false_eq_true]; done) | (simp_all [dst, isBg_11]; done) | (exfalso; simp_all; done)
      · refine g_iconst (v := (1)) dX5_deepest_25 rfl rfl ?_
        refine g_goto (tgt := 43) dX5_deepest_26 (by decide) ?_
        refine g_iadd dX5_deepest_43 rfl ?_
        refine g_ist3 dX5_deepest_44 rfl (by decide) (k := ?_)
        refine g_iload_n dX5_deepest_45 rfl rfl rfl ?_
        refine g_iload dX5_deepest_46 rfl rfl ?_
        refine g_icmp_le (tgt := 55) dX5_deepest_48 (by decide) rfl (fun c_48 => ?_) (fun c_48 => ?_)
        · refine g_iload dX5_deepest_55 rfl rfl ?_
          refine g_ist4 dX5_deepest_57 rfl (by decide) (k := ?_)
          refine g_incn5 dX5_deepest_59 rfl (by decide) (k := ?_)
          refine g_goto (tgt := 8) dX5_deepest_62 (by decide) ?_
          refine xz_cast ?_ (ih (k + 1) _ _ (by omega) (by omega))
          conv => lhs; rw [deepF]
          clear ih
          first | contradiction | exact (bo_no (b := isBg (f k)) (by assumption) (by assumption)).elim | (simp [dst, isBg_11, *]; done) | (simp only [dst, isBg_11, *, reduceIte, Bool.false_eq_true]; done) | (simp_all [dst, isBg_11]; done) | (exfalso; simp_all; done)
        · refine g_iload_n dX5_deepest_51 rfl rfl rfl ?_
          refine g_goto (tgt := 57) dX5_deepest_52 (by decide) ?_
          refine g_ist4 dX5_deepest_57 rfl (by decide) (k := ?_)
          refine g_incn5 dX5_deepest_59 rfl (by decide) (k := ?_)
          refine g_goto (tgt := 8) dX5_deepest_62 (by decide) ?_
          refine xz_cast ?_ (ih (k + 1) _ _ (by omega) (by omega))
          conv => lhs; rw [deepF]
          clear ih
          first | contradiction | exact (bo_no (b := isBg (f k)) (by assumption) (by assumption)).elim | (simp [dst, isBg_11, *]; done) | (simp only [dst, isBg_11, *, reduceIte, Bool.false_eq_true]; done) | (simp_all [dst, isBg_11]; done) | (exfalso; simp_all; done)
theorem c_deepest {r N g to : Nat} {f : Nat → Int32} (hd : 2 ≤ d) (hm : m r = some (iA 0 N f)) (hN : N ≤ 1000) (ht : to ≤ N) (hg : g ≤ to) : CT w MX5_deepest d 0 0 [.ref r, .int (nI g), .int (nI to)] m (xRet (some (.int (deepF f to 0 0 g))) m) xN := by
  refine ct_intro (lv := [some (.ref r), some (.int (nI g)), some (.int (nI to)), none, none, none]) 3 (by decide) rfl (Nat.le_of_ble_eq_true rfl) rfl ?_
  refine g_iconst (v := (0)) dX5_deepest_0 rfl rfl ?_
  refine g_ist3 dX5_deepest_1 rfl (by decide) (k := ?_)
  refine g_iconst (v := (0)) dX5_deepest_2 rfl rfl ?_
  refine g_ist4 dX5_deepest_3 rfl (by decide) (k := ?_)
  refine g_iload_n dX5_deepest_5 rfl rfl rfl ?_
  refine g_ist5 dX5_deepest_6 rfl (by decide) (k := ?_)
  exact l_deepest hd hm hN ht rfl (to + 1) g 0 0 (by omega) hg
end TW
