/-! TWIN: wrapping, growing, going back -/
set_option maxRecDepth 100000
section TW5
variable {w : XW} {m : XM} {d : Nat} {r c : Nat} {f : Nat → Int32} {L : List Int32} {fr : Option Nat}
def xPl (r : Nat) (m : XM) (f : Nat → Int32) (L : List Int32) : Option Value → XM → Prop := fun v' m' => none = v' ∧ ∃ f', Pl f' L ∧ f' 181 = f 181 ∧ f' 182 = f 182 ∧ m' = xu m r (iA 0 184 f')
theorem p_remove {a b : Nat} (hd : 1 ≤ d) (hm : m r = some (iA 0 184 f)) (hp : Pl f L) (hab : a ≤ b) (hb : b ≤ L.length) : CT w MX5_remove d 0 0 [.ref r, .int (nI a), .int (nI b)] m (xPl r m f (remL L a b)) xN := by
  refine CT_post (c_remove hd hm hp.2.1 hp.2.2 hab hb) ?_
  rintro v m' ⟨rfl, rfl⟩
  exact ⟨rfl, _, pl_rem hp hab hb, rem_hi hp.2.2 hab hb (by omega), rem_hi hp.2.2 hab hb (by omega), rfl⟩
theorem p_put {a : Nat} {s : Int32} (hd : 1 ≤ d) (hm : m r = some (iA 0 184 f)) (hp : Pl f L) (ha : a ≤ L.length) (hl : L.length < 180) : CT w MX5_put d 0 0 [.ref r, .int (nI a), .int s] m (xPl r m f (insL L a s)) xN := by
  refine CT_post (c_put hd hm hp.2.1 hl ha) ?_
  rintro v m' ⟨rfl, rfl⟩
  exact ⟨rfl, _, pl_put hp ha hl, put_hi hl ha (by omega), put_hi hl ha (by omega), rfl⟩
/-- wrapping: whether it can be; the list behind -/
def wrOk (L : List Int32) (a c : Nat) (k : Int32) : Prop := inL k.toInt64 1 5 = true ∧ allL L 0 L.length ≠ 60 ∧ levF (lf L) a 0 0 + nI 1 + deepF (lf L) c 0 0 a ≤ nI 5
def wrL (L : List Int32) (a c : Nat) (k : Int32) : List Int32 := insL (if k = nI 1 then insL (insL L c (-11)) c (-10) else insL L c (-11)) a (-k)
def wrP (r : Nat) (m : XM) (L : List Int32) (a c : Nat) (k : Int32) : Option Value → XM → Prop := fun v m' =>
  (wrOk L a c k → xPg r m (some (.int 1)) (wrL L a c k) (if a = c then a + 1 else c + 2) none v m') ∧ (¬ wrOk L a c k → some (.int 0) = v ∧ m = m')
theorem p_wraps {k : Int32} (hd : 4 ≤ d) (hm : m r = some (iA 0 184 f)) (hp : Pg f L c fr) (hi : InP L c fr) (hsz : wrOk L (clrC c fr) c k → L.length ≤ 177) : CT w MX5_wraps d 0 0 [.ref r, .int k] m (wrP r m L (clrC c fr) c k) xN := by
  obtain ⟨hp1, h181, h182⟩ := id hp
  obtain ⟨h1, h180, h3⟩ := id hp1
  have hub := all_ub (lf L) L.length 0 0
  have hub2 : allL L 0 L.length ≤ 180 := by unfold allL; omega
  have hc := hi.1
  have hac : clrC c fr ≤ c := by
    cases fr with
    | none => exact Nat.le_refl _
    | some a => exact hi.2 a rfl
  obtain ⟨a, ha⟩ : ∃ a, a = clrC c fr := ⟨_, rfl⟩
  rw [← ha] at hac hsz ⊢
  have tail : ∀ (L3 : List Int32) (f3 : Nat → Int32), wrOk L a c k → Pl f3 L3 → L3 = (if k = nI 1 then insL (insL L c (-11)) c (-10) else insL L c (-11)) → G w MX5_wraps (xZ w (wrP r m L a c k) xN) d 0 0 92 [some (.ref r), some (.int k), some (.int (nI c)), some (.int (nI a))] [] (xu m r (iA 0 184 f3)) := by
    intro L3 f3 hok hp3 e3
    have hl := hsz hok
    have hl3 : a ≤ L3.length ∧ L3.length < 180 := by
      rw [e3]
      have i1 := insL_len (L := L) (s := -11) hc
      split
      · have i2 := insL_len (L := insL L c (-11)) (a := c) (s := -10) (by omega)
        omega
      · omega
    have fin : ∀ (f4 : Nat → Int32) (c' : Nat), Pl f4 (wrL L a c k) → c' = (if a = c then a + 1 else c + 2) → wrP r m L a c k (some (.int (nI 1))) (xu m r (iA 0 184 (upd (upd f4 181 (nI c')) 182 (-9)))) := by
      intro f4 c' hp4 ec
      subst ec
      exact ⟨fun _ => ⟨rfl, _, ⟨pl_u (pl_u hp4 (by omega)) (by omega), by rw [upd_ne (by omega), upd_eq], upd_eq _ _ _⟩, rfl⟩, fun h => absurd hok h⟩
    first | refine g_aload_n dX5_wraps_92 rfl rfl rfl ?_ | refine g_aload_nR dX5_wraps_92 rfl rfl rfl ?_ | refine g_aload_nN dX5_wraps_92 rfl rfl rfl ?_
    refine g_iload_n dX5_wraps_93 rfl rfl rfl ?_
    refine g_iload_n dX5_wraps_94 rfl rfl rfl ?_
    refine g_ineg dX5_wraps_95 rfl ?_
    refine g_static iS_X5_put q2637 (p_put (d := d - 1) (by omega) (xu_eq _ _ _) hp3 hl3.1 hl3.2) dX5_wraps_96 rfl rfl rfl (by first | exact Nat.le_of_ble_eq_true rfl | simp [Value.category, rf_cat]) (by omega) (by omega) (by omega) xN_no (fun v_96 m_96 h_96 => ?_)
    obtain ⟨rfl, f4, hp4, -, -, rfl⟩ := h_96
    rw [xu_xu]
    rw [e3] at hp4
    first | refine g_aload_n dX5_wraps_99 rfl rfl rfl ?_ | refine g_aload_nR dX5_wraps_99 rfl rfl rfl ?_ | refine g_aload_nN dX5_wraps_99 rfl rfl rfl ?_
    refine g_sipush (v := (nI 181)) dX5_wraps_100 rfl rfl ?_
    refine g_iload_n dX5_wraps_103 rfl rfl rfl ?_
    refine g_iload_n dX5_wraps_104 rfl rfl rfl ?_
    refine g_icmpn_ne (tgt := 114) dX5_wraps_105 (by decide) rfl (by omega) (by omega) (fun c_105 => ?_) (fun c_105 => ?_)
    · refine g_iload_n dX5_wraps_114 rfl rfl rfl ?_
      refine g_iconst (v := (nI 2)) dX5_wraps_115 rfl rfl ?_
      refine g_iaddn dX5_wraps_116 rfl ?_
      refine g_iastnU dX5_wraps_117 rfl (by omega) (by omega) ?_
      first | refine g_aload_n dX5_wraps_118 rfl rfl rfl ?_ | refine g_aload_nR dX5_wraps_118 rfl rfl rfl ?_ | refine g_aload_nN dX5_wraps_118 rfl rfl rfl ?_
      refine g_sipush (v := (nI 182)) dX5_wraps_119 rfl rfl ?_
      refine g_bipush (v := (-9)) dX5_wraps_122 rfl rfl ?_
      refine g_iastnU dX5_wraps_124 rfl (by omega) (by omega) ?_
      refine g_iconst (v := (nI 1)) dX5_wraps_125 rfl rfl ?_
      refine g_zreturn dX5_wraps_126 rfl rfl ?_
      first | exact fin f4 _ hp4 (by rw [if_pos c_105]) | exact fin f4 _ hp4 (by rw [if_neg c_105])
    · refine g_iload_n dX5_wraps_108 rfl rfl rfl ?_
      refine g_iconst (v := (nI 1)) dX5_wraps_109 rfl rfl ?_
      refine g_iaddn dX5_wraps_110 rfl ?_
      refine g_goto (tgt := 117) dX5_wraps_111 (by decide) ?_
      refine g_iastnU dX5_wraps_117 rfl (by omega) (by omega) ?_
      first | refine g_aload_n dX5_wraps_118 rfl rfl rfl ?_ | refine g_aload_nR dX5_wraps_118 rfl rfl rfl ?_ | refine g_aload_nN dX5_wraps_118 rfl rfl rfl ?_
      refine g_sipush (v := (nI 182)) dX5_wraps_119 rfl rfl ?_
      refine g_bipush (v := (-9)) dX5_wraps_122 rfl rfl ?_
      refine g_iastnU dX5_wraps_124 rfl (by omega) (by omega) ?_
      refine g_iconst (v := (nI 1)) dX5_wraps_125 rfl rfl ?_
      refine g_zreturn dX5_wraps_126 rfl rfl ?_
      first | exact fin f4 _ hp4 (by rw [if_pos c_105]) | exact fin f4 _ hp4 (by rw [if_neg c_105])
  have no : ¬ wrOk L a c k → wrP r m L a c k (some (.int (nI 0))) m := fun h => ⟨fun h2 => absurd h2 h, fun _ => ⟨rfl, rfl⟩⟩
  have mid : G w MX5_wraps (xZ w (wrP r m L a c k) xN) d 0 0 26 [some (.ref r), some (.int k), some (.int (nI c)), some (.int (nI a))] [] m := by
    refine g_iload_n dX5_wraps_26 rfl rfl rfl ?_
    refine g_i2l dX5_wraps_27 rfl rfl ?_
    refine g_lconst (v := 1) dX5_wraps_28 rfl rfl ?_
    refine g_ldc2 dX5_wraps_29 rfl q2521 ?_
    refine g_staticP iS_X5_in q2448 (c_in (d := d - 1) (by omega) _ _ _) dX5_wraps_32 rfl rfl rfl (by first | exact Nat.le_of_ble_eq_true rfl | simp [Value.category, rf_cat]) (by omega) xN_no ?_
    refine g_ifB_eq (tgt := 71) dX5_wraps_35 (by decide) rfl (fun c_35 => ?_) (fun c_35 => ?_)
    · refine g_iconst (v := (nI 0)) dX5_wraps_71 rfl rfl ?_
      refine g_zreturn dX5_wraps_72 rfl rfl ?_
      exact no (fun h => bo_no c_35 h.1)
    · first | refine g_aload_n dX5_wraps_38 rfl rfl rfl ?_ | refine g_aload_nR dX5_wraps_38 rfl rfl rfl ?_ | refine g_aload_nN dX5_wraps_38 rfl rfl rfl ?_
      refine g_iconst (v := (nI 0)) dX5_wraps_39 rfl rfl ?_
      first | refine g_aload_n dX5_wraps_40 rfl rfl rfl ?_ | refine g_aload_nR dX5_wraps_40 rfl rfl rfl ?_ | refine g_aload_nN dX5_wraps_40 rfl rfl rfl ?_
      refine g_sipush (v := (nI 180)) dX5_wraps_41 rfl rfl ?_
      refine g_ialdn dX5_wraps_44 rfl (Or.inl (by first | assumption | exact xu_eq _ _ _)) (j := 180) (by omega) (by omega) ?_
      rw [h180]
      refine g_staticP iS_X5_allIn q2508 (p_allIn (d := d - 1) (by omega) (by first | assumption | exact xu_eq _ _ _) (by assumption) (by omega) (by omega)) dX5_wraps_45 rfl rfl rfl (by first | exact Nat.le_of_ble_eq_true rfl | simp [Value.category, rf_cat]) (by omega) xN_no ?_
      refine g_bipush (v := (nI 60)) dX5_wraps_48 rfl rfl ?_
      refine g_icmpn_eq (tgt := 71) dX5_wraps_50 (by decide) rfl (by omega) (by omega) (fun c_50 => ?_) (fun c_50 => ?_)
      · refine g_iconst (v := (nI 0)) dX5_wraps_71 rfl rfl ?_
        refine g_zreturn dX5_wraps_72 rfl rfl ?_
        exact no (fun h => h.2.1 c_50)
      · first | refine g_aload_n dX5_wraps_53 rfl rfl rfl ?_ | refine g_aload_nR dX5_wraps_53 rfl rfl rfl ?_ | refine g_aload_nN dX5_wraps_53 rfl rfl rfl ?_
        refine g_iload_n dX5_wraps_54 rfl rfl rfl ?_
        refine g_staticP iS_X5_levelAt q2536 (p_levelAt (d := d - 1) (by omega) (by first | assumption | exact xu_eq _ _ _) (by assumption) (by omega)) dX5_wraps_55 rfl rfl rfl (by first | exact Nat.le_of_ble_eq_true rfl | simp [Value.category, rf_cat]) (by omega) xN_no ?_
        refine g_iconst (v := (nI 1)) dX5_wraps_58 rfl rfl ?_
        refine g_iadd dX5_wraps_59 rfl ?_
        first | refine g_aload_n dX5_wraps_60 rfl rfl rfl ?_ | refine g_aload_nR dX5_wraps_60 rfl rfl rfl ?_ | refine g_aload_nN dX5_wraps_60 rfl rfl rfl ?_
        refine g_iload_n dX5_wraps_61 rfl rfl rfl ?_
        refine g_iload_n dX5_wraps_62 rfl rfl rfl ?_
        refine g_staticP iS_X5_deepest q2514 (p_deepest (d := d - 1) (by omega) (by first | assumption | exact xu_eq _ _ _) (by assumption) (by omega) (by omega)) dX5_wraps_63 rfl rfl rfl (by first | exact Nat.le_of_ble_eq_true rfl | simp [Value.category, rf_cat]) (by omega) xN_no ?_
        refine g_iadd dX5_wraps_66 rfl ?_
        refine g_iconst (v := (nI 5)) dX5_wraps_67 rfl rfl ?_
        refine g_icmp_le (tgt := 73) dX5_wraps_68 (by decide) rfl (fun c_68 => ?_) (fun c_68 => ?_)
        · have hok : wrOk L a c k := ⟨c_35, c_50, c_68⟩
          have hl := hsz hok
          first | refine g_aload_n dX5_wraps_73 rfl rfl rfl ?_ | refine g_aload_nR dX5_wraps_73 rfl rfl rfl ?_ | refine g_aload_nN dX5_wraps_73 rfl rfl rfl ?_
          refine g_iload_n dX5_wraps_74 rfl rfl rfl ?_
          refine g_bipush (v := (-11)) dX5_wraps_75 rfl rfl ?_
          refine g_static iS_X5_put q2637 (p_put (d := d - 1) (by omega) hm hp1 hc (by omega)) dX5_wraps_77 rfl rfl rfl (by first | exact Nat.le_of_ble_eq_true rfl | simp [Value.category, rf_cat]) (by omega) (by omega) (by omega) xN_no (fun v_77 m_77 h_77 => ?_)
          obtain ⟨rfl, f1, hp2, -, -, rfl⟩ := h_77
          refine g_iload_n dX5_wraps_80 rfl rfl rfl ?_
          refine g_iconst (v := (nI 1)) dX5_wraps_81 rfl rfl ?_
          refine g_icmp_ne (tgt := 92) dX5_wraps_82 (by decide) rfl (fun c_82 => ?_) (fun c_82 => ?_)
          · exact tail _ _ hok hp2 (by rw [if_neg c_82])
          · first | refine g_aload_n dX5_wraps_85 rfl rfl rfl ?_ | refine g_aload_nR dX5_wraps_85 rfl rfl rfl ?_ | refine g_aload_nN dX5_wraps_85 rfl rfl rfl ?_
            refine g_iload_n dX5_wraps_86 rfl rfl rfl ?_
            refine g_bipush (v := (-10)) dX5_wraps_87 rfl rfl ?_
            refine g_static iS_X5_put q2637 (p_put (d := d - 1) (by omega) (xu_eq _ _ _) hp2 (by have := insL_len (L := L) (s := -11) hc; omega) (by have := insL_len (L := L) (s := -11) hc; omega)) dX5_wraps_89 rfl rfl rfl (by first | exact Nat.le_of_ble_eq_true rfl | simp [Value.category, rf_cat]) (by omega) (by omega) (by omega) xN_no (fun v_89 m_89 h_89 => ?_)
            obtain ⟨rfl, f2, hp3, -, -, rfl⟩ := h_89
            rw [xu_xu]
            exact tail _ _ hok hp3 (by rw [if_pos c_82])
        · refine g_iconst (v := (nI 0)) dX5_wraps_71 rfl rfl ?_
          refine g_zreturn dX5_wraps_72 rfl rfl ?_
          exact no (fun h => c_68 h.2.2)
  cases fr with
  | none =>
    have h182 : f 182 = -9 := h182
    obtain rfl : a = c := ha
    refine ct_intro (lv := [some (.ref r), some (.int k), none, none]) 2 (by decide) rfl (Nat.le_of_ble_eq_true rfl) rfl ?_
    first | refine g_aload_n dX5_wraps_0 rfl rfl rfl ?_ | refine g_aload_nR dX5_wraps_0 rfl rfl rfl ?_ | refine g_aload_nN dX5_wraps_0 rfl rfl rfl ?_
    refine g_sipush (v := (nI 181)) dX5_wraps_1 rfl rfl ?_
    refine g_ialdn dX5_wraps_4 rfl (Or.inl (by first | assumption | exact xu_eq _ _ _)) (j := 181) (by omega) (by omega) ?_
    rw [h181]
    refine g_ist2 dX5_wraps_5 rfl (by decide) (k := ?_)
    first | refine g_aload_n dX5_wraps_6 rfl rfl rfl ?_ | refine g_aload_nR dX5_wraps_6 rfl rfl rfl ?_ | refine g_aload_nN dX5_wraps_6 rfl rfl rfl ?_
    refine g_sipush (v := (nI 182)) dX5_wraps_7 rfl rfl ?_
    refine g_ialdn dX5_wraps_10 rfl (Or.inl (by first | assumption | exact xu_eq _ _ _)) (j := 182) (by omega) (by omega) ?_
    rw [h182]
    refine g_bipush (v := (-9)) dX5_wraps_11 rfl rfl ?_
    refine g_icmp_ne (tgt := 20) dX5_wraps_13 (by decide) rfl (fun c_13 => ?_) (fun c_13 => ?_)
    · exact absurd rfl c_13
    · refine g_iload_n dX5_wraps_16 rfl rfl rfl ?_
      refine g_goto (tgt := 25) dX5_wraps_17 (by decide) ?_
      refine g_ist3 dX5_wraps_25 rfl (by decide) (k := ?_)
      exact mid
  | some a' =>
    have h182 : f 182 = nI a' := h182
    obtain rfl : a = a' := ha
    have hne : ¬ nI a = -9 := fun e => by
      have := (frI_n (fr := some a) (by intro b hb; cases hb; omega)).mp e
      cases this
    refine ct_intro (lv := [some (.ref r), some (.int k), none, none]) 2 (by decide) rfl (Nat.le_of_ble_eq_true rfl) rfl ?_
    first | refine g_aload_n dX5_wraps_0 rfl rfl rfl ?_ | refine g_aload_nR dX5_wraps_0 rfl rfl rfl ?_ | refine g_aload_nN dX5_wraps_0 rfl rfl rfl ?_
    refine g_sipush (v := (nI 181)) dX5_wraps_1 rfl rfl ?_
    refine g_ialdn dX5_wraps_4 rfl (Or.inl (by first | assumption | exact xu_eq _ _ _)) (j := 181) (by omega) (by omega) ?_
    rw [h181]
    refine g_ist2 dX5_wraps_5 rfl (by decide) (k := ?_)
    first | refine g_aload_n dX5_wraps_6 rfl rfl rfl ?_ | refine g_aload_nR dX5_wraps_6 rfl rfl rfl ?_ | refine g_aload_nN dX5_wraps_6 rfl rfl rfl ?_
    refine g_sipush (v := (nI 182)) dX5_wraps_7 rfl rfl ?_
    refine g_ialdn dX5_wraps_10 rfl (Or.inl (by first | assumption | exact xu_eq _ _ _)) (j := 182) (by omega) (by omega) ?_
    rw [h182]
    refine g_bipush (v := (-9)) dX5_wraps_11 rfl rfl ?_
    refine g_icmp_ne (tgt := 20) dX5_wraps_13 (by decide) rfl (fun c_13 => ?_) (fun c_13 => ?_)
    · first | refine g_aload_n dX5_wraps_20 rfl rfl rfl ?_ | refine g_aload_nR dX5_wraps_20 rfl rfl rfl ?_ | refine g_aload_nN dX5_wraps_20 rfl rfl rfl ?_
      refine g_sipush (v := (nI 182)) dX5_wraps_21 rfl rfl ?_
      refine g_ialdn dX5_wraps_24 rfl (Or.inl (by first | assumption | exact xu_eq _ _ _)) (j := 182) (by omega) (by omega) ?_
      rw [h182]
      refine g_ist3 dX5_wraps_25 rfl (by decide) (k := ?_)
      exact mid
    · exact absurd c_13 hne
/-- growing: the selection's new begin and end; none if it can't -/
def growD (L : List Int32) (c : Nat) (fr : Option Nat) : Option (Nat × Nat) :=
  if fr = none ∧ rowStartL L c < c then some (c, itemStartL L c)
  else if rowStartL L c < rowEndL L c ∧ (fr = none ∨ rowStartL L c < clrC c fr ∨ c < rowEndL L c) then some (rowEndL L c, rowStartL L c)
  else if rowStartL L c = 0 then none
  else some (endOfL L (rowEndL L c) + 1, beginOfL L (endOfL L (rowEndL L c)))
def growP (r : Nat) (m : XM) (L : List Int32) (c : Nat) (fr : Option Nat) : Option Value → XM → Prop := fun v m' => match growD L c fr with
  | none => some (.int 0) = v ∧ m = m'
  | some (c', a') => xPg r m (some (.int 1)) L c' (some a') v m'
theorem endOf_is (f : Nat → Int32) (n : Nat) (dp : Int32) (k : Nat) (h : endOfF f n dp k < n) : f (endOfF f n dp k) = -11 := by
  fun_induction endOfF f n dp k with
  | case1 dp k h1 h2 ih => exact ih h
  | case2 dp k h1 h2 h3 => exact h3
  | case3 dp k h1 h2 h3 ih => exact ih h
  | case4 dp k h1 => omega
theorem p_grows (hd : 5 ≤ d) (hm : m r = some (iA 0 184 f)) (hp : Pg f L c fr) (hi : InP L c fr) (hb : Bal L) (he : rowStartL L c ≠ 0 → endOfL L (rowEndL L c) < L.length) : CT w MX5_grows d 0 0 [.ref r] m (growP r m L c fr) xN := by
  obtain ⟨hp1, h181, h182⟩ := id hp
  obtain ⟨h1, h180, h3⟩ := id hp1
  have hc := hi.1
  have hre := rowEnd_le (lf L) L.length 0 c hc
  have hrs := rowStart_le (lf L) 0 c
  change c ≤ rowEndL L c ∧ rowEndL L c ≤ L.length at hre
  change rowStartL L c ≤ c at hrs
  have fin : ∀ c' a', growD L c fr = some (c', a') → (growP r m L c fr (some (.int (nI 1))) (xu m r (iA 0 184 (upd (upd f 182 (nI a')) 181 (nI c'))))) := by
    intro c' a' e
    unfold growP; rw [e]
    exact ⟨rfl, _, ⟨pl_u (pl_u hp1 (by omega)) (by omega), upd_eq _ _ _, by rw [upd_ne (by omega), upd_eq]; rfl⟩, rfl⟩
  have fin1 : ∀ a', growD L c fr = some (c, a') → (growP r m L c fr (some (.int (nI 1))) (xu m r (iA 0 184 (upd f 182 (nI a'))))) := by
    intro a' e
    unfold growP; rw [e]
    exact ⟨rfl, _, ⟨pl_u hp1 (by omega), by rw [upd_ne (by omega)]; exact h181, by rw [upd_eq]; rfl⟩, rfl⟩
  have fin0 : growD L c fr = none → growP r m L c fr (some (.int (nI 0))) m := by
    intro e; unfold growP; rw [e]; exact ⟨rfl, rfl⟩
  have tail : ∀ st, rowStartL L c = st → st ≠ 0 → (fr = none → ¬ st < c) → (¬ (st < rowEndL L c ∧ (fr = none ∨ st < clrC c fr ∨ c < rowEndL L c))) → G w MX5_grows (xZ w (growP r m L c fr) xN) d 0 0 94 [some (.ref r), some (.int (nI c)), some (.int (nI st)), some (.int (nI (rowEndL L c))), none] [] m := by
    intro st est hs0 hn1 hn2
    subst est
    have he := he hs0
    have hbg := hb.2 _ he (Or.inl (endOf_is _ _ _ _ he))
    have e : growD L c fr = some (endOfL L (rowEndL L c) + 1, beginOfL L (endOfL L (rowEndL L c))) := by
      unfold growD; rw [if_neg (fun h => hn1 h.1 h.2), if_neg hn2, if_neg hs0]
    first | refine g_aload_n dX5_grows_94 rfl rfl rfl ?_ | refine g_aload_nR dX5_grows_94 rfl rfl rfl ?_ | refine g_aload_nN dX5_grows_94 rfl rfl rfl ?_
    refine g_iload_n dX5_grows_95 rfl rfl rfl ?_
    refine g_staticP iS_X5_endOf q2545 (p_endOf (d := d - 1) (by omega) (by first | assumption | exact xu_eq _ _ _) (by assumption) (by omega) (by assumption)) dX5_grows_96 rfl rfl rfl (by first | exact Nat.le_of_ble_eq_true rfl | simp [Value.category, rf_cat]) (by omega) xN_no ?_
    refine g_ist4 dX5_grows_99 rfl (by decide) (k := ?_)
    first | refine g_aload_n dX5_grows_101 rfl rfl rfl ?_ | refine g_aload_nR dX5_grows_101 rfl rfl rfl ?_ | refine g_aload_nN dX5_grows_101 rfl rfl rfl ?_
    refine g_sipush (v := (nI 182)) dX5_grows_102 rfl rfl ?_
    first | refine g_aload_n dX5_grows_105 rfl rfl rfl ?_ | refine g_aload_nR dX5_grows_105 rfl rfl rfl ?_ | refine g_aload_nN dX5_grows_105 rfl rfl rfl ?_
    refine g_iload dX5_grows_106 rfl rfl ?_
    refine g_staticP iS_X5_beginOf q2575 (p_beginOf (d := d - 1) (by omega) hm hp1 (by omega) hbg) dX5_grows_108 rfl rfl rfl (by first | exact Nat.le_of_ble_eq_true rfl | simp [Value.category, rf_cat]) (by omega) xN_no ?_
    refine g_iastn dX5_grows_111 rfl (by first | assumption | exact xu_eq _ _ _) (by omega) (by omega) ?_
    first | refine g_aload_n dX5_grows_112 rfl rfl rfl ?_ | refine g_aload_nR dX5_grows_112 rfl rfl rfl ?_ | refine g_aload_nN dX5_grows_112 rfl rfl rfl ?_
    refine g_sipush (v := (nI 181)) dX5_grows_113 rfl rfl ?_
    refine g_iload dX5_grows_116 rfl rfl ?_
    refine g_iconst (v := (nI 1)) dX5_grows_118 rfl rfl ?_
    refine g_iaddn dX5_grows_119 rfl ?_
    refine g_iastnU dX5_grows_120 rfl (by omega) (by omega) ?_
    refine g_iconst (v := (nI 1)) dX5_grows_121 rfl rfl ?_
    refine g_zreturn dX5_grows_122 rfl rfl ?_
    exact fin _ _ e
  have hne : ∀ a, fr = some a → ¬ nI a = -9 := fun a ha e => by
      have h2 := hi.2 a ha
      have := (frI_n (fr := some a) (by intro b hb; cases hb; omega)).mp e
      cases this
  cases fr with
  | none =>
    have h182 : f 182 = -9 := h182
    refine ct_intro (lv := [some (.ref r), none, none, none, none]) 4 (by decide) rfl (Nat.le_of_ble_eq_true rfl) rfl ?_
    first | refine g_aload_n dX5_grows_0 rfl rfl rfl ?_ | refine g_aload_nR dX5_grows_0 rfl rfl rfl ?_ | refine g_aload_nN dX5_grows_0 rfl rfl rfl ?_
    refine g_sipush (v := (nI 181)) dX5_grows_1 rfl rfl ?_
    refine g_ialdn dX5_grows_4 rfl (Or.inl (by first | assumption | exact xu_eq _ _ _)) (j := 181) (by omega) (by omega) ?_
    rw [h181]
    refine g_ist1 dX5_grows_5 rfl (by decide) (k := ?_)
    first | refine g_aload_n dX5_grows_6 rfl rfl rfl ?_ | refine g_aload_nR dX5_grows_6 rfl rfl rfl ?_ | refine g_aload_nN dX5_grows_6 rfl rfl rfl ?_
    refine g_iload_n dX5_grows_7 rfl rfl rfl ?_
    refine g_staticP iS_X5_rowStart q2530 (p_rowStart (d := d - 1) (by omega) (by first | assumption | exact xu_eq _ _ _) (by assumption) (by omega)) dX5_grows_8 rfl rfl rfl (by first | exact Nat.le_of_ble_eq_true rfl | simp [Value.category, rf_cat]) (by omega) xN_no ?_
    refine g_ist2 dX5_grows_11 rfl (by decide) (k := ?_)
    first | refine g_aload_n dX5_grows_12 rfl rfl rfl ?_ | refine g_aload_nR dX5_grows_12 rfl rfl rfl ?_ | refine g_aload_nN dX5_grows_12 rfl rfl rfl ?_
    refine g_iload_n dX5_grows_13 rfl rfl rfl ?_
    refine g_staticP iS_X5_rowEnd q2533 (p_rowEnd (d := d - 1) (by omega) (by first | assumption | exact xu_eq _ _ _) (by assumption) (by omega)) dX5_grows_14 rfl rfl rfl (by first | exact Nat.le_of_ble_eq_true rfl | simp [Value.category, rf_cat]) (by omega) xN_no ?_
    refine g_ist3 dX5_grows_17 rfl (by decide) (k := ?_)
    first | refine g_aload_n dX5_grows_18 rfl rfl rfl ?_ | refine g_aload_nR dX5_grows_18 rfl rfl rfl ?_ | refine g_aload_nN dX5_grows_18 rfl rfl rfl ?_
    refine g_sipush (v := (nI 182)) dX5_grows_19 rfl rfl ?_
    refine g_ialdn dX5_grows_22 rfl (Or.inl (by first | assumption | exact xu_eq _ _ _)) (j := 182) (by omega) (by omega) ?_
    rw [h182]
    refine g_bipush (v := (-9)) dX5_grows_23 rfl rfl ?_
    refine g_icmp_ne (tgt := 45) dX5_grows_25 (by decide) rfl (fun c_25 => ?_) (fun c_25 => ?_)
    · exact absurd rfl c_25
    · refine g_iload_n dX5_grows_28 rfl rfl rfl ?_
      refine g_iload_n dX5_grows_29 rfl rfl rfl ?_
      refine g_icmpn_le (tgt := 45) dX5_grows_30 (by decide) rfl (by omega) (by omega) (fun c_30 => ?_) (fun c_30 => ?_)
      · refine g_iload_n dX5_grows_45 rfl rfl rfl ?_
        refine g_iload_n dX5_grows_46 rfl rfl rfl ?_
        refine g_icmpn_ge (tgt := 88) dX5_grows_47 (by decide) rfl (by omega) (by omega) (fun c_47 => ?_) (fun c_47 => ?_)
        · refine g_iload_n dX5_grows_88 rfl rfl rfl ?_
          refine g_ifn_ne (tgt := 94) dX5_grows_89 (by decide) rfl (by omega) (fun c_89 => ?_) (fun c_89 => ?_)
          · exact tail _ rfl c_89 (fun _ => by omega) (fun h => by have := h.1; omega)
          · refine g_iconst (v := (nI 0)) dX5_grows_92 rfl rfl ?_
            refine g_zreturn dX5_grows_93 rfl rfl ?_
            exact fin0 (by unfold growD; rw [if_neg (fun h => by have := h.2; omega), if_neg (fun h => by have := h.1; omega), if_pos c_89])
        · first | refine g_aload_n dX5_grows_50 rfl rfl rfl ?_ | refine g_aload_nR dX5_grows_50 rfl rfl rfl ?_ | refine g_aload_nN dX5_grows_50 rfl rfl rfl ?_
          refine g_sipush (v := (nI 182)) dX5_grows_51 rfl rfl ?_
          refine g_ialdn dX5_grows_54 rfl (Or.inl (by first | assumption | exact xu_eq _ _ _)) (j := 182) (by omega) (by omega) ?_
          rw [h182]
          refine g_bipush (v := (-9)) dX5_grows_55 rfl rfl ?_
          refine g_icmp_eq (tgt := 74) dX5_grows_57 (by decide) rfl (fun c_57 => ?_) (fun c_57 => ?_)
          · first | refine g_aload_n dX5_grows_74 rfl rfl rfl ?_ | refine g_aload_nR dX5_grows_74 rfl rfl rfl ?_ | refine g_aload_nN dX5_grows_74 rfl rfl rfl ?_
            refine g_sipush (v := (nI 182)) dX5_grows_75 rfl rfl ?_
            refine g_iload_n dX5_grows_78 rfl rfl rfl ?_
            refine g_iastn dX5_grows_79 rfl (by first | assumption | exact xu_eq _ _ _) (by omega) (by omega) ?_
            first | refine g_aload_n dX5_grows_80 rfl rfl rfl ?_ | refine g_aload_nR dX5_grows_80 rfl rfl rfl ?_ | refine g_aload_nN dX5_grows_80 rfl rfl rfl ?_
            refine g_sipush (v := (nI 181)) dX5_grows_81 rfl rfl ?_
            refine g_iload_n dX5_grows_84 rfl rfl rfl ?_
            refine g_iastnU dX5_grows_85 rfl (by omega) (by omega) ?_
            refine g_iconst (v := (nI 1)) dX5_grows_86 rfl rfl ?_
            refine g_zreturn dX5_grows_87 rfl rfl ?_
            exact fin _ _ (by unfold growD; rw [if_neg (fun h => by have := h.2; omega), if_pos ⟨c_47, Or.inl rfl⟩])
          · exact absurd rfl c_57
      · first | refine g_aload_n dX5_grows_33 rfl rfl rfl ?_ | refine g_aload_nR dX5_grows_33 rfl rfl rfl ?_ | refine g_aload_nN dX5_grows_33 rfl rfl rfl ?_
        refine g_sipush (v := (nI 182)) dX5_grows_34 rfl rfl ?_
        first | refine g_aload_n dX5_grows_37 rfl rfl rfl ?_ | refine g_aload_nR dX5_grows_37 rfl rfl rfl ?_ | refine g_aload_nN dX5_grows_37 rfl rfl rfl ?_
        refine g_iload_n dX5_grows_38 rfl rfl rfl ?_
        refine g_staticP iS_X5_itemStart q2572 (p_itemStart (d := d - 1) (by omega) (by first | assumption | exact xu_eq _ _ _) (by assumption) (by assumption) (by omega) (by omega)) dX5_grows_39 rfl rfl rfl (by first | exact Nat.le_of_ble_eq_true rfl | simp [Value.category, rf_cat]) (by omega) xN_no ?_
        refine g_iastn dX5_grows_42 rfl (by first | assumption | exact xu_eq _ _ _) (by omega) (by omega) ?_
        refine g_iconst (v := (nI 1)) dX5_grows_43 rfl rfl ?_
        refine g_zreturn dX5_grows_44 rfl rfl ?_
        exact fin1 _ (by unfold growD; rw [if_pos ⟨rfl, c_30⟩])
  | some a =>
    have h182 : f 182 = nI a := h182
    have ha9 := hi.2 a rfl
    refine ct_intro (lv := [some (.ref r), none, none, none, none]) 4 (by decide) rfl (Nat.le_of_ble_eq_true rfl) rfl ?_
    first | refine g_aload_n dX5_grows_0 rfl rfl rfl ?_ | refine g_aload_nR dX5_grows_0 rfl rfl rfl ?_ | refine g_aload_nN dX5_grows_0 rfl rfl rfl ?_
    refine g_sipush (v := (nI 181)) dX5_grows_1 rfl rfl ?_
    refine g_ialdn dX5_grows_4 rfl (Or.inl (by first | assumption | exact xu_eq _ _ _)) (j := 181) (by omega) (by omega) ?_
    rw [h181]
    refine g_ist1 dX5_grows_5 rfl (by decide) (k := ?_)
    first | refine g_aload_n dX5_grows_6 rfl rfl rfl ?_ | refine g_aload_nR dX5_grows_6 rfl rfl rfl ?_ | refine g_aload_nN dX5_grows_6 rfl rfl rfl ?_
    refine g_iload_n dX5_grows_7 rfl rfl rfl ?_
    refine g_staticP iS_X5_rowStart q2530 (p_rowStart (d := d - 1) (by omega) (by first | assumption | exact xu_eq _ _ _) (by assumption) (by omega)) dX5_grows_8 rfl rfl rfl (by first | exact Nat.le_of_ble_eq_true rfl | simp [Value.category, rf_cat]) (by omega) xN_no ?_
    refine g_ist2 dX5_grows_11 rfl (by decide) (k := ?_)
    first | refine g_aload_n dX5_grows_12 rfl rfl rfl ?_ | refine g_aload_nR dX5_grows_12 rfl rfl rfl ?_ | refine g_aload_nN dX5_grows_12 rfl rfl rfl ?_
    refine g_iload_n dX5_grows_13 rfl rfl rfl ?_
    refine g_staticP iS_X5_rowEnd q2533 (p_rowEnd (d := d - 1) (by omega) (by first | assumption | exact xu_eq _ _ _) (by assumption) (by omega)) dX5_grows_14 rfl rfl rfl (by first | exact Nat.le_of_ble_eq_true rfl | simp [Value.category, rf_cat]) (by omega) xN_no ?_
    refine g_ist3 dX5_grows_17 rfl (by decide) (k := ?_)
    first | refine g_aload_n dX5_grows_18 rfl rfl rfl ?_ | refine g_aload_nR dX5_grows_18 rfl rfl rfl ?_ | refine g_aload_nN dX5_grows_18 rfl rfl rfl ?_
    refine g_sipush (v := (nI 182)) dX5_grows_19 rfl rfl ?_
    refine g_ialdn dX5_grows_22 rfl (Or.inl (by first | assumption | exact xu_eq _ _ _)) (j := 182) (by omega) (by omega) ?_
    rw [h182]
    refine g_bipush (v := (-9)) dX5_grows_23 rfl rfl ?_
    refine g_icmp_ne (tgt := 45) dX5_grows_25 (by decide) rfl (fun c_25 => ?_) (fun c_25 => ?_)
    · refine g_iload_n dX5_grows_45 rfl rfl rfl ?_
      refine g_iload_n dX5_grows_46 rfl rfl rfl ?_
      refine g_icmpn_ge (tgt := 88) dX5_grows_47 (by decide) rfl (by omega) (by omega) (fun c_47 => ?_) (fun c_47 => ?_)
      · refine g_iload_n dX5_grows_88 rfl rfl rfl ?_
        refine g_ifn_ne (tgt := 94) dX5_grows_89 (by decide) rfl (by omega) (fun c_89 => ?_) (fun c_89 => ?_)
        · exact tail _ rfl c_89 (fun h => by cases h) (fun h => by have := h.1; omega)
        · refine g_iconst (v := (nI 0)) dX5_grows_92 rfl rfl ?_
          refine g_zreturn dX5_grows_93 rfl rfl ?_
          exact fin0 (by unfold growD; rw [if_neg (fun h => by cases h.1), if_neg (fun h => by omega), if_pos c_89])
      · first | refine g_aload_n dX5_grows_50 rfl rfl rfl ?_ | refine g_aload_nR dX5_grows_50 rfl rfl rfl ?_ | refine g_aload_nN dX5_grows_50 rfl rfl rfl ?_
        refine g_sipush (v := (nI 182)) dX5_grows_51 rfl rfl ?_
        refine g_ialdn dX5_grows_54 rfl (Or.inl (by first | assumption | exact xu_eq _ _ _)) (j := 182) (by omega) (by omega) ?_
        rw [h182]
        refine g_bipush (v := (-9)) dX5_grows_55 rfl rfl ?_
        refine g_icmp_eq (tgt := 74) dX5_grows_57 (by decide) rfl (fun c_57 => ?_) (fun c_57 => ?_)
        · exact absurd c_57 (hne a rfl)
        · first | refine g_aload_n dX5_grows_60 rfl rfl rfl ?_ | refine g_aload_nR dX5_grows_60 rfl rfl rfl ?_ | refine g_aload_nN dX5_grows_60 rfl rfl rfl ?_
          refine g_sipush (v := (nI 182)) dX5_grows_61 rfl rfl ?_
          refine g_ialdn dX5_grows_64 rfl (Or.inl (by first | assumption | exact xu_eq _ _ _)) (j := 182) (by omega) (by omega) ?_
          rw [h182]
          refine g_iload_n dX5_grows_65 rfl rfl rfl ?_
          refine g_icmpn_gt (tgt := 74) dX5_grows_66 (by decide) rfl (by omega) (by omega) (fun c_66 => ?_) (fun c_66 => ?_)
          · first | refine g_aload_n dX5_grows_74 rfl rfl rfl ?_ | refine g_aload_nR dX5_grows_74 rfl rfl rfl ?_ | refine g_aload_nN dX5_grows_74 rfl rfl rfl ?_
            refine g_sipush (v := (nI 182)) dX5_grows_75 rfl rfl ?_
            refine g_iload_n dX5_grows_78 rfl rfl rfl ?_
            refine g_iastn dX5_grows_79 rfl (by first | assumption | exact xu_eq _ _ _) (by omega) (by omega) ?_
            first | refine g_aload_n dX5_grows_80 rfl rfl rfl ?_ | refine g_aload_nR dX5_grows_80 rfl rfl rfl ?_ | refine g_aload_nN dX5_grows_80 rfl rfl rfl ?_
            refine g_sipush (v := (nI 181)) dX5_grows_81 rfl rfl ?_
            refine g_iload_n dX5_grows_84 rfl rfl rfl ?_
            refine g_iastnU dX5_grows_85 rfl (by omega) (by omega) ?_
            refine g_iconst (v := (nI 1)) dX5_grows_86 rfl rfl ?_
            refine g_zreturn dX5_grows_87 rfl rfl ?_
            exact fin _ _ (by unfold growD; rw [if_neg (fun h => by cases h.1), if_pos ⟨c_47, Or.inr (by first | exact Or.inl c_66 | exact Or.inr c_71)⟩])
          · refine g_iload_n dX5_grows_69 rfl rfl rfl ?_
            refine g_iload_n dX5_grows_70 rfl rfl rfl ?_
            refine g_icmpn_ge (tgt := 88) dX5_grows_71 (by decide) rfl (by omega) (by omega) (fun c_71 => ?_) (fun c_71 => ?_)
            · refine g_iload_n dX5_grows_88 rfl rfl rfl ?_
              refine g_ifn_ne (tgt := 94) dX5_grows_89 (by decide) rfl (by omega) (fun c_89 => ?_) (fun c_89 => ?_)
              · exact tail _ rfl c_89 (fun h => by cases h) (fun h => by rcases h.2 with z | z | z; cases z; exact absurd z (by simp only [clrC]; omega); omega)
              · refine g_iconst (v := (nI 0)) dX5_grows_92 rfl rfl ?_
                refine g_zreturn dX5_grows_93 rfl rfl ?_
                exact fin0 (by unfold growD; rw [if_neg (fun h => by cases h.1), if_neg (fun h => by rcases h.2 with z | z | z; cases z; exact absurd z (by simp only [clrC]; omega); omega), if_pos c_89])
            · first | refine g_aload_n dX5_grows_74 rfl rfl rfl ?_ | refine g_aload_nR dX5_grows_74 rfl rfl rfl ?_ | refine g_aload_nN dX5_grows_74 rfl rfl rfl ?_
              refine g_sipush (v := (nI 182)) dX5_grows_75 rfl rfl ?_
              refine g_iload_n dX5_grows_78 rfl rfl rfl ?_
              refine g_iastn dX5_grows_79 rfl (by first | assumption | exact xu_eq _ _ _) (by omega) (by omega) ?_
              first | refine g_aload_n dX5_grows_80 rfl rfl rfl ?_ | refine g_aload_nR dX5_grows_80 rfl rfl rfl ?_ | refine g_aload_nN dX5_grows_80 rfl rfl rfl ?_
              refine g_sipush (v := (nI 181)) dX5_grows_81 rfl rfl ?_
              refine g_iload_n dX5_grows_84 rfl rfl rfl ?_
              refine g_iastnU dX5_grows_85 rfl (by omega) (by omega) ?_
              refine g_iconst (v := (nI 1)) dX5_grows_86 rfl rfl ?_
              refine g_zreturn dX5_grows_87 rfl rfl ?_
              exact fin _ _ (by unfold growD; rw [if_neg (fun h => by cases h.1), if_pos ⟨c_47, Or.inr (by first | exact Or.inl c_66 | exact Or.inr c_71)⟩])
    · exact absurd c_25 (hne a rfl)
/-- going back: the list and the caret behind -/
def backB (L : List Int32) (st : Nat) : Nat := if lf L (st - 1) = -10 then beginOfL L (st - 1) else st - 1
def backE (L : List Int32) (st : Nat) : Nat := if lf L (st - 1) = -10 then st - 1 else rowEndL L st
def backL (L : List Int32) (st : Nat) : List Int32 :=
  let e := endOfL L st
  remL (if backE L st < e then remL (remL L e (e + 1)) (backE L st) (backE L st + 1) else remL L e (e + 1)) (backB L st) (backB L st + 1)
def backD (L : List Int32) (c : Nat) (fr : Option Nat) : Option (List Int32 × Nat) := match fr with
  | some a => some (remL L a c, a)
  | none =>
    if rowStartL L c < c then (if allL L (itemStartL L c) c = 1 then some (remL L (itemStartL L c) c, itemStartL L c) else some (L, c - 1))
    else if rowStartL L c = 0 then none
    else some (backL L (rowStartL L c), if lf L (rowStartL L c - 1) = -10 then rowStartL L c - 2 else rowStartL L c - 1)
def backP (r : Nat) (m : XM) (L : List Int32) (c : Nat) (fr : Option Nat) : Option Value → XM → Prop := fun v m' => match backD L c fr with
  | none => some (.int 0) = v ∧ m = m'
  | some q => xPg r m (some (.int 1)) q.1 q.2 none v m'
theorem beginOf_lt (f : Nat → Int32) (dp : Int32) (k : Nat) (h : beginOfF f dp k ≠ 0) : beginOfF f dp k - 1 < k := by
  have := beginOf_le f dp k; omega
theorem itemStart_lt (L : List Int32) (g : Nat) (h : 1 ≤ g) : itemStartL L g < g := by
  unfold itemStartL itemStartF
  split
  · have := beginOf_le (lf L) 0 (g - 1); omega
  · omega
theorem p_backs (hd : 5 ≤ d) (hm : m r = some (iA 0 184 f)) (hp : Pg f L c fr) (hi : InP L c fr) (hb : Bal L) (he : rowStartL L c ≠ 0 → endOfL L (rowStartL L c) < L.length) : CT w MX5_backs d 0 0 [.ref r] m (backP r m L c fr) xN := by
  obtain ⟨hp1, h181, h182⟩ := id hp
  obtain ⟨h1, h180, h3⟩ := id hp1
  have hc := hi.1
  have hrs := rowStart_le (lf L) 0 c
  change rowStartL L c ≤ c at hrs
  cases fr with
  | some a =>
    have h182 : f 182 = nI a := h182
    have ha9 := hi.2 a rfl
    have hne : ¬ nI a = -9 := fun e => by
      have := (frI_n (fr := some a) (by intro b hb; cases hb; omega)).mp e
      cases this
    refine ct_intro (lv := [some (.ref r), none, none, none, none, none, none]) 6 (by decide) rfl (Nat.le_of_ble_eq_true rfl) rfl ?_
    first | refine g_aload_n dX5_backs_0 rfl rfl rfl ?_ | refine g_aload_nR dX5_backs_0 rfl rfl rfl ?_ | refine g_aload_nN dX5_backs_0 rfl rfl rfl ?_
    refine g_sipush (v := (nI 181)) dX5_backs_1 rfl rfl ?_
    refine g_ialdn dX5_backs_4 rfl (Or.inl (by first | assumption | exact xu_eq _ _ _)) (j := 181) (by omega) (by omega) ?_
    rw [h181]
    refine g_ist1 dX5_backs_5 rfl (by decide) (k := ?_)
    first | refine g_aload_n dX5_backs_6 rfl rfl rfl ?_ | refine g_aload_nR dX5_backs_6 rfl rfl rfl ?_ | refine g_aload_nN dX5_backs_6 rfl rfl rfl ?_
    refine g_sipush (v := (nI 182)) dX5_backs_7 rfl rfl ?_
    refine g_ialdn dX5_backs_10 rfl (Or.inl (by first | assumption | exact xu_eq _ _ _)) (j := 182) (by omega) (by omega) ?_
    rw [h182]
    refine g_bipush (v := (-9)) dX5_backs_11 rfl rfl ?_
    refine g_icmp_eq (tgt := 22) dX5_backs_13 (by decide) rfl (fun c_13 => ?_) (fun c_13 => ?_)
    · exact absurd c_13 hne
    · first | refine g_aload_n dX5_backs_16 rfl rfl rfl ?_ | refine g_aload_nR dX5_backs_16 rfl rfl rfl ?_ | refine g_aload_nN dX5_backs_16 rfl rfl rfl ?_
      refine g_static iS_X5_clear q2631 (p_clear (d := d - 1) (by omega) hm hp hi) dX5_backs_17 rfl rfl rfl (by first | exact Nat.le_of_ble_eq_true rfl | simp [Value.category, rf_cat]) (by omega) (by omega) (by omega) xN_no (fun v_17 m_17 h_17 => ?_)
      obtain ⟨rfl, h_17⟩ := h_17
      refine g_iconst (v := (nI 1)) dX5_backs_20 rfl rfl ?_
      exact g_zreturn dX5_backs_21 rfl rfl ⟨rfl, h_17⟩
  | none =>
    have h182 : f 182 = -9 := h182
    have tail : ∀ st, rowStartL L c = st → st ≠ 0 → ¬ st < c → G w MX5_backs (xZ w (backP r m L c none) xN) d 0 0 92 [some (.ref r), some (.int (nI c)), some (.int (nI st)), none, none, none, none] [] m := by
      intro st est hs0 hn1
      have he : endOfL L st < L.length := by rw [← est]; exact he (by rw [est]; exact hs0)
      have hge : st ≤ endOfL L st := endOf_ge _ _ _ _
      have hre := rowEnd_le (lf L) L.length 0 st (by omega)
      change st ≤ rowEndL L st ∧ rowEndL L st ≤ L.length at hre
      have hv : f (st - 1) = lf L (st - 1) := h1 _ (by omega)
      have e0 : backD L c none = some (backL L st, if lf L (st - 1) = -10 then st - 2 else st - 1) := by
        subst est
        simp only [backD, if_neg hn1, if_neg hs0]
      have fin : ∀ (f3 : Nat → Int32) (L3 : List Int32) c', Pl f3 L3 → f3 182 = -9 → L3 = backL L st → c' = (if lf L (st - 1) = -10 then st - 2 else st - 1) → backP r m L c none (some (.int (nI 1))) (xu m r (iA 0 184 (upd f3 181 (nI c')))) := by
        intro f3 L3 c' hp3 h9 e1 e2
        unfold backP; rw [e0]
        subst e1; subst e2
        exact ⟨rfl, _, ⟨pl_u hp3 (by omega), upd_eq _ _ _, by rw [upd_ne (by omega)]; exact h9⟩, rfl⟩
      have l1 := remL_len (L := L) (a := endOfL L st) (b := endOfL L st + 1) (by omega) (by omega)
      by_cases hsec : lf L (st - 1) = -10
      · have hbg := hb.2 _ (show st - 1 < L.length by omega) (Or.inr hsec)
        have hbl := beginOf_lt _ _ _ hbg
        change beginOfL L (st - 1) < st - 1 at hbl
        have eB : backB L st = beginOfL L (st - 1) := by unfold backB; rw [if_pos hsec]
        have eE : backE L st = st - 1 := by unfold backE; rw [if_pos hsec]
        first | refine g_aload_n dX5_backs_92 rfl rfl rfl ?_ | refine g_aload_nR dX5_backs_92 rfl rfl rfl ?_ | refine g_aload_nN dX5_backs_92 rfl rfl rfl ?_
        refine g_iload_n dX5_backs_93 rfl rfl rfl ?_
        refine g_iconst (v := (nI 1)) dX5_backs_94 rfl rfl ?_
        refine g_isubn dX5_backs_95 rfl (by omega) ?_
        skip
        refine g_ialdn dX5_backs_96 rfl (Or.inl (by first | assumption | exact xu_eq _ _ _)) (by omega) (by omega) ?_
        refine g_bipush (v := (-10)) dX5_backs_97 rfl rfl ?_
        rw [hv]
        refine g_icmp_ne (tgt := 106) dX5_backs_99 (by decide) rfl (fun c_99 => ?_) (fun c_99 => ?_)
        · exact absurd hsec c_99
        · refine g_iconst (v := (nI 1)) dX5_backs_102 rfl rfl ?_
          refine g_goto (tgt := 107) dX5_backs_103 (by decide) ?_
          refine g_ist3 dX5_backs_107 rfl (by decide) (k := ?_)
          refine g_iload_n dX5_backs_108 rfl rfl rfl ?_
          refine g_ifn_eq (tgt := 122) dX5_backs_109 (by decide) rfl (by omega) (fun c_109 => by omega) (fun _ => ?_)
          first | refine g_aload_n dX5_backs_112 rfl rfl rfl ?_ | refine g_aload_nR dX5_backs_112 rfl rfl rfl ?_ | refine g_aload_nN dX5_backs_112 rfl rfl rfl ?_
          refine g_iload_n dX5_backs_113 rfl rfl rfl ?_
          refine g_iconst (v := (nI 1)) dX5_backs_114 rfl rfl ?_
          refine g_isubn dX5_backs_115 rfl (by omega) ?_
          refine g_staticP iS_X5_beginOf q2575 (p_beginOf (d := d - 1) (by omega) (by first | assumption | exact xu_eq _ _ _) (by assumption) (by omega) (by assumption)) dX5_backs_116 rfl rfl rfl (by first | exact Nat.le_of_ble_eq_true rfl | simp [Value.category, rf_cat]) (by omega) xN_no ?_
          refine g_goto (tgt := 125) dX5_backs_119 (by decide) ?_
          refine g_ist4 dX5_backs_125 rfl (by decide) (k := ?_)
          first | refine g_aload_n dX5_backs_127 rfl rfl rfl ?_ | refine g_aload_nR dX5_backs_127 rfl rfl rfl ?_ | refine g_aload_nN dX5_backs_127 rfl rfl rfl ?_
          refine g_iload_n dX5_backs_128 rfl rfl rfl ?_
          refine g_staticP iS_X5_endOf q2545 (p_endOf (d := d - 1) (by omega) (by first | assumption | exact xu_eq _ _ _) (by assumption) (by omega) (by assumption)) dX5_backs_129 rfl rfl rfl (by first | exact Nat.le_of_ble_eq_true rfl | simp [Value.category, rf_cat]) (by omega) xN_no ?_
          refine g_ist5 dX5_backs_132 rfl (by decide) (k := ?_)
          refine g_iload_n dX5_backs_134 rfl rfl rfl ?_
          refine g_ifn_eq (tgt := 144) dX5_backs_135 (by decide) rfl (by omega) (fun c_135 => by omega) (fun _ => ?_)
          refine g_iload_n dX5_backs_138 rfl rfl rfl ?_
          refine g_iconst (v := (nI 1)) dX5_backs_139 rfl rfl ?_
          refine g_isubn dX5_backs_140 rfl (by omega) ?_
          refine g_goto (tgt := 149) dX5_backs_141 (by decide) ?_
          refine g_ist6 dX5_backs_149 rfl (by decide) (k := ?_)
          first | refine g_aload_n dX5_backs_151 rfl rfl rfl ?_ | refine g_aload_nR dX5_backs_151 rfl rfl rfl ?_ | refine g_aload_nN dX5_backs_151 rfl rfl rfl ?_
          refine g_iload dX5_backs_152 rfl rfl ?_
          refine g_iload dX5_backs_154 rfl rfl ?_
          refine g_iconst (v := (nI 1)) dX5_backs_156 rfl rfl ?_
          refine g_iaddn dX5_backs_157 rfl ?_
          refine g_static iS_X5_remove q2634 (p_remove (d := d - 1) (by omega) hm hp1 (by omega) (by omega)) dX5_backs_158 rfl rfl rfl (by first | exact Nat.le_of_ble_eq_true rfl | simp [Value.category, rf_cat]) (by omega) (by omega) (by omega) xN_no (fun v_158 m_158 h_158 => ?_)
          obtain ⟨rfl, f1, hp2, -, a2, rfl⟩ := h_158
          refine g_iload dX5_backs_161 rfl rfl ?_
          refine g_iload dX5_backs_163 rfl rfl ?_
          refine g_icmpn_ge (tgt := 178) dX5_backs_165 (by decide) rfl (by omega) (by omega) (fun c_165 => ?_) (fun c_165 => ?_)
          · omega
          · have l2 := remL_len (L := remL L (endOfL L st) (endOfL L st + 1)) (a := st - 1) (b := st - 1 + 1) (by omega) (by omega)
            first | refine g_aload_n dX5_backs_168 rfl rfl rfl ?_ | refine g_aload_nR dX5_backs_168 rfl rfl rfl ?_ | refine g_aload_nN dX5_backs_168 rfl rfl rfl ?_
            refine g_iload dX5_backs_169 rfl rfl ?_
            refine g_iload dX5_backs_171 rfl rfl ?_
            refine g_iconst (v := (nI 1)) dX5_backs_173 rfl rfl ?_
            refine g_iaddn dX5_backs_174 rfl ?_
            refine g_static iS_X5_remove q2634 (p_remove (d := d - 1) (by omega) (xu_eq _ _ _) hp2 (by omega) (by omega)) dX5_backs_175 rfl rfl rfl (by first | exact Nat.le_of_ble_eq_true rfl | simp [Value.category, rf_cat]) (by omega) (by omega) (by omega) xN_no (fun v_175 m_175 h_175 => ?_)
            obtain ⟨rfl, f2, hp3, -, a3, rfl⟩ := h_175
            rw [xu_xu]
            first | refine g_aload_n dX5_backs_178 rfl rfl rfl ?_ | refine g_aload_nR dX5_backs_178 rfl rfl rfl ?_ | refine g_aload_nN dX5_backs_178 rfl rfl rfl ?_
            refine g_iload dX5_backs_179 rfl rfl ?_
            refine g_iload dX5_backs_181 rfl rfl ?_
            refine g_iconst (v := (nI 1)) dX5_backs_183 rfl rfl ?_
            refine g_iaddn dX5_backs_184 rfl ?_
            refine g_static iS_X5_remove q2634 (p_remove (d := d - 1) (by omega) (xu_eq _ _ _) (by assumption) (by omega) (by omega)) dX5_backs_185 rfl rfl rfl (by first | exact Nat.le_of_ble_eq_true rfl | simp [Value.category, rf_cat]) (by omega) (by omega) (by omega) xN_no (fun v_185 m_185 h_185 => ?_)
            obtain ⟨rfl, f3, hp4, -, a4, rfl⟩ := h_185
            rw [xu_xu]
            first | refine g_aload_n dX5_backs_188 rfl rfl rfl ?_ | refine g_aload_nR dX5_backs_188 rfl rfl rfl ?_ | refine g_aload_nN dX5_backs_188 rfl rfl rfl ?_
            refine g_sipush (v := (nI 181)) dX5_backs_189 rfl rfl ?_
            refine g_iload_n dX5_backs_192 rfl rfl rfl ?_
            refine g_ifn_eq (tgt := 202) dX5_backs_193 (by decide) rfl (by omega) (fun c_193 => by omega) (fun _ => ?_)
            refine g_iload_n dX5_backs_196 rfl rfl rfl ?_
            refine g_iconst (v := (nI 2)) dX5_backs_197 rfl rfl ?_
            refine g_isubn dX5_backs_198 rfl (by omega) ?_
            refine g_goto (tgt := 205) dX5_backs_199 (by decide) ?_
            refine g_iastnU dX5_backs_205 rfl (by omega) (by omega) ?_
            refine g_iconst (v := (nI 1)) dX5_backs_206 rfl rfl ?_
            refine g_zreturn dX5_backs_207 rfl rfl ?_
            exact fin f3 _ _ hp4 (by rw [a4, a3, a2]; exact h182) (by unfold backL; simp only [eB, eE]; rw [if_pos (by omega)]) (by rw [if_pos hsec])
      · have eB : backB L st = st - 1 := by unfold backB; rw [if_neg hsec]
        have eE : backE L st = rowEndL L st := by unfold backE; rw [if_neg hsec]
        first | refine g_aload_n dX5_backs_92 rfl rfl rfl ?_ | refine g_aload_nR dX5_backs_92 rfl rfl rfl ?_ | refine g_aload_nN dX5_backs_92 rfl rfl rfl ?_
        refine g_iload_n dX5_backs_93 rfl rfl rfl ?_
        refine g_iconst (v := (nI 1)) dX5_backs_94 rfl rfl ?_
        refine g_isubn dX5_backs_95 rfl (by omega) ?_
        refine g_ialdn dX5_backs_96 rfl (Or.inl (by first | assumption | exact xu_eq _ _ _)) (by omega) (by omega) ?_
        refine g_bipush (v := (-10)) dX5_backs_97 rfl rfl ?_
        rw [hv]
        refine g_icmp_ne (tgt := 106) dX5_backs_99 (by decide) rfl (fun c_99 => ?_) (fun c_99 => ?_)
        · refine g_iconst (v := (nI 0)) dX5_backs_106 rfl rfl ?_
          refine g_ist3 dX5_backs_107 rfl (by decide) (k := ?_)
          refine g_iload_n dX5_backs_108 rfl rfl rfl ?_
          refine g_ifn_eq (tgt := 122) dX5_backs_109 (by decide) rfl (by omega) (fun _ => ?_) (fun c_109 => by omega)
          refine g_iload_n dX5_backs_122 rfl rfl rfl ?_
          refine g_iconst (v := (nI 1)) dX5_backs_123 rfl rfl ?_
          refine g_isubn dX5_backs_124 rfl (by omega) ?_
          refine g_ist4 dX5_backs_125 rfl (by decide) (k := ?_)
          first | refine g_aload_n dX5_backs_127 rfl rfl rfl ?_ | refine g_aload_nR dX5_backs_127 rfl rfl rfl ?_ | refine g_aload_nN dX5_backs_127 rfl rfl rfl ?_
          refine g_iload_n dX5_backs_128 rfl rfl rfl ?_
          refine g_staticP iS_X5_endOf q2545 (p_endOf (d := d - 1) (by omega) (by first | assumption | exact xu_eq _ _ _) (by assumption) (by omega) (by assumption)) dX5_backs_129 rfl rfl rfl (by first | exact Nat.le_of_ble_eq_true rfl | simp [Value.category, rf_cat]) (by omega) xN_no ?_
          refine g_ist5 dX5_backs_132 rfl (by decide) (k := ?_)
          refine g_iload_n dX5_backs_134 rfl rfl rfl ?_
          refine g_ifn_eq (tgt := 144) dX5_backs_135 (by decide) rfl (by omega) (fun _ => ?_) (fun c_135 => by omega)
          first | refine g_aload_n dX5_backs_144 rfl rfl rfl ?_ | refine g_aload_nR dX5_backs_144 rfl rfl rfl ?_ | refine g_aload_nN dX5_backs_144 rfl rfl rfl ?_
          refine g_iload_n dX5_backs_145 rfl rfl rfl ?_
          refine g_staticP iS_X5_rowEnd q2533 (p_rowEnd (d := d - 1) (by omega) (by first | assumption | exact xu_eq _ _ _) (by assumption) (by omega)) dX5_backs_146 rfl rfl rfl (by first | exact Nat.le_of_ble_eq_true rfl | simp [Value.category, rf_cat]) (by omega) xN_no ?_
          refine g_ist6 dX5_backs_149 rfl (by decide) (k := ?_)
          first | refine g_aload_n dX5_backs_151 rfl rfl rfl ?_ | refine g_aload_nR dX5_backs_151 rfl rfl rfl ?_ | refine g_aload_nN dX5_backs_151 rfl rfl rfl ?_
          refine g_iload dX5_backs_152 rfl rfl ?_
          refine g_iload dX5_backs_154 rfl rfl ?_
          refine g_iconst (v := (nI 1)) dX5_backs_156 rfl rfl ?_
          refine g_iaddn dX5_backs_157 rfl ?_
          refine g_static iS_X5_remove q2634 (p_remove (d := d - 1) (by omega) hm hp1 (by omega) (by omega)) dX5_backs_158 rfl rfl rfl (by first | exact Nat.le_of_ble_eq_true rfl | simp [Value.category, rf_cat]) (by omega) (by omega) (by omega) xN_no (fun v_158 m_158 h_158 => ?_)
          obtain ⟨rfl, f1, hp2, -, a2, rfl⟩ := h_158
          refine g_iload dX5_backs_161 rfl rfl ?_
          refine g_iload dX5_backs_163 rfl rfl ?_
          refine g_icmpn_ge (tgt := 178) dX5_backs_165 (by decide) rfl (by omega) (by omega) (fun c_165 => ?_) (fun c_165 => ?_)
          · first | refine g_aload_n dX5_backs_178 rfl rfl rfl ?_ | refine g_aload_nR dX5_backs_178 rfl rfl rfl ?_ | refine g_aload_nN dX5_backs_178 rfl rfl rfl ?_
            refine g_iload dX5_backs_179 rfl rfl ?_
            refine g_iload dX5_backs_181 rfl rfl ?_
            refine g_iconst (v := (nI 1)) dX5_backs_183 rfl rfl ?_
            refine g_iaddn dX5_backs_184 rfl ?_
            refine g_static iS_X5_remove q2634 (p_remove (d := d - 1) (by omega) (xu_eq _ _ _) hp2 (by omega) (by omega)) dX5_backs_185 rfl rfl rfl (by first | exact Nat.le_of_ble_eq_true rfl | simp [Value.category, rf_cat]) (by omega) (by omega) (by omega) xN_no (fun v_185 m_185 h_185 => ?_)
            obtain ⟨rfl, f3, hp4, -, a4, rfl⟩ := h_185
            rw [xu_xu]
            first | refine g_aload_n dX5_backs_188 rfl rfl rfl ?_ | refine g_aload_nR dX5_backs_188 rfl rfl rfl ?_ | refine g_aload_nN dX5_backs_188 rfl rfl rfl ?_
            refine g_sipush (v := (nI 181)) dX5_backs_189 rfl rfl ?_
            refine g_iload_n dX5_backs_192 rfl rfl rfl ?_
            refine g_ifn_eq (tgt := 202) dX5_backs_193 (by decide) rfl (by omega) (fun _ => ?_) (fun c_193 => by omega)
            refine g_iload_n dX5_backs_202 rfl rfl rfl ?_
            refine g_iconst (v := (nI 1)) dX5_backs_203 rfl rfl ?_
            refine g_isubn dX5_backs_204 rfl (by omega) ?_
            refine g_iastnU dX5_backs_205 rfl (by omega) (by omega) ?_
            refine g_iconst (v := (nI 1)) dX5_backs_206 rfl rfl ?_
            refine g_zreturn dX5_backs_207 rfl rfl ?_
            exact fin f3 _ _ hp4 (by rw [a4, a2]; exact h182) (by unfold backL; simp only [eB, eE]; rw [if_neg (by omega)]) (by rw [if_neg hsec])
          · have l2 := remL_len (L := remL L (endOfL L st) (endOfL L st + 1)) (a := rowEndL L st) (b := rowEndL L st + 1) (by omega) (by omega)
            first | refine g_aload_n dX5_backs_168 rfl rfl rfl ?_ | refine g_aload_nR dX5_backs_168 rfl rfl rfl ?_ | refine g_aload_nN dX5_backs_168 rfl rfl rfl ?_
            refine g_iload dX5_backs_169 rfl rfl ?_
            refine g_iload dX5_backs_171 rfl rfl ?_
            refine g_iconst (v := (nI 1)) dX5_backs_173 rfl rfl ?_
            refine g_iaddn dX5_backs_174 rfl ?_
            refine g_static iS_X5_remove q2634 (p_remove (d := d - 1) (by omega) (xu_eq _ _ _) hp2 (by omega) (by omega)) dX5_backs_175 rfl rfl rfl (by first | exact Nat.le_of_ble_eq_true rfl | simp [Value.category, rf_cat]) (by omega) (by omega) (by omega) xN_no (fun v_175 m_175 h_175 => ?_)
            obtain ⟨rfl, f2, hp3, -, a3, rfl⟩ := h_175
            rw [xu_xu]
            first | refine g_aload_n dX5_backs_178 rfl rfl rfl ?_ | refine g_aload_nR dX5_backs_178 rfl rfl rfl ?_ | refine g_aload_nN dX5_backs_178 rfl rfl rfl ?_
            refine g_iload dX5_backs_179 rfl rfl ?_
            refine g_iload dX5_backs_181 rfl rfl ?_
            refine g_iconst (v := (nI 1)) dX5_backs_183 rfl rfl ?_
            refine g_iaddn dX5_backs_184 rfl ?_
            refine g_static iS_X5_remove q2634 (p_remove (d := d - 1) (by omega) (xu_eq _ _ _) hp3 (by omega) (by omega)) dX5_backs_185 rfl rfl rfl (by first | exact Nat.le_of_ble_eq_true rfl | simp [Value.category, rf_cat]) (by omega) (by omega) (by omega) xN_no (fun v_185 m_185 h_185 => ?_)
            obtain ⟨rfl, f3, hp4, -, a4, rfl⟩ := h_185
            rw [xu_xu]
            first | refine g_aload_n dX5_backs_188 rfl rfl rfl ?_ | refine g_aload_nR dX5_backs_188 rfl rfl rfl ?_ | refine g_aload_nN dX5_backs_188 rfl rfl rfl ?_
            refine g_sipush (v := (nI 181)) dX5_backs_189 rfl rfl ?_
            refine g_iload_n dX5_backs_192 rfl rfl rfl ?_
            refine g_ifn_eq (tgt := 202) dX5_backs_193 (by decide) rfl (by omega) (fun _ => ?_) (fun c_193 => by omega)
            refine g_iload_n dX5_backs_202 rfl rfl rfl ?_
            refine g_iconst (v := (nI 1)) dX5_backs_203 rfl rfl ?_
            refine g_isubn dX5_backs_204 rfl (by omega) ?_
            refine g_iastnU dX5_backs_205 rfl (by omega) (by omega) ?_
            refine g_iconst (v := (nI 1)) dX5_backs_206 rfl rfl ?_
            refine g_zreturn dX5_backs_207 rfl rfl ?_
            exact fin f3 _ _ hp4 (by rw [a4, a3, a2]; exact h182) (by unfold backL; simp only [eB, eE]; rw [if_pos c_165]) (by rw [if_neg hsec])
        · exact absurd c_99 hsec
    refine ct_intro (lv := [some (.ref r), none, none, none, none, none, none]) 6 (by decide) rfl (Nat.le_of_ble_eq_true rfl) rfl ?_
    first | refine g_aload_n dX5_backs_0 rfl rfl rfl ?_ | refine g_aload_nR dX5_backs_0 rfl rfl rfl ?_ | refine g_aload_nN dX5_backs_0 rfl rfl rfl ?_
    refine g_sipush (v := (nI 181)) dX5_backs_1 rfl rfl ?_
    refine g_ialdn dX5_backs_4 rfl (Or.inl (by first | assumption | exact xu_eq _ _ _)) (j := 181) (by omega) (by omega) ?_
    rw [h181]
    refine g_ist1 dX5_backs_5 rfl (by decide) (k := ?_)
    first | refine g_aload_n dX5_backs_6 rfl rfl rfl ?_ | refine g_aload_nR dX5_backs_6 rfl rfl rfl ?_ | refine g_aload_nN dX5_backs_6 rfl rfl rfl ?_
    refine g_sipush (v := (nI 182)) dX5_backs_7 rfl rfl ?_
    refine g_ialdn dX5_backs_10 rfl (Or.inl (by first | assumption | exact xu_eq _ _ _)) (j := 182) (by omega) (by omega) ?_
    rw [h182]
    refine g_bipush (v := (-9)) dX5_backs_11 rfl rfl ?_
    refine g_icmp_eq (tgt := 22) dX5_backs_13 (by decide) rfl (fun c_13 => ?_) (fun c_13 => ?_)
    · first | refine g_aload_n dX5_backs_22 rfl rfl rfl ?_ | refine g_aload_nR dX5_backs_22 rfl rfl rfl ?_ | refine g_aload_nN dX5_backs_22 rfl rfl rfl ?_
      refine g_iload_n dX5_backs_23 rfl rfl rfl ?_
      refine g_staticP iS_X5_rowStart q2530 (p_rowStart (d := d - 1) (by omega) (by first | assumption | exact xu_eq _ _ _) (by assumption) (by omega)) dX5_backs_24 rfl rfl rfl (by first | exact Nat.le_of_ble_eq_true rfl | simp [Value.category, rf_cat]) (by omega) xN_no ?_
      refine g_ist2 dX5_backs_27 rfl (by decide) (k := ?_)
      refine g_iload_n dX5_backs_28 rfl rfl rfl ?_
      refine g_iload_n dX5_backs_29 rfl rfl rfl ?_
      refine g_icmpn_le (tgt := 86) dX5_backs_30 (by decide) rfl (by omega) (by omega) (fun c_30 => ?_) (fun c_30 => ?_)
      · refine g_iload_n dX5_backs_86 rfl rfl rfl ?_
        refine g_ifn_ne (tgt := 92) dX5_backs_87 (by decide) rfl (by omega) (fun c_87 => ?_) (fun c_87 => ?_)
        · exact tail _ rfl c_87 (by omega)
        · refine g_iconst (v := (nI 0)) dX5_backs_90 rfl rfl ?_
          refine g_zreturn dX5_backs_91 rfl rfl ?_
          unfold backP
          simp only [backD, if_neg (show ¬ rowStartL L c < c by omega), if_pos c_87]
          exact ⟨rfl, trivial⟩
      · have hil := itemStart_lt L c (by omega)
        have hal : allL L (itemStartL L c) c ≤ 0 + (c - itemStartL L c) := all_ub _ _ _ _
        first | refine g_aload_n dX5_backs_33 rfl rfl rfl ?_ | refine g_aload_nR dX5_backs_33 rfl rfl rfl ?_ | refine g_aload_nN dX5_backs_33 rfl rfl rfl ?_
        refine g_iload_n dX5_backs_34 rfl rfl rfl ?_
        refine g_staticP iS_X5_itemStart q2572 (p_itemStart (d := d - 1) (by omega) (by first | assumption | exact xu_eq _ _ _) (by assumption) (by assumption) (by omega) (by omega)) dX5_backs_35 rfl rfl rfl (by first | exact Nat.le_of_ble_eq_true rfl | simp [Value.category, rf_cat]) (by omega) xN_no ?_
        refine g_ist3 dX5_backs_38 rfl (by decide) (k := ?_)
        first | refine g_aload_n dX5_backs_39 rfl rfl rfl ?_ | refine g_aload_nR dX5_backs_39 rfl rfl rfl ?_ | refine g_aload_nN dX5_backs_39 rfl rfl rfl ?_
        refine g_iload_n dX5_backs_40 rfl rfl rfl ?_
        refine g_iload_n dX5_backs_41 rfl rfl rfl ?_
        refine g_staticP iS_X5_allIn q2508 (p_allIn (d := d - 1) (by omega) (by first | assumption | exact xu_eq _ _ _) (by assumption) (by omega) (by omega)) dX5_backs_42 rfl rfl rfl (by first | exact Nat.le_of_ble_eq_true rfl | simp [Value.category, rf_cat]) (by omega) xN_no ?_
        refine g_iconst (v := (nI 1)) dX5_backs_45 rfl rfl ?_
        refine g_icmpn_ne (tgt := 53) dX5_backs_46 (by decide) rfl (by omega) (by omega) (fun c_46 => ?_) (fun c_46 => ?_)
        · refine g_iconst (v := (nI 0)) dX5_backs_53 rfl rfl ?_
          refine g_ist4 dX5_backs_54 rfl (by decide) (k := ?_)
          refine g_iload dX5_backs_56 rfl rfl ?_
          refine g_ifn_eq (tgt := 67) dX5_backs_58 (by decide) rfl (by omega) (fun _ => ?_) (fun c_58 => by omega)
          first | refine g_aload_n dX5_backs_67 rfl rfl rfl ?_ | refine g_aload_nR dX5_backs_67 rfl rfl rfl ?_ | refine g_aload_nN dX5_backs_67 rfl rfl rfl ?_
          refine g_sipush (v := (nI 181)) dX5_backs_68 rfl rfl ?_
          refine g_iload dX5_backs_71 rfl rfl ?_
          refine g_ifn_eq (tgt := 80) dX5_backs_73 (by decide) rfl (by omega) (fun _ => ?_) (fun c_73 => by omega)
          skip
          refine g_iload_n dX5_backs_80 rfl rfl rfl ?_
          refine g_iconst (v := (nI 1)) dX5_backs_81 rfl rfl ?_
          refine g_isubn dX5_backs_82 rfl (by omega) ?_
          refine g_iastn dX5_backs_83 rfl (by first | assumption | exact xu_eq _ _ _) (by omega) (by omega) ?_
          refine g_iconst (v := (nI 1)) dX5_backs_84 rfl rfl ?_
          refine g_zreturn dX5_backs_85 rfl rfl ?_
          unfold backP
          simp only [backD, if_pos (show rowStartL L c < c by omega), if_neg c_46]
          exact ⟨rfl, _, ⟨pl_u hp1 (by omega), upd_eq _ _ _, by rw [upd_ne (by omega)]; exact h182⟩, rfl⟩
        · refine g_iconst (v := (nI 1)) dX5_backs_49 rfl rfl ?_
          refine g_goto (tgt := 54) dX5_backs_50 (by decide) ?_
          refine g_ist4 dX5_backs_54 rfl (by decide) (k := ?_)
          refine g_iload dX5_backs_56 rfl rfl ?_
          refine g_ifn_eq (tgt := 67) dX5_backs_58 (by decide) rfl (by omega) (fun c_58 => by omega) (fun _ => ?_)
          first | refine g_aload_n dX5_backs_61 rfl rfl rfl ?_ | refine g_aload_nR dX5_backs_61 rfl rfl rfl ?_ | refine g_aload_nN dX5_backs_61 rfl rfl rfl ?_
          refine g_iload_n dX5_backs_62 rfl rfl rfl ?_
          refine g_iload_n dX5_backs_63 rfl rfl rfl ?_
          refine g_static iS_X5_remove q2634 (p_remove (d := d - 1) (by omega) hm hp1 (by omega) (by omega)) dX5_backs_64 rfl rfl rfl (by first | exact Nat.le_of_ble_eq_true rfl | simp [Value.category, rf_cat]) (by omega) (by omega) (by omega) xN_no (fun v_64 m_64 h_64 => ?_)
          obtain ⟨rfl, f1, hp2, -, a2, rfl⟩ := h_64
          first | refine g_aload_n dX5_backs_67 rfl rfl rfl ?_ | refine g_aload_nR dX5_backs_67 rfl rfl rfl ?_ | refine g_aload_nN dX5_backs_67 rfl rfl rfl ?_
          refine g_sipush (v := (nI 181)) dX5_backs_68 rfl rfl ?_
          refine g_iload dX5_backs_71 rfl rfl ?_
          refine g_ifn_eq (tgt := 80) dX5_backs_73 (by decide) rfl (by omega) (fun c_73 => by omega) (fun _ => ?_)
          refine g_iload_n dX5_backs_76 rfl rfl rfl ?_
          refine g_goto (tgt := 83) dX5_backs_77 (by decide) ?_
          refine g_iastnU dX5_backs_83 rfl (by omega) (by omega) ?_
          refine g_iconst (v := (nI 1)) dX5_backs_84 rfl rfl ?_
          refine g_zreturn dX5_backs_85 rfl rfl ?_
          unfold backP
          simp only [backD, if_pos (show rowStartL L c < c by omega), if_pos c_46]
          exact ⟨rfl, _, ⟨pl_u hp2 (by omega), upd_eq _ _ _, by rw [upd_ne (by omega), a2]; exact h182⟩, rfl⟩
    · exact absurd rfl c_13
end TW5
