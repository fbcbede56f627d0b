/-! TWIN: typing, moving, wrapping, growing, going back -/
set_option maxRecDepth 100000
def clrL (L : List Int32) (c : Nat) : Option Nat → List Int32
  | none => L
  | some a => remL L a c
def clrC (c : Nat) : Option Nat → Nat
  | none => c
  | some a => a
def goneL (L : List Int32) (c : Nat) : Option Nat → Nat
  | none => 0
  | some a => allL L a c
/-- a caret and a selection that lie in the list -/
def InP (L : List Int32) (c : Nat) (fr : Option Nat) : Prop := c ≤ L.length ∧ ∀ a, fr = some a → a ≤ c
section TW4
variable {w : XW} {m : XM} {d : Nat} {r c : Nat} {f : Nat → Int32} {L : List Int32} {fr : Option Nat}
def typP (r : Nat) (m : XM) (L : List Int32) (c : Nat) (fr : Option Nat) (s : Int32) : Option Value → XM → Prop := fun v m' =>
  if symF s = true ∧ allL L 0 L.length - goneL L c fr ≠ 60 then xPg r m (some (.int 1)) (insL (clrL L c fr) (clrC c fr) s) (clrC c fr + 1) none v m' else some (.int 0) = v ∧ m = m'
theorem p_clear (hd : 2 ≤ d) (hm : m r = some (iA 0 184 f)) (hp : Pg f L c fr) (hi : InP L c fr) : CT w MX5_clear d 0 0 [.ref r] m (xPg r m none (clrL L c fr) (clrC c fr) none) xN := by
  cases fr with
  | none => exact c_clearN hd hm hp
  | some a => exact c_clearS hd hm hp (hi.2 a rfl) hi.1
theorem clr_len (hi : InP L c fr) : (clrL L c fr).length ≤ L.length ∧ clrC c fr ≤ (clrL L c fr).length := by
  obtain ⟨h1, h2⟩ := hi
  cases fr with
  | none => exact ⟨Nat.le_refl _, h1⟩
  | some a =>
    have ha := h2 a rfl
    have e : (clrL L c (some a)).length = L.length - (c - a) := remL_len ha h1
    have e2 : clrC c (some a) = a := rfl
    constructor
    · omega
    · omega
theorem p_types {s : Int32} (hd : 4 ≤ d) (hm : m r = some (iA 0 184 f)) (hp : Pg f L c fr) (hi : InP L c fr) (hsz : allL L 0 L.length - goneL L c fr ≠ 60 → (clrL L c fr).length < 180) : CT w MX5_types d 0 0 [.ref r, .int s] m (typP r m L c fr s) xN := by
  obtain ⟨hp1, h181, h182⟩ := id hp
  obtain ⟨h1, h180, h3⟩ := id hp1
  have hub := all_ub (lf L) L.length 0 0
  have hub2 : allL L 0 L.length ≤ 180 := by unfold allL; omega
  have hgo : goneL L c fr ≤ allL L 0 L.length := by
    cases fr with
    | none => exact Nat.zero_le _
    | some a =>
      have := all_le (f := lf L) (a := a) (b := c) (n := L.length) hi.1 0 0 (Nat.zero_le _) (hi.2 a rfl)
      rw [Nat.zero_add] at this
      exact this
  have hc := hi.1
  have hcl := clr_len hi
  have tail : symF s = true → allL L 0 L.length - goneL L c fr ≠ 60 → G w MX5_types (xZ w (typP r m L c fr s) xN) d 0 0 55 [some (.ref r), some (.int s), some (.int (nI (goneL L c fr)))] [] m := by
    intro hs hn
    have hsz := hsz hn
    first | refine g_aload_n dX5_types_55 rfl rfl rfl ?_ | refine g_aload_nR dX5_types_55 rfl rfl rfl ?_ | refine g_aload_nN dX5_types_55 rfl rfl rfl ?_
    refine g_static iS_X5_clear q2631 (p_clear (d := d - 1) (by omega) hm hp hi) dX5_types_56 rfl rfl rfl (by first | exact Nat.le_of_ble_eq_true rfl | simp [Value.category, rf_cat]) (by omega) (by omega) (by omega) xN_no (fun v_56 m_56 h_56 => ?_)
    obtain ⟨rfl, f1, ⟨hp2, h181, h182⟩, rfl⟩ := h_56
    first | refine g_aload_n dX5_types_59 rfl rfl rfl ?_ | refine g_aload_nR dX5_types_59 rfl rfl rfl ?_ | refine g_aload_nN dX5_types_59 rfl rfl rfl ?_
    first | refine g_aload_n dX5_types_60 rfl rfl rfl ?_ | refine g_aload_nR dX5_types_60 rfl rfl rfl ?_ | refine g_aload_nN dX5_types_60 rfl rfl rfl ?_
    refine g_sipush (v := (nI 181)) dX5_types_61 rfl rfl ?_
    refine g_ialdn dX5_types_64 rfl (Or.inl (by first | assumption | exact xu_eq _ _ _)) (j := 181) (by omega) (by omega) ?_
    rw [h181]
    refine g_iload_n dX5_types_65 rfl rfl rfl ?_
    refine g_staticR iS_X5_put q2637 (c_put (d := d - 1) (by omega) (xu_eq _ _ _) hp2.2.1 hsz hcl.2) dX5_types_66 rfl rfl rfl (by first | exact Nat.le_of_ble_eq_true rfl | simp [Value.category, rf_cat]) (by omega) (by omega) (by omega) xN_no ?_
    rw [xu_xu]
    have h181 := (put_hi (f := f1) (x := nI ((clrL L c fr).length + 1)) (s := s) (k := 181) hsz hcl.2 (by omega)).trans h181
    have h182 := (put_hi (f := f1) (x := nI ((clrL L c fr).length + 1)) (s := s) (k := 182) hsz hcl.2 (by omega)).trans h182
    first | refine g_aload_n dX5_types_69 rfl rfl rfl ?_ | refine g_aload_nR dX5_types_69 rfl rfl rfl ?_ | refine g_aload_nN dX5_types_69 rfl rfl rfl ?_
    refine g_sipush (v := (nI 181)) dX5_types_70 rfl rfl ?_
    refine g_dup2 dX5_types_73 rfl (by first | rfl | exact rf_cat _) (by first | rfl | exact rf_cat _) ?_
    refine g_ialdn dX5_types_74 rfl (Or.inl (by first | assumption | exact xu_eq _ _ _)) (j := 181) (by omega) (by omega) ?_
    rw [h181]
    refine g_iconst (v := (nI 1)) dX5_types_75 rfl rfl ?_
    refine g_iaddn dX5_types_76 rfl ?_
    refine g_iastnU dX5_types_77 rfl (by omega) (by omega) (j := 181) ?_
    refine g_iconst (v := (nI 1)) dX5_types_78 rfl rfl ?_
    refine g_zreturn dX5_types_79 rfl rfl ?_
    rw [typP, if_pos ⟨hs, hn⟩]
    exact ⟨rfl, _, ⟨pl_u (pl_put hp2 hcl.2 hsz) (by omega), upd_eq _ _ _, by rw [upd_ne (by omega)]; exact h182⟩, rfl⟩
  have mid : G w MX5_types (xZ w (typP r m L c fr s) xN) d 0 0 29 [some (.ref r), some (.int s), some (.int (nI (goneL L c fr)))] [] m := by
    refine g_iload_n dX5_types_29 rfl rfl rfl ?_
    refine g_staticP iS_X5_isSymbol q2625 (c_isSymbol (d := d - 1) (by omega) _) dX5_types_30 rfl rfl rfl (by first | exact Nat.le_of_ble_eq_true rfl | simp [Value.category, rf_cat]) (by omega) xN_no ?_
    refine g_ifB_eq (tgt := 53) dX5_types_33 (by decide) rfl (fun c_33 => ?_) (fun c_33 => ?_)
    · refine g_iconst (v := nI 0) dX5_types_53 rfl rfl ?_
      refine g_zreturn dX5_types_54 rfl rfl ?_
      rw [typP, if_neg (fun h => bo_no c_33 h.1)]
      exact ⟨rfl, rfl⟩
    · first | refine g_aload_n dX5_types_36 rfl rfl rfl ?_ | refine g_aload_nR dX5_types_36 rfl rfl rfl ?_ | refine g_aload_nN dX5_types_36 rfl rfl rfl ?_
      refine g_iconst (v := (nI 0)) dX5_types_37 rfl rfl ?_
      first | refine g_aload_n dX5_types_38 rfl rfl rfl ?_ | refine g_aload_nR dX5_types_38 rfl rfl rfl ?_ | refine g_aload_nN dX5_types_38 rfl rfl rfl ?_
      refine g_sipush (v := (nI 180)) dX5_types_39 rfl rfl ?_
      refine g_ialdn dX5_types_42 rfl (Or.inl (by first | assumption | exact xu_eq _ _ _)) (j := 180) (by omega) (by omega) ?_
      rw [h180]
      refine g_staticP iS_X5_allIn q2508 (p_allIn (d := d - 1) (by omega) (by first | assumption | exact xu_eq _ _ _) (by assumption) (by omega) (by omega)) dX5_types_43 rfl rfl rfl (by first | exact Nat.le_of_ble_eq_true rfl | simp [Value.category, rf_cat]) (by omega) xN_no ?_
      refine g_iload_n dX5_types_46 rfl rfl rfl ?_
      refine g_isubn dX5_types_47 rfl (by omega) ?_
      refine g_bipush (v := (nI 60)) dX5_types_48 rfl rfl ?_
      refine g_icmpn_ne (tgt := 55) dX5_types_50 (by decide) rfl (by omega) (by omega) (fun c_50 => ?_) (fun c_50 => ?_)
      · exact tail c_33 (by first | exact c_50 | omega)
      · refine g_iconst (v := (nI 0)) dX5_types_53 rfl rfl ?_
        refine g_zreturn dX5_types_54 rfl rfl ?_
        rw [typP, if_neg (fun h => h.2 (by first | exact c_50 | exact Classical.not_not.mp c_50))]
        exact ⟨rfl, rfl⟩
  cases fr with
  | none =>
    have h182 : f 182 = -9 := h182
    refine ct_intro (lv := [some (.ref r), some (.int s), none]) 1 (by decide) rfl (Nat.le_of_ble_eq_true rfl) rfl ?_
    first | refine g_aload_n dX5_types_0 rfl rfl rfl ?_ | refine g_aload_nR dX5_types_0 rfl rfl rfl ?_ | refine g_aload_nN dX5_types_0 rfl rfl rfl ?_
    refine g_sipush (v := (nI 182)) dX5_types_1 rfl rfl ?_
    refine g_ialdn dX5_types_4 rfl (Or.inl (by first | assumption | exact xu_eq _ _ _)) (j := 182) (by omega) (by omega) ?_
    rw [h182]
    refine g_bipush (v := (-9)) dX5_types_5 rfl rfl ?_
    refine g_icmp_ne (tgt := 14) dX5_types_7 (by decide) rfl (fun c_7 => ?_) (fun c_7 => ?_)
    · exact absurd rfl c_7
    · refine g_iconst (v := (nI 0)) dX5_types_10 rfl rfl ?_
      refine g_goto (tgt := 28) dX5_types_11 (by decide) ?_
      refine g_ist2 dX5_types_28 rfl (by decide) (k := ?_)
      exact mid
  | some a =>
    have h182 : f 182 = nI a := h182
    have ha := hi.2 a rfl
    have hne : ¬ nI a = -9 := fun e => by
      have := (frI_n (fr := some a) (by intro b hb; cases hb; omega)).mp e
      cases this
    refine ct_intro (lv := [some (.ref r), some (.int s), none]) 1 (by decide) rfl (Nat.le_of_ble_eq_true rfl) rfl ?_
    first | refine g_aload_n dX5_types_0 rfl rfl rfl ?_ | refine g_aload_nR dX5_types_0 rfl rfl rfl ?_ | refine g_aload_nN dX5_types_0 rfl rfl rfl ?_
    refine g_sipush (v := (nI 182)) dX5_types_1 rfl rfl ?_
    refine g_ialdn dX5_types_4 rfl (Or.inl (by first | assumption | exact xu_eq _ _ _)) (j := 182) (by omega) (by omega) ?_
    rw [h182]
    refine g_bipush (v := (-9)) dX5_types_5 rfl rfl ?_
    refine g_icmp_ne (tgt := 14) dX5_types_7 (by decide) rfl (fun c_7 => ?_) (fun c_7 => ?_)
    · first | refine g_aload_n dX5_types_14 rfl rfl rfl ?_ | refine g_aload_nR dX5_types_14 rfl rfl rfl ?_ | refine g_aload_nN dX5_types_14 rfl rfl rfl ?_
      first | refine g_aload_n dX5_types_15 rfl rfl rfl ?_ | refine g_aload_nR dX5_types_15 rfl rfl rfl ?_ | refine g_aload_nN dX5_types_15 rfl rfl rfl ?_
      refine g_sipush (v := (nI 182)) dX5_types_16 rfl rfl ?_
      refine g_ialdn dX5_types_19 rfl (Or.inl (by first | assumption | exact xu_eq _ _ _)) (j := 182) (by omega) (by omega) ?_
      rw [h182]
      first | refine g_aload_n dX5_types_20 rfl rfl rfl ?_ | refine g_aload_nR dX5_types_20 rfl rfl rfl ?_ | refine g_aload_nN dX5_types_20 rfl rfl rfl ?_
      refine g_sipush (v := (nI 181)) dX5_types_21 rfl rfl ?_
      refine g_ialdn dX5_types_24 rfl (Or.inl (by first | assumption | exact xu_eq _ _ _)) (j := 181) (by omega) (by omega) ?_
      rw [h181]
      refine g_staticP iS_X5_allIn q2508 (p_allIn (d := d - 1) (by omega) (by first | assumption | exact xu_eq _ _ _) (by assumption) (by omega) (by omega)) dX5_types_25 rfl rfl rfl (by first | exact Nat.le_of_ble_eq_true rfl | simp [Value.category, rf_cat]) (by omega) xN_no ?_
      refine g_ist2 dX5_types_28 rfl (by decide) (k := ?_)
      exact mid
    · exact absurd c_7 hne
theorem nI_tn {x : Int32} (h : ¬ x < 0) : nI x.toNatClampNeg = x := by
  obtain ⟨j, hj, rfl⟩ := nI_of h
  rw [nI_clamp hj]
/-- the caret's way by a number of places -/
def movC (L : List Int32) (c : Nat) (p : Int32) : Nat := if nI c + p < 0 then 0 else if nI L.length < nI c + p then L.length else (nI c + p).toNatClampNeg
theorem p_moves {p : Int32} (hd : 1 ≤ d) (hm : m r = some (iA 0 184 f)) (hp : Pg f L c fr) : CT w MX5_moves d 0 0 [.ref r, .int p] m (xPg r m none L (movC L c p) none) xN := by
  obtain ⟨hp1, h181, h182⟩ := id hp
  obtain ⟨h1, h180, h3⟩ := id hp1
  have key : ∀ c', c' = movC L c p → xPg r m none L (movC L c p) none none (xu m r (iA 0 184 (upd (upd f 181 (nI c')) 182 (-9)))) := by
    intro c' e
    subst e
    exact ⟨rfl, _, ⟨pl_u (pl_u hp1 (by omega)) (by omega), by rw [upd_ne (by omega), upd_eq], upd_eq _ _ _⟩, rfl⟩
  refine ct_intro (lv := [some (.ref r), some (.int p), none]) 1 (by decide) rfl (Nat.le_of_ble_eq_true rfl) rfl ?_
  first | refine g_aload_n dX5_moves_0 rfl rfl rfl ?_ | refine g_aload_nR dX5_moves_0 rfl rfl rfl ?_ | refine g_aload_nN dX5_moves_0 rfl rfl rfl ?_
  refine g_sipush (v := (nI 181)) dX5_moves_1 rfl rfl ?_
  refine g_ialdn dX5_moves_4 rfl (Or.inl (by first | assumption | exact xu_eq _ _ _)) (j := 181) (by omega) (by omega) ?_
  rw [h181]
  refine g_iload_n dX5_moves_5 rfl rfl rfl ?_
  refine g_iadd dX5_moves_6 rfl ?_
  refine g_ist2 dX5_moves_7 rfl (by decide) (k := ?_)
  first | refine g_aload_n dX5_moves_8 rfl rfl rfl ?_ | refine g_aload_nR dX5_moves_8 rfl rfl rfl ?_ | refine g_aload_nN dX5_moves_8 rfl rfl rfl ?_
  refine g_sipush (v := (nI 181)) dX5_moves_9 rfl rfl ?_
  refine g_iload_n dX5_moves_12 rfl rfl rfl ?_
  refine g_if_ge (tgt := 20) dX5_moves_13 (by decide) rfl (fun c_13 => ?_) (fun c_13 => ?_)
  · refine g_iload_n dX5_moves_20 rfl rfl rfl ?_
    first | refine g_aload_n dX5_moves_21 rfl rfl rfl ?_ | refine g_aload_nR dX5_moves_21 rfl rfl rfl ?_ | refine g_aload_nN dX5_moves_21 rfl rfl rfl ?_
    refine g_sipush (v := (nI 180)) dX5_moves_22 rfl rfl ?_
    refine g_ialdn dX5_moves_25 rfl (Or.inl (by first | assumption | exact xu_eq _ _ _)) (j := 180) (by omega) (by omega) ?_
    rw [h180]
    refine g_icmp_le (tgt := 37) dX5_moves_26 (by decide) rfl (fun c_26 => ?_) (fun c_26 => ?_)
    · refine g_iload_n dX5_moves_37 rfl rfl rfl ?_
      refine g_iastn dX5_moves_38 rfl (by first | assumption | exact xu_eq _ _ _) (by omega) (by omega) ?_
      first | refine g_aload_n dX5_moves_39 rfl rfl rfl ?_ | refine g_aload_nR dX5_moves_39 rfl rfl rfl ?_ | refine g_aload_nN dX5_moves_39 rfl rfl rfl ?_
      refine g_sipush (v := (nI 182)) dX5_moves_40 rfl rfl ?_
      refine g_bipush (v := (-9)) dX5_moves_43 rfl rfl ?_
      refine g_iastnU dX5_moves_45 rfl (by omega) (by omega) ?_
      refine g_return dX5_moves_46 rfl ?_
      have e : nI c + p = nI (movC L c p) := by
        unfold movC
        rw [if_neg (Int32.not_lt.mpr c_13), if_neg (Int32.not_lt.mpr c_26), nI_tn (Int32.not_lt.mpr c_13)]
      rw [e]
      exact key _ rfl
    · first | refine g_aload_n dX5_moves_29 rfl rfl rfl ?_ | refine g_aload_nR dX5_moves_29 rfl rfl rfl ?_ | refine g_aload_nN dX5_moves_29 rfl rfl rfl ?_
      refine g_sipush (v := (nI 180)) dX5_moves_30 rfl rfl ?_
      refine g_ialdn dX5_moves_33 rfl (Or.inl (by first | assumption | exact xu_eq _ _ _)) (j := 180) (by omega) (by omega) ?_
      rw [h180]
      refine g_goto (tgt := 38) dX5_moves_34 (by decide) ?_
      refine g_iastn dX5_moves_38 rfl (by first | assumption | exact xu_eq _ _ _) (by omega) (by omega) ?_
      first | refine g_aload_n dX5_moves_39 rfl rfl rfl ?_ | refine g_aload_nR dX5_moves_39 rfl rfl rfl ?_ | refine g_aload_nN dX5_moves_39 rfl rfl rfl ?_
      refine g_sipush (v := (nI 182)) dX5_moves_40 rfl rfl ?_
      refine g_bipush (v := (-9)) dX5_moves_43 rfl rfl ?_
      refine g_iastnU dX5_moves_45 rfl (by omega) (by omega) ?_
      refine g_return dX5_moves_46 rfl ?_
      exact key _ (by unfold movC; rw [if_neg (Int32.not_lt.mpr c_13), if_pos (Int32.not_le.mp c_26)])
  · refine g_iconst (v := (nI 0)) dX5_moves_16 rfl rfl ?_
    refine g_goto (tgt := 38) dX5_moves_17 (by decide) ?_
    refine g_iastn dX5_moves_38 rfl (by first | assumption | exact xu_eq _ _ _) (by omega) (by omega) ?_
    first | refine g_aload_n dX5_moves_39 rfl rfl rfl ?_ | refine g_aload_nR dX5_moves_39 rfl rfl rfl ?_ | refine g_aload_nN dX5_moves_39 rfl rfl rfl ?_
    refine g_sipush (v := (nI 182)) dX5_moves_40 rfl rfl ?_
    refine g_bipush (v := (-9)) dX5_moves_43 rfl rfl ?_
    refine g_iastnU dX5_moves_45 rfl (by omega) (by omega) ?_
    refine g_return dX5_moves_46 rfl ?_
    exact key _ (by unfold movC; rw [if_pos (Int32.not_le.mp c_13)])
end TW4
