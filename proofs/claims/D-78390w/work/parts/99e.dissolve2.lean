/-! DOCUMENTS: dissolve, whole -/
set_option maxRecDepth 100000
section DISS2
variable {w : XW} {id d D : Nat} {g : XG} {m : XM} {T : XT} {top r : Nat} {P Q : List XE} {q : Option Nat} {S : XK}
def dsP (w : XW) (g : XG) (m : XM) (id D k sl : Nat) (X1 A B V' : List XE) : Option Value → XM → Prop := fun v m' => none = v ∧ ∃ g', FrD id D g m g' m' ∧ DP w g' m' id D ((X1 ++ ((A ++ if k = 1 then B else []) ++ V')).map sg, X1.length + (if sl = 0 then 0 else A.length), none)
/-- behind the loop -/
theorem l_dis84 {g4 : XG} {m4 : XM} {T4 : XT} {rr i k sa n slot fin car aa o p sl0 cap0 kc ks : Nat} {f : Nat → Option Nat} {ro rs rd bx : Value} {X1 A B V' A' B' : List XE} {q1 : Option Nat} {S' : XK} (hd : 12 ≤ d) (hF : FrD id D g m g4 m4) (hS : SM w g4 m4 id T4) (hgD : (g4 D).1 = 0) (hid : id ≠ 0) {a1 a2 a3 : Value} (hD : m4 D = some (.inr (2, [.ref top, a1, a2, a3])))
    (hi : m4 i = some (.inr (7, [ro, .int (nI k), .ref sa, rs, rd, bx]))) (hsa : m4 sa = some (rA 6 n f)) (hn : n ≤ 2) (hDT : DT T4 top (X1 ++ ((A' ++ B') ++ V'))) (h0 : T4.1 top = some (none, sl0, cap0, drs top (X1 ++ ((A' ++ B') ++ V')))) (hX : scn [(top, none)] X1 = some ((rr, q1) :: S')) (hA : Bd rr A') (hsA : A'.map shE = A.map shE) (hsB : B'.map shE = (if k = 1 then B else []).map shE) (hcnt : cnt (X1 ++ ((A' ++ B') ++ V')) ≤ 60) (hht : hts (X1 ++ ((A' ++ B') ++ V')) ≤ 5) (hcar : car = (drs rr (X1 ++ (if slot = 0 then [] else A'))).length) :
    G w MX3_dissolve (xZ w (dsP w g m id D k slot X1 A B V') xN) d kc ks 35 [some (.ref D), some (.ref i), some (.int (nI slot)), some (.ref rr), some (.int (nI aa)), some (.int (nI fin)), some (.int (nI car)), some (.int (nI n))] [] m4 := by
  have hmD : m4 D ≠ none := by rw [hD]; exact fun h => by cases h
  refine g_iload dX3_dissolve_35 rfl rfl ?_
  first | refine g_aload_n dX3_dissolve_37 rfl rfl rfl ?_ | refine g_aload_nR dX3_dissolve_37 rfl rfl rfl ?_ | refine g_aload_nN dX3_dissolve_37 rfl rfl rfl ?_
  refine g_get fl_X3_69_X9 dX3_dissolve_38 rfl (Or.inl (by first | assumption | exact xu_eq _ _ _ | exact (xu_ne (by first | assumption | exact Ne.symm (by assumption))).trans (by first | assumption | exact xu_eq _ _ _) | exact (xu_ne (by first | assumption | exact Ne.symm (by assumption))).trans ((xu_ne (by first | assumption | exact Ne.symm (by assumption))).trans (by first | assumption | exact xu_eq _ _ _)) | exact (xu_ne (by first | assumption | exact Ne.symm (by assumption))).trans ((xu_ne (by first | assumption | exact Ne.symm (by assumption))).trans ((xu_ne (by first | assumption | exact Ne.symm (by assumption))).trans (by first | assumption | exact xu_eq _ _ _))))) rfl ?_
  refine g_alenq (t := 6) rfl dX3_dissolve_41 rfl (by first | assumption | exact Or.inl (by first | assumption | exact xu_eq _ _ _ | exact (xu_ne (by first | assumption | exact Ne.symm (by assumption))).trans (by first | assumption | exact xu_eq _ _ _) | exact (xu_ne (by first | assumption | exact Ne.symm (by assumption))).trans ((xu_ne (by first | assumption | exact Ne.symm (by assumption))).trans (by first | assumption | exact xu_eq _ _ _)) | exact (xu_ne (by first | assumption | exact Ne.symm (by assumption))).trans ((xu_ne (by first | assumption | exact Ne.symm (by assumption))).trans ((xu_ne (by first | assumption | exact Ne.symm (by assumption))).trans (by first | assumption | exact xu_eq _ _ _))))) ?_
  refine g_icmpn_ge (tgt := 84) dX3_dissolve_42 (by decide) rfl (by omega) (by omega) (fun c_42 => ?_) (fun c_42 => by omega)
  first | refine g_aload_n dX3_dissolve_84 rfl rfl rfl ?_ | refine g_aload_nR dX3_dissolve_84 rfl rfl rfl ?_ | refine g_aload_nN dX3_dissolve_84 rfl rfl rfl ?_
  first | refine g_aload_n dX3_dissolve_85 rfl rfl rfl ?_ | refine g_aload_nR dX3_dissolve_85 rfl rfl rfl ?_ | refine g_aload_nN dX3_dissolve_85 rfl rfl rfl ?_
  refine g_iload dX3_dissolve_86 rfl rfl ?_
  refine g_virtualR iV_X3_goTo q1828 (c_goTo (d := d - 1) (by omega) hD) (Or.inl (by first | assumption | exact xu_eq _ _ _ | exact (xu_ne (by first | assumption | exact Ne.symm (by assumption))).trans (by first | assumption | exact xu_eq _ _ _) | exact (xu_ne (by first | assumption | exact Ne.symm (by assumption))).trans ((xu_ne (by first | assumption | exact Ne.symm (by assumption))).trans (by first | assumption | exact xu_eq _ _ _)) | exact (xu_ne (by first | assumption | exact Ne.symm (by assumption))).trans ((xu_ne (by first | assumption | exact Ne.symm (by assumption))).trans ((xu_ne (by first | assumption | exact Ne.symm (by assumption))).trans (by first | assumption | exact xu_eq _ _ _))))) rfl (by decide) dX3_dissolve_88 rfl rfl rfl (by first | exact Nat.le_of_ble_eq_true rfl | simp [Value.category, rf_cat]) (by omega) (by omega) (by omega) xN_no ?_
  refine g_return dX3_dissolve_91 rfl ⟨rfl, g4, FrD_tr hF (FrD_u hmD), T4, top, rr, X1 ++ (if slot = 0 then [] else A'), [], (if slot = 0 then A' else []) ++ (B' ++ V'), q1, S', ?_⟩
  have eL : (X1 ++ (if slot = 0 then [] else A')) ++ ([] ++ ((if slot = 0 then A' else []) ++ (B' ++ V'))) = X1 ++ ((A' ++ B') ++ V') := by by_cases h : slot = 0 <;> simp [h]
  refine ⟨⟨sm_D hS (by rw [hgD]; exact fun e => hid e.symm) hmD, ?_, ⟨hgD, hid⟩, by rw [eL]; exact hDT, ⟨_, _, by rw [eL]; exact h0⟩, ?_, bd_nil rr, by rw [eL]; exact hcnt, by rw [eL]; exact hht⟩, ?_⟩
  · rw [xu_eq, List.append_nil, hcar]; rfl
  · rw [scn_app' _ hX]
    by_cases h : slot = 0
    · rw [if_pos h]; rfl
    · rw [if_neg h]; exact bd_any hA _ _
  · rw [eL, if_pos rfl, List.append_nil]
    refine Prod.ext ?_ (Prod.ext ?_ rfl)
    · refine sh_sg ?_
      rw [List.map_append, List.map_append, List.map_append, List.map_append, List.map_append, List.map_append, hsA, hsB]
    · show X1.length + (if slot = 0 then 0 else A.length) = (X1 ++ (if slot = 0 then [] else A')).length
      have := (sh_cnt hsA).2
      by_cases h : slot = 0
      · simp [h]
      · simp [h, this]
end DISS2
