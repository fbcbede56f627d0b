/-! TWIN: what it tells -/
set_option maxRecDepth 100000
section TW15
variable {w : XW} {d : Nat} {m : XM} {A : Nat → Nat} {rf : Int32} {s : XSt}
def empS (a b : Int32) : Nat := if (isBg a = true ∨ a = -10) ∧ (b = -10 ∨ b = -11) then 1 else 0
def empF (f : Nat → Int32) (n c k : Nat) : Nat := if k + 1 < n then empF f n (c + empS (f k) (f (k + 1))) (k + 1) else c
termination_by n - k
def abtA (s : XSt) (k : Nat) : Int32 := match k with
  | 0 => nI (allL (stP s).1 0 (stP s).1.length)
  | 1 => nI ((stP s).1.length + 1)
  | 2 => nI (stP s).2.1
  | 3 => deepF (lf (stP s).1) (stP s).1.length 0 0 0
  | 4 => nI (empF (lf (stP s).1) (stP s).1.length 0 0)
  | _ => nI (allL (stC s) 0 (stC s).length)
def uAbt (s : XSt) (k : Int32) : Nat × Int32 × XSt := if inL k.toInt64 0 5 = true then (0, abtA s k.toNatClampNeg, s) else (1, 0, s)
theorem u_abt {c : Int32} (hd : 3 ≤ d) (hs : TS A rf s m) : CT w MX5_about d 0 0 [.ref (A 0), .int c] m (TR A m (uAbt s c).2.1 (uAbt s c).1 (uAbt s c).2.2) xN := by
  obtain ⟨ls, rs, dp, F, hT, hs⟩ := hs
  have hO := xo_rf A m
  have h3 := hs.2.2.1
  have h3_180 : F 3 180 = nI (stP s).1.length := h3.1.2.1
  have h3_181 : F 3 181 = nI (stP s).2.1 := h3.2.1
  have hlen := h3.1.2.2
  have hpl := Pgx_l h3
  have hp9 : Pl (F 9) (stC s) := hs.2.2.2.2.2.2.2
  have h9_180 : F 9 180 = nI (stC s).length := hp9.2.1
  by_cases hc : inL c.toInt64 0 5 = true
  · obtain ⟨k, hk, rfl⟩ := inL_n (n := 5) (by omega) hc
    have fin : ∀ v m', v = abtA s k → TM A (nI 0) (nI (stT s).length) (nI (stH s).length) ls rs dp F m' → XOf A m m' → TR A m (uAbt s (nI k)).2.1 (uAbt s (nI k)).1 (uAbt s (nI k)).2.2 (some (.int v)) m' := by
      intro v m' hv hT hO
      have e : uAbt s (nI k) = (0, v, s) := by unfold uAbt; rw [if_pos hc, nI_clamp (by omega), hv]
      rw [e]
      exact ⟨rfl, ⟨_, _, _, _, hT, hs⟩, hO⟩
    have loop : ∀ t j c o m', (stP s).1.length - j < t → j ≤ (stP s).1.length → c ≤ j → xc1 o = true → k = 4 → TM A (nI 0) (nI (stT s).length) (nI (stH s).length) ls rs dp F m' → XOf A m m' → abtA s k = nI (empF (lf (stP s).1) (stP s).1.length c j) → G w MX5_about (xZ w (TR A m (uAbt s (nI k)).2.1 (uAbt s (nI k)).1 (uAbt s (nI k)).2.2) xN) d 0 0 118 [some (.ref (A 0)), some (.int (nI k)), some (.int (nI c)), some (.int (nI j)), o] [] m' := by
      intro t
      induction t with
      | zero => intro j c o m' h; omega
      | succ t ih =>
        intro j c o m' h hj hcj ho hk4 hT hO he
        have hfj : j + 1 < (stP s).1.length → F 3 j = lf (stP s).1 j ∧ F 3 (j + 1) = lf (stP s).1 (j + 1) := fun h => ⟨hpl.1 j (by omega), hpl.1 _ h⟩
        have next : ∀ (z : Nat) (o2 : Option Value), j + 1 < (stP s).1.length → xc1 o2 = true → z = empS (F 3 j) (F 3 (j + 1)) → G w MX5_about (xZ w (TR A m (uAbt s (nI k)).2.1 (uAbt s (nI k)).1 (uAbt s (nI k)).2.2) xN) d 0 0 118 [some (.ref (A 0)), some (.int (nI k)), some (.int (nI (c + z))), some (.int (nI (j + 1))), o2] [] m' := by
          intro z o2 hjl ho2 hz
          have hz1 : z ≤ 1 := by rw [hz]; unfold empS; split <;> omega
          refine ih (j + 1) _ _ _ (by omega) (by omega) (by omega) ho2 hk4 hT hO ?_
          rw [he]
          conv => lhs; rw [empF, if_pos hjl]
          rw [hz, (hfj hjl).1, (hfj hjl).2]
        refine g_iload_n dX5_about_118 rfl rfl rfl ?_
        refine g_iconst (v := (nI 1)) dX5_about_119 rfl rfl ?_
        refine g_iaddn dX5_about_120 rfl ?_
        refine g_aload_n dX5_about_121 rfl rfl rfl ?_
        refine g_get fl_X5_13_X5 dX5_about_122 rfl (Or.inl (tm_o hT)) rfl ?_
        refine g_sipush (v := (nI 180)) dX5_about_125 rfl rfl ?_
        refine t_ialdn (k := 3) (N := 184) (f := F 3) hT rfl rfl rfl (by first | rfl | assumption) dX5_about_128 rfl (by omega) ?_
        rw [h3_180]
        refine g_icmpn_ge (tgt := 207) dX5_about_129 (by decide) rfl (by omega) (by omega) (fun c_129 => ?_) (fun c_129 => ?_)
        · refine g_iload_n dX5_about_207 rfl rfl rfl ?_
          refine g_ireturn dX5_about_208 rfl ?_
          refine fin _ _ ?_ hT hO
          rw [he]
          conv => rhs; rw [empF, if_neg (by omega)]
        · refine g_aload_n dX5_about_132 rfl rfl rfl ?_
          refine g_get fl_X5_13_X5 dX5_about_133 rfl (Or.inl (tm_o hT)) rfl ?_
          refine g_iload_n dX5_about_136 rfl rfl rfl ?_
          refine t_ialdn (k := 3) (N := 184) (f := F 3) hT rfl rfl rfl (by first | rfl | assumption) dX5_about_137 rfl (by omega) ?_
          refine g_staticP iS_X5_isBegin q2511 (c_isBegin (d := d - 1) (by omega) _) dX5_about_138 rfl rfl rfl (by first | exact Nat.le_of_ble_eq_true rfl | simp [Value.category, rf_cat]) (by omega) xN_no ?_
          refine g_ifB_ne (tgt := 155) dX5_about_141 (by decide) rfl (fun c_141 => ?_) (fun c_141 => ?_)
          · refine g_iconst (v := (nI 1)) dX5_about_155 rfl rfl ?_
            refine g_goto (tgt := 160) dX5_about_156 (by decide) ?_
            refine g_ist4 dX5_about_160 rfl (by decide) (k := ?_)
            refine g_iload_n dX5_about_162 rfl rfl rfl ?_
            refine g_iload dX5_about_163 rfl rfl ?_
            refine g_ifn_eq (tgt := 198) dX5_about_165 (by decide) rfl (by omega) (fun c_165 => by omega) (fun _ => ?_)
            refine g_aload_n dX5_about_168 rfl rfl rfl ?_
            refine g_get fl_X5_13_X5 dX5_about_169 rfl (Or.inl (tm_o hT)) rfl ?_
            refine g_iload_n dX5_about_172 rfl rfl rfl ?_
            refine g_iconst (v := (nI 1)) dX5_about_173 rfl rfl ?_
            refine g_iaddn dX5_about_174 rfl ?_
            refine t_ialdn (k := 3) (N := 184) (f := F 3) hT rfl rfl rfl (by first | rfl | assumption) dX5_about_175 rfl (by omega) ?_
            refine g_bipush (v := (-10)) dX5_about_176 rfl rfl ?_
            refine g_icmp_eq (tgt := 194) dX5_about_178 (by decide) rfl (fun c_178 => ?_) (fun c_178 => ?_)
            · refine g_iconst (v := (nI 1)) dX5_about_194 rfl rfl ?_
              refine g_goto (tgt := 199) dX5_about_195 (by decide) ?_
              refine g_iaddn dX5_about_199 rfl ?_
              refine g_ist2 dX5_about_200 rfl (by decide) (k := ?_)
              refine g_incn3 dX5_about_201 rfl (by decide) (k := ?_)
              refine g_goto (tgt := 118) dX5_about_204 (by decide) ?_
              refine next _ _ (by omega) rfl ?_
              clear hfj next ih he
              unfold empS
              first | rw [if_pos (by first | exact ⟨Or.inl (by assumption), Or.inl (by assumption)⟩ | exact ⟨Or.inl (by assumption), Or.inr (by assumption)⟩ | exact ⟨Or.inr (by assumption), Or.inl (by assumption)⟩ | exact ⟨Or.inr (by assumption), Or.inr (by assumption)⟩)] | rw [if_neg (by simp [*])]
            · refine g_aload_n dX5_about_181 rfl rfl rfl ?_
              refine g_get fl_X5_13_X5 dX5_about_182 rfl (Or.inl (tm_o hT)) rfl ?_
              refine g_iload_n dX5_about_185 rfl rfl rfl ?_
              refine g_iconst (v := (nI 1)) dX5_about_186 rfl rfl ?_
              refine g_iaddn dX5_about_187 rfl ?_
              refine t_ialdn (k := 3) (N := 184) (f := F 3) hT rfl rfl rfl (by first | rfl | assumption) dX5_about_188 rfl (by omega) ?_
              refine g_bipush (v := (-11)) dX5_about_189 rfl rfl ?_
              refine g_icmp_ne (tgt := 198) dX5_about_191 (by decide) rfl (fun c_191 => ?_) (fun c_191 => ?_)
              · refine g_iconst (v := (nI 0)) dX5_about_198 rfl rfl ?_
                refine g_iaddn dX5_about_199 rfl ?_
                refine g_ist2 dX5_about_200 rfl (by decide) (k := ?_)
                refine g_incn3 dX5_about_201 rfl (by decide) (k := ?_)
                refine g_goto (tgt := 118) dX5_about_204 (by decide) ?_
                refine next _ _ (by omega) rfl ?_
                clear hfj next ih he
                unfold empS
                first | rw [if_pos (by first | exact ⟨Or.inl (by assumption), Or.inl (by assumption)⟩ | exact ⟨Or.inl (by assumption), Or.inr (by assumption)⟩ | exact ⟨Or.inr (by assumption), Or.inl (by assumption)⟩ | exact ⟨Or.inr (by assumption), Or.inr (by assumption)⟩)] | rw [if_neg (by simp [*])]
              · refine g_iconst (v := (nI 1)) dX5_about_194 rfl rfl ?_
                refine g_goto (tgt := 199) dX5_about_195 (by decide) ?_
                refine g_iaddn dX5_about_199 rfl ?_
                refine g_ist2 dX5_about_200 rfl (by decide) (k := ?_)
                refine g_incn3 dX5_about_201 rfl (by decide) (k := ?_)
                refine g_goto (tgt := 118) dX5_about_204 (by decide) ?_
                refine next _ _ (by omega) rfl ?_
                clear hfj next ih he
                unfold empS
                first | rw [if_pos (by first | exact ⟨Or.inl (by assumption), Or.inl (by assumption)⟩ | exact ⟨Or.inl (by assumption), Or.inr (by assumption)⟩ | exact ⟨Or.inr (by assumption), Or.inl (by assumption)⟩ | exact ⟨Or.inr (by assumption), Or.inr (by assumption)⟩)] | rw [if_neg (by simp [*])]
          · refine g_aload_n dX5_about_144 rfl rfl rfl ?_
            refine g_get fl_X5_13_X5 dX5_about_145 rfl (Or.inl (tm_o hT)) rfl ?_
            refine g_iload_n dX5_about_148 rfl rfl rfl ?_
            refine t_ialdn (k := 3) (N := 184) (f := F 3) hT rfl rfl rfl (by first | rfl | assumption) dX5_about_149 rfl (by omega) ?_
            refine g_bipush (v := (-10)) dX5_about_150 rfl rfl ?_
            refine g_icmp_ne (tgt := 159) dX5_about_152 (by decide) rfl (fun c_152 => ?_) (fun c_152 => ?_)
            · refine g_iconst (v := (nI 0)) dX5_about_159 rfl rfl ?_
              refine g_ist4 dX5_about_160 rfl (by decide) (k := ?_)
              refine g_iload_n dX5_about_162 rfl rfl rfl ?_
              refine g_iload dX5_about_163 rfl rfl ?_
              refine g_ifn_eq (tgt := 198) dX5_about_165 (by decide) rfl (by omega) (fun _ => ?_) (fun c_165 => by omega)
              refine g_iconst (v := (nI 0)) dX5_about_198 rfl rfl ?_
              refine g_iaddn dX5_about_199 rfl ?_
              refine g_ist2 dX5_about_200 rfl (by decide) (k := ?_)
              refine g_incn3 dX5_about_201 rfl (by decide) (k := ?_)
              refine g_goto (tgt := 118) dX5_about_204 (by decide) ?_
              refine next _ _ (by omega) rfl ?_
              clear hfj next ih he
              unfold empS
              first | rw [if_pos (by first | exact ⟨Or.inl (by assumption), Or.inl (by assumption)⟩ | exact ⟨Or.inl (by assumption), Or.inr (by assumption)⟩ | exact ⟨Or.inr (by assumption), Or.inl (by assumption)⟩ | exact ⟨Or.inr (by assumption), Or.inr (by assumption)⟩)] | rw [if_neg (by simp [*])]
            · refine g_iconst (v := (nI 1)) dX5_about_155 rfl rfl ?_
              refine g_goto (tgt := 160) dX5_about_156 (by decide) ?_
              refine g_ist4 dX5_about_160 rfl (by decide) (k := ?_)
              refine g_iload_n dX5_about_162 rfl rfl rfl ?_
              refine g_iload dX5_about_163 rfl rfl ?_
              refine g_ifn_eq (tgt := 198) dX5_about_165 (by decide) rfl (by omega) (fun c_165 => by omega) (fun _ => ?_)
              refine g_aload_n dX5_about_168 rfl rfl rfl ?_
              refine g_get fl_X5_13_X5 dX5_about_169 rfl (Or.inl (tm_o hT)) rfl ?_
              refine g_iload_n dX5_about_172 rfl rfl rfl ?_
              refine g_iconst (v := (nI 1)) dX5_about_173 rfl rfl ?_
              refine g_iaddn dX5_about_174 rfl ?_
              refine t_ialdn (k := 3) (N := 184) (f := F 3) hT rfl rfl rfl (by first | rfl | assumption) dX5_about_175 rfl (by omega) ?_
              refine g_bipush (v := (-10)) dX5_about_176 rfl rfl ?_
              refine g_icmp_eq (tgt := 194) dX5_about_178 (by decide) rfl (fun c_178 => ?_) (fun c_178 => ?_)
              · refine g_iconst (v := (nI 1)) dX5_about_194 rfl rfl ?_
                refine g_goto (tgt := 199) dX5_about_195 (by decide) ?_
                refine g_iaddn dX5_about_199 rfl ?_
                refine g_ist2 dX5_about_200 rfl (by decide) (k := ?_)
                refine g_incn3 dX5_about_201 rfl (by decide) (k := ?_)
                refine g_goto (tgt := 118) dX5_about_204 (by decide) ?_
                refine next _ _ (by omega) rfl ?_
                clear hfj next ih he
                unfold empS
                first | rw [if_pos (by first | exact ⟨Or.inl (by assumption), Or.inl (by assumption)⟩ | exact ⟨Or.inl (by assumption), Or.inr (by assumption)⟩ | exact ⟨Or.inr (by assumption), Or.inl (by assumption)⟩ | exact ⟨Or.inr (by assumption), Or.inr (by assumption)⟩)] | rw [if_neg (by simp [*])]
              · refine g_aload_n dX5_about_181 rfl rfl rfl ?_
                refine g_get fl_X5_13_X5 dX5_about_182 rfl (Or.inl (tm_o hT)) rfl ?_
                refine g_iload_n dX5_about_185 rfl rfl rfl ?_
                refine g_iconst (v := (nI 1)) dX5_about_186 rfl rfl ?_
                refine g_iaddn dX5_about_187 rfl ?_
                refine t_ialdn (k := 3) (N := 184) (f := F 3) hT rfl rfl rfl (by first | rfl | assumption) dX5_about_188 rfl (by omega) ?_
                refine g_bipush (v := (-11)) dX5_about_189 rfl rfl ?_
                refine g_icmp_ne (tgt := 198) dX5_about_191 (by decide) rfl (fun c_191 => ?_) (fun c_191 => ?_)
                · refine g_iconst (v := (nI 0)) dX5_about_198 rfl rfl ?_
                  refine g_iaddn dX5_about_199 rfl ?_
                  refine g_ist2 dX5_about_200 rfl (by decide) (k := ?_)
                  refine g_incn3 dX5_about_201 rfl (by decide) (k := ?_)
                  refine g_goto (tgt := 118) dX5_about_204 (by decide) ?_
                  refine next _ _ (by omega) rfl ?_
                  clear hfj next ih he
                  unfold empS
                  first | rw [if_pos (by first | exact ⟨Or.inl (by assumption), Or.inl (by assumption)⟩ | exact ⟨Or.inl (by assumption), Or.inr (by assumption)⟩ | exact ⟨Or.inr (by assumption), Or.inl (by assumption)⟩ | exact ⟨Or.inr (by assumption), Or.inr (by assumption)⟩)] | rw [if_neg (by simp [*])]
                · refine g_iconst (v := (nI 1)) dX5_about_194 rfl rfl ?_
                  refine g_goto (tgt := 199) dX5_about_195 (by decide) ?_
                  refine g_iaddn dX5_about_199 rfl ?_
                  refine g_ist2 dX5_about_200 rfl (by decide) (k := ?_)
                  refine g_incn3 dX5_about_201 rfl (by decide) (k := ?_)
                  refine g_goto (tgt := 118) dX5_about_204 (by decide) ?_
                  refine next _ _ (by omega) rfl ?_
                  clear hfj next ih he
                  unfold empS
                  first | rw [if_pos (by first | exact ⟨Or.inl (by assumption), Or.inl (by assumption)⟩ | exact ⟨Or.inl (by assumption), Or.inr (by assumption)⟩ | exact ⟨Or.inr (by assumption), Or.inl (by assumption)⟩ | exact ⟨Or.inr (by assumption), Or.inr (by assumption)⟩)] | rw [if_neg (by simp [*])]
    have tail : ∀ m', TM A (nI 0) (nI (stT s).length) (nI (stH s).length) ls rs dp F m' → XOf A m m' → G w MX5_about (xZ w (TR A m (uAbt s (nI k)).2.1 (uAbt s (nI k)).1 (uAbt s (nI k)).2.2) xN) d 0 0 26 [some (.ref (A 0)), some (.int (nI k)), none, none, none] [] m' := by
      intro m' hT hO
      rcases (by omega : k = 0 ∨ k = 1 ∨ k = 2 ∨ k = 3 ∨ k = 4 ∨ k = 5) with rfl | rfl | rfl | rfl | rfl | rfl
      · skip
        refine g_iload_n dX5_about_26 rfl rfl rfl ?_
        refine g_tswIn (tgt := 60) dX5_about_27 (by decide) (by decide) rfl (by decide) ?_
        refine g_aload_n dX5_about_60 rfl rfl rfl ?_
        refine g_get fl_X5_13_X5 dX5_about_61 rfl (Or.inl (tm_o hT)) rfl ?_
        refine g_iconst (v := (nI 0)) dX5_about_64 rfl rfl ?_
        refine g_aload_n dX5_about_65 rfl rfl rfl ?_
        refine g_get fl_X5_13_X5 dX5_about_66 rfl (Or.inl (tm_o hT)) rfl ?_
        refine g_sipush (v := (nI 180)) dX5_about_69 rfl rfl ?_
        refine t_ialdn (k := 3) (N := 184) (f := F 3) hT rfl rfl rfl (by first | rfl | assumption) dX5_about_72 rfl (by omega) ?_
        rw [h3_180]
        refine g_staticP iS_X5_allIn q2508 (p_allIn (d := d - 1) (by omega) (by first | exact tm_at 3 hT rfl rfl rfl rfl | exact tm_at 4 hT rfl rfl rfl rfl | exact tm_at 9 hT rfl rfl rfl rfl) (by assumption) (by omega) (by omega)) dX5_about_73 rfl rfl rfl (by first | exact Nat.le_of_ble_eq_true rfl | simp [Value.category, rf_cat]) (by omega) xN_no ?_
        refine g_ireturn dX5_about_76 rfl ?_
        exact fin _ _ rfl hT hO
      · skip
        refine g_iload_n dX5_about_26 rfl rfl rfl ?_
        refine g_tswIn (tgt := 77) dX5_about_27 (by decide) (by decide) rfl (by decide) ?_
        refine g_aload_n dX5_about_77 rfl rfl rfl ?_
        refine g_get fl_X5_13_X5 dX5_about_78 rfl (Or.inl (tm_o hT)) rfl ?_
        refine g_sipush (v := (nI 180)) dX5_about_81 rfl rfl ?_
        refine t_ialdn (k := 3) (N := 184) (f := F 3) hT rfl rfl rfl (by first | rfl | assumption) dX5_about_84 rfl (by omega) ?_
        rw [h3_180]
        refine g_iconst (v := (nI 1)) dX5_about_85 rfl rfl ?_
        refine g_iaddn dX5_about_86 rfl ?_
        refine g_ireturn dX5_about_87 rfl ?_
        exact fin _ _ rfl hT hO
      · skip
        refine g_iload_n dX5_about_26 rfl rfl rfl ?_
        refine g_tswIn (tgt := 88) dX5_about_27 (by decide) (by decide) rfl (by decide) ?_
        refine g_aload_n dX5_about_88 rfl rfl rfl ?_
        refine g_get fl_X5_13_X5 dX5_about_89 rfl (Or.inl (tm_o hT)) rfl ?_
        refine g_sipush (v := (nI 181)) dX5_about_92 rfl rfl ?_
        refine t_ialdn (k := 3) (N := 184) (f := F 3) hT rfl rfl rfl (by first | rfl | assumption) dX5_about_95 rfl (by omega) ?_
        rw [h3_181]
        refine g_ireturn dX5_about_96 rfl ?_
        exact fin _ _ rfl hT hO
      · skip
        refine g_iload_n dX5_about_26 rfl rfl rfl ?_
        refine g_tswIn (tgt := 97) dX5_about_27 (by decide) (by decide) rfl (by decide) ?_
        refine g_aload_n dX5_about_97 rfl rfl rfl ?_
        refine g_get fl_X5_13_X5 dX5_about_98 rfl (Or.inl (tm_o hT)) rfl ?_
        refine g_iconst (v := (nI 0)) dX5_about_101 rfl rfl ?_
        refine g_aload_n dX5_about_102 rfl rfl rfl ?_
        refine g_get fl_X5_13_X5 dX5_about_103 rfl (Or.inl (tm_o hT)) rfl ?_
        refine g_sipush (v := (nI 180)) dX5_about_106 rfl rfl ?_
        refine t_ialdn (k := 3) (N := 184) (f := F 3) hT rfl rfl rfl (by first | rfl | assumption) dX5_about_109 rfl (by omega) ?_
        rw [h3_180]
        refine g_staticP iS_X5_deepest q2514 (p_deepest (d := d - 1) (by omega) (by first | exact tm_at 3 hT rfl rfl rfl rfl | exact tm_at 4 hT rfl rfl rfl rfl | exact tm_at 9 hT rfl rfl rfl rfl) (by assumption) (by omega) (by omega)) dX5_about_110 rfl rfl rfl (by first | exact Nat.le_of_ble_eq_true rfl | simp [Value.category, rf_cat]) (by omega) xN_no ?_
        refine g_ireturn dX5_about_113 rfl ?_
        exact fin _ _ rfl hT hO
      · skip
        refine g_iload_n dX5_about_26 rfl rfl rfl ?_
        refine g_tswIn (tgt := 114) dX5_about_27 (by decide) (by decide) rfl (by decide) ?_
        refine g_iconst (v := (nI 0)) dX5_about_114 rfl rfl ?_
        refine g_ist2 dX5_about_115 rfl (by decide) (k := ?_)
        refine g_iconst (v := (nI 0)) dX5_about_116 rfl rfl ?_
        refine g_ist3 dX5_about_117 rfl (by decide) (k := ?_)
        exact loop _ 0 0 _ _ (Nat.lt_succ_self _) (Nat.zero_le _) (Nat.le_refl _) rfl rfl hT hO rfl
      · skip
        refine g_iload_n dX5_about_26 rfl rfl rfl ?_
        refine g_tswOut (tgt := 209) dX5_about_27 (by decide) (by decide) ?_
        refine g_aload_n dX5_about_209 rfl rfl rfl ?_
        refine g_get fl_X5_29_X5 dX5_about_210 rfl (Or.inl (tm_o hT)) rfl ?_
        refine g_iconst (v := (nI 0)) dX5_about_213 rfl rfl ?_
        refine g_aload_n dX5_about_214 rfl rfl rfl ?_
        refine g_get fl_X5_29_X5 dX5_about_215 rfl (Or.inl (tm_o hT)) rfl ?_
        refine g_sipush (v := (nI 180)) dX5_about_218 rfl rfl ?_
        refine t_ialdn (k := 9) (N := 184) (f := F 9) hT rfl rfl rfl (by first | rfl | assumption) dX5_about_221 rfl (by omega) ?_
        rw [h9_180]
        refine g_staticP iS_X5_allIn q2508 (p_allIn (d := d - 1) (by omega) (tm_at 9 hT rfl rfl rfl rfl) hp9 (by omega) (by omega)) dX5_about_222 rfl rfl rfl (by first | exact Nat.le_of_ble_eq_true rfl | simp [Value.category, rf_cat]) (by omega) xN_no ?_
        refine g_ireturn dX5_about_225 rfl ?_
        exact fin _ _ rfl hT hO
    refine ct_intro (lv := [some (.ref (A 0)), some (.int (nI k)), none, none, none]) 3 (by decide) rfl (Nat.le_of_ble_eq_true rfl) rfl ?_
    refine g_aload_n dX5_about_0 rfl rfl rfl ?_
    refine g_iload_n dX5_about_1 rfl rfl rfl ?_
    refine g_i2l dX5_about_2 rfl rfl ?_
    refine g_lconst (v := 0) dX5_about_3 rfl rfl ?_
    refine g_ldc2 dX5_about_4 rfl q2521 ?_
    refine g_staticP iS_X5_in q2448 (c_in (d := d - 1) (by omega) _ _ _) dX5_about_7 rfl rfl rfl (by first | exact Nat.le_of_ble_eq_true rfl | simp [Value.category, rf_cat]) (by omega) xN_no ?_
    refine g_ifB_eq (tgt := 17) dX5_about_10 (by decide) rfl (fun c_10 => ?_) (fun c_10 => ?_)
    · exact absurd hc (by rw [c_10]; decide)
    · refine g_iconst (v := (nI 0)) dX5_about_13 rfl rfl ?_
      refine g_goto (tgt := 18) dX5_about_14 (by decide) ?_
      refine g_virtual iV_X5_refused q2451 (t_ref0 (d := d - 1) (by omega) hT) (Or.inl (tm_o hT)) rfl (by decide) dX5_about_18 rfl rfl rfl (by first | exact Nat.le_of_ble_eq_true rfl | simp [Value.category, rf_cat]) (by omega) (by omega) (by omega) xN_no (fun v_18 m_18 h_18 => ?_)
      obtain ⟨rfl, hT, hO2⟩ := h_18
      replace hO := xo_tr hO hO2
      refine g_ifn_eq (tgt := 26) dX5_about_21 (by decide) rfl (by omega) (fun _ => ?_) (fun c_21 => by omega)
      exact tail _ hT hO
  · refine ct_intro (lv := [some (.ref (A 0)), some (.int c), none, none, none]) 3 (by decide) rfl (Nat.le_of_ble_eq_true rfl) rfl ?_
    refine g_aload_n dX5_about_0 rfl rfl rfl ?_
    refine g_iload_n dX5_about_1 rfl rfl rfl ?_
    refine g_i2l dX5_about_2 rfl rfl ?_
    refine g_lconst (v := 0) dX5_about_3 rfl rfl ?_
    refine g_ldc2 dX5_about_4 rfl q2521 ?_
    refine g_staticP iS_X5_in q2448 (c_in (d := d - 1) (by omega) _ _ _) dX5_about_7 rfl rfl rfl (by first | exact Nat.le_of_ble_eq_true rfl | simp [Value.category, rf_cat]) (by omega) xN_no ?_
    refine g_ifB_eq (tgt := 17) dX5_about_10 (by decide) rfl (fun c_10 => ?_) (fun c_10 => ?_)
    · refine g_iconst (v := (nI 1)) dX5_about_17 rfl rfl ?_
      refine g_virtual iV_X5_refused q2451 (t_refS (d := d - 1) (by omega) (x := 1) (by omega) (by omega) hT) (Or.inl (tm_o hT)) rfl (by decide) dX5_about_18 rfl rfl rfl (by first | exact Nat.le_of_ble_eq_true rfl | simp [Value.category, rf_cat]) (by omega) (by omega) (by omega) xN_no (fun v_18 m_18 h_18 => ?_)
      obtain ⟨rfl, hT, hO2⟩ := h_18
      replace hO := xo_tr hO hO2
      refine g_ifn_eq (tgt := 26) dX5_about_21 (by decide) rfl (by omega) (fun c_21 => by omega) (fun _ => ?_)
      refine g_iconst (v := (nI 0)) dX5_about_24 rfl rfl ?_
      refine g_ireturn dX5_about_25 rfl ?_
      have e : uAbt s c = (1, 0, s) := by unfold uAbt; rw [if_neg hc]
      rw [e]
      exact ⟨rfl, ⟨_, _, _, _, hT, hs⟩, hO⟩
    · exact absurd c_10 hc
end TW15
