/-! TWIN: simulating (printed by gen/gen_sim.py) -/
set_option maxRecDepth 100000
section TW30
variable {w : XW} {d : Nat} {m : XM} {A : Nat → Nat} {rf : Int32} {s : XSt}
def simX (x : Int64) : Int64 := x * 6364136223846793005 + 1442695040888963407
def simD (p : XPage) (r : Nat) : XPage := match r % 8 with
  | 0 => (typD p (nI (97 + r / 8 % 64 % 17))).getD p
  | 1 => (typD p (nI (97 + r / 8 % 64 % 17))).getD p
  | 2 => (typD p (nI (97 + r / 8 % 64 % 17))).getD p
  | 3 => (wrD p (nI (1 + r / 8 % 64 % 5))).getD p
  | 4 => (wrD p (nI (1 + r / 8 % 64 % 5))).getD p
  | 5 => mvP p (nI (r / 8 % 64) - nI 32)
  | 6 => (bkD p).getD p
  | _ => (grD p).getD p
def simG (g : Int64 → Int64) (h : XPage → Int64 → XPage) : Nat → Int64 → XPage → XPage
  | 0, _, p => p
  | n + 1, x, p => simG g h n (g x) (h p (g x))
theorem simG_s (g : Int64 → Int64) (h : XPage → Int64 → XPage) (n : Nat) (x : Int64) (p : XPage) : simG g h (n + 1) x p = simG g h n (g x) (h p (g x)) := rfl
theorem simG_0 (g : Int64 → Int64) (h : XPage → Int64 → XPage) (x : Int64) (p : XPage) : simG g h 0 x p = p := rfl
def simF (n : Nat) (x : Int64) (p : XPage) : XPage := simG simX (fun p x => simD p (rndN x)) n x p
theorem simF_s (n : Nat) (x : Int64) (p : XPage) : simF (n + 1) x p = simF n (simX x) (simD p (rndN (simX x))) := by
  unfold simF; rw [simG_s]
theorem simF_0 (x : Int64) (p : XPage) : simF 0 x p = p := by
  unfold simF; rw [simG_0]
def uSim (s : XSt) (seed : Int64) (c : Int32) (out : List Int32) : Nat × Int32 × XSt :=
  if inL c.toInt64 1 60 = true then (0, nI (1000 * allL (simF c.toNatClampNeg seed (stP s)).1 0 (simF c.toNatClampNeg seed (stP s)).1.length + out.length), s) else (1, 0, s)
theorem inL_1 {c : Int32} (h : inL c.toInt64 1 60 = true) : inL c.toInt64 0 60 = true := by
  unfold inL at h ⊢
  have h := of_decide_eq_true h
  refine decide_eq_true ⟨fun z => h.1 (Int64.lt_iff_toInt_lt.mpr ?_), h.2⟩
  have := Int64.lt_iff_toInt_lt.mp z
  have e0 : (0 : Int64).toInt = 0 := rfl
  have e1 : (1 : Int64).toInt = 1 := rfl
  omega
theorem sh33 : ((nI 33).toInt64.toUInt64 &&& Int64.toUInt64 63) = 33 := by decide
theorem u_sim {seed : Int64} {c : Int32} {out : List Int32} (Inv : XPage → Prop) (hI : ∀ p, Inv p → ∃ B, WfP p B) (hst : ∀ p r, Inv p → Inv (simD p r)) (h0 : Inv (stP s)) (hl : inL c.toInt64 1 60 = true → layF (simF c.toNatClampNeg seed (stP s)).1 0 [] [] = some out) (hol : out.length ≤ 1000) (hd : 7 ≤ d) (hs : TS A rf s m) : CT w MX5_simulate d 0 0 [.ref (A 0), .long seed, .int c] m (TR A m (uSim s seed c out).2.1 (uSim s seed c out).1 (uSim s seed c out).2.2) xN := by
  obtain ⟨ls, rs, dp, F, hT, hs⟩ := hs
  have hO := xo_rf A m
  by_cases hc : inL c.toInt64 1 60 = true
  · have hl := hl hc
    obtain ⟨n, hn, rfl⟩ := inL_n (n := 60) (by omega) (inL_1 hc)
    rw [nI_clamp (by omega)] at hl
    have eU : uSim s seed (nI n) out = (0, nI (1000 * allL (simF n seed (stP s)).1 0 (simF n seed (stP s)).1.length + out.length), s) := by unfold uSim; rw [if_pos hc, nI_clamp (by omega)]
    obtain ⟨pq, epq⟩ : ∃ pq, pq = simF n seed (stP s) := ⟨_, rfl⟩
    rw [← epq] at hl eU
    have loop : ∀ t k x p F ls rs dp m' x7 x8, n - k < t → k ≤ n → Inv p → simF (n - k) x p = pq → TM A (nI 0) (nI (stT s).length) (nI (stH s).length) ls rs dp F m' → tIn F s → Pgx (F 4) p → XOf A m m' → G w MX5_simulate (xZ w (TR A m (uSim s seed (nI n) out).2.1 (uSim s seed (nI n) out).1 (uSim s seed (nI n) out).2.2) xN) d 0 0 45 [some (.ref (A 0)), some (.long seed), none, some (.int (nI n)), some (.long x), none, some (.int (nI k)), x7, x8] [] m' := by
      intro t
      induction t with
      | zero => intro k x p F ls rs dp m' x7 x8 h; omega
      | succ t ih =>
        intro k x p F ls rs dp m' x7 x8 h hk hip hsim hT hs h4 hO
        obtain ⟨B, w1, w2, w3, w4, w5, w6, w7⟩ := hI p hip
        have next : ∀ p2 F ls rs dp m' x7 x8, k < n → p2 = simD p (rndN (simX x)) → TM A (nI 0) (nI (stT s).length) (nI (stH s).length) ls rs dp F m' → tIn F s → Pgx (F 4) p2 → XOf A m m' → G w MX5_simulate (xZ w (TR A m (uSim s seed (nI n) out).2.1 (uSim s seed (nI n) out).1 (uSim s seed (nI n) out).2.2) xN) d 0 0 198 [some (.ref (A 0)), some (.long seed), none, some (.int (nI n)), some (.long (simX x)), none, some (.int (nI k)), x7, x8] [] m' := by
          intro p2 F ls rs dp m' x7 x8 hkn e2 hT hs h4 hO
          refine g_incn6 dX5_simulate_198 rfl (by decide) (k := ?_)
          refine g_goto (tgt := 45) dX5_simulate_201 (by decide) ?_
          refine ih (k + 1) _ _ _ _ _ _ _ _ _ (by omega) (by omega) ?_ ?_ hT hs h4 hO
          · rw [e2]; exact hst _ _ hip
          · rw [e2, ← hsim, show n - k = (n - (k + 1)) + 1 by omega, simF_s]
        have t86 : ∀ r, k < n → rndN (simX x) = r → r < 2 ^ 31 → G w MX5_simulate (xZ w (TR A m (uSim s seed (nI n) out).2.1 (uSim s seed (nI n) out).1 (uSim s seed (nI n) out).2.2) xN) d 0 0 86 [some (.ref (A 0)), some (.long seed), none, some (.int (nI n)), some (.long (simX x)), none, some (.int (nI k)), some (.int (nI r)), some (.int (nI (r / 8 % 64)))] [.int (nI (r % 8))] m' := by
          intro r hkn er hr
          rcases (by omega : r % 8 = 0 ∨ r % 8 = 1 ∨ r % 8 = 2 ∨ r % 8 = 3 ∨ r % 8 = 4 ∨ r % 8 = 5 ∨ r % 8 = 6 ∨ r % 8 = 7) with h8 | h8 | h8 | h8 | h8 | h8 | h8 | h8
          all_goals rw [h8]
          · have hsd2 : simD p (rndN (simX x)) = (typD p (nI (97 + r / 8 % 64 % 17))).getD p := by rw [er]; unfold simD; simp only [h8]
            refine g_tswIn (tgt := 128) dX5_simulate_86 (by decide) (by decide) rfl (by decide) ?_
            refine g_aload_n dX5_simulate_128 rfl rfl rfl ?_
            refine g_get fl_X5_16_X5 dX5_simulate_129 rfl (Or.inl (tm_o hT)) rfl ?_
            refine g_bipush (v := (nI 97)) dX5_simulate_132 rfl rfl ?_
            refine g_iload dX5_simulate_134 rfl rfl ?_
            refine g_bipush (v := (nI 17)) dX5_simulate_136 rfl rfl ?_
            refine g_iremn dX5_simulate_138 rfl (by omega) (by omega) (by omega) ?_
            refine g_iaddn dX5_simulate_139 rfl ?_
            refine g_static iS_X5_types q2628 (s_op hT hs (q_types (d := d - 1) (by omega) (tm_at 4 hT rfl rfl rfl rfl) h4 w1 w5)) dX5_simulate_140 rfl rfl rfl (by first | exact Nat.le_of_ble_eq_true rfl | simp [Value.category, rf_cat]) (by omega) (by omega) (by omega) xN_no (fun v_140 m_140 h_140 => ?_)
            obtain ⟨rfl, ⟨ls, rs, dp, F, hT, hs, h4⟩, hO2⟩ := h_140
            replace hO := xo_tr hO hO2
            have h3 := hs.2.2.1
            refine g_pop dX5_simulate_143 rfl (by first | rfl | exact rf_cat _) ?_
            refine g_goto (tgt := 198) dX5_simulate_144 (by decide) ?_
            exact next _ _ _ _ _ _ _ _ hkn hsd2.symm hT hs h4 hO
          · have hsd2 : simD p (rndN (simX x)) = (typD p (nI (97 + r / 8 % 64 % 17))).getD p := by rw [er]; unfold simD; simp only [h8]
            refine g_tswIn (tgt := 128) dX5_simulate_86 (by decide) (by decide) rfl (by decide) ?_
            refine g_aload_n dX5_simulate_128 rfl rfl rfl ?_
            refine g_get fl_X5_16_X5 dX5_simulate_129 rfl (Or.inl (tm_o hT)) rfl ?_
            refine g_bipush (v := (nI 97)) dX5_simulate_132 rfl rfl ?_
            refine g_iload dX5_simulate_134 rfl rfl ?_
            refine g_bipush (v := (nI 17)) dX5_simulate_136 rfl rfl ?_
            refine g_iremn dX5_simulate_138 rfl (by omega) (by omega) (by omega) ?_
            refine g_iaddn dX5_simulate_139 rfl ?_
            refine g_static iS_X5_types q2628 (s_op hT hs (q_types (d := d - 1) (by omega) (tm_at 4 hT rfl rfl rfl rfl) h4 w1 w5)) dX5_simulate_140 rfl rfl rfl (by first | exact Nat.le_of_ble_eq_true rfl | simp [Value.category, rf_cat]) (by omega) (by omega) (by omega) xN_no (fun v_140 m_140 h_140 => ?_)
            obtain ⟨rfl, ⟨ls, rs, dp, F, hT, hs, h4⟩, hO2⟩ := h_140
            replace hO := xo_tr hO hO2
            have h3 := hs.2.2.1
            refine g_pop dX5_simulate_143 rfl (by first | rfl | exact rf_cat _) ?_
            refine g_goto (tgt := 198) dX5_simulate_144 (by decide) ?_
            exact next _ _ _ _ _ _ _ _ hkn hsd2.symm hT hs h4 hO
          · have hsd2 : simD p (rndN (simX x)) = (typD p (nI (97 + r / 8 % 64 % 17))).getD p := by rw [er]; unfold simD; simp only [h8]
            refine g_tswIn (tgt := 128) dX5_simulate_86 (by decide) (by decide) rfl (by decide) ?_
            refine g_aload_n dX5_simulate_128 rfl rfl rfl ?_
            refine g_get fl_X5_16_X5 dX5_simulate_129 rfl (Or.inl (tm_o hT)) rfl ?_
            refine g_bipush (v := (nI 97)) dX5_simulate_132 rfl rfl ?_
            refine g_iload dX5_simulate_134 rfl rfl ?_
            refine g_bipush (v := (nI 17)) dX5_simulate_136 rfl rfl ?_
            refine g_iremn dX5_simulate_138 rfl (by omega) (by omega) (by omega) ?_
            refine g_iaddn dX5_simulate_139 rfl ?_
            refine g_static iS_X5_types q2628 (s_op hT hs (q_types (d := d - 1) (by omega) (tm_at 4 hT rfl rfl rfl rfl) h4 w1 w5)) dX5_simulate_140 rfl rfl rfl (by first | exact Nat.le_of_ble_eq_true rfl | simp [Value.category, rf_cat]) (by omega) (by omega) (by omega) xN_no (fun v_140 m_140 h_140 => ?_)
            obtain ⟨rfl, ⟨ls, rs, dp, F, hT, hs, h4⟩, hO2⟩ := h_140
            replace hO := xo_tr hO hO2
            have h3 := hs.2.2.1
            refine g_pop dX5_simulate_143 rfl (by first | rfl | exact rf_cat _) ?_
            refine g_goto (tgt := 198) dX5_simulate_144 (by decide) ?_
            exact next _ _ _ _ _ _ _ _ hkn hsd2.symm hT hs h4 hO
          · have hsd2 : simD p (rndN (simX x)) = (wrD p (nI (1 + r / 8 % 64 % 5))).getD p := by rw [er]; unfold simD; simp only [h8]
            refine g_tswIn (tgt := 147) dX5_simulate_86 (by decide) (by decide) rfl (by decide) ?_
            refine g_aload_n dX5_simulate_147 rfl rfl rfl ?_
            refine g_get fl_X5_16_X5 dX5_simulate_148 rfl (Or.inl (tm_o hT)) rfl ?_
            refine g_iconst (v := (nI 1)) dX5_simulate_151 rfl rfl ?_
            refine g_iload dX5_simulate_152 rfl rfl ?_
            refine g_iconst (v := (nI 5)) dX5_simulate_154 rfl rfl ?_
            refine g_iremn dX5_simulate_155 rfl (by omega) (by omega) (by omega) ?_
            refine g_iaddn dX5_simulate_156 rfl ?_
            refine g_static iS_X5_wraps q2652 (s_op hT hs (q_wraps (d := d - 1) (by omega) (tm_at 4 hT rfl rfl rfl rfl) h4 w1 w6)) dX5_simulate_157 rfl rfl rfl (by first | exact Nat.le_of_ble_eq_true rfl | simp [Value.category, rf_cat]) (by omega) (by omega) (by omega) xN_no (fun v_157 m_157 h_157 => ?_)
            obtain ⟨rfl, ⟨ls, rs, dp, F, hT, hs, h4⟩, hO2⟩ := h_157
            replace hO := xo_tr hO hO2
            have h3 := hs.2.2.1
            refine g_pop dX5_simulate_160 rfl (by first | rfl | exact rf_cat _) ?_
            refine g_goto (tgt := 198) dX5_simulate_161 (by decide) ?_
            exact next _ _ _ _ _ _ _ _ hkn hsd2.symm hT hs h4 hO
          · have hsd2 : simD p (rndN (simX x)) = (wrD p (nI (1 + r / 8 % 64 % 5))).getD p := by rw [er]; unfold simD; simp only [h8]
            refine g_tswIn (tgt := 147) dX5_simulate_86 (by decide) (by decide) rfl (by decide) ?_
            refine g_aload_n dX5_simulate_147 rfl rfl rfl ?_
            refine g_get fl_X5_16_X5 dX5_simulate_148 rfl (Or.inl (tm_o hT)) rfl ?_
            refine g_iconst (v := (nI 1)) dX5_simulate_151 rfl rfl ?_
            refine g_iload dX5_simulate_152 rfl rfl ?_
            refine g_iconst (v := (nI 5)) dX5_simulate_154 rfl rfl ?_
            refine g_iremn dX5_simulate_155 rfl (by omega) (by omega) (by omega) ?_
            refine g_iaddn dX5_simulate_156 rfl ?_
            refine g_static iS_X5_wraps q2652 (s_op hT hs (q_wraps (d := d - 1) (by omega) (tm_at 4 hT rfl rfl rfl rfl) h4 w1 w6)) dX5_simulate_157 rfl rfl rfl (by first | exact Nat.le_of_ble_eq_true rfl | simp [Value.category, rf_cat]) (by omega) (by omega) (by omega) xN_no (fun v_157 m_157 h_157 => ?_)
            obtain ⟨rfl, ⟨ls, rs, dp, F, hT, hs, h4⟩, hO2⟩ := h_157
            replace hO := xo_tr hO hO2
            have h3 := hs.2.2.1
            refine g_pop dX5_simulate_160 rfl (by first | rfl | exact rf_cat _) ?_
            refine g_goto (tgt := 198) dX5_simulate_161 (by decide) ?_
            exact next _ _ _ _ _ _ _ _ hkn hsd2.symm hT hs h4 hO
          · have hsd2 : simD p (rndN (simX x)) = mvP p (nI (r / 8 % 64) - nI 32) := by rw [er]; unfold simD; simp only [h8]
            refine g_tswIn (tgt := 164) dX5_simulate_86 (by decide) (by decide) rfl (by decide) ?_
            refine g_aload_n dX5_simulate_164 rfl rfl rfl ?_
            refine g_get fl_X5_16_X5 dX5_simulate_165 rfl (Or.inl (tm_o hT)) rfl ?_
            refine g_iload dX5_simulate_168 rfl rfl ?_
            refine g_bipush (v := (nI 32)) dX5_simulate_170 rfl rfl ?_
            refine g_isub dX5_simulate_172 rfl ?_
            refine g_static iS_X5_moves q2592 (s_moves (d := d - 1) (by omega) ⟨_, _, _, _, hT, hs, h4⟩) dX5_simulate_173 rfl rfl rfl (by first | exact Nat.le_of_ble_eq_true rfl | simp [Value.category, rf_cat]) (by omega) (by omega) (by omega) xN_no (fun v_173 m_173 h_173 => ?_)
            obtain ⟨rfl, ⟨ls, rs, dp, F, hT, hs, h4⟩, hO2⟩ := h_173
            replace hO := xo_tr hO hO2
            have h3 := hs.2.2.1
            refine g_goto (tgt := 198) dX5_simulate_176 (by decide) ?_
            exact next _ _ _ _ _ _ _ _ hkn hsd2.symm hT hs h4 hO
          · have hsd2 : simD p (rndN (simX x)) = (bkD p).getD p := by rw [er]; unfold simD; simp only [h8]
            refine g_tswIn (tgt := 179) dX5_simulate_86 (by decide) (by decide) rfl (by decide) ?_
            refine g_aload_n dX5_simulate_179 rfl rfl rfl ?_
            refine g_get fl_X5_16_X5 dX5_simulate_180 rfl (Or.inl (tm_o hT)) rfl ?_
            refine g_static iS_X5_backs q2659 (s_op hT hs (q_backs (d := d - 1) (by omega) (tm_at 4 hT rfl rfl rfl rfl) h4 w1 w2 w3)) dX5_simulate_183 rfl rfl rfl (by first | exact Nat.le_of_ble_eq_true rfl | simp [Value.category, rf_cat]) (by omega) (by omega) (by omega) xN_no (fun v_183 m_183 h_183 => ?_)
            obtain ⟨rfl, ⟨ls, rs, dp, F, hT, hs, h4⟩, hO2⟩ := h_183
            replace hO := xo_tr hO hO2
            have h3 := hs.2.2.1
            refine g_pop dX5_simulate_186 rfl (by first | rfl | exact rf_cat _) ?_
            refine g_goto (tgt := 198) dX5_simulate_187 (by decide) ?_
            exact next _ _ _ _ _ _ _ _ hkn hsd2.symm hT hs h4 hO
          · have hsd2 : simD p (rndN (simX x)) = (grD p).getD p := by rw [er]; unfold simD; simp only [h8]
            refine g_tswOut (tgt := 190) dX5_simulate_86 (by decide) (by decide) ?_
            refine g_aload_n dX5_simulate_190 rfl rfl rfl ?_
            refine g_get fl_X5_16_X5 dX5_simulate_191 rfl (Or.inl (tm_o hT)) rfl ?_
            refine g_static iS_X5_grows q2611 (s_op hT hs (q_grows (d := d - 1) (by omega) (tm_at 4 hT rfl rfl rfl rfl) h4 w1 w2 w4)) dX5_simulate_194 rfl rfl rfl (by first | exact Nat.le_of_ble_eq_true rfl | simp [Value.category, rf_cat]) (by omega) (by omega) (by omega) xN_no (fun v_194 m_194 h_194 => ?_)
            obtain ⟨rfl, ⟨ls, rs, dp, F, hT, hs, h4⟩, hO2⟩ := h_194
            replace hO := xo_tr hO hO2
            have h3 := hs.2.2.1
            refine g_pop dX5_simulate_197 rfl (by first | rfl | exact rf_cat _) ?_
            exact next _ _ _ _ _ _ _ _ hkn hsd2.symm hT hs h4 hO
        refine g_iload dX5_simulate_45 rfl rfl ?_
        refine g_iload_n dX5_simulate_47 rfl rfl rfl ?_
        refine g_icmpn_ge (tgt := 204) dX5_simulate_48 (by decide) rfl (by omega) (by omega) (fun c_48 => ?_) (fun c_48 => ?_)
        · refine g_aload_n dX5_simulate_204 rfl rfl rfl ?_
          refine g_aload_n dX5_simulate_205 rfl rfl rfl ?_
          refine g_get fl_X5_16_X5 dX5_simulate_206 rfl (Or.inl (tm_o hT)) rfl ?_
          refine g_virtual iV_X5_layLine q2557 (t_lay4 (d := d - 1) (by omega) hT rfl (Pgx_l h4) w2 (by rw [show n - k = 0 by omega, simF_0] at hsim; rw [hsim]; exact hl)) (Or.inl (tm_o hT)) rfl (by decide) dX5_simulate_209 rfl rfl rfl (by first | exact Nat.le_of_ble_eq_true rfl | simp [Value.category, rf_cat]) (by omega) (by omega) (by omega) xN_no (fun v_209 m_209 h_209 => ?_)
          obtain ⟨rfl, F, hT, hout, hF, hO2⟩ := h_209
          replace hO := xo_tr hO hO2
          replace hs := tIn_lay hs hF
          have ep : p = pq := by rw [show n - k = 0 by omega, simF_0] at hsim; exact hsim
          have h4 : Pgx (F 4) pq := by rw [← ep, hF 4 (by decide) (by decide)]; exact h4
          have h4_180 : F 4 180 = nI pq.1.length := h4.1.2.1
          have hlen := h4.1.2.2
          have ub1 := all_ub (lf pq.1) pq.1.length 0 0
          have ub1 : allL pq.1 0 pq.1.length ≤ 180 := by unfold allL; omega
          refine g_sipush (v := (nI 1000)) dX5_simulate_212 rfl rfl ?_
          refine g_aload_n dX5_simulate_215 rfl rfl rfl ?_
          refine g_get fl_X5_16_X5 dX5_simulate_216 rfl (Or.inl (tm_o hT)) rfl ?_
          refine g_iconst (v := (nI 0)) dX5_simulate_219 rfl rfl ?_
          refine g_aload_n dX5_simulate_220 rfl rfl rfl ?_
          refine g_get fl_X5_16_X5 dX5_simulate_221 rfl (Or.inl (tm_o hT)) rfl ?_
          refine g_sipush (v := (nI 180)) dX5_simulate_224 rfl rfl ?_
          refine t_ialdn (k := 4) (N := 184) (f := F 4) hT rfl rfl rfl (by first | rfl | assumption) dX5_simulate_227 rfl (by omega) ?_
          rw [h4_180]
          refine g_staticP iS_X5_allIn q2508 (p_allIn (d := d - 1) (by omega) (tm_at 4 hT rfl rfl rfl rfl) (Pgx_l h4) (by omega) (by omega)) dX5_simulate_228 rfl rfl rfl (by first | exact Nat.le_of_ble_eq_true rfl | simp [Value.category, rf_cat]) (by omega) xN_no ?_
          refine g_imuln dX5_simulate_231 rfl ?_
          refine g_aload_n dX5_simulate_232 rfl rfl rfl ?_
          refine g_get fl_X5_193_X5 dX5_simulate_233 rfl (Or.inl (tm_o hT)) rfl ?_
          refine g_iaddn dX5_simulate_236 rfl ?_
          refine g_ireturn dX5_simulate_237 rfl ?_
          rw [eU]
          exact ⟨rfl, ⟨_, _, _, _, hT, hs⟩, hO⟩
        · refine g_lload dX5_simulate_51 rfl rfl ?_
          refine g_ldc2 dX5_simulate_53 rfl q2713 ?_
          refine g_lmul dX5_simulate_56 rfl ?_
          refine g_ldc2 dX5_simulate_57 rfl q2714 ?_
          refine g_ladd dX5_simulate_60 rfl ?_
          refine g_lst4 dX5_simulate_61 rfl (by decide) (k := ?_)
          rw [show x * 6364136223846793005 + 1442695040888963407 = simX x from rfl]
          refine g_lload dX5_simulate_63 rfl rfl ?_
          refine g_bipush (v := (nI 33)) dX5_simulate_65 rfl rfl ?_
          refine g_lushr (v := ((simX x).toUInt64 >>> 33).toInt64) dX5_simulate_67 rfl (by rw [sh33]) ?_
          refine g_l2i (v := nI (rndN (simX x))) dX5_simulate_68 rfl (rnd_eq _) ?_
          have hrl := rnd_lt (simX x)
          refine g_ist7 dX5_simulate_69 rfl (by decide) (k := ?_)
          refine g_iload dX5_simulate_71 rfl rfl ?_
          refine g_bipush (v := (nI 8)) dX5_simulate_73 rfl rfl ?_
          refine g_idivn dX5_simulate_75 rfl (by omega) (by omega) (by omega) ?_
          refine g_bipush (v := (nI 64)) dX5_simulate_76 rfl rfl ?_
          refine g_iremn dX5_simulate_78 rfl (by omega) (by omega) (by omega) ?_
          refine g_ist8 dX5_simulate_79 rfl (by decide) (k := ?_)
          refine g_iload dX5_simulate_81 rfl rfl ?_
          refine g_bipush (v := (nI 8)) dX5_simulate_83 rfl rfl ?_
          refine g_iremn dX5_simulate_85 rfl (by omega) (by omega) (by omega) ?_
          exact t86 _ (by assumption) rfl hrl
    refine ct_intro (lv := [some (.ref (A 0)), some (.long seed), none, some (.int (nI n)), none, none, none, none, none]) 5 (by decide) rfl (Nat.le_of_ble_eq_true rfl) rfl ?_
    refine g_aload_n dX5_simulate_0 rfl rfl rfl ?_
    refine g_iload_n dX5_simulate_1 rfl rfl rfl ?_
    refine g_i2l dX5_simulate_2 rfl rfl ?_
    refine g_lconst (v := 1) dX5_simulate_3 rfl rfl ?_
    refine g_ldc2 dX5_simulate_4 rfl q2712 ?_
    refine g_staticP iS_X5_in q2448 (c_in (d := d - 1) (by omega) _ _ _) dX5_simulate_7 rfl rfl rfl (by first | exact Nat.le_of_ble_eq_true rfl | simp [Value.category, rf_cat]) (by omega) xN_no ?_
    refine g_ifB_eq (tgt := 17) dX5_simulate_10 (by decide) rfl (fun c_10 => ?_) (fun c_10 => ?_)
    · exact absurd hc (by rw [c_10]; decide)
    · refine g_iconst (v := (nI 0)) dX5_simulate_13 rfl rfl ?_
      refine g_goto (tgt := 18) dX5_simulate_14 (by decide) ?_
      refine g_virtual iV_X5_refused q2451 (t_ref0 (d := d - 1) (by omega) hT) (Or.inl (tm_o hT)) rfl (by decide) dX5_simulate_18 rfl rfl rfl (by first | exact Nat.le_of_ble_eq_true rfl | simp [Value.category, rf_cat]) (by omega) (by omega) (by omega) xN_no (fun v_18 m_18 h_18 => ?_)
      obtain ⟨rfl, hT, hO2⟩ := h_18
      replace hO := xo_tr hO hO2
      refine g_ifn_eq (tgt := 26) dX5_simulate_21 (by decide) rfl (by omega) (fun _ => ?_) (fun c_21 => by omega)
      refine g_aload_n dX5_simulate_26 rfl rfl rfl ?_
      refine g_get fl_X5_13_X5 dX5_simulate_27 rfl (Or.inl (tm_o hT)) rfl ?_
      refine g_iconst (v := (nI 0)) dX5_simulate_30 rfl rfl ?_
      refine g_aload_n dX5_simulate_31 rfl rfl rfl ?_
      refine g_get fl_X5_16_X5 dX5_simulate_32 rfl (Or.inl (tm_o hT)) rfl ?_
      refine g_iconst (v := (nI 0)) dX5_simulate_35 rfl rfl ?_
      refine g_static iS_X5_copyPage q2622 (s_copy (d := d - 1) (by omega) ⟨_, _, _, _, hT, hs⟩) dX5_simulate_36 rfl rfl rfl (by first | exact Nat.le_of_ble_eq_true rfl | simp [Value.category, rf_cat]) (by omega) (by omega) (by omega) xN_no (fun v_36 m_36 h_36 => ?_)
      obtain ⟨rfl, ⟨ls, rs, dp, F, hT, hs, h4⟩, hO2⟩ := h_36
      replace hO := xo_tr hO hO2
      have h3 := hs.2.2.1
      refine g_lload_n dX5_simulate_39 rfl rfl rfl ?_
      refine g_lst4 dX5_simulate_40 rfl (by decide) (k := ?_)
      refine g_iconst (v := (nI 0)) dX5_simulate_42 rfl rfl ?_
      refine g_ist6 dX5_simulate_43 rfl (by decide) (k := ?_)
      exact loop (n + 1) 0 seed (stP s) _ _ _ _ _ _ _ (by omega) (by omega) h0 epq.symm hT hs h4 hO
  · refine ct_intro (lv := [some (.ref (A 0)), some (.long seed), none, some (.int c), none, none, none, none, none]) 5 (by decide) rfl (Nat.le_of_ble_eq_true rfl) rfl ?_
    refine g_aload_n dX5_simulate_0 rfl rfl rfl ?_
    refine g_iload_n dX5_simulate_1 rfl rfl rfl ?_
    refine g_i2l dX5_simulate_2 rfl rfl ?_
    refine g_lconst (v := 1) dX5_simulate_3 rfl rfl ?_
    refine g_ldc2 dX5_simulate_4 rfl q2712 ?_
    refine g_staticP iS_X5_in q2448 (c_in (d := d - 1) (by omega) _ _ _) dX5_simulate_7 rfl rfl rfl (by first | exact Nat.le_of_ble_eq_true rfl | simp [Value.category, rf_cat]) (by omega) xN_no ?_
    refine g_ifB_eq (tgt := 17) dX5_simulate_10 (by decide) rfl (fun c_10 => ?_) (fun c_10 => ?_)
    · refine g_iconst (v := (nI 1)) dX5_simulate_17 rfl rfl ?_
      refine g_virtual iV_X5_refused q2451 (t_refS (d := d - 1) (by omega) (x := 1) (by omega) (by omega) hT) (Or.inl (tm_o hT)) rfl (by decide) dX5_simulate_18 rfl rfl rfl (by first | exact Nat.le_of_ble_eq_true rfl | simp [Value.category, rf_cat]) (by omega) (by omega) (by omega) xN_no (fun v_18 m_18 h_18 => ?_)
      obtain ⟨rfl, hT, hO2⟩ := h_18
      replace hO := xo_tr hO hO2
      refine g_ifn_eq (tgt := 26) dX5_simulate_21 (by decide) rfl (by omega) (fun c_21 => by omega) (fun _ => ?_)
      refine g_iconst (v := (nI 0)) dX5_simulate_24 rfl rfl ?_
      refine g_ireturn dX5_simulate_25 rfl ?_
      have e : uSim s seed c out = (1, 0, s) := by unfold uSim; rw [if_neg hc]
      rw [e]
      exact ⟨rfl, ⟨_, _, _, _, hT, hs⟩, hO⟩
    · exact absurd c_10 hc
end TW30
