/-! TWIN: the text of a line laid (printed by gen/gen_lay.py) -/
set_option maxRecDepth 100000
section TW20
variable {w : XW} {d : Nat} {m : XM} {A : Nat → Nat} {rf ts ac ls rs dp : Int32} {F : Nat → Nat → Int32}
def tLay (A : Nat → Nat) (m : XM) (rf ts ac rs dp : Int32) (F : Nat → Nat → Int32) (out : List Int32) : Option Value → XM → Prop := fun v m' => none = v ∧ ∃ F', TM A rf ts ac (nI out.length) rs dp F' m' ∧ outR (F' 10) out ∧ (∀ k, k ≠ 10 → k ≠ 25 → F' k = F k) ∧ XOf A m m'
theorem t_lay3 {f : Nat → Int32} {L res : List Int32} (hd : 5 ≤ d) (hT : TM A rf ts ac ls rs dp F m) (hf : F 3 = f) (hp : Pl f L) (hb : Bal L) (hl : layF L 0 [] [] = some res) : CT w MX5_layLine d 0 0 [.ref (A 0), .ref (A 3)] m (tLay A m rf ts ac rs dp F res) xN := by
  have hlen := hp.2.2
  have hre := fun g (h : g ≤ L.length) => (show g ≤ rowEndL L g ∧ rowEndL L g ≤ L.length from rowEnd_le (lf L) L.length 0 g h)
  have hrs := fun g => (show rowStartL L g ≤ g from rowStart_le (lf L) 0 g)
  have h3_180 : f 180 = nI L.length := hp.2.1
  have hf0 := hf
  obtain ⟨F0, eF0⟩ : ∃ F0, F0 = F := ⟨_, rfl⟩
  rw [← eF0]
  have loop : ∀ t k stk out F m' x4 x5 x6, L.length - k < t → k ≤ L.length → out.length ≤ 3 * k → pileR (F 25) stk → stk.length ≤ k → stk.length ≤ 64 → (∀ b, b ∈ stk → b < k) → outR (F 10) out → TM A rf ts ac (nI out.length) rs dp F m' → XOf A m m' → (∀ k, k ≠ 10 → k ≠ 25 → F k = F0 k) → layF L k stk out = some res → G w MX5_layLine (xZ w (tLay A m rf ts ac rs dp F0 res) xN) d 0 0 9 [some (.ref (A 0)), some (.ref (A 3)), some (.int (nI stk.length)), some (.int (nI k)), x4, x5, x6] [] m' := by
    intro t
    induction t with
    | zero => intro k stk out F m' x4 x5 x6 h; omega
    | succ t ih =>
      intro k stk out F m' x4 x5 x6 h hk hol hpile hsl hs64 hsb hout hT hO hF he
      have hf : F 3 = f := (hF 3 (by decide) (by decide)).trans (eF0 ▸ hf0)
      have hfk : k < L.length → f k = lf L k := fun h => hp.1 k h
      have body : ∀ s2 o2, k < L.length → layS L k stk = some (s2, o2) → layF L (k + 1) s2 (out ++ o2) = some res → G w MX5_layLine (xZ w (tLay A m rf ts ac rs dp F0 res) xN) d 0 0 23 [some (.ref (A 0)), some (.ref (A 3)), some (.int (nI stk.length)), some (.int (nI k)), some (.int (lf L k)), x5, x6] [] m' := by
        intro s2 o2 hkl hst he2
        have hl3 := layS_len hst
        have next : ∀ F m' out' stk' x4 x5 x6, stk' = s2 → out' = out ++ o2 → pileR (F 25) stk' → stk'.length ≤ k + 1 → stk'.length ≤ 64 → (∀ b, b ∈ stk' → b < k + 1) → outR (F 10) out' → TM A rf ts ac (nI out'.length) rs dp F m' → XOf A m m' → (∀ k, k ≠ 10 → k ≠ 25 → F k = F0 k) → G w MX5_layLine (xZ w (tLay A m rf ts ac rs dp F0 res) xN) d 0 0 318 [some (.ref (A 0)), some (.ref (A 3)), some (.int (nI stk'.length)), some (.int (nI k)), x4, x5, x6] [] m' := by
          intro F m' out' stk' x4 x5 x6 e1 e2 hpile hsl hs64 hsb hout hT hO hF
          subst e1
          subst e2
          refine g_incn3 dX5_layLine_318 rfl (by decide) (k := ?_)
          refine g_goto (tgt := 9) dX5_layLine_321 (by decide) ?_
          exact ih (k + 1) _ _ _ _ _ _ _ (by omega) (by omega) (by rw [List.length_append]; omega) hpile hsl hs64 hsb hout hT hO hF he2
        have fe : ∀ b r, stk = b :: r → ¬ 0 < lf L k → isBg (lf L k) = false → ¬ lf L k = -10 → G w MX5_layLine (xZ w (tLay A m rf ts ac rs dp F0 res) xN) d 0 0 244 [some (.ref (A 0)), some (.ref (A 3)), some (.int (nI r.length)), some (.int (nI k)), some (.int (lf L k)), x5, x6] [] m' := by
          intro b r es h1 h2 h3
          subst es
          unfold layS at hst
          rw [if_neg h1, if_neg (by rw [h2]; decide)] at hst
          simp only [if_neg h3] at hst
          obtain ⟨e1, e2⟩ := Prod.mk.inj (Option.some.inj hst)
          subst e1
          subst e2
          have hbk := hsb b List.mem_cons_self
          have hsl2 : r.length + 1 ≤ k := hsl
          have hs65 : r.length + 1 ≤ 64 := hs64
          have t308 : ∀ bb x5, bb = barL L k b → xc1 x5 = true → G w MX5_layLine (xZ w (tLay A m rf ts ac rs dp F0 res) xN) d 0 0 308 [some (.ref (A 0)), some (.ref (A 3)), some (.int (nI r.length)), some (.int (nI k)), some (.int (lf L k)), x5, x6] [.int (xB bb)] m' := by
            intro bb x5 hbb hx5
            refine g_ist6 dX5_layLine_308 rfl (by decide) (k := ?_)
            refine g_aload_n dX5_layLine_310 rfl rfl rfl ?_
            refine g_iload dX5_layLine_311 rfl rfl ?_
            refine g_bipush (v := 41) dX5_layLine_313 rfl rfl ?_
            refine g_virtual iV_X5_sayUnless q2568 (s_sayUnless (d := d - 1) (by omega) (by omega) hout hT) (Or.inl (tm_o hT)) rfl (by decide) dX5_layLine_315 rfl rfl rfl (by first | exact Nat.le_of_ble_eq_true rfl | simp [Value.category, rf_cat]) (by omega) (by omega) (by omega) xN_no (fun v_315 m_315 h_315 => ?_)
            obtain ⟨rfl, F, hT, hout, hFF, hO2⟩ := h_315
            replace hO := xo_tr hO hO2
            replace hf := (hFF 3 (by decide)).trans hf
            rw [← hFF 25 (by decide)] at hpile
            replace hF := fun k h1 h2 => (hFF k h1).trans (hF k h1 h2)
            exact next F _ _ r _ _ _ rfl (by rw [hbb]) hpile.2 (by omega) (by omega) (fun b hb => Nat.lt_succ_of_lt (hsb b (List.mem_cons_of_mem _ hb))) hout hT hO hF
          refine g_aload_n dX5_layLine_244 rfl rfl rfl ?_
          refine g_aload_n dX5_layLine_245 rfl rfl rfl ?_
          refine g_get fl_X5_68_X5 dX5_layLine_246 rfl (Or.inl (tm_o hT)) rfl ?_
          refine g_iload_n dX5_layLine_249 rfl rfl rfl ?_
          refine t_ialdn (k := 25) (N := 64) (f := F 25) hT rfl rfl rfl rfl dX5_layLine_250 rfl (by omega) ?_
          rw [hpile.1]
          refine t_ialdn (k := 3) (N := 184) (f := f) hT rfl rfl rfl (by first | rfl | assumption) dX5_layLine_251 rfl (by omega) ?_
          rw [hp.1 b (by omega)]
          refine g_ist5 dX5_layLine_252 rfl (by decide) (k := ?_)
          refine g_iload dX5_layLine_254 rfl rfl ?_
          refine g_iconst (v := (-1)) dX5_layLine_256 rfl rfl ?_
          refine g_icmp_ne (tgt := 273) dX5_layLine_257 (by decide) rfl (fun c_257 => ?_) (fun c_257 => ?_)
          · refine g_iload dX5_layLine_273 rfl rfl ?_
            refine g_bipush (v := (-2)) dX5_layLine_275 rfl rfl ?_
            refine g_icmp_eq (tgt := 287) dX5_layLine_277 (by decide) rfl (fun c_277 => ?_) (fun c_277 => ?_)
            · refine g_aload_n dX5_layLine_287 rfl rfl rfl ?_
              refine g_aload_n dX5_layLine_288 rfl rfl rfl ?_
              refine g_get fl_X5_68_X5 dX5_layLine_289 rfl (Or.inl (tm_o hT)) rfl ?_
              refine g_iload_n dX5_layLine_292 rfl rfl rfl ?_
              refine t_ialdn (k := 25) (N := 64) (f := F 25) hT rfl rfl rfl rfl dX5_layLine_293 rfl (by omega) ?_
              rw [hpile.1]
              refine g_iconst (v := (nI 1)) dX5_layLine_294 rfl rfl ?_
              refine g_iaddn dX5_layLine_295 rfl ?_
              refine g_iconst (v := xB false) dX5_layLine_296 rfl rfl ?_
              refine g_staticP iS_X5_isShort q2565 (p_isShort (d := d - 1) (by omega) (tm_at 3 hT rfl rfl rfl hf) hp hb (by omega)) dX5_layLine_297 rfl rfl rfl (by first | exact Nat.le_of_ble_eq_true rfl | simp [Value.category, rf_cat]) (by omega) xN_no ?_
              refine g_ifB_eq (tgt := 307) dX5_layLine_300 (by decide) rfl (fun c_300 => ?_) (fun c_300 => ?_)
              · exact (by
                refine g_iconst (v := nI 0) dX5_layLine_307 rfl rfl ?_
                exact t308 false _ (by
                  unfold barL
                  rw [if_neg (by assumption)]
                  first | rw [(by assumption : isSh L (b + 1) false = false), Bool.and_false] | (rw [decide_eq_false (by assumption), decide_eq_false (by assumption)]; rfl)) rfl)
              · exact (by
                refine g_iconst (v := nI 1) dX5_layLine_303 rfl rfl ?_
                refine g_goto (tgt := 308) dX5_layLine_304 (by decide) ?_
                exact t308 true _ (by
                  unfold barL
                  rw [if_neg (by assumption), (by assumption : isSh L (b + 1) false = true), Bool.and_true]
                  first | (rw [decide_eq_true (by assumption)]; rfl) | (rw [decide_eq_true (show lf L b = -3 by assumption), Bool.or_true])) rfl)
            · refine g_iload dX5_layLine_280 rfl rfl ?_
              refine g_bipush (v := (-3)) dX5_layLine_282 rfl rfl ?_
              refine g_icmp_ne (tgt := 307) dX5_layLine_284 (by decide) rfl (fun c_284 => ?_) (fun c_284 => ?_)
              · exact (by
                refine g_iconst (v := nI 0) dX5_layLine_307 rfl rfl ?_
                exact t308 false _ (by
                  unfold barL
                  rw [if_neg (by assumption)]
                  first | rw [(by assumption : isSh L (b + 1) false = false), Bool.and_false] | (rw [decide_eq_false (by assumption), decide_eq_false (by assumption)]; rfl)) rfl)
              · refine g_aload_n dX5_layLine_287 rfl rfl rfl ?_
                refine g_aload_n dX5_layLine_288 rfl rfl rfl ?_
                refine g_get fl_X5_68_X5 dX5_layLine_289 rfl (Or.inl (tm_o hT)) rfl ?_
                refine g_iload_n dX5_layLine_292 rfl rfl rfl ?_
                refine t_ialdn (k := 25) (N := 64) (f := F 25) hT rfl rfl rfl rfl dX5_layLine_293 rfl (by omega) ?_
                rw [hpile.1]
                refine g_iconst (v := (nI 1)) dX5_layLine_294 rfl rfl ?_
                refine g_iaddn dX5_layLine_295 rfl ?_
                refine g_iconst (v := xB false) dX5_layLine_296 rfl rfl ?_
                refine g_staticP iS_X5_isShort q2565 (p_isShort (d := d - 1) (by omega) (tm_at 3 hT rfl rfl rfl hf) hp hb (by omega)) dX5_layLine_297 rfl rfl rfl (by first | exact Nat.le_of_ble_eq_true rfl | simp [Value.category, rf_cat]) (by omega) xN_no ?_
                refine g_ifB_eq (tgt := 307) dX5_layLine_300 (by decide) rfl (fun c_300 => ?_) (fun c_300 => ?_)
                · exact (by
                  refine g_iconst (v := nI 0) dX5_layLine_307 rfl rfl ?_
                  exact t308 false _ (by
                    unfold barL
                    rw [if_neg (by assumption)]
                    first | rw [(by assumption : isSh L (b + 1) false = false), Bool.and_false] | (rw [decide_eq_false (by assumption), decide_eq_false (by assumption)]; rfl)) rfl)
                · exact (by
                  refine g_iconst (v := nI 1) dX5_layLine_303 rfl rfl ?_
                  refine g_goto (tgt := 308) dX5_layLine_304 (by decide) ?_
                  exact t308 true _ (by
                    unfold barL
                    rw [if_neg (by assumption), (by assumption : isSh L (b + 1) false = true), Bool.and_true]
                    first | (rw [decide_eq_true (by assumption)]; rfl) | (rw [decide_eq_true (show lf L b = -3 by assumption), Bool.or_true])) rfl)
          · refine g_aload_n dX5_layLine_260 rfl rfl rfl ?_
            refine g_aload_n dX5_layLine_261 rfl rfl rfl ?_
            refine g_iload_n dX5_layLine_262 rfl rfl rfl ?_
            refine g_staticP iS_X5_rowStart q2530 (p_rowStart (d := d - 1) (by omega) (tm_at 3 hT rfl rfl rfl hf) hp (by omega)) dX5_layLine_263 rfl rfl rfl (by first | exact Nat.le_of_ble_eq_true rfl | simp [Value.category, rf_cat]) (by omega) xN_no ?_
            refine g_iconst (v := xB true) dX5_layLine_266 rfl rfl ?_
            refine g_staticP iS_X5_isShort q2565 (p_isShort (d := d - 1) (by omega) (tm_at 3 hT rfl rfl rfl hf) hp hb (Nat.le_trans (hrs k) (by omega))) dX5_layLine_267 rfl rfl rfl (by first | exact Nat.le_of_ble_eq_true rfl | simp [Value.category, rf_cat]) (by omega) xN_no ?_
            refine g_goto (tgt := 308) dX5_layLine_270 (by decide) ?_
            exact t308 _ _ (by unfold barL; rw [if_pos (by assumption)]) rfl
        have be : ∀ b r, stk = b :: r → ¬ 0 < lf L k → isBg (lf L k) = false → lf L k = -10 → G w MX5_layLine (xZ w (tLay A m rf ts ac rs dp F0 res) xN) d 0 0 197 [some (.ref (A 0)), some (.ref (A 3)), some (.int (nI (b :: r).length)), some (.int (nI k)), some (.int (lf L k)), x5, x6] [] m' := by
          intro b r es h1 h2 h3
          subst es
          unfold layS at hst
          rw [if_neg h1, if_neg (by rw [h2]; decide)] at hst
          simp only [if_pos h3] at hst
          obtain ⟨e1, e2⟩ := Prod.mk.inj (Option.some.inj hst)
          have hbk := hsb b List.mem_cons_self
          have hsl2 : r.length + 1 ≤ k := hsl
          have hs65 : r.length + 1 ≤ 64 := hs64
          have ul := unl_len
          have hst := hst
          refine g_aload_n dX5_layLine_197 rfl rfl rfl ?_
          refine g_aload_n dX5_layLine_198 rfl rfl rfl ?_
          refine g_aload_n dX5_layLine_199 rfl rfl rfl ?_
          refine g_get fl_X5_68_X5 dX5_layLine_200 rfl (Or.inl (tm_o hT)) rfl ?_
          refine g_iload_n dX5_layLine_203 rfl rfl rfl ?_
          refine g_iconst (v := (nI 1)) dX5_layLine_204 rfl rfl ?_
          refine g_isubn dX5_layLine_205 rfl (Nat.succ_le_succ (Nat.zero_le _)) ?_
          refine t_ialdn (k := 25) (N := 64) (f := F 25) (j := r.length) hT rfl rfl rfl rfl dX5_layLine_206 rfl (by omega) ?_
          rw [hpile.1]
          refine g_iconst (v := (nI 1)) dX5_layLine_207 rfl rfl ?_
          refine g_iaddn dX5_layLine_208 rfl ?_
          refine g_iconst (v := xB true) dX5_layLine_209 rfl rfl ?_
          refine g_staticP iS_X5_isShort q2565 (p_isShort (d := d - 1) (by omega) (tm_at 3 hT rfl rfl rfl hf) hp hb (by omega)) dX5_layLine_210 rfl rfl rfl (by first | exact Nat.le_of_ble_eq_true rfl | simp [Value.category, rf_cat]) (by omega) xN_no ?_
          refine g_bipush (v := 41) dX5_layLine_213 rfl rfl ?_
          refine g_virtual iV_X5_sayUnless q2568 (s_sayUnless (d := d - 1) (by omega) (by omega) hout hT) (Or.inl (tm_o hT)) rfl (by decide) dX5_layLine_215 rfl rfl rfl (by first | exact Nat.le_of_ble_eq_true rfl | simp [Value.category, rf_cat]) (by omega) (by omega) (by omega) xN_no (fun v_215 m_215 h_215 => ?_)
          obtain ⟨rfl, F, hT, hout, hFF, hO2⟩ := h_215
          replace hO := xo_tr hO hO2
          replace hf := (hFF 3 (by decide)).trans hf
          rw [← hFF 25 (by decide)] at hpile
          replace hF := fun k h1 h2 => (hFF k h1).trans (hF k h1 h2)
          refine g_aload_n dX5_layLine_218 rfl rfl rfl ?_
          refine g_bipush (v := 47) dX5_layLine_219 rfl rfl ?_
          refine g_virtual iV_X5_say q2561 (s_say (d := d - 1) (by omega) (by rw [List.length_append]; have := ul (isSh L (b + 1) true) 41; omega) hout hT) (Or.inl (tm_o hT)) rfl (by decide) dX5_layLine_221 rfl rfl rfl (by first | exact Nat.le_of_ble_eq_true rfl | simp [Value.category, rf_cat]) (by omega) (by omega) (by omega) xN_no (fun v_221 m_221 h_221 => ?_)
          obtain ⟨rfl, F, hT, hout, hFF, hO2⟩ := h_221
          replace hO := xo_tr hO hO2
          replace hf := (hFF 3 (by decide)).trans hf
          rw [← hFF 25 (by decide)] at hpile
          replace hF := fun k h1 h2 => (hFF k h1).trans (hF k h1 h2)
          refine g_aload_n dX5_layLine_224 rfl rfl rfl ?_
          refine g_aload_n dX5_layLine_225 rfl rfl rfl ?_
          refine g_iload_n dX5_layLine_226 rfl rfl rfl ?_
          refine g_iconst (v := (nI 1)) dX5_layLine_227 rfl rfl ?_
          refine g_iaddn dX5_layLine_228 rfl ?_
          refine g_iconst (v := xB true) dX5_layLine_229 rfl rfl ?_
          refine g_staticP iS_X5_isShort q2565 (p_isShort (d := d - 1) (by omega) (tm_at 3 hT rfl rfl rfl hf) hp hb (by omega)) dX5_layLine_230 rfl rfl rfl (by first | exact Nat.le_of_ble_eq_true rfl | simp [Value.category, rf_cat]) (by omega) xN_no ?_
          refine g_bipush (v := 40) dX5_layLine_233 rfl rfl ?_
          refine g_virtual iV_X5_sayUnless q2568 (s_sayUnless (d := d - 1) (by omega) (by rw [List.length_append, List.length_append]; have := ul (isSh L (b + 1) true) 41; simp only [List.length_cons, List.length_nil]; omega) hout hT) (Or.inl (tm_o hT)) rfl (by decide) dX5_layLine_235 rfl rfl rfl (by first | exact Nat.le_of_ble_eq_true rfl | simp [Value.category, rf_cat]) (by omega) (by omega) (by omega) xN_no (fun v_235 m_235 h_235 => ?_)
          obtain ⟨rfl, F, hT, hout, hFF, hO2⟩ := h_235
          replace hO := xo_tr hO hO2
          replace hf := (hFF 3 (by decide)).trans hf
          rw [← hFF 25 (by decide)] at hpile
          replace hF := fun k h1 h2 => (hFF k h1).trans (hF k h1 h2)
          refine g_goto (tgt := 318) dX5_layLine_238 (by decide) ?_
          exact next F _ _ (b :: r) _ _ _ e1 (by rw [← e2]; simp only [List.append_assoc]) hpile (Nat.le_succ_of_le hsl) hs64 (fun b hb => Nat.lt_succ_of_lt (hsb b hb)) hout hT hO hF
        have pe : ¬ 0 < lf L k → isBg (lf L k) = true → G w MX5_layLine (xZ w (tLay A m rf ts ac rs dp F0 res) xN) d 0 0 45 [some (.ref (A 0)), some (.ref (A 3)), some (.int (nI stk.length)), some (.int (nI k)), some (.int (lf L k)), x5, x6] [] m' := by
          intro h1 h2
          unfold layS at hst
          rw [if_neg h1, if_pos h2] at hst
          by_cases h64 : 64 ≤ stk.length
          · rw [if_pos h64] at hst; cases hst
          rw [if_neg h64] at hst
          have ul := unl_len
          have hsb2 : ∀ b, b ∈ k :: stk → b < k + 1 := fun b hb => by
            rcases List.mem_cons.mp hb with rfl | hb
            · omega
            · have := hsb b hb; omega
          have t128 : ∀ F m' x5, ¬ lf L k = -1 → -4 < lf L k → xc1 x5 = true → pileR (F 25) (k :: stk) → F 3 = f → outR (F 10) (out ++ unl (!behL L k) 32) → TM A rf ts ac (nI (out ++ unl (!behL L k) 32).length) rs dp F m' → XOf A m m' → (∀ k, k ≠ 10 → k ≠ 25 → F k = F0 k) → G w MX5_layLine (xZ w (tLay A m rf ts ac rs dp F0 res) xN) d 0 0 128 [some (.ref (A 0)), some (.ref (A 3)), some (.int (nI (stk.length + 1))), some (.int (nI k)), some (.int (lf L k)), x5, x6] [] m' := by
            intro F m' x5 h3 h4 hx5 hpile hf hout hT hO hF
            rw [if_neg h3, if_pos h4] at hst
            obtain ⟨e1, e2⟩ := Prod.mk.inj (Option.some.inj hst)
            have u1 := ul (!behL L k) 32
            refine g_aload_n dX5_layLine_128 rfl rfl rfl ?_
            refine g_iload dX5_layLine_129 rfl rfl ?_
            refine g_bipush (v := (-2)) dX5_layLine_131 rfl rfl ?_
            refine g_icmp_ne (tgt := 141) dX5_layLine_133 (by decide) rfl (fun c_133 => ?_) (fun c_133 => ?_)
            · refine g_bipush (v := 95) dX5_layLine_141 rfl rfl ?_
              refine g_virtual iV_X5_say q2561 (s_say (d := d - 1) (by omega) (by rw [List.length_append]; omega) hout hT) (Or.inl (tm_o hT)) rfl (by decide) dX5_layLine_143 rfl rfl rfl (by first | exact Nat.le_of_ble_eq_true rfl | simp [Value.category, rf_cat]) (by omega) (by omega) (by omega) xN_no (fun v_143 m_143 h_143 => ?_)
              obtain ⟨rfl, F, hT, hout, hFF, hO2⟩ := h_143
              replace hO := xo_tr hO hO2
              replace hf := (hFF 3 (by decide)).trans hf
              rw [← hFF 25 (by decide)] at hpile
              replace hF := fun k h1 h2 => (hFF k h1).trans (hF k h1 h2)
              refine g_aload_n dX5_layLine_146 rfl rfl rfl ?_
              refine g_aload_n dX5_layLine_147 rfl rfl rfl ?_
              refine g_iload_n dX5_layLine_148 rfl rfl rfl ?_
              refine g_iconst (v := (nI 1)) dX5_layLine_149 rfl rfl ?_
              refine g_iaddn dX5_layLine_150 rfl ?_
              refine g_iconst (v := xB false) dX5_layLine_151 rfl rfl ?_
              refine g_staticP iS_X5_isShort q2565 (p_isShort (d := d - 1) (by omega) (tm_at 3 hT rfl rfl rfl hf) hp hb (by omega)) dX5_layLine_152 rfl rfl rfl (by first | exact Nat.le_of_ble_eq_true rfl | simp [Value.category, rf_cat]) (by omega) xN_no ?_
              refine g_bipush (v := 40) dX5_layLine_155 rfl rfl ?_
              refine g_virtual iV_X5_sayUnless q2568 (s_sayUnless (d := d - 1) (by omega) (by rw [List.length_append, List.length_append]; simp only [List.length_cons, List.length_nil]; omega) hout hT) (Or.inl (tm_o hT)) rfl (by decide) dX5_layLine_157 rfl rfl rfl (by first | exact Nat.le_of_ble_eq_true rfl | simp [Value.category, rf_cat]) (by omega) (by omega) (by omega) xN_no (fun v_157 m_157 h_157 => ?_)
              obtain ⟨rfl, F, hT, hout, hFF, hO2⟩ := h_157
              replace hO := xo_tr hO hO2
              replace hf := (hFF 3 (by decide)).trans hf
              rw [← hFF 25 (by decide)] at hpile
              replace hF := fun k h1 h2 => (hFF k h1).trans (hF k h1 h2)
              refine g_goto (tgt := 318) dX5_layLine_160 (by decide) ?_
              exact next F _ _ (k :: stk) _ _ _ e1 (by rw [← e2]; (first | rw [if_pos (by assumption)] | rw [if_neg (by assumption)]); simp only [List.append_assoc]) hpile (Nat.succ_le_succ hsl) (by show stk.length + 1 ≤ 64; omega) hsb2 hout hT hO hF
            · refine g_bipush (v := 94) dX5_layLine_136 rfl rfl ?_
              refine g_goto (tgt := 143) dX5_layLine_138 (by decide) ?_
              refine g_virtual iV_X5_say q2561 (s_say (d := d - 1) (by omega) (by rw [List.length_append]; omega) hout hT) (Or.inl (tm_o hT)) rfl (by decide) dX5_layLine_143 rfl rfl rfl (by first | exact Nat.le_of_ble_eq_true rfl | simp [Value.category, rf_cat]) (by omega) (by omega) (by omega) xN_no (fun v_143 m_143 h_143 => ?_)
              obtain ⟨rfl, F, hT, hout, hFF, hO2⟩ := h_143
              replace hO := xo_tr hO hO2
              replace hf := (hFF 3 (by decide)).trans hf
              rw [← hFF 25 (by decide)] at hpile
              replace hF := fun k h1 h2 => (hFF k h1).trans (hF k h1 h2)
              refine g_aload_n dX5_layLine_146 rfl rfl rfl ?_
              refine g_aload_n dX5_layLine_147 rfl rfl rfl ?_
              refine g_iload_n dX5_layLine_148 rfl rfl rfl ?_
              refine g_iconst (v := (nI 1)) dX5_layLine_149 rfl rfl ?_
              refine g_iaddn dX5_layLine_150 rfl ?_
              refine g_iconst (v := xB false) dX5_layLine_151 rfl rfl ?_
              refine g_staticP iS_X5_isShort q2565 (p_isShort (d := d - 1) (by omega) (tm_at 3 hT rfl rfl rfl hf) hp hb (by omega)) dX5_layLine_152 rfl rfl rfl (by first | exact Nat.le_of_ble_eq_true rfl | simp [Value.category, rf_cat]) (by omega) xN_no ?_
              refine g_bipush (v := 40) dX5_layLine_155 rfl rfl ?_
              refine g_virtual iV_X5_sayUnless q2568 (s_sayUnless (d := d - 1) (by omega) (by rw [List.length_append, List.length_append]; simp only [List.length_cons, List.length_nil]; omega) hout hT) (Or.inl (tm_o hT)) rfl (by decide) dX5_layLine_157 rfl rfl rfl (by first | exact Nat.le_of_ble_eq_true rfl | simp [Value.category, rf_cat]) (by omega) (by omega) (by omega) xN_no (fun v_157 m_157 h_157 => ?_)
              obtain ⟨rfl, F, hT, hout, hFF, hO2⟩ := h_157
              replace hO := xo_tr hO hO2
              replace hf := (hFF 3 (by decide)).trans hf
              rw [← hFF 25 (by decide)] at hpile
              replace hF := fun k h1 h2 => (hFF k h1).trans (hF k h1 h2)
              refine g_goto (tgt := 318) dX5_layLine_160 (by decide) ?_
              exact next F _ _ (k :: stk) _ _ _ e1 (by rw [← e2]; (first | rw [if_pos (by assumption)] | rw [if_neg (by assumption)]); simp only [List.append_assoc]) hpile (Nat.succ_le_succ hsl) (by show stk.length + 1 ≤ 64; omega) hsb2 hout hT hO hF
          have t110 : ∀ b F m' x5, b = behL L k → ¬ lf L k = -1 → -4 < lf L k → pileR (F 25) (k :: stk) → F 3 = f → outR (F 10) out → TM A rf ts ac (nI out.length) rs dp F m' → XOf A m m' → (∀ k, k ≠ 10 → k ≠ 25 → F k = F0 k) → G w MX5_layLine (xZ w (tLay A m rf ts ac rs dp F0 res) xN) d 0 0 110 [some (.ref (A 0)), some (.ref (A 3)), some (.int (nI (stk.length + 1))), some (.int (nI k)), some (.int (lf L k)), x5, x6] [.int (xB b)] m' := by
            intro b F m' x5 hbb h3 h4 hpile hf hout hT hO hF
            cases b with
            | true =>
              refine g_ist5 dX5_layLine_110 rfl (by decide) (k := ?_)
              refine g_aload_n dX5_layLine_112 rfl rfl rfl ?_
              refine g_iload dX5_layLine_113 rfl rfl ?_
              refine g_ifB_ne (tgt := 122) dX5_layLine_115 (by decide) rfl (fun c_115 => ?_) (fun c_115 => ?_)
              · refine g_iconst (v := xB (!true)) dX5_layLine_122 rfl rfl ?_
                refine g_bipush (v := 32) dX5_layLine_123 rfl rfl ?_
                refine g_virtual iV_X5_sayUnless q2568 (s_sayUnless (d := d - 1) (by omega) (by omega) hout hT) (Or.inl (tm_o hT)) rfl (by decide) dX5_layLine_125 rfl rfl rfl (by first | exact Nat.le_of_ble_eq_true rfl | simp [Value.category, rf_cat]) (by omega) (by omega) (by omega) xN_no (fun v_125 m_125 h_125 => ?_)
                obtain ⟨rfl, F, hT, hout, hFF, hO2⟩ := h_125
                replace hO := xo_tr hO hO2
                replace hf := (hFF 3 (by decide)).trans hf
                rw [← hFF 25 (by decide)] at hpile
                replace hF := fun k h1 h2 => (hFF k h1).trans (hF k h1 h2)
                exact t128 F _ _ h3 h4 rfl hpile hf (by rw [← hbb]; exact hout) (by rw [← hbb]; exact hT) hO hF
              · cases c_115
            | false =>
              refine g_ist5 dX5_layLine_110 rfl (by decide) (k := ?_)
              refine g_aload_n dX5_layLine_112 rfl rfl rfl ?_
              refine g_iload dX5_layLine_113 rfl rfl ?_
              refine g_ifB_ne (tgt := 122) dX5_layLine_115 (by decide) rfl (fun c_115 => ?_) (fun c_115 => ?_)
              · cases c_115
              · refine g_iconst (v := xB (!false)) dX5_layLine_118 rfl rfl ?_
                refine g_goto (tgt := 123) dX5_layLine_119 (by decide) ?_
                refine g_bipush (v := 32) dX5_layLine_123 rfl rfl ?_
                refine g_virtual iV_X5_sayUnless q2568 (s_sayUnless (d := d - 1) (by omega) (by omega) hout hT) (Or.inl (tm_o hT)) rfl (by decide) dX5_layLine_125 rfl rfl rfl (by first | exact Nat.le_of_ble_eq_true rfl | simp [Value.category, rf_cat]) (by omega) (by omega) (by omega) xN_no (fun v_125 m_125 h_125 => ?_)
                obtain ⟨rfl, F, hT, hout, hFF, hO2⟩ := h_125
                replace hO := xo_tr hO hO2
                replace hf := (hFF 3 (by decide)).trans hf
                rw [← hFF 25 (by decide)] at hpile
                replace hF := fun k h1 h2 => (hFF k h1).trans (hF k h1 h2)
                exact t128 F _ _ h3 h4 rfl hpile hf (by rw [← hbb]; exact hout) (by rw [← hbb]; exact hT) hO hF
          refine g_aload_n dX5_layLine_45 rfl rfl rfl ?_
          refine g_get fl_X5_68_X5 dX5_layLine_46 rfl (Or.inl (tm_o hT)) rfl ?_
          refine g_iload_n dX5_layLine_49 rfl rfl rfl ?_
          refine g_iload_n dX5_layLine_50 rfl rfl rfl ?_
          refine t_iastn (k := 25) (N := 64) (f := F 25) hT hO rfl rfl rfl (by first | rfl | assumption) dX5_layLine_51 rfl (by omega) (fun m_51 f_51 e_51 hT hO => ?_)
          replace hpile : pileR (fset F 25 f_51 25) (k :: stk) := by rw [fset_eq, e_51]; exact ⟨upd_eq _ _ _, pileR_upd hpile (Nat.le_refl _)⟩
          replace hout : outR (fset F 25 f_51 10) out := hout
          replace hf : fset F 25 f_51 3 = f := hf
          replace hF : ∀ k, k ≠ 10 → k ≠ 25 → fset F 25 f_51 k = F0 k := fun k h1 h2 => by rw [fset_ne h2]; exact hF k h1 h2
          generalize fset F 25 f_51 = F at hT hpile hout hf hF
          refine g_incn2 dX5_layLine_52 rfl (by decide) (k := ?_)
          refine g_iload dX5_layLine_55 rfl rfl ?_
          refine g_iconst (v := (-1)) dX5_layLine_57 rfl rfl ?_
          refine g_icmp_ne (tgt := 78) dX5_layLine_58 (by decide) rfl (fun c_58 => ?_) (fun c_58 => ?_)
          · refine g_iload dX5_layLine_78 rfl rfl ?_
            refine g_bipush (v := (-4)) dX5_layLine_80 rfl rfl ?_
            refine g_icmp_le (tgt := 163) dX5_layLine_82 (by decide) rfl (fun c_82 => ?_) (fun c_82 => ?_)
            · rw [if_neg c_58, if_neg (Int32.not_lt.mpr c_82)] at hst
              obtain ⟨e1, e2⟩ := Prod.mk.inj (Option.some.inj hst)
              refine g_aload_n dX5_layLine_163 rfl rfl rfl ?_
              refine g_iload dX5_layLine_164 rfl rfl ?_
              refine g_bipush (v := (-5)) dX5_layLine_166 rfl rfl ?_
              refine g_icmp_ne (tgt := 175) dX5_layLine_168 (by decide) rfl (fun c_168 => ?_) (fun c_168 => ?_)
              · refine g_iconst (v := xB false) dX5_layLine_175 rfl rfl ?_
                refine g_bipush (v := 114) dX5_layLine_176 rfl rfl ?_
                refine g_virtual iV_X5_sayUnless q2568 (s_sayUnless (b := false) (d := d - 1) (by omega) (by omega) hout hT) (Or.inl (tm_o hT)) rfl (by decide) dX5_layLine_178 rfl rfl rfl (by first | exact Nat.le_of_ble_eq_true rfl | simp [Value.category, rf_cat]) (by omega) (by omega) (by omega) xN_no (fun v_178 m_178 h_178 => ?_)
                obtain ⟨rfl, F, hT, hout, hFF, hO2⟩ := h_178
                replace hO := xo_tr hO hO2
                replace hf := (hFF 3 (by decide)).trans hf
                rw [← hFF 25 (by decide)] at hpile
                replace hF := fun k h1 h2 => (hFF k h1).trans (hF k h1 h2)
                refine g_aload_n dX5_layLine_181 rfl rfl rfl ?_
                refine g_bipush (v := 40) dX5_layLine_182 rfl rfl ?_
                refine g_virtual iV_X5_say q2561 (s_say (d := d - 1) (by omega) (by rw [List.length_append]; have := ul false 114; omega) hout hT) (Or.inl (tm_o hT)) rfl (by decide) dX5_layLine_184 rfl rfl rfl (by first | exact Nat.le_of_ble_eq_true rfl | simp [Value.category, rf_cat]) (by omega) (by omega) (by omega) xN_no (fun v_184 m_184 h_184 => ?_)
                obtain ⟨rfl, F, hT, hout, hFF, hO2⟩ := h_184
                replace hO := xo_tr hO hO2
                replace hf := (hFF 3 (by decide)).trans hf
                rw [← hFF 25 (by decide)] at hpile
                replace hF := fun k h1 h2 => (hFF k h1).trans (hF k h1 h2)
                refine g_goto (tgt := 318) dX5_layLine_187 (by decide) ?_
                exact next F _ _ (k :: stk) _ _ _ e1 (by rw [← e2]; (first | rw [decide_eq_true (by assumption)] | rw [decide_eq_false (by assumption)]); simp only [List.append_assoc]) hpile (Nat.succ_le_succ hsl) (by show stk.length + 1 ≤ 64; omega) hsb2 hout hT hO hF
              · refine g_iconst (v := xB true) dX5_layLine_171 rfl rfl ?_
                refine g_goto (tgt := 176) dX5_layLine_172 (by decide) ?_
                refine g_bipush (v := 114) dX5_layLine_176 rfl rfl ?_
                refine g_virtual iV_X5_sayUnless q2568 (s_sayUnless (b := true) (d := d - 1) (by omega) (by omega) hout hT) (Or.inl (tm_o hT)) rfl (by decide) dX5_layLine_178 rfl rfl rfl (by first | exact Nat.le_of_ble_eq_true rfl | simp [Value.category, rf_cat]) (by omega) (by omega) (by omega) xN_no (fun v_178 m_178 h_178 => ?_)
                obtain ⟨rfl, F, hT, hout, hFF, hO2⟩ := h_178
                replace hO := xo_tr hO hO2
                replace hf := (hFF 3 (by decide)).trans hf
                rw [← hFF 25 (by decide)] at hpile
                replace hF := fun k h1 h2 => (hFF k h1).trans (hF k h1 h2)
                refine g_aload_n dX5_layLine_181 rfl rfl rfl ?_
                refine g_bipush (v := 40) dX5_layLine_182 rfl rfl ?_
                refine g_virtual iV_X5_say q2561 (s_say (d := d - 1) (by omega) (by rw [List.length_append]; have := ul true 114; omega) hout hT) (Or.inl (tm_o hT)) rfl (by decide) dX5_layLine_184 rfl rfl rfl (by first | exact Nat.le_of_ble_eq_true rfl | simp [Value.category, rf_cat]) (by omega) (by omega) (by omega) xN_no (fun v_184 m_184 h_184 => ?_)
                obtain ⟨rfl, F, hT, hout, hFF, hO2⟩ := h_184
                replace hO := xo_tr hO hO2
                replace hf := (hFF 3 (by decide)).trans hf
                rw [← hFF 25 (by decide)] at hpile
                replace hF := fun k h1 h2 => (hFF k h1).trans (hF k h1 h2)
                refine g_goto (tgt := 318) dX5_layLine_187 (by decide) ?_
                exact next F _ _ (k :: stk) _ _ _ e1 (by rw [← e2]; (first | rw [decide_eq_true (by assumption)] | rw [decide_eq_false (by assumption)]); simp only [List.append_assoc]) hpile (Nat.succ_le_succ hsl) (by show stk.length + 1 ≤ 64; omega) hsb2 hout hT hO hF
            · refine g_iload_n dX5_layLine_85 rfl rfl rfl ?_
              refine g_aload_n dX5_layLine_86 rfl rfl rfl ?_
              refine g_iload_n dX5_layLine_87 rfl rfl rfl ?_
              refine g_staticP iS_X5_rowStart q2530 (p_rowStart (d := d - 1) (by omega) (tm_at 3 hT rfl rfl rfl hf) hp (by omega)) dX5_layLine_88 rfl rfl rfl (by first | exact Nat.le_of_ble_eq_true rfl | simp [Value.category, rf_cat]) (by omega) xN_no ?_
              refine g_icmpn_le (tgt := 109) dX5_layLine_91 (by decide) rfl (by omega) (by have := hrs k; omega) (fun c_91 => ?_) (fun c_91 => ?_)
              · exact (by
                refine g_iconst (v := xB false) dX5_layLine_109 rfl rfl ?_
                exact t110 false F _ _ (by unfold behL; rw [decide_eq_false (fun h => by first | omega | exact absurd h.2 (by assumption))]) c_58 (Int32.not_le.mp c_82) hpile hf hout hT hO hF)
              · refine g_aload_n dX5_layLine_94 rfl rfl rfl ?_
                refine g_aload_n dX5_layLine_95 rfl rfl rfl ?_
                refine g_iload_n dX5_layLine_96 rfl rfl rfl ?_
                refine g_staticP iS_X5_itemStart q2572 (p_itemStart (d := d - 1) (by omega) (tm_at 3 hT rfl rfl rfl hf) hp hb (by omega) (by omega)) dX5_layLine_97 rfl rfl rfl (by first | exact Nat.le_of_ble_eq_true rfl | simp [Value.category, rf_cat]) (by omega) xN_no ?_
                have his := itemStart_lt L k (by omega)
                refine t_ialdn (k := 3) (N := 184) (f := f) hT rfl rfl rfl (by first | rfl | assumption) dX5_layLine_100 rfl (by omega) ?_
                rw [hp.1 _ (by omega)]
                refine g_iconst (v := (-1)) dX5_layLine_101 rfl rfl ?_
                refine g_icmp_ne (tgt := 109) dX5_layLine_102 (by decide) rfl (fun c_102 => ?_) (fun c_102 => ?_)
                · exact (by
                  refine g_iconst (v := xB false) dX5_layLine_109 rfl rfl ?_
                  exact t110 false F _ _ (by unfold behL; rw [decide_eq_false (fun h => by first | omega | exact absurd h.2 (by assumption))]) c_58 (Int32.not_le.mp c_82) hpile hf hout hT hO hF)
                · exact (by
                  refine g_iconst (v := xB true) dX5_layLine_105 rfl rfl ?_
                  refine g_goto (tgt := 110) dX5_layLine_106 (by decide) ?_
                  exact t110 true F _ _ (by unfold behL; rw [decide_eq_true ⟨by omega, by assumption⟩]) c_58 (Int32.not_le.mp c_82) hpile hf hout hT hO hF)
          · refine g_aload_n dX5_layLine_61 rfl rfl rfl ?_
            refine g_aload_n dX5_layLine_62 rfl rfl rfl ?_
            refine g_iload_n dX5_layLine_63 rfl rfl rfl ?_
            refine g_iconst (v := (nI 1)) dX5_layLine_64 rfl rfl ?_
            refine g_iaddn dX5_layLine_65 rfl ?_
            refine g_iconst (v := xB true) dX5_layLine_66 rfl rfl ?_
            refine g_staticP iS_X5_isShort q2565 (p_isShort (d := d - 1) (by omega) (tm_at 3 hT rfl rfl rfl hf) hp hb (by omega)) dX5_layLine_67 rfl rfl rfl (by first | exact Nat.le_of_ble_eq_true rfl | simp [Value.category, rf_cat]) (by omega) xN_no ?_
            refine g_bipush (v := 40) dX5_layLine_70 rfl rfl ?_
            refine g_virtual iV_X5_sayUnless q2568 (s_sayUnless (d := d - 1) (by omega) (by omega) hout hT) (Or.inl (tm_o hT)) rfl (by decide) dX5_layLine_72 rfl rfl rfl (by first | exact Nat.le_of_ble_eq_true rfl | simp [Value.category, rf_cat]) (by omega) (by omega) (by omega) xN_no (fun v_72 m_72 h_72 => ?_)
            obtain ⟨rfl, F, hT, hout, hFF, hO2⟩ := h_72
            replace hO := xo_tr hO hO2
            replace hf := (hFF 3 (by decide)).trans hf
            rw [← hFF 25 (by decide)] at hpile
            replace hF := fun k h1 h2 => (hFF k h1).trans (hF k h1 h2)
            rw [if_pos c_58] at hst
            obtain ⟨e1, e2⟩ := Prod.mk.inj (Option.some.inj hst)
            exact g_goto (tgt := 318) dX5_layLine_75 (by decide) (next F _ _ (k :: stk) _ _ _ e1 (by rw [← e2]) hpile (Nat.succ_le_succ hsl) (by show stk.length + 1 ≤ 64; omega) hsb2 hout hT hO hF)
            skip
        refine g_iload dX5_layLine_23 rfl rfl ?_
        refine g_if_le (tgt := 37) dX5_layLine_25 (by decide) rfl (fun c_25 => ?_) (fun c_25 => ?_)
        · refine g_iload dX5_layLine_37 rfl rfl ?_
          refine g_staticP iS_X5_isBegin q2511 (c_isBegin (d := d - 1) (by omega) _) dX5_layLine_39 rfl rfl rfl (by first | exact Nat.le_of_ble_eq_true rfl | simp [Value.category, rf_cat]) (by omega) xN_no ?_
          refine g_ifB_eq (tgt := 190) dX5_layLine_42 (by decide) rfl (fun c_42 => ?_) (fun c_42 => ?_)
          · refine g_iload dX5_layLine_190 rfl rfl ?_
            refine g_bipush (v := (-10)) dX5_layLine_192 rfl rfl ?_
            refine g_icmp_ne (tgt := 241) dX5_layLine_194 (by decide) rfl (fun c_194 => ?_) (fun c_194 => ?_)
            · exact (by
              cases es : stk with
              | nil =>
                rw [es] at hst
                unfold layS at hst
                rw [if_neg (Int32.not_lt.mpr c_25), if_neg (by rw [c_42]; decide)] at hst
                cases hst
              | cons b r =>
                refine g_incm2 dX5_layLine_241 rfl (by decide) (k := ?_)
                rw [show (b :: r).length = r.length + 1 from rfl, nI_p1]
                exact fe b r es (Int32.not_lt.mpr c_25) c_42 c_194)
            · exact (by
              cases es : stk with
              | nil =>
                rw [es] at hst
                unfold layS at hst
                rw [if_neg (Int32.not_lt.mpr c_25), if_neg (by rw [c_42]; decide)] at hst
                cases hst
              | cons b r => exact be b r es (Int32.not_lt.mpr c_25) c_42 c_194)
          · exact pe (Int32.not_lt.mpr c_25) c_42
        · unfold layS at hst
          rw [if_pos (Int32.not_le.mp c_25)] at hst
          obtain ⟨e1, e2⟩ := Prod.mk.inj (Option.some.inj hst)
          refine g_aload_n dX5_layLine_28 rfl rfl rfl ?_
          refine g_iload dX5_layLine_29 rfl rfl ?_
          refine g_virtual iV_X5_say q2561 (s_say (d := d - 1) (by omega) (by omega) hout hT) (Or.inl (tm_o hT)) rfl (by decide) dX5_layLine_31 rfl rfl rfl (by first | exact Nat.le_of_ble_eq_true rfl | simp [Value.category, rf_cat]) (by omega) (by omega) (by omega) xN_no (fun v_31 m_31 h_31 => ?_)
          obtain ⟨rfl, F, hT, hout, hFF, hO2⟩ := h_31
          replace hO := xo_tr hO hO2
          replace hf := (hFF 3 (by decide)).trans hf
          rw [← hFF 25 (by decide)] at hpile
          replace hF := fun k h1 h2 => (hFF k h1).trans (hF k h1 h2)
          refine g_goto (tgt := 318) dX5_layLine_34 (by decide) ?_
          exact next F _ _ stk _ _ _ e1 (by rw [← e2]) hpile (by omega) hs64 (fun b hb => Nat.lt_succ_of_lt (hsb b hb)) hout hT hO hF
      refine g_iload_n dX5_layLine_9 rfl rfl rfl ?_
      refine g_aload_n dX5_layLine_10 rfl rfl rfl ?_
      refine g_sipush (v := (nI 180)) dX5_layLine_11 rfl rfl ?_
      refine t_ialdn (k := 3) (N := 184) (f := f) hT rfl rfl rfl (by first | rfl | assumption) dX5_layLine_14 rfl (by omega) ?_
      rw [h3_180]
      refine g_icmpn_ge (tgt := 324) dX5_layLine_15 (by decide) rfl (by omega) (by omega) (fun c_15 => ?_) (fun c_15 => ?_)
      · refine g_return dX5_layLine_324 rfl ?_
        rw [layF, if_neg (by omega)] at he
        cases he
        exact ⟨rfl, F, hT, hout, hF, hO⟩
      · refine g_aload_n dX5_layLine_18 rfl rfl rfl ?_
        refine g_iload_n dX5_layLine_19 rfl rfl rfl ?_
        refine t_ialdn (k := 3) (N := 184) (f := f) hT rfl rfl rfl (by first | rfl | assumption) dX5_layLine_20 rfl (by omega) ?_
        rw [hfk c_15]
        refine g_ist4 dX5_layLine_21 rfl (by decide) (k := ?_)
        exact (by
        rw [layF, if_pos c_15] at he
        cases hst : layS L k stk with
        | none => rw [hst] at he; cases he
        | some z => rw [hst] at he; exact body z.1 z.2 c_15 hst he)
  have hO := xo_rf A m
  refine ct_intro (lv := [some (.ref (A 0)), some (.ref (A 3)), none, none, none, none, none]) 5 (by decide) rfl (Nat.le_of_ble_eq_true rfl) rfl ?_
  refine g_aload_n dX5_layLine_0 rfl rfl rfl ?_
  refine g_iconst (v := (nI 0)) dX5_layLine_1 rfl rfl ?_
  refine t_put11 hT hO fl_X5_193_X5 dX5_layLine_2 rfl (fun m_2 hT hO => ?_)
  refine g_iconst (v := (nI 0)) dX5_layLine_5 rfl rfl ?_
  refine g_ist2 dX5_layLine_6 rfl (by decide) (k := ?_)
  refine g_iconst (v := (nI 0)) dX5_layLine_7 rfl rfl ?_
  refine g_ist3 dX5_layLine_8 rfl (by decide) (k := ?_)
  exact loop (L.length + 1) 0 [] [] F _ _ _ _ (by omega) (by omega) (Nat.le_refl _) trivial (Nat.le_refl _) (Nat.zero_le _) (fun b hb => by cases hb) (fun j hj => absurd hj (Nat.not_lt_zero _)) hT hO (fun k _ _ => by rw [eF0]) hl
theorem t_lay4 {f : Nat → Int32} {L res : List Int32} (hd : 5 ≤ d) (hT : TM A rf ts ac ls rs dp F m) (hf : F 4 = f) (hp : Pl f L) (hb : Bal L) (hl : layF L 0 [] [] = some res) : CT w MX5_layLine d 0 0 [.ref (A 0), .ref (A 4)] m (tLay A m rf ts ac rs dp F res) xN := by
  have hlen := hp.2.2
  have hre := fun g (h : g ≤ L.length) => (show g ≤ rowEndL L g ∧ rowEndL L g ≤ L.length from rowEnd_le (lf L) L.length 0 g h)
  have hrs := fun g => (show rowStartL L g ≤ g from rowStart_le (lf L) 0 g)
  have h4_180 : f 180 = nI L.length := hp.2.1
  have hf0 := hf
  obtain ⟨F0, eF0⟩ : ∃ F0, F0 = F := ⟨_, rfl⟩
  rw [← eF0]
  have loop : ∀ t k stk out F m' x4 x5 x6, L.length - k < t → k ≤ L.length → out.length ≤ 3 * k → pileR (F 25) stk → stk.length ≤ k → stk.length ≤ 64 → (∀ b, b ∈ stk → b < k) → outR (F 10) out → TM A rf ts ac (nI out.length) rs dp F m' → XOf A m m' → (∀ k, k ≠ 10 → k ≠ 25 → F k = F0 k) → layF L k stk out = some res → G w MX5_layLine (xZ w (tLay A m rf ts ac rs dp F0 res) xN) d 0 0 9 [some (.ref (A 0)), some (.ref (A 4)), some (.int (nI stk.length)), some (.int (nI k)), x4, x5, x6] [] m' := by
    intro t
    induction t with
    | zero => intro k stk out F m' x4 x5 x6 h; omega
    | succ t ih =>
      intro k stk out F m' x4 x5 x6 h hk hol hpile hsl hs64 hsb hout hT hO hF he
      have hf : F 4 = f := (hF 4 (by decide) (by decide)).trans (eF0 ▸ hf0)
      have hfk : k < L.length → f k = lf L k := fun h => hp.1 k h
      have body : ∀ s2 o2, k < L.length → layS L k stk = some (s2, o2) → layF L (k + 1) s2 (out ++ o2) = some res → G w MX5_layLine (xZ w (tLay A m rf ts ac rs dp F0 res) xN) d 0 0 23 [some (.ref (A 0)), some (.ref (A 4)), some (.int (nI stk.length)), some (.int (nI k)), some (.int (lf L k)), x5, x6] [] m' := by
        intro s2 o2 hkl hst he2
        have hl3 := layS_len hst
        have next : ∀ F m' out' stk' x4 x5 x6, stk' = s2 → out' = out ++ o2 → pileR (F 25) stk' → stk'.length ≤ k + 1 → stk'.length ≤ 64 → (∀ b, b ∈ stk' → b < k + 1) → outR (F 10) out' → TM A rf ts ac (nI out'.length) rs dp F m' → XOf A m m' → (∀ k, k ≠ 10 → k ≠ 25 → F k = F0 k) → G w MX5_layLine (xZ w (tLay A m rf ts ac rs dp F0 res) xN) d 0 0 318 [some (.ref (A 0)), some (.ref (A 4)), some (.int (nI stk'.length)), some (.int (nI k)), x4, x5, x6] [] m' := by
          intro F m' out' stk' x4 x5 x6 e1 e2 hpile hsl hs64 hsb hout hT hO hF
          subst e1
          subst e2
          refine g_incn3 dX5_layLine_318 rfl (by decide) (k := ?_)
          refine g_goto (tgt := 9) dX5_layLine_321 (by decide) ?_
          exact ih (k + 1) _ _ _ _ _ _ _ (by omega) (by omega) (by rw [List.length_append]; omega) hpile hsl hs64 hsb hout hT hO hF he2
        have fe : ∀ b r, stk = b :: r → ¬ 0 < lf L k → isBg (lf L k) = false → ¬ lf L k = -10 → G w MX5_layLine (xZ w (tLay A m rf ts ac rs dp F0 res) xN) d 0 0 244 [some (.ref (A 0)), some (.ref (A 4)), some (.int (nI r.length)), some (.int (nI k)), some (.int (lf L k)), x5, x6] [] m' := by
          intro b r es h1 h2 h3
          subst es
          unfold layS at hst
          rw [if_neg h1, if_neg (by rw [h2]; decide)] at hst
          simp only [if_neg h3] at hst
          obtain ⟨e1, e2⟩ := Prod.mk.inj (Option.some.inj hst)
          subst e1
          subst e2
          have hbk := hsb b List.mem_cons_self
          have hsl2 : r.length + 1 ≤ k := hsl
          have hs65 : r.length + 1 ≤ 64 := hs64
          have t308 : ∀ bb x5, bb = barL L k b → xc1 x5 = true → G w MX5_layLine (xZ w (tLay A m rf ts ac rs dp F0 res) xN) d 0 0 308 [some (.ref (A 0)), some (.ref (A 4)), some (.int (nI r.length)), some (.int (nI k)), some (.int (lf L k)), x5, x6] [.int (xB bb)] m' := by
            intro bb x5 hbb hx5
            refine g_ist6 dX5_layLine_308 rfl (by decide) (k := ?_)
            refine g_aload_n dX5_layLine_310 rfl rfl rfl ?_
            refine g_iload dX5_layLine_311 rfl rfl ?_
            refine g_bipush (v := 41) dX5_layLine_313 rfl rfl ?_
            refine g_virtual iV_X5_sayUnless q2568 (s_sayUnless (d := d - 1) (by omega) (by omega) hout hT) (Or.inl (tm_o hT)) rfl (by decide) dX5_layLine_315 rfl rfl rfl (by first | exact Nat.le_of_ble_eq_true rfl | simp [Value.category, rf_cat]) (by omega) (by omega) (by omega) xN_no (fun v_315 m_315 h_315 => ?_)
            obtain ⟨rfl, F, hT, hout, hFF, hO2⟩ := h_315
            replace hO := xo_tr hO hO2
            replace hf := (hFF 4 (by decide)).trans hf
            rw [← hFF 25 (by decide)] at hpile
            replace hF := fun k h1 h2 => (hFF k h1).trans (hF k h1 h2)
            exact next F _ _ r _ _ _ rfl (by rw [hbb]) hpile.2 (by omega) (by omega) (fun b hb => Nat.lt_succ_of_lt (hsb b (List.mem_cons_of_mem _ hb))) hout hT hO hF
          refine g_aload_n dX5_layLine_244 rfl rfl rfl ?_
          refine g_aload_n dX5_layLine_245 rfl rfl rfl ?_
          refine g_get fl_X5_68_X5 dX5_layLine_246 rfl (Or.inl (tm_o hT)) rfl ?_
          refine g_iload_n dX5_layLine_249 rfl rfl rfl ?_
          refine t_ialdn (k := 25) (N := 64) (f := F 25) hT rfl rfl rfl rfl dX5_layLine_250 rfl (by omega) ?_
          rw [hpile.1]
          refine t_ialdn (k := 4) (N := 184) (f := f) hT rfl rfl rfl (by first | rfl | assumption) dX5_layLine_251 rfl (by omega) ?_
          rw [hp.1 b (by omega)]
          refine g_ist5 dX5_layLine_252 rfl (by decide) (k := ?_)
          refine g_iload dX5_layLine_254 rfl rfl ?_
          refine g_iconst (v := (-1)) dX5_layLine_256 rfl rfl ?_
          refine g_icmp_ne (tgt := 273) dX5_layLine_257 (by decide) rfl (fun c_257 => ?_) (fun c_257 => ?_)
          · refine g_iload dX5_layLine_273 rfl rfl ?_
            refine g_bipush (v := (-2)) dX5_layLine_275 rfl rfl ?_
            refine g_icmp_eq (tgt := 287) dX5_layLine_277 (by decide) rfl (fun c_277 => ?_) (fun c_277 => ?_)
            · refine g_aload_n dX5_layLine_287 rfl rfl rfl ?_
              refine g_aload_n dX5_layLine_288 rfl rfl rfl ?_
              refine g_get fl_X5_68_X5 dX5_layLine_289 rfl (Or.inl (tm_o hT)) rfl ?_
              refine g_iload_n dX5_layLine_292 rfl rfl rfl ?_
              refine t_ialdn (k := 25) (N := 64) (f := F 25) hT rfl rfl rfl rfl dX5_layLine_293 rfl (by omega) ?_
              rw [hpile.1]
              refine g_iconst (v := (nI 1)) dX5_layLine_294 rfl rfl ?_
              refine g_iaddn dX5_layLine_295 rfl ?_
              refine g_iconst (v := xB false) dX5_layLine_296 rfl rfl ?_
              refine g_staticP iS_X5_isShort q2565 (p_isShort (d := d - 1) (by omega) (tm_at 4 hT rfl rfl rfl hf) hp hb (by omega)) dX5_layLine_297 rfl rfl rfl (by first | exact Nat.le_of_ble_eq_true rfl | simp [Value.category, rf_cat]) (by omega) xN_no ?_
              refine g_ifB_eq (tgt := 307) dX5_layLine_300 (by decide) rfl (fun c_300 => ?_) (fun c_300 => ?_)
              · exact (by
                refine g_iconst (v := nI 0) dX5_layLine_307 rfl rfl ?_
                exact t308 false _ (by
                  unfold barL
                  rw [if_neg (by assumption)]
                  first | rw [(by assumption : isSh L (b + 1) false = false), Bool.and_false] | (rw [decide_eq_false (by assumption), decide_eq_false (by assumption)]; rfl)) rfl)
              · exact (by
                refine g_iconst (v := nI 1) dX5_layLine_303 rfl rfl ?_
                refine g_goto (tgt := 308) dX5_layLine_304 (by decide) ?_
                exact t308 true _ (by
                  unfold barL
                  rw [if_neg (by assumption), (by assumption : isSh L (b + 1) false = true), Bool.and_true]
                  first | (rw [decide_eq_true (by assumption)]; rfl) | (rw [decide_eq_true (show lf L b = -3 by assumption), Bool.or_true])) rfl)
            · refine g_iload dX5_layLine_280 rfl rfl ?_
              refine g_bipush (v := (-3)) dX5_layLine_282 rfl rfl ?_
              refine g_icmp_ne (tgt := 307) dX5_layLine_284 (by decide) rfl (fun c_284 => ?_) (fun c_284 => ?_)
              · exact (by
                refine g_iconst (v := nI 0) dX5_layLine_307 rfl rfl ?_
                exact t308 false _ (by
                  unfold barL
                  rw [if_neg (by assumption)]
                  first | rw [(by assumption : isSh L (b + 1) false = false), Bool.and_false] | (rw [decide_eq_false (by assumption), decide_eq_false (by assumption)]; rfl)) rfl)
              · refine g_aload_n dX5_layLine_287 rfl rfl rfl ?_
                refine g_aload_n dX5_layLine_288 rfl rfl rfl ?_
                refine g_get fl_X5_68_X5 dX5_layLine_289 rfl (Or.inl (tm_o hT)) rfl ?_
                refine g_iload_n dX5_layLine_292 rfl rfl rfl ?_
                refine t_ialdn (k := 25) (N := 64) (f := F 25) hT rfl rfl rfl rfl dX5_layLine_293 rfl (by omega) ?_
                rw [hpile.1]
                refine g_iconst (v := (nI 1)) dX5_layLine_294 rfl rfl ?_
                refine g_iaddn dX5_layLine_295 rfl ?_
                refine g_iconst (v := xB false) dX5_layLine_296 rfl rfl ?_
                refine g_staticP iS_X5_isShort q2565 (p_isShort (d := d - 1) (by omega) (tm_at 4 hT rfl rfl rfl hf) hp hb (by omega)) dX5_layLine_297 rfl rfl rfl (by first | exact Nat.le_of_ble_eq_true rfl | simp [Value.category, rf_cat]) (by omega) xN_no ?_
                refine g_ifB_eq (tgt := 307) dX5_layLine_300 (by decide) rfl (fun c_300 => ?_) (fun c_300 => ?_)
                · exact (by
                  refine g_iconst (v := nI 0) dX5_layLine_307 rfl rfl ?_
                  exact t308 false _ (by
                    unfold barL
                    rw [if_neg (by assumption)]
                    first | rw [(by assumption : isSh L (b + 1) false = false), Bool.and_false] | (rw [decide_eq_false (by assumption), decide_eq_false (by assumption)]; rfl)) rfl)
                · exact (by
                  refine g_iconst (v := nI 1) dX5_layLine_303 rfl rfl ?_
                  refine g_goto (tgt := 308) dX5_layLine_304 (by decide) ?_
                  exact t308 true _ (by
                    unfold barL
                    rw [if_neg (by assumption), (by assumption : isSh L (b + 1) false = true), Bool.and_true]
                    first | (rw [decide_eq_true (by assumption)]; rfl) | (rw [decide_eq_true (show lf L b = -3 by assumption), Bool.or_true])) rfl)
          · refine g_aload_n dX5_layLine_260 rfl rfl rfl ?_
            refine g_aload_n dX5_layLine_261 rfl rfl rfl ?_
            refine g_iload_n dX5_layLine_262 rfl rfl rfl ?_
            refine g_staticP iS_X5_rowStart q2530 (p_rowStart (d := d - 1) (by omega) (tm_at 4 hT rfl rfl rfl hf) hp (by omega)) dX5_layLine_263 rfl rfl rfl (by first | exact Nat.le_of_ble_eq_true rfl | simp [Value.category, rf_cat]) (by omega) xN_no ?_
            refine g_iconst (v := xB true) dX5_layLine_266 rfl rfl ?_
            refine g_staticP iS_X5_isShort q2565 (p_isShort (d := d - 1) (by omega) (tm_at 4 hT rfl rfl rfl hf) hp hb (Nat.le_trans (hrs k) (by omega))) dX5_layLine_267 rfl rfl rfl (by first | exact Nat.le_of_ble_eq_true rfl | simp [Value.category, rf_cat]) (by omega) xN_no ?_
            refine g_goto (tgt := 308) dX5_layLine_270 (by decide) ?_
            exact t308 _ _ (by unfold barL; rw [if_pos (by assumption)]) rfl
        have be : ∀ b r, stk = b :: r → ¬ 0 < lf L k → isBg (lf L k) = false → lf L k = -10 → G w MX5_layLine (xZ w (tLay A m rf ts ac rs dp F0 res) xN) d 0 0 197 [some (.ref (A 0)), some (.ref (A 4)), some (.int (nI (b :: r).length)), some (.int (nI k)), some (.int (lf L k)), x5, x6] [] m' := by
          intro b r es h1 h2 h3
          subst es
          unfold layS at hst
          rw [if_neg h1, if_neg (by rw [h2]; decide)] at hst
          simp only [if_pos h3] at hst
          obtain ⟨e1, e2⟩ := Prod.mk.inj (Option.some.inj hst)
          have hbk := hsb b List.mem_cons_self
          have hsl2 : r.length + 1 ≤ k := hsl
          have hs65 : r.length + 1 ≤ 64 := hs64
          have ul := unl_len
          have hst := hst
          refine g_aload_n dX5_layLine_197 rfl rfl rfl ?_
          refine g_aload_n dX5_layLine_198 rfl rfl rfl ?_
          refine g_aload_n dX5_layLine_199 rfl rfl rfl ?_
          refine g_get fl_X5_68_X5 dX5_layLine_200 rfl (Or.inl (tm_o hT)) rfl ?_
          refine g_iload_n dX5_layLine_203 rfl rfl rfl ?_
          refine g_iconst (v := (nI 1)) dX5_layLine_204 rfl rfl ?_
          refine g_isubn dX5_layLine_205 rfl (Nat.succ_le_succ (Nat.zero_le _)) ?_
          refine t_ialdn (k := 25) (N := 64) (f := F 25) (j := r.length) hT rfl rfl rfl rfl dX5_layLine_206 rfl (by omega) ?_
          rw [hpile.1]
          refine g_iconst (v := (nI 1)) dX5_layLine_207 rfl rfl ?_
          refine g_iaddn dX5_layLine_208 rfl ?_
          refine g_iconst (v := xB true) dX5_layLine_209 rfl rfl ?_
          refine g_staticP iS_X5_isShort q2565 (p_isShort (d := d - 1) (by omega) (tm_at 4 hT rfl rfl rfl hf) hp hb (by omega)) dX5_layLine_210 rfl rfl rfl (by first | exact Nat.le_of_ble_eq_true rfl | simp [Value.category, rf_cat]) (by omega) xN_no ?_
          refine g_bipush (v := 41) dX5_layLine_213 rfl rfl ?_
          refine g_virtual iV_X5_sayUnless q2568 (s_sayUnless (d := d - 1) (by omega) (by omega) hout hT) (Or.inl (tm_o hT)) rfl (by decide) dX5_layLine_215 rfl rfl rfl (by first | exact Nat.le_of_ble_eq_true rfl | simp [Value.category, rf_cat]) (by omega) (by omega) (by omega) xN_no (fun v_215 m_215 h_215 => ?_)
          obtain ⟨rfl, F, hT, hout, hFF, hO2⟩ := h_215
          replace hO := xo_tr hO hO2
          replace hf := (hFF 4 (by decide)).trans hf
          rw [← hFF 25 (by decide)] at hpile
          replace hF := fun k h1 h2 => (hFF k h1).trans (hF k h1 h2)
          refine g_aload_n dX5_layLine_218 rfl rfl rfl ?_
          refine g_bipush (v := 47) dX5_layLine_219 rfl rfl ?_
          refine g_virtual iV_X5_say q2561 (s_say (d := d - 1) (by omega) (by rw [List.length_append]; have := ul (isSh L (b + 1) true) 41; omega) hout hT) (Or.inl (tm_o hT)) rfl (by decide) dX5_layLine_221 rfl rfl rfl (by first | exact Nat.le_of_ble_eq_true rfl | simp [Value.category, rf_cat]) (by omega) (by omega) (by omega) xN_no (fun v_221 m_221 h_221 => ?_)
          obtain ⟨rfl, F, hT, hout, hFF, hO2⟩ := h_221
          replace hO := xo_tr hO hO2
          replace hf := (hFF 4 (by decide)).trans hf
          rw [← hFF 25 (by decide)] at hpile
          replace hF := fun k h1 h2 => (hFF k h1).trans (hF k h1 h2)
          refine g_aload_n dX5_layLine_224 rfl rfl rfl ?_
          refine g_aload_n dX5_layLine_225 rfl rfl rfl ?_
          refine g_iload_n dX5_layLine_226 rfl rfl rfl ?_
          refine g_iconst (v := (nI 1)) dX5_layLine_227 rfl rfl ?_
          refine g_iaddn dX5_layLine_228 rfl ?_
          refine g_iconst (v := xB true) dX5_layLine_229 rfl rfl ?_
          refine g_staticP iS_X5_isShort q2565 (p_isShort (d := d - 1) (by omega) (tm_at 4 hT rfl rfl rfl hf) hp hb (by omega)) dX5_layLine_230 rfl rfl rfl (by first | exact Nat.le_of_ble_eq_true rfl | simp [Value.category, rf_cat]) (by omega) xN_no ?_
          refine g_bipush (v := 40) dX5_layLine_233 rfl rfl ?_
          refine g_virtual iV_X5_sayUnless q2568 (s_sayUnless (d := d - 1) (by omega) (by rw [List.length_append, List.length_append]; have := ul (isSh L (b + 1) true) 41; simp only [List.length_cons, List.length_nil]; omega) hout hT) (Or.inl (tm_o hT)) rfl (by decide) dX5_layLine_235 rfl rfl rfl (by first | exact Nat.le_of_ble_eq_true rfl | simp [Value.category, rf_cat]) (by omega) (by omega) (by omega) xN_no (fun v_235 m_235 h_235 => ?_)
          obtain ⟨rfl, F, hT, hout, hFF, hO2⟩ := h_235
          replace hO := xo_tr hO hO2
          replace hf := (hFF 4 (by decide)).trans hf
          rw [← hFF 25 (by decide)] at hpile
          replace hF := fun k h1 h2 => (hFF k h1).trans (hF k h1 h2)
          refine g_goto (tgt := 318) dX5_layLine_238 (by decide) ?_
          exact next F _ _ (b :: r) _ _ _ e1 (by rw [← e2]; simp only [List.append_assoc]) hpile (Nat.le_succ_of_le hsl) hs64 (fun b hb => Nat.lt_succ_of_lt (hsb b hb)) hout hT hO hF
        have pe : ¬ 0 < lf L k → isBg (lf L k) = true → G w MX5_layLine (xZ w (tLay A m rf ts ac rs dp F0 res) xN) d 0 0 45 [some (.ref (A 0)), some (.ref (A 4)), some (.int (nI stk.length)), some (.int (nI k)), some (.int (lf L k)), x5, x6] [] m' := by
          intro h1 h2
          unfold layS at hst
          rw [if_neg h1, if_pos h2] at hst
          by_cases h64 : 64 ≤ stk.length
          · rw [if_pos h64] at hst; cases hst
          rw [if_neg h64] at hst
          have ul := unl_len
          have hsb2 : ∀ b, b ∈ k :: stk → b < k + 1 := fun b hb => by
            rcases List.mem_cons.mp hb with rfl | hb
            · omega
            · have := hsb b hb; omega
          have t128 : ∀ F m' x5, ¬ lf L k = -1 → -4 < lf L k → xc1 x5 = true → pileR (F 25) (k :: stk) → F 4 = f → outR (F 10) (out ++ unl (!behL L k) 32) → TM A rf ts ac (nI (out ++ unl (!behL L k) 32).length) rs dp F m' → XOf A m m' → (∀ k, k ≠ 10 → k ≠ 25 → F k = F0 k) → G w MX5_layLine (xZ w (tLay A m rf ts ac rs dp F0 res) xN) d 0 0 128 [some (.ref (A 0)), some (.ref (A 4)), some (.int (nI (stk.length + 1))), some (.int (nI k)), some (.int (lf L k)), x5, x6] [] m' := by
            intro F m' x5 h3 h4 hx5 hpile hf hout hT hO hF
            rw [if_neg h3, if_pos h4] at hst
            obtain ⟨e1, e2⟩ := Prod.mk.inj (Option.some.inj hst)
            have u1 := ul (!behL L k) 32
            refine g_aload_n dX5_layLine_128 rfl rfl rfl ?_
            refine g_iload dX5_layLine_129 rfl rfl ?_
            refine g_bipush (v := (-2)) dX5_layLine_131 rfl rfl ?_
            refine g_icmp_ne (tgt := 141) dX5_layLine_133 (by decide) rfl (fun c_133 => ?_) (fun c_133 => ?_)
            · refine g_bipush (v := 95) dX5_layLine_141 rfl rfl ?_
              refine g_virtual iV_X5_say q2561 (s_say (d := d - 1) (by omega) (by rw [List.length_append]; omega) hout hT) (Or.inl (tm_o hT)) rfl (by decide) dX5_layLine_143 rfl rfl rfl (by first | exact Nat.le_of_ble_eq_true rfl | simp [Value.category, rf_cat]) (by omega) (by omega) (by omega) xN_no (fun v_143 m_143 h_143 => ?_)
              obtain ⟨rfl, F, hT, hout, hFF, hO2⟩ := h_143
              replace hO := xo_tr hO hO2
              replace hf := (hFF 4 (by decide)).trans hf
              rw [← hFF 25 (by decide)] at hpile
              replace hF := fun k h1 h2 => (hFF k h1).trans (hF k h1 h2)
              refine g_aload_n dX5_layLine_146 rfl rfl rfl ?_
              refine g_aload_n dX5_layLine_147 rfl rfl rfl ?_
              refine g_iload_n dX5_layLine_148 rfl rfl rfl ?_
              refine g_iconst (v := (nI 1)) dX5_layLine_149 rfl rfl ?_
              refine g_iaddn dX5_layLine_150 rfl ?_
              refine g_iconst (v := xB false) dX5_layLine_151 rfl rfl ?_
              refine g_staticP iS_X5_isShort q2565 (p_isShort (d := d - 1) (by omega) (tm_at 4 hT rfl rfl rfl hf) hp hb (by omega)) dX5_layLine_152 rfl rfl rfl (by first | exact Nat.le_of_ble_eq_true rfl | simp [Value.category, rf_cat]) (by omega) xN_no ?_
              refine g_bipush (v := 40) dX5_layLine_155 rfl rfl ?_
              refine g_virtual iV_X5_sayUnless q2568 (s_sayUnless (d := d - 1) (by omega) (by rw [List.length_append, List.length_append]; simp only [List.length_cons, List.length_nil]; omega) hout hT) (Or.inl (tm_o hT)) rfl (by decide) dX5_layLine_157 rfl rfl rfl (by first | exact Nat.le_of_ble_eq_true rfl | simp [Value.category, rf_cat]) (by omega) (by omega) (by omega) xN_no (fun v_157 m_157 h_157 => ?_)
              obtain ⟨rfl, F, hT, hout, hFF, hO2⟩ := h_157
              replace hO := xo_tr hO hO2
              replace hf := (hFF 4 (by decide)).trans hf
              rw [← hFF 25 (by decide)] at hpile
              replace hF := fun k h1 h2 => (hFF k h1).trans (hF k h1 h2)
              refine g_goto (tgt := 318) dX5_layLine_160 (by decide) ?_
              exact next F _ _ (k :: stk) _ _ _ e1 (by rw [← e2]; (first | rw [if_pos (by assumption)] | rw [if_neg (by assumption)]); simp only [List.append_assoc]) hpile (Nat.succ_le_succ hsl) (by show stk.length + 1 ≤ 64; omega) hsb2 hout hT hO hF
            · refine g_bipush (v := 94) dX5_layLine_136 rfl rfl ?_
              refine g_goto (tgt := 143) dX5_layLine_138 (by decide) ?_
              refine g_virtual iV_X5_say q2561 (s_say (d := d - 1) (by omega) (by rw [List.length_append]; omega) hout hT) (Or.inl (tm_o hT)) rfl (by decide) dX5_layLine_143 rfl rfl rfl (by first | exact Nat.le_of_ble_eq_true rfl | simp [Value.category, rf_cat]) (by omega) (by omega) (by omega) xN_no (fun v_143 m_143 h_143 => ?_)
              obtain ⟨rfl, F, hT, hout, hFF, hO2⟩ := h_143
              replace hO := xo_tr hO hO2
              replace hf := (hFF 4 (by decide)).trans hf
              rw [← hFF 25 (by decide)] at hpile
              replace hF := fun k h1 h2 => (hFF k h1).trans (hF k h1 h2)
              refine g_aload_n dX5_layLine_146 rfl rfl rfl ?_
              refine g_aload_n dX5_layLine_147 rfl rfl rfl ?_
              refine g_iload_n dX5_layLine_148 rfl rfl rfl ?_
              refine g_iconst (v := (nI 1)) dX5_layLine_149 rfl rfl ?_
              refine g_iaddn dX5_layLine_150 rfl ?_
              refine g_iconst (v := xB false) dX5_layLine_151 rfl rfl ?_
              refine g_staticP iS_X5_isShort q2565 (p_isShort (d := d - 1) (by omega) (tm_at 4 hT rfl rfl rfl hf) hp hb (by omega)) dX5_layLine_152 rfl rfl rfl (by first | exact Nat.le_of_ble_eq_true rfl | simp [Value.category, rf_cat]) (by omega) xN_no ?_
              refine g_bipush (v := 40) dX5_layLine_155 rfl rfl ?_
              refine g_virtual iV_X5_sayUnless q2568 (s_sayUnless (d := d - 1) (by omega) (by rw [List.length_append, List.length_append]; simp only [List.length_cons, List.length_nil]; omega) hout hT) (Or.inl (tm_o hT)) rfl (by decide) dX5_layLine_157 rfl rfl rfl (by first | exact Nat.le_of_ble_eq_true rfl | simp [Value.category, rf_cat]) (by omega) (by omega) (by omega) xN_no (fun v_157 m_157 h_157 => ?_)
              obtain ⟨rfl, F, hT, hout, hFF, hO2⟩ := h_157
              replace hO := xo_tr hO hO2
              replace hf := (hFF 4 (by decide)).trans hf
              rw [← hFF 25 (by decide)] at hpile
              replace hF := fun k h1 h2 => (hFF k h1).trans (hF k h1 h2)
              refine g_goto (tgt := 318) dX5_layLine_160 (by decide) ?_
              exact next F _ _ (k :: stk) _ _ _ e1 (by rw [← e2]; (first | rw [if_pos (by assumption)] | rw [if_neg (by assumption)]); simp only [List.append_assoc]) hpile (Nat.succ_le_succ hsl) (by show stk.length + 1 ≤ 64; omega) hsb2 hout hT hO hF
          have t110 : ∀ b F m' x5, b = behL L k → ¬ lf L k = -1 → -4 < lf L k → pileR (F 25) (k :: stk) → F 4 = f → outR (F 10) out → TM A rf ts ac (nI out.length) rs dp F m' → XOf A m m' → (∀ k, k ≠ 10 → k ≠ 25 → F k = F0 k) → G w MX5_layLine (xZ w (tLay A m rf ts ac rs dp F0 res) xN) d 0 0 110 [some (.ref (A 0)), some (.ref (A 4)), some (.int (nI (stk.length + 1))), some (.int (nI k)), some (.int (lf L k)), x5, x6] [.int (xB b)] m' := by
            intro b F m' x5 hbb h3 h4 hpile hf hout hT hO hF
            cases b with
            | true =>
              refine g_ist5 dX5_layLine_110 rfl (by decide) (k := ?_)
              refine g_aload_n dX5_layLine_112 rfl rfl rfl ?_
              refine g_iload dX5_layLine_113 rfl rfl ?_
              refine g_ifB_ne (tgt := 122) dX5_layLine_115 (by decide) rfl (fun c_115 => ?_) (fun c_115 => ?_)
              · refine g_iconst (v := xB (!true)) dX5_layLine_122 rfl rfl ?_
                refine g_bipush (v := 32) dX5_layLine_123 rfl rfl ?_
                refine g_virtual iV_X5_sayUnless q2568 (s_sayUnless (d := d - 1) (by omega) (by omega) hout hT) (Or.inl (tm_o hT)) rfl (by decide) dX5_layLine_125 rfl rfl rfl (by first | exact Nat.le_of_ble_eq_true rfl | simp [Value.category, rf_cat]) (by omega) (by omega) (by omega) xN_no (fun v_125 m_125 h_125 => ?_)
                obtain ⟨rfl, F, hT, hout, hFF, hO2⟩ := h_125
                replace hO := xo_tr hO hO2
                replace hf := (hFF 4 (by decide)).trans hf
                rw [← hFF 25 (by decide)] at hpile
                replace hF := fun k h1 h2 => (hFF k h1).trans (hF k h1 h2)
                exact t128 F _ _ h3 h4 rfl hpile hf (by rw [← hbb]; exact hout) (by rw [← hbb]; exact hT) hO hF
              · cases c_115
            | false =>
              refine g_ist5 dX5_layLine_110 rfl (by decide) (k := ?_)
              refine g_aload_n dX5_layLine_112 rfl rfl rfl ?_
              refine g_iload dX5_layLine_113 rfl rfl ?_
              refine g_ifB_ne (tgt := 122) dX5_layLine_115 (by decide) rfl (fun c_115 => ?_) (fun c_115 => ?_)
              · cases c_115
              · refine g_iconst (v := xB (!false)) dX5_layLine_118 rfl rfl ?_
                refine g_goto (tgt := 123) dX5_layLine_119 (by decide) ?_
                refine g_bipush (v := 32) dX5_layLine_123 rfl rfl ?_
                refine g_virtual iV_X5_sayUnless q2568 (s_sayUnless (d := d - 1) (by omega) (by omega) hout hT) (Or.inl (tm_o hT)) rfl (by decide) dX5_layLine_125 rfl rfl rfl (by first | exact Nat.le_of_ble_eq_true rfl | simp [Value.category, rf_cat]) (by omega) (by omega) (by omega) xN_no (fun v_125 m_125 h_125 => ?_)
                obtain ⟨rfl, F, hT, hout, hFF, hO2⟩ := h_125
                replace hO := xo_tr hO hO2
                replace hf := (hFF 4 (by decide)).trans hf
                rw [← hFF 25 (by decide)] at hpile
                replace hF := fun k h1 h2 => (hFF k h1).trans (hF k h1 h2)
                exact t128 F _ _ h3 h4 rfl hpile hf (by rw [← hbb]; exact hout) (by rw [← hbb]; exact hT) hO hF
          refine g_aload_n dX5_layLine_45 rfl rfl rfl ?_
          refine g_get fl_X5_68_X5 dX5_layLine_46 rfl (Or.inl (tm_o hT)) rfl ?_
          refine g_iload_n dX5_layLine_49 rfl rfl rfl ?_
          refine g_iload_n dX5_layLine_50 rfl rfl rfl ?_
          refine t_iastn (k := 25) (N := 64) (f := F 25) hT hO rfl rfl rfl (by first | rfl | assumption) dX5_layLine_51 rfl (by omega) (fun m_51 f_51 e_51 hT hO => ?_)
          replace hpile : pileR (fset F 25 f_51 25) (k :: stk) := by rw [fset_eq, e_51]; exact ⟨upd_eq _ _ _, pileR_upd hpile (Nat.le_refl _)⟩
          replace hout : outR (fset F 25 f_51 10) out := hout
          replace hf : fset F 25 f_51 4 = f := hf
          replace hF : ∀ k, k ≠ 10 → k ≠ 25 → fset F 25 f_51 k = F0 k := fun k h1 h2 => by rw [fset_ne h2]; exact hF k h1 h2
          generalize fset F 25 f_51 = F at hT hpile hout hf hF
          refine g_incn2 dX5_layLine_52 rfl (by decide) (k := ?_)
          refine g_iload dX5_layLine_55 rfl rfl ?_
          refine g_iconst (v := (-1)) dX5_layLine_57 rfl rfl ?_
          refine g_icmp_ne (tgt := 78) dX5_layLine_58 (by decide) rfl (fun c_58 => ?_) (fun c_58 => ?_)
          · refine g_iload dX5_layLine_78 rfl rfl ?_
            refine g_bipush (v := (-4)) dX5_layLine_80 rfl rfl ?_
            refine g_icmp_le (tgt := 163) dX5_layLine_82 (by decide) rfl (fun c_82 => ?_) (fun c_82 => ?_)
            · rw [if_neg c_58, if_neg (Int32.not_lt.mpr c_82)] at hst
              obtain ⟨e1, e2⟩ := Prod.mk.inj (Option.some.inj hst)
              refine g_aload_n dX5_layLine_163 rfl rfl rfl ?_
              refine g_iload dX5_layLine_164 rfl rfl ?_
              refine g_bipush (v := (-5)) dX5_layLine_166 rfl rfl ?_
              refine g_icmp_ne (tgt := 175) dX5_layLine_168 (by decide) rfl (fun c_168 => ?_) (fun c_168 => ?_)
              · refine g_iconst (v := xB false) dX5_layLine_175 rfl rfl ?_
                refine g_bipush (v := 114) dX5_layLine_176 rfl rfl ?_
                refine g_virtual iV_X5_sayUnless q2568 (s_sayUnless (b := false) (d := d - 1) (by omega) (by omega) hout hT) (Or.inl (tm_o hT)) rfl (by decide) dX5_layLine_178 rfl rfl rfl (by first | exact Nat.le_of_ble_eq_true rfl | simp [Value.category, rf_cat]) (by omega) (by omega) (by omega) xN_no (fun v_178 m_178 h_178 => ?_)
                obtain ⟨rfl, F, hT, hout, hFF, hO2⟩ := h_178
                replace hO := xo_tr hO hO2
                replace hf := (hFF 4 (by decide)).trans hf
                rw [← hFF 25 (by decide)] at hpile
                replace hF := fun k h1 h2 => (hFF k h1).trans (hF k h1 h2)
                refine g_aload_n dX5_layLine_181 rfl rfl rfl ?_
                refine g_bipush (v := 40) dX5_layLine_182 rfl rfl ?_
                refine g_virtual iV_X5_say q2561 (s_say (d := d - 1) (by omega) (by rw [List.length_append]; have := ul false 114; omega) hout hT) (Or.inl (tm_o hT)) rfl (by decide) dX5_layLine_184 rfl rfl rfl (by first | exact Nat.le_of_ble_eq_true rfl | simp [Value.category, rf_cat]) (by omega) (by omega) (by omega) xN_no (fun v_184 m_184 h_184 => ?_)
                obtain ⟨rfl, F, hT, hout, hFF, hO2⟩ := h_184
                replace hO := xo_tr hO hO2
                replace hf := (hFF 4 (by decide)).trans hf
                rw [← hFF 25 (by decide)] at hpile
                replace hF := fun k h1 h2 => (hFF k h1).trans (hF k h1 h2)
                refine g_goto (tgt := 318) dX5_layLine_187 (by decide) ?_
                exact next F _ _ (k :: stk) _ _ _ e1 (by rw [← e2]; (first | rw [decide_eq_true (by assumption)] | rw [decide_eq_false (by assumption)]); simp only [List.append_assoc]) hpile (Nat.succ_le_succ hsl) (by show stk.length + 1 ≤ 64; omega) hsb2 hout hT hO hF
              · refine g_iconst (v := xB true) dX5_layLine_171 rfl rfl ?_
                refine g_goto (tgt := 176) dX5_layLine_172 (by decide) ?_
                refine g_bipush (v := 114) dX5_layLine_176 rfl rfl ?_
                refine g_virtual iV_X5_sayUnless q2568 (s_sayUnless (b := true) (d := d - 1) (by omega) (by omega) hout hT) (Or.inl (tm_o hT)) rfl (by decide) dX5_layLine_178 rfl rfl rfl (by first | exact Nat.le_of_ble_eq_true rfl | simp [Value.category, rf_cat]) (by omega) (by omega) (by omega) xN_no (fun v_178 m_178 h_178 => ?_)
                obtain ⟨rfl, F, hT, hout, hFF, hO2⟩ := h_178
                replace hO := xo_tr hO hO2
                replace hf := (hFF 4 (by decide)).trans hf
                rw [← hFF 25 (by decide)] at hpile
                replace hF := fun k h1 h2 => (hFF k h1).trans (hF k h1 h2)
                refine g_aload_n dX5_layLine_181 rfl rfl rfl ?_
                refine g_bipush (v := 40) dX5_layLine_182 rfl rfl ?_
                refine g_virtual iV_X5_say q2561 (s_say (d := d - 1) (by omega) (by rw [List.length_append]; have := ul true 114; omega) hout hT) (Or.inl (tm_o hT)) rfl (by decide) dX5_layLine_184 rfl rfl rfl (by first | exact Nat.le_of_ble_eq_true rfl | simp [Value.category, rf_cat]) (by omega) (by omega) (by omega) xN_no (fun v_184 m_184 h_184 => ?_)
                obtain ⟨rfl, F, hT, hout, hFF, hO2⟩ := h_184
                replace hO := xo_tr hO hO2
                replace hf := (hFF 4 (by decide)).trans hf
                rw [← hFF 25 (by decide)] at hpile
                replace hF := fun k h1 h2 => (hFF k h1).trans (hF k h1 h2)
                refine g_goto (tgt := 318) dX5_layLine_187 (by decide) ?_
                exact next F _ _ (k :: stk) _ _ _ e1 (by rw [← e2]; (first | rw [decide_eq_true (by assumption)] | rw [decide_eq_false (by assumption)]); simp only [List.append_assoc]) hpile (Nat.succ_le_succ hsl) (by show stk.length + 1 ≤ 64; omega) hsb2 hout hT hO hF
            · refine g_iload_n dX5_layLine_85 rfl rfl rfl ?_
              refine g_aload_n dX5_layLine_86 rfl rfl rfl ?_
              refine g_iload_n dX5_layLine_87 rfl rfl rfl ?_
              refine g_staticP iS_X5_rowStart q2530 (p_rowStart (d := d - 1) (by omega) (tm_at 4 hT rfl rfl rfl hf) hp (by omega)) dX5_layLine_88 rfl rfl rfl (by first | exact Nat.le_of_ble_eq_true rfl | simp [Value.category, rf_cat]) (by omega) xN_no ?_
              refine g_icmpn_le (tgt := 109) dX5_layLine_91 (by decide) rfl (by omega) (by have := hrs k; omega) (fun c_91 => ?_) (fun c_91 => ?_)
              · exact (by
                refine g_iconst (v := xB false) dX5_layLine_109 rfl rfl ?_
                exact t110 false F _ _ (by unfold behL; rw [decide_eq_false (fun h => by first | omega | exact absurd h.2 (by assumption))]) c_58 (Int32.not_le.mp c_82) hpile hf hout hT hO hF)
              · refine g_aload_n dX5_layLine_94 rfl rfl rfl ?_
                refine g_aload_n dX5_layLine_95 rfl rfl rfl ?_
                refine g_iload_n dX5_layLine_96 rfl rfl rfl ?_
                refine g_staticP iS_X5_itemStart q2572 (p_itemStart (d := d - 1) (by omega) (tm_at 4 hT rfl rfl rfl hf) hp hb (by omega) (by omega)) dX5_layLine_97 rfl rfl rfl (by first | exact Nat.le_of_ble_eq_true rfl | simp [Value.category, rf_cat]) (by omega) xN_no ?_
                have his := itemStart_lt L k (by omega)
                refine t_ialdn (k := 4) (N := 184) (f := f) hT rfl rfl rfl (by first | rfl | assumption) dX5_layLine_100 rfl (by omega) ?_
                rw [hp.1 _ (by omega)]
                refine g_iconst (v := (-1)) dX5_layLine_101 rfl rfl ?_
                refine g_icmp_ne (tgt := 109) dX5_layLine_102 (by decide) rfl (fun c_102 => ?_) (fun c_102 => ?_)
                · exact (by
                  refine g_iconst (v := xB false) dX5_layLine_109 rfl rfl ?_
                  exact t110 false F _ _ (by unfold behL; rw [decide_eq_false (fun h => by first | omega | exact absurd h.2 (by assumption))]) c_58 (Int32.not_le.mp c_82) hpile hf hout hT hO hF)
                · exact (by
                  refine g_iconst (v := xB true) dX5_layLine_105 rfl rfl ?_
                  refine g_goto (tgt := 110) dX5_layLine_106 (by decide) ?_
                  exact t110 true F _ _ (by unfold behL; rw [decide_eq_true ⟨by omega, by assumption⟩]) c_58 (Int32.not_le.mp c_82) hpile hf hout hT hO hF)
          · refine g_aload_n dX5_layLine_61 rfl rfl rfl ?_
            refine g_aload_n dX5_layLine_62 rfl rfl rfl ?_
            refine g_iload_n dX5_layLine_63 rfl rfl rfl ?_
            refine g_iconst (v := (nI 1)) dX5_layLine_64 rfl rfl ?_
            refine g_iaddn dX5_layLine_65 rfl ?_
            refine g_iconst (v := xB true) dX5_layLine_66 rfl rfl ?_
            refine g_staticP iS_X5_isShort q2565 (p_isShort (d := d - 1) (by omega) (tm_at 4 hT rfl rfl rfl hf) hp hb (by omega)) dX5_layLine_67 rfl rfl rfl (by first | exact Nat.le_of_ble_eq_true rfl | simp [Value.category, rf_cat]) (by omega) xN_no ?_
            refine g_bipush (v := 40) dX5_layLine_70 rfl rfl ?_
            refine g_virtual iV_X5_sayUnless q2568 (s_sayUnless (d := d - 1) (by omega) (by omega) hout hT) (Or.inl (tm_o hT)) rfl (by decide) dX5_layLine_72 rfl rfl rfl (by first | exact Nat.le_of_ble_eq_true rfl | simp [Value.category, rf_cat]) (by omega) (by omega) (by omega) xN_no (fun v_72 m_72 h_72 => ?_)
            obtain ⟨rfl, F, hT, hout, hFF, hO2⟩ := h_72
            replace hO := xo_tr hO hO2
            replace hf := (hFF 4 (by decide)).trans hf
            rw [← hFF 25 (by decide)] at hpile
            replace hF := fun k h1 h2 => (hFF k h1).trans (hF k h1 h2)
            rw [if_pos c_58] at hst
            obtain ⟨e1, e2⟩ := Prod.mk.inj (Option.some.inj hst)
            exact g_goto (tgt := 318) dX5_layLine_75 (by decide) (next F _ _ (k :: stk) _ _ _ e1 (by rw [← e2]) hpile (Nat.succ_le_succ hsl) (by show stk.length + 1 ≤ 64; omega) hsb2 hout hT hO hF)
            skip
        refine g_iload dX5_layLine_23 rfl rfl ?_
        refine g_if_le (tgt := 37) dX5_layLine_25 (by decide) rfl (fun c_25 => ?_) (fun c_25 => ?_)
        · refine g_iload dX5_layLine_37 rfl rfl ?_
          refine g_staticP iS_X5_isBegin q2511 (c_isBegin (d := d - 1) (by omega) _) dX5_layLine_39 rfl rfl rfl (by first | exact Nat.le_of_ble_eq_true rfl | simp [Value.category, rf_cat]) (by omega) xN_no ?_
          refine g_ifB_eq (tgt := 190) dX5_layLine_42 (by decide) rfl (fun c_42 => ?_) (fun c_42 => ?_)
          · refine g_iload dX5_layLine_190 rfl rfl ?_
            refine g_bipush (v := (-10)) dX5_layLine_192 rfl rfl ?_
            refine g_icmp_ne (tgt := 241) dX5_layLine_194 (by decide) rfl (fun c_194 => ?_) (fun c_194 => ?_)
            · exact (by
              cases es : stk with
              | nil =>
                rw [es] at hst
                unfold layS at hst
                rw [if_neg (Int32.not_lt.mpr c_25), if_neg (by rw [c_42]; decide)] at hst
                cases hst
              | cons b r =>
                refine g_incm2 dX5_layLine_241 rfl (by decide) (k := ?_)
                rw [show (b :: r).length = r.length + 1 from rfl, nI_p1]
                exact fe b r es (Int32.not_lt.mpr c_25) c_42 c_194)
            · exact (by
              cases es : stk with
              | nil =>
                rw [es] at hst
                unfold layS at hst
                rw [if_neg (Int32.not_lt.mpr c_25), if_neg (by rw [c_42]; decide)] at hst
                cases hst
              | cons b r => exact be b r es (Int32.not_lt.mpr c_25) c_42 c_194)
          · exact pe (Int32.not_lt.mpr c_25) c_42
        · unfold layS at hst
          rw [if_pos (Int32.not_le.mp c_25)] at hst
          obtain ⟨e1, e2⟩ := Prod.mk.inj (Option.some.inj hst)
          refine g_aload_n dX5_layLine_28 rfl rfl rfl ?_
          refine g_iload dX5_layLine_29 rfl rfl ?_
          refine g_virtual iV_X5_say q2561 (s_say (d := d - 1) (by omega) (by omega) hout hT) (Or.inl (tm_o hT)) rfl (by decide) dX5_layLine_31 rfl rfl rfl (by first | exact Nat.le_of_ble_eq_true rfl | simp [Value.category, rf_cat]) (by omega) (by omega) (by omega) xN_no (fun v_31 m_31 h_31 => ?_)
          obtain ⟨rfl, F, hT, hout, hFF, hO2⟩ := h_31
          replace hO := xo_tr hO hO2
          replace hf := (hFF 4 (by decide)).trans hf
          rw [← hFF 25 (by decide)] at hpile
          replace hF := fun k h1 h2 => (hFF k h1).trans (hF k h1 h2)
          refine g_goto (tgt := 318) dX5_layLine_34 (by decide) ?_
          exact next F _ _ stk _ _ _ e1 (by rw [← e2]) hpile (by omega) hs64 (fun b hb => Nat.lt_succ_of_lt (hsb b hb)) hout hT hO hF
      refine g_iload_n dX5_layLine_9 rfl rfl rfl ?_
      refine g_aload_n dX5_layLine_10 rfl rfl rfl ?_
      refine g_sipush (v := (nI 180)) dX5_layLine_11 rfl rfl ?_
      refine t_ialdn (k := 4) (N := 184) (f := f) hT rfl rfl rfl (by first | rfl | assumption) dX5_layLine_14 rfl (by omega) ?_
      rw [h4_180]
      refine g_icmpn_ge (tgt := 324) dX5_layLine_15 (by decide) rfl (by omega) (by omega) (fun c_15 => ?_) (fun c_15 => ?_)
      · refine g_return dX5_layLine_324 rfl ?_
        rw [layF, if_neg (by omega)] at he
        cases he
        exact ⟨rfl, F, hT, hout, hF, hO⟩
      · refine g_aload_n dX5_layLine_18 rfl rfl rfl ?_
        refine g_iload_n dX5_layLine_19 rfl rfl rfl ?_
        refine t_ialdn (k := 4) (N := 184) (f := f) hT rfl rfl rfl (by first | rfl | assumption) dX5_layLine_20 rfl (by omega) ?_
        rw [hfk c_15]
        refine g_ist4 dX5_layLine_21 rfl (by decide) (k := ?_)
        exact (by
        rw [layF, if_pos c_15] at he
        cases hst : layS L k stk with
        | none => rw [hst] at he; cases he
        | some z => rw [hst] at he; exact body z.1 z.2 c_15 hst he)
  have hO := xo_rf A m
  refine ct_intro (lv := [some (.ref (A 0)), some (.ref (A 4)), none, none, none, none, none]) 5 (by decide) rfl (Nat.le_of_ble_eq_true rfl) rfl ?_
  refine g_aload_n dX5_layLine_0 rfl rfl rfl ?_
  refine g_iconst (v := (nI 0)) dX5_layLine_1 rfl rfl ?_
  refine t_put11 hT hO fl_X5_193_X5 dX5_layLine_2 rfl (fun m_2 hT hO => ?_)
  refine g_iconst (v := (nI 0)) dX5_layLine_5 rfl rfl ?_
  refine g_ist2 dX5_layLine_6 rfl (by decide) (k := ?_)
  refine g_iconst (v := (nI 0)) dX5_layLine_7 rfl rfl ?_
  refine g_ist3 dX5_layLine_8 rfl (by decide) (k := ?_)
  exact loop (L.length + 1) 0 [] [] F _ _ _ _ (by omega) (by omega) (Nat.le_refl _) trivial (Nat.le_refl _) (Nat.zero_le _) (fun b hb => by cases hb) (fun j hj => absurd hj (Nat.not_lt_zero _)) hT hO (fun k _ _ => by rw [eF0]) hl
end TW20
