/-! TWIN: a row's box laid (printed by gen/gen_row.py) -/
set_option maxRecDepth 100000
section TW23
variable {w : XW} {d : Nat} {m : XM} {A : Nat → Nat} {rf ts ac ls rs dp : Int32} {F : Nat → Nat → Int32}
theorem inCh_s {L : List Int32} {en k j : Nat} (h : k < en) (hj : inCh L en k j = true) : j = k ∨ inCh L en (itemEndL L k) j = true := by
  rw [inCh, if_pos h, Bool.or_eq_true] at hj
  rcases hj with e | e
  · exact Or.inl (beq_iff_eq.mp e).symm
  · exact Or.inr e
theorem inCh_e {L : List Int32} {en k j : Nat} (h : ¬ k < en) : ¬ inCh L en k j = true := by
  rw [inCh, if_neg h]; decide
theorem t_row3 {f : Nat → Int32} {L : List Int32} {B : Nat → XBx} {st : Nat} (hd : 4 ≤ d) (hT : TM A rf ts ac ls rs dp F m) (hf : F 3 = f) (hp : Pl f L) (hb : Bal L) (hBx : BxL L B) (hst : st ≤ L.length) (hop : st = 0 ∨ opnL L (st - 1)) (hbx : ∀ g, st < g → g ≤ L.length → opnL L (g - 1) → bxA F B g) : CT w MX5_layRow d 0 0 [.ref (A 0), .ref (A 3), .int (nI st)] m (tRow A m rf ts ac ls rs dp F L B st) xN := by
  have hlen := hp.2.2
  have hre := fun g (h : g ≤ L.length) => (show g ≤ rowEndL L g ∧ rowEndL L g ≤ L.length from rowEnd_le (lf L) L.length 0 g h)
  have hrst := hre st hst
  have hBst := hBx.2.2.2 st hst hop
  have hB0 := hBx.2.2.1 st hst
  have hf0 := hf
  obtain ⟨F0, eF0⟩ : ∃ F0, F0 = F := ⟨_, rfl⟩
  rw [← eF0] at hbx ⊢
  have loop : ∀ t k a F m' x5 x6 x7 x8 x9 x10, rowEndL L st - k < t → st ≤ k → k ≤ L.length → B st = rwB L B (rowEndL L st) a k → F 21 st = nI a.1 → F 22 st = nI a.2.1 → F 23 st = nI a.2.2 → TM A rf ts ac ls rs dp F m' → XOf A m m' → bxO F0 F → (∀ g, g ≠ st → F 21 g = F0 21 g ∧ F 22 g = F0 22 g ∧ F 23 g = F0 23 g) → (∀ j, inCh L (rowEndL L st) st j = true ∨ rtI L B F0 j → inCh L (rowEndL L st) k j = true ∨ rtI L B F j) → G w MX5_layRow (xZ w (tRow A m rf ts ac ls rs dp F0 L B st) xN) d 0 0 39 [some (.ref (A 0)), some (.ref (A 3)), some (.int (nI st)), some (.int (nI (rowEndL L st))), some (.int (nI k)), x5, x6, x7, x8, x9, x10] [] m' := by
    intro t
    induction t with
    | zero => intro k a F m' x5 x6 x7 x8 x9 x10 h; omega
    | succ t ih =>
      intro k a F m' x5 x6 x7 x8 x9 x10 h hk1 hk2 hacc hw hh hlo hT hO hbo hoth hdone
      have hf : F 3 = f := (hbo 3 (by decide) (by decide) (by decide) (by decide)).trans (eF0 ▸ hf0)
      have hfk : k < L.length → f k = lf L k := fun h => hp.1 k h
      have hge0 := rwB_ge L B (rowEndL L st) a k
      rw [← hacc] at hge0
      have hig : k < itemEndL L k := itemEnd_gt _ _ _
      have body : k < rowEndL L st → G w MX5_layRow (xZ w (tRow A m rf ts ac ls rs dp F0 L B st) xN) d 0 0 45 [some (.ref (A 0)), some (.ref (A 3)), some (.int (nI st)), some (.int (nI (rowEndL L st))), some (.int (nI k)), x5, x6, x7, x8, x9, x10] [] m' := by
        intro hke
        have hie := itemEnd_le hb (show k < L.length by omega)
        have hacc2 := hacc
        rw [rwB, if_pos hke] at hacc2
        have hge := rwB_ge L B (rowEndL L st) (a.1 + (itB L B k).1, mxN a.2.1 (itB L B k).2.1, mxN a.2.2 (itB L B k).2.2) (itemEndL L k)
        rw [← hacc2] at hge
        obtain ⟨g1, g2, g3⟩ := hge
        have g1 : a.1 + (itB L B k).1 ≤ (B st).1 := g1
        have m1 : (itB L B k).2.1 ≤ mxN a.2.1 (itB L B k).2.1 := by unfold mxN; split <;> omega
        have m2 : (itB L B k).2.2 ≤ mxN a.2.2 (itB L B k).2.2 := by unfold mxN; split <;> omega
        have g2 : mxN a.2.1 (itB L B k).2.1 ≤ (B st).2.1 := g2
        have g3 : mxN a.2.2 (itB L B k).2.2 ≤ (B st).2.2 := g3
        have t291 : ∀ F1 m' hi lo x7 x8 x9 x10, TM A rf ts ac ls rs dp F1 m' → XOf A m m' → (∀ i, i ≠ 24 → F1 i = F i) → (∀ j, j ≠ k → F1 24 j = F 24 j) → F1 24 k = nI (itB L B k).1 → hi = (itB L B k).2.1 → lo = (itB L B k).2.2 → G w MX5_layRow (xZ w (tRow A m rf ts ac ls rs dp F0 L B st) xN) d 0 0 291 [some (.ref (A 0)), some (.ref (A 3)), some (.int (nI st)), some (.int (nI (rowEndL L st))), some (.int (nI k)), some (.int (nI hi)), some (.int (nI lo)), x7, x8, x9, x10] [] m' := by
          intro F m' hi lo x7 x8 x9 x10 hT hO hF1 h24 h24k ehi elo
          have hw : F 21 st = nI a.1 := by rw [hF1 21 (by decide)]; exact hw
          have hh : F 22 st = nI a.2.1 := by rw [hF1 22 (by decide)]; exact hh
          have hlo : F 23 st = nI a.2.2 := by rw [hF1 23 (by decide)]; exact hlo
          have hf : F 3 = f := by rw [hF1 3 (by decide)]; exact hf
          have t363 : ∀ f1 f2 f3 m', f1 = upd (F 21) st (nI (a.1 + (itB L B k).1)) → f2 = upd (F 22) st (nI (mxN a.2.1 (itB L B k).2.1)) → f3 = upd (F 23) st (nI (mxN a.2.2 (itB L B k).2.2)) → TM A rf ts ac ls rs dp (fset (fset (fset F 21 f1) 22 f2) 23 f3) m' → XOf A m m' → G w MX5_layRow (xZ w (tRow A m rf ts ac ls rs dp F0 L B st) xN) d 0 0 363 [some (.ref (A 0)), some (.ref (A 3)), some (.int (nI st)), some (.int (nI (rowEndL L st))), some (.int (nI k)), some (.int (nI hi)), some (.int (nI lo)), x7, x8, x9, x10] [] m' := by
            intro f1 f2 f3 m' e1 e2 e3 hT hO
            refine g_aload_n dX5_layRow_363 rfl rfl rfl ?_
            refine g_iload dX5_layRow_364 rfl rfl ?_
            refine g_staticP iS_X5_itemEnd q2542 (p_itemEnd (d := d - 1) (by omega) (tm_at 3 hT rfl rfl rfl hf) hp hb (by omega)) dX5_layRow_366 rfl rfl rfl (by first | exact Nat.le_of_ble_eq_true rfl | simp [Value.category, rf_cat]) (by omega) xN_no ?_
            refine g_ist4 dX5_layRow_369 rfl (by decide) (k := ?_)
            refine g_goto (tgt := 39) dX5_layRow_371 (by decide) ?_
            refine ih _ (a.1 + (itB L B k).1, mxN a.2.1 (itB L B k).2.1, mxN a.2.2 (itB L B k).2.2) _ _ _ _ _ _ _ _ (by omega) (by omega) hie hacc2 (by show f1 st = _; rw [e1, upd_eq]) (by show f2 st = _; rw [e2, upd_eq]) (by show f3 st = _; rw [e3, upd_eq]) hT hO (fun i h1 h2 h3 h4 => by rw [fset_ne h3, fset_ne h2, fset_ne h1, hF1 i h4]; exact hbo i h1 h2 h3 h4) (fun g hg => ?_) (fun j hj => ?_)
            · have := hoth g hg
              refine ⟨?_, ?_, ?_⟩
              · show f1 g = _; rw [e1, upd_ne hg, hF1 21 (by decide)]; exact this.1
              · show f2 g = _; rw [e2, upd_ne hg, hF1 22 (by decide)]; exact this.2.1
              · show f3 g = _; rw [e3, upd_ne hg, hF1 23 (by decide)]; exact this.2.2
            · show _ ∨ F 24 j = nI (itB L B j).1
              by_cases hjk : j = k
              · rw [hjk]; exact Or.inr h24k
              · rcases hdone j hj with z | z
                · rcases inCh_s hke z with z | z
                  · exact absurd z hjk
                  · exact Or.inl z
                · exact Or.inr ((h24 j hjk).trans z)
          have t335 : ∀ f1 f2 m', f1 = upd (F 21) st (nI (a.1 + (itB L B k).1)) → f2 = upd (F 22) st (nI (mxN a.2.1 (itB L B k).2.1)) → TM A rf ts ac ls rs dp (fset (fset F 21 f1) 22 f2) m' → XOf A m m' → G w MX5_layRow (xZ w (tRow A m rf ts ac ls rs dp F0 L B st) xN) d 0 0 335 [some (.ref (A 0)), some (.ref (A 3)), some (.int (nI st)), some (.int (nI (rowEndL L st))), some (.int (nI k)), some (.int (nI hi)), some (.int (nI lo)), x7, x8, x9, x10] [] m' := by
            intro f1 f2 m' e1 e2 hT hO
            refine g_aload_n dX5_layRow_335 rfl rfl rfl ?_
            refine g_get fl_X5_62_X5 dX5_layRow_336 rfl (Or.inl (tm_o hT)) rfl ?_
            refine g_iload_n dX5_layRow_339 rfl rfl rfl ?_
            refine g_iload dX5_layRow_340 rfl rfl ?_
            refine g_aload_n dX5_layRow_342 rfl rfl rfl ?_
            refine g_get fl_X5_62_X5 dX5_layRow_343 rfl (Or.inl (tm_o hT)) rfl ?_
            refine g_iload_n dX5_layRow_346 rfl rfl rfl ?_
            refine t_ialdn (k := 23) (N := 512) (f := F 23) hT rfl rfl rfl (by first | rfl | assumption) dX5_layRow_347 rfl (by omega) ?_
            rw [hlo]
            refine g_icmpn_le (tgt := 356) dX5_layRow_348 (by decide) rfl (by omega) (by omega) (fun c_348 => ?_) (fun c_348 => ?_)
            · refine g_aload_n dX5_layRow_356 rfl rfl rfl ?_
              refine g_get fl_X5_62_X5 dX5_layRow_357 rfl (Or.inl (tm_o hT)) rfl ?_
              refine g_iload_n dX5_layRow_360 rfl rfl rfl ?_
              refine t_ialdn (k := 23) (N := 512) (f := F 23) hT rfl rfl rfl (by first | rfl | assumption) dX5_layRow_361 rfl (by omega) ?_
              first | rw [hlo] | skip
              refine t_iastn (k := 23) (N := 512) (f := F 23) hT hO rfl rfl rfl (by first | rfl | assumption) dX5_layRow_362 rfl (by omega) (fun m_362 f_362 e_362 hT hO => ?_)
              refine t363 _ _ _ _ e1 e2 ?_ hT hO
              rw [e_362, ← elo]
              unfold mxN
              first | rw [if_pos (by omega)] | rw [if_neg (by omega)]
            · refine g_iload dX5_layRow_351 rfl rfl ?_
              refine g_goto (tgt := 362) dX5_layRow_353 (by decide) ?_
              first | rw [hlo] | skip
              refine t_iastn (k := 23) (N := 512) (f := F 23) hT hO rfl rfl rfl (by first | rfl | assumption) dX5_layRow_362 rfl (by omega) (fun m_362 f_362 e_362 hT hO => ?_)
              refine t363 _ _ _ _ e1 e2 ?_ hT hO
              rw [e_362, ← elo]
              unfold mxN
              first | rw [if_pos (by omega)] | rw [if_neg (by omega)]
          refine g_aload_n dX5_layRow_291 rfl rfl rfl ?_
          refine g_get fl_X5_56_X5 dX5_layRow_292 rfl (Or.inl (tm_o hT)) rfl ?_
          refine g_iload_n dX5_layRow_295 rfl rfl rfl ?_
          refine g_dup2 dX5_layRow_296 rfl (by first | rfl | exact rf_cat _) (by first | rfl | exact rf_cat _) ?_
          refine t_ialdn (k := 21) (N := 512) (f := F 21) hT rfl rfl rfl (by first | rfl | assumption) dX5_layRow_297 rfl (by omega) ?_
          rw [hw]
          refine g_aload_n dX5_layRow_298 rfl rfl rfl ?_
          refine g_get fl_X5_65_X5 dX5_layRow_299 rfl (Or.inl (tm_o hT)) rfl ?_
          refine g_iload dX5_layRow_302 rfl rfl ?_
          refine t_ialdn (k := 24) (N := 512) (f := F 24) hT rfl rfl rfl (by first | rfl | assumption) dX5_layRow_304 rfl (by omega) ?_
          rw [h24k]
          refine g_iaddn dX5_layRow_305 rfl ?_
          refine t_iastn (k := 21) (N := 512) (f := F 21) hT hO rfl rfl rfl (by first | rfl | assumption) dX5_layRow_306 rfl (by omega) (fun m_306 f_306 e_306 hT hO => ?_)
          refine g_aload_n dX5_layRow_307 rfl rfl rfl ?_
          refine g_get fl_X5_59_X5 dX5_layRow_308 rfl (Or.inl (tm_o hT)) rfl ?_
          refine g_iload_n dX5_layRow_311 rfl rfl rfl ?_
          refine g_iload dX5_layRow_312 rfl rfl ?_
          refine g_aload_n dX5_layRow_314 rfl rfl rfl ?_
          refine g_get fl_X5_59_X5 dX5_layRow_315 rfl (Or.inl (tm_o hT)) rfl ?_
          refine g_iload_n dX5_layRow_318 rfl rfl rfl ?_
          refine t_ialdn (k := 22) (N := 512) (f := F 22) hT rfl rfl rfl (by first | rfl | assumption) dX5_layRow_319 rfl (by omega) ?_
          rw [hh]
          refine g_icmpn_le (tgt := 328) dX5_layRow_320 (by decide) rfl (by omega) (by omega) (fun c_320 => ?_) (fun c_320 => ?_)
          · refine g_aload_n dX5_layRow_328 rfl rfl rfl ?_
            refine g_get fl_X5_59_X5 dX5_layRow_329 rfl (Or.inl (tm_o hT)) rfl ?_
            refine g_iload_n dX5_layRow_332 rfl rfl rfl ?_
            refine t_ialdn (k := 22) (N := 512) (f := F 22) hT rfl rfl rfl (by first | rfl | assumption) dX5_layRow_333 rfl (by omega) ?_
            first | rw [hh] | skip
            refine t_iastn (k := 22) (N := 512) (f := F 22) hT hO rfl rfl rfl (by first | rfl | assumption) dX5_layRow_334 rfl (by omega) (fun m_334 f_334 e_334 hT hO => ?_)
            refine t335 _ _ _ (by rw [e_306]) ?_ hT hO
            rw [e_334, ← ehi]
            unfold mxN
            first | rw [if_pos (by omega)] | rw [if_neg (by omega)]
          · refine g_iload dX5_layRow_323 rfl rfl ?_
            refine g_goto (tgt := 334) dX5_layRow_325 (by decide) ?_
            first | rw [hh] | skip
            refine t_iastn (k := 22) (N := 512) (f := F 22) hT hO rfl rfl rfl (by first | rfl | assumption) dX5_layRow_334 rfl (by omega) (fun m_334 f_334 e_334 hT hO => ?_)
            refine t335 _ _ _ (by rw [e_306]) ?_ hT hO
            rw [e_334, ← ehi]
            unfold mxN
            first | rw [if_pos (by omega)] | rw [if_neg (by omega)]
        have t69 : ∀ f_58 m', isBg (lf L k) = true → f_58 = upd (F 24) k (nI 1) → TM A rf ts ac ls rs dp (fset F 24 f_58) m' → XOf A m m' → G w MX5_layRow (xZ w (tRow A m rf ts ac ls rs dp F0 L B st) xN) d 0 0 69 [some (.ref (A 0)), some (.ref (A 3)), some (.int (nI st)), some (.int (nI (rowEndL L st))), some (.int (nI k)), some (.int (nI 0)), some (.int (nI 0)), x7, x8, x9, x10] [] m' := by
          intro f_58 m' c_66 e_58 hT hO
          have hb1 : F 21 (k + 1) = nI (B (k + 1)).1 ∧ F 22 (k + 1) = nI (B (k + 1)).2.1 ∧ F 23 (k + 1) = nI (B (k + 1)).2.2 := by
            obtain ⟨h1, h2, h3⟩ := hoth (k + 1) (by omega)
            rw [h1, h2, h3]; exact hbx _ (by omega) (by omega) (Or.inl c_66)
          have hB1 := hBx.2.2.1 (k + 1) (by omega)
          rcases hBx.1 k (by omega) c_66 with hs | hs | hs | hs | hs
          · have hit : itB L B k = (if (B (k + 1)).1 < (B (rowEndL L (k + 1) + 1)).1 then (B (rowEndL L (k + 1) + 1)).1 else (B (k + 1)).1, (B (k + 1)).2.1 + 1 + (B (k + 1)).2.2, (B (rowEndL L (k + 1) + 1)).2.1 + 1 + (B (rowEndL L (k + 1) + 1)).2.2) := by
              unfold itB
              rw [if_pos c_66, if_pos hs]
            refine g_iload dX5_layRow_69 rfl rfl ?_
            refine g_iconst (v := (nI 1)) dX5_layRow_71 rfl rfl ?_
            refine g_iaddn dX5_layRow_72 rfl ?_
            refine g_ist7 dX5_layRow_73 rfl (by decide) (k := ?_)
            refine g_aload_n dX5_layRow_75 rfl rfl rfl ?_
            refine g_get fl_X5_59_X5 dX5_layRow_76 rfl (Or.inl (tm_o hT)) rfl ?_
            refine g_iload dX5_layRow_79 rfl rfl ?_
            refine t_ialdn (k := 22) (N := 512) (f := F 22) hT rfl rfl rfl (by first | rfl | assumption) dX5_layRow_81 rfl (by omega) ?_
            rw [hb1.2.1]
            refine g_iconst (v := (nI 1)) dX5_layRow_82 rfl rfl ?_
            refine g_iaddn dX5_layRow_83 rfl ?_
            refine g_aload_n dX5_layRow_84 rfl rfl rfl ?_
            refine g_get fl_X5_62_X5 dX5_layRow_85 rfl (Or.inl (tm_o hT)) rfl ?_
            refine g_iload dX5_layRow_88 rfl rfl ?_
            refine t_ialdn (k := 23) (N := 512) (f := F 23) hT rfl rfl rfl (by first | rfl | assumption) dX5_layRow_90 rfl (by omega) ?_
            rw [hb1.2.2]
            refine g_iaddn dX5_layRow_91 rfl ?_
            refine g_ist8 dX5_layRow_92 rfl (by decide) (k := ?_)
            refine g_aload_n dX5_layRow_94 rfl rfl rfl ?_
            refine g_iload dX5_layRow_95 rfl rfl ?_
            refine t_ialdn (k := 3) (N := 184) (f := f) hT rfl rfl rfl (by first | rfl | assumption) dX5_layRow_97 rfl (by omega) ?_
            rw [hfk (by omega), hs]
            refine g_ineg dX5_layRow_98 rfl ?_
            rw [show -(-1 : Int32) = nI 1 from rfl]
            refine g_ist9 dX5_layRow_99 rfl (by decide) (k := ?_)
            refine g_aload_n dX5_layRow_101 rfl rfl rfl ?_
            refine g_get fl_X5_65_X5 dX5_layRow_102 rfl (Or.inl (tm_o hT)) rfl ?_
            refine g_iload dX5_layRow_105 rfl rfl ?_
            refine g_aload_n dX5_layRow_107 rfl rfl rfl ?_
            refine g_get fl_X5_56_X5 dX5_layRow_108 rfl (Or.inl (tm_o hT)) rfl ?_
            refine g_iload dX5_layRow_111 rfl rfl ?_
            refine t_ialdn (k := 21) (N := 512) (f := F 21) hT rfl rfl rfl (by first | rfl | assumption) dX5_layRow_113 rfl (by omega) ?_
            rw [hb1.1]
            refine g_iload dX5_layRow_114 rfl rfl ?_
            refine g_iconst (v := (nI 4)) dX5_layRow_116 rfl rfl ?_
            refine g_icmpn_ne (tgt := 124) dX5_layRow_117 (by decide) rfl (by omega) (by omega) (fun _ => ?_) (fun c_117 => by omega)
            refine g_iload dX5_layRow_124 rfl rfl ?_
            refine g_iconst (v := (nI 5)) dX5_layRow_126 rfl rfl ?_
            refine g_icmpn_ne (tgt := 134) dX5_layRow_127 (by decide) rfl (by omega) (by omega) (fun _ => ?_) (fun c_127 => by omega)
            refine g_iconst (v := (nI 0)) dX5_layRow_134 rfl rfl ?_
            refine g_iaddn dX5_layRow_135 rfl ?_
            refine t_iastn (k := 24) (N := 512) (f := f_58) hT hO rfl rfl rfl (by first | rfl | assumption) dX5_layRow_136 rfl (by omega) (fun m_136 f_136 e_136 hT hO => ?_)
            refine g_iload dX5_layRow_137 rfl rfl ?_
            refine g_iconst (v := (nI 3)) dX5_layRow_139 rfl rfl ?_
            refine g_icmpn_ge (tgt := 148) dX5_layRow_140 (by decide) rfl (by omega) (by omega) (fun c_140 => by omega) (fun _ => ?_)
            refine g_iload dX5_layRow_143 rfl rfl ?_
            refine g_goto (tgt := 183) dX5_layRow_145 (by decide) ?_
            refine g_ist5 dX5_layRow_183 rfl (by decide) (k := ?_)
            refine g_iload dX5_layRow_185 rfl rfl ?_
            refine g_iconst (v := (nI 3)) dX5_layRow_187 rfl rfl ?_
            refine g_icmpn_ne (tgt := 196) dX5_layRow_188 (by decide) rfl (by omega) (by omega) (fun _ => ?_) (fun c_188 => by omega)
            refine g_iload dX5_layRow_196 rfl rfl ?_
            refine g_iconst (v := (nI 3)) dX5_layRow_198 rfl rfl ?_
            refine g_icmpn_le (tgt := 212) dX5_layRow_199 (by decide) rfl (by omega) (by omega) (fun _ => ?_) (fun c_199 => by omega)
            refine g_iconst (v := (nI 0)) dX5_layRow_212 rfl rfl ?_
            refine g_ist6 dX5_layRow_213 rfl (by decide) (k := ?_)
            refine g_iload dX5_layRow_215 rfl rfl ?_
            refine g_iconst (v := (nI 1)) dX5_layRow_217 rfl rfl ?_
            refine g_icmpn_ne (tgt := 291) dX5_layRow_218 (by decide) rfl (by omega) (by omega) (fun c_218 => by omega) (fun _ => ?_)
            refine g_aload_n dX5_layRow_221 rfl rfl rfl ?_
            refine g_iload dX5_layRow_222 rfl rfl ?_
            refine g_staticP iS_X5_rowEnd q2533 (p_rowEnd (d := d - 1) (by omega) (tm_at 3 hT rfl rfl rfl hf) hp (by omega)) dX5_layRow_224 rfl rfl rfl (by first | exact Nat.le_of_ble_eq_true rfl | simp [Value.category, rf_cat]) (by omega) xN_no ?_
            refine g_iconst (v := (nI 1)) dX5_layRow_227 rfl rfl ?_
            refine g_iaddn dX5_layRow_228 rfl ?_
            refine g_ist10 dX5_layRow_229 rfl (by decide) (k := ?_)
            obtain ⟨hr1, hr2⟩ := hBx.2.1 k (by omega) hs
            have hre1 := (hre (k + 1) (by omega)).1
            have hb2 : F 21 (rowEndL L (k + 1) + 1) = nI (B (rowEndL L (k + 1) + 1)).1 ∧ F 22 (rowEndL L (k + 1) + 1) = nI (B (rowEndL L (k + 1) + 1)).2.1 ∧ F 23 (rowEndL L (k + 1) + 1) = nI (B (rowEndL L (k + 1) + 1)).2.2 := by
              obtain ⟨h1, h2, h3⟩ := hoth (rowEndL L (k + 1) + 1) (by omega)
              rw [h1, h2, h3]; exact hbx _ (by omega) (by omega) (Or.inr hr2)
            have hB2 := hBx.2.2.1 (rowEndL L (k + 1) + 1) (by omega)
            refine g_aload_n dX5_layRow_231 rfl rfl rfl ?_
            refine g_get fl_X5_59_X5 dX5_layRow_232 rfl (Or.inl (tm_o hT)) rfl ?_
            refine g_iload dX5_layRow_235 rfl rfl ?_
            refine t_ialdn (k := 22) (N := 512) (f := F 22) hT rfl rfl rfl (by first | rfl | assumption) dX5_layRow_237 rfl (by omega) ?_
            rw [hb2.2.1]
            refine g_iconst (v := (nI 1)) dX5_layRow_238 rfl rfl ?_
            refine g_iaddn dX5_layRow_239 rfl ?_
            refine g_aload_n dX5_layRow_240 rfl rfl rfl ?_
            refine g_get fl_X5_62_X5 dX5_layRow_241 rfl (Or.inl (tm_o hT)) rfl ?_
            refine g_iload dX5_layRow_244 rfl rfl ?_
            refine t_ialdn (k := 23) (N := 512) (f := F 23) hT rfl rfl rfl (by first | rfl | assumption) dX5_layRow_246 rfl (by omega) ?_
            rw [hb2.2.2]
            refine g_iaddn dX5_layRow_247 rfl ?_
            refine g_ist6 dX5_layRow_248 rfl (by decide) (k := ?_)
            refine g_aload_n dX5_layRow_250 rfl rfl rfl ?_
            refine g_get fl_X5_65_X5 dX5_layRow_251 rfl (Or.inl (tm_o hT)) rfl ?_
            refine g_iload dX5_layRow_254 rfl rfl ?_
            refine g_aload_n dX5_layRow_256 rfl rfl rfl ?_
            refine g_get fl_X5_56_X5 dX5_layRow_257 rfl (Or.inl (tm_o hT)) rfl ?_
            refine g_iload dX5_layRow_260 rfl rfl ?_
            refine t_ialdn (k := 21) (N := 512) (f := F 21) hT rfl rfl rfl (by first | rfl | assumption) dX5_layRow_262 rfl (by omega) ?_
            rw [hb2.1]
            refine g_aload_n dX5_layRow_263 rfl rfl rfl ?_
            refine g_get fl_X5_56_X5 dX5_layRow_264 rfl (Or.inl (tm_o hT)) rfl ?_
            refine g_iload dX5_layRow_267 rfl rfl ?_
            refine t_ialdn (k := 21) (N := 512) (f := F 21) hT rfl rfl rfl (by first | rfl | assumption) dX5_layRow_269 rfl (by omega) ?_
            rw [hb1.1]
            refine g_icmpn_le (tgt := 283) dX5_layRow_270 (by decide) rfl (by omega) (by omega) (fun c_270 => ?_) (fun c_270 => ?_)
            · refine g_aload_n dX5_layRow_283 rfl rfl rfl ?_
              refine g_get fl_X5_56_X5 dX5_layRow_284 rfl (Or.inl (tm_o hT)) rfl ?_
              refine g_iload dX5_layRow_287 rfl rfl ?_
              refine t_ialdn (k := 21) (N := 512) (f := F 21) hT rfl rfl rfl (by first | rfl | assumption) dX5_layRow_289 rfl (by omega) ?_
              first | rw [hb1.1] | skip
              refine t_iastn (k := 24) (N := 512) (f := f_136) hT hO rfl rfl rfl (by first | rfl | assumption) dX5_layRow_290 rfl (by omega) (fun m_290 f_290 e_290 hT hO => ?_)
              refine t291 _ _ _ _ _ _ _ _ hT hO (fun i hi => by rw [fset_ne hi, fset_ne hi, fset_ne hi]) (fun j hj => by rw [fset_eq, e_290, upd_ne hj, e_136, upd_ne hj, e_58, upd_ne hj]) ?_ (by rw [hit]) (by rw [hit])
              rw [fset_eq, e_290, upd_eq, hit]
              first | (rw [if_pos (by omega)]) | (rw [if_neg (by omega)])
            · refine g_aload_n dX5_layRow_273 rfl rfl rfl ?_
              refine g_get fl_X5_56_X5 dX5_layRow_274 rfl (Or.inl (tm_o hT)) rfl ?_
              refine g_iload dX5_layRow_277 rfl rfl ?_
              refine t_ialdn (k := 21) (N := 512) (f := F 21) hT rfl rfl rfl (by first | rfl | assumption) dX5_layRow_279 rfl (by omega) ?_
              rw [hb2.1]
              refine g_goto (tgt := 290) dX5_layRow_280 (by decide) ?_
              first | rw [hb1.1] | skip
              refine t_iastn (k := 24) (N := 512) (f := f_136) hT hO rfl rfl rfl (by first | rfl | assumption) dX5_layRow_290 rfl (by omega) (fun m_290 f_290 e_290 hT hO => ?_)
              refine t291 _ _ _ _ _ _ _ _ hT hO (fun i hi => by rw [fset_ne hi, fset_ne hi, fset_ne hi]) (fun j hj => by rw [fset_eq, e_290, upd_ne hj, e_136, upd_ne hj, e_58, upd_ne hj]) ?_ (by rw [hit]) (by rw [hit])
              rw [fset_eq, e_290, upd_eq, hit]
              first | (rw [if_pos (by omega)]) | (rw [if_neg (by omega)])
          · have hit : itB L B k = ((B (k + 1)).1, (B (k + 1)).2.1 + 1 + (B (k + 1)).2.2, 0) := by
              unfold itB
              rw [if_pos c_66, if_neg (by rw [hs]; decide), if_pos hs]
            refine g_iload dX5_layRow_69 rfl rfl ?_
            refine g_iconst (v := (nI 1)) dX5_layRow_71 rfl rfl ?_
            refine g_iaddn dX5_layRow_72 rfl ?_
            refine g_ist7 dX5_layRow_73 rfl (by decide) (k := ?_)
            refine g_aload_n dX5_layRow_75 rfl rfl rfl ?_
            refine g_get fl_X5_59_X5 dX5_layRow_76 rfl (Or.inl (tm_o hT)) rfl ?_
            refine g_iload dX5_layRow_79 rfl rfl ?_
            refine t_ialdn (k := 22) (N := 512) (f := F 22) hT rfl rfl rfl (by first | rfl | assumption) dX5_layRow_81 rfl (by omega) ?_
            rw [hb1.2.1]
            refine g_iconst (v := (nI 1)) dX5_layRow_82 rfl rfl ?_
            refine g_iaddn dX5_layRow_83 rfl ?_
            refine g_aload_n dX5_layRow_84 rfl rfl rfl ?_
            refine g_get fl_X5_62_X5 dX5_layRow_85 rfl (Or.inl (tm_o hT)) rfl ?_
            refine g_iload dX5_layRow_88 rfl rfl ?_
            refine t_ialdn (k := 23) (N := 512) (f := F 23) hT rfl rfl rfl (by first | rfl | assumption) dX5_layRow_90 rfl (by omega) ?_
            rw [hb1.2.2]
            refine g_iaddn dX5_layRow_91 rfl ?_
            refine g_ist8 dX5_layRow_92 rfl (by decide) (k := ?_)
            refine g_aload_n dX5_layRow_94 rfl rfl rfl ?_
            refine g_iload dX5_layRow_95 rfl rfl ?_
            refine t_ialdn (k := 3) (N := 184) (f := f) hT rfl rfl rfl (by first | rfl | assumption) dX5_layRow_97 rfl (by omega) ?_
            rw [hfk (by omega), hs]
            refine g_ineg dX5_layRow_98 rfl ?_
            rw [show -(-2 : Int32) = nI 2 from rfl]
            refine g_ist9 dX5_layRow_99 rfl (by decide) (k := ?_)
            refine g_aload_n dX5_layRow_101 rfl rfl rfl ?_
            refine g_get fl_X5_65_X5 dX5_layRow_102 rfl (Or.inl (tm_o hT)) rfl ?_
            refine g_iload dX5_layRow_105 rfl rfl ?_
            refine g_aload_n dX5_layRow_107 rfl rfl rfl ?_
            refine g_get fl_X5_56_X5 dX5_layRow_108 rfl (Or.inl (tm_o hT)) rfl ?_
            refine g_iload dX5_layRow_111 rfl rfl ?_
            refine t_ialdn (k := 21) (N := 512) (f := F 21) hT rfl rfl rfl (by first | rfl | assumption) dX5_layRow_113 rfl (by omega) ?_
            rw [hb1.1]
            refine g_iload dX5_layRow_114 rfl rfl ?_
            refine g_iconst (v := (nI 4)) dX5_layRow_116 rfl rfl ?_
            refine g_icmpn_ne (tgt := 124) dX5_layRow_117 (by decide) rfl (by omega) (by omega) (fun _ => ?_) (fun c_117 => by omega)
            refine g_iload dX5_layRow_124 rfl rfl ?_
            refine g_iconst (v := (nI 5)) dX5_layRow_126 rfl rfl ?_
            refine g_icmpn_ne (tgt := 134) dX5_layRow_127 (by decide) rfl (by omega) (by omega) (fun _ => ?_) (fun c_127 => by omega)
            refine g_iconst (v := (nI 0)) dX5_layRow_134 rfl rfl ?_
            refine g_iaddn dX5_layRow_135 rfl ?_
            refine t_iastn (k := 24) (N := 512) (f := f_58) hT hO rfl rfl rfl (by first | rfl | assumption) dX5_layRow_136 rfl (by omega) (fun m_136 f_136 e_136 hT hO => ?_)
            refine g_iload dX5_layRow_137 rfl rfl ?_
            refine g_iconst (v := (nI 3)) dX5_layRow_139 rfl rfl ?_
            refine g_icmpn_ge (tgt := 148) dX5_layRow_140 (by decide) rfl (by omega) (by omega) (fun c_140 => by omega) (fun _ => ?_)
            refine g_iload dX5_layRow_143 rfl rfl ?_
            refine g_goto (tgt := 183) dX5_layRow_145 (by decide) ?_
            refine g_ist5 dX5_layRow_183 rfl (by decide) (k := ?_)
            refine g_iload dX5_layRow_185 rfl rfl ?_
            refine g_iconst (v := (nI 3)) dX5_layRow_187 rfl rfl ?_
            refine g_icmpn_ne (tgt := 196) dX5_layRow_188 (by decide) rfl (by omega) (by omega) (fun _ => ?_) (fun c_188 => by omega)
            refine g_iload dX5_layRow_196 rfl rfl ?_
            refine g_iconst (v := (nI 3)) dX5_layRow_198 rfl rfl ?_
            refine g_icmpn_le (tgt := 212) dX5_layRow_199 (by decide) rfl (by omega) (by omega) (fun _ => ?_) (fun c_199 => by omega)
            refine g_iconst (v := (nI 0)) dX5_layRow_212 rfl rfl ?_
            refine g_ist6 dX5_layRow_213 rfl (by decide) (k := ?_)
            refine g_iload dX5_layRow_215 rfl rfl ?_
            refine g_iconst (v := (nI 1)) dX5_layRow_217 rfl rfl ?_
            refine g_icmpn_ne (tgt := 291) dX5_layRow_218 (by decide) rfl (by omega) (by omega) (fun _ => ?_) (fun c_218 => by omega)
            refine t291 _ _ _ _ _ _ _ _ hT hO (fun i hi => by rw [fset_ne hi, fset_ne hi]) (fun j hj => by rw [fset_eq, e_136, upd_ne hj, e_58, upd_ne hj]) ?_ (by rw [hit]) (by rw [hit])
            rw [fset_eq, e_136, upd_eq, hit]
            all_goals rfl
          · have hit : itB L B k = ((B (k + 1)).1, 0, (B (k + 1)).2.1 + 1 + (B (k + 1)).2.2) := by
              unfold itB
              rw [if_pos c_66, if_neg (by rw [hs]; decide), if_neg (by rw [hs]; decide), if_pos hs]
            refine g_iload dX5_layRow_69 rfl rfl ?_
            refine g_iconst (v := (nI 1)) dX5_layRow_71 rfl rfl ?_
            refine g_iaddn dX5_layRow_72 rfl ?_
            refine g_ist7 dX5_layRow_73 rfl (by decide) (k := ?_)
            refine g_aload_n dX5_layRow_75 rfl rfl rfl ?_
            refine g_get fl_X5_59_X5 dX5_layRow_76 rfl (Or.inl (tm_o hT)) rfl ?_
            refine g_iload dX5_layRow_79 rfl rfl ?_
            refine t_ialdn (k := 22) (N := 512) (f := F 22) hT rfl rfl rfl (by first | rfl | assumption) dX5_layRow_81 rfl (by omega) ?_
            rw [hb1.2.1]
            refine g_iconst (v := (nI 1)) dX5_layRow_82 rfl rfl ?_
            refine g_iaddn dX5_layRow_83 rfl ?_
            refine g_aload_n dX5_layRow_84 rfl rfl rfl ?_
            refine g_get fl_X5_62_X5 dX5_layRow_85 rfl (Or.inl (tm_o hT)) rfl ?_
            refine g_iload dX5_layRow_88 rfl rfl ?_
            refine t_ialdn (k := 23) (N := 512) (f := F 23) hT rfl rfl rfl (by first | rfl | assumption) dX5_layRow_90 rfl (by omega) ?_
            rw [hb1.2.2]
            refine g_iaddn dX5_layRow_91 rfl ?_
            refine g_ist8 dX5_layRow_92 rfl (by decide) (k := ?_)
            refine g_aload_n dX5_layRow_94 rfl rfl rfl ?_
            refine g_iload dX5_layRow_95 rfl rfl ?_
            refine t_ialdn (k := 3) (N := 184) (f := f) hT rfl rfl rfl (by first | rfl | assumption) dX5_layRow_97 rfl (by omega) ?_
            rw [hfk (by omega), hs]
            refine g_ineg dX5_layRow_98 rfl ?_
            rw [show -(-3 : Int32) = nI 3 from rfl]
            refine g_ist9 dX5_layRow_99 rfl (by decide) (k := ?_)
            refine g_aload_n dX5_layRow_101 rfl rfl rfl ?_
            refine g_get fl_X5_65_X5 dX5_layRow_102 rfl (Or.inl (tm_o hT)) rfl ?_
            refine g_iload dX5_layRow_105 rfl rfl ?_
            refine g_aload_n dX5_layRow_107 rfl rfl rfl ?_
            refine g_get fl_X5_56_X5 dX5_layRow_108 rfl (Or.inl (tm_o hT)) rfl ?_
            refine g_iload dX5_layRow_111 rfl rfl ?_
            refine t_ialdn (k := 21) (N := 512) (f := F 21) hT rfl rfl rfl (by first | rfl | assumption) dX5_layRow_113 rfl (by omega) ?_
            rw [hb1.1]
            refine g_iload dX5_layRow_114 rfl rfl ?_
            refine g_iconst (v := (nI 4)) dX5_layRow_116 rfl rfl ?_
            refine g_icmpn_ne (tgt := 124) dX5_layRow_117 (by decide) rfl (by omega) (by omega) (fun _ => ?_) (fun c_117 => by omega)
            refine g_iload dX5_layRow_124 rfl rfl ?_
            refine g_iconst (v := (nI 5)) dX5_layRow_126 rfl rfl ?_
            refine g_icmpn_ne (tgt := 134) dX5_layRow_127 (by decide) rfl (by omega) (by omega) (fun _ => ?_) (fun c_127 => by omega)
            refine g_iconst (v := (nI 0)) dX5_layRow_134 rfl rfl ?_
            refine g_iaddn dX5_layRow_135 rfl ?_
            refine t_iastn (k := 24) (N := 512) (f := f_58) hT hO rfl rfl rfl (by first | rfl | assumption) dX5_layRow_136 rfl (by omega) (fun m_136 f_136 e_136 hT hO => ?_)
            refine g_iload dX5_layRow_137 rfl rfl ?_
            refine g_iconst (v := (nI 3)) dX5_layRow_139 rfl rfl ?_
            refine g_icmpn_ge (tgt := 148) dX5_layRow_140 (by decide) rfl (by omega) (by omega) (fun _ => ?_) (fun c_140 => by omega)
            refine g_iload dX5_layRow_148 rfl rfl ?_
            refine g_iconst (v := (nI 3)) dX5_layRow_150 rfl rfl ?_
            refine g_icmpn_ne (tgt := 158) dX5_layRow_151 (by decide) rfl (by omega) (by omega) (fun c_151 => by omega) (fun _ => ?_)
            refine g_iconst (v := (nI 0)) dX5_layRow_154 rfl rfl ?_
            refine g_goto (tgt := 183) dX5_layRow_155 (by decide) ?_
            refine g_ist5 dX5_layRow_183 rfl (by decide) (k := ?_)
            refine g_iload dX5_layRow_185 rfl rfl ?_
            refine g_iconst (v := (nI 3)) dX5_layRow_187 rfl rfl ?_
            refine g_icmpn_ne (tgt := 196) dX5_layRow_188 (by decide) rfl (by omega) (by omega) (fun c_188 => by omega) (fun _ => ?_)
            refine g_iload dX5_layRow_191 rfl rfl ?_
            refine g_goto (tgt := 213) dX5_layRow_193 (by decide) ?_
            refine g_ist6 dX5_layRow_213 rfl (by decide) (k := ?_)
            refine g_iload dX5_layRow_215 rfl rfl ?_
            refine g_iconst (v := (nI 1)) dX5_layRow_217 rfl rfl ?_
            refine g_icmpn_ne (tgt := 291) dX5_layRow_218 (by decide) rfl (by omega) (by omega) (fun _ => ?_) (fun c_218 => by omega)
            refine t291 _ _ _ _ _ _ _ _ hT hO (fun i hi => by rw [fset_ne hi, fset_ne hi]) (fun j hj => by rw [fset_eq, e_136, upd_ne hj, e_58, upd_ne hj]) ?_ (by rw [hit]) (by rw [hit])
            rw [fset_eq, e_136, upd_eq, hit]
            all_goals rfl
          · have hit : itB L B k = ((B (k + 1)).1 + 1, (B (k + 1)).2.1 + 1, (B (k + 1)).2.2) := by
              unfold itB
              rw [if_pos c_66, if_neg (by rw [hs]; decide), if_neg (by rw [hs]; decide), if_neg (by rw [hs]; decide), if_pos hs]
            refine g_iload dX5_layRow_69 rfl rfl ?_
            refine g_iconst (v := (nI 1)) dX5_layRow_71 rfl rfl ?_
            refine g_iaddn dX5_layRow_72 rfl ?_
            refine g_ist7 dX5_layRow_73 rfl (by decide) (k := ?_)
            refine g_aload_n dX5_layRow_75 rfl rfl rfl ?_
            refine g_get fl_X5_59_X5 dX5_layRow_76 rfl (Or.inl (tm_o hT)) rfl ?_
            refine g_iload dX5_layRow_79 rfl rfl ?_
            refine t_ialdn (k := 22) (N := 512) (f := F 22) hT rfl rfl rfl (by first | rfl | assumption) dX5_layRow_81 rfl (by omega) ?_
            rw [hb1.2.1]
            refine g_iconst (v := (nI 1)) dX5_layRow_82 rfl rfl ?_
            refine g_iaddn dX5_layRow_83 rfl ?_
            refine g_aload_n dX5_layRow_84 rfl rfl rfl ?_
            refine g_get fl_X5_62_X5 dX5_layRow_85 rfl (Or.inl (tm_o hT)) rfl ?_
            refine g_iload dX5_layRow_88 rfl rfl ?_
            refine t_ialdn (k := 23) (N := 512) (f := F 23) hT rfl rfl rfl (by first | rfl | assumption) dX5_layRow_90 rfl (by omega) ?_
            rw [hb1.2.2]
            refine g_iaddn dX5_layRow_91 rfl ?_
            refine g_ist8 dX5_layRow_92 rfl (by decide) (k := ?_)
            refine g_aload_n dX5_layRow_94 rfl rfl rfl ?_
            refine g_iload dX5_layRow_95 rfl rfl ?_
            refine t_ialdn (k := 3) (N := 184) (f := f) hT rfl rfl rfl (by first | rfl | assumption) dX5_layRow_97 rfl (by omega) ?_
            rw [hfk (by omega), hs]
            refine g_ineg dX5_layRow_98 rfl ?_
            rw [show -(-4 : Int32) = nI 4 from rfl]
            refine g_ist9 dX5_layRow_99 rfl (by decide) (k := ?_)
            refine g_aload_n dX5_layRow_101 rfl rfl rfl ?_
            refine g_get fl_X5_65_X5 dX5_layRow_102 rfl (Or.inl (tm_o hT)) rfl ?_
            refine g_iload dX5_layRow_105 rfl rfl ?_
            refine g_aload_n dX5_layRow_107 rfl rfl rfl ?_
            refine g_get fl_X5_56_X5 dX5_layRow_108 rfl (Or.inl (tm_o hT)) rfl ?_
            refine g_iload dX5_layRow_111 rfl rfl ?_
            refine t_ialdn (k := 21) (N := 512) (f := F 21) hT rfl rfl rfl (by first | rfl | assumption) dX5_layRow_113 rfl (by omega) ?_
            rw [hb1.1]
            refine g_iload dX5_layRow_114 rfl rfl ?_
            refine g_iconst (v := (nI 4)) dX5_layRow_116 rfl rfl ?_
            refine g_icmpn_ne (tgt := 124) dX5_layRow_117 (by decide) rfl (by omega) (by omega) (fun c_117 => by omega) (fun _ => ?_)
            refine g_iconst (v := (nI 1)) dX5_layRow_120 rfl rfl ?_
            refine g_goto (tgt := 135) dX5_layRow_121 (by decide) ?_
            refine g_iaddn dX5_layRow_135 rfl ?_
            refine t_iastn (k := 24) (N := 512) (f := f_58) hT hO rfl rfl rfl (by first | rfl | assumption) dX5_layRow_136 rfl (by omega) (fun m_136 f_136 e_136 hT hO => ?_)
            refine g_iload dX5_layRow_137 rfl rfl ?_
            refine g_iconst (v := (nI 3)) dX5_layRow_139 rfl rfl ?_
            refine g_icmpn_ge (tgt := 148) dX5_layRow_140 (by decide) rfl (by omega) (by omega) (fun _ => ?_) (fun c_140 => by omega)
            refine g_iload dX5_layRow_148 rfl rfl ?_
            refine g_iconst (v := (nI 3)) dX5_layRow_150 rfl rfl ?_
            refine g_icmpn_ne (tgt := 158) dX5_layRow_151 (by decide) rfl (by omega) (by omega) (fun _ => ?_) (fun c_151 => by omega)
            refine g_iload dX5_layRow_158 rfl rfl ?_
            refine g_iconst (v := (nI 4)) dX5_layRow_160 rfl rfl ?_
            refine g_icmpn_ne (tgt := 176) dX5_layRow_161 (by decide) rfl (by omega) (by omega) (fun c_161 => by omega) (fun _ => ?_)
            refine g_aload_n dX5_layRow_164 rfl rfl rfl ?_
            refine g_get fl_X5_59_X5 dX5_layRow_165 rfl (Or.inl (tm_o hT)) rfl ?_
            refine g_iload dX5_layRow_168 rfl rfl ?_
            refine t_ialdn (k := 22) (N := 512) (f := F 22) hT rfl rfl rfl (by first | rfl | assumption) dX5_layRow_170 rfl (by omega) ?_
            rw [hb1.2.1]
            refine g_iconst (v := (nI 1)) dX5_layRow_171 rfl rfl ?_
            refine g_iaddn dX5_layRow_172 rfl ?_
            refine g_goto (tgt := 183) dX5_layRow_173 (by decide) ?_
            refine g_ist5 dX5_layRow_183 rfl (by decide) (k := ?_)
            refine g_iload dX5_layRow_185 rfl rfl ?_
            refine g_iconst (v := (nI 3)) dX5_layRow_187 rfl rfl ?_
            refine g_icmpn_ne (tgt := 196) dX5_layRow_188 (by decide) rfl (by omega) (by omega) (fun _ => ?_) (fun c_188 => by omega)
            refine g_iload dX5_layRow_196 rfl rfl ?_
            refine g_iconst (v := (nI 3)) dX5_layRow_198 rfl rfl ?_
            refine g_icmpn_le (tgt := 212) dX5_layRow_199 (by decide) rfl (by omega) (by omega) (fun c_199 => by omega) (fun _ => ?_)
            refine g_aload_n dX5_layRow_202 rfl rfl rfl ?_
            refine g_get fl_X5_62_X5 dX5_layRow_203 rfl (Or.inl (tm_o hT)) rfl ?_
            refine g_iload dX5_layRow_206 rfl rfl ?_
            refine t_ialdn (k := 23) (N := 512) (f := F 23) hT rfl rfl rfl (by first | rfl | assumption) dX5_layRow_208 rfl (by omega) ?_
            rw [hb1.2.2]
            refine g_goto (tgt := 213) dX5_layRow_209 (by decide) ?_
            refine g_ist6 dX5_layRow_213 rfl (by decide) (k := ?_)
            refine g_iload dX5_layRow_215 rfl rfl ?_
            refine g_iconst (v := (nI 1)) dX5_layRow_217 rfl rfl ?_
            refine g_icmpn_ne (tgt := 291) dX5_layRow_218 (by decide) rfl (by omega) (by omega) (fun _ => ?_) (fun c_218 => by omega)
            refine t291 _ _ _ _ _ _ _ _ hT hO (fun i hi => by rw [fset_ne hi, fset_ne hi]) (fun j hj => by rw [fset_eq, e_136, upd_ne hj, e_58, upd_ne hj]) ?_ (by rw [hit]) (by rw [hit])
            rw [fset_eq, e_136, upd_eq, hit]
            all_goals rfl
          · have hit : itB L B k = ((B (k + 1)).1 + 2, (B (k + 1)).2.1, (B (k + 1)).2.2) := by
              unfold itB
              rw [if_pos c_66, if_neg (by rw [hs]; decide), if_neg (by rw [hs]; decide), if_neg (by rw [hs]; decide), if_neg (by rw [hs]; decide)]
            refine g_iload dX5_layRow_69 rfl rfl ?_
            refine g_iconst (v := (nI 1)) dX5_layRow_71 rfl rfl ?_
            refine g_iaddn dX5_layRow_72 rfl ?_
            refine g_ist7 dX5_layRow_73 rfl (by decide) (k := ?_)
            refine g_aload_n dX5_layRow_75 rfl rfl rfl ?_
            refine g_get fl_X5_59_X5 dX5_layRow_76 rfl (Or.inl (tm_o hT)) rfl ?_
            refine g_iload dX5_layRow_79 rfl rfl ?_
            refine t_ialdn (k := 22) (N := 512) (f := F 22) hT rfl rfl rfl (by first | rfl | assumption) dX5_layRow_81 rfl (by omega) ?_
            rw [hb1.2.1]
            refine g_iconst (v := (nI 1)) dX5_layRow_82 rfl rfl ?_
            refine g_iaddn dX5_layRow_83 rfl ?_
            refine g_aload_n dX5_layRow_84 rfl rfl rfl ?_
            refine g_get fl_X5_62_X5 dX5_layRow_85 rfl (Or.inl (tm_o hT)) rfl ?_
            refine g_iload dX5_layRow_88 rfl rfl ?_
            refine t_ialdn (k := 23) (N := 512) (f := F 23) hT rfl rfl rfl (by first | rfl | assumption) dX5_layRow_90 rfl (by omega) ?_
            rw [hb1.2.2]
            refine g_iaddn dX5_layRow_91 rfl ?_
            refine g_ist8 dX5_layRow_92 rfl (by decide) (k := ?_)
            refine g_aload_n dX5_layRow_94 rfl rfl rfl ?_
            refine g_iload dX5_layRow_95 rfl rfl ?_
            refine t_ialdn (k := 3) (N := 184) (f := f) hT rfl rfl rfl (by first | rfl | assumption) dX5_layRow_97 rfl (by omega) ?_
            rw [hfk (by omega), hs]
            refine g_ineg dX5_layRow_98 rfl ?_
            rw [show -(-5 : Int32) = nI 5 from rfl]
            refine g_ist9 dX5_layRow_99 rfl (by decide) (k := ?_)
            refine g_aload_n dX5_layRow_101 rfl rfl rfl ?_
            refine g_get fl_X5_65_X5 dX5_layRow_102 rfl (Or.inl (tm_o hT)) rfl ?_
            refine g_iload dX5_layRow_105 rfl rfl ?_
            refine g_aload_n dX5_layRow_107 rfl rfl rfl ?_
            refine g_get fl_X5_56_X5 dX5_layRow_108 rfl (Or.inl (tm_o hT)) rfl ?_
            refine g_iload dX5_layRow_111 rfl rfl ?_
            refine t_ialdn (k := 21) (N := 512) (f := F 21) hT rfl rfl rfl (by first | rfl | assumption) dX5_layRow_113 rfl (by omega) ?_
            rw [hb1.1]
            refine g_iload dX5_layRow_114 rfl rfl ?_
            refine g_iconst (v := (nI 4)) dX5_layRow_116 rfl rfl ?_
            refine g_icmpn_ne (tgt := 124) dX5_layRow_117 (by decide) rfl (by omega) (by omega) (fun _ => ?_) (fun c_117 => by omega)
            refine g_iload dX5_layRow_124 rfl rfl ?_
            refine g_iconst (v := (nI 5)) dX5_layRow_126 rfl rfl ?_
            refine g_icmpn_ne (tgt := 134) dX5_layRow_127 (by decide) rfl (by omega) (by omega) (fun c_127 => by omega) (fun _ => ?_)
            refine g_iconst (v := (nI 2)) dX5_layRow_130 rfl rfl ?_
            refine g_goto (tgt := 135) dX5_layRow_131 (by decide) ?_
            refine g_iaddn dX5_layRow_135 rfl ?_
            refine t_iastn (k := 24) (N := 512) (f := f_58) hT hO rfl rfl rfl (by first | rfl | assumption) dX5_layRow_136 rfl (by omega) (fun m_136 f_136 e_136 hT hO => ?_)
            refine g_iload dX5_layRow_137 rfl rfl ?_
            refine g_iconst (v := (nI 3)) dX5_layRow_139 rfl rfl ?_
            refine g_icmpn_ge (tgt := 148) dX5_layRow_140 (by decide) rfl (by omega) (by omega) (fun _ => ?_) (fun c_140 => by omega)
            refine g_iload dX5_layRow_148 rfl rfl ?_
            refine g_iconst (v := (nI 3)) dX5_layRow_150 rfl rfl ?_
            refine g_icmpn_ne (tgt := 158) dX5_layRow_151 (by decide) rfl (by omega) (by omega) (fun _ => ?_) (fun c_151 => by omega)
            refine g_iload dX5_layRow_158 rfl rfl ?_
            refine g_iconst (v := (nI 4)) dX5_layRow_160 rfl rfl ?_
            refine g_icmpn_ne (tgt := 176) dX5_layRow_161 (by decide) rfl (by omega) (by omega) (fun _ => ?_) (fun c_161 => by omega)
            refine g_aload_n dX5_layRow_176 rfl rfl rfl ?_
            refine g_get fl_X5_59_X5 dX5_layRow_177 rfl (Or.inl (tm_o hT)) rfl ?_
            refine g_iload dX5_layRow_180 rfl rfl ?_
            refine t_ialdn (k := 22) (N := 512) (f := F 22) hT rfl rfl rfl (by first | rfl | assumption) dX5_layRow_182 rfl (by omega) ?_
            rw [hb1.2.1]
            refine g_ist5 dX5_layRow_183 rfl (by decide) (k := ?_)
            refine g_iload dX5_layRow_185 rfl rfl ?_
            refine g_iconst (v := (nI 3)) dX5_layRow_187 rfl rfl ?_
            refine g_icmpn_ne (tgt := 196) dX5_layRow_188 (by decide) rfl (by omega) (by omega) (fun _ => ?_) (fun c_188 => by omega)
            refine g_iload dX5_layRow_196 rfl rfl ?_
            refine g_iconst (v := (nI 3)) dX5_layRow_198 rfl rfl ?_
            refine g_icmpn_le (tgt := 212) dX5_layRow_199 (by decide) rfl (by omega) (by omega) (fun c_199 => by omega) (fun _ => ?_)
            refine g_aload_n dX5_layRow_202 rfl rfl rfl ?_
            refine g_get fl_X5_62_X5 dX5_layRow_203 rfl (Or.inl (tm_o hT)) rfl ?_
            refine g_iload dX5_layRow_206 rfl rfl ?_
            refine t_ialdn (k := 23) (N := 512) (f := F 23) hT rfl rfl rfl (by first | rfl | assumption) dX5_layRow_208 rfl (by omega) ?_
            rw [hb1.2.2]
            refine g_goto (tgt := 213) dX5_layRow_209 (by decide) ?_
            refine g_ist6 dX5_layRow_213 rfl (by decide) (k := ?_)
            refine g_iload dX5_layRow_215 rfl rfl ?_
            refine g_iconst (v := (nI 1)) dX5_layRow_217 rfl rfl ?_
            refine g_icmpn_ne (tgt := 291) dX5_layRow_218 (by decide) rfl (by omega) (by omega) (fun _ => ?_) (fun c_218 => by omega)
            refine t291 _ _ _ _ _ _ _ _ hT hO (fun i hi => by rw [fset_ne hi, fset_ne hi]) (fun j hj => by rw [fset_eq, e_136, upd_ne hj, e_58, upd_ne hj]) ?_ (by rw [hit]) (by rw [hit])
            rw [fset_eq, e_136, upd_eq, hit]
            all_goals rfl
        refine g_iconst (v := (nI 0)) dX5_layRow_45 rfl rfl ?_
        refine g_ist5 dX5_layRow_46 rfl (by decide) (k := ?_)
        refine g_iconst (v := (nI 0)) dX5_layRow_48 rfl rfl ?_
        refine g_ist6 dX5_layRow_49 rfl (by decide) (k := ?_)
        refine g_aload_n dX5_layRow_51 rfl rfl rfl ?_
        refine g_get fl_X5_65_X5 dX5_layRow_52 rfl (Or.inl (tm_o hT)) rfl ?_
        refine g_iload dX5_layRow_55 rfl rfl ?_
        refine g_iconst (v := (nI 1)) dX5_layRow_57 rfl rfl ?_
        refine t_iastn (k := 24) (N := 512) (f := F 24) hT hO rfl rfl rfl (by first | rfl | assumption) dX5_layRow_58 rfl (by omega) (fun m_58 f_58 e_58 hT hO => ?_)
        refine g_aload_n dX5_layRow_59 rfl rfl rfl ?_
        refine g_iload dX5_layRow_60 rfl rfl ?_
        refine t_ialdn (k := 3) (N := 184) (f := f) hT rfl rfl rfl (by first | rfl | assumption) dX5_layRow_62 rfl (by omega) ?_
        rw [hfk (by omega)]
        refine g_staticP iS_X5_isBegin q2511 (c_isBegin (d := d - 1) (by omega) _) dX5_layRow_63 rfl rfl rfl (by first | exact Nat.le_of_ble_eq_true rfl | simp [Value.category, rf_cat]) (by omega) xN_no ?_
        refine g_ifB_eq (tgt := 291) dX5_layRow_66 (by decide) rfl (fun c_66 => ?_) (fun c_66 => ?_)
        · refine t291 _ _ 0 0 _ _ _ _ hT hO (fun i hi => fset_ne hi) (fun j hj => by rw [fset_eq, e_58, upd_ne hj]) ?_ ?_ ?_
          · rw [fset_eq, e_58, upd_eq]; unfold itB; rw [if_neg (by rw [c_66]; decide)]
          · unfold itB; rw [if_neg (by rw [c_66]; decide)]
          · unfold itB; rw [if_neg (by rw [c_66]; decide)]
        · exact t69 _ _ c_66 e_58 hT hO
      refine g_iload dX5_layRow_39 rfl rfl ?_
      refine g_iload_n dX5_layRow_41 rfl rfl rfl ?_
      refine g_icmpn_ge (tgt := 374) dX5_layRow_42 (by decide) rfl (by omega) (by omega) (fun c_42 => ?_) (fun c_42 => ?_)
      · refine g_return dX5_layRow_374 rfl ?_
        rw [rwB, if_neg (by omega)] at hacc
        refine ⟨rfl, F, hT, hbo, ⟨by rw [hacc]; exact hw, by rw [hacc]; exact hh, by rw [hacc]; exact hlo⟩, hoth, fun j hj => ?_, hO⟩
        rcases hdone j hj with z | z
        · exact absurd z (inCh_e (by omega))
        · exact z
      · exact body c_42
  have hO := xo_rf A m
  refine ct_intro (lv := [some (.ref (A 0)), some (.ref (A 3)), some (.int (nI st)), none, none, none, none, none, none, none, none]) 8 (by decide) rfl (Nat.le_of_ble_eq_true rfl) rfl ?_
  have fin : ∀ z f1 f2 f3 m', z = (if st = rowEndL L st then 1 else 0) → f1 = upd (F 21) st (nI z) → f2 = upd (F 22) st (nI 0) → f3 = upd (F 23) st (nI 0) → TM A rf ts ac ls rs dp (fset (fset (fset F 21 f1) 22 f2) 23 f3) m' → XOf A m m' → G w MX5_layRow (xZ w (tRow A m rf ts ac ls rs dp F0 L B st) xN) d 0 0 39 [some (.ref (A 0)), some (.ref (A 3)), some (.int (nI st)), some (.int (nI (rowEndL L st))), some (.int (nI st)), none, none, none, none, none, none] [] m' := by
    intro z f1 f2 f3 m' hz e1 e2 e3 hT hO
    refine loop (rowEndL L st - st + 1) st (z, 0, 0) _ _ _ _ _ _ _ _ (by omega) (by omega) (by omega) (by rw [hz]; exact hBst) (by show f1 st = _; rw [e1, upd_eq]) (by show f2 st = _; rw [e2, upd_eq]) (by show f3 st = _; rw [e3, upd_eq]) hT hO (fun i h1 h2 h3 h4 => by rw [fset_ne h3, fset_ne h2, fset_ne h1, eF0]) (fun g hg => ⟨?_, ?_, ?_⟩) (fun j hj => ?_)
    · show f1 g = _; rw [e1, upd_ne hg, eF0]
    · show f2 g = _; rw [e2, upd_ne hg, eF0]
    · show f3 g = _; rw [e3, upd_ne hg, eF0]
    · rcases hj with hj | hj
      · exact Or.inl hj
      · refine Or.inr ?_
        rw [eF0] at hj
        exact hj
  refine g_aload_n dX5_layRow_0 rfl rfl rfl ?_
  refine g_iload_n dX5_layRow_1 rfl rfl rfl ?_
  refine g_staticP iS_X5_rowEnd q2533 (p_rowEnd (d := d - 1) (by omega) (tm_at 3 hT rfl rfl rfl hf) hp (by omega)) dX5_layRow_2 rfl rfl rfl (by first | exact Nat.le_of_ble_eq_true rfl | simp [Value.category, rf_cat]) (by omega) xN_no ?_
  refine g_ist3 dX5_layRow_5 rfl (by decide) (k := ?_)
  refine g_aload_n dX5_layRow_6 rfl rfl rfl ?_
  refine g_get fl_X5_56_X5 dX5_layRow_7 rfl (Or.inl (tm_o hT)) rfl ?_
  refine g_iload_n dX5_layRow_10 rfl rfl rfl ?_
  refine g_iload_n dX5_layRow_11 rfl rfl rfl ?_
  refine g_iload_n dX5_layRow_12 rfl rfl rfl ?_
  refine g_icmpn_ne (tgt := 20) dX5_layRow_13 (by decide) rfl (by omega) (by omega) (fun c_13 => ?_) (fun c_13 => ?_)
  · refine g_iconst (v := (nI 0)) dX5_layRow_20 rfl rfl ?_
    refine t_iastn (k := 21) (N := 512) (f := F 21) hT hO rfl rfl rfl (by first | rfl | assumption) dX5_layRow_21 rfl (by omega) (fun m_21 f_21 e_21 hT hO => ?_)
    refine g_aload_n dX5_layRow_22 rfl rfl rfl ?_
    refine g_get fl_X5_59_X5 dX5_layRow_23 rfl (Or.inl (tm_o hT)) rfl ?_
    refine g_iload_n dX5_layRow_26 rfl rfl rfl ?_
    refine g_iconst (v := (nI 0)) dX5_layRow_27 rfl rfl ?_
    refine t_iastn (k := 22) (N := 512) (f := F 22) hT hO rfl rfl rfl (by first | rfl | assumption) dX5_layRow_28 rfl (by omega) (fun m_28 f_28 e_28 hT hO => ?_)
    refine g_aload_n dX5_layRow_29 rfl rfl rfl ?_
    refine g_get fl_X5_62_X5 dX5_layRow_30 rfl (Or.inl (tm_o hT)) rfl ?_
    refine g_iload_n dX5_layRow_33 rfl rfl rfl ?_
    refine g_iconst (v := (nI 0)) dX5_layRow_34 rfl rfl ?_
    refine t_iastn (k := 23) (N := 512) (f := F 23) hT hO rfl rfl rfl (by first | rfl | assumption) dX5_layRow_35 rfl (by omega) (fun m_35 f_35 e_35 hT hO => ?_)
    refine g_iload_n dX5_layRow_36 rfl rfl rfl ?_
    refine g_ist4 dX5_layRow_37 rfl (by decide) (k := ?_)
    exact fin 0 _ _ _ _ (by rw [if_neg (by omega)]) e_21 e_28 e_35 hT hO
  · refine g_iconst (v := (nI 1)) dX5_layRow_16 rfl rfl ?_
    refine g_goto (tgt := 21) dX5_layRow_17 (by decide) ?_
    refine t_iastn (k := 21) (N := 512) (f := F 21) hT hO rfl rfl rfl (by first | rfl | assumption) dX5_layRow_21 rfl (by omega) (fun m_21 f_21 e_21 hT hO => ?_)
    refine g_aload_n dX5_layRow_22 rfl rfl rfl ?_
    refine g_get fl_X5_59_X5 dX5_layRow_23 rfl (Or.inl (tm_o hT)) rfl ?_
    refine g_iload_n dX5_layRow_26 rfl rfl rfl ?_
    refine g_iconst (v := (nI 0)) dX5_layRow_27 rfl rfl ?_
    refine t_iastn (k := 22) (N := 512) (f := F 22) hT hO rfl rfl rfl (by first | rfl | assumption) dX5_layRow_28 rfl (by omega) (fun m_28 f_28 e_28 hT hO => ?_)
    refine g_aload_n dX5_layRow_29 rfl rfl rfl ?_
    refine g_get fl_X5_62_X5 dX5_layRow_30 rfl (Or.inl (tm_o hT)) rfl ?_
    refine g_iload_n dX5_layRow_33 rfl rfl rfl ?_
    refine g_iconst (v := (nI 0)) dX5_layRow_34 rfl rfl ?_
    refine t_iastn (k := 23) (N := 512) (f := F 23) hT hO rfl rfl rfl (by first | rfl | assumption) dX5_layRow_35 rfl (by omega) (fun m_35 f_35 e_35 hT hO => ?_)
    refine g_iload_n dX5_layRow_36 rfl rfl rfl ?_
    refine g_ist4 dX5_layRow_37 rfl (by decide) (k := ?_)
    exact fin 1 _ _ _ _ (by rw [if_pos (by omega)]) e_21 e_28 e_35 hT hO
theorem t_row4 {f : Nat → Int32} {L : List Int32} {B : Nat → XBx} {st : Nat} (hd : 4 ≤ d) (hT : TM A rf ts ac ls rs dp F m) (hf : F 4 = f) (hp : Pl f L) (hb : Bal L) (hBx : BxL L B) (hst : st ≤ L.length) (hop : st = 0 ∨ opnL L (st - 1)) (hbx : ∀ g, st < g → g ≤ L.length → opnL L (g - 1) → bxA F B g) : CT w MX5_layRow d 0 0 [.ref (A 0), .ref (A 4), .int (nI st)] m (tRow A m rf ts ac ls rs dp F L B st) xN := by
  have hlen := hp.2.2
  have hre := fun g (h : g ≤ L.length) => (show g ≤ rowEndL L g ∧ rowEndL L g ≤ L.length from rowEnd_le (lf L) L.length 0 g h)
  have hrst := hre st hst
  have hBst := hBx.2.2.2 st hst hop
  have hB0 := hBx.2.2.1 st hst
  have hf0 := hf
  obtain ⟨F0, eF0⟩ : ∃ F0, F0 = F := ⟨_, rfl⟩
  rw [← eF0] at hbx ⊢
  have loop : ∀ t k a F m' x5 x6 x7 x8 x9 x10, rowEndL L st - k < t → st ≤ k → k ≤ L.length → B st = rwB L B (rowEndL L st) a k → F 21 st = nI a.1 → F 22 st = nI a.2.1 → F 23 st = nI a.2.2 → TM A rf ts ac ls rs dp F m' → XOf A m m' → bxO F0 F → (∀ g, g ≠ st → F 21 g = F0 21 g ∧ F 22 g = F0 22 g ∧ F 23 g = F0 23 g) → (∀ j, inCh L (rowEndL L st) st j = true ∨ rtI L B F0 j → inCh L (rowEndL L st) k j = true ∨ rtI L B F j) → G w MX5_layRow (xZ w (tRow A m rf ts ac ls rs dp F0 L B st) xN) d 0 0 39 [some (.ref (A 0)), some (.ref (A 4)), some (.int (nI st)), some (.int (nI (rowEndL L st))), some (.int (nI k)), x5, x6, x7, x8, x9, x10] [] m' := by
    intro t
    induction t with
    | zero => intro k a F m' x5 x6 x7 x8 x9 x10 h; omega
    | succ t ih =>
      intro k a F m' x5 x6 x7 x8 x9 x10 h hk1 hk2 hacc hw hh hlo hT hO hbo hoth hdone
      have hf : F 4 = f := (hbo 4 (by decide) (by decide) (by decide) (by decide)).trans (eF0 ▸ hf0)
      have hfk : k < L.length → f k = lf L k := fun h => hp.1 k h
      have hge0 := rwB_ge L B (rowEndL L st) a k
      rw [← hacc] at hge0
      have hig : k < itemEndL L k := itemEnd_gt _ _ _
      have body : k < rowEndL L st → G w MX5_layRow (xZ w (tRow A m rf ts ac ls rs dp F0 L B st) xN) d 0 0 45 [some (.ref (A 0)), some (.ref (A 4)), some (.int (nI st)), some (.int (nI (rowEndL L st))), some (.int (nI k)), x5, x6, x7, x8, x9, x10] [] m' := by
        intro hke
        have hie := itemEnd_le hb (show k < L.length by omega)
        have hacc2 := hacc
        rw [rwB, if_pos hke] at hacc2
        have hge := rwB_ge L B (rowEndL L st) (a.1 + (itB L B k).1, mxN a.2.1 (itB L B k).2.1, mxN a.2.2 (itB L B k).2.2) (itemEndL L k)
        rw [← hacc2] at hge
        obtain ⟨g1, g2, g3⟩ := hge
        have g1 : a.1 + (itB L B k).1 ≤ (B st).1 := g1
        have m1 : (itB L B k).2.1 ≤ mxN a.2.1 (itB L B k).2.1 := by unfold mxN; split <;> omega
        have m2 : (itB L B k).2.2 ≤ mxN a.2.2 (itB L B k).2.2 := by unfold mxN; split <;> omega
        have g2 : mxN a.2.1 (itB L B k).2.1 ≤ (B st).2.1 := g2
        have g3 : mxN a.2.2 (itB L B k).2.2 ≤ (B st).2.2 := g3
        have t291 : ∀ F1 m' hi lo x7 x8 x9 x10, TM A rf ts ac ls rs dp F1 m' → XOf A m m' → (∀ i, i ≠ 24 → F1 i = F i) → (∀ j, j ≠ k → F1 24 j = F 24 j) → F1 24 k = nI (itB L B k).1 → hi = (itB L B k).2.1 → lo = (itB L B k).2.2 → G w MX5_layRow (xZ w (tRow A m rf ts ac ls rs dp F0 L B st) xN) d 0 0 291 [some (.ref (A 0)), some (.ref (A 4)), some (.int (nI st)), some (.int (nI (rowEndL L st))), some (.int (nI k)), some (.int (nI hi)), some (.int (nI lo)), x7, x8, x9, x10] [] m' := by
          intro F m' hi lo x7 x8 x9 x10 hT hO hF1 h24 h24k ehi elo
          have hw : F 21 st = nI a.1 := by rw [hF1 21 (by decide)]; exact hw
          have hh : F 22 st = nI a.2.1 := by rw [hF1 22 (by decide)]; exact hh
          have hlo : F 23 st = nI a.2.2 := by rw [hF1 23 (by decide)]; exact hlo
          have hf : F 4 = f := by rw [hF1 4 (by decide)]; exact hf
          have t363 : ∀ f1 f2 f3 m', f1 = upd (F 21) st (nI (a.1 + (itB L B k).1)) → f2 = upd (F 22) st (nI (mxN a.2.1 (itB L B k).2.1)) → f3 = upd (F 23) st (nI (mxN a.2.2 (itB L B k).2.2)) → TM A rf ts ac ls rs dp (fset (fset (fset F 21 f1) 22 f2) 23 f3) m' → XOf A m m' → G w MX5_layRow (xZ w (tRow A m rf ts ac ls rs dp F0 L B st) xN) d 0 0 363 [some (.ref (A 0)), some (.ref (A 4)), some (.int (nI st)), some (.int (nI (rowEndL L st))), some (.int (nI k)), some (.int (nI hi)), some (.int (nI lo)), x7, x8, x9, x10] [] m' := by
            intro f1 f2 f3 m' e1 e2 e3 hT hO
            refine g_aload_n dX5_layRow_363 rfl rfl rfl ?_
            refine g_iload dX5_layRow_364 rfl rfl ?_
            refine g_staticP iS_X5_itemEnd q2542 (p_itemEnd (d := d - 1) (by omega) (tm_at 4 hT rfl rfl rfl hf) hp hb (by omega)) dX5_layRow_366 rfl rfl rfl (by first | exact Nat.le_of_ble_eq_true rfl | simp [Value.category, rf_cat]) (by omega) xN_no ?_
            refine g_ist4 dX5_layRow_369 rfl (by decide) (k := ?_)
            refine g_goto (tgt := 39) dX5_layRow_371 (by decide) ?_
            refine ih _ (a.1 + (itB L B k).1, mxN a.2.1 (itB L B k).2.1, mxN a.2.2 (itB L B k).2.2) _ _ _ _ _ _ _ _ (by omega) (by omega) hie hacc2 (by show f1 st = _; rw [e1, upd_eq]) (by show f2 st = _; rw [e2, upd_eq]) (by show f3 st = _; rw [e3, upd_eq]) hT hO (fun i h1 h2 h3 h4 => by rw [fset_ne h3, fset_ne h2, fset_ne h1, hF1 i h4]; exact hbo i h1 h2 h3 h4) (fun g hg => ?_) (fun j hj => ?_)
            · have := hoth g hg
              refine ⟨?_, ?_, ?_⟩
              · show f1 g = _; rw [e1, upd_ne hg, hF1 21 (by decide)]; exact this.1
              · show f2 g = _; rw [e2, upd_ne hg, hF1 22 (by decide)]; exact this.2.1
              · show f3 g = _; rw [e3, upd_ne hg, hF1 23 (by decide)]; exact this.2.2
            · show _ ∨ F 24 j = nI (itB L B j).1
              by_cases hjk : j = k
              · rw [hjk]; exact Or.inr h24k
              · rcases hdone j hj with z | z
                · rcases inCh_s hke z with z | z
                  · exact absurd z hjk
                  · exact Or.inl z
                · exact Or.inr ((h24 j hjk).trans z)
          have t335 : ∀ f1 f2 m', f1 = upd (F 21) st (nI (a.1 + (itB L B k).1)) → f2 = upd (F 22) st (nI (mxN a.2.1 (itB L B k).2.1)) → TM A rf ts ac ls rs dp (fset (fset F 21 f1) 22 f2) m' → XOf A m m' → G w MX5_layRow (xZ w (tRow A m rf ts ac ls rs dp F0 L B st) xN) d 0 0 335 [some (.ref (A 0)), some (.ref (A 4)), some (.int (nI st)), some (.int (nI (rowEndL L st))), some (.int (nI k)), some (.int (nI hi)), some (.int (nI lo)), x7, x8, x9, x10] [] m' := by
            intro f1 f2 m' e1 e2 hT hO
            refine g_aload_n dX5_layRow_335 rfl rfl rfl ?_
            refine g_get fl_X5_62_X5 dX5_layRow_336 rfl (Or.inl (tm_o hT)) rfl ?_
            refine g_iload_n dX5_layRow_339 rfl rfl rfl ?_
            refine g_iload dX5_layRow_340 rfl rfl ?_
            refine g_aload_n dX5_layRow_342 rfl rfl rfl ?_
            refine g_get fl_X5_62_X5 dX5_layRow_343 rfl (Or.inl (tm_o hT)) rfl ?_
            refine g_iload_n dX5_layRow_346 rfl rfl rfl ?_
            refine t_ialdn (k := 23) (N := 512) (f := F 23) hT rfl rfl rfl (by first | rfl | assumption) dX5_layRow_347 rfl (by omega) ?_
            rw [hlo]
            refine g_icmpn_le (tgt := 356) dX5_layRow_348 (by decide) rfl (by omega) (by omega) (fun c_348 => ?_) (fun c_348 => ?_)
            · refine g_aload_n dX5_layRow_356 rfl rfl rfl ?_
              refine g_get fl_X5_62_X5 dX5_layRow_357 rfl (Or.inl (tm_o hT)) rfl ?_
              refine g_iload_n dX5_layRow_360 rfl rfl rfl ?_
              refine t_ialdn (k := 23) (N := 512) (f := F 23) hT rfl rfl rfl (by first | rfl | assumption) dX5_layRow_361 rfl (by omega) ?_
              first | rw [hlo] | skip
              refine t_iastn (k := 23) (N := 512) (f := F 23) hT hO rfl rfl rfl (by first | rfl | assumption) dX5_layRow_362 rfl (by omega) (fun m_362 f_362 e_362 hT hO => ?_)
              refine t363 _ _ _ _ e1 e2 ?_ hT hO
              rw [e_362, ← elo]
              unfold mxN
              first | rw [if_pos (by omega)] | rw [if_neg (by omega)]
            · refine g_iload dX5_layRow_351 rfl rfl ?_
              refine g_goto (tgt := 362) dX5_layRow_353 (by decide) ?_
              first | rw [hlo] | skip
              refine t_iastn (k := 23) (N := 512) (f := F 23) hT hO rfl rfl rfl (by first | rfl | assumption) dX5_layRow_362 rfl (by omega) (fun m_362 f_362 e_362 hT hO => ?_)
              refine t363 _ _ _ _ e1 e2 ?_ hT hO
              rw [e_362, ← elo]
              unfold mxN
              first | rw [if_pos (by omega)] | rw [if_neg (by omega)]
          refine g_aload_n dX5_layRow_291 rfl rfl rfl ?_
          refine g_get fl_X5_56_X5 dX5_layRow_292 rfl (Or.inl (tm_o hT)) rfl ?_
          refine g_iload_n dX5_layRow_295 rfl rfl rfl ?_
          refine g_dup2 dX5_layRow_296 rfl (by first | rfl | exact rf_cat _) (by first | rfl | exact rf_cat _) ?_
          refine t_ialdn (k := 21) (N := 512) (f := F 21) hT rfl rfl rfl (by first | rfl | assumption) dX5_layRow_297 rfl (by omega) ?_
          rw [hw]
          refine g_aload_n dX5_layRow_298 rfl rfl rfl ?_
          refine g_get fl_X5_65_X5 dX5_layRow_299 rfl (Or.inl (tm_o hT)) rfl ?_
          refine g_iload dX5_layRow_302 rfl rfl ?_
          refine t_ialdn (k := 24) (N := 512) (f := F 24) hT rfl rfl rfl (by first | rfl | assumption) dX5_layRow_304 rfl (by omega) ?_
          rw [h24k]
          refine g_iaddn dX5_layRow_305 rfl ?_
          refine t_iastn (k := 21) (N := 512) (f := F 21) hT hO rfl rfl rfl (by first | rfl | assumption) dX5_layRow_306 rfl (by omega) (fun m_306 f_306 e_306 hT hO => ?_)
          refine g_aload_n dX5_layRow_307 rfl rfl rfl ?_
          refine g_get fl_X5_59_X5 dX5_layRow_308 rfl (Or.inl (tm_o hT)) rfl ?_
          refine g_iload_n dX5_layRow_311 rfl rfl rfl ?_
          refine g_iload dX5_layRow_312 rfl rfl ?_
          refine g_aload_n dX5_layRow_314 rfl rfl rfl ?_
          refine g_get fl_X5_59_X5 dX5_layRow_315 rfl (Or.inl (tm_o hT)) rfl ?_
          refine g_iload_n dX5_layRow_318 rfl rfl rfl ?_
          refine t_ialdn (k := 22) (N := 512) (f := F 22) hT rfl rfl rfl (by first | rfl | assumption) dX5_layRow_319 rfl (by omega) ?_
          rw [hh]
          refine g_icmpn_le (tgt := 328) dX5_layRow_320 (by decide) rfl (by omega) (by omega) (fun c_320 => ?_) (fun c_320 => ?_)
          · refine g_aload_n dX5_layRow_328 rfl rfl rfl ?_
            refine g_get fl_X5_59_X5 dX5_layRow_329 rfl (Or.inl (tm_o hT)) rfl ?_
            refine g_iload_n dX5_layRow_332 rfl rfl rfl ?_
            refine t_ialdn (k := 22) (N := 512) (f := F 22) hT rfl rfl rfl (by first | rfl | assumption) dX5_layRow_333 rfl (by omega) ?_
            first | rw [hh] | skip
            refine t_iastn (k := 22) (N := 512) (f := F 22) hT hO rfl rfl rfl (by first | rfl | assumption) dX5_layRow_334 rfl (by omega) (fun m_334 f_334 e_334 hT hO => ?_)
            refine t335 _ _ _ (by rw [e_306]) ?_ hT hO
            rw [e_334, ← ehi]
            unfold mxN
            first | rw [if_pos (by omega)] | rw [if_neg (by omega)]
          · refine g_iload dX5_layRow_323 rfl rfl ?_
            refine g_goto (tgt := 334) dX5_layRow_325 (by decide) ?_
            first | rw [hh] | skip
            refine t_iastn (k := 22) (N := 512) (f := F 22) hT hO rfl rfl rfl (by first | rfl | assumption) dX5_layRow_334 rfl (by omega) (fun m_334 f_334 e_334 hT hO => ?_)
            refine t335 _ _ _ (by rw [e_306]) ?_ hT hO
            rw [e_334, ← ehi]
            unfold mxN
            first | rw [if_pos (by omega)] | rw [if_neg (by omega)]
        have t69 : ∀ f_58 m', isBg (lf L k) = true → f_58 = upd (F 24) k (nI 1) → TM A rf ts ac ls rs dp (fset F 24 f_58) m' → XOf A m m' → G w MX5_layRow (xZ w (tRow A m rf ts ac ls rs dp F0 L B st) xN) d 0 0 69 [some (.ref (A 0)), some (.ref (A 4)), some (.int (nI st)), some (.int (nI (rowEndL L st))), some (.int (nI k)), some (.int (nI 0)), some (.int (nI 0)), x7, x8, x9, x10] [] m' := by
          intro f_58 m' c_66 e_58 hT hO
          have hb1 : F 21 (k + 1) = nI (B (k + 1)).1 ∧ F 22 (k + 1) = nI (B (k + 1)).2.1 ∧ F 23 (k + 1) = nI (B (k + 1)).2.2 := by
            obtain ⟨h1, h2, h3⟩ := hoth (k + 1) (by omega)
            rw [h1, h2, h3]; exact hbx _ (by omega) (by omega) (Or.inl c_66)
          have hB1 := hBx.2.2.1 (k + 1) (by omega)
          rcases hBx.1 k (by omega) c_66 with hs | hs | hs | hs | hs
          · have hit : itB L B k = (if (B (k + 1)).1 < (B (rowEndL L (k + 1) + 1)).1 then (B (rowEndL L (k + 1) + 1)).1 else (B (k + 1)).1, (B (k + 1)).2.1 + 1 + (B (k + 1)).2.2, (B (rowEndL L (k + 1) + 1)).2.1 + 1 + (B (rowEndL L (k + 1) + 1)).2.2) := by
              unfold itB
              rw [if_pos c_66, if_pos hs]
            refine g_iload dX5_layRow_69 rfl rfl ?_
            refine g_iconst (v := (nI 1)) dX5_layRow_71 rfl rfl ?_
            refine g_iaddn dX5_layRow_72 rfl ?_
            refine g_ist7 dX5_layRow_73 rfl (by decide) (k := ?_)
            refine g_aload_n dX5_layRow_75 rfl rfl rfl ?_
            refine g_get fl_X5_59_X5 dX5_layRow_76 rfl (Or.inl (tm_o hT)) rfl ?_
            refine g_iload dX5_layRow_79 rfl rfl ?_
            refine t_ialdn (k := 22) (N := 512) (f := F 22) hT rfl rfl rfl (by first | rfl | assumption) dX5_layRow_81 rfl (by omega) ?_
            rw [hb1.2.1]
            refine g_iconst (v := (nI 1)) dX5_layRow_82 rfl rfl ?_
            refine g_iaddn dX5_layRow_83 rfl ?_
            refine g_aload_n dX5_layRow_84 rfl rfl rfl ?_
            refine g_get fl_X5_62_X5 dX5_layRow_85 rfl (Or.inl (tm_o hT)) rfl ?_
            refine g_iload dX5_layRow_88 rfl rfl ?_
            refine t_ialdn (k := 23) (N := 512) (f := F 23) hT rfl rfl rfl (by first | rfl | assumption) dX5_layRow_90 rfl (by omega) ?_
            rw [hb1.2.2]
            refine g_iaddn dX5_layRow_91 rfl ?_
            refine g_ist8 dX5_layRow_92 rfl (by decide) (k := ?_)
            refine g_aload_n dX5_layRow_94 rfl rfl rfl ?_
            refine g_iload dX5_layRow_95 rfl rfl ?_
            refine t_ialdn (k := 4) (N := 184) (f := f) hT rfl rfl rfl (by first | rfl | assumption) dX5_layRow_97 rfl (by omega) ?_
            rw [hfk (by omega), hs]
            refine g_ineg dX5_layRow_98 rfl ?_
            rw [show -(-1 : Int32) = nI 1 from rfl]
            refine g_ist9 dX5_layRow_99 rfl (by decide) (k := ?_)
            refine g_aload_n dX5_layRow_101 rfl rfl rfl ?_
            refine g_get fl_X5_65_X5 dX5_layRow_102 rfl (Or.inl (tm_o hT)) rfl ?_
            refine g_iload dX5_layRow_105 rfl rfl ?_
            refine g_aload_n dX5_layRow_107 rfl rfl rfl ?_
            refine g_get fl_X5_56_X5 dX5_layRow_108 rfl (Or.inl (tm_o hT)) rfl ?_
            refine g_iload dX5_layRow_111 rfl rfl ?_
            refine t_ialdn (k := 21) (N := 512) (f := F 21) hT rfl rfl rfl (by first | rfl | assumption) dX5_layRow_113 rfl (by omega) ?_
            rw [hb1.1]
            refine g_iload dX5_layRow_114 rfl rfl ?_
            refine g_iconst (v := (nI 4)) dX5_layRow_116 rfl rfl ?_
            refine g_icmpn_ne (tgt := 124) dX5_layRow_117 (by decide) rfl (by omega) (by omega) (fun _ => ?_) (fun c_117 => by omega)
            refine g_iload dX5_layRow_124 rfl rfl ?_
            refine g_iconst (v := (nI 5)) dX5_layRow_126 rfl rfl ?_
            refine g_icmpn_ne (tgt := 134) dX5_layRow_127 (by decide) rfl (by omega) (by omega) (fun _ => ?_) (fun c_127 => by omega)
            refine g_iconst (v := (nI 0)) dX5_layRow_134 rfl rfl ?_
            refine g_iaddn dX5_layRow_135 rfl ?_
            refine t_iastn (k := 24) (N := 512) (f := f_58) hT hO rfl rfl rfl (by first | rfl | assumption) dX5_layRow_136 rfl (by omega) (fun m_136 f_136 e_136 hT hO => ?_)
            refine g_iload dX5_layRow_137 rfl rfl ?_
            refine g_iconst (v := (nI 3)) dX5_layRow_139 rfl rfl ?_
            refine g_icmpn_ge (tgt := 148) dX5_layRow_140 (by decide) rfl (by omega) (by omega) (fun c_140 => by omega) (fun _ => ?_)
            refine g_iload dX5_layRow_143 rfl rfl ?_
            refine g_goto (tgt := 183) dX5_layRow_145 (by decide) ?_
            refine g_ist5 dX5_layRow_183 rfl (by decide) (k := ?_)
            refine g_iload dX5_layRow_185 rfl rfl ?_
            refine g_iconst (v := (nI 3)) dX5_layRow_187 rfl rfl ?_
            refine g_icmpn_ne (tgt := 196) dX5_layRow_188 (by decide) rfl (by omega) (by omega) (fun _ => ?_) (fun c_188 => by omega)
            refine g_iload dX5_layRow_196 rfl rfl ?_
            refine g_iconst (v := (nI 3)) dX5_layRow_198 rfl rfl ?_
            refine g_icmpn_le (tgt := 212) dX5_layRow_199 (by decide) rfl (by omega) (by omega) (fun _ => ?_) (fun c_199 => by omega)
            refine g_iconst (v := (nI 0)) dX5_layRow_212 rfl rfl ?_
            refine g_ist6 dX5_layRow_213 rfl (by decide) (k := ?_)
            refine g_iload dX5_layRow_215 rfl rfl ?_
            refine g_iconst (v := (nI 1)) dX5_layRow_217 rfl rfl ?_
            refine g_icmpn_ne (tgt := 291) dX5_layRow_218 (by decide) rfl (by omega) (by omega) (fun c_218 => by omega) (fun _ => ?_)
            refine g_aload_n dX5_layRow_221 rfl rfl rfl ?_
            refine g_iload dX5_layRow_222 rfl rfl ?_
            refine g_staticP iS_X5_rowEnd q2533 (p_rowEnd (d := d - 1) (by omega) (tm_at 4 hT rfl rfl rfl hf) hp (by omega)) dX5_layRow_224 rfl rfl rfl (by first | exact Nat.le_of_ble_eq_true rfl | simp [Value.category, rf_cat]) (by omega) xN_no ?_
            refine g_iconst (v := (nI 1)) dX5_layRow_227 rfl rfl ?_
            refine g_iaddn dX5_layRow_228 rfl ?_
            refine g_ist10 dX5_layRow_229 rfl (by decide) (k := ?_)
            obtain ⟨hr1, hr2⟩ := hBx.2.1 k (by omega) hs
            have hre1 := (hre (k + 1) (by omega)).1
            have hb2 : F 21 (rowEndL L (k + 1) + 1) = nI (B (rowEndL L (k + 1) + 1)).1 ∧ F 22 (rowEndL L (k + 1) + 1) = nI (B (rowEndL L (k + 1) + 1)).2.1 ∧ F 23 (rowEndL L (k + 1) + 1) = nI (B (rowEndL L (k + 1) + 1)).2.2 := by
              obtain ⟨h1, h2, h3⟩ := hoth (rowEndL L (k + 1) + 1) (by omega)
              rw [h1, h2, h3]; exact hbx _ (by omega) (by omega) (Or.inr hr2)
            have hB2 := hBx.2.2.1 (rowEndL L (k + 1) + 1) (by omega)
            refine g_aload_n dX5_layRow_231 rfl rfl rfl ?_
            refine g_get fl_X5_59_X5 dX5_layRow_232 rfl (Or.inl (tm_o hT)) rfl ?_
            refine g_iload dX5_layRow_235 rfl rfl ?_
            refine t_ialdn (k := 22) (N := 512) (f := F 22) hT rfl rfl rfl (by first | rfl | assumption) dX5_layRow_237 rfl (by omega) ?_
            rw [hb2.2.1]
            refine g_iconst (v := (nI 1)) dX5_layRow_238 rfl rfl ?_
            refine g_iaddn dX5_layRow_239 rfl ?_
            refine g_aload_n dX5_layRow_240 rfl rfl rfl ?_
            refine g_get fl_X5_62_X5 dX5_layRow_241 rfl (Or.inl (tm_o hT)) rfl ?_
            refine g_iload dX5_layRow_244 rfl rfl ?_
            refine t_ialdn (k := 23) (N := 512) (f := F 23) hT rfl rfl rfl (by first | rfl | assumption) dX5_layRow_246 rfl (by omega) ?_
            rw [hb2.2.2]
            refine g_iaddn dX5_layRow_247 rfl ?_
            refine g_ist6 dX5_layRow_248 rfl (by decide) (k := ?_)
            refine g_aload_n dX5_layRow_250 rfl rfl rfl ?_
            refine g_get fl_X5_65_X5 dX5_layRow_251 rfl (Or.inl (tm_o hT)) rfl ?_
            refine g_iload dX5_layRow_254 rfl rfl ?_
            refine g_aload_n dX5_layRow_256 rfl rfl rfl ?_
            refine g_get fl_X5_56_X5 dX5_layRow_257 rfl (Or.inl (tm_o hT)) rfl ?_
            refine g_iload dX5_layRow_260 rfl rfl ?_
            refine t_ialdn (k := 21) (N := 512) (f := F 21) hT rfl rfl rfl (by first | rfl | assumption) dX5_layRow_262 rfl (by omega) ?_
            rw [hb2.1]
            refine g_aload_n dX5_layRow_263 rfl rfl rfl ?_
            refine g_get fl_X5_56_X5 dX5_layRow_264 rfl (Or.inl (tm_o hT)) rfl ?_
            refine g_iload dX5_layRow_267 rfl rfl ?_
            refine t_ialdn (k := 21) (N := 512) (f := F 21) hT rfl rfl rfl (by first | rfl | assumption) dX5_layRow_269 rfl (by omega) ?_
            rw [hb1.1]
            refine g_icmpn_le (tgt := 283) dX5_layRow_270 (by decide) rfl (by omega) (by omega) (fun c_270 => ?_) (fun c_270 => ?_)
            · refine g_aload_n dX5_layRow_283 rfl rfl rfl ?_
              refine g_get fl_X5_56_X5 dX5_layRow_284 rfl (Or.inl (tm_o hT)) rfl ?_
              refine g_iload dX5_layRow_287 rfl rfl ?_
              refine t_ialdn (k := 21) (N := 512) (f := F 21) hT rfl rfl rfl (by first | rfl | assumption) dX5_layRow_289 rfl (by omega) ?_
              first | rw [hb1.1] | skip
              refine t_iastn (k := 24) (N := 512) (f := f_136) hT hO rfl rfl rfl (by first | rfl | assumption) dX5_layRow_290 rfl (by omega) (fun m_290 f_290 e_290 hT hO => ?_)
              refine t291 _ _ _ _ _ _ _ _ hT hO (fun i hi => by rw [fset_ne hi, fset_ne hi, fset_ne hi]) (fun j hj => by rw [fset_eq, e_290, upd_ne hj, e_136, upd_ne hj, e_58, upd_ne hj]) ?_ (by rw [hit]) (by rw [hit])
              rw [fset_eq, e_290, upd_eq, hit]
              first | (rw [if_pos (by omega)]) | (rw [if_neg (by omega)])
            · refine g_aload_n dX5_layRow_273 rfl rfl rfl ?_
              refine g_get fl_X5_56_X5 dX5_layRow_274 rfl (Or.inl (tm_o hT)) rfl ?_
              refine g_iload dX5_layRow_277 rfl rfl ?_
              refine t_ialdn (k := 21) (N := 512) (f := F 21) hT rfl rfl rfl (by first | rfl | assumption) dX5_layRow_279 rfl (by omega) ?_
              rw [hb2.1]
              refine g_goto (tgt := 290) dX5_layRow_280 (by decide) ?_
              first | rw [hb1.1] | skip
              refine t_iastn (k := 24) (N := 512) (f := f_136) hT hO rfl rfl rfl (by first | rfl | assumption) dX5_layRow_290 rfl (by omega) (fun m_290 f_290 e_290 hT hO => ?_)
              refine t291 _ _ _ _ _ _ _ _ hT hO (fun i hi => by rw [fset_ne hi, fset_ne hi, fset_ne hi]) (fun j hj => by rw [fset_eq, e_290, upd_ne hj, e_136, upd_ne hj, e_58, upd_ne hj]) ?_ (by rw [hit]) (by rw [hit])
              rw [fset_eq, e_290, upd_eq, hit]
              first | (rw [if_pos (by omega)]) | (rw [if_neg (by omega)])
          · have hit : itB L B k = ((B (k + 1)).1, (B (k + 1)).2.1 + 1 + (B (k + 1)).2.2, 0) := by
              unfold itB
              rw [if_pos c_66, if_neg (by rw [hs]; decide), if_pos hs]
            refine g_iload dX5_layRow_69 rfl rfl ?_
            refine g_iconst (v := (nI 1)) dX5_layRow_71 rfl rfl ?_
            refine g_iaddn dX5_layRow_72 rfl ?_
            refine g_ist7 dX5_layRow_73 rfl (by decide) (k := ?_)
            refine g_aload_n dX5_layRow_75 rfl rfl rfl ?_
            refine g_get fl_X5_59_X5 dX5_layRow_76 rfl (Or.inl (tm_o hT)) rfl ?_
            refine g_iload dX5_layRow_79 rfl rfl ?_
            refine t_ialdn (k := 22) (N := 512) (f := F 22) hT rfl rfl rfl (by first | rfl | assumption) dX5_layRow_81 rfl (by omega) ?_
            rw [hb1.2.1]
            refine g_iconst (v := (nI 1)) dX5_layRow_82 rfl rfl ?_
            refine g_iaddn dX5_layRow_83 rfl ?_
            refine g_aload_n dX5_layRow_84 rfl rfl rfl ?_
            refine g_get fl_X5_62_X5 dX5_layRow_85 rfl (Or.inl (tm_o hT)) rfl ?_
            refine g_iload dX5_layRow_88 rfl rfl ?_
            refine t_ialdn (k := 23) (N := 512) (f := F 23) hT rfl rfl rfl (by first | rfl | assumption) dX5_layRow_90 rfl (by omega) ?_
            rw [hb1.2.2]
            refine g_iaddn dX5_layRow_91 rfl ?_
            refine g_ist8 dX5_layRow_92 rfl (by decide) (k := ?_)
            refine g_aload_n dX5_layRow_94 rfl rfl rfl ?_
            refine g_iload dX5_layRow_95 rfl rfl ?_
            refine t_ialdn (k := 4) (N := 184) (f := f) hT rfl rfl rfl (by first | rfl | assumption) dX5_layRow_97 rfl (by omega) ?_
            rw [hfk (by omega), hs]
            refine g_ineg dX5_layRow_98 rfl ?_
            rw [show -(-2 : Int32) = nI 2 from rfl]
            refine g_ist9 dX5_layRow_99 rfl (by decide) (k := ?_)
            refine g_aload_n dX5_layRow_101 rfl rfl rfl ?_
            refine g_get fl_X5_65_X5 dX5_layRow_102 rfl (Or.inl (tm_o hT)) rfl ?_
            refine g_iload dX5_layRow_105 rfl rfl ?_
            refine g_aload_n dX5_layRow_107 rfl rfl rfl ?_
            refine g_get fl_X5_56_X5 dX5_layRow_108 rfl (Or.inl (tm_o hT)) rfl ?_
            refine g_iload dX5_layRow_111 rfl rfl ?_
            refine t_ialdn (k := 21) (N := 512) (f := F 21) hT rfl rfl rfl (by first | rfl | assumption) dX5_layRow_113 rfl (by omega) ?_
            rw [hb1.1]
            refine g_iload dX5_layRow_114 rfl rfl ?_
            refine g_iconst (v := (nI 4)) dX5_layRow_116 rfl rfl ?_
            refine g_icmpn_ne (tgt := 124) dX5_layRow_117 (by decide) rfl (by omega) (by omega) (fun _ => ?_) (fun c_117 => by omega)
            refine g_iload dX5_layRow_124 rfl rfl ?_
            refine g_iconst (v := (nI 5)) dX5_layRow_126 rfl rfl ?_
            refine g_icmpn_ne (tgt := 134) dX5_layRow_127 (by decide) rfl (by omega) (by omega) (fun _ => ?_) (fun c_127 => by omega)
            refine g_iconst (v := (nI 0)) dX5_layRow_134 rfl rfl ?_
            refine g_iaddn dX5_layRow_135 rfl ?_
            refine t_iastn (k := 24) (N := 512) (f := f_58) hT hO rfl rfl rfl (by first | rfl | assumption) dX5_layRow_136 rfl (by omega) (fun m_136 f_136 e_136 hT hO => ?_)
            refine g_iload dX5_layRow_137 rfl rfl ?_
            refine g_iconst (v := (nI 3)) dX5_layRow_139 rfl rfl ?_
            refine g_icmpn_ge (tgt := 148) dX5_layRow_140 (by decide) rfl (by omega) (by omega) (fun c_140 => by omega) (fun _ => ?_)
            refine g_iload dX5_layRow_143 rfl rfl ?_
            refine g_goto (tgt := 183) dX5_layRow_145 (by decide) ?_
            refine g_ist5 dX5_layRow_183 rfl (by decide) (k := ?_)
            refine g_iload dX5_layRow_185 rfl rfl ?_
            refine g_iconst (v := (nI 3)) dX5_layRow_187 rfl rfl ?_
            refine g_icmpn_ne (tgt := 196) dX5_layRow_188 (by decide) rfl (by omega) (by omega) (fun _ => ?_) (fun c_188 => by omega)
            refine g_iload dX5_layRow_196 rfl rfl ?_
            refine g_iconst (v := (nI 3)) dX5_layRow_198 rfl rfl ?_
            refine g_icmpn_le (tgt := 212) dX5_layRow_199 (by decide) rfl (by omega) (by omega) (fun _ => ?_) (fun c_199 => by omega)
            refine g_iconst (v := (nI 0)) dX5_layRow_212 rfl rfl ?_
            refine g_ist6 dX5_layRow_213 rfl (by decide) (k := ?_)
            refine g_iload dX5_layRow_215 rfl rfl ?_
            refine g_iconst (v := (nI 1)) dX5_layRow_217 rfl rfl ?_
            refine g_icmpn_ne (tgt := 291) dX5_layRow_218 (by decide) rfl (by omega) (by omega) (fun _ => ?_) (fun c_218 => by omega)
            refine t291 _ _ _ _ _ _ _ _ hT hO (fun i hi => by rw [fset_ne hi, fset_ne hi]) (fun j hj => by rw [fset_eq, e_136, upd_ne hj, e_58, upd_ne hj]) ?_ (by rw [hit]) (by rw [hit])
            rw [fset_eq, e_136, upd_eq, hit]
            all_goals rfl
          · have hit : itB L B k = ((B (k + 1)).1, 0, (B (k + 1)).2.1 + 1 + (B (k + 1)).2.2) := by
              unfold itB
              rw [if_pos c_66, if_neg (by rw [hs]; decide), if_neg (by rw [hs]; decide), if_pos hs]
            refine g_iload dX5_layRow_69 rfl rfl ?_
            refine g_iconst (v := (nI 1)) dX5_layRow_71 rfl rfl ?_
            refine g_iaddn dX5_layRow_72 rfl ?_
            refine g_ist7 dX5_layRow_73 rfl (by decide) (k := ?_)
            refine g_aload_n dX5_layRow_75 rfl rfl rfl ?_
            refine g_get fl_X5_59_X5 dX5_layRow_76 rfl (Or.inl (tm_o hT)) rfl ?_
            refine g_iload dX5_layRow_79 rfl rfl ?_
            refine t_ialdn (k := 22) (N := 512) (f := F 22) hT rfl rfl rfl (by first | rfl | assumption) dX5_layRow_81 rfl (by omega) ?_
            rw [hb1.2.1]
            refine g_iconst (v := (nI 1)) dX5_layRow_82 rfl rfl ?_
            refine g_iaddn dX5_layRow_83 rfl ?_
            refine g_aload_n dX5_layRow_84 rfl rfl rfl ?_
            refine g_get fl_X5_62_X5 dX5_layRow_85 rfl (Or.inl (tm_o hT)) rfl ?_
            refine g_iload dX5_layRow_88 rfl rfl ?_
            refine t_ialdn (k := 23) (N := 512) (f := F 23) hT rfl rfl rfl (by first | rfl | assumption) dX5_layRow_90 rfl (by omega) ?_
            rw [hb1.2.2]
            refine g_iaddn dX5_layRow_91 rfl ?_
            refine g_ist8 dX5_layRow_92 rfl (by decide) (k := ?_)
            refine g_aload_n dX5_layRow_94 rfl rfl rfl ?_
            refine g_iload dX5_layRow_95 rfl rfl ?_
            refine t_ialdn (k := 4) (N := 184) (f := f) hT rfl rfl rfl (by first | rfl | assumption) dX5_layRow_97 rfl (by omega) ?_
            rw [hfk (by omega), hs]
            refine g_ineg dX5_layRow_98 rfl ?_
            rw [show -(-3 : Int32) = nI 3 from rfl]
            refine g_ist9 dX5_layRow_99 rfl (by decide) (k := ?_)
            refine g_aload_n dX5_layRow_101 rfl rfl rfl ?_
            refine g_get fl_X5_65_X5 dX5_layRow_102 rfl (Or.inl (tm_o hT)) rfl ?_
            refine g_iload dX5_layRow_105 rfl rfl ?_
            refine g_aload_n dX5_layRow_107 rfl rfl rfl ?_
            refine g_get fl_X5_56_X5 dX5_layRow_108 rfl (Or.inl (tm_o hT)) rfl ?_
            refine g_iload dX5_layRow_111 rfl rfl ?_
            refine t_ialdn (k := 21) (N := 512) (f := F 21) hT rfl rfl rfl (by first | rfl | assumption) dX5_layRow_113 rfl (by omega) ?_
            rw [hb1.1]
            refine g_iload dX5_layRow_114 rfl rfl ?_
            refine g_iconst (v := (nI 4)) dX5_layRow_116 rfl rfl ?_
            refine g_icmpn_ne (tgt := 124) dX5_layRow_117 (by decide) rfl (by omega) (by omega) (fun _ => ?_) (fun c_117 => by omega)
            refine g_iload dX5_layRow_124 rfl rfl ?_
            refine g_iconst (v := (nI 5)) dX5_layRow_126 rfl rfl ?_
            refine g_icmpn_ne (tgt := 134) dX5_layRow_127 (by decide) rfl (by omega) (by omega) (fun _ => ?_) (fun c_127 => by omega)
            refine g_iconst (v := (nI 0)) dX5_layRow_134 rfl rfl ?_
            refine g_iaddn dX5_layRow_135 rfl ?_
            refine t_iastn (k := 24) (N := 512) (f := f_58) hT hO rfl rfl rfl (by first | rfl | assumption) dX5_layRow_136 rfl (by omega) (fun m_136 f_136 e_136 hT hO => ?_)
            refine g_iload dX5_layRow_137 rfl rfl ?_
            refine g_iconst (v := (nI 3)) dX5_layRow_139 rfl rfl ?_
            refine g_icmpn_ge (tgt := 148) dX5_layRow_140 (by decide) rfl (by omega) (by omega) (fun _ => ?_) (fun c_140 => by omega)
            refine g_iload dX5_layRow_148 rfl rfl ?_
            refine g_iconst (v := (nI 3)) dX5_layRow_150 rfl rfl ?_
            refine g_icmpn_ne (tgt := 158) dX5_layRow_151 (by decide) rfl (by omega) (by omega) (fun c_151 => by omega) (fun _ => ?_)
            refine g_iconst (v := (nI 0)) dX5_layRow_154 rfl rfl ?_
            refine g_goto (tgt := 183) dX5_layRow_155 (by decide) ?_
            refine g_ist5 dX5_layRow_183 rfl (by decide) (k := ?_)
            refine g_iload dX5_layRow_185 rfl rfl ?_
            refine g_iconst (v := (nI 3)) dX5_layRow_187 rfl rfl ?_
            refine g_icmpn_ne (tgt := 196) dX5_layRow_188 (by decide) rfl (by omega) (by omega) (fun c_188 => by omega) (fun _ => ?_)
            refine g_iload dX5_layRow_191 rfl rfl ?_
            refine g_goto (tgt := 213) dX5_layRow_193 (by decide) ?_
            refine g_ist6 dX5_layRow_213 rfl (by decide) (k := ?_)
            refine g_iload dX5_layRow_215 rfl rfl ?_
            refine g_iconst (v := (nI 1)) dX5_layRow_217 rfl rfl ?_
            refine g_icmpn_ne (tgt := 291) dX5_layRow_218 (by decide) rfl (by omega) (by omega) (fun _ => ?_) (fun c_218 => by omega)
            refine t291 _ _ _ _ _ _ _ _ hT hO (fun i hi => by rw [fset_ne hi, fset_ne hi]) (fun j hj => by rw [fset_eq, e_136, upd_ne hj, e_58, upd_ne hj]) ?_ (by rw [hit]) (by rw [hit])
            rw [fset_eq, e_136, upd_eq, hit]
            all_goals rfl
          · have hit : itB L B k = ((B (k + 1)).1 + 1, (B (k + 1)).2.1 + 1, (B (k + 1)).2.2) := by
              unfold itB
              rw [if_pos c_66, if_neg (by rw [hs]; decide), if_neg (by rw [hs]; decide), if_neg (by rw [hs]; decide), if_pos hs]
            refine g_iload dX5_layRow_69 rfl rfl ?_
            refine g_iconst (v := (nI 1)) dX5_layRow_71 rfl rfl ?_
            refine g_iaddn dX5_layRow_72 rfl ?_
            refine g_ist7 dX5_layRow_73 rfl (by decide) (k := ?_)
            refine g_aload_n dX5_layRow_75 rfl rfl rfl ?_
            refine g_get fl_X5_59_X5 dX5_layRow_76 rfl (Or.inl (tm_o hT)) rfl ?_
            refine g_iload dX5_layRow_79 rfl rfl ?_
            refine t_ialdn (k := 22) (N := 512) (f := F 22) hT rfl rfl rfl (by first | rfl | assumption) dX5_layRow_81 rfl (by omega) ?_
            rw [hb1.2.1]
            refine g_iconst (v := (nI 1)) dX5_layRow_82 rfl rfl ?_
            refine g_iaddn dX5_layRow_83 rfl ?_
            refine g_aload_n dX5_layRow_84 rfl rfl rfl ?_
            refine g_get fl_X5_62_X5 dX5_layRow_85 rfl (Or.inl (tm_o hT)) rfl ?_
            refine g_iload dX5_layRow_88 rfl rfl ?_
            refine t_ialdn (k := 23) (N := 512) (f := F 23) hT rfl rfl rfl (by first | rfl | assumption) dX5_layRow_90 rfl (by omega) ?_
            rw [hb1.2.2]
            refine g_iaddn dX5_layRow_91 rfl ?_
            refine g_ist8 dX5_layRow_92 rfl (by decide) (k := ?_)
            refine g_aload_n dX5_layRow_94 rfl rfl rfl ?_
            refine g_iload dX5_layRow_95 rfl rfl ?_
            refine t_ialdn (k := 4) (N := 184) (f := f) hT rfl rfl rfl (by first | rfl | assumption) dX5_layRow_97 rfl (by omega) ?_
            rw [hfk (by omega), hs]
            refine g_ineg dX5_layRow_98 rfl ?_
            rw [show -(-4 : Int32) = nI 4 from rfl]
            refine g_ist9 dX5_layRow_99 rfl (by decide) (k := ?_)
            refine g_aload_n dX5_layRow_101 rfl rfl rfl ?_
            refine g_get fl_X5_65_X5 dX5_layRow_102 rfl (Or.inl (tm_o hT)) rfl ?_
            refine g_iload dX5_layRow_105 rfl rfl ?_
            refine g_aload_n dX5_layRow_107 rfl rfl rfl ?_
            refine g_get fl_X5_56_X5 dX5_layRow_108 rfl (Or.inl (tm_o hT)) rfl ?_
            refine g_iload dX5_layRow_111 rfl rfl ?_
            refine t_ialdn (k := 21) (N := 512) (f := F 21) hT rfl rfl rfl (by first | rfl | assumption) dX5_layRow_113 rfl (by omega) ?_
            rw [hb1.1]
            refine g_iload dX5_layRow_114 rfl rfl ?_
            refine g_iconst (v := (nI 4)) dX5_layRow_116 rfl rfl ?_
            refine g_icmpn_ne (tgt := 124) dX5_layRow_117 (by decide) rfl (by omega) (by omega) (fun c_117 => by omega) (fun _ => ?_)
            refine g_iconst (v := (nI 1)) dX5_layRow_120 rfl rfl ?_
            refine g_goto (tgt := 135) dX5_layRow_121 (by decide) ?_
            refine g_iaddn dX5_layRow_135 rfl ?_
            refine t_iastn (k := 24) (N := 512) (f := f_58) hT hO rfl rfl rfl (by first | rfl | assumption) dX5_layRow_136 rfl (by omega) (fun m_136 f_136 e_136 hT hO => ?_)
            refine g_iload dX5_layRow_137 rfl rfl ?_
            refine g_iconst (v := (nI 3)) dX5_layRow_139 rfl rfl ?_
            refine g_icmpn_ge (tgt := 148) dX5_layRow_140 (by decide) rfl (by omega) (by omega) (fun _ => ?_) (fun c_140 => by omega)
            refine g_iload dX5_layRow_148 rfl rfl ?_
            refine g_iconst (v := (nI 3)) dX5_layRow_150 rfl rfl ?_
            refine g_icmpn_ne (tgt := 158) dX5_layRow_151 (by decide) rfl (by omega) (by omega) (fun _ => ?_) (fun c_151 => by omega)
            refine g_iload dX5_layRow_158 rfl rfl ?_
            refine g_iconst (v := (nI 4)) dX5_layRow_160 rfl rfl ?_
            refine g_icmpn_ne (tgt := 176) dX5_layRow_161 (by decide) rfl (by omega) (by omega) (fun c_161 => by omega) (fun _ => ?_)
            refine g_aload_n dX5_layRow_164 rfl rfl rfl ?_
            refine g_get fl_X5_59_X5 dX5_layRow_165 rfl (Or.inl (tm_o hT)) rfl ?_
            refine g_iload dX5_layRow_168 rfl rfl ?_
            refine t_ialdn (k := 22) (N := 512) (f := F 22) hT rfl rfl rfl (by first | rfl | assumption) dX5_layRow_170 rfl (by omega) ?_
            rw [hb1.2.1]
            refine g_iconst (v := (nI 1)) dX5_layRow_171 rfl rfl ?_
            refine g_iaddn dX5_layRow_172 rfl ?_
            refine g_goto (tgt := 183) dX5_layRow_173 (by decide) ?_
            refine g_ist5 dX5_layRow_183 rfl (by decide) (k := ?_)
            refine g_iload dX5_layRow_185 rfl rfl ?_
            refine g_iconst (v := (nI 3)) dX5_layRow_187 rfl rfl ?_
            refine g_icmpn_ne (tgt := 196) dX5_layRow_188 (by decide) rfl (by omega) (by omega) (fun _ => ?_) (fun c_188 => by omega)
            refine g_iload dX5_layRow_196 rfl rfl ?_
            refine g_iconst (v := (nI 3)) dX5_layRow_198 rfl rfl ?_
            refine g_icmpn_le (tgt := 212) dX5_layRow_199 (by decide) rfl (by omega) (by omega) (fun c_199 => by omega) (fun _ => ?_)
            refine g_aload_n dX5_layRow_202 rfl rfl rfl ?_
            refine g_get fl_X5_62_X5 dX5_layRow_203 rfl (Or.inl (tm_o hT)) rfl ?_
            refine g_iload dX5_layRow_206 rfl rfl ?_
            refine t_ialdn (k := 23) (N := 512) (f := F 23) hT rfl rfl rfl (by first | rfl | assumption) dX5_layRow_208 rfl (by omega) ?_
            rw [hb1.2.2]
            refine g_goto (tgt := 213) dX5_layRow_209 (by decide) ?_
            refine g_ist6 dX5_layRow_213 rfl (by decide) (k := ?_)
            refine g_iload dX5_layRow_215 rfl rfl ?_
            refine g_iconst (v := (nI 1)) dX5_layRow_217 rfl rfl ?_
            refine g_icmpn_ne (tgt := 291) dX5_layRow_218 (by decide) rfl (by omega) (by omega) (fun _ => ?_) (fun c_218 => by omega)
            refine t291 _ _ _ _ _ _ _ _ hT hO (fun i hi => by rw [fset_ne hi, fset_ne hi]) (fun j hj => by rw [fset_eq, e_136, upd_ne hj, e_58, upd_ne hj]) ?_ (by rw [hit]) (by rw [hit])
            rw [fset_eq, e_136, upd_eq, hit]
            all_goals rfl
          · have hit : itB L B k = ((B (k + 1)).1 + 2, (B (k + 1)).2.1, (B (k + 1)).2.2) := by
              unfold itB
              rw [if_pos c_66, if_neg (by rw [hs]; decide), if_neg (by rw [hs]; decide), if_neg (by rw [hs]; decide), if_neg (by rw [hs]; decide)]
            refine g_iload dX5_layRow_69 rfl rfl ?_
            refine g_iconst (v := (nI 1)) dX5_layRow_71 rfl rfl ?_
            refine g_iaddn dX5_layRow_72 rfl ?_
            refine g_ist7 dX5_layRow_73 rfl (by decide) (k := ?_)
            refine g_aload_n dX5_layRow_75 rfl rfl rfl ?_
            refine g_get fl_X5_59_X5 dX5_layRow_76 rfl (Or.inl (tm_o hT)) rfl ?_
            refine g_iload dX5_layRow_79 rfl rfl ?_
            refine t_ialdn (k := 22) (N := 512) (f := F 22) hT rfl rfl rfl (by first | rfl | assumption) dX5_layRow_81 rfl (by omega) ?_
            rw [hb1.2.1]
            refine g_iconst (v := (nI 1)) dX5_layRow_82 rfl rfl ?_
            refine g_iaddn dX5_layRow_83 rfl ?_
            refine g_aload_n dX5_layRow_84 rfl rfl rfl ?_
            refine g_get fl_X5_62_X5 dX5_layRow_85 rfl (Or.inl (tm_o hT)) rfl ?_
            refine g_iload dX5_layRow_88 rfl rfl ?_
            refine t_ialdn (k := 23) (N := 512) (f := F 23) hT rfl rfl rfl (by first | rfl | assumption) dX5_layRow_90 rfl (by omega) ?_
            rw [hb1.2.2]
            refine g_iaddn dX5_layRow_91 rfl ?_
            refine g_ist8 dX5_layRow_92 rfl (by decide) (k := ?_)
            refine g_aload_n dX5_layRow_94 rfl rfl rfl ?_
            refine g_iload dX5_layRow_95 rfl rfl ?_
            refine t_ialdn (k := 4) (N := 184) (f := f) hT rfl rfl rfl (by first | rfl | assumption) dX5_layRow_97 rfl (by omega) ?_
            rw [hfk (by omega), hs]
            refine g_ineg dX5_layRow_98 rfl ?_
            rw [show -(-5 : Int32) = nI 5 from rfl]
            refine g_ist9 dX5_layRow_99 rfl (by decide) (k := ?_)
            refine g_aload_n dX5_layRow_101 rfl rfl rfl ?_
            refine g_get fl_X5_65_X5 dX5_layRow_102 rfl (Or.inl (tm_o hT)) rfl ?_
            refine g_iload dX5_layRow_105 rfl rfl ?_
            refine g_aload_n dX5_layRow_107 rfl rfl rfl ?_
            refine g_get fl_X5_56_X5 dX5_layRow_108 rfl (Or.inl (tm_o hT)) rfl ?_
            refine g_iload dX5_layRow_111 rfl rfl ?_
            refine t_ialdn (k := 21) (N := 512) (f := F 21) hT rfl rfl rfl (by first | rfl | assumption) dX5_layRow_113 rfl (by omega) ?_
            rw [hb1.1]
            refine g_iload dX5_layRow_114 rfl rfl ?_
            refine g_iconst (v := (nI 4)) dX5_layRow_116 rfl rfl ?_
            refine g_icmpn_ne (tgt := 124) dX5_layRow_117 (by decide) rfl (by omega) (by omega) (fun _ => ?_) (fun c_117 => by omega)
            refine g_iload dX5_layRow_124 rfl rfl ?_
            refine g_iconst (v := (nI 5)) dX5_layRow_126 rfl rfl ?_
            refine g_icmpn_ne (tgt := 134) dX5_layRow_127 (by decide) rfl (by omega) (by omega) (fun c_127 => by omega) (fun _ => ?_)
            refine g_iconst (v := (nI 2)) dX5_layRow_130 rfl rfl ?_
            refine g_goto (tgt := 135) dX5_layRow_131 (by decide) ?_
            refine g_iaddn dX5_layRow_135 rfl ?_
            refine t_iastn (k := 24) (N := 512) (f := f_58) hT hO rfl rfl rfl (by first | rfl | assumption) dX5_layRow_136 rfl (by omega) (fun m_136 f_136 e_136 hT hO => ?_)
            refine g_iload dX5_layRow_137 rfl rfl ?_
            refine g_iconst (v := (nI 3)) dX5_layRow_139 rfl rfl ?_
            refine g_icmpn_ge (tgt := 148) dX5_layRow_140 (by decide) rfl (by omega) (by omega) (fun _ => ?_) (fun c_140 => by omega)
            refine g_iload dX5_layRow_148 rfl rfl ?_
            refine g_iconst (v := (nI 3)) dX5_layRow_150 rfl rfl ?_
            refine g_icmpn_ne (tgt := 158) dX5_layRow_151 (by decide) rfl (by omega) (by omega) (fun _ => ?_) (fun c_151 => by omega)
            refine g_iload dX5_layRow_158 rfl rfl ?_
            refine g_iconst (v := (nI 4)) dX5_layRow_160 rfl rfl ?_
            refine g_icmpn_ne (tgt := 176) dX5_layRow_161 (by decide) rfl (by omega) (by omega) (fun _ => ?_) (fun c_161 => by omega)
            refine g_aload_n dX5_layRow_176 rfl rfl rfl ?_
            refine g_get fl_X5_59_X5 dX5_layRow_177 rfl (Or.inl (tm_o hT)) rfl ?_
            refine g_iload dX5_layRow_180 rfl rfl ?_
            refine t_ialdn (k := 22) (N := 512) (f := F 22) hT rfl rfl rfl (by first | rfl | assumption) dX5_layRow_182 rfl (by omega) ?_
            rw [hb1.2.1]
            refine g_ist5 dX5_layRow_183 rfl (by decide) (k := ?_)
            refine g_iload dX5_layRow_185 rfl rfl ?_
            refine g_iconst (v := (nI 3)) dX5_layRow_187 rfl rfl ?_
            refine g_icmpn_ne (tgt := 196) dX5_layRow_188 (by decide) rfl (by omega) (by omega) (fun _ => ?_) (fun c_188 => by omega)
            refine g_iload dX5_layRow_196 rfl rfl ?_
            refine g_iconst (v := (nI 3)) dX5_layRow_198 rfl rfl ?_
            refine g_icmpn_le (tgt := 212) dX5_layRow_199 (by decide) rfl (by omega) (by omega) (fun c_199 => by omega) (fun _ => ?_)
            refine g_aload_n dX5_layRow_202 rfl rfl rfl ?_
            refine g_get fl_X5_62_X5 dX5_layRow_203 rfl (Or.inl (tm_o hT)) rfl ?_
            refine g_iload dX5_layRow_206 rfl rfl ?_
            refine t_ialdn (k := 23) (N := 512) (f := F 23) hT rfl rfl rfl (by first | rfl | assumption) dX5_layRow_208 rfl (by omega) ?_
            rw [hb1.2.2]
            refine g_goto (tgt := 213) dX5_layRow_209 (by decide) ?_
            refine g_ist6 dX5_layRow_213 rfl (by decide) (k := ?_)
            refine g_iload dX5_layRow_215 rfl rfl ?_
            refine g_iconst (v := (nI 1)) dX5_layRow_217 rfl rfl ?_
            refine g_icmpn_ne (tgt := 291) dX5_layRow_218 (by decide) rfl (by omega) (by omega) (fun _ => ?_) (fun c_218 => by omega)
            refine t291 _ _ _ _ _ _ _ _ hT hO (fun i hi => by rw [fset_ne hi, fset_ne hi]) (fun j hj => by rw [fset_eq, e_136, upd_ne hj, e_58, upd_ne hj]) ?_ (by rw [hit]) (by rw [hit])
            rw [fset_eq, e_136, upd_eq, hit]
            all_goals rfl
        refine g_iconst (v := (nI 0)) dX5_layRow_45 rfl rfl ?_
        refine g_ist5 dX5_layRow_46 rfl (by decide) (k := ?_)
        refine g_iconst (v := (nI 0)) dX5_layRow_48 rfl rfl ?_
        refine g_ist6 dX5_layRow_49 rfl (by decide) (k := ?_)
        refine g_aload_n dX5_layRow_51 rfl rfl rfl ?_
        refine g_get fl_X5_65_X5 dX5_layRow_52 rfl (Or.inl (tm_o hT)) rfl ?_
        refine g_iload dX5_layRow_55 rfl rfl ?_
        refine g_iconst (v := (nI 1)) dX5_layRow_57 rfl rfl ?_
        refine t_iastn (k := 24) (N := 512) (f := F 24) hT hO rfl rfl rfl (by first | rfl | assumption) dX5_layRow_58 rfl (by omega) (fun m_58 f_58 e_58 hT hO => ?_)
        refine g_aload_n dX5_layRow_59 rfl rfl rfl ?_
        refine g_iload dX5_layRow_60 rfl rfl ?_
        refine t_ialdn (k := 4) (N := 184) (f := f) hT rfl rfl rfl (by first | rfl | assumption) dX5_layRow_62 rfl (by omega) ?_
        rw [hfk (by omega)]
        refine g_staticP iS_X5_isBegin q2511 (c_isBegin (d := d - 1) (by omega) _) dX5_layRow_63 rfl rfl rfl (by first | exact Nat.le_of_ble_eq_true rfl | simp [Value.category, rf_cat]) (by omega) xN_no ?_
        refine g_ifB_eq (tgt := 291) dX5_layRow_66 (by decide) rfl (fun c_66 => ?_) (fun c_66 => ?_)
        · refine t291 _ _ 0 0 _ _ _ _ hT hO (fun i hi => fset_ne hi) (fun j hj => by rw [fset_eq, e_58, upd_ne hj]) ?_ ?_ ?_
          · rw [fset_eq, e_58, upd_eq]; unfold itB; rw [if_neg (by rw [c_66]; decide)]
          · unfold itB; rw [if_neg (by rw [c_66]; decide)]
          · unfold itB; rw [if_neg (by rw [c_66]; decide)]
        · exact t69 _ _ c_66 e_58 hT hO
      refine g_iload dX5_layRow_39 rfl rfl ?_
      refine g_iload_n dX5_layRow_41 rfl rfl rfl ?_
      refine g_icmpn_ge (tgt := 374) dX5_layRow_42 (by decide) rfl (by omega) (by omega) (fun c_42 => ?_) (fun c_42 => ?_)
      · refine g_return dX5_layRow_374 rfl ?_
        rw [rwB, if_neg (by omega)] at hacc
        refine ⟨rfl, F, hT, hbo, ⟨by rw [hacc]; exact hw, by rw [hacc]; exact hh, by rw [hacc]; exact hlo⟩, hoth, fun j hj => ?_, hO⟩
        rcases hdone j hj with z | z
        · exact absurd z (inCh_e (by omega))
        · exact z
      · exact body c_42
  have hO := xo_rf A m
  refine ct_intro (lv := [some (.ref (A 0)), some (.ref (A 4)), some (.int (nI st)), none, none, none, none, none, none, none, none]) 8 (by decide) rfl (Nat.le_of_ble_eq_true rfl) rfl ?_
  have fin : ∀ z f1 f2 f3 m', z = (if st = rowEndL L st then 1 else 0) → f1 = upd (F 21) st (nI z) → f2 = upd (F 22) st (nI 0) → f3 = upd (F 23) st (nI 0) → TM A rf ts ac ls rs dp (fset (fset (fset F 21 f1) 22 f2) 23 f3) m' → XOf A m m' → G w MX5_layRow (xZ w (tRow A m rf ts ac ls rs dp F0 L B st) xN) d 0 0 39 [some (.ref (A 0)), some (.ref (A 4)), some (.int (nI st)), some (.int (nI (rowEndL L st))), some (.int (nI st)), none, none, none, none, none, none] [] m' := by
    intro z f1 f2 f3 m' hz e1 e2 e3 hT hO
    refine loop (rowEndL L st - st + 1) st (z, 0, 0) _ _ _ _ _ _ _ _ (by omega) (by omega) (by omega) (by rw [hz]; exact hBst) (by show f1 st = _; rw [e1, upd_eq]) (by show f2 st = _; rw [e2, upd_eq]) (by show f3 st = _; rw [e3, upd_eq]) hT hO (fun i h1 h2 h3 h4 => by rw [fset_ne h3, fset_ne h2, fset_ne h1, eF0]) (fun g hg => ⟨?_, ?_, ?_⟩) (fun j hj => ?_)
    · show f1 g = _; rw [e1, upd_ne hg, eF0]
    · show f2 g = _; rw [e2, upd_ne hg, eF0]
    · show f3 g = _; rw [e3, upd_ne hg, eF0]
    · rcases hj with hj | hj
      · exact Or.inl hj
      · refine Or.inr ?_
        rw [eF0] at hj
        exact hj
  refine g_aload_n dX5_layRow_0 rfl rfl rfl ?_
  refine g_iload_n dX5_layRow_1 rfl rfl rfl ?_
  refine g_staticP iS_X5_rowEnd q2533 (p_rowEnd (d := d - 1) (by omega) (tm_at 4 hT rfl rfl rfl hf) hp (by omega)) dX5_layRow_2 rfl rfl rfl (by first | exact Nat.le_of_ble_eq_true rfl | simp [Value.category, rf_cat]) (by omega) xN_no ?_
  refine g_ist3 dX5_layRow_5 rfl (by decide) (k := ?_)
  refine g_aload_n dX5_layRow_6 rfl rfl rfl ?_
  refine g_get fl_X5_56_X5 dX5_layRow_7 rfl (Or.inl (tm_o hT)) rfl ?_
  refine g_iload_n dX5_layRow_10 rfl rfl rfl ?_
  refine g_iload_n dX5_layRow_11 rfl rfl rfl ?_
  refine g_iload_n dX5_layRow_12 rfl rfl rfl ?_
  refine g_icmpn_ne (tgt := 20) dX5_layRow_13 (by decide) rfl (by omega) (by omega) (fun c_13 => ?_) (fun c_13 => ?_)
  · refine g_iconst (v := (nI 0)) dX5_layRow_20 rfl rfl ?_
    refine t_iastn (k := 21) (N := 512) (f := F 21) hT hO rfl rfl rfl (by first | rfl | assumption) dX5_layRow_21 rfl (by omega) (fun m_21 f_21 e_21 hT hO => ?_)
    refine g_aload_n dX5_layRow_22 rfl rfl rfl ?_
    refine g_get fl_X5_59_X5 dX5_layRow_23 rfl (Or.inl (tm_o hT)) rfl ?_
    refine g_iload_n dX5_layRow_26 rfl rfl rfl ?_
    refine g_iconst (v := (nI 0)) dX5_layRow_27 rfl rfl ?_
    refine t_iastn (k := 22) (N := 512) (f := F 22) hT hO rfl rfl rfl (by first | rfl | assumption) dX5_layRow_28 rfl (by omega) (fun m_28 f_28 e_28 hT hO => ?_)
    refine g_aload_n dX5_layRow_29 rfl rfl rfl ?_
    refine g_get fl_X5_62_X5 dX5_layRow_30 rfl (Or.inl (tm_o hT)) rfl ?_
    refine g_iload_n dX5_layRow_33 rfl rfl rfl ?_
    refine g_iconst (v := (nI 0)) dX5_layRow_34 rfl rfl ?_
    refine t_iastn (k := 23) (N := 512) (f := F 23) hT hO rfl rfl rfl (by first | rfl | assumption) dX5_layRow_35 rfl (by omega) (fun m_35 f_35 e_35 hT hO => ?_)
    refine g_iload_n dX5_layRow_36 rfl rfl rfl ?_
    refine g_ist4 dX5_layRow_37 rfl (by decide) (k := ?_)
    exact fin 0 _ _ _ _ (by rw [if_neg (by omega)]) e_21 e_28 e_35 hT hO
  · refine g_iconst (v := (nI 1)) dX5_layRow_16 rfl rfl ?_
    refine g_goto (tgt := 21) dX5_layRow_17 (by decide) ?_
    refine t_iastn (k := 21) (N := 512) (f := F 21) hT hO rfl rfl rfl (by first | rfl | assumption) dX5_layRow_21 rfl (by omega) (fun m_21 f_21 e_21 hT hO => ?_)
    refine g_aload_n dX5_layRow_22 rfl rfl rfl ?_
    refine g_get fl_X5_59_X5 dX5_layRow_23 rfl (Or.inl (tm_o hT)) rfl ?_
    refine g_iload_n dX5_layRow_26 rfl rfl rfl ?_
    refine g_iconst (v := (nI 0)) dX5_layRow_27 rfl rfl ?_
    refine t_iastn (k := 22) (N := 512) (f := F 22) hT hO rfl rfl rfl (by first | rfl | assumption) dX5_layRow_28 rfl (by omega) (fun m_28 f_28 e_28 hT hO => ?_)
    refine g_aload_n dX5_layRow_29 rfl rfl rfl ?_
    refine g_get fl_X5_62_X5 dX5_layRow_30 rfl (Or.inl (tm_o hT)) rfl ?_
    refine g_iload_n dX5_layRow_33 rfl rfl rfl ?_
    refine g_iconst (v := (nI 0)) dX5_layRow_34 rfl rfl ?_
    refine t_iastn (k := 23) (N := 512) (f := F 23) hT hO rfl rfl rfl (by first | rfl | assumption) dX5_layRow_35 rfl (by omega) (fun m_35 f_35 e_35 hT hO => ?_)
    refine g_iload_n dX5_layRow_36 rfl rfl rfl ?_
    refine g_ist4 dX5_layRow_37 rfl (by decide) (k := ?_)
    exact fin 1 _ _ _ _ (by rw [if_pos (by omega)]) e_21 e_28 e_35 hT hO
end TW23
