/-! DOCUMENTS: wrap, whole -/
set_option maxRecDepth 100000
section WRAPC
variable {w : XW} {id d D : Nat}
theorem l_wrap65 {g g1 g2 : XG} {m m1 m2 : XM} {T1 T2 : XT} {top r t a o p k cap1 kc ks : Nat} {P N Q NT : List XE} {q : Option Nat} {S : XK} (hd : 40 ≤ d)
    (hF : FrD id D g m g1 m1) (hDC : DC w g1 m1 id D T1 top r P [] Q q S) (hNT : PT T1 t NT) (hTt : T1.1 t = some (none, 0, cap1, drs t NT)) (hS2 : SM w g2 m2 id T2) (hF2 : Fr id g1 m1 g2 m2)
    (ha : m1 a = none) (ho : m1 o = none) (hp : k = 1 → m1 p = none ∧ p ≠ o) (hTo : T2.1 o = some (some a, 0, 0, [])) (hTp : k = 1 → T2.1 p = some (some a, 1, 0, [])) (hKa : T2.2.1 a = some (.inr (k, o, p, 1, 1))) (hrows : ∀ s, m1 s ≠ none → T2.1 s = T1.1 s) (hitems : ∀ i, m1 i ≠ none → T2.2.1 i = T1.2.1 i ∧ T2.2.2 i = T1.2.2 i)
    (hdis : ∀ s ∈ opn NT, s ≠ top ∧ s ∉ opn P ∧ s ∉ opn Q) (hdisi : ∀ s ∈ itm NT, s ∉ itm P ∧ s ∉ itm Q) (htt : t ∉ top :: (opn P ++ (opn NT ++ opn Q))) (hrN : r ∉ opn NT) (hrt : r ≠ t) (hsh : NT.map shE = N.map shE)
    (hcnt : cnt (P ++ (N ++ Q)) < 60) (hht : S.length + 1 + hts N ≤ 5) (hkc : 1 + (drs t NT).length ≤ kc) (hks : 120 + 6 * (drs t NT).length ≤ ks) :
    G w MX3_wrap (xZ w (wpP w g m id D k P N Q) xN) d kc ks 65 [some (.ref D), some (.int (nI k)), some (.int (nI 1)), some (.ref t), none] [.ref a] m2 := by
  have h60 := dc_60 hDC
  have hH1 := dc_ho hDC
  obtain ⟨own, sl, cap, hR⟩ := dc_row hDC
  obtain ⟨b1, b2, ⟨b3, b3'⟩, b4, ⟨slb, capb, b5⟩, b6, -, b8, b9⟩ := hDC
  simp only [List.append_nil, List.nil_append] at b2 b5 b8 b9 hR
  simp only [show drs r [] = [] from rfl, List.nil_append, List.length_nil] at b2 hR h60
  have hgD1 : (g1 D).1 ≠ id := by rw [b3]; exact fun e => b3' e.symm
  have hD1n : m1 D ≠ none := by rw [b2]; exact fun h => by cases h
  have hm2 := (Fr_al hF2 hD1n hgD1).trans b2
  have hg2 : g2 D = g1 D := (hF2.1 D hD1n).1
  have hrm := sm_Rm b1 hR
  have htm := sm_Rm b1 hTt
  have nn : ∀ {x y : Nat}, m1 x ≠ none → m1 y = none → x ≠ y := fun h1 h2 e => by subst e; exact h1 h2
  have hto := nn htm ho
  have hro := nn hrm ho
  have hR2 := (hrows r hrm).trans hR
  have hT2 := (hrows t htm).trans hTt
  have hrl : (drs r P ++ drs r Q).length ≤ 60 := by rw [List.length_append]; omega
  have hal : alS (drs r P ++ drs r Q).length cap ≤ 90 := al_90 hrl
  have hnt : (drs t NT).length ≤ 60 := by
    have h1 := drs_cnt t NT
    have h2 := (sh_cnt hsh).1
    rw [cnt_app, cnt_app] at hcnt; omega
  obtain ⟨la, ar, bx, mc, hr2, -⟩ := sm_row hS2 hR2
  first | refine g_ast4 dX3_wrap_65 rfl (by decide) (k := ?_) | refine g_astR4 dX3_wrap_65 rfl (by decide) (k := ?_) | refine g_astN4 dX3_wrap_65 rfl (by decide) (k := ?_)
  first | refine g_aload_n dX3_wrap_67 rfl rfl rfl ?_ | refine g_aload_nR dX3_wrap_67 rfl rfl rfl ?_ | refine g_aload_nN dX3_wrap_67 rfl rfl rfl ?_
  refine g_get fl_X3_15_X3 dX3_wrap_68 rfl (Or.inl (by first | assumption | exact xu_eq _ _ _ | exact (xu_ne (by first | assumption | exact Ne.symm (by assumption))).trans (by first | assumption | exact xu_eq _ _ _) | exact (xu_ne (by first | assumption | exact Ne.symm (by assumption))).trans ((xu_ne (by first | assumption | exact Ne.symm (by assumption))).trans (by first | assumption | exact xu_eq _ _ _)) | exact (xu_ne (by first | assumption | exact Ne.symm (by assumption))).trans ((xu_ne (by first | assumption | exact Ne.symm (by assumption))).trans ((xu_ne (by first | assumption | exact Ne.symm (by assumption))).trans (by first | assumption | exact xu_eq _ _ _))))) rfl ?_
  first | refine g_aload_n dX3_wrap_71 rfl rfl rfl ?_ | refine g_aload_nR dX3_wrap_71 rfl rfl rfl ?_ | refine g_aload_nN dX3_wrap_71 rfl rfl rfl ?_
  refine g_get fl_X3_38_X3 dX3_wrap_72 rfl (Or.inl (by first | assumption | exact xu_eq _ _ _ | exact (xu_ne (by first | assumption | exact Ne.symm (by assumption))).trans (by first | assumption | exact xu_eq _ _ _) | exact (xu_ne (by first | assumption | exact Ne.symm (by assumption))).trans ((xu_ne (by first | assumption | exact Ne.symm (by assumption))).trans (by first | assumption | exact xu_eq _ _ _)) | exact (xu_ne (by first | assumption | exact Ne.symm (by assumption))).trans ((xu_ne (by first | assumption | exact Ne.symm (by assumption))).trans ((xu_ne (by first | assumption | exact Ne.symm (by assumption))).trans (by first | assumption | exact xu_eq _ _ _))))) rfl ?_
  first | refine g_aload dX3_wrap_75 rfl rfl ?_ | refine g_aloadR dX3_wrap_75 rfl rfl ?_ | refine g_aloadN dX3_wrap_75 rfl rfl ?_
  refine g_virtual iV_X4_insert q2146 (c_insert (d := d - 1) (x := a) (by omega) hS2 hR2 (by rw [List.length_append]; omega) (by omega) (by rw [hKa]; exact fun h => by cases h)) (Or.inl (by first | assumption | exact xu_eq _ _ _ | exact (xu_ne (by first | assumption | exact Ne.symm (by assumption))).trans (by first | assumption | exact xu_eq _ _ _) | exact (xu_ne (by first | assumption | exact Ne.symm (by assumption))).trans ((xu_ne (by first | assumption | exact Ne.symm (by assumption))).trans (by first | assumption | exact xu_eq _ _ _)) | exact (xu_ne (by first | assumption | exact Ne.symm (by assumption))).trans ((xu_ne (by first | assumption | exact Ne.symm (by assumption))).trans ((xu_ne (by first | assumption | exact Ne.symm (by assumption))).trans (by first | assumption | exact xu_eq _ _ _))))) rfl (by decide) dX3_wrap_77 rfl rfl rfl (by first | exact Nat.le_of_ble_eq_true rfl | simp [Value.category, rf_cat]) (by omega) (by omega) (by omega) xN_no (fun v_77 m_77 h_77 => ?_)
  obtain ⟨rfl, g3, hS3, hF3⟩ := h_77
  obtain ⟨sa, bx3, f, hi, hsa, hf, hfq, -⟩ := sm_str hS3 hKa
  have hR3o : (uF T2.1 r (some (own, sl, alN (drs r P ++ drs r Q).length cap, insN (drs r P ++ drs r Q) (drs r P).length a))) o = some (some a, 0, 0, [] ++ []) := (uF_ne hro.symm).trans hTo
  have hR3t : (uF T2.1 r (some (own, sl, alN (drs r P ++ drs r Q).length cap, insN (drs r P ++ drs r Q) (drs r P).length a))) t = some (none, 0, cap1, drs t NT) := (uF_ne hrt.symm).trans hT2
  obtain ⟨lo, ao, bo, mo, hom, -⟩ := sm_row hS3 hR3o
  have hD2n : m2 D ≠ none := by rw [hm2]; exact fun h => by cases h
  have hg2D : (g2 D).1 ≠ id := by rw [hg2]; exact hgD1
  have hm3 := (Fr_al hF3 hD2n hg2D).trans hm2
  have hg3 : g3 D = g1 D := ((hF3.1 D hD2n).1).trans hg2
  first | refine g_aload dX3_wrap_80 rfl rfl ?_ | refine g_aloadR dX3_wrap_80 rfl rfl ?_ | refine g_aloadN dX3_wrap_80 rfl rfl ?_
  refine g_get fl_X3_69_X9 dX3_wrap_82 rfl (Or.inl (by first | assumption | exact xu_eq _ _ _ | exact (xu_ne (by first | assumption | exact Ne.symm (by assumption))).trans (by first | assumption | exact xu_eq _ _ _) | exact (xu_ne (by first | assumption | exact Ne.symm (by assumption))).trans ((xu_ne (by first | assumption | exact Ne.symm (by assumption))).trans (by first | assumption | exact xu_eq _ _ _)) | exact (xu_ne (by first | assumption | exact Ne.symm (by assumption))).trans ((xu_ne (by first | assumption | exact Ne.symm (by assumption))).trans ((xu_ne (by first | assumption | exact Ne.symm (by assumption))).trans (by first | assumption | exact xu_eq _ _ _))))) rfl ?_
  refine g_iconst (v := (nI 0)) dX3_wrap_85 rfl rfl ?_
  refine g_aaldn (t := 6) rfl dX3_wrap_86 rfl (Or.inl hsa) (by split <;> omega) (by split <;> omega) ?_
  rw [hf]
  refine g_iconst (v := (nI 0)) dX3_wrap_87 rfl rfl ?_
  first | refine g_aload_n dX3_wrap_88 rfl rfl rfl ?_ | refine g_aload_nR dX3_wrap_88 rfl rfl rfl ?_ | refine g_aload_nN dX3_wrap_88 rfl rfl rfl ?_
  refine g_virtual iV_X4_take q2197 (c_take (d := d - 1) (kc := (drs t NT).length) (ks := 6 * (drs t NT).length + 30) (by omega) hS3 hR3o hR3t hto (by simp; omega) rfl (Nat.le_refl _) (by simp [Psi]; omega)) (Or.inl (by first | assumption | exact xu_eq _ _ _ | exact (xu_ne (by first | assumption | exact Ne.symm (by assumption))).trans (by first | assumption | exact xu_eq _ _ _) | exact (xu_ne (by first | assumption | exact Ne.symm (by assumption))).trans ((xu_ne (by first | assumption | exact Ne.symm (by assumption))).trans (by first | assumption | exact xu_eq _ _ _)) | exact (xu_ne (by first | assumption | exact Ne.symm (by assumption))).trans ((xu_ne (by first | assumption | exact Ne.symm (by assumption))).trans ((xu_ne (by first | assumption | exact Ne.symm (by assumption))).trans (by first | assumption | exact xu_eq _ _ _))))) rfl (by decide) dX3_wrap_89 rfl rfl rfl (by first | exact Nat.le_of_ble_eq_true rfl | simp [Value.category, rf_cat]) (by omega) (by omega) (by omega) xN_no (fun v_89 m_89 h_89 => ?_)
  obtain ⟨g4, cap4, rfl, hS4, hF4⟩ := h_89
  rw [List.append_nil, List.nil_append] at hS4
  have hm4 := (Fr_al hF4 (by rw [hm3]; exact fun h => by cases h) (by rw [hg3]; exact hgD1)).trans hm3
  have hg4 : g4 D = g1 D := ((hF4.1 D (by rw [hm3]; exact fun h => by cases h)).1).trans hg3
  refine g_pop dX3_wrap_92 rfl (by first | rfl | exact rf_cat _) ?_
  have hkn : ∀ s ∈ top :: (opn P ++ (opn NT ++ opn Q)), m1 s ≠ none := by
    intro s hs
    simp only [List.mem_cons, List.mem_append] at hs
    have b4' : DT T1 top (P ++ Q) := b4
    rcases hs with hs | hs | hs | hs
    · exact dt_known b1 b4' (by rw [hs]; exact List.mem_cons_self)
    · exact dt_known b1 b4' (List.mem_cons_of_mem _ (by rw [opn_app]; exact List.mem_append_left _ hs))
    · obtain ⟨ow, s2, c2, e⟩ := hNT.2.2.2.1 s hs
      exact sm_Rm b1 e
    · exact dt_known b1 b4' (List.mem_cons_of_mem _ (by rw [opn_app]; exact List.mem_append_right _ hs))
  have hki : ∀ i ∈ itm P ++ (itm NT ++ itm Q), m1 i ≠ none := by
    intro i hi
    simp only [List.mem_append] at hi
    have b4' : DT T1 top (P ++ Q) := b4
    rcases hi with hi | hi | hi
    · exact dt_knownI b1 b4' (by rw [itm_app]; exact List.mem_append_left _ hi)
    · obtain ⟨v, e⟩ := ek_itm hNT.2.2.2.2 i hi
      exact sm_Km b1 e
    · exact dt_knownI b1 b4' (by rw [itm_app]; exact List.mem_append_right _ hi)
  obtain ⟨hDT, hrS⟩ := dt_wrap (T2 := T2) (cap2 := alN (drs r P ++ drs r Q).length cap) (cap4 := cap4) (vt := (none, 0, cap1, [])) b4 hH1 hNT hR hkn hki hrm htm ha ho hp hdis hdisi htt hrN hrt hrows hitems hKa hTp
  have hS4' : SM w g4 m_89 id (wrT T2 r t a o (own, sl, alN (drs r P ++ drs r Q).length cap, insN (drs r P ++ drs r Q) (drs r P).length a) (some a, 0, cap4, drs t NT) (none, 0, cap1, []) (drs t NT)) := hS4
  have hshA : (rnL t o NT).map shE = N.map shE := (rn_sh t o NT).trans hsh
  have hoN : o ∉ opn NT := fun h => by
    obtain ⟨ow, s2, c2, e⟩ := hNT.2.2.2.1 o h
    exact sm_Rm b1 e ho
  have htN : t ∉ opn NT := (List.nodup_cons.mp hNT.2.1).1
  have hbA : Bd o (rnL t o NT) := rn_bd hNT.1 htN
  have hdo : drs o (rnL t o NT) = drs t NT := rn_drs_t NT (fun hm => (rws_in t NT hNT.1 o hm).elim (fun e => hto e.symm) hoN)
  have hnk : ∀ x, m1 x = none → drs x P = [] := fun x hx => (ho_out (M := []) hH1 (fun hm => by
    refine hkn x ?_ hx
    simp only [List.mem_cons, List.mem_append] at hm ⊢
    rcases hm with hm | hm | hm
    · exact Or.inl hm
    · exact Or.inr (Or.inl hm)
    · exact Or.inr (Or.inr (Or.inr hm)))).1
  have htop : ∃ sl1 cap1', (wrT T2 r t a o (own, sl, alN (drs r P ++ drs r Q).length cap, insN (drs r P ++ drs r Q) (drs r P).length a) (some a, 0, cap4, drs t NT) (none, 0, cap1, []) (drs t NT)).1 top = some (none, sl1, cap1', drs top (P ++ (sI k a r o p (rnL t o NT) [] ++ Q))) := by
    have hmt := hkn top List.mem_cons_self
    have h1 : top ≠ t := fun e => htt (by rw [← e]; exact List.mem_cons_self)
    have h2 := nn hmt ho
    refine top_own (T := T1) (r := r) b5 hR (own := own) (sl' := sl) (cap' := alN (drs r P ++ drs r Q).length cap) (is' := insN (drs r P ++ drs r Q) (drs r P).length a) ?_ (fun hne => ?_) hDT
    · exact (uF_ne hrt).trans ((uF_ne hro).trans (uF_eq _ _ _))
    · exact (uF_ne h1).trans ((uF_ne h2).trans ((uF_ne hne).trans (hrows top hmt)))
  obtain ⟨sl0, cap0, htop⟩ := htop
  have hcA : cnt (rnL t o NT) = cnt N := (sh_cnt hshA).1
  have hhA : hts (rnL t o NT) = hts N := sh_hts hshA
  have hbS : Bd r (sI k a r o p (rnL t o NT) []) := bd_sI hbA (fun _ => bd_nil p)
  refine l_wrap93 (cap4 := cap4) (cap5 := 0) hd (FrD_tr hF (FrD_tr (FrD_of hF2) (FrD_tr (FrD_of hF3) (FrD_of hF4)))) hS4' hm4 (by rw [hg4]; exact b3) b3' hDT htop hrS b6 hbA hKa ?_ (fun hk => ?_) (hnk o ho) (fun hk => hnk p (hp hk).1) hshA ?_ ?_ (by omega)
  · rw [hdo]; exact (uF_ne hto.symm).trans (uF_eq _ _ _)
  · obtain ⟨p1, p2⟩ := hp hk
    exact (uF_ne (nn htm p1).symm).trans ((uF_ne p2).trans ((uF_ne (nn hrm p1).symm).trans (hTp hk)))
  · rw [cnt_app, cnt_app, cnt_sI, hcA]
    rw [cnt_app, cnt_app] at hcnt
    show cnt P + (1 + (cnt N + if k = 1 then 0 else 0) + cnt Q) ≤ 60
    split <;> omega
  · rw [hts_gap b6 hbS, hts_sI hbA (fun _ => bd_nil p), hhA]
    show max (hts (P ++ Q)) (if 1 + max (hts N) (if k = 1 then 0 else 0) = 0 then 0 else S.length + (1 + max (hts N) (if k = 1 then 0 else 0))) ≤ 5
    have : (if k = 1 then 0 else 0) = 0 := by split <;> rfl
    rw [this, if_neg (by omega)]
    omega
end WRAPC
