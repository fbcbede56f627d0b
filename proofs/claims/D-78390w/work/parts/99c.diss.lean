/-! A STRUCTURE DISSOLVED: the tree -/
set_option maxRecDepth 100000
theorem dt_diss {T T' : XT} {top r k i o p sl cap cap' : Nat} {own : Option Nat} {X A B V : List XE} {q : Option Nat} {S : XK} (h : DT T top (X ++ (sI k i r o p A B ++ V))) (hH : HO top X V r q S) (hA : Bd o A) (hB : k = 1 → Bd p B)
    (hR : T.1 r = some (own, sl, cap, drs r (X ++ (sI k i r o p A B ++ V)))) (hR' : T'.1 r = some (own, sl, cap', drs r X ++ (drs o A ++ ((if k = 1 then drs p B else []) ++ drs r V))))
    (hrow : ∀ s, s ∈ top :: (opn X ++ opn V) → s ≠ r → T'.1 s = T.1 s) (hrA : ∀ s ∈ opn A, T'.1 s = T.1 s) (hrB : k = 1 → ∀ s ∈ opn B, T'.1 s = T.1 s)
    (hK : ∀ z, T'.2.1 z = T.2.1 z) (hW1 : ∀ z ∈ drs o A, T'.2.2 z = some r) (hW2 : k = 1 → ∀ z ∈ drs p B, T'.2.2 z = some r) (hW : ∀ z, z ∉ drs o A → (k = 1 → z ∉ drs p B) → T'.2.2 z = T.2.2 z) :
    DT T' top (X ++ ((rnL o r A ++ if k = 1 then rnL p r B else []) ++ V)) := by
  obtain ⟨e1, e2, eA, eBB, ⟨rs, rd, e3⟩, e4, ⟨ca, e5⟩, e6⟩ := dt_strH h hH hA hB
  have hbS : Bd r (sI k i r o p A B) := bd_sI hA hB
  have hPS := pt_of h hH hbS
  have hnd := hPS.2.1
  have hni := hPS.2.2.1
  have hPA := dt_ptw eA
  by_cases hk : k = 1
  · have hPB := dt_ptw (eBB hk)
    rw [opn_sI, if_pos hk] at hnd
    rw [itm_sI, if_pos hk] at hni
    simp only [List.nodup_cons, List.nodup_append, List.mem_cons, List.mem_append, not_or] at hnd hni
    obtain ⟨⟨r1, r2, r3, r4⟩, ⟨o1, o2, o3⟩, ⟨p1, p2⟩, n1, n2, n3⟩ := hnd
    obtain ⟨⟨i1, i2⟩, m1, m2, m3⟩ := hni
    have hA' : PT T' r (rnL o r A) := pt_ren hPA hrA (fun z _ => hK z) hW1 (fun z hz hn => hW z hn (fun _ hm => m3 z hz z (drs_itm hm) rfl)) r3
    have hB' : PT T' r (rnL p r B) := pt_ren hPB (hrB hk) (fun z _ => hK z) (hW2 hk) (fun z hz hn => hW z (fun hm => m3 z (drs_itm hm) z hz rfl) (fun _ => hn)) r4
    have hAB : PT T' r (rnL o r A ++ rnL p r B) := pt_app hA' hB' (fun s h1 h2 => by rw [rn_opn] at h1 h2; exact n3 s h1 s h2 rfl) (fun s h1 h2 => by rw [rn_itm] at h1 h2; exact m3 s h1 s h2 rfl)
    rw [if_pos hk] at hR' ⊢
    have dA : drs r (rnL o r A) = drs o A := rn_drs_t A (fun hm => (rws_in o A hA r hm).elim (fun e => r1 e) r3)
    have dB : drs r (rnL p r B) = drs p B := rn_drs_t B (fun hm => (rws_in p B (hB hk) r hm).elim (fun e => r2 e) r4)
    refine dt_new h hH hbS hAB (fun s hs => Or.inl ?_) (fun z hz => Or.inl ?_) hR ⟨cap', by rw [hR', drs_app, drs_app, drs_app, dA, dB, List.append_assoc]⟩ hrow (fun z hz => ⟨hK z, hW z (fun hm => ?_) (fun _ hm => ?_)⟩)
    · rw [opn_app, rn_opn, rn_opn] at hs
      rw [opn_sI, if_pos hk]; exact List.mem_cons_of_mem _ (List.mem_cons_of_mem _ hs)
    · rw [itm_app, rn_itm, rn_itm] at hz
      rw [itm_sI, if_pos hk]; exact List.mem_cons_of_mem _ hz
    · have hh := h.2.2.1
      rw [itm_app, itm_app, itm_sI, if_pos hk, List.nodup_append, List.nodup_append] at hh
      have hz2 := drs_itm hm
      rcases List.mem_append.mp hz with hz | hz
      · exact hh.2.2 z hz z (by simp [hz2]) rfl
      · exact hh.2.1.2.2 z (by simp [hz2]) z hz rfl
    · have hh := h.2.2.1
      rw [itm_app, itm_app, itm_sI, if_pos hk, List.nodup_append, List.nodup_append] at hh
      have hz2 := drs_itm hm
      rcases List.mem_append.mp hz with hz | hz
      · exact hh.2.2 z hz z (by simp [hz2]) rfl
      · exact hh.2.1.2.2 z (by simp [hz2]) z hz rfl
  · rw [opn_sI, if_neg hk] at hnd
    rw [itm_sI, if_neg hk, List.append_nil] at hni
    simp only [List.nodup_cons, List.mem_cons, not_or] at hnd hni
    obtain ⟨⟨r1, r3⟩, o1, n1⟩ := hnd
    have hA' : PT T' r (rnL o r A) := pt_ren hPA hrA (fun z _ => hK z) hW1 (fun z hz hn => hW z hn (fun h => absurd h hk)) r3
    rw [if_neg hk] at hR' ⊢
    rw [List.append_nil]
    have dA : drs r (rnL o r A) = drs o A := rn_drs_t A (fun hm => (rws_in o A hA r hm).elim (fun e => r1 e) r3)
    refine dt_new h hH hbS hA' (fun s hs => Or.inl ?_) (fun z hz => Or.inl ?_) hR ⟨cap', by rw [hR', drs_app, drs_app, dA]; rfl⟩ hrow (fun z hz => ⟨hK z, hW z (fun hm => ?_) (fun h => absurd h hk)⟩)
    · rw [rn_opn] at hs
      rw [opn_sI, if_neg hk]; exact List.mem_cons_of_mem _ hs
    · rw [rn_itm] at hz
      rw [itm_sI, if_neg hk, List.append_nil]; exact List.mem_cons_of_mem _ hz
    · have hh := h.2.2.1
      rw [itm_app, itm_app, itm_sI, if_neg hk, List.nodup_append, List.nodup_append] at hh
      have hz2 := drs_itm hm
      rcases List.mem_append.mp hz with hz | hz
      · exact hh.2.2 z hz z (by simp [hz2]) rfl
      · exact hh.2.1.2.2 z (by simp [hz2]) z hz rfl
