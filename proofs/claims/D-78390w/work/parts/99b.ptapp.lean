/-! PARTS OF A ROW, ONE BEHIND THE OTHER -/
set_option maxRecDepth 100000
theorem pt_app {T : XT} {r : Nat} {A B : List XE} (hA : PT T r A) (hB : PT T r B) (hr : ∀ s ∈ opn A, s ∉ opn B) (hi : ∀ s ∈ itm A, s ∉ itm B) : PT T r (A ++ B) := by
  obtain ⟨a1, a2, a3, a4, a5⟩ := hA
  obtain ⟨b1, b2, b3, b4, b5⟩ := hB
  have hrA := (List.nodup_cons.mp a2)
  have hrB := (List.nodup_cons.mp b2)
  refine ⟨bd_app a1 b1, ?_, ?_, fun s hs => ?_, fun x hx => ?_⟩
  · rw [opn_app, List.nodup_cons, List.nodup_append]
    refine ⟨fun hm => ?_, hrA.2, hrB.2, fun x hx y hy e => by subst e; exact hr x hx hy⟩
    rcases List.mem_append.mp hm with hm | hm
    · exact hrA.1 hm
    · exact hrB.1 hm
  · rw [itm_app, List.nodup_append]
    exact ⟨a3, b3, fun x hx y hy e => by subst e; exact hi x hx hy⟩
  · rw [opn_app] at hs
    rcases List.mem_append.mp hs with hs | hs
    · obtain ⟨ow, sl, cap, e⟩ := a4 s hs
      have n1 : s ≠ r := fun e => by subst e; exact hrA.1 hs
      exact ⟨ow, sl, cap, by rw [e, drs_app, drs_out b1 n1 (hr s hs), List.append_nil]⟩
    · obtain ⟨ow, sl, cap, e⟩ := b4 s hs
      have n1 : s ≠ r := fun e => by subst e; exact hrB.1 hs
      exact ⟨ow, sl, cap, by rw [e, drs_app, drs_out a1 n1 (fun h => hr s h hs)]; rfl⟩
  · rcases List.mem_append.mp hx with hx | hx
    · exact a5 x hx
    · exact b5 x hx
