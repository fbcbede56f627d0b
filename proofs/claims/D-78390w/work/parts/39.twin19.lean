/-! TWIN: the text of a line: what is said -/
set_option maxRecDepth 100000
section TW19
variable {w : XW} {d : Nat} {m : XM} {A : Nat → Nat} {rf ts ac rs dp : Int32} {F : Nat → Nat → Int32}
def outR (f : Nat → Int32) (out : List Int32) : Prop := ∀ j, j < out.length → f j = lf out j
def unl (b : Bool) (c : Int32) : List Int32 := if b = true then [] else [c]
theorem outR_add {f : Nat → Int32} {out : List Int32} {c : Int32} (h : outR f out) : outR (upd f out.length c) (out ++ [c]) := by
  intro j hj
  have hj : j < (out ++ [c]).length := hj
  rw [List.length_append] at hj
  have hj : j < out.length + 1 := hj
  by_cases hjl : j = out.length
  · rw [hjl, upd_eq]; simp [lf]
  · rw [upd_ne hjl, h j (by omega)]
    simp only [lf, List.getD_eq_getElem?_getD]
    rw [List.getElem?_append_left (by omega)]
/-- what has been said; nothing else changes -/
def tSay (A : Nat → Nat) (m : XM) (rf ts ac rs dp : Int32) (F : Nat → Nat → Int32) (out : List Int32) : Option Value → XM → Prop := fun v m' => none = v ∧ ∃ F', TM A rf ts ac (nI out.length) rs dp F' m' ∧ outR (F' 10) out ∧ (∀ k, k ≠ 10 → F' k = F k) ∧ XOf A m m'
theorem s_say {out : List Int32} {c : Int32} (hd : 1 ≤ d) (hn : out.length < 1024) (ho : outR (F 10) out) (hT : TM A rf ts ac (nI out.length) rs dp F m) : CT w MX5_say d 0 0 [.ref (A 0), .int c] m (tSay A m rf ts ac rs dp F (out ++ [c])) xN := by
  refine CT_post (t_say hd hn rfl hT) fun v m' h => ?_
  obtain ⟨h1, h2, h3⟩ := h
  refine ⟨h1, _, by rw [List.length_append]; exact h2, ?_, fun k hk => fset_ne hk, h3⟩
  exact outR_add ho
theorem s_sayUnless {out : List Int32} {c : Int32} {b : Bool} (hd : 2 ≤ d) (hn : out.length < 1024) (ho : outR (F 10) out) (hT : TM A rf ts ac (nI out.length) rs dp F m) : CT w MX5_sayUnless d 0 0 [.ref (A 0), .int (xB b), .int c] m (tSay A m rf ts ac rs dp F (out ++ unl b c)) xN := by
  refine CT_post (t_sayUnless hd hn rfl hT) fun v m' h => ?_
  obtain ⟨h1, h2, h3⟩ := h
  cases b with
  | true =>
    have e : out ++ unl true c = out := List.append_nil _
    rw [e]
    exact ⟨h1, fset F 10 (F 10), h2, ho, fun k hk => fset_ne hk, h3⟩
  | false =>
    have e : (out ++ unl false c).length = out.length + 1 := List.length_append
    exact ⟨h1, fset F 10 (upd (F 10) out.length c), by rw [e]; exact h2, outR_add ho, fun k hk => fset_ne hk, h3⟩
/-- the pile of begins, the latest first -/
def pileR (g : Nat → Int32) : List Nat → Prop
  | [] => True
  | b :: r => g r.length = nI b ∧ pileR g r
theorem pileR_upd {g : Nat → Int32} {s : List Nat} {j : Nat} {x : Int32} (h : pileR g s) (hj : s.length ≤ j) : pileR (upd g j x) s := by
  induction s with
  | nil => trivial
  | cons b r ih =>
    have hj : r.length + 1 ≤ j := hj
    exact ⟨by rw [upd_ne (by omega)]; exact h.1, ih h.2 (by omega)⟩
def behL (L : List Int32) (k : Nat) : Bool := decide (rowStartL L k < k ∧ lf L (itemStartL L k) = -1)
def barL (L : List Int32) (k b : Nat) : Bool := if lf L b = -1 then isSh L (rowStartL L k) true else (decide (lf L b = -2) || decide (lf L b = -3)) && isSh L (b + 1) false
/-- a sign laid: the pile and what is said; none: no begin, or the pile full -/
def layS (L : List Int32) (k : Nat) (stk : List Nat) : Option (List Nat × List Int32) :=
  if 0 < lf L k then some (stk, [lf L k])
  else if isBg (lf L k) = true then
    if 64 ≤ stk.length then none
    else if lf L k = -1 then some (k :: stk, unl (isSh L (k + 1) true) 40)
    else if -4 < lf L k then some (k :: stk, unl (!behL L k) 32 ++ [if lf L k = -2 then 94 else 95] ++ unl (isSh L (k + 1) false) 40)
    else some (k :: stk, unl (decide (lf L k = -5)) 114 ++ [40])
  else match stk with
    | [] => none
    | b :: r => if lf L k = -10 then some (b :: r, unl (isSh L (b + 1) true) 41 ++ [47] ++ unl (isSh L (k + 1) true) 40)
      else some (r, unl (barL L k b) 41)
def layF (L : List Int32) (k : Nat) (stk : List Nat) (out : List Int32) : Option (List Int32) :=
  if k < L.length then match layS L k stk with
    | none => none
    | some (s2, o2) => layF L (k + 1) s2 (out ++ o2)
  else some out
termination_by L.length - k
theorem unl_len (b : Bool) (c : Int32) : (unl b c).length ≤ 1 := by unfold unl; split <;> simp
theorem layS_len {L : List Int32} {k : Nat} {stk s2 : List Nat} {o2 : List Int32} (h : layS L k stk = some (s2, o2)) : o2.length ≤ 3 := by
  have ul := unl_len
  unfold layS at h
  split at h
  · cases h; simp
  · split at h
    · split at h
      · cases h
      · split at h
        · cases h; have := ul (isSh L (k + 1) true) 40; omega
        · split at h
          · cases h
            simp only [List.length_append, List.length_cons, List.length_nil]
            have a := ul (!behL L k) 32
            have b := ul (isSh L (k + 1) false) 40
            omega
          · cases h
            simp only [List.length_append, List.length_cons, List.length_nil]
            have a := ul (decide (lf L k = -5)) 114
            omega
    · split at h
      · cases h
      · split at h
        · cases h
          simp only [List.length_append, List.length_cons, List.length_nil]
          next b r _ =>
            have a := ul (isSh L (b + 1) true) 41
            have b := ul (isSh L (k + 1) true) 40
            omega
        · next b r _ =>
            cases h; have := ul (barL L k b) 41; omega
end TW19
