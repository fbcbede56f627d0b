/-! TWIN: boxes: words -/
set_option maxRecDepth 100000
abbrev XBx : Type := Nat × Nat × Nat
def opnL (L : List Int32) (j : Nat) : Prop := isBg (lf L j) = true ∨ lf L j = -10
/-- an item's box -/
def itB (L : List Int32) (B : Nat → XBx) (k : Nat) : XBx :=
  if isBg (lf L k) = true then
    if lf L k = -1 then (if (B (k + 1)).1 < (B (rowEndL L (k + 1) + 1)).1 then (B (rowEndL L (k + 1) + 1)).1 else (B (k + 1)).1, (B (k + 1)).2.1 + 1 + (B (k + 1)).2.2, (B (rowEndL L (k + 1) + 1)).2.1 + 1 + (B (rowEndL L (k + 1) + 1)).2.2)
    else if lf L k = -2 then ((B (k + 1)).1, (B (k + 1)).2.1 + 1 + (B (k + 1)).2.2, 0)
    else if lf L k = -3 then ((B (k + 1)).1, 0, (B (k + 1)).2.1 + 1 + (B (k + 1)).2.2)
    else if lf L k = -4 then ((B (k + 1)).1 + 1, (B (k + 1)).2.1 + 1, (B (k + 1)).2.2)
    else ((B (k + 1)).1 + 2, (B (k + 1)).2.1, (B (k + 1)).2.2)
  else (1, 0, 0)
def mxN (a b : Nat) : Nat := if a < b then b else a
def rwB (L : List Int32) (B : Nat → XBx) (en : Nat) (a : XBx) (k : Nat) : XBx :=
  if k < en then rwB L B en (a.1 + (itB L B k).1, mxN a.2.1 (itB L B k).2.1, mxN a.2.2 (itB L B k).2.2) (itemEndL L k) else a
termination_by en - k
decreasing_by have h : k < itemEndL L k := itemEnd_gt _ _ _; omega
theorem rwB_ge (L : List Int32) (B : Nat → XBx) (en : Nat) (a : XBx) (k : Nat) : a.1 ≤ (rwB L B en a k).1 ∧ a.2.1 ≤ (rwB L B en a k).2.1 ∧ a.2.2 ≤ (rwB L B en a k).2.2 := by
  fun_induction rwB L B en a k with
  | case1 a k h ih =>
    obtain ⟨h1, h2, h3⟩ := ih
    have m1 : a.2.1 ≤ mxN a.2.1 (itB L B k).2.1 := by unfold mxN; split <;> omega
    have m2 : a.2.2 ≤ mxN a.2.2 (itB L B k).2.2 := by unfold mxN; split <;> omega
    exact ⟨Nat.le_trans (Nat.le_add_right _ _) h1, Nat.le_trans m1 h2, Nat.le_trans m2 h3⟩
  | case2 a k h => exact ⟨Nat.le_refl _, Nat.le_refl _, Nat.le_refl _⟩
/-- the places of a row's items -/
def inCh (L : List Int32) (en k j : Nat) : Bool := if k < en then (k == j) || inCh L en (itemEndL L k) j else false
termination_by en - k
decreasing_by have h : k < itemEndL L k := itemEnd_gt _ _ _; omega
def bxA (F : Nat → Nat → Int32) (B : Nat → XBx) (g : Nat) : Prop := F 21 g = nI (B g).1 ∧ F 22 g = nI (B g).2.1 ∧ F 23 g = nI (B g).2.2
/-- a list of signs that boxes can be laid over -/
def BxL (L : List Int32) (B : Nat → XBx) : Prop :=
  (∀ k, k < L.length → isBg (lf L k) = true → lf L k = -1 ∨ lf L k = -2 ∨ lf L k = -3 ∨ lf L k = -4 ∨ lf L k = -5) ∧
  (∀ k, k < L.length → lf L k = -1 → rowEndL L (k + 1) < L.length ∧ lf L (rowEndL L (k + 1)) = -10) ∧
  (∀ g, g ≤ L.length → (B g).1 ≤ 1000 ∧ (B g).2.1 ≤ 1000 ∧ (B g).2.2 ≤ 1000) ∧
  (∀ g, g ≤ L.length → g = 0 ∨ opnL L (g - 1) → B g = rwB L B (rowEndL L g) (if g = rowEndL L g then 1 else 0, 0, 0) g)
def bxO (F F' : Nat → Nat → Int32) : Prop := ∀ k, k ≠ 21 → k ≠ 22 → k ≠ 23 → k ≠ 24 → F' k = F k
def rtI (L : List Int32) (B : Nat → XBx) (F : Nat → Nat → Int32) (j : Nat) : Prop := F 24 j = nI (itB L B j).1
/-- a row's box laid -/
def tRow (A : Nat → Nat) (m : XM) (rf ts ac ls rs dp : Int32) (F : Nat → Nat → Int32) (L : List Int32) (B : Nat → XBx) (st : Nat) : Option Value → XM → Prop := fun v m' => none = v ∧ ∃ F', TM A rf ts ac ls rs dp F' m' ∧ bxO F F' ∧ bxA F' B st ∧ (∀ g, g ≠ st → F' 21 g = F 21 g ∧ F' 22 g = F 22 g ∧ F' 23 g = F 23 g) ∧ (∀ j, inCh L (rowEndL L st) st j = true ∨ rtI L B F j → rtI L B F' j) ∧ XOf A m m'
