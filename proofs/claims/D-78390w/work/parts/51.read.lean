/-! READING, abstract: levels of what is open (innermost first) -/
set_option maxRecDepth 100000
/-- what is open (0 the main row, 1 parentheses, 2 a root, 3 parentheses of a script, 4 a root of a script); the ended part of the row; the chain; the factor and whether it is parentheses alone; the script that is wanted (0: none) and whether it belongs to the factor -/
abbrev RL : Type := Nat × List Int32 × Option (List Int32) × Option (List Int32 × Bool) × Nat × Bool
def rOp (l : RL) : Nat := l.1
def rPre (l : RL) : List Int32 := l.2.1
def rCh (l : RL) : Option (List Int32) := l.2.2.1
def rFac (l : RL) : Option (List Int32 × Bool) := l.2.2.2.1
def rPd (l : RL) : Nat := l.2.2.2.2.1
def rOw (l : RL) : Bool := l.2.2.2.2.2
def unwL (f : List Int32) (b : Bool) : List Int32 := if b = true then (f.drop 1).take (f.length - 2) else f
def chS : Option (List Int32) → List Int32
  | none => []
  | some c => -1 :: (c ++ [-10])
def fcS : Option (List Int32 × Bool) → List Int32
  | none => []
  | some f => f.1
def pdS (k : Nat) : List Int32 := if k = 0 then [] else [-(nI k)]
def opS (op : Nat) : List Int32 := match op with
  | 1 => [-5]
  | 2 => [-4]
  | 4 => [-4]
  | _ => []
def rCon (l : RL) : List Int32 := rPre l ++ (chS (rCh l) ++ (fcS (rFac l) ++ pdS (rPd l)))
def rAll : List RL → List Int32
  | [] => []
  | l :: ls => rAll ls ++ (opS (rOp l) ++ rCon l)
/-- the row with its chain ended -/
def clP (l : RL) : List Int32 := match rCh l with
  | none => rPre l ++ fcS (rFac l)
  | some c => rPre l ++ (-1 :: (c ++ (-10 :: ((match rFac l with | none => [] | some f => unwL f.1 f.2) ++ [-11]))))
def isBaseF (c : Int32) : Bool := letF c || digF c || decide (c = nI 40) || decide (c = nI 114)
def rMay (n st : Nat) (c : Int32) : Bool := if 1 < st then isBaseF c else isBaseF c || decide (c = nI 32) || markF c || decide (c = nI 94) || decide (c = nI 95) || (decide (c = nI 41) && decide (1 < n)) || (decide (c = nI 47) && decide (st = 1))
/-- a base begins -/
def begF (l : RL) (st : Nat) : RL := if st < 2 then (rOp l, clP l, none, some ([], false), 0, rOw l) else if st = 2 then (rOp l, rPre l, rCh l, some ([], false), 0, rOw l) else l
/-- a base has ended -/
def endB (l : RL) (X : List Int32) (b : Bool) : RL :=
  if rPd l = 0 then (rOp l, rPre l, rCh l, some (X, b), 0, rOw l)
  else if rOw l = true then (rOp l, rPre l, rCh l, some (fcS (rFac l) ++ (pdS (rPd l) ++ (X ++ [-11])), false), 0, rOw l)
  else (rOp l, rPre l ++ (pdS (rPd l) ++ (X ++ [-11])), none, none, 0, rOw l)
def endSt (l : RL) : Nat := if rPd l = 0 ∨ rOw l = true then 1 else 0
def wrS (op : Nat) (I : List Int32) : List Int32 := match op with
  | 1 => -5 :: (I ++ [-11])
  | 2 => -4 :: (I ++ [-11])
  | 4 => -4 :: (I ++ [-11])
  | _ => I
def newL (op : Nat) : RL := (op, [], none, none, 0, false)
/-- a script's sign -/
def scrL (l : RL) (st k : Nat) : RL := if st = 1 then (rOp l, rPre l, rCh l, some (fcS (rFac l), false), k, true) else (rOp l, clP l, none, none, k, false)
/-- a line's sign -/
def linL (l : RL) : RL := (rOp l, rPre l, some ((match rCh l with | none => [] | some c => -1 :: (c ++ [-10])) ++ ((match rFac l with | none => [] | some f => unwL f.1 f.2) ++ (match rCh l with | none => [] | some _ => [-11]))), none, 0, rOw l)
def rStep (fs : List RL) (st : Nat) (c : Int32) : List RL × Nat := match fs with
  | [] => ([], 0)
  | l :: ls =>
    if isBaseF c = true then
      if c = nI 114 then (newL (if st = 3 then 4 else 2) :: begF l st :: ls, 0)
      else if c = nI 40 then (newL (if st = 3 then 3 else 1) :: begF l st :: ls, 0)
      else (endB (begF l st) [c] false :: ls, endSt (begF l st))
    else if c = nI 94 ∨ c = nI 95 then (scrL l st (if c = nI 94 then 2 else 3) :: ls, 3)
    else if c = nI 47 then (linL l :: ls, 2)
    else if c = nI 41 then match ls with
      | [] => ([], 0)
      | o :: ls' => (endB o (wrS (rOp l) (clP l)) (decide (rOp l = 1)) :: ls', endSt o)
    else ((rOp l, clP l ++ (if c = nI 32 then [] else [c]), none, none, 0, rOw l) :: ls, 0)
/-- where the error is, or none and what was read -/
def rRun : List Int32 → Nat → List RL → Nat → Option Nat × List Int32
  | [], k, fs, st => if 1 < st ∨ 1 < fs.length then (some k, []) else (none, match fs with | [] => [] | l :: _ => clP l)
  | c :: T, k, fs, st =>
    if rMay fs.length st c = true then
      if c = nI 114 then match T with
        | [] => (some (k + 1), [])
        | c2 :: T' => if c2 = nI 40 then rRun T' (k + 2) (rStep fs st c).1 (rStep fs st c).2 else (some (k + 1), [])
      else rRun T (k + 1) (rStep fs st c).1 (rStep fs st c).2
    else (some k, [])
def rdT (T : List Int32) : Option Nat × List Int32 := rRun T 0 [newL 0] 0
/-- what a level is, by the state: nothing begun; behind a factor; behind a line; behind a script's sign -/
def rOk (l : RL) (st : Nat) : Prop := match st with
  | 0 => rCh l = none ∧ rFac l = none ∧ rPd l = 0
  | 1 => rPd l = 0 ∧ ∃ f b, rFac l = some (f, b) ∧ (b = true → 2 ≤ f.length)
  | 2 => rPd l = 0 ∧ rFac l = none ∧ ∃ c, rCh l = some c
  | _ => (rPd l = 2 ∨ rPd l = 3) ∧ ((rOw l = true ∧ ∃ f, rFac l = some (f, false)) ∨ (rOw l = false ∧ rCh l = none ∧ rFac l = none))
/-- the levels about an open one -/
def rOut (op : Nat) : List RL → Prop
  | [] => op = 0
  | o :: ls => (((op = 1 ∨ op = 2) ∧ rPd o = 0 ∧ rFac o = some ([], false)) ∨ ((op = 3 ∨ op = 4) ∧ rOk o 3)) ∧ rOut (rOp o) ls
def rInv (fs : List RL) (st : Nat) : Prop := match fs with
  | [] => False
  | l :: ls => st ≤ 3 ∧ rOk l st ∧ rOut (rOp l) ls
theorem rAll_len (l : RL) (ls : List RL) : (rAll (l :: ls)).length = (rAll ls).length + ((opS (rOp l)).length + (rCon l).length) := by
  simp [rAll]
theorem rCon_len (l : RL) : (rCon l).length = (rPre l).length + ((chS (rCh l)).length + ((fcS (rFac l)).length + (pdS (rPd l)).length)) := by
  simp [rCon]
theorem unwL_len (f : List Int32) (b : Bool) : (unwL f b).length ≤ f.length := by
  unfold unwL; split
  · simp; omega
  · exact Nat.le_refl _
theorem pdS_len (k : Nat) : (pdS k).length ≤ 1 := by
  unfold pdS; split <;> simp
theorem opS_len (op : Nat) : (opS op).length ≤ 1 := by
  unfold opS; split <;> simp
theorem clP_len (l : RL) : (clP l).length ≤ (rPre l).length + ((chS (rCh l)).length + (fcS (rFac l)).length) + 1 := by
  unfold clP
  cases hc : rCh l with
  | none => simp [chS] <;> omega
  | some c =>
    cases hf : rFac l with
    | none => simp [chS, fcS] <;> omega
    | some f =>
      have := unwL_len f.1 f.2
      simp [chS, fcS]; omega
