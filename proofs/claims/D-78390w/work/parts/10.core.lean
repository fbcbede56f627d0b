/-! CORE: one world for all methods. xRep w m H: the heap H holds the cells that the map m names, and the law's start's old cells; CT: a method's contract; G: a frame on its way -/
set_option maxRecDepth 100000
abbrev XM : Type := Nat → Option va_E
/-- the launch, the law's start, the script's address; class numbers and field places; array classes; addresses of constants; old cells that are only read -/
abbrev XW : Type := Launch × State × Nat × va_G × (Nat → ClassId) × (Nat → Nat) × XM
def xl (w : XW) : Launch := w.1
def xs0 (w : XW) : State := w.2.1
def xb0 (w : XW) : Nat := w.2.2.1
def xD (w : XW) : va_G := w.2.2.2.1
def xTY (w : XW) : Nat → ClassId := w.2.2.2.2.1
def xad (w : XW) : Nat → Nat := w.2.2.2.2.2.1
def xro (w : XW) : XM := w.2.2.2.2.2.2
abbrev vwCl : List vw_C := [(RX1, TX1, 9), (RX2, TX2, 3), (RX3, TX3, 4), (RX4, TX4, 4), (RX5, TX5, 26), (RX6, TX6, 5), (RX7, TX7, 6), (RX9, TX9, 6), (RX10, TX10, 2), (RX11, TX11, 2), (RJ1, TJ1, 8), (RJ18, TJ18, 4), (RJ2, TJ2, 1), (RJ4, TJ4, 1), (RJ5, TJ5, 4), (RJ14, TJ14, 4), (RJ26, TJ26, 3), (RJ27, TJ27, 3)]
/-- array types: 0 int, 1 boolean, 2 char, 3 long, 4 byte, 5 Object, 6 Row, 7 Document, 8 Shape, 9 Brush, 10 char[], 11 HashMap.Node -/
def xTs : List FieldType := [.int, .boolean, .char, .long, .byte, .object "java/lang/Object", .object "FormulaEditor$Row", .object "FormulaEditor$Document", .object "FormulaEditor$Shape", .object "FormulaEditor$Brush", .array .char, .object "java/util/HashMap$Node"]
def xtysL (w : XW) : Nat → List FieldType → List (ClassId × FieldType)
  | _, [] => []
  | i, t :: l => (xTY w i, t) :: xtysL w (i + 1) l
def xtys (w : XW) : List (ClassId × FieldType) := xtysL w 0 xTs
theorem xtysL_at (w : XW) (l : List FieldType) (i k : Nat) (t : FieldType) (h : l[k]? = some t) : (xtysL w i l)[k]? = some (xTY w (i + k), t) := by
  induction l generalizing i k with
  | nil => simp at h
  | cons a l ih =>
    cases k with
    | zero => simp at h; subst h; simp [xtysL]
    | succ k =>
      simp only [List.getElem?_cons_succ] at h
      simp only [xtysL, List.getElem?_cons_succ]
      rw [ih (i + 1) k h, show i + 1 + k = i + (k + 1) by omega]
theorem xtys_at (w : XW) {k : Nat} {t : FieldType} (h : xTs[k]? = some t) : (xtys w)[k]? = some (xTY w k, t) := by
  have := xtysL_at w xTs 0 k t h
  rwa [Nat.zero_add] at this
/-- a cell as the map tells it: arrays by their type's number; objects by their class's number (from 100 on: the lambdas' classes) -/
def xAt (w : XW) (a : Nat) (e : va_E) (H : Heap) : Prop := match e with
  | .inl (t, x) => H[a]? = some (vp_cell (xTY w t) x)
  | .inr (ci, fs) => (ci < 100 → va_at (xD w) vwCl (a, .inr (ci, fs)) H) ∧ (100 ≤ ci → H[a]? = some { cls := (xD w).1 ci, slots := fs.toArray, vm := .none })
theorem xAt_kept {w : XW} {a : Nat} {e : va_E} {H H1 : Heap} (h : xAt w a e H) (hq : H1[a]? = H[a]?) : xAt w a e H1 := by
  obtain ⟨t, x⟩ | ⟨ci, fs⟩ := e
  · exact hq.trans h
  · exact ⟨fun h1 => (h.1 h1).kept hq, fun h1 => hq.trans (h.2 h1)⟩
theorem xAt_lt {w : XW} {a : Nat} {e : va_E} {H : Heap} (h : xAt w a e H) : a < H.size := by
  obtain ⟨t, x⟩ | ⟨ci, fs⟩ := e
  · exact (Array.getElem?_eq_some_iff.mp h).1
  · by_cases hc : ci < 100
    · exact (h.1 hc).lt
    · exact (Array.getElem?_eq_some_iff.mp (h.2 (by omega))).1
def xBase (w : XW) : Nat := (xs0 w).heap.size
def xFree (w : XW) : Addr → Prop := fun q => xBase w ≤ q
def xRep (w : XW) (m : XM) (H : Heap) : Prop := xBase w ≤ H.size ∧ (∀ q : Nat, q < xBase w → H[q]? = (xs0 w).heap[q]?) ∧ ∀ (a : Nat) (e : va_E), m a = some e → xBase w ≤ a ∧ xAt w a e H
/-- a map with one place changed -/
def xu (m : XM) (a : Nat) (e : va_E) : XM := fun q => if q = a then some e else m q
theorem xu_eq (m : XM) (a : Nat) (e : va_E) : xu m a e a = some e := if_pos rfl
theorem xu_ne {m : XM} {a b : Nat} {e : va_E} (h : b ≠ a) : xu m a e b = m b := if_neg h
theorem xRep_put {w : XW} {m : XM} {H H1 : Heap} {a : Nat} {e0 e : va_E} (hr : xRep w m H) (ha : m a = some e0) (hat : xAt w a e H1) (z : H1.size = H.size) (oq : ∀ q : Nat, q ≠ a → H1[q]? = H[q]?) : xRep w (xu m a e) H1 := by
  have hb := (hr.2.2 a e0 ha).1
  refine ⟨by rw [z]; exact hr.1, fun q hq => ?_, fun q e' hq => ?_⟩
  · rw [oq q (by omega)]; exact hr.2.1 q hq
  · by_cases h : q = a
    · subst h
      rw [xu_eq] at hq
      cases hq
      exact ⟨hb, hat⟩
    · rw [xu_ne h] at hq
      obtain ⟨h1, h2⟩ := hr.2.2 q e' hq
      exact ⟨h1, xAt_kept h2 (oq q h)⟩
theorem xRep_no {w : XW} {m : XM} {H : Heap} (hr : xRep w m H) : m H.size = none := by
  cases h : m H.size with
  | none => rfl
  | some e => exact absurd (xAt_lt (hr.2.2 _ _ h).2) (by omega)
theorem xRep_new {w : XW} {m : XM} {H H1 : Heap} {e : va_E} (hr : xRep w m H) (hat : xAt w H.size e H1) (z : H1.size = H.size + 1) (oq : ∀ q : Nat, q < H.size → H1[q]? = H[q]?) : xRep w (xu m H.size e) H1 := by
  refine ⟨by rw [z]; exact Nat.le_succ_of_le hr.1, fun q hq => ?_, fun q e' hq => ?_⟩
  · rw [oq q (Nat.lt_of_lt_of_le hq hr.1)]; exact hr.2.1 q hq
  · by_cases h : q = H.size
    · subst h
      rw [xu_eq] at hq
      cases hq
      exact ⟨hr.1, hat⟩
    · rw [xu_ne h] at hq
      obtain ⟨h1, h2⟩ := hr.2.2 q e' hq
      exact ⟨h1, xAt_kept h2 (oq q (xAt_lt h2))⟩
/-- constants of the start: statics, the caches, a text, classes that don't fit -/
def xZst (w : XW) (C n d0 : String) (v : Value) : Prop := va_Z C n d0 v (xFree w) (xs0 w) (xs0 w).heap
def xOps (j : Nat) : Int32 := match j with
  | 0 => 43
  | 1 => 45
  | 2 => 42
  | 3 => 61
  | 4 => 44
  | 5 => 46
  | _ => 0
/-- the sites of the lambdas -/
def xSw (k : Nat) : Cond := match k with
  | 0 => siteWord_1_1
  | 1 => siteWord_1_2
  | 2 => siteWord_1_3
  | 3 => siteWord_1_4
  | 4 => siteWord_1_5
  | 5 => siteWord_1_6
  | 6 => siteWord_1_7
  | 7 => siteWord_1_8
  | 8 => siteWord_1_9
  | 9 => siteWord_1_10
  | 10 => siteWord_1_11
  | 11 => siteWord_1_12
  | 12 => siteWord_1_13
  | 13 => siteWord_1_14
  | _ => siteWord_1_15
def XCo (w : XW) : Prop :=
  xZst w "java/lang/String" "COMPACT_STRINGS" "Z" (.int 1) ∧
  xZst w "java/util/ArrayList" "DEFAULTCAPACITY_EMPTY_ELEMENTDATA" "[Ljava/lang/Object;" (.ref (xad w 0)) ∧
  xZst w "java/lang/Integer$IntegerCache" "high" "I" (.int 127) ∧
  xZst w "java/lang/Integer$IntegerCache" "cache" "[Ljava/lang/Integer;" (.ref (xad w 1)) ∧
  xZst w "java/lang/Character$CharacterCache" "cache" "[Ljava/lang/Character;" (.ref (xad w 2)) ∧
  va_T (.object "java/lang/Integer") (xad w 1) 256 (fun k => .ref (xad w (2000 + k))) (xFree w) (xs0 w) (xs0 w).heap ∧
  va_T (.object "java/lang/Character") (xad w 2) 128 (fun k => .ref (xad w (1000 + k))) (xFree w) (xs0 w) (xs0 w).heap ∧
  (vx_Zq Bundle.tN "UNASSIGNED_STACK" Bundle.steD (xFree w) (xs0 w) (xs0 w).heap ∧ vx_Zq Bundle.tN "SUPPRESSED_SENTINEL" Bundle.listD (xFree w) (xs0 w) (xs0 w).heap ∧
    va_Zq "jdk/internal/util/Preconditions" "SIOOBE_FORMATTER" "Ljava/util/function/BiFunction;" (xFree w) (xs0 w) (xs0 w).heap) ∧
  vk_R "FormulaEditor" 29 "+-*=,." (xad w 3) (xs0 w) ∧
  va_Mi "[Ljava/lang/Object;" (xad w 5) (xs0 w) ∧
  (∀ q ∈ [("FormulaEditor$Symbol", "FormulaEditor$Structure"), ("FormulaEditor$Structure", "FormulaEditor$Symbol"), ("java/util/HashMap$Node", "java/util/HashMap$TreeNode"), ("java/lang/IllegalStateException", "java/lang/IllegalArgumentException"), ("java/lang/IllegalArgumentException", "java/lang/IndexOutOfBoundsException"), ("java/lang/IllegalStateException", "java/lang/IndexOutOfBoundsException")], va_Nc q.1 q.2 (xs0 w)) ∧
  (xro w (xad w 0) = some (.inl (5, 0, .inr (.inr (.inr (.inr (fun _ => none)))))) ∧ (∀ k, k < 128 → xro w (xad w (1000 + k)) = some (.inr (12, [.int (nI k)]))) ∧ (∀ k, k < 256 → xro w (xad w (2000 + k)) = some (.inr (13, [.int (nI k - 128)]))) ∧
    (∃ h z : Int32, xro w (xad w 3) = some (.inr (14, [.ref (xad w 4), .int 0, .int h, .int z]))) ∧ xro w (xad w 4) = some (.inl (4, 6, .inl xOps))) ∧
  (∀ c ∈ [Cond.methodLink "FormulaEditor" 250 ⟨"java/util/Deque", "clear", "()V"⟩, Cond.methodLink "FormulaEditor" 360 ⟨"java/util/Deque", "isEmpty", "()Z"⟩, Cond.interfaceMethod "java/util/Deque" "java/util/Collection" "clear" "()V", Cond.interfaceMethod "java/util/Deque" "java/util/Collection" "isEmpty" "()Z"], c.before #[] (xs0 w) = true) ∧
  ∀ k, k < 15 → ∀ (x : MethodName) (pc i : Nat) (σ : Lambda.Shape), xSw k = Cond.lambdaSite x pc i σ → (xs0 w).lambdaAt? x pc i σ = some ((xD w).1 (100 + k), if σ.captured.isEmpty = true then some (xad w (100 + k)) else none) ∧ (σ.captured.isEmpty = true → xro w (xad w (100 + k)) = some (.inr (100 + k, [])))
/-- what is given at the law's start -/
def XOk (w : XW) : Prop :=
  (∀ c ∈ lw_tbl, c.before #[Value.ref (xb0 w)] (xs0 w) = true) ∧ va_K (xD w) vwCl (xtys w) (xs0 w) ∧ (xl w).stackTraces = false ∧
  (Jvm.Cond.and given_1 narrow_1).before #[Value.ref (xb0 w)] (xs0 w) = true ∧ (∀ (a : Nat) (e : va_E), xro w a = some e → a < xBase w ∧ xAt w a e (xs0 w).heap) ∧ XCo w
/-- name, code, locals, answer, handlers -/
abbrev XY : Type := MethodName × ByteArray × Nat × Option FieldType × List (Nat × Nat × Nat × Nat)
def xRm (d kc ks : Nat) : Room := { frames := d, cells := kc, slots := ks, locals := 96 * d }
def xPc (w : XW) (as : List Value) (m : XM) : Array Value → State → Prop := fun v U => v = as.toArray ∧ (xs0 w).WarmedH U.vm ∧ xRep w m U.heap
def xQc (w : XW) (P : Option Value → XM → Prop) : Array Value → State → Outcome → State → Prop := fun _ _ oc t => ∃ (r : Option Value) (m' : XM), oc = .returned r ∧ P r m' ∧ xRep w m' t.heap
def xXC (w : XW) (X : String → XM → Prop) : String → State → State → Prop := fun E _ t => ∃ m' : XM, X E m' ∧ xRep w m' t.heap
def xN : String → XM → Prop := fun _ _ => False
def CT (w : XW) (y : XY) (d kc ks : Nat) (as : List Value) (m : XM) (P : Option Value → XM → Prop) (X : String → XM → Prop) : Prop :=
  XOk w → vx_Met (xl w) y.1 (ws_ y.1 y.2.1 y.2.2.1 y.2.2.2.1) (xRm d kc ks) (xPc w as m) (xQc w P) (xXC w X) kc ks (xFree w)
def CTW (w : XW) (y : XY) (d kc ks : Nat) (as : List Value) (m : XM) (P : Option Value → XM → Prop) (X : String → XM → Prop) : Prop :=
  XOk w → vx_Met (xl w) y.1 (wsW_ y.1 y.2.1 y.2.2.1 y.2.2.2.1 y.2.2.2.2) (xRm d kc ks) (xPc w as m) (xQc w P) (xXC w X) kc ks (xFree w)
abbrev XZ : Type := Room → List Frame → Array Value → State → State → Prop
def xZ (w : XW) (P : Option Value → XM → Prop) (X : String → XM → Prop) : XZ := fun R below args s => vx_MQ below (xQc w P) (xXC w X) args s R.cells R.slots (xFree w)
/-- the locals: a list of values by place; none: nothing known -/
def xal : Nat → List (Option Value) → List (Nat × Value)
  | _, [] => []
  | i, none :: l => xal (i + 1) l
  | i, some v :: l => (i, v) :: xal (i + 1) l
def xnth : List (Option Value) → Nat → Option Value
  | [], _ => none
  | o :: _, 0 => o
  | _ :: l, n + 1 => xnth l n
def xset : List (Option Value) → Nat → Value → List (Option Value)
  | [], _, _ => []
  | _ :: l, 0, v => some v :: l
  | o :: l, n + 1, v => o :: xset l n v
def xset2 : List (Option Value) → Nat → Value → List (Option Value)
  | [], _, _ => []
  | [_], _, _ => []
  | _ :: _ :: l, 0, v => some v :: none :: l
  | o :: o2 :: l, n + 1, v => o :: xset2 (o2 :: l) n v
theorem xal_mem (l : List (Option Value)) (i : Nat) (q : Nat × Value) : q ∈ xal i l ↔ ∃ k, q.1 = i + k ∧ xnth l k = some q.2 := by
  induction l generalizing i with
  | nil => simp [xal, xnth]
  | cons o l ih =>
    cases o with
    | none =>
      rw [xal, ih]
      constructor
      · rintro ⟨k, h1, h2⟩; exact ⟨k + 1, by omega, h2⟩
      · rintro ⟨k, h1, h2⟩
        cases k with
        | zero => simp [xnth] at h2
        | succ k => exact ⟨k, by omega, h2⟩
    | some v =>
      rw [xal, List.mem_cons, ih]
      constructor
      · rintro (rfl | ⟨k, h1, h2⟩)
        · exact ⟨0, rfl, rfl⟩
        · exact ⟨k + 1, by omega, h2⟩
      · rintro ⟨k, h1, h2⟩
        cases k with
        | zero => left; obtain ⟨a, b⟩ := q; simp [xnth] at h1 h2; simp [h1, h2]
        | succ k => exact Or.inr ⟨k, by omega, h2⟩
theorem xset_nth (l : List (Option Value)) (i j : Nat) (v u : Value) (h : xnth (xset l i v) j = some u) : (j = i ∧ u = v) ∨ (j ≠ i ∧ xnth l j = some u) := by
  induction l generalizing i j with
  | nil => simp [xset, xnth] at h
  | cons o l ih =>
    cases i with
    | zero =>
      cases j with
      | zero => simp [xset, xnth] at h; exact Or.inl ⟨rfl, h.symm⟩
      | succ j => exact Or.inr ⟨by omega, h⟩
    | succ i =>
      cases j with
      | zero => exact Or.inr ⟨by omega, h⟩
      | succ j =>
        rcases ih i j h with ⟨a, b⟩ | ⟨a, b⟩
        · exact Or.inl ⟨by omega, b⟩
        · exact Or.inr ⟨by omega, b⟩
theorem xset2_nth (l : List (Option Value)) (i j : Nat) (v u : Value) (h : xnth (xset2 l i v) j = some u) : (j = i ∧ u = v) ∨ (j ≠ i ∧ j ≠ i + 1 ∧ xnth l j = some u) := by
  induction l generalizing i j with
  | nil => simp [xset2, xnth] at h
  | cons o l ih =>
    cases l with
    | nil => simp [xset2, xnth] at h
    | cons o2 l =>
      cases i with
      | zero =>
        cases j with
        | zero => simp [xset2, xnth] at h; exact Or.inl ⟨rfl, h.symm⟩
        | succ j =>
          cases j with
          | zero => simp [xset2, xnth] at h
          | succ j => exact Or.inr ⟨by omega, by omega, h⟩
      | succ i =>
        cases j with
        | zero => exact Or.inr ⟨by omega, by omega, h⟩
        | succ j =>
          rcases ih i j h with ⟨a, b⟩ | ⟨a, b, c⟩
          · exact Or.inl ⟨by omega, b⟩
          · exact Or.inr ⟨by omega, by omega, c⟩
def xlv (ls : Array Slot) (n : Nat) (lv : List (Option Value)) : Prop := lv_has ls n (xal 0 lv)
theorem xlv_at {ls : Array Slot} {n i : Nat} {lv : List (Option Value)} {v : Value} (h : xlv ls n lv) (hi : xnth lv i = some v) : ls[i]? = some (.val v) :=
  h.2.2 (i, v) ((xal_mem lv 0 (i, v)).mpr ⟨i, by simp, hi⟩)
theorem xlv_mono {ls : Array Slot} {n : Nat} {lv lv' : List (Option Value)} (h : xlv ls n lv) (hs : ∀ i v, xnth lv' i = some v → xnth lv i = some v) : xlv ls n lv' :=
  ⟨h.1, h.2.1, fun q hq => by
    obtain ⟨k, h1, h2⟩ := (xal_mem _ _ _).mp hq
    exact h.2.2 q ((xal_mem _ _ _).mpr ⟨k, h1, hs _ _ h2⟩)⟩
/-- the place before holds no value of two slots -/
def xc1 (o : Option Value) : Bool := match o with
  | some (.long _) => false
  | some (.double _) => false
  | _ => true
theorem xc1_rf (r : Option Nat) : xc1 (some (va_rf r)) = true := by cases r <;> rfl
def xcp (lv : List (Option Value)) (i : Nat) : Prop := match i with
  | 0 => True
  | j + 1 => xc1 (xnth lv j) = true
theorem xcp_no {lv : List (Option Value)} {i j : Nat} {u : Value} (h : xcp lv i) (hj : j + 1 = i) (hu : xnth lv j = some u) : ¬ u.category = 2 := by
  subst hj
  have h : xc1 (xnth lv j) = true := h
  rw [hu] at h
  cases u <;> simp [xc1, Value.category] at h ⊢
theorem xlv_set {ls' : Array Slot} {n i : Nat} {lv : List (Option Value)} {v : Value} (hp : xcp lv i) (h : lv_has ls' n ((i, v) :: (xal 0 lv).filter (fun q => !(q.1 == i) && !(q.1 + 1 == i && q.2.category == 2)))) : xlv ls' n (xset lv i v) := by
  refine ⟨h.1, h.2.1, fun q hq => h.2.2 q ?_⟩
  obtain ⟨k, h1, h2⟩ := (xal_mem _ _ _).mp hq
  rw [Nat.zero_add] at h1
  subst h1
  rcases xset_nth lv i q.1 v q.2 h2 with ⟨a, b⟩ | ⟨a, b⟩
  · obtain ⟨x, y⟩ := q; simp only at a b; subst a; subst b; exact List.mem_cons_self
  · refine List.mem_cons_of_mem _ (List.mem_filter.mpr ⟨(xal_mem _ _ _).mpr ⟨q.1, by simp, b⟩, ?_⟩)
    by_cases hq1 : q.1 + 1 = i
    · have := xcp_no hp hq1 b
      simp [a, this]
    · simp [a, hq1]
theorem xlv_set2 {ls' : Array Slot} {n i : Nat} {lv : List (Option Value)} {v : Value} (hp : xcp lv i) (h : lv_has ls' n ((i, v) :: (xal 0 lv).filter (fun q => !(q.1 == i) && (!(q.1 == i + 1) && !(q.1 + 1 == i && q.2.category == 2))))) : xlv ls' n (xset2 lv i v) := by
  refine ⟨h.1, h.2.1, fun q hq => h.2.2 q ?_⟩
  obtain ⟨k, h1, h2⟩ := (xal_mem _ _ _).mp hq
  rw [Nat.zero_add] at h1
  subst h1
  rcases xset2_nth lv i q.1 v q.2 h2 with ⟨a, b⟩ | ⟨a, a2, b⟩
  · obtain ⟨x, y⟩ := q; simp only at a b; subst a; subst b; exact List.mem_cons_self
  · refine List.mem_cons_of_mem _ (List.mem_filter.mpr ⟨(xal_mem _ _ _).mpr ⟨q.1, by simp, b⟩, ?_⟩)
    by_cases hq1 : q.1 + 1 = i
    · have := xcp_no hp hq1 b
      simp [a, a2, this]
    · simp [a, a2, hq1]
/-- all that a frame carries -/
def Cx (w : XW) (y : XY) (Z : XZ) (d kc ks : Nat) (m : XM) (p : Program) (R : Room) (s : State) (mi : MethodId) (args : Array Value) (below : List Frame) (meth : Method) (c : Code) (H : Heap) (locs : List Loc) (cells slots : Nat) (Q : State → Prop) : Prop :=
  p.tables.exec = Jvm.exec ∧ c.code = y.2.1 ∧ meth.sig.returnType = y.2.2.2.1 ∧ meth.locks = false ∧ c.maxLocals = y.2.2.1 ∧ s.methodNamed? y.1 = some mi ∧ (∀ x ∈ lw_all, x.before args s = true) ∧ (xs0 w).WarmedH s.vm ∧ meth.name = y.1.name ∧ c.exceptionTable.toList = tableOf y.2.2.2.2 ∧
  d ≤ R.frames ∧ 96 * d ≤ R.locals ∧ cells + kc ≤ R.cells ∧ slots + ks ≤ R.slots ∧ xRep w m H ∧ va_S (xFree w) s.heap H locs ∧ (∀ q : Nat, q < xBase w → s.heap[q]? = (xs0 w).heap[q]?) ∧ xBase w ≤ s.heap.size ∧ Q = Z R below args s
def G (w : XW) (y : XY) (Z : XZ) (d kc ks pc : Nat) (lv : List (Option Value)) (st : List Value) (m : XM) : Prop :=
  XOk w → ∀ ⦃p : Program⦄ ⦃e : Env⦄ ⦃R : Room⦄ ⦃s : State⦄ ⦃mi : MethodId⦄ ⦃args : Array Value⦄ ⦃below : List Frame⦄ ⦃meth : Method⦄ ⦃c : Code⦄ ⦃H : Heap⦄ ⦃locs : List Loc⦄ ⦃cells slots : Nat⦄ ⦃Q : State → Prop⦄ ⦃ls : Array Slot⦄,
    Cx w y Z d kc ks m p R s mi args below meth c H locs cells slots Q → xlv ls y.2.2.1 lv → W p (xl w) e R s mi args below meth c H locs cells slots Q (F0 mi pc ls st)
section CX
variable {w : XW} {y : XY} {Z : XZ} {d kc ks : Nat} {m : XM} {p : Program} {R : Room} {s : State} {mi : MethodId} {args : Array Value} {below : List Frame} {meth : Method} {c : Code} {H : Heap} {locs : List Loc} {cells slots : Nat} {Q : State → Prop}
theorem cx_x (h : Cx w y Z d kc ks m p R s mi args below meth c H locs cells slots Q) : p.tables.exec = Jvm.exec := h.1
theorem cx_b (h : Cx w y Z d kc ks m p R s mi args below meth c H locs cells slots Q) : c.code = y.2.1 := h.2.1
theorem cx_ret (h : Cx w y Z d kc ks m p R s mi args below meth c H locs cells slots Q) : meth.sig.returnType = y.2.2.2.1 := h.2.2.1
theorem cx_lk (h : Cx w y Z d kc ks m p R s mi args below meth c H locs cells slots Q) : meth.locks = false := h.2.2.2.1
theorem cx_ml (h : Cx w y Z d kc ks m p R s mi args below meth c H locs cells slots Q) : c.maxLocals = y.2.2.1 := h.2.2.2.2.1
theorem cx_mn (h : Cx w y Z d kc ks m p R s mi args below meth c H locs cells slots Q) : s.methodNamed? y.1 = some mi := h.2.2.2.2.2.1
theorem cx_own (h : Cx w y Z d kc ks m p R s mi args below meth c H locs cells slots Q) : s.vm.findClass y.1.cls = some mi.cls := findClass_of_methodNamed (cx_mn h)
theorem cx_ts (h : Cx w y Z d kc ks m p R s mi args below meth c H locs cells slots Q) : ∀ x ∈ lw_all, x.before args s = true := h.2.2.2.2.2.2.1
theorem cx_w (h : Cx w y Z d kc ks m p R s mi args below meth c H locs cells slots Q) : (xs0 w).WarmedH s.vm := h.2.2.2.2.2.2.2.1
theorem cx_nm (h : Cx w y Z d kc ks m p R s mi args below meth c H locs cells slots Q) : meth.name = y.1.name := h.2.2.2.2.2.2.2.2.1
theorem cx_ex (h : Cx w y Z d kc ks m p R s mi args below meth c H locs cells slots Q) : c.exceptionTable.toList = tableOf y.2.2.2.2 := h.2.2.2.2.2.2.2.2.2.1
theorem cx_fr (h : Cx w y Z d kc ks m p R s mi args below meth c H locs cells slots Q) : d ≤ R.frames := h.2.2.2.2.2.2.2.2.2.2.1
theorem cx_lo (h : Cx w y Z d kc ks m p R s mi args below meth c H locs cells slots Q) : 96 * d ≤ R.locals := h.2.2.2.2.2.2.2.2.2.2.2.1
theorem cx_kc (h : Cx w y Z d kc ks m p R s mi args below meth c H locs cells slots Q) : cells + kc ≤ R.cells := h.2.2.2.2.2.2.2.2.2.2.2.2.1
theorem cx_ks (h : Cx w y Z d kc ks m p R s mi args below meth c H locs cells slots Q) : slots + ks ≤ R.slots := h.2.2.2.2.2.2.2.2.2.2.2.2.2.1
theorem cx_rep (h : Cx w y Z d kc ks m p R s mi args below meth c H locs cells slots Q) : xRep w m H := h.2.2.2.2.2.2.2.2.2.2.2.2.2.2.1
theorem cx_S (h : Cx w y Z d kc ks m p R s mi args below meth c H locs cells slots Q) : va_S (xFree w) s.heap H locs := h.2.2.2.2.2.2.2.2.2.2.2.2.2.2.2.1
theorem cx_old (h : Cx w y Z d kc ks m p R s mi args below meth c H locs cells slots Q) : ∀ q : Nat, q < xBase w → s.heap[q]? = (xs0 w).heap[q]? := h.2.2.2.2.2.2.2.2.2.2.2.2.2.2.2.2.1
theorem cx_sz (h : Cx w y Z d kc ks m p R s mi args below meth c H locs cells slots Q) : xBase w ≤ s.heap.size := h.2.2.2.2.2.2.2.2.2.2.2.2.2.2.2.2.2.1
theorem cx_q (h : Cx w y Z d kc ks m p R s mi args below meth c H locs cells slots Q) : Q = Z R below args s := h.2.2.2.2.2.2.2.2.2.2.2.2.2.2.2.2.2.2
theorem cx_to {kc' ks' cells' slots' : Nat} {m' : XM} {H' : Heap} {locs' : List Loc} (h : Cx w y Z d kc ks m p R s mi args below meth c H locs cells slots Q) (h1 : cells' + kc' ≤ R.cells) (h2 : slots' + ks' ≤ R.slots) (h3 : xRep w m' H') (h4 : va_S (xFree w) s.heap H' locs') : Cx w y Z d kc' ks' m' p R s mi args below meth c H' locs' cells' slots' Q :=
  ⟨h.1, h.2.1, h.2.2.1, h.2.2.2.1, h.2.2.2.2.1, h.2.2.2.2.2.1, h.2.2.2.2.2.2.1, h.2.2.2.2.2.2.2.1, h.2.2.2.2.2.2.2.2.1, h.2.2.2.2.2.2.2.2.2.1, h.2.2.2.2.2.2.2.2.2.2.1, h.2.2.2.2.2.2.2.2.2.2.2.1, h1, h2, h3, h4, h.2.2.2.2.2.2.2.2.2.2.2.2.2.2.2.2.1, h.2.2.2.2.2.2.2.2.2.2.2.2.2.2.2.2.2.1, h.2.2.2.2.2.2.2.2.2.2.2.2.2.2.2.2.2.2⟩
theorem cx_K (ok : XOk w) (h : Cx w y Z d kc ks m p R s mi args below meth c H locs cells slots Q) : va_K (xD w) vwCl (xtys w) s := va_K.moved (cx_w h).alike ok.2.1
end CX
section RULES
variable {w : XW} {y : XY} {Z : XZ} {d kc ks pc q : Nat} {lv : List (Option Value)} {st : List Value} {m : XM}
theorem g_iconst {n : Int} {v : Int32} (hd : decode y.2.1 pc = .ok (.iconst n, 1)) (hq : pc + 1 = q) (hv : Int32.ofInt n = v) (k : G w y Z d kc ks q lv (.int v :: st) m) : G w y Z d kc ks pc lv st m := by
  subst hq
  intro ok p e R s mi args below meth c H locs cells slots Q ls cx hl
  exact lv_iconst (cx_x cx) (cx_b cx) hd hv (k ok cx hl)
theorem g_bipush {n : Int} {v : Int32} (hd : decode y.2.1 pc = .ok (.bipush n, 2)) (hq : pc + 2 = q) (hv : (Int8.ofInt n).toInt32 = v) (k : G w y Z d kc ks q lv (.int v :: st) m) : G w y Z d kc ks pc lv st m := by
  subst hq
  intro ok p e R s mi args below meth c H locs cells slots Q ls cx hl
  exact lv_bipush (cx_x cx) (cx_b cx) hd hv (k ok cx hl)
theorem g_sipush {n : Int} {v : Int32} (hd : decode y.2.1 pc = .ok (.sipush n, 3)) (hq : pc + 3 = q) (hv : (Int16.ofInt n).toInt32 = v) (k : G w y Z d kc ks q lv (.int v :: st) m) : G w y Z d kc ks pc lv st m := by
  subst hq
  intro ok p e R s mi args below meth c H locs cells slots Q ls cx hl
  exact lv_sipush (cx_x cx) (cx_b cx) hd hv (k ok cx hl)
theorem g_lconst {n : Fin 2} {v : Int64} (hd : decode y.2.1 pc = .ok (.lconst n, 1)) (hq : pc + 1 = q) (hv : Int64.ofNat (n : Nat) = v) (k : G w y Z d kc ks q lv (.long v :: st) m) : G w y Z d kc ks pc lv st m := by
  subst hq
  intro ok p e R s mi args below meth c H locs cells slots Q ls cx hl
  exact lv_lconst (cx_x cx) (cx_b cx) hd hv (k ok cx hl)
theorem g_null  (hd : decode y.2.1 pc = .ok (.aconst_null, 1)) (hq : pc + 1 = q) (k : G w y Z d kc ks q lv (.null :: st) m) : G w y Z d kc ks pc lv st m := by
  subst hq
  intro ok p e R s mi args below meth c H locs cells slots Q ls cx hl
  exact lv_null (cx_x cx) (cx_b cx) hd (k ok cx hl)
theorem g_ldc {i : Nat} {v : Int32} (hd : decode y.2.1 pc = .ok (.ldc i, 2)) (hq : pc + 2 = q) (hc : Jvm.Cond.constant y.1.cls i v ∈ lw_all) (k : G w y Z d kc ks q lv (.int v :: st) m) : G w y Z d kc ks pc lv st m := by
  subst hq
  intro ok p e R s mi args below meth c H locs cells slots Q ls cx hl
  exact lv_ldc (cx_x cx) (cx_b cx) (cx_own cx) (cx_ts cx _ hc) hd (k ok cx hl)
theorem g_ldcw {i : Nat} {v : Int32} (hd : decode y.2.1 pc = .ok (.ldc_w i, 3)) (hq : pc + 3 = q) (hc : Jvm.Cond.constant y.1.cls i v ∈ lw_all) (k : G w y Z d kc ks q lv (.int v :: st) m) : G w y Z d kc ks pc lv st m := by
  subst hq
  intro ok p e R s mi args below meth c H locs cells slots Q ls cx hl
  exact lv_ldcw (cx_x cx) (cx_b cx) (cx_own cx) (cx_ts cx _ hc) hd (k ok cx hl)
theorem g_ldc2 {i : Nat} {v : Int64} (hd : decode y.2.1 pc = .ok (.ldc2_w i, 3)) (hq : pc + 3 = q) (hc : Jvm.Cond.constantLong y.1.cls i v ∈ lw_all) (k : G w y Z d kc ks q lv (.long v :: st) m) : G w y Z d kc ks pc lv st m := by
  subst hq
  intro ok p e R s mi args below meth c H locs cells slots Q ls cx hl
  exact lv_ldc2 (cx_x cx) (cx_b cx) (cx_own cx) (cx_ts cx _ hc) hd (k ok cx hl)
theorem g_iload_n {k0 : Fin 4} {i : Nat} {x : Int32} (hd : decode y.2.1 pc = .ok (.iload_n k0, 1)) (hq : pc + 1 = q) (hi : (k0 : Nat) = i) (hv : xnth lv i = some (.int x)) (k : G w y Z d kc ks q lv (.int x :: st) m) : G w y Z d kc ks pc lv st m := by
  subst hq
  intro ok p e R s mi args below meth c H locs cells slots Q ls cx hl
  exact lv_iload_n (cx_x cx) (cx_b cx) hd hi (xlv_at hl hv) (k ok cx hl)
theorem g_iload {i : Nat} {x : Int32} (hd : decode y.2.1 pc = .ok (.iload i, 2)) (hq : pc + 2 = q) (hv : xnth lv i = some (.int x)) (k : G w y Z d kc ks q lv (.int x :: st) m) : G w y Z d kc ks pc lv st m := by
  subst hq
  intro ok p e R s mi args below meth c H locs cells slots Q ls cx hl
  exact lv_iload (cx_x cx) (cx_b cx) hd (xlv_at hl hv) (k ok cx hl)
theorem g_lload_n {k0 : Fin 4} {i : Nat} {x : Int64} (hd : decode y.2.1 pc = .ok (.lload_n k0, 1)) (hq : pc + 1 = q) (hi : (k0 : Nat) = i) (hv : xnth lv i = some (.long x)) (k : G w y Z d kc ks q lv (.long x :: st) m) : G w y Z d kc ks pc lv st m := by
  subst hq
  intro ok p e R s mi args below meth c H locs cells slots Q ls cx hl
  exact lv_lload_n (cx_x cx) (cx_b cx) hd hi (xlv_at hl hv) (k ok cx hl)
theorem g_lload {i : Nat} {x : Int64} (hd : decode y.2.1 pc = .ok (.lload i, 2)) (hq : pc + 2 = q) (hv : xnth lv i = some (.long x)) (k : G w y Z d kc ks q lv (.long x :: st) m) : G w y Z d kc ks pc lv st m := by
  subst hq
  intro ok p e R s mi args below meth c H locs cells slots Q ls cx hl
  exact lv_lload (cx_x cx) (cx_b cx) hd (xlv_at hl hv) (k ok cx hl)
theorem g_aload_n {k0 : Fin 4} {i : Nat} {x : Nat} (hd : decode y.2.1 pc = .ok (.aload_n k0, 1)) (hq : pc + 1 = q) (hi : (k0 : Nat) = i) (hv : xnth lv i = some (.ref x)) (k : G w y Z d kc ks q lv (.ref x :: st) m) : G w y Z d kc ks pc lv st m := by
  subst hq
  intro ok p e R s mi args below meth c H locs cells slots Q ls cx hl
  exact lv_aload_n (cx_x cx) (cx_b cx) hd hi (xlv_at hl hv) (k ok cx hl)
theorem g_aload {i : Nat} {x : Nat} (hd : decode y.2.1 pc = .ok (.aload i, 2)) (hq : pc + 2 = q) (hv : xnth lv i = some (.ref x)) (k : G w y Z d kc ks q lv (.ref x :: st) m) : G w y Z d kc ks pc lv st m := by
  subst hq
  intro ok p e R s mi args below meth c H locs cells slots Q ls cx hl
  exact lv_aload (cx_x cx) (cx_b cx) hd (xlv_at hl hv) (k ok cx hl)
theorem g_aload_nN {k0 : Fin 4} {i : Nat} (hd : decode y.2.1 pc = .ok (.aload_n k0, 1)) (hq : pc + 1 = q) (hi : (k0 : Nat) = i) (hv : xnth lv i = some .null) (k : G w y Z d kc ks q lv (.null :: st) m) : G w y Z d kc ks pc lv st m := by
  subst hq
  intro ok p e R s mi args below meth c H locs cells slots Q ls cx hl
  exact lv_aload_nN (cx_x cx) (cx_b cx) hd hi (xlv_at hl hv) (k ok cx hl)
theorem g_aloadN {i : Nat} (hd : decode y.2.1 pc = .ok (.aload i, 2)) (hq : pc + 2 = q) (hv : xnth lv i = some .null) (k : G w y Z d kc ks q lv (.null :: st) m) : G w y Z d kc ks pc lv st m := by
  subst hq
  intro ok p e R s mi args below meth c H locs cells slots Q ls cx hl
  exact lv_aloadN (cx_x cx) (cx_b cx) hd (xlv_at hl hv) (k ok cx hl)
theorem g_aload_nR {k0 : Fin 4} {i : Nat} {x : Option Nat} (hd : decode y.2.1 pc = .ok (.aload_n k0, 1)) (hq : pc + 1 = q) (hi : (k0 : Nat) = i) (hv : xnth lv i = some (va_rf x)) (k : G w y Z d kc ks q lv (va_rf x :: st) m) : G w y Z d kc ks pc lv st m := by
  cases x with
  | none => exact g_aload_nN hd hq hi hv k
  | some x => exact g_aload_n hd hq hi hv k
theorem g_aloadR {i : Nat} {x : Option Nat} (hd : decode y.2.1 pc = .ok (.aload i, 2)) (hq : pc + 2 = q) (hv : xnth lv i = some (va_rf x)) (k : G w y Z d kc ks q lv (va_rf x :: st) m) : G w y Z d kc ks pc lv st m := by
  cases x with
  | none => exact g_aloadN hd hq hv k
  | some x => exact g_aload hd hq hv k
theorem g_istore_n {k0 : Fin 4} {i : Nat} {x : Int32} {lvP : List (Option Value)} (hd : decode y.2.1 pc = .ok (.istore_n k0, 1)) (hq : pc + 1 = q) (hi : (k0 : Nat) = i) (hn : i < y.2.2.1) (hp : xcp lv i) (hs : xset lv i (.int x) = lvP) (k : G w y Z d kc ks q lvP st m) : G w y Z d kc ks pc lv (.int x :: st) m := by
  subst hq; subst hs
  intro ok p e R s mi args below meth c H locs cells slots Q ls cx hl
  exact lv_istore_n (cx_x cx) (cx_b cx) hd hi hl hn rfl (fun ls' hl' => k ok cx (xlv_set hp hl'))
theorem g_istore {i : Nat} {x : Int32} {lvP : List (Option Value)} (hd : decode y.2.1 pc = .ok (.istore i, 2)) (hq : pc + 2 = q) (hn : i < y.2.2.1) (hp : xcp lv i) (hs : xset lv i (.int x) = lvP) (k : G w y Z d kc ks q lvP st m) : G w y Z d kc ks pc lv (.int x :: st) m := by
  subst hq; subst hs
  intro ok p e R s mi args below meth c H locs cells slots Q ls cx hl
  exact lv_istore (cx_x cx) (cx_b cx) hd hl hn rfl (fun ls' hl' => k ok cx (xlv_set hp hl'))
theorem g_astore_n {k0 : Fin 4} {i : Nat} {x : Nat} {lvP : List (Option Value)} (hd : decode y.2.1 pc = .ok (.astore_n k0, 1)) (hq : pc + 1 = q) (hi : (k0 : Nat) = i) (hn : i < y.2.2.1) (hp : xcp lv i) (hs : xset lv i (.ref x) = lvP) (k : G w y Z d kc ks q lvP st m) : G w y Z d kc ks pc lv (.ref x :: st) m := by
  subst hq; subst hs
  intro ok p e R s mi args below meth c H locs cells slots Q ls cx hl
  exact lv_astore_n (cx_x cx) (cx_b cx) hd hi hl hn rfl (fun ls' hl' => k ok cx (xlv_set hp hl'))
theorem g_astore {i : Nat} {x : Nat} {lvP : List (Option Value)} (hd : decode y.2.1 pc = .ok (.astore i, 2)) (hq : pc + 2 = q) (hn : i < y.2.2.1) (hp : xcp lv i) (hs : xset lv i (.ref x) = lvP) (k : G w y Z d kc ks q lvP st m) : G w y Z d kc ks pc lv (.ref x :: st) m := by
  subst hq; subst hs
  intro ok p e R s mi args below meth c H locs cells slots Q ls cx hl
  exact lv_astore (cx_x cx) (cx_b cx) hd hl hn rfl (fun ls' hl' => k ok cx (xlv_set hp hl'))
theorem g_astore_nN {k0 : Fin 4} {i : Nat} {lvP : List (Option Value)} (hd : decode y.2.1 pc = .ok (.astore_n k0, 1)) (hq : pc + 1 = q) (hi : (k0 : Nat) = i) (hn : i < y.2.2.1) (hp : xcp lv i) (hs : xset lv i (.null) = lvP) (k : G w y Z d kc ks q lvP st m) : G w y Z d kc ks pc lv (.null :: st) m := by
  subst hq; subst hs
  intro ok p e R s mi args below meth c H locs cells slots Q ls cx hl
  exact lv_astore_nN (cx_x cx) (cx_b cx) hd hi hl hn rfl (fun ls' hl' => k ok cx (xlv_set hp hl'))
theorem g_astoreN {i : Nat} {lvP : List (Option Value)} (hd : decode y.2.1 pc = .ok (.astore i, 2)) (hq : pc + 2 = q) (hn : i < y.2.2.1) (hp : xcp lv i) (hs : xset lv i (.null) = lvP) (k : G w y Z d kc ks q lvP st m) : G w y Z d kc ks pc lv (.null :: st) m := by
  subst hq; subst hs
  intro ok p e R s mi args below meth c H locs cells slots Q ls cx hl
  exact lv_astoreN (cx_x cx) (cx_b cx) hd hl hn rfl (fun ls' hl' => k ok cx (xlv_set hp hl'))
theorem g_lstore_n {k0 : Fin 4} {i : Nat} {x : Int64} {lvP : List (Option Value)} (hd : decode y.2.1 pc = .ok (.lstore_n k0, 1)) (hq : pc + 1 = q) (hi : (k0 : Nat) = i) (hn : i + 1 < y.2.2.1) (hp : xcp lv i) (hs : xset2 lv i (.long x) = lvP) (k : G w y Z d kc ks q lvP st m) : G w y Z d kc ks pc lv (.long x :: st) m := by
  subst hq; subst hs
  intro ok p e R s mi args below meth c H locs cells slots Q ls cx hl
  exact lv_lstore_n (cx_x cx) (cx_b cx) hd hi hl hn rfl (fun ls' hl' => k ok cx (xlv_set2 hp hl'))
theorem g_lstore {i : Nat} {x : Int64} {lvP : List (Option Value)} (hd : decode y.2.1 pc = .ok (.lstore i, 2)) (hq : pc + 2 = q) (hn : i + 1 < y.2.2.1) (hp : xcp lv i) (hs : xset2 lv i (.long x) = lvP) (k : G w y Z d kc ks q lvP st m) : G w y Z d kc ks pc lv (.long x :: st) m := by
  subst hq; subst hs
  intro ok p e R s mi args below meth c H locs cells slots Q ls cx hl
  exact lv_lstore (cx_x cx) (cx_b cx) hd hl hn rfl (fun ls' hl' => k ok cx (xlv_set2 hp hl'))
theorem g_astore_nR {k0 : Fin 4} {i : Nat} {x : Option Nat} {lv' : List (Option Value)} (hd : decode y.2.1 pc = .ok (.astore_n k0, 1)) (hq : pc + 1 = q) (hi : (k0 : Nat) = i) (hn : i < y.2.2.1) (hp : xcp lv i) (hs : xset lv i (va_rf x) = lv') (k : G w y Z d kc ks q lv' st m) : G w y Z d kc ks pc lv (va_rf x :: st) m := by
  cases x with
  | none => exact g_astore_nN hd hq hi hn hp hs k
  | some x => exact g_astore_n hd hq hi hn hp hs k
theorem g_astoreR {i : Nat} {x : Option Nat} {lv' : List (Option Value)} (hd : decode y.2.1 pc = .ok (.astore i, 2)) (hq : pc + 2 = q) (hn : i < y.2.2.1) (hp : xcp lv i) (hs : xset lv i (va_rf x) = lv') (k : G w y Z d kc ks q lv' st m) : G w y Z d kc ks pc lv (va_rf x :: st) m := by
  cases x with
  | none => exact g_astoreN hd hq hn hp hs k
  | some x => exact g_astore hd hq hn hp hs k
theorem g_iinc {i : Nat} {n : Int} {x v : Int32} {lv' : List (Option Value)} (hd : decode y.2.1 pc = .ok (.iinc i n, 3)) (hq : pc + 3 = q) (hn : i < y.2.2.1) (hp : xcp lv i) (hx : xnth lv i = some (.int x)) (hv : x + Int32.ofInt n = v) (hs : xset lv i (.int v) = lv') (k : G w y Z d kc ks q lv' st m) : G w y Z d kc ks pc lv st m := by
  subst hq; subst hs
  intro ok p e R s mi args below meth c H locs cells slots Q ls cx hl
  obtain ⟨kk, hkk⟩ := List.getElem?_of_mem ((xal_mem lv 0 (i, .int x)).mpr ⟨i, by simp, hx⟩)
  exact lv_iinc (cx_x cx) (cx_b cx) hd hl hkk hv hn rfl (fun ls' hl' => k ok cx (xlv_set hp hl'))
theorem g_ist0 {o0 : Option Value} {l : List (Option Value)} {x : Int32} (hd : decode y.2.1 pc = .ok (.istore_n 0, 1)) (hq : pc + 1 = q) (hn : 0 < y.2.2.1) (k : G w y Z d kc ks q (some (.int x) :: l) st m) : G w y Z d kc ks pc (o0 :: l) (.int x :: st) m :=
  g_istore_n hd hq rfl hn (show xcp (o0 :: l) 0 from trivial) rfl k
theorem g_ast0 {o0 : Option Value} {l : List (Option Value)} {x : Nat} (hd : decode y.2.1 pc = .ok (.astore_n 0, 1)) (hq : pc + 1 = q) (hn : 0 < y.2.2.1) (k : G w y Z d kc ks q (some (.ref x) :: l) st m) : G w y Z d kc ks pc (o0 :: l) (.ref x :: st) m :=
  g_astore_n hd hq rfl hn (show xcp (o0 :: l) 0 from trivial) rfl k
theorem g_astN0 {o0 : Option Value} {l : List (Option Value)}  (hd : decode y.2.1 pc = .ok (.astore_n 0, 1)) (hq : pc + 1 = q) (hn : 0 < y.2.2.1) (k : G w y Z d kc ks q (some (.null) :: l) st m) : G w y Z d kc ks pc (o0 :: l) (.null :: st) m :=
  g_astore_nN hd hq rfl hn (show xcp (o0 :: l) 0 from trivial) rfl k
theorem g_astR0 {o0 : Option Value} {l : List (Option Value)} {x : Option Nat} (hd : decode y.2.1 pc = .ok (.astore_n 0, 1)) (hq : pc + 1 = q) (hn : 0 < y.2.2.1) (k : G w y Z d kc ks q (some (va_rf x) :: l) st m) : G w y Z d kc ks pc (o0 :: l) (va_rf x :: st) m :=
  g_astore_nR hd hq rfl hn (show xcp (o0 :: l) 0 from trivial) rfl k
theorem g_lst0 {o0 o1 : Option Value} {l : List (Option Value)} {x : Int64} (hd : decode y.2.1 pc = .ok (.lstore_n 0, 1)) (hq : pc + 1 = q) (hn : 0 + 1 < y.2.2.1) (k : G w y Z d kc ks q (some (.long x) :: none :: l) st m) : G w y Z d kc ks pc (o0 :: o1 :: l) (.long x :: st) m :=
  g_lstore_n hd hq rfl hn (show xcp (o0 :: o1 :: l) 0 from trivial) rfl k
theorem g_inc0 {l : List (Option Value)} {x : Int32} (hd : decode y.2.1 pc = .ok (.iinc 0 1, 3)) (hq : pc + 3 = q) (hn : 0 < y.2.2.1) (k : G w y Z d kc ks q (some (.int (x + 1)) :: l) st m) : G w y Z d kc ks pc (some (.int x) :: l) st m :=
  g_iinc hd hq hn (show xcp (some (.int x) :: l) 0 from trivial) rfl rfl rfl k
theorem g_incm0 {l : List (Option Value)} {x : Int32} (hd : decode y.2.1 pc = .ok (.iinc 0 (-1), 3)) (hq : pc + 3 = q) (hn : 0 < y.2.2.1) (k : G w y Z d kc ks q (some (.int (x + (-1))) :: l) st m) : G w y Z d kc ks pc (some (.int x) :: l) st m :=
  g_iinc hd hq hn (show xcp (some (.int x) :: l) 0 from trivial) rfl rfl rfl k
theorem g_incn0 {l : List (Option Value)} {x : Nat} (hd : decode y.2.1 pc = .ok (.iinc 0 1, 3)) (hq : pc + 3 = q) (hn : 0 < y.2.2.1) (k : G w y Z d kc ks q (some (.int (nI (x + 1))) :: l) st m) : G w y Z d kc ks pc (some (.int (nI x)) :: l) st m :=
  g_iinc hd hq hn (show xcp (some (.int (nI x)) :: l) 0 from trivial) rfl (nI_1 x) rfl k
theorem g_ist1 {o0 o1 : Option Value} {l : List (Option Value)} {x : Int32} (hd : decode y.2.1 pc = .ok (.istore_n 1, 1)) (hq : pc + 1 = q) (hn : 1 < y.2.2.1) (hp : xc1 o0 = true := by first | rfl | exact xc1_rf _ | assumption) (k : G w y Z d kc ks q (o0 :: some (.int x) :: l) st m) : G w y Z d kc ks pc (o0 :: o1 :: l) (.int x :: st) m :=
  g_istore_n hd hq rfl hn (show xcp (o0 :: o1 :: l) 1 from hp) rfl k
theorem g_ast1 {o0 o1 : Option Value} {l : List (Option Value)} {x : Nat} (hd : decode y.2.1 pc = .ok (.astore_n 1, 1)) (hq : pc + 1 = q) (hn : 1 < y.2.2.1) (hp : xc1 o0 = true := by first | rfl | exact xc1_rf _ | assumption) (k : G w y Z d kc ks q (o0 :: some (.ref x) :: l) st m) : G w y Z d kc ks pc (o0 :: o1 :: l) (.ref x :: st) m :=
  g_astore_n hd hq rfl hn (show xcp (o0 :: o1 :: l) 1 from hp) rfl k
theorem g_astN1 {o0 o1 : Option Value} {l : List (Option Value)}  (hd : decode y.2.1 pc = .ok (.astore_n 1, 1)) (hq : pc + 1 = q) (hn : 1 < y.2.2.1) (hp : xc1 o0 = true := by first | rfl | exact xc1_rf _ | assumption) (k : G w y Z d kc ks q (o0 :: some (.null) :: l) st m) : G w y Z d kc ks pc (o0 :: o1 :: l) (.null :: st) m :=
  g_astore_nN hd hq rfl hn (show xcp (o0 :: o1 :: l) 1 from hp) rfl k
theorem g_astR1 {o0 o1 : Option Value} {l : List (Option Value)} {x : Option Nat} (hd : decode y.2.1 pc = .ok (.astore_n 1, 1)) (hq : pc + 1 = q) (hn : 1 < y.2.2.1) (hp : xc1 o0 = true := by first | rfl | exact xc1_rf _ | assumption) (k : G w y Z d kc ks q (o0 :: some (va_rf x) :: l) st m) : G w y Z d kc ks pc (o0 :: o1 :: l) (va_rf x :: st) m :=
  g_astore_nR hd hq rfl hn (show xcp (o0 :: o1 :: l) 1 from hp) rfl k
theorem g_lst1 {o0 o1 o2 : Option Value} {l : List (Option Value)} {x : Int64} (hd : decode y.2.1 pc = .ok (.lstore_n 1, 1)) (hq : pc + 1 = q) (hn : 1 + 1 < y.2.2.1) (hp : xc1 o0 = true := by first | rfl | exact xc1_rf _ | assumption) (k : G w y Z d kc ks q (o0 :: some (.long x) :: none :: l) st m) : G w y Z d kc ks pc (o0 :: o1 :: o2 :: l) (.long x :: st) m :=
  g_lstore_n hd hq rfl hn (show xcp (o0 :: o1 :: o2 :: l) 1 from hp) rfl k
theorem g_inc1 {o0 : Option Value} {l : List (Option Value)} {x : Int32} (hd : decode y.2.1 pc = .ok (.iinc 1 1, 3)) (hq : pc + 3 = q) (hn : 1 < y.2.2.1) (hp : xc1 o0 = true := by first | rfl | exact xc1_rf _ | assumption) (k : G w y Z d kc ks q (o0 :: some (.int (x + 1)) :: l) st m) : G w y Z d kc ks pc (o0 :: some (.int x) :: l) st m :=
  g_iinc hd hq hn (show xcp (o0 :: some (.int x) :: l) 1 from hp) rfl rfl rfl k
theorem g_incm1 {o0 : Option Value} {l : List (Option Value)} {x : Int32} (hd : decode y.2.1 pc = .ok (.iinc 1 (-1), 3)) (hq : pc + 3 = q) (hn : 1 < y.2.2.1) (hp : xc1 o0 = true := by first | rfl | exact xc1_rf _ | assumption) (k : G w y Z d kc ks q (o0 :: some (.int (x + (-1))) :: l) st m) : G w y Z d kc ks pc (o0 :: some (.int x) :: l) st m :=
  g_iinc hd hq hn (show xcp (o0 :: some (.int x) :: l) 1 from hp) rfl rfl rfl k
theorem g_incn1 {o0 : Option Value} {l : List (Option Value)} {x : Nat} (hd : decode y.2.1 pc = .ok (.iinc 1 1, 3)) (hq : pc + 3 = q) (hn : 1 < y.2.2.1) (hp : xc1 o0 = true := by first | rfl | exact xc1_rf _ | assumption) (k : G w y Z d kc ks q (o0 :: some (.int (nI (x + 1))) :: l) st m) : G w y Z d kc ks pc (o0 :: some (.int (nI x)) :: l) st m :=
  g_iinc hd hq hn (show xcp (o0 :: some (.int (nI x)) :: l) 1 from hp) rfl (nI_1 x) rfl k
theorem g_ist2 {o0 o1 o2 : Option Value} {l : List (Option Value)} {x : Int32} (hd : decode y.2.1 pc = .ok (.istore_n 2, 1)) (hq : pc + 1 = q) (hn : 2 < y.2.2.1) (hp : xc1 o1 = true := by first | rfl | exact xc1_rf _ | assumption) (k : G w y Z d kc ks q (o0 :: o1 :: some (.int x) :: l) st m) : G w y Z d kc ks pc (o0 :: o1 :: o2 :: l) (.int x :: st) m :=
  g_istore_n hd hq rfl hn (show xcp (o0 :: o1 :: o2 :: l) 2 from hp) rfl k
theorem g_ast2 {o0 o1 o2 : Option Value} {l : List (Option Value)} {x : Nat} (hd : decode y.2.1 pc = .ok (.astore_n 2, 1)) (hq : pc + 1 = q) (hn : 2 < y.2.2.1) (hp : xc1 o1 = true := by first | rfl | exact xc1_rf _ | assumption) (k : G w y Z d kc ks q (o0 :: o1 :: some (.ref x) :: l) st m) : G w y Z d kc ks pc (o0 :: o1 :: o2 :: l) (.ref x :: st) m :=
  g_astore_n hd hq rfl hn (show xcp (o0 :: o1 :: o2 :: l) 2 from hp) rfl k
theorem g_astN2 {o0 o1 o2 : Option Value} {l : List (Option Value)}  (hd : decode y.2.1 pc = .ok (.astore_n 2, 1)) (hq : pc + 1 = q) (hn : 2 < y.2.2.1) (hp : xc1 o1 = true := by first | rfl | exact xc1_rf _ | assumption) (k : G w y Z d kc ks q (o0 :: o1 :: some (.null) :: l) st m) : G w y Z d kc ks pc (o0 :: o1 :: o2 :: l) (.null :: st) m :=
  g_astore_nN hd hq rfl hn (show xcp (o0 :: o1 :: o2 :: l) 2 from hp) rfl k
theorem g_astR2 {o0 o1 o2 : Option Value} {l : List (Option Value)} {x : Option Nat} (hd : decode y.2.1 pc = .ok (.astore_n 2, 1)) (hq : pc + 1 = q) (hn : 2 < y.2.2.1) (hp : xc1 o1 = true := by first | rfl | exact xc1_rf _ | assumption) (k : G w y Z d kc ks q (o0 :: o1 :: some (va_rf x) :: l) st m) : G w y Z d kc ks pc (o0 :: o1 :: o2 :: l) (va_rf x :: st) m :=
  g_astore_nR hd hq rfl hn (show xcp (o0 :: o1 :: o2 :: l) 2 from hp) rfl k
theorem g_lst2 {o0 o1 o2 o3 : Option Value} {l : List (Option Value)} {x : Int64} (hd : decode y.2.1 pc = .ok (.lstore_n 2, 1)) (hq : pc + 1 = q) (hn : 2 + 1 < y.2.2.1) (hp : xc1 o1 = true := by first | rfl | exact xc1_rf _ | assumption) (k : G w y Z d kc ks q (o0 :: o1 :: some (.long x) :: none :: l) st m) : G w y Z d kc ks pc (o0 :: o1 :: o2 :: o3 :: l) (.long x :: st) m :=
  g_lstore_n hd hq rfl hn (show xcp (o0 :: o1 :: o2 :: o3 :: l) 2 from hp) rfl k
theorem g_inc2 {o0 o1 : Option Value} {l : List (Option Value)} {x : Int32} (hd : decode y.2.1 pc = .ok (.iinc 2 1, 3)) (hq : pc + 3 = q) (hn : 2 < y.2.2.1) (hp : xc1 o1 = true := by first | rfl | exact xc1_rf _ | assumption) (k : G w y Z d kc ks q (o0 :: o1 :: some (.int (x + 1)) :: l) st m) : G w y Z d kc ks pc (o0 :: o1 :: some (.int x) :: l) st m :=
  g_iinc hd hq hn (show xcp (o0 :: o1 :: some (.int x) :: l) 2 from hp) rfl rfl rfl k
theorem g_incm2 {o0 o1 : Option Value} {l : List (Option Value)} {x : Int32} (hd : decode y.2.1 pc = .ok (.iinc 2 (-1), 3)) (hq : pc + 3 = q) (hn : 2 < y.2.2.1) (hp : xc1 o1 = true := by first | rfl | exact xc1_rf _ | assumption) (k : G w y Z d kc ks q (o0 :: o1 :: some (.int (x + (-1))) :: l) st m) : G w y Z d kc ks pc (o0 :: o1 :: some (.int x) :: l) st m :=
  g_iinc hd hq hn (show xcp (o0 :: o1 :: some (.int x) :: l) 2 from hp) rfl rfl rfl k
theorem g_incn2 {o0 o1 : Option Value} {l : List (Option Value)} {x : Nat} (hd : decode y.2.1 pc = .ok (.iinc 2 1, 3)) (hq : pc + 3 = q) (hn : 2 < y.2.2.1) (hp : xc1 o1 = true := by first | rfl | exact xc1_rf _ | assumption) (k : G w y Z d kc ks q (o0 :: o1 :: some (.int (nI (x + 1))) :: l) st m) : G w y Z d kc ks pc (o0 :: o1 :: some (.int (nI x)) :: l) st m :=
  g_iinc hd hq hn (show xcp (o0 :: o1 :: some (.int (nI x)) :: l) 2 from hp) rfl (nI_1 x) rfl k
theorem g_ist3 {o0 o1 o2 o3 : Option Value} {l : List (Option Value)} {x : Int32} (hd : decode y.2.1 pc = .ok (.istore_n 3, 1)) (hq : pc + 1 = q) (hn : 3 < y.2.2.1) (hp : xc1 o2 = true := by first | rfl | exact xc1_rf _ | assumption) (k : G w y Z d kc ks q (o0 :: o1 :: o2 :: some (.int x) :: l) st m) : G w y Z d kc ks pc (o0 :: o1 :: o2 :: o3 :: l) (.int x :: st) m :=
  g_istore_n hd hq rfl hn (show xcp (o0 :: o1 :: o2 :: o3 :: l) 3 from hp) rfl k
theorem g_ast3 {o0 o1 o2 o3 : Option Value} {l : List (Option Value)} {x : Nat} (hd : decode y.2.1 pc = .ok (.astore_n 3, 1)) (hq : pc + 1 = q) (hn : 3 < y.2.2.1) (hp : xc1 o2 = true := by first | rfl | exact xc1_rf _ | assumption) (k : G w y Z d kc ks q (o0 :: o1 :: o2 :: some (.ref x) :: l) st m) : G w y Z d kc ks pc (o0 :: o1 :: o2 :: o3 :: l) (.ref x :: st) m :=
  g_astore_n hd hq rfl hn (show xcp (o0 :: o1 :: o2 :: o3 :: l) 3 from hp) rfl k
theorem g_astN3 {o0 o1 o2 o3 : Option Value} {l : List (Option Value)}  (hd : decode y.2.1 pc = .ok (.astore_n 3, 1)) (hq : pc + 1 = q) (hn : 3 < y.2.2.1) (hp : xc1 o2 = true := by first | rfl | exact xc1_rf _ | assumption) (k : G w y Z d kc ks q (o0 :: o1 :: o2 :: some (.null) :: l) st m) : G w y Z d kc ks pc (o0 :: o1 :: o2 :: o3 :: l) (.null :: st) m :=
  g_astore_nN hd hq rfl hn (show xcp (o0 :: o1 :: o2 :: o3 :: l) 3 from hp) rfl k
theorem g_astR3 {o0 o1 o2 o3 : Option Value} {l : List (Option Value)} {x : Option Nat} (hd : decode y.2.1 pc = .ok (.astore_n 3, 1)) (hq : pc + 1 = q) (hn : 3 < y.2.2.1) (hp : xc1 o2 = true := by first | rfl | exact xc1_rf _ | assumption) (k : G w y Z d kc ks q (o0 :: o1 :: o2 :: some (va_rf x) :: l) st m) : G w y Z d kc ks pc (o0 :: o1 :: o2 :: o3 :: l) (va_rf x :: st) m :=
  g_astore_nR hd hq rfl hn (show xcp (o0 :: o1 :: o2 :: o3 :: l) 3 from hp) rfl k
theorem g_lst3 {o0 o1 o2 o3 o4 : Option Value} {l : List (Option Value)} {x : Int64} (hd : decode y.2.1 pc = .ok (.lstore_n 3, 1)) (hq : pc + 1 = q) (hn : 3 + 1 < y.2.2.1) (hp : xc1 o2 = true := by first | rfl | exact xc1_rf _ | assumption) (k : G w y Z d kc ks q (o0 :: o1 :: o2 :: some (.long x) :: none :: l) st m) : G w y Z d kc ks pc (o0 :: o1 :: o2 :: o3 :: o4 :: l) (.long x :: st) m :=
  g_lstore_n hd hq rfl hn (show xcp (o0 :: o1 :: o2 :: o3 :: o4 :: l) 3 from hp) rfl k
theorem g_inc3 {o0 o1 o2 : Option Value} {l : List (Option Value)} {x : Int32} (hd : decode y.2.1 pc = .ok (.iinc 3 1, 3)) (hq : pc + 3 = q) (hn : 3 < y.2.2.1) (hp : xc1 o2 = true := by first | rfl | exact xc1_rf _ | assumption) (k : G w y Z d kc ks q (o0 :: o1 :: o2 :: some (.int (x + 1)) :: l) st m) : G w y Z d kc ks pc (o0 :: o1 :: o2 :: some (.int x) :: l) st m :=
  g_iinc hd hq hn (show xcp (o0 :: o1 :: o2 :: some (.int x) :: l) 3 from hp) rfl rfl rfl k
theorem g_incm3 {o0 o1 o2 : Option Value} {l : List (Option Value)} {x : Int32} (hd : decode y.2.1 pc = .ok (.iinc 3 (-1), 3)) (hq : pc + 3 = q) (hn : 3 < y.2.2.1) (hp : xc1 o2 = true := by first | rfl | exact xc1_rf _ | assumption) (k : G w y Z d kc ks q (o0 :: o1 :: o2 :: some (.int (x + (-1))) :: l) st m) : G w y Z d kc ks pc (o0 :: o1 :: o2 :: some (.int x) :: l) st m :=
  g_iinc hd hq hn (show xcp (o0 :: o1 :: o2 :: some (.int x) :: l) 3 from hp) rfl rfl rfl k
theorem g_incn3 {o0 o1 o2 : Option Value} {l : List (Option Value)} {x : Nat} (hd : decode y.2.1 pc = .ok (.iinc 3 1, 3)) (hq : pc + 3 = q) (hn : 3 < y.2.2.1) (hp : xc1 o2 = true := by first | rfl | exact xc1_rf _ | assumption) (k : G w y Z d kc ks q (o0 :: o1 :: o2 :: some (.int (nI (x + 1))) :: l) st m) : G w y Z d kc ks pc (o0 :: o1 :: o2 :: some (.int (nI x)) :: l) st m :=
  g_iinc hd hq hn (show xcp (o0 :: o1 :: o2 :: some (.int (nI x)) :: l) 3 from hp) rfl (nI_1 x) rfl k
theorem g_ist4 {o0 o1 o2 o3 o4 : Option Value} {l : List (Option Value)} {x : Int32} (hd : decode y.2.1 pc = .ok (.istore 4, 2)) (hq : pc + 2 = q) (hn : 4 < y.2.2.1) (hp : xc1 o3 = true := by first | rfl | exact xc1_rf _ | assumption) (k : G w y Z d kc ks q (o0 :: o1 :: o2 :: o3 :: some (.int x) :: l) st m) : G w y Z d kc ks pc (o0 :: o1 :: o2 :: o3 :: o4 :: l) (.int x :: st) m :=
  g_istore hd hq hn (show xcp (o0 :: o1 :: o2 :: o3 :: o4 :: l) 4 from hp) rfl k
theorem g_ast4 {o0 o1 o2 o3 o4 : Option Value} {l : List (Option Value)} {x : Nat} (hd : decode y.2.1 pc = .ok (.astore 4, 2)) (hq : pc + 2 = q) (hn : 4 < y.2.2.1) (hp : xc1 o3 = true := by first | rfl | exact xc1_rf _ | assumption) (k : G w y Z d kc ks q (o0 :: o1 :: o2 :: o3 :: some (.ref x) :: l) st m) : G w y Z d kc ks pc (o0 :: o1 :: o2 :: o3 :: o4 :: l) (.ref x :: st) m :=
  g_astore hd hq hn (show xcp (o0 :: o1 :: o2 :: o3 :: o4 :: l) 4 from hp) rfl k
theorem g_astN4 {o0 o1 o2 o3 o4 : Option Value} {l : List (Option Value)}  (hd : decode y.2.1 pc = .ok (.astore 4, 2)) (hq : pc + 2 = q) (hn : 4 < y.2.2.1) (hp : xc1 o3 = true := by first | rfl | exact xc1_rf _ | assumption) (k : G w y Z d kc ks q (o0 :: o1 :: o2 :: o3 :: some (.null) :: l) st m) : G w y Z d kc ks pc (o0 :: o1 :: o2 :: o3 :: o4 :: l) (.null :: st) m :=
  g_astoreN hd hq hn (show xcp (o0 :: o1 :: o2 :: o3 :: o4 :: l) 4 from hp) rfl k
theorem g_astR4 {o0 o1 o2 o3 o4 : Option Value} {l : List (Option Value)} {x : Option Nat} (hd : decode y.2.1 pc = .ok (.astore 4, 2)) (hq : pc + 2 = q) (hn : 4 < y.2.2.1) (hp : xc1 o3 = true := by first | rfl | exact xc1_rf _ | assumption) (k : G w y Z d kc ks q (o0 :: o1 :: o2 :: o3 :: some (va_rf x) :: l) st m) : G w y Z d kc ks pc (o0 :: o1 :: o2 :: o3 :: o4 :: l) (va_rf x :: st) m :=
  g_astoreR hd hq hn (show xcp (o0 :: o1 :: o2 :: o3 :: o4 :: l) 4 from hp) rfl k
theorem g_lst4 {o0 o1 o2 o3 o4 o5 : Option Value} {l : List (Option Value)} {x : Int64} (hd : decode y.2.1 pc = .ok (.lstore 4, 2)) (hq : pc + 2 = q) (hn : 4 + 1 < y.2.2.1) (hp : xc1 o3 = true := by first | rfl | exact xc1_rf _ | assumption) (k : G w y Z d kc ks q (o0 :: o1 :: o2 :: o3 :: some (.long x) :: none :: l) st m) : G w y Z d kc ks pc (o0 :: o1 :: o2 :: o3 :: o4 :: o5 :: l) (.long x :: st) m :=
  g_lstore hd hq hn (show xcp (o0 :: o1 :: o2 :: o3 :: o4 :: o5 :: l) 4 from hp) rfl k
theorem g_inc4 {o0 o1 o2 o3 : Option Value} {l : List (Option Value)} {x : Int32} (hd : decode y.2.1 pc = .ok (.iinc 4 1, 3)) (hq : pc + 3 = q) (hn : 4 < y.2.2.1) (hp : xc1 o3 = true := by first | rfl | exact xc1_rf _ | assumption) (k : G w y Z d kc ks q (o0 :: o1 :: o2 :: o3 :: some (.int (x + 1)) :: l) st m) : G w y Z d kc ks pc (o0 :: o1 :: o2 :: o3 :: some (.int x) :: l) st m :=
  g_iinc hd hq hn (show xcp (o0 :: o1 :: o2 :: o3 :: some (.int x) :: l) 4 from hp) rfl rfl rfl k
theorem g_incm4 {o0 o1 o2 o3 : Option Value} {l : List (Option Value)} {x : Int32} (hd : decode y.2.1 pc = .ok (.iinc 4 (-1), 3)) (hq : pc + 3 = q) (hn : 4 < y.2.2.1) (hp : xc1 o3 = true := by first | rfl | exact xc1_rf _ | assumption) (k : G w y Z d kc ks q (o0 :: o1 :: o2 :: o3 :: some (.int (x + (-1))) :: l) st m) : G w y Z d kc ks pc (o0 :: o1 :: o2 :: o3 :: some (.int x) :: l) st m :=
  g_iinc hd hq hn (show xcp (o0 :: o1 :: o2 :: o3 :: some (.int x) :: l) 4 from hp) rfl rfl rfl k
theorem g_incn4 {o0 o1 o2 o3 : Option Value} {l : List (Option Value)} {x : Nat} (hd : decode y.2.1 pc = .ok (.iinc 4 1, 3)) (hq : pc + 3 = q) (hn : 4 < y.2.2.1) (hp : xc1 o3 = true := by first | rfl | exact xc1_rf _ | assumption) (k : G w y Z d kc ks q (o0 :: o1 :: o2 :: o3 :: some (.int (nI (x + 1))) :: l) st m) : G w y Z d kc ks pc (o0 :: o1 :: o2 :: o3 :: some (.int (nI x)) :: l) st m :=
  g_iinc hd hq hn (show xcp (o0 :: o1 :: o2 :: o3 :: some (.int (nI x)) :: l) 4 from hp) rfl (nI_1 x) rfl k
theorem g_ist5 {o0 o1 o2 o3 o4 o5 : Option Value} {l : List (Option Value)} {x : Int32} (hd : decode y.2.1 pc = .ok (.istore 5, 2)) (hq : pc + 2 = q) (hn : 5 < y.2.2.1) (hp : xc1 o4 = true := by first | rfl | exact xc1_rf _ | assumption) (k : G w y Z d kc ks q (o0 :: o1 :: o2 :: o3 :: o4 :: some (.int x) :: l) st m) : G w y Z d kc ks pc (o0 :: o1 :: o2 :: o3 :: o4 :: o5 :: l) (.int x :: st) m :=
  g_istore hd hq hn (show xcp (o0 :: o1 :: o2 :: o3 :: o4 :: o5 :: l) 5 from hp) rfl k
theorem g_ast5 {o0 o1 o2 o3 o4 o5 : Option Value} {l : List (Option Value)} {x : Nat} (hd : decode y.2.1 pc = .ok (.astore 5, 2)) (hq : pc + 2 = q) (hn : 5 < y.2.2.1) (hp : xc1 o4 = true := by first | rfl | exact xc1_rf _ | assumption) (k : G w y Z d kc ks q (o0 :: o1 :: o2 :: o3 :: o4 :: some (.ref x) :: l) st m) : G w y Z d kc ks pc (o0 :: o1 :: o2 :: o3 :: o4 :: o5 :: l) (.ref x :: st) m :=
  g_astore hd hq hn (show xcp (o0 :: o1 :: o2 :: o3 :: o4 :: o5 :: l) 5 from hp) rfl k
theorem g_astN5 {o0 o1 o2 o3 o4 o5 : Option Value} {l : List (Option Value)}  (hd : decode y.2.1 pc = .ok (.astore 5, 2)) (hq : pc + 2 = q) (hn : 5 < y.2.2.1) (hp : xc1 o4 = true := by first | rfl | exact xc1_rf _ | assumption) (k : G w y Z d kc ks q (o0 :: o1 :: o2 :: o3 :: o4 :: some (.null) :: l) st m) : G w y Z d kc ks pc (o0 :: o1 :: o2 :: o3 :: o4 :: o5 :: l) (.null :: st) m :=
  g_astoreN hd hq hn (show xcp (o0 :: o1 :: o2 :: o3 :: o4 :: o5 :: l) 5 from hp) rfl k
theorem g_astR5 {o0 o1 o2 o3 o4 o5 : Option Value} {l : List (Option Value)} {x : Option Nat} (hd : decode y.2.1 pc = .ok (.astore 5, 2)) (hq : pc + 2 = q) (hn : 5 < y.2.2.1) (hp : xc1 o4 = true := by first | rfl | exact xc1_rf _ | assumption) (k : G w y Z d kc ks q (o0 :: o1 :: o2 :: o3 :: o4 :: some (va_rf x) :: l) st m) : G w y Z d kc ks pc (o0 :: o1 :: o2 :: o3 :: o4 :: o5 :: l) (va_rf x :: st) m :=
  g_astoreR hd hq hn (show xcp (o0 :: o1 :: o2 :: o3 :: o4 :: o5 :: l) 5 from hp) rfl k
theorem g_lst5 {o0 o1 o2 o3 o4 o5 o6 : Option Value} {l : List (Option Value)} {x : Int64} (hd : decode y.2.1 pc = .ok (.lstore 5, 2)) (hq : pc + 2 = q) (hn : 5 + 1 < y.2.2.1) (hp : xc1 o4 = true := by first | rfl | exact xc1_rf _ | assumption) (k : G w y Z d kc ks q (o0 :: o1 :: o2 :: o3 :: o4 :: some (.long x) :: none :: l) st m) : G w y Z d kc ks pc (o0 :: o1 :: o2 :: o3 :: o4 :: o5 :: o6 :: l) (.long x :: st) m :=
  g_lstore hd hq hn (show xcp (o0 :: o1 :: o2 :: o3 :: o4 :: o5 :: o6 :: l) 5 from hp) rfl k
theorem g_inc5 {o0 o1 o2 o3 o4 : Option Value} {l : List (Option Value)} {x : Int32} (hd : decode y.2.1 pc = .ok (.iinc 5 1, 3)) (hq : pc + 3 = q) (hn : 5 < y.2.2.1) (hp : xc1 o4 = true := by first | rfl | exact xc1_rf _ | assumption) (k : G w y Z d kc ks q (o0 :: o1 :: o2 :: o3 :: o4 :: some (.int (x + 1)) :: l) st m) : G w y Z d kc ks pc (o0 :: o1 :: o2 :: o3 :: o4 :: some (.int x) :: l) st m :=
  g_iinc hd hq hn (show xcp (o0 :: o1 :: o2 :: o3 :: o4 :: some (.int x) :: l) 5 from hp) rfl rfl rfl k
theorem g_incm5 {o0 o1 o2 o3 o4 : Option Value} {l : List (Option Value)} {x : Int32} (hd : decode y.2.1 pc = .ok (.iinc 5 (-1), 3)) (hq : pc + 3 = q) (hn : 5 < y.2.2.1) (hp : xc1 o4 = true := by first | rfl | exact xc1_rf _ | assumption) (k : G w y Z d kc ks q (o0 :: o1 :: o2 :: o3 :: o4 :: some (.int (x + (-1))) :: l) st m) : G w y Z d kc ks pc (o0 :: o1 :: o2 :: o3 :: o4 :: some (.int x) :: l) st m :=
  g_iinc hd hq hn (show xcp (o0 :: o1 :: o2 :: o3 :: o4 :: some (.int x) :: l) 5 from hp) rfl rfl rfl k
theorem g_incn5 {o0 o1 o2 o3 o4 : Option Value} {l : List (Option Value)} {x : Nat} (hd : decode y.2.1 pc = .ok (.iinc 5 1, 3)) (hq : pc + 3 = q) (hn : 5 < y.2.2.1) (hp : xc1 o4 = true := by first | rfl | exact xc1_rf _ | assumption) (k : G w y Z d kc ks q (o0 :: o1 :: o2 :: o3 :: o4 :: some (.int (nI (x + 1))) :: l) st m) : G w y Z d kc ks pc (o0 :: o1 :: o2 :: o3 :: o4 :: some (.int (nI x)) :: l) st m :=
  g_iinc hd hq hn (show xcp (o0 :: o1 :: o2 :: o3 :: o4 :: some (.int (nI x)) :: l) 5 from hp) rfl (nI_1 x) rfl k
theorem g_ist6 {o0 o1 o2 o3 o4 o5 o6 : Option Value} {l : List (Option Value)} {x : Int32} (hd : decode y.2.1 pc = .ok (.istore 6, 2)) (hq : pc + 2 = q) (hn : 6 < y.2.2.1) (hp : xc1 o5 = true := by first | rfl | exact xc1_rf _ | assumption) (k : G w y Z d kc ks q (o0 :: o1 :: o2 :: o3 :: o4 :: o5 :: some (.int x) :: l) st m) : G w y Z d kc ks pc (o0 :: o1 :: o2 :: o3 :: o4 :: o5 :: o6 :: l) (.int x :: st) m :=
  g_istore hd hq hn (show xcp (o0 :: o1 :: o2 :: o3 :: o4 :: o5 :: o6 :: l) 6 from hp) rfl k
theorem g_ast6 {o0 o1 o2 o3 o4 o5 o6 : Option Value} {l : List (Option Value)} {x : Nat} (hd : decode y.2.1 pc = .ok (.astore 6, 2)) (hq : pc + 2 = q) (hn : 6 < y.2.2.1) (hp : xc1 o5 = true := by first | rfl | exact xc1_rf _ | assumption) (k : G w y Z d kc ks q (o0 :: o1 :: o2 :: o3 :: o4 :: o5 :: some (.ref x) :: l) st m) : G w y Z d kc ks pc (o0 :: o1 :: o2 :: o3 :: o4 :: o5 :: o6 :: l) (.ref x :: st) m :=
  g_astore hd hq hn (show xcp (o0 :: o1 :: o2 :: o3 :: o4 :: o5 :: o6 :: l) 6 from hp) rfl k
theorem g_astN6 {o0 o1 o2 o3 o4 o5 o6 : Option Value} {l : List (Option Value)}  (hd : decode y.2.1 pc = .ok (.astore 6, 2)) (hq : pc + 2 = q) (hn : 6 < y.2.2.1) (hp : xc1 o5 = true := by first | rfl | exact xc1_rf _ | assumption) (k : G w y Z d kc ks q (o0 :: o1 :: o2 :: o3 :: o4 :: o5 :: some (.null) :: l) st m) : G w y Z d kc ks pc (o0 :: o1 :: o2 :: o3 :: o4 :: o5 :: o6 :: l) (.null :: st) m :=
  g_astoreN hd hq hn (show xcp (o0 :: o1 :: o2 :: o3 :: o4 :: o5 :: o6 :: l) 6 from hp) rfl k
theorem g_astR6 {o0 o1 o2 o3 o4 o5 o6 : Option Value} {l : List (Option Value)} {x : Option Nat} (hd : decode y.2.1 pc = .ok (.astore 6, 2)) (hq : pc + 2 = q) (hn : 6 < y.2.2.1) (hp : xc1 o5 = true := by first | rfl | exact xc1_rf _ | assumption) (k : G w y Z d kc ks q (o0 :: o1 :: o2 :: o3 :: o4 :: o5 :: some (va_rf x) :: l) st m) : G w y Z d kc ks pc (o0 :: o1 :: o2 :: o3 :: o4 :: o5 :: o6 :: l) (va_rf x :: st) m :=
  g_astoreR hd hq hn (show xcp (o0 :: o1 :: o2 :: o3 :: o4 :: o5 :: o6 :: l) 6 from hp) rfl k
theorem g_lst6 {o0 o1 o2 o3 o4 o5 o6 o7 : Option Value} {l : List (Option Value)} {x : Int64} (hd : decode y.2.1 pc = .ok (.lstore 6, 2)) (hq : pc + 2 = q) (hn : 6 + 1 < y.2.2.1) (hp : xc1 o5 = true := by first | rfl | exact xc1_rf _ | assumption) (k : G w y Z d kc ks q (o0 :: o1 :: o2 :: o3 :: o4 :: o5 :: some (.long x) :: none :: l) st m) : G w y Z d kc ks pc (o0 :: o1 :: o2 :: o3 :: o4 :: o5 :: o6 :: o7 :: l) (.long x :: st) m :=
  g_lstore hd hq hn (show xcp (o0 :: o1 :: o2 :: o3 :: o4 :: o5 :: o6 :: o7 :: l) 6 from hp) rfl k
theorem g_inc6 {o0 o1 o2 o3 o4 o5 : Option Value} {l : List (Option Value)} {x : Int32} (hd : decode y.2.1 pc = .ok (.iinc 6 1, 3)) (hq : pc + 3 = q) (hn : 6 < y.2.2.1) (hp : xc1 o5 = true := by first | rfl | exact xc1_rf _ | assumption) (k : G w y Z d kc ks q (o0 :: o1 :: o2 :: o3 :: o4 :: o5 :: some (.int (x + 1)) :: l) st m) : G w y Z d kc ks pc (o0 :: o1 :: o2 :: o3 :: o4 :: o5 :: some (.int x) :: l) st m :=
  g_iinc hd hq hn (show xcp (o0 :: o1 :: o2 :: o3 :: o4 :: o5 :: some (.int x) :: l) 6 from hp) rfl rfl rfl k
theorem g_incm6 {o0 o1 o2 o3 o4 o5 : Option Value} {l : List (Option Value)} {x : Int32} (hd : decode y.2.1 pc = .ok (.iinc 6 (-1), 3)) (hq : pc + 3 = q) (hn : 6 < y.2.2.1) (hp : xc1 o5 = true := by first | rfl | exact xc1_rf _ | assumption) (k : G w y Z d kc ks q (o0 :: o1 :: o2 :: o3 :: o4 :: o5 :: some (.int (x + (-1))) :: l) st m) : G w y Z d kc ks pc (o0 :: o1 :: o2 :: o3 :: o4 :: o5 :: some (.int x) :: l) st m :=
  g_iinc hd hq hn (show xcp (o0 :: o1 :: o2 :: o3 :: o4 :: o5 :: some (.int x) :: l) 6 from hp) rfl rfl rfl k
theorem g_incn6 {o0 o1 o2 o3 o4 o5 : Option Value} {l : List (Option Value)} {x : Nat} (hd : decode y.2.1 pc = .ok (.iinc 6 1, 3)) (hq : pc + 3 = q) (hn : 6 < y.2.2.1) (hp : xc1 o5 = true := by first | rfl | exact xc1_rf _ | assumption) (k : G w y Z d kc ks q (o0 :: o1 :: o2 :: o3 :: o4 :: o5 :: some (.int (nI (x + 1))) :: l) st m) : G w y Z d kc ks pc (o0 :: o1 :: o2 :: o3 :: o4 :: o5 :: some (.int (nI x)) :: l) st m :=
  g_iinc hd hq hn (show xcp (o0 :: o1 :: o2 :: o3 :: o4 :: o5 :: some (.int (nI x)) :: l) 6 from hp) rfl (nI_1 x) rfl k
theorem g_ist7 {o0 o1 o2 o3 o4 o5 o6 o7 : Option Value} {l : List (Option Value)} {x : Int32} (hd : decode y.2.1 pc = .ok (.istore 7, 2)) (hq : pc + 2 = q) (hn : 7 < y.2.2.1) (hp : xc1 o6 = true := by first | rfl | exact xc1_rf _ | assumption) (k : G w y Z d kc ks q (o0 :: o1 :: o2 :: o3 :: o4 :: o5 :: o6 :: some (.int x) :: l) st m) : G w y Z d kc ks pc (o0 :: o1 :: o2 :: o3 :: o4 :: o5 :: o6 :: o7 :: l) (.int x :: st) m :=
  g_istore hd hq hn (show xcp (o0 :: o1 :: o2 :: o3 :: o4 :: o5 :: o6 :: o7 :: l) 7 from hp) rfl k
theorem g_ast7 {o0 o1 o2 o3 o4 o5 o6 o7 : Option Value} {l : List (Option Value)} {x : Nat} (hd : decode y.2.1 pc = .ok (.astore 7, 2)) (hq : pc + 2 = q) (hn : 7 < y.2.2.1) (hp : xc1 o6 = true := by first | rfl | exact xc1_rf _ | assumption) (k : G w y Z d kc ks q (o0 :: o1 :: o2 :: o3 :: o4 :: o5 :: o6 :: some (.ref x) :: l) st m) : G w y Z d kc ks pc (o0 :: o1 :: o2 :: o3 :: o4 :: o5 :: o6 :: o7 :: l) (.ref x :: st) m :=
  g_astore hd hq hn (show xcp (o0 :: o1 :: o2 :: o3 :: o4 :: o5 :: o6 :: o7 :: l) 7 from hp) rfl k
theorem g_astN7 {o0 o1 o2 o3 o4 o5 o6 o7 : Option Value} {l : List (Option Value)}  (hd : decode y.2.1 pc = .ok (.astore 7, 2)) (hq : pc + 2 = q) (hn : 7 < y.2.2.1) (hp : xc1 o6 = true := by first | rfl | exact xc1_rf _ | assumption) (k : G w y Z d kc ks q (o0 :: o1 :: o2 :: o3 :: o4 :: o5 :: o6 :: some (.null) :: l) st m) : G w y Z d kc ks pc (o0 :: o1 :: o2 :: o3 :: o4 :: o5 :: o6 :: o7 :: l) (.null :: st) m :=
  g_astoreN hd hq hn (show xcp (o0 :: o1 :: o2 :: o3 :: o4 :: o5 :: o6 :: o7 :: l) 7 from hp) rfl k
theorem g_astR7 {o0 o1 o2 o3 o4 o5 o6 o7 : Option Value} {l : List (Option Value)} {x : Option Nat} (hd : decode y.2.1 pc = .ok (.astore 7, 2)) (hq : pc + 2 = q) (hn : 7 < y.2.2.1) (hp : xc1 o6 = true := by first | rfl | exact xc1_rf _ | assumption) (k : G w y Z d kc ks q (o0 :: o1 :: o2 :: o3 :: o4 :: o5 :: o6 :: some (va_rf x) :: l) st m) : G w y Z d kc ks pc (o0 :: o1 :: o2 :: o3 :: o4 :: o5 :: o6 :: o7 :: l) (va_rf x :: st) m :=
  g_astoreR hd hq hn (show xcp (o0 :: o1 :: o2 :: o3 :: o4 :: o5 :: o6 :: o7 :: l) 7 from hp) rfl k
theorem g_lst7 {o0 o1 o2 o3 o4 o5 o6 o7 o8 : Option Value} {l : List (Option Value)} {x : Int64} (hd : decode y.2.1 pc = .ok (.lstore 7, 2)) (hq : pc + 2 = q) (hn : 7 + 1 < y.2.2.1) (hp : xc1 o6 = true := by first | rfl | exact xc1_rf _ | assumption) (k : G w y Z d kc ks q (o0 :: o1 :: o2 :: o3 :: o4 :: o5 :: o6 :: some (.long x) :: none :: l) st m) : G w y Z d kc ks pc (o0 :: o1 :: o2 :: o3 :: o4 :: o5 :: o6 :: o7 :: o8 :: l) (.long x :: st) m :=
  g_lstore hd hq hn (show xcp (o0 :: o1 :: o2 :: o3 :: o4 :: o5 :: o6 :: o7 :: o8 :: l) 7 from hp) rfl k
theorem g_inc7 {o0 o1 o2 o3 o4 o5 o6 : Option Value} {l : List (Option Value)} {x : Int32} (hd : decode y.2.1 pc = .ok (.iinc 7 1, 3)) (hq : pc + 3 = q) (hn : 7 < y.2.2.1) (hp : xc1 o6 = true := by first | rfl | exact xc1_rf _ | assumption) (k : G w y Z d kc ks q (o0 :: o1 :: o2 :: o3 :: o4 :: o5 :: o6 :: some (.int (x + 1)) :: l) st m) : G w y Z d kc ks pc (o0 :: o1 :: o2 :: o3 :: o4 :: o5 :: o6 :: some (.int x) :: l) st m :=
  g_iinc hd hq hn (show xcp (o0 :: o1 :: o2 :: o3 :: o4 :: o5 :: o6 :: some (.int x) :: l) 7 from hp) rfl rfl rfl k
theorem g_incm7 {o0 o1 o2 o3 o4 o5 o6 : Option Value} {l : List (Option Value)} {x : Int32} (hd : decode y.2.1 pc = .ok (.iinc 7 (-1), 3)) (hq : pc + 3 = q) (hn : 7 < y.2.2.1) (hp : xc1 o6 = true := by first | rfl | exact xc1_rf _ | assumption) (k : G w y Z d kc ks q (o0 :: o1 :: o2 :: o3 :: o4 :: o5 :: o6 :: some (.int (x + (-1))) :: l) st m) : G w y Z d kc ks pc (o0 :: o1 :: o2 :: o3 :: o4 :: o5 :: o6 :: some (.int x) :: l) st m :=
  g_iinc hd hq hn (show xcp (o0 :: o1 :: o2 :: o3 :: o4 :: o5 :: o6 :: some (.int x) :: l) 7 from hp) rfl rfl rfl k
theorem g_incn7 {o0 o1 o2 o3 o4 o5 o6 : Option Value} {l : List (Option Value)} {x : Nat} (hd : decode y.2.1 pc = .ok (.iinc 7 1, 3)) (hq : pc + 3 = q) (hn : 7 < y.2.2.1) (hp : xc1 o6 = true := by first | rfl | exact xc1_rf _ | assumption) (k : G w y Z d kc ks q (o0 :: o1 :: o2 :: o3 :: o4 :: o5 :: o6 :: some (.int (nI (x + 1))) :: l) st m) : G w y Z d kc ks pc (o0 :: o1 :: o2 :: o3 :: o4 :: o5 :: o6 :: some (.int (nI x)) :: l) st m :=
  g_iinc hd hq hn (show xcp (o0 :: o1 :: o2 :: o3 :: o4 :: o5 :: o6 :: some (.int (nI x)) :: l) 7 from hp) rfl (nI_1 x) rfl k
theorem g_ist8 {o0 o1 o2 o3 o4 o5 o6 o7 o8 : Option Value} {l : List (Option Value)} {x : Int32} (hd : decode y.2.1 pc = .ok (.istore 8, 2)) (hq : pc + 2 = q) (hn : 8 < y.2.2.1) (hp : xc1 o7 = true := by first | rfl | exact xc1_rf _ | assumption) (k : G w y Z d kc ks q (o0 :: o1 :: o2 :: o3 :: o4 :: o5 :: o6 :: o7 :: some (.int x) :: l) st m) : G w y Z d kc ks pc (o0 :: o1 :: o2 :: o3 :: o4 :: o5 :: o6 :: o7 :: o8 :: l) (.int x :: st) m :=
  g_istore hd hq hn (show xcp (o0 :: o1 :: o2 :: o3 :: o4 :: o5 :: o6 :: o7 :: o8 :: l) 8 from hp) rfl k
theorem g_ast8 {o0 o1 o2 o3 o4 o5 o6 o7 o8 : Option Value} {l : List (Option Value)} {x : Nat} (hd : decode y.2.1 pc = .ok (.astore 8, 2)) (hq : pc + 2 = q) (hn : 8 < y.2.2.1) (hp : xc1 o7 = true := by first | rfl | exact xc1_rf _ | assumption) (k : G w y Z d kc ks q (o0 :: o1 :: o2 :: o3 :: o4 :: o5 :: o6 :: o7 :: some (.ref x) :: l) st m) : G w y Z d kc ks pc (o0 :: o1 :: o2 :: o3 :: o4 :: o5 :: o6 :: o7 :: o8 :: l) (.ref x :: st) m :=
  g_astore hd hq hn (show xcp (o0 :: o1 :: o2 :: o3 :: o4 :: o5 :: o6 :: o7 :: o8 :: l) 8 from hp) rfl k
theorem g_astN8 {o0 o1 o2 o3 o4 o5 o6 o7 o8 : Option Value} {l : List (Option Value)}  (hd : decode y.2.1 pc = .ok (.astore 8, 2)) (hq : pc + 2 = q) (hn : 8 < y.2.2.1) (hp : xc1 o7 = true := by first | rfl | exact xc1_rf _ | assumption) (k : G w y Z d kc ks q (o0 :: o1 :: o2 :: o3 :: o4 :: o5 :: o6 :: o7 :: some (.null) :: l) st m) : G w y Z d kc ks pc (o0 :: o1 :: o2 :: o3 :: o4 :: o5 :: o6 :: o7 :: o8 :: l) (.null :: st) m :=
  g_astoreN hd hq hn (show xcp (o0 :: o1 :: o2 :: o3 :: o4 :: o5 :: o6 :: o7 :: o8 :: l) 8 from hp) rfl k
theorem g_astR8 {o0 o1 o2 o3 o4 o5 o6 o7 o8 : Option Value} {l : List (Option Value)} {x : Option Nat} (hd : decode y.2.1 pc = .ok (.astore 8, 2)) (hq : pc + 2 = q) (hn : 8 < y.2.2.1) (hp : xc1 o7 = true := by first | rfl | exact xc1_rf _ | assumption) (k : G w y Z d kc ks q (o0 :: o1 :: o2 :: o3 :: o4 :: o5 :: o6 :: o7 :: some (va_rf x) :: l) st m) : G w y Z d kc ks pc (o0 :: o1 :: o2 :: o3 :: o4 :: o5 :: o6 :: o7 :: o8 :: l) (va_rf x :: st) m :=
  g_astoreR hd hq hn (show xcp (o0 :: o1 :: o2 :: o3 :: o4 :: o5 :: o6 :: o7 :: o8 :: l) 8 from hp) rfl k
theorem g_lst8 {o0 o1 o2 o3 o4 o5 o6 o7 o8 o9 : Option Value} {l : List (Option Value)} {x : Int64} (hd : decode y.2.1 pc = .ok (.lstore 8, 2)) (hq : pc + 2 = q) (hn : 8 + 1 < y.2.2.1) (hp : xc1 o7 = true := by first | rfl | exact xc1_rf _ | assumption) (k : G w y Z d kc ks q (o0 :: o1 :: o2 :: o3 :: o4 :: o5 :: o6 :: o7 :: some (.long x) :: none :: l) st m) : G w y Z d kc ks pc (o0 :: o1 :: o2 :: o3 :: o4 :: o5 :: o6 :: o7 :: o8 :: o9 :: l) (.long x :: st) m :=
  g_lstore hd hq hn (show xcp (o0 :: o1 :: o2 :: o3 :: o4 :: o5 :: o6 :: o7 :: o8 :: o9 :: l) 8 from hp) rfl k
theorem g_inc8 {o0 o1 o2 o3 o4 o5 o6 o7 : Option Value} {l : List (Option Value)} {x : Int32} (hd : decode y.2.1 pc = .ok (.iinc 8 1, 3)) (hq : pc + 3 = q) (hn : 8 < y.2.2.1) (hp : xc1 o7 = true := by first | rfl | exact xc1_rf _ | assumption) (k : G w y Z d kc ks q (o0 :: o1 :: o2 :: o3 :: o4 :: o5 :: o6 :: o7 :: some (.int (x + 1)) :: l) st m) : G w y Z d kc ks pc (o0 :: o1 :: o2 :: o3 :: o4 :: o5 :: o6 :: o7 :: some (.int x) :: l) st m :=
  g_iinc hd hq hn (show xcp (o0 :: o1 :: o2 :: o3 :: o4 :: o5 :: o6 :: o7 :: some (.int x) :: l) 8 from hp) rfl rfl rfl k
theorem g_incm8 {o0 o1 o2 o3 o4 o5 o6 o7 : Option Value} {l : List (Option Value)} {x : Int32} (hd : decode y.2.1 pc = .ok (.iinc 8 (-1), 3)) (hq : pc + 3 = q) (hn : 8 < y.2.2.1) (hp : xc1 o7 = true := by first | rfl | exact xc1_rf _ | assumption) (k : G w y Z d kc ks q (o0 :: o1 :: o2 :: o3 :: o4 :: o5 :: o6 :: o7 :: some (.int (x + (-1))) :: l) st m) : G w y Z d kc ks pc (o0 :: o1 :: o2 :: o3 :: o4 :: o5 :: o6 :: o7 :: some (.int x) :: l) st m :=
  g_iinc hd hq hn (show xcp (o0 :: o1 :: o2 :: o3 :: o4 :: o5 :: o6 :: o7 :: some (.int x) :: l) 8 from hp) rfl rfl rfl k
theorem g_incn8 {o0 o1 o2 o3 o4 o5 o6 o7 : Option Value} {l : List (Option Value)} {x : Nat} (hd : decode y.2.1 pc = .ok (.iinc 8 1, 3)) (hq : pc + 3 = q) (hn : 8 < y.2.2.1) (hp : xc1 o7 = true := by first | rfl | exact xc1_rf _ | assumption) (k : G w y Z d kc ks q (o0 :: o1 :: o2 :: o3 :: o4 :: o5 :: o6 :: o7 :: some (.int (nI (x + 1))) :: l) st m) : G w y Z d kc ks pc (o0 :: o1 :: o2 :: o3 :: o4 :: o5 :: o6 :: o7 :: some (.int (nI x)) :: l) st m :=
  g_iinc hd hq hn (show xcp (o0 :: o1 :: o2 :: o3 :: o4 :: o5 :: o6 :: o7 :: some (.int (nI x)) :: l) 8 from hp) rfl (nI_1 x) rfl k
theorem g_ist9 {o0 o1 o2 o3 o4 o5 o6 o7 o8 o9 : Option Value} {l : List (Option Value)} {x : Int32} (hd : decode y.2.1 pc = .ok (.istore 9, 2)) (hq : pc + 2 = q) (hn : 9 < y.2.2.1) (hp : xc1 o8 = true := by first | rfl | exact xc1_rf _ | assumption) (k : G w y Z d kc ks q (o0 :: o1 :: o2 :: o3 :: o4 :: o5 :: o6 :: o7 :: o8 :: some (.int x) :: l) st m) : G w y Z d kc ks pc (o0 :: o1 :: o2 :: o3 :: o4 :: o5 :: o6 :: o7 :: o8 :: o9 :: l) (.int x :: st) m :=
  g_istore hd hq hn (show xcp (o0 :: o1 :: o2 :: o3 :: o4 :: o5 :: o6 :: o7 :: o8 :: o9 :: l) 9 from hp) rfl k
theorem g_ast9 {o0 o1 o2 o3 o4 o5 o6 o7 o8 o9 : Option Value} {l : List (Option Value)} {x : Nat} (hd : decode y.2.1 pc = .ok (.astore 9, 2)) (hq : pc + 2 = q) (hn : 9 < y.2.2.1) (hp : xc1 o8 = true := by first | rfl | exact xc1_rf _ | assumption) (k : G w y Z d kc ks q (o0 :: o1 :: o2 :: o3 :: o4 :: o5 :: o6 :: o7 :: o8 :: some (.ref x) :: l) st m) : G w y Z d kc ks pc (o0 :: o1 :: o2 :: o3 :: o4 :: o5 :: o6 :: o7 :: o8 :: o9 :: l) (.ref x :: st) m :=
  g_astore hd hq hn (show xcp (o0 :: o1 :: o2 :: o3 :: o4 :: o5 :: o6 :: o7 :: o8 :: o9 :: l) 9 from hp) rfl k
theorem g_astN9 {o0 o1 o2 o3 o4 o5 o6 o7 o8 o9 : Option Value} {l : List (Option Value)}  (hd : decode y.2.1 pc = .ok (.astore 9, 2)) (hq : pc + 2 = q) (hn : 9 < y.2.2.1) (hp : xc1 o8 = true := by first | rfl | exact xc1_rf _ | assumption) (k : G w y Z d kc ks q (o0 :: o1 :: o2 :: o3 :: o4 :: o5 :: o6 :: o7 :: o8 :: some (.null) :: l) st m) : G w y Z d kc ks pc (o0 :: o1 :: o2 :: o3 :: o4 :: o5 :: o6 :: o7 :: o8 :: o9 :: l) (.null :: st) m :=
  g_astoreN hd hq hn (show xcp (o0 :: o1 :: o2 :: o3 :: o4 :: o5 :: o6 :: o7 :: o8 :: o9 :: l) 9 from hp) rfl k
theorem g_astR9 {o0 o1 o2 o3 o4 o5 o6 o7 o8 o9 : Option Value} {l : List (Option Value)} {x : Option Nat} (hd : decode y.2.1 pc = .ok (.astore 9, 2)) (hq : pc + 2 = q) (hn : 9 < y.2.2.1) (hp : xc1 o8 = true := by first | rfl | exact xc1_rf _ | assumption) (k : G w y Z d kc ks q (o0 :: o1 :: o2 :: o3 :: o4 :: o5 :: o6 :: o7 :: o8 :: some (va_rf x) :: l) st m) : G w y Z d kc ks pc (o0 :: o1 :: o2 :: o3 :: o4 :: o5 :: o6 :: o7 :: o8 :: o9 :: l) (va_rf x :: st) m :=
  g_astoreR hd hq hn (show xcp (o0 :: o1 :: o2 :: o3 :: o4 :: o5 :: o6 :: o7 :: o8 :: o9 :: l) 9 from hp) rfl k
theorem g_lst9 {o0 o1 o2 o3 o4 o5 o6 o7 o8 o9 o10 : Option Value} {l : List (Option Value)} {x : Int64} (hd : decode y.2.1 pc = .ok (.lstore 9, 2)) (hq : pc + 2 = q) (hn : 9 + 1 < y.2.2.1) (hp : xc1 o8 = true := by first | rfl | exact xc1_rf _ | assumption) (k : G w y Z d kc ks q (o0 :: o1 :: o2 :: o3 :: o4 :: o5 :: o6 :: o7 :: o8 :: some (.long x) :: none :: l) st m) : G w y Z d kc ks pc (o0 :: o1 :: o2 :: o3 :: o4 :: o5 :: o6 :: o7 :: o8 :: o9 :: o10 :: l) (.long x :: st) m :=
  g_lstore hd hq hn (show xcp (o0 :: o1 :: o2 :: o3 :: o4 :: o5 :: o6 :: o7 :: o8 :: o9 :: o10 :: l) 9 from hp) rfl k
theorem g_inc9 {o0 o1 o2 o3 o4 o5 o6 o7 o8 : Option Value} {l : List (Option Value)} {x : Int32} (hd : decode y.2.1 pc = .ok (.iinc 9 1, 3)) (hq : pc + 3 = q) (hn : 9 < y.2.2.1) (hp : xc1 o8 = true := by first | rfl | exact xc1_rf _ | assumption) (k : G w y Z d kc ks q (o0 :: o1 :: o2 :: o3 :: o4 :: o5 :: o6 :: o7 :: o8 :: some (.int (x + 1)) :: l) st m) : G w y Z d kc ks pc (o0 :: o1 :: o2 :: o3 :: o4 :: o5 :: o6 :: o7 :: o8 :: some (.int x) :: l) st m :=
  g_iinc hd hq hn (show xcp (o0 :: o1 :: o2 :: o3 :: o4 :: o5 :: o6 :: o7 :: o8 :: some (.int x) :: l) 9 from hp) rfl rfl rfl k
theorem g_incm9 {o0 o1 o2 o3 o4 o5 o6 o7 o8 : Option Value} {l : List (Option Value)} {x : Int32} (hd : decode y.2.1 pc = .ok (.iinc 9 (-1), 3)) (hq : pc + 3 = q) (hn : 9 < y.2.2.1) (hp : xc1 o8 = true := by first | rfl | exact xc1_rf _ | assumption) (k : G w y Z d kc ks q (o0 :: o1 :: o2 :: o3 :: o4 :: o5 :: o6 :: o7 :: o8 :: some (.int (x + (-1))) :: l) st m) : G w y Z d kc ks pc (o0 :: o1 :: o2 :: o3 :: o4 :: o5 :: o6 :: o7 :: o8 :: some (.int x) :: l) st m :=
  g_iinc hd hq hn (show xcp (o0 :: o1 :: o2 :: o3 :: o4 :: o5 :: o6 :: o7 :: o8 :: some (.int x) :: l) 9 from hp) rfl rfl rfl k
theorem g_incn9 {o0 o1 o2 o3 o4 o5 o6 o7 o8 : Option Value} {l : List (Option Value)} {x : Nat} (hd : decode y.2.1 pc = .ok (.iinc 9 1, 3)) (hq : pc + 3 = q) (hn : 9 < y.2.2.1) (hp : xc1 o8 = true := by first | rfl | exact xc1_rf _ | assumption) (k : G w y Z d kc ks q (o0 :: o1 :: o2 :: o3 :: o4 :: o5 :: o6 :: o7 :: o8 :: some (.int (nI (x + 1))) :: l) st m) : G w y Z d kc ks pc (o0 :: o1 :: o2 :: o3 :: o4 :: o5 :: o6 :: o7 :: o8 :: some (.int (nI x)) :: l) st m :=
  g_iinc hd hq hn (show xcp (o0 :: o1 :: o2 :: o3 :: o4 :: o5 :: o6 :: o7 :: o8 :: some (.int (nI x)) :: l) 9 from hp) rfl (nI_1 x) rfl k
theorem g_ist10 {o0 o1 o2 o3 o4 o5 o6 o7 o8 o9 o10 : Option Value} {l : List (Option Value)} {x : Int32} (hd : decode y.2.1 pc = .ok (.istore 10, 2)) (hq : pc + 2 = q) (hn : 10 < y.2.2.1) (hp : xc1 o9 = true := by first | rfl | exact xc1_rf _ | assumption) (k : G w y Z d kc ks q (o0 :: o1 :: o2 :: o3 :: o4 :: o5 :: o6 :: o7 :: o8 :: o9 :: some (.int x) :: l) st m) : G w y Z d kc ks pc (o0 :: o1 :: o2 :: o3 :: o4 :: o5 :: o6 :: o7 :: o8 :: o9 :: o10 :: l) (.int x :: st) m :=
  g_istore hd hq hn (show xcp (o0 :: o1 :: o2 :: o3 :: o4 :: o5 :: o6 :: o7 :: o8 :: o9 :: o10 :: l) 10 from hp) rfl k
theorem g_ast10 {o0 o1 o2 o3 o4 o5 o6 o7 o8 o9 o10 : Option Value} {l : List (Option Value)} {x : Nat} (hd : decode y.2.1 pc = .ok (.astore 10, 2)) (hq : pc + 2 = q) (hn : 10 < y.2.2.1) (hp : xc1 o9 = true := by first | rfl | exact xc1_rf _ | assumption) (k : G w y Z d kc ks q (o0 :: o1 :: o2 :: o3 :: o4 :: o5 :: o6 :: o7 :: o8 :: o9 :: some (.ref x) :: l) st m) : G w y Z d kc ks pc (o0 :: o1 :: o2 :: o3 :: o4 :: o5 :: o6 :: o7 :: o8 :: o9 :: o10 :: l) (.ref x :: st) m :=
  g_astore hd hq hn (show xcp (o0 :: o1 :: o2 :: o3 :: o4 :: o5 :: o6 :: o7 :: o8 :: o9 :: o10 :: l) 10 from hp) rfl k
theorem g_astN10 {o0 o1 o2 o3 o4 o5 o6 o7 o8 o9 o10 : Option Value} {l : List (Option Value)}  (hd : decode y.2.1 pc = .ok (.astore 10, 2)) (hq : pc + 2 = q) (hn : 10 < y.2.2.1) (hp : xc1 o9 = true := by first | rfl | exact xc1_rf _ | assumption) (k : G w y Z d kc ks q (o0 :: o1 :: o2 :: o3 :: o4 :: o5 :: o6 :: o7 :: o8 :: o9 :: some (.null) :: l) st m) : G w y Z d kc ks pc (o0 :: o1 :: o2 :: o3 :: o4 :: o5 :: o6 :: o7 :: o8 :: o9 :: o10 :: l) (.null :: st) m :=
  g_astoreN hd hq hn (show xcp (o0 :: o1 :: o2 :: o3 :: o4 :: o5 :: o6 :: o7 :: o8 :: o9 :: o10 :: l) 10 from hp) rfl k
theorem g_astR10 {o0 o1 o2 o3 o4 o5 o6 o7 o8 o9 o10 : Option Value} {l : List (Option Value)} {x : Option Nat} (hd : decode y.2.1 pc = .ok (.astore 10, 2)) (hq : pc + 2 = q) (hn : 10 < y.2.2.1) (hp : xc1 o9 = true := by first | rfl | exact xc1_rf _ | assumption) (k : G w y Z d kc ks q (o0 :: o1 :: o2 :: o3 :: o4 :: o5 :: o6 :: o7 :: o8 :: o9 :: some (va_rf x) :: l) st m) : G w y Z d kc ks pc (o0 :: o1 :: o2 :: o3 :: o4 :: o5 :: o6 :: o7 :: o8 :: o9 :: o10 :: l) (va_rf x :: st) m :=
  g_astoreR hd hq hn (show xcp (o0 :: o1 :: o2 :: o3 :: o4 :: o5 :: o6 :: o7 :: o8 :: o9 :: o10 :: l) 10 from hp) rfl k
theorem g_lst10 {o0 o1 o2 o3 o4 o5 o6 o7 o8 o9 o10 o11 : Option Value} {l : List (Option Value)} {x : Int64} (hd : decode y.2.1 pc = .ok (.lstore 10, 2)) (hq : pc + 2 = q) (hn : 10 + 1 < y.2.2.1) (hp : xc1 o9 = true := by first | rfl | exact xc1_rf _ | assumption) (k : G w y Z d kc ks q (o0 :: o1 :: o2 :: o3 :: o4 :: o5 :: o6 :: o7 :: o8 :: o9 :: some (.long x) :: none :: l) st m) : G w y Z d kc ks pc (o0 :: o1 :: o2 :: o3 :: o4 :: o5 :: o6 :: o7 :: o8 :: o9 :: o10 :: o11 :: l) (.long x :: st) m :=
  g_lstore hd hq hn (show xcp (o0 :: o1 :: o2 :: o3 :: o4 :: o5 :: o6 :: o7 :: o8 :: o9 :: o10 :: o11 :: l) 10 from hp) rfl k
theorem g_inc10 {o0 o1 o2 o3 o4 o5 o6 o7 o8 o9 : Option Value} {l : List (Option Value)} {x : Int32} (hd : decode y.2.1 pc = .ok (.iinc 10 1, 3)) (hq : pc + 3 = q) (hn : 10 < y.2.2.1) (hp : xc1 o9 = true := by first | rfl | exact xc1_rf _ | assumption) (k : G w y Z d kc ks q (o0 :: o1 :: o2 :: o3 :: o4 :: o5 :: o6 :: o7 :: o8 :: o9 :: some (.int (x + 1)) :: l) st m) : G w y Z d kc ks pc (o0 :: o1 :: o2 :: o3 :: o4 :: o5 :: o6 :: o7 :: o8 :: o9 :: some (.int x) :: l) st m :=
  g_iinc hd hq hn (show xcp (o0 :: o1 :: o2 :: o3 :: o4 :: o5 :: o6 :: o7 :: o8 :: o9 :: some (.int x) :: l) 10 from hp) rfl rfl rfl k
theorem g_incm10 {o0 o1 o2 o3 o4 o5 o6 o7 o8 o9 : Option Value} {l : List (Option Value)} {x : Int32} (hd : decode y.2.1 pc = .ok (.iinc 10 (-1), 3)) (hq : pc + 3 = q) (hn : 10 < y.2.2.1) (hp : xc1 o9 = true := by first | rfl | exact xc1_rf _ | assumption) (k : G w y Z d kc ks q (o0 :: o1 :: o2 :: o3 :: o4 :: o5 :: o6 :: o7 :: o8 :: o9 :: some (.int (x + (-1))) :: l) st m) : G w y Z d kc ks pc (o0 :: o1 :: o2 :: o3 :: o4 :: o5 :: o6 :: o7 :: o8 :: o9 :: some (.int x) :: l) st m :=
  g_iinc hd hq hn (show xcp (o0 :: o1 :: o2 :: o3 :: o4 :: o5 :: o6 :: o7 :: o8 :: o9 :: some (.int x) :: l) 10 from hp) rfl rfl rfl k
theorem g_incn10 {o0 o1 o2 o3 o4 o5 o6 o7 o8 o9 : Option Value} {l : List (Option Value)} {x : Nat} (hd : decode y.2.1 pc = .ok (.iinc 10 1, 3)) (hq : pc + 3 = q) (hn : 10 < y.2.2.1) (hp : xc1 o9 = true := by first | rfl | exact xc1_rf _ | assumption) (k : G w y Z d kc ks q (o0 :: o1 :: o2 :: o3 :: o4 :: o5 :: o6 :: o7 :: o8 :: o9 :: some (.int (nI (x + 1))) :: l) st m) : G w y Z d kc ks pc (o0 :: o1 :: o2 :: o3 :: o4 :: o5 :: o6 :: o7 :: o8 :: o9 :: some (.int (nI x)) :: l) st m :=
  g_iinc hd hq hn (show xcp (o0 :: o1 :: o2 :: o3 :: o4 :: o5 :: o6 :: o7 :: o8 :: o9 :: some (.int (nI x)) :: l) 10 from hp) rfl (nI_1 x) rfl k
theorem g_ist11 {o0 o1 o2 o3 o4 o5 o6 o7 o8 o9 o10 o11 : Option Value} {l : List (Option Value)} {x : Int32} (hd : decode y.2.1 pc = .ok (.istore 11, 2)) (hq : pc + 2 = q) (hn : 11 < y.2.2.1) (hp : xc1 o10 = true := by first | rfl | exact xc1_rf _ | assumption) (k : G w y Z d kc ks q (o0 :: o1 :: o2 :: o3 :: o4 :: o5 :: o6 :: o7 :: o8 :: o9 :: o10 :: some (.int x) :: l) st m) : G w y Z d kc ks pc (o0 :: o1 :: o2 :: o3 :: o4 :: o5 :: o6 :: o7 :: o8 :: o9 :: o10 :: o11 :: l) (.int x :: st) m :=
  g_istore hd hq hn (show xcp (o0 :: o1 :: o2 :: o3 :: o4 :: o5 :: o6 :: o7 :: o8 :: o9 :: o10 :: o11 :: l) 11 from hp) rfl k
theorem g_ast11 {o0 o1 o2 o3 o4 o5 o6 o7 o8 o9 o10 o11 : Option Value} {l : List (Option Value)} {x : Nat} (hd : decode y.2.1 pc = .ok (.astore 11, 2)) (hq : pc + 2 = q) (hn : 11 < y.2.2.1) (hp : xc1 o10 = true := by first | rfl | exact xc1_rf _ | assumption) (k : G w y Z d kc ks q (o0 :: o1 :: o2 :: o3 :: o4 :: o5 :: o6 :: o7 :: o8 :: o9 :: o10 :: some (.ref x) :: l) st m) : G w y Z d kc ks pc (o0 :: o1 :: o2 :: o3 :: o4 :: o5 :: o6 :: o7 :: o8 :: o9 :: o10 :: o11 :: l) (.ref x :: st) m :=
  g_astore hd hq hn (show xcp (o0 :: o1 :: o2 :: o3 :: o4 :: o5 :: o6 :: o7 :: o8 :: o9 :: o10 :: o11 :: l) 11 from hp) rfl k
theorem g_astN11 {o0 o1 o2 o3 o4 o5 o6 o7 o8 o9 o10 o11 : Option Value} {l : List (Option Value)}  (hd : decode y.2.1 pc = .ok (.astore 11, 2)) (hq : pc + 2 = q) (hn : 11 < y.2.2.1) (hp : xc1 o10 = true := by first | rfl | exact xc1_rf _ | assumption) (k : G w y Z d kc ks q (o0 :: o1 :: o2 :: o3 :: o4 :: o5 :: o6 :: o7 :: o8 :: o9 :: o10 :: some (.null) :: l) st m) : G w y Z d kc ks pc (o0 :: o1 :: o2 :: o3 :: o4 :: o5 :: o6 :: o7 :: o8 :: o9 :: o10 :: o11 :: l) (.null :: st) m :=
  g_astoreN hd hq hn (show xcp (o0 :: o1 :: o2 :: o3 :: o4 :: o5 :: o6 :: o7 :: o8 :: o9 :: o10 :: o11 :: l) 11 from hp) rfl k
theorem g_astR11 {o0 o1 o2 o3 o4 o5 o6 o7 o8 o9 o10 o11 : Option Value} {l : List (Option Value)} {x : Option Nat} (hd : decode y.2.1 pc = .ok (.astore 11, 2)) (hq : pc + 2 = q) (hn : 11 < y.2.2.1) (hp : xc1 o10 = true := by first | rfl | exact xc1_rf _ | assumption) (k : G w y Z d kc ks q (o0 :: o1 :: o2 :: o3 :: o4 :: o5 :: o6 :: o7 :: o8 :: o9 :: o10 :: some (va_rf x) :: l) st m) : G w y Z d kc ks pc (o0 :: o1 :: o2 :: o3 :: o4 :: o5 :: o6 :: o7 :: o8 :: o9 :: o10 :: o11 :: l) (va_rf x :: st) m :=
  g_astoreR hd hq hn (show xcp (o0 :: o1 :: o2 :: o3 :: o4 :: o5 :: o6 :: o7 :: o8 :: o9 :: o10 :: o11 :: l) 11 from hp) rfl k
theorem g_lst11 {o0 o1 o2 o3 o4 o5 o6 o7 o8 o9 o10 o11 o12 : Option Value} {l : List (Option Value)} {x : Int64} (hd : decode y.2.1 pc = .ok (.lstore 11, 2)) (hq : pc + 2 = q) (hn : 11 + 1 < y.2.2.1) (hp : xc1 o10 = true := by first | rfl | exact xc1_rf _ | assumption) (k : G w y Z d kc ks q (o0 :: o1 :: o2 :: o3 :: o4 :: o5 :: o6 :: o7 :: o8 :: o9 :: o10 :: some (.long x) :: none :: l) st m) : G w y Z d kc ks pc (o0 :: o1 :: o2 :: o3 :: o4 :: o5 :: o6 :: o7 :: o8 :: o9 :: o10 :: o11 :: o12 :: l) (.long x :: st) m :=
  g_lstore hd hq hn (show xcp (o0 :: o1 :: o2 :: o3 :: o4 :: o5 :: o6 :: o7 :: o8 :: o9 :: o10 :: o11 :: o12 :: l) 11 from hp) rfl k
theorem g_inc11 {o0 o1 o2 o3 o4 o5 o6 o7 o8 o9 o10 : Option Value} {l : List (Option Value)} {x : Int32} (hd : decode y.2.1 pc = .ok (.iinc 11 1, 3)) (hq : pc + 3 = q) (hn : 11 < y.2.2.1) (hp : xc1 o10 = true := by first | rfl | exact xc1_rf _ | assumption) (k : G w y Z d kc ks q (o0 :: o1 :: o2 :: o3 :: o4 :: o5 :: o6 :: o7 :: o8 :: o9 :: o10 :: some (.int (x + 1)) :: l) st m) : G w y Z d kc ks pc (o0 :: o1 :: o2 :: o3 :: o4 :: o5 :: o6 :: o7 :: o8 :: o9 :: o10 :: some (.int x) :: l) st m :=
  g_iinc hd hq hn (show xcp (o0 :: o1 :: o2 :: o3 :: o4 :: o5 :: o6 :: o7 :: o8 :: o9 :: o10 :: some (.int x) :: l) 11 from hp) rfl rfl rfl k
theorem g_incm11 {o0 o1 o2 o3 o4 o5 o6 o7 o8 o9 o10 : Option Value} {l : List (Option Value)} {x : Int32} (hd : decode y.2.1 pc = .ok (.iinc 11 (-1), 3)) (hq : pc + 3 = q) (hn : 11 < y.2.2.1) (hp : xc1 o10 = true := by first | rfl | exact xc1_rf _ | assumption) (k : G w y Z d kc ks q (o0 :: o1 :: o2 :: o3 :: o4 :: o5 :: o6 :: o7 :: o8 :: o9 :: o10 :: some (.int (x + (-1))) :: l) st m) : G w y Z d kc ks pc (o0 :: o1 :: o2 :: o3 :: o4 :: o5 :: o6 :: o7 :: o8 :: o9 :: o10 :: some (.int x) :: l) st m :=
  g_iinc hd hq hn (show xcp (o0 :: o1 :: o2 :: o3 :: o4 :: o5 :: o6 :: o7 :: o8 :: o9 :: o10 :: some (.int x) :: l) 11 from hp) rfl rfl rfl k
theorem g_incn11 {o0 o1 o2 o3 o4 o5 o6 o7 o8 o9 o10 : Option Value} {l : List (Option Value)} {x : Nat} (hd : decode y.2.1 pc = .ok (.iinc 11 1, 3)) (hq : pc + 3 = q) (hn : 11 < y.2.2.1) (hp : xc1 o10 = true := by first | rfl | exact xc1_rf _ | assumption) (k : G w y Z d kc ks q (o0 :: o1 :: o2 :: o3 :: o4 :: o5 :: o6 :: o7 :: o8 :: o9 :: o10 :: some (.int (nI (x + 1))) :: l) st m) : G w y Z d kc ks pc (o0 :: o1 :: o2 :: o3 :: o4 :: o5 :: o6 :: o7 :: o8 :: o9 :: o10 :: some (.int (nI x)) :: l) st m :=
  g_iinc hd hq hn (show xcp (o0 :: o1 :: o2 :: o3 :: o4 :: o5 :: o6 :: o7 :: o8 :: o9 :: o10 :: some (.int (nI x)) :: l) 11 from hp) rfl (nI_1 x) rfl k
theorem g_ist12 {o0 o1 o2 o3 o4 o5 o6 o7 o8 o9 o10 o11 o12 : Option Value} {l : List (Option Value)} {x : Int32} (hd : decode y.2.1 pc = .ok (.istore 12, 2)) (hq : pc + 2 = q) (hn : 12 < y.2.2.1) (hp : xc1 o11 = true := by first | rfl | exact xc1_rf _ | assumption) (k : G w y Z d kc ks q (o0 :: o1 :: o2 :: o3 :: o4 :: o5 :: o6 :: o7 :: o8 :: o9 :: o10 :: o11 :: some (.int x) :: l) st m) : G w y Z d kc ks pc (o0 :: o1 :: o2 :: o3 :: o4 :: o5 :: o6 :: o7 :: o8 :: o9 :: o10 :: o11 :: o12 :: l) (.int x :: st) m :=
  g_istore hd hq hn (show xcp (o0 :: o1 :: o2 :: o3 :: o4 :: o5 :: o6 :: o7 :: o8 :: o9 :: o10 :: o11 :: o12 :: l) 12 from hp) rfl k
theorem g_ast12 {o0 o1 o2 o3 o4 o5 o6 o7 o8 o9 o10 o11 o12 : Option Value} {l : List (Option Value)} {x : Nat} (hd : decode y.2.1 pc = .ok (.astore 12, 2)) (hq : pc + 2 = q) (hn : 12 < y.2.2.1) (hp : xc1 o11 = true := by first | rfl | exact xc1_rf _ | assumption) (k : G w y Z d kc ks q (o0 :: o1 :: o2 :: o3 :: o4 :: o5 :: o6 :: o7 :: o8 :: o9 :: o10 :: o11 :: some (.ref x) :: l) st m) : G w y Z d kc ks pc (o0 :: o1 :: o2 :: o3 :: o4 :: o5 :: o6 :: o7 :: o8 :: o9 :: o10 :: o11 :: o12 :: l) (.ref x :: st) m :=
  g_astore hd hq hn (show xcp (o0 :: o1 :: o2 :: o3 :: o4 :: o5 :: o6 :: o7 :: o8 :: o9 :: o10 :: o11 :: o12 :: l) 12 from hp) rfl k
theorem g_astN12 {o0 o1 o2 o3 o4 o5 o6 o7 o8 o9 o10 o11 o12 : Option Value} {l : List (Option Value)}  (hd : decode y.2.1 pc = .ok (.astore 12, 2)) (hq : pc + 2 = q) (hn : 12 < y.2.2.1) (hp : xc1 o11 = true := by first | rfl | exact xc1_rf _ | assumption) (k : G w y Z d kc ks q (o0 :: o1 :: o2 :: o3 :: o4 :: o5 :: o6 :: o7 :: o8 :: o9 :: o10 :: o11 :: some (.null) :: l) st m) : G w y Z d kc ks pc (o0 :: o1 :: o2 :: o3 :: o4 :: o5 :: o6 :: o7 :: o8 :: o9 :: o10 :: o11 :: o12 :: l) (.null :: st) m :=
  g_astoreN hd hq hn (show xcp (o0 :: o1 :: o2 :: o3 :: o4 :: o5 :: o6 :: o7 :: o8 :: o9 :: o10 :: o11 :: o12 :: l) 12 from hp) rfl k
theorem g_astR12 {o0 o1 o2 o3 o4 o5 o6 o7 o8 o9 o10 o11 o12 : Option Value} {l : List (Option Value)} {x : Option Nat} (hd : decode y.2.1 pc = .ok (.astore 12, 2)) (hq : pc + 2 = q) (hn : 12 < y.2.2.1) (hp : xc1 o11 = true := by first | rfl | exact xc1_rf _ | assumption) (k : G w y Z d kc ks q (o0 :: o1 :: o2 :: o3 :: o4 :: o5 :: o6 :: o7 :: o8 :: o9 :: o10 :: o11 :: some (va_rf x) :: l) st m) : G w y Z d kc ks pc (o0 :: o1 :: o2 :: o3 :: o4 :: o5 :: o6 :: o7 :: o8 :: o9 :: o10 :: o11 :: o12 :: l) (va_rf x :: st) m :=
  g_astoreR hd hq hn (show xcp (o0 :: o1 :: o2 :: o3 :: o4 :: o5 :: o6 :: o7 :: o8 :: o9 :: o10 :: o11 :: o12 :: l) 12 from hp) rfl k
theorem g_lst12 {o0 o1 o2 o3 o4 o5 o6 o7 o8 o9 o10 o11 o12 o13 : Option Value} {l : List (Option Value)} {x : Int64} (hd : decode y.2.1 pc = .ok (.lstore 12, 2)) (hq : pc + 2 = q) (hn : 12 + 1 < y.2.2.1) (hp : xc1 o11 = true := by first | rfl | exact xc1_rf _ | assumption) (k : G w y Z d kc ks q (o0 :: o1 :: o2 :: o3 :: o4 :: o5 :: o6 :: o7 :: o8 :: o9 :: o10 :: o11 :: some (.long x) :: none :: l) st m) : G w y Z d kc ks pc (o0 :: o1 :: o2 :: o3 :: o4 :: o5 :: o6 :: o7 :: o8 :: o9 :: o10 :: o11 :: o12 :: o13 :: l) (.long x :: st) m :=
  g_lstore hd hq hn (show xcp (o0 :: o1 :: o2 :: o3 :: o4 :: o5 :: o6 :: o7 :: o8 :: o9 :: o10 :: o11 :: o12 :: o13 :: l) 12 from hp) rfl k
theorem g_inc12 {o0 o1 o2 o3 o4 o5 o6 o7 o8 o9 o10 o11 : Option Value} {l : List (Option Value)} {x : Int32} (hd : decode y.2.1 pc = .ok (.iinc 12 1, 3)) (hq : pc + 3 = q) (hn : 12 < y.2.2.1) (hp : xc1 o11 = true := by first | rfl | exact xc1_rf _ | assumption) (k : G w y Z d kc ks q (o0 :: o1 :: o2 :: o3 :: o4 :: o5 :: o6 :: o7 :: o8 :: o9 :: o10 :: o11 :: some (.int (x + 1)) :: l) st m) : G w y Z d kc ks pc (o0 :: o1 :: o2 :: o3 :: o4 :: o5 :: o6 :: o7 :: o8 :: o9 :: o10 :: o11 :: some (.int x) :: l) st m :=
  g_iinc hd hq hn (show xcp (o0 :: o1 :: o2 :: o3 :: o4 :: o5 :: o6 :: o7 :: o8 :: o9 :: o10 :: o11 :: some (.int x) :: l) 12 from hp) rfl rfl rfl k
theorem g_incm12 {o0 o1 o2 o3 o4 o5 o6 o7 o8 o9 o10 o11 : Option Value} {l : List (Option Value)} {x : Int32} (hd : decode y.2.1 pc = .ok (.iinc 12 (-1), 3)) (hq : pc + 3 = q) (hn : 12 < y.2.2.1) (hp : xc1 o11 = true := by first | rfl | exact xc1_rf _ | assumption) (k : G w y Z d kc ks q (o0 :: o1 :: o2 :: o3 :: o4 :: o5 :: o6 :: o7 :: o8 :: o9 :: o10 :: o11 :: some (.int (x + (-1))) :: l) st m) : G w y Z d kc ks pc (o0 :: o1 :: o2 :: o3 :: o4 :: o5 :: o6 :: o7 :: o8 :: o9 :: o10 :: o11 :: some (.int x) :: l) st m :=
  g_iinc hd hq hn (show xcp (o0 :: o1 :: o2 :: o3 :: o4 :: o5 :: o6 :: o7 :: o8 :: o9 :: o10 :: o11 :: some (.int x) :: l) 12 from hp) rfl rfl rfl k
theorem g_incn12 {o0 o1 o2 o3 o4 o5 o6 o7 o8 o9 o10 o11 : Option Value} {l : List (Option Value)} {x : Nat} (hd : decode y.2.1 pc = .ok (.iinc 12 1, 3)) (hq : pc + 3 = q) (hn : 12 < y.2.2.1) (hp : xc1 o11 = true := by first | rfl | exact xc1_rf _ | assumption) (k : G w y Z d kc ks q (o0 :: o1 :: o2 :: o3 :: o4 :: o5 :: o6 :: o7 :: o8 :: o9 :: o10 :: o11 :: some (.int (nI (x + 1))) :: l) st m) : G w y Z d kc ks pc (o0 :: o1 :: o2 :: o3 :: o4 :: o5 :: o6 :: o7 :: o8 :: o9 :: o10 :: o11 :: some (.int (nI x)) :: l) st m :=
  g_iinc hd hq hn (show xcp (o0 :: o1 :: o2 :: o3 :: o4 :: o5 :: o6 :: o7 :: o8 :: o9 :: o10 :: o11 :: some (.int (nI x)) :: l) 12 from hp) rfl (nI_1 x) rfl k
theorem g_ist13 {o0 o1 o2 o3 o4 o5 o6 o7 o8 o9 o10 o11 o12 o13 : Option Value} {l : List (Option Value)} {x : Int32} (hd : decode y.2.1 pc = .ok (.istore 13, 2)) (hq : pc + 2 = q) (hn : 13 < y.2.2.1) (hp : xc1 o12 = true := by first | rfl | exact xc1_rf _ | assumption) (k : G w y Z d kc ks q (o0 :: o1 :: o2 :: o3 :: o4 :: o5 :: o6 :: o7 :: o8 :: o9 :: o10 :: o11 :: o12 :: some (.int x) :: l) st m) : G w y Z d kc ks pc (o0 :: o1 :: o2 :: o3 :: o4 :: o5 :: o6 :: o7 :: o8 :: o9 :: o10 :: o11 :: o12 :: o13 :: l) (.int x :: st) m :=
  g_istore hd hq hn (show xcp (o0 :: o1 :: o2 :: o3 :: o4 :: o5 :: o6 :: o7 :: o8 :: o9 :: o10 :: o11 :: o12 :: o13 :: l) 13 from hp) rfl k
theorem g_ast13 {o0 o1 o2 o3 o4 o5 o6 o7 o8 o9 o10 o11 o12 o13 : Option Value} {l : List (Option Value)} {x : Nat} (hd : decode y.2.1 pc = .ok (.astore 13, 2)) (hq : pc + 2 = q) (hn : 13 < y.2.2.1) (hp : xc1 o12 = true := by first | rfl | exact xc1_rf _ | assumption) (k : G w y Z d kc ks q (o0 :: o1 :: o2 :: o3 :: o4 :: o5 :: o6 :: o7 :: o8 :: o9 :: o10 :: o11 :: o12 :: some (.ref x) :: l) st m) : G w y Z d kc ks pc (o0 :: o1 :: o2 :: o3 :: o4 :: o5 :: o6 :: o7 :: o8 :: o9 :: o10 :: o11 :: o12 :: o13 :: l) (.ref x :: st) m :=
  g_astore hd hq hn (show xcp (o0 :: o1 :: o2 :: o3 :: o4 :: o5 :: o6 :: o7 :: o8 :: o9 :: o10 :: o11 :: o12 :: o13 :: l) 13 from hp) rfl k
theorem g_astN13 {o0 o1 o2 o3 o4 o5 o6 o7 o8 o9 o10 o11 o12 o13 : Option Value} {l : List (Option Value)}  (hd : decode y.2.1 pc = .ok (.astore 13, 2)) (hq : pc + 2 = q) (hn : 13 < y.2.2.1) (hp : xc1 o12 = true := by first | rfl | exact xc1_rf _ | assumption) (k : G w y Z d kc ks q (o0 :: o1 :: o2 :: o3 :: o4 :: o5 :: o6 :: o7 :: o8 :: o9 :: o10 :: o11 :: o12 :: some (.null) :: l) st m) : G w y Z d kc ks pc (o0 :: o1 :: o2 :: o3 :: o4 :: o5 :: o6 :: o7 :: o8 :: o9 :: o10 :: o11 :: o12 :: o13 :: l) (.null :: st) m :=
  g_astoreN hd hq hn (show xcp (o0 :: o1 :: o2 :: o3 :: o4 :: o5 :: o6 :: o7 :: o8 :: o9 :: o10 :: o11 :: o12 :: o13 :: l) 13 from hp) rfl k
theorem g_astR13 {o0 o1 o2 o3 o4 o5 o6 o7 o8 o9 o10 o11 o12 o13 : Option Value} {l : List (Option Value)} {x : Option Nat} (hd : decode y.2.1 pc = .ok (.astore 13, 2)) (hq : pc + 2 = q) (hn : 13 < y.2.2.1) (hp : xc1 o12 = true := by first | rfl | exact xc1_rf _ | assumption) (k : G w y Z d kc ks q (o0 :: o1 :: o2 :: o3 :: o4 :: o5 :: o6 :: o7 :: o8 :: o9 :: o10 :: o11 :: o12 :: some (va_rf x) :: l) st m) : G w y Z d kc ks pc (o0 :: o1 :: o2 :: o3 :: o4 :: o5 :: o6 :: o7 :: o8 :: o9 :: o10 :: o11 :: o12 :: o13 :: l) (va_rf x :: st) m :=
  g_astoreR hd hq hn (show xcp (o0 :: o1 :: o2 :: o3 :: o4 :: o5 :: o6 :: o7 :: o8 :: o9 :: o10 :: o11 :: o12 :: o13 :: l) 13 from hp) rfl k
theorem g_lst13 {o0 o1 o2 o3 o4 o5 o6 o7 o8 o9 o10 o11 o12 o13 o14 : Option Value} {l : List (Option Value)} {x : Int64} (hd : decode y.2.1 pc = .ok (.lstore 13, 2)) (hq : pc + 2 = q) (hn : 13 + 1 < y.2.2.1) (hp : xc1 o12 = true := by first | rfl | exact xc1_rf _ | assumption) (k : G w y Z d kc ks q (o0 :: o1 :: o2 :: o3 :: o4 :: o5 :: o6 :: o7 :: o8 :: o9 :: o10 :: o11 :: o12 :: some (.long x) :: none :: l) st m) : G w y Z d kc ks pc (o0 :: o1 :: o2 :: o3 :: o4 :: o5 :: o6 :: o7 :: o8 :: o9 :: o10 :: o11 :: o12 :: o13 :: o14 :: l) (.long x :: st) m :=
  g_lstore hd hq hn (show xcp (o0 :: o1 :: o2 :: o3 :: o4 :: o5 :: o6 :: o7 :: o8 :: o9 :: o10 :: o11 :: o12 :: o13 :: o14 :: l) 13 from hp) rfl k
theorem g_inc13 {o0 o1 o2 o3 o4 o5 o6 o7 o8 o9 o10 o11 o12 : Option Value} {l : List (Option Value)} {x : Int32} (hd : decode y.2.1 pc = .ok (.iinc 13 1, 3)) (hq : pc + 3 = q) (hn : 13 < y.2.2.1) (hp : xc1 o12 = true := by first | rfl | exact xc1_rf _ | assumption) (k : G w y Z d kc ks q (o0 :: o1 :: o2 :: o3 :: o4 :: o5 :: o6 :: o7 :: o8 :: o9 :: o10 :: o11 :: o12 :: some (.int (x + 1)) :: l) st m) : G w y Z d kc ks pc (o0 :: o1 :: o2 :: o3 :: o4 :: o5 :: o6 :: o7 :: o8 :: o9 :: o10 :: o11 :: o12 :: some (.int x) :: l) st m :=
  g_iinc hd hq hn (show xcp (o0 :: o1 :: o2 :: o3 :: o4 :: o5 :: o6 :: o7 :: o8 :: o9 :: o10 :: o11 :: o12 :: some (.int x) :: l) 13 from hp) rfl rfl rfl k
theorem g_incm13 {o0 o1 o2 o3 o4 o5 o6 o7 o8 o9 o10 o11 o12 : Option Value} {l : List (Option Value)} {x : Int32} (hd : decode y.2.1 pc = .ok (.iinc 13 (-1), 3)) (hq : pc + 3 = q) (hn : 13 < y.2.2.1) (hp : xc1 o12 = true := by first | rfl | exact xc1_rf _ | assumption) (k : G w y Z d kc ks q (o0 :: o1 :: o2 :: o3 :: o4 :: o5 :: o6 :: o7 :: o8 :: o9 :: o10 :: o11 :: o12 :: some (.int (x + (-1))) :: l) st m) : G w y Z d kc ks pc (o0 :: o1 :: o2 :: o3 :: o4 :: o5 :: o6 :: o7 :: o8 :: o9 :: o10 :: o11 :: o12 :: some (.int x) :: l) st m :=
  g_iinc hd hq hn (show xcp (o0 :: o1 :: o2 :: o3 :: o4 :: o5 :: o6 :: o7 :: o8 :: o9 :: o10 :: o11 :: o12 :: some (.int x) :: l) 13 from hp) rfl rfl rfl k
theorem g_incn13 {o0 o1 o2 o3 o4 o5 o6 o7 o8 o9 o10 o11 o12 : Option Value} {l : List (Option Value)} {x : Nat} (hd : decode y.2.1 pc = .ok (.iinc 13 1, 3)) (hq : pc + 3 = q) (hn : 13 < y.2.2.1) (hp : xc1 o12 = true := by first | rfl | exact xc1_rf _ | assumption) (k : G w y Z d kc ks q (o0 :: o1 :: o2 :: o3 :: o4 :: o5 :: o6 :: o7 :: o8 :: o9 :: o10 :: o11 :: o12 :: some (.int (nI (x + 1))) :: l) st m) : G w y Z d kc ks pc (o0 :: o1 :: o2 :: o3 :: o4 :: o5 :: o6 :: o7 :: o8 :: o9 :: o10 :: o11 :: o12 :: some (.int (nI x)) :: l) st m :=
  g_iinc hd hq hn (show xcp (o0 :: o1 :: o2 :: o3 :: o4 :: o5 :: o6 :: o7 :: o8 :: o9 :: o10 :: o11 :: o12 :: some (.int (nI x)) :: l) 13 from hp) rfl (nI_1 x) rfl k
theorem g_ist14 {o0 o1 o2 o3 o4 o5 o6 o7 o8 o9 o10 o11 o12 o13 o14 : Option Value} {l : List (Option Value)} {x : Int32} (hd : decode y.2.1 pc = .ok (.istore 14, 2)) (hq : pc + 2 = q) (hn : 14 < y.2.2.1) (hp : xc1 o13 = true := by first | rfl | exact xc1_rf _ | assumption) (k : G w y Z d kc ks q (o0 :: o1 :: o2 :: o3 :: o4 :: o5 :: o6 :: o7 :: o8 :: o9 :: o10 :: o11 :: o12 :: o13 :: some (.int x) :: l) st m) : G w y Z d kc ks pc (o0 :: o1 :: o2 :: o3 :: o4 :: o5 :: o6 :: o7 :: o8 :: o9 :: o10 :: o11 :: o12 :: o13 :: o14 :: l) (.int x :: st) m :=
  g_istore hd hq hn (show xcp (o0 :: o1 :: o2 :: o3 :: o4 :: o5 :: o6 :: o7 :: o8 :: o9 :: o10 :: o11 :: o12 :: o13 :: o14 :: l) 14 from hp) rfl k
theorem g_ast14 {o0 o1 o2 o3 o4 o5 o6 o7 o8 o9 o10 o11 o12 o13 o14 : Option Value} {l : List (Option Value)} {x : Nat} (hd : decode y.2.1 pc = .ok (.astore 14, 2)) (hq : pc + 2 = q) (hn : 14 < y.2.2.1) (hp : xc1 o13 = true := by first | rfl | exact xc1_rf _ | assumption) (k : G w y Z d kc ks q (o0 :: o1 :: o2 :: o3 :: o4 :: o5 :: o6 :: o7 :: o8 :: o9 :: o10 :: o11 :: o12 :: o13 :: some (.ref x) :: l) st m) : G w y Z d kc ks pc (o0 :: o1 :: o2 :: o3 :: o4 :: o5 :: o6 :: o7 :: o8 :: o9 :: o10 :: o11 :: o12 :: o13 :: o14 :: l) (.ref x :: st) m :=
  g_astore hd hq hn (show xcp (o0 :: o1 :: o2 :: o3 :: o4 :: o5 :: o6 :: o7 :: o8 :: o9 :: o10 :: o11 :: o12 :: o13 :: o14 :: l) 14 from hp) rfl k
theorem g_astN14 {o0 o1 o2 o3 o4 o5 o6 o7 o8 o9 o10 o11 o12 o13 o14 : Option Value} {l : List (Option Value)}  (hd : decode y.2.1 pc = .ok (.astore 14, 2)) (hq : pc + 2 = q) (hn : 14 < y.2.2.1) (hp : xc1 o13 = true := by first | rfl | exact xc1_rf _ | assumption) (k : G w y Z d kc ks q (o0 :: o1 :: o2 :: o3 :: o4 :: o5 :: o6 :: o7 :: o8 :: o9 :: o10 :: o11 :: o12 :: o13 :: some (.null) :: l) st m) : G w y Z d kc ks pc (o0 :: o1 :: o2 :: o3 :: o4 :: o5 :: o6 :: o7 :: o8 :: o9 :: o10 :: o11 :: o12 :: o13 :: o14 :: l) (.null :: st) m :=
  g_astoreN hd hq hn (show xcp (o0 :: o1 :: o2 :: o3 :: o4 :: o5 :: o6 :: o7 :: o8 :: o9 :: o10 :: o11 :: o12 :: o13 :: o14 :: l) 14 from hp) rfl k
theorem g_astR14 {o0 o1 o2 o3 o4 o5 o6 o7 o8 o9 o10 o11 o12 o13 o14 : Option Value} {l : List (Option Value)} {x : Option Nat} (hd : decode y.2.1 pc = .ok (.astore 14, 2)) (hq : pc + 2 = q) (hn : 14 < y.2.2.1) (hp : xc1 o13 = true := by first | rfl | exact xc1_rf _ | assumption) (k : G w y Z d kc ks q (o0 :: o1 :: o2 :: o3 :: o4 :: o5 :: o6 :: o7 :: o8 :: o9 :: o10 :: o11 :: o12 :: o13 :: some (va_rf x) :: l) st m) : G w y Z d kc ks pc (o0 :: o1 :: o2 :: o3 :: o4 :: o5 :: o6 :: o7 :: o8 :: o9 :: o10 :: o11 :: o12 :: o13 :: o14 :: l) (va_rf x :: st) m :=
  g_astoreR hd hq hn (show xcp (o0 :: o1 :: o2 :: o3 :: o4 :: o5 :: o6 :: o7 :: o8 :: o9 :: o10 :: o11 :: o12 :: o13 :: o14 :: l) 14 from hp) rfl k
theorem g_lst14 {o0 o1 o2 o3 o4 o5 o6 o7 o8 o9 o10 o11 o12 o13 o14 o15 : Option Value} {l : List (Option Value)} {x : Int64} (hd : decode y.2.1 pc = .ok (.lstore 14, 2)) (hq : pc + 2 = q) (hn : 14 + 1 < y.2.2.1) (hp : xc1 o13 = true := by first | rfl | exact xc1_rf _ | assumption) (k : G w y Z d kc ks q (o0 :: o1 :: o2 :: o3 :: o4 :: o5 :: o6 :: o7 :: o8 :: o9 :: o10 :: o11 :: o12 :: o13 :: some (.long x) :: none :: l) st m) : G w y Z d kc ks pc (o0 :: o1 :: o2 :: o3 :: o4 :: o5 :: o6 :: o7 :: o8 :: o9 :: o10 :: o11 :: o12 :: o13 :: o14 :: o15 :: l) (.long x :: st) m :=
  g_lstore hd hq hn (show xcp (o0 :: o1 :: o2 :: o3 :: o4 :: o5 :: o6 :: o7 :: o8 :: o9 :: o10 :: o11 :: o12 :: o13 :: o14 :: o15 :: l) 14 from hp) rfl k
theorem g_inc14 {o0 o1 o2 o3 o4 o5 o6 o7 o8 o9 o10 o11 o12 o13 : Option Value} {l : List (Option Value)} {x : Int32} (hd : decode y.2.1 pc = .ok (.iinc 14 1, 3)) (hq : pc + 3 = q) (hn : 14 < y.2.2.1) (hp : xc1 o13 = true := by first | rfl | exact xc1_rf _ | assumption) (k : G w y Z d kc ks q (o0 :: o1 :: o2 :: o3 :: o4 :: o5 :: o6 :: o7 :: o8 :: o9 :: o10 :: o11 :: o12 :: o13 :: some (.int (x + 1)) :: l) st m) : G w y Z d kc ks pc (o0 :: o1 :: o2 :: o3 :: o4 :: o5 :: o6 :: o7 :: o8 :: o9 :: o10 :: o11 :: o12 :: o13 :: some (.int x) :: l) st m :=
  g_iinc hd hq hn (show xcp (o0 :: o1 :: o2 :: o3 :: o4 :: o5 :: o6 :: o7 :: o8 :: o9 :: o10 :: o11 :: o12 :: o13 :: some (.int x) :: l) 14 from hp) rfl rfl rfl k
theorem g_incm14 {o0 o1 o2 o3 o4 o5 o6 o7 o8 o9 o10 o11 o12 o13 : Option Value} {l : List (Option Value)} {x : Int32} (hd : decode y.2.1 pc = .ok (.iinc 14 (-1), 3)) (hq : pc + 3 = q) (hn : 14 < y.2.2.1) (hp : xc1 o13 = true := by first | rfl | exact xc1_rf _ | assumption) (k : G w y Z d kc ks q (o0 :: o1 :: o2 :: o3 :: o4 :: o5 :: o6 :: o7 :: o8 :: o9 :: o10 :: o11 :: o12 :: o13 :: some (.int (x + (-1))) :: l) st m) : G w y Z d kc ks pc (o0 :: o1 :: o2 :: o3 :: o4 :: o5 :: o6 :: o7 :: o8 :: o9 :: o10 :: o11 :: o12 :: o13 :: some (.int x) :: l) st m :=
  g_iinc hd hq hn (show xcp (o0 :: o1 :: o2 :: o3 :: o4 :: o5 :: o6 :: o7 :: o8 :: o9 :: o10 :: o11 :: o12 :: o13 :: some (.int x) :: l) 14 from hp) rfl rfl rfl k
theorem g_incn14 {o0 o1 o2 o3 o4 o5 o6 o7 o8 o9 o10 o11 o12 o13 : Option Value} {l : List (Option Value)} {x : Nat} (hd : decode y.2.1 pc = .ok (.iinc 14 1, 3)) (hq : pc + 3 = q) (hn : 14 < y.2.2.1) (hp : xc1 o13 = true := by first | rfl | exact xc1_rf _ | assumption) (k : G w y Z d kc ks q (o0 :: o1 :: o2 :: o3 :: o4 :: o5 :: o6 :: o7 :: o8 :: o9 :: o10 :: o11 :: o12 :: o13 :: some (.int (nI (x + 1))) :: l) st m) : G w y Z d kc ks pc (o0 :: o1 :: o2 :: o3 :: o4 :: o5 :: o6 :: o7 :: o8 :: o9 :: o10 :: o11 :: o12 :: o13 :: some (.int (nI x)) :: l) st m :=
  g_iinc hd hq hn (show xcp (o0 :: o1 :: o2 :: o3 :: o4 :: o5 :: o6 :: o7 :: o8 :: o9 :: o10 :: o11 :: o12 :: o13 :: some (.int (nI x)) :: l) 14 from hp) rfl (nI_1 x) rfl k
theorem g_ist15 {o0 o1 o2 o3 o4 o5 o6 o7 o8 o9 o10 o11 o12 o13 o14 o15 : Option Value} {l : List (Option Value)} {x : Int32} (hd : decode y.2.1 pc = .ok (.istore 15, 2)) (hq : pc + 2 = q) (hn : 15 < y.2.2.1) (hp : xc1 o14 = true := by first | rfl | exact xc1_rf _ | assumption) (k : G w y Z d kc ks q (o0 :: o1 :: o2 :: o3 :: o4 :: o5 :: o6 :: o7 :: o8 :: o9 :: o10 :: o11 :: o12 :: o13 :: o14 :: some (.int x) :: l) st m) : G w y Z d kc ks pc (o0 :: o1 :: o2 :: o3 :: o4 :: o5 :: o6 :: o7 :: o8 :: o9 :: o10 :: o11 :: o12 :: o13 :: o14 :: o15 :: l) (.int x :: st) m :=
  g_istore hd hq hn (show xcp (o0 :: o1 :: o2 :: o3 :: o4 :: o5 :: o6 :: o7 :: o8 :: o9 :: o10 :: o11 :: o12 :: o13 :: o14 :: o15 :: l) 15 from hp) rfl k
theorem g_ast15 {o0 o1 o2 o3 o4 o5 o6 o7 o8 o9 o10 o11 o12 o13 o14 o15 : Option Value} {l : List (Option Value)} {x : Nat} (hd : decode y.2.1 pc = .ok (.astore 15, 2)) (hq : pc + 2 = q) (hn : 15 < y.2.2.1) (hp : xc1 o14 = true := by first | rfl | exact xc1_rf _ | assumption) (k : G w y Z d kc ks q (o0 :: o1 :: o2 :: o3 :: o4 :: o5 :: o6 :: o7 :: o8 :: o9 :: o10 :: o11 :: o12 :: o13 :: o14 :: some (.ref x) :: l) st m) : G w y Z d kc ks pc (o0 :: o1 :: o2 :: o3 :: o4 :: o5 :: o6 :: o7 :: o8 :: o9 :: o10 :: o11 :: o12 :: o13 :: o14 :: o15 :: l) (.ref x :: st) m :=
  g_astore hd hq hn (show xcp (o0 :: o1 :: o2 :: o3 :: o4 :: o5 :: o6 :: o7 :: o8 :: o9 :: o10 :: o11 :: o12 :: o13 :: o14 :: o15 :: l) 15 from hp) rfl k
theorem g_astN15 {o0 o1 o2 o3 o4 o5 o6 o7 o8 o9 o10 o11 o12 o13 o14 o15 : Option Value} {l : List (Option Value)}  (hd : decode y.2.1 pc = .ok (.astore 15, 2)) (hq : pc + 2 = q) (hn : 15 < y.2.2.1) (hp : xc1 o14 = true := by first | rfl | exact xc1_rf _ | assumption) (k : G w y Z d kc ks q (o0 :: o1 :: o2 :: o3 :: o4 :: o5 :: o6 :: o7 :: o8 :: o9 :: o10 :: o11 :: o12 :: o13 :: o14 :: some (.null) :: l) st m) : G w y Z d kc ks pc (o0 :: o1 :: o2 :: o3 :: o4 :: o5 :: o6 :: o7 :: o8 :: o9 :: o10 :: o11 :: o12 :: o13 :: o14 :: o15 :: l) (.null :: st) m :=
  g_astoreN hd hq hn (show xcp (o0 :: o1 :: o2 :: o3 :: o4 :: o5 :: o6 :: o7 :: o8 :: o9 :: o10 :: o11 :: o12 :: o13 :: o14 :: o15 :: l) 15 from hp) rfl k
theorem g_astR15 {o0 o1 o2 o3 o4 o5 o6 o7 o8 o9 o10 o11 o12 o13 o14 o15 : Option Value} {l : List (Option Value)} {x : Option Nat} (hd : decode y.2.1 pc = .ok (.astore 15, 2)) (hq : pc + 2 = q) (hn : 15 < y.2.2.1) (hp : xc1 o14 = true := by first | rfl | exact xc1_rf _ | assumption) (k : G w y Z d kc ks q (o0 :: o1 :: o2 :: o3 :: o4 :: o5 :: o6 :: o7 :: o8 :: o9 :: o10 :: o11 :: o12 :: o13 :: o14 :: some (va_rf x) :: l) st m) : G w y Z d kc ks pc (o0 :: o1 :: o2 :: o3 :: o4 :: o5 :: o6 :: o7 :: o8 :: o9 :: o10 :: o11 :: o12 :: o13 :: o14 :: o15 :: l) (va_rf x :: st) m :=
  g_astoreR hd hq hn (show xcp (o0 :: o1 :: o2 :: o3 :: o4 :: o5 :: o6 :: o7 :: o8 :: o9 :: o10 :: o11 :: o12 :: o13 :: o14 :: o15 :: l) 15 from hp) rfl k
theorem g_lst15 {o0 o1 o2 o3 o4 o5 o6 o7 o8 o9 o10 o11 o12 o13 o14 o15 o16 : Option Value} {l : List (Option Value)} {x : Int64} (hd : decode y.2.1 pc = .ok (.lstore 15, 2)) (hq : pc + 2 = q) (hn : 15 + 1 < y.2.2.1) (hp : xc1 o14 = true := by first | rfl | exact xc1_rf _ | assumption) (k : G w y Z d kc ks q (o0 :: o1 :: o2 :: o3 :: o4 :: o5 :: o6 :: o7 :: o8 :: o9 :: o10 :: o11 :: o12 :: o13 :: o14 :: some (.long x) :: none :: l) st m) : G w y Z d kc ks pc (o0 :: o1 :: o2 :: o3 :: o4 :: o5 :: o6 :: o7 :: o8 :: o9 :: o10 :: o11 :: o12 :: o13 :: o14 :: o15 :: o16 :: l) (.long x :: st) m :=
  g_lstore hd hq hn (show xcp (o0 :: o1 :: o2 :: o3 :: o4 :: o5 :: o6 :: o7 :: o8 :: o9 :: o10 :: o11 :: o12 :: o13 :: o14 :: o15 :: o16 :: l) 15 from hp) rfl k
theorem g_inc15 {o0 o1 o2 o3 o4 o5 o6 o7 o8 o9 o10 o11 o12 o13 o14 : Option Value} {l : List (Option Value)} {x : Int32} (hd : decode y.2.1 pc = .ok (.iinc 15 1, 3)) (hq : pc + 3 = q) (hn : 15 < y.2.2.1) (hp : xc1 o14 = true := by first | rfl | exact xc1_rf _ | assumption) (k : G w y Z d kc ks q (o0 :: o1 :: o2 :: o3 :: o4 :: o5 :: o6 :: o7 :: o8 :: o9 :: o10 :: o11 :: o12 :: o13 :: o14 :: some (.int (x + 1)) :: l) st m) : G w y Z d kc ks pc (o0 :: o1 :: o2 :: o3 :: o4 :: o5 :: o6 :: o7 :: o8 :: o9 :: o10 :: o11 :: o12 :: o13 :: o14 :: some (.int x) :: l) st m :=
  g_iinc hd hq hn (show xcp (o0 :: o1 :: o2 :: o3 :: o4 :: o5 :: o6 :: o7 :: o8 :: o9 :: o10 :: o11 :: o12 :: o13 :: o14 :: some (.int x) :: l) 15 from hp) rfl rfl rfl k
theorem g_incm15 {o0 o1 o2 o3 o4 o5 o6 o7 o8 o9 o10 o11 o12 o13 o14 : Option Value} {l : List (Option Value)} {x : Int32} (hd : decode y.2.1 pc = .ok (.iinc 15 (-1), 3)) (hq : pc + 3 = q) (hn : 15 < y.2.2.1) (hp : xc1 o14 = true := by first | rfl | exact xc1_rf _ | assumption) (k : G w y Z d kc ks q (o0 :: o1 :: o2 :: o3 :: o4 :: o5 :: o6 :: o7 :: o8 :: o9 :: o10 :: o11 :: o12 :: o13 :: o14 :: some (.int (x + (-1))) :: l) st m) : G w y Z d kc ks pc (o0 :: o1 :: o2 :: o3 :: o4 :: o5 :: o6 :: o7 :: o8 :: o9 :: o10 :: o11 :: o12 :: o13 :: o14 :: some (.int x) :: l) st m :=
  g_iinc hd hq hn (show xcp (o0 :: o1 :: o2 :: o3 :: o4 :: o5 :: o6 :: o7 :: o8 :: o9 :: o10 :: o11 :: o12 :: o13 :: o14 :: some (.int x) :: l) 15 from hp) rfl rfl rfl k
theorem g_incn15 {o0 o1 o2 o3 o4 o5 o6 o7 o8 o9 o10 o11 o12 o13 o14 : Option Value} {l : List (Option Value)} {x : Nat} (hd : decode y.2.1 pc = .ok (.iinc 15 1, 3)) (hq : pc + 3 = q) (hn : 15 < y.2.2.1) (hp : xc1 o14 = true := by first | rfl | exact xc1_rf _ | assumption) (k : G w y Z d kc ks q (o0 :: o1 :: o2 :: o3 :: o4 :: o5 :: o6 :: o7 :: o8 :: o9 :: o10 :: o11 :: o12 :: o13 :: o14 :: some (.int (nI (x + 1))) :: l) st m) : G w y Z d kc ks pc (o0 :: o1 :: o2 :: o3 :: o4 :: o5 :: o6 :: o7 :: o8 :: o9 :: o10 :: o11 :: o12 :: o13 :: o14 :: some (.int (nI x)) :: l) st m :=
  g_iinc hd hq hn (show xcp (o0 :: o1 :: o2 :: o3 :: o4 :: o5 :: o6 :: o7 :: o8 :: o9 :: o10 :: o11 :: o12 :: o13 :: o14 :: some (.int (nI x)) :: l) 15 from hp) rfl (nI_1 x) rfl k
theorem g_iadd {x z : Int32} (hd : decode y.2.1 pc = .ok (.iadd, 1)) (hq : pc + 1 = q) (k : G w y Z d kc ks q lv (.int (x + z) :: st) m) : G w y Z d kc ks pc lv (.int z :: .int x :: st) m := by
  subst hq
  intro ok p e R s mi args below meth c H locs cells slots Q ls cx hl
  exact lv_iadd (cx_x cx) (cx_b cx) hd (k ok cx hl)
theorem g_isub {x z : Int32} (hd : decode y.2.1 pc = .ok (.isub, 1)) (hq : pc + 1 = q) (k : G w y Z d kc ks q lv (.int (x - z) :: st) m) : G w y Z d kc ks pc lv (.int z :: .int x :: st) m := by
  subst hq
  intro ok p e R s mi args below meth c H locs cells slots Q ls cx hl
  exact lv_isub (cx_x cx) (cx_b cx) hd (k ok cx hl)
theorem g_imul {x z : Int32} (hd : decode y.2.1 pc = .ok (.imul, 1)) (hq : pc + 1 = q) (k : G w y Z d kc ks q lv (.int (x * z) :: st) m) : G w y Z d kc ks pc lv (.int z :: .int x :: st) m := by
  subst hq
  intro ok p e R s mi args below meth c H locs cells slots Q ls cx hl
  exact lv_imul (cx_x cx) (cx_b cx) hd (k ok cx hl)
theorem g_iand {x z : Int32} (hd : decode y.2.1 pc = .ok (.iand, 1)) (hq : pc + 1 = q) (k : G w y Z d kc ks q lv (.int (x &&& z) :: st) m) : G w y Z d kc ks pc lv (.int z :: .int x :: st) m := by
  subst hq
  intro ok p e R s mi args below meth c H locs cells slots Q ls cx hl
  exact lv_iand (cx_x cx) (cx_b cx) hd (k ok cx hl)
theorem g_ior {x z : Int32} (hd : decode y.2.1 pc = .ok (.ior, 1)) (hq : pc + 1 = q) (k : G w y Z d kc ks q lv (.int (x ||| z) :: st) m) : G w y Z d kc ks pc lv (.int z :: .int x :: st) m := by
  subst hq
  intro ok p e R s mi args below meth c H locs cells slots Q ls cx hl
  exact lv_ior (cx_x cx) (cx_b cx) hd (k ok cx hl)
theorem g_ixor {x z : Int32} (hd : decode y.2.1 pc = .ok (.ixor, 1)) (hq : pc + 1 = q) (k : G w y Z d kc ks q lv (.int (x ^^^ z) :: st) m) : G w y Z d kc ks pc lv (.int z :: .int x :: st) m := by
  subst hq
  intro ok p e R s mi args below meth c H locs cells slots Q ls cx hl
  exact lv_ixor (cx_x cx) (cx_b cx) hd (k ok cx hl)
theorem g_idiv {x z : Int32} (hd : decode y.2.1 pc = .ok (.idiv, 1)) (hq : pc + 1 = q) (hz : ¬ z = 0) (k : G w y Z d kc ks q lv (.int (x / z) :: st) m) : G w y Z d kc ks pc lv (.int z :: .int x :: st) m := by
  subst hq
  intro ok p e R s mi args below meth c H locs cells slots Q ls cx hl
  exact lv_idiv (cx_x cx) (cx_b cx) hd hz (k ok cx hl)
theorem g_irem {x z : Int32} (hd : decode y.2.1 pc = .ok (.irem, 1)) (hq : pc + 1 = q) (hz : ¬ z = 0) (k : G w y Z d kc ks q lv (.int (x - x / z * z) :: st) m) : G w y Z d kc ks pc lv (.int z :: .int x :: st) m := by
  subst hq
  intro ok p e R s mi args below meth c H locs cells slots Q ls cx hl
  exact lv_irem (cx_x cx) (cx_b cx) hd hz (k ok cx hl)
theorem g_ineg {x : Int32} (hd : decode y.2.1 pc = .ok (.ineg, 1)) (hq : pc + 1 = q) (k : G w y Z d kc ks q lv (.int (-x) :: st) m) : G w y Z d kc ks pc lv (.int x :: st) m := by
  subst hq
  intro ok p e R s mi args below meth c H locs cells slots Q ls cx hl
  exact lv_ineg (cx_x cx) (cx_b cx) hd (k ok cx hl)
theorem g_ladd {x z : Int64} (hd : decode y.2.1 pc = .ok (.ladd, 1)) (hq : pc + 1 = q) (k : G w y Z d kc ks q lv (.long (x + z) :: st) m) : G w y Z d kc ks pc lv (.long z :: .long x :: st) m := by
  subst hq
  intro ok p e R s mi args below meth c H locs cells slots Q ls cx hl
  exact lv_ladd (cx_x cx) (cx_b cx) hd (k ok cx hl)
theorem g_lsub {x z : Int64} (hd : decode y.2.1 pc = .ok (.lsub, 1)) (hq : pc + 1 = q) (k : G w y Z d kc ks q lv (.long (x - z) :: st) m) : G w y Z d kc ks pc lv (.long z :: .long x :: st) m := by
  subst hq
  intro ok p e R s mi args below meth c H locs cells slots Q ls cx hl
  exact lv_lsub (cx_x cx) (cx_b cx) hd (k ok cx hl)
theorem g_lmul {x z : Int64} (hd : decode y.2.1 pc = .ok (.lmul, 1)) (hq : pc + 1 = q) (k : G w y Z d kc ks q lv (.long (x * z) :: st) m) : G w y Z d kc ks pc lv (.long z :: .long x :: st) m := by
  subst hq
  intro ok p e R s mi args below meth c H locs cells slots Q ls cx hl
  exact lv_lmul (cx_x cx) (cx_b cx) hd (k ok cx hl)
theorem g_land {x z : Int64} (hd : decode y.2.1 pc = .ok (.land, 1)) (hq : pc + 1 = q) (k : G w y Z d kc ks q lv (.long (x &&& z) :: st) m) : G w y Z d kc ks pc lv (.long z :: .long x :: st) m := by
  subst hq
  intro ok p e R s mi args below meth c H locs cells slots Q ls cx hl
  exact lv_land (cx_x cx) (cx_b cx) hd (k ok cx hl)
theorem g_lor {x z : Int64} (hd : decode y.2.1 pc = .ok (.lor, 1)) (hq : pc + 1 = q) (k : G w y Z d kc ks q lv (.long (x ||| z) :: st) m) : G w y Z d kc ks pc lv (.long z :: .long x :: st) m := by
  subst hq
  intro ok p e R s mi args below meth c H locs cells slots Q ls cx hl
  exact lv_lor (cx_x cx) (cx_b cx) hd (k ok cx hl)
theorem g_ldiv {x z : Int64} (hd : decode y.2.1 pc = .ok (.ldiv, 1)) (hq : pc + 1 = q) (hz : ¬ z = 0) (k : G w y Z d kc ks q lv (.long (x / z) :: st) m) : G w y Z d kc ks pc lv (.long z :: .long x :: st) m := by
  subst hq
  intro ok p e R s mi args below meth c H locs cells slots Q ls cx hl
  exact lv_ldiv (cx_x cx) (cx_b cx) hd hz (k ok cx hl)
theorem g_lrem {x z : Int64} (hd : decode y.2.1 pc = .ok (.lrem, 1)) (hq : pc + 1 = q) (hz : ¬ z = 0) (k : G w y Z d kc ks q lv (.long (x - x / z * z) :: st) m) : G w y Z d kc ks pc lv (.long z :: .long x :: st) m := by
  subst hq
  intro ok p e R s mi args below meth c H locs cells slots Q ls cx hl
  exact lv_lrem (cx_x cx) (cx_b cx) hd hz (k ok cx hl)
theorem g_lneg {x : Int64} (hd : decode y.2.1 pc = .ok (.lneg, 1)) (hq : pc + 1 = q) (k : G w y Z d kc ks q lv (.long (-x) :: st) m) : G w y Z d kc ks pc lv (.long x :: st) m := by
  subst hq
  intro ok p e R s mi args below meth c H locs cells slots Q ls cx hl
  exact lv_lneg (cx_x cx) (cx_b cx) hd (k ok cx hl)
theorem g_ishl {x z : Int32} (hd : decode y.2.1 pc = .ok (.ishl, 1)) (hq : pc + 1 = q) (k : G w y Z d kc ks q lv (.int (x <<< (z &&& 31)) :: st) m) : G w y Z d kc ks pc lv (.int z :: .int x :: st) m := by
  subst hq
  intro ok p e R s mi args below meth c H locs cells slots Q ls cx hl
  exact lv_ishl (cx_x cx) (cx_b cx) hd (k ok cx hl)
theorem g_ishr {x z : Int32} (hd : decode y.2.1 pc = .ok (.ishr, 1)) (hq : pc + 1 = q) (k : G w y Z d kc ks q lv (.int (x >>> (z &&& 31)) :: st) m) : G w y Z d kc ks pc lv (.int z :: .int x :: st) m := by
  subst hq
  intro ok p e R s mi args below meth c H locs cells slots Q ls cx hl
  exact lv_ishr (cx_x cx) (cx_b cx) hd (k ok cx hl)
theorem g_iushr {x z v : Int32} (hd : decode y.2.1 pc = .ok (.iushr, 1)) (hq : pc + 1 = q) (hv : (x.toUInt32 >>> (z.toUInt32 &&& Int32.toUInt32 31)).toInt32 = v) (k : G w y Z d kc ks q lv (.int v :: st) m) : G w y Z d kc ks pc lv (.int z :: .int x :: st) m := by
  subst hq
  intro ok p e R s mi args below meth c H locs cells slots Q ls cx hl
  exact lv_iushr (cx_x cx) (cx_b cx) hd hv (k ok cx hl)
theorem g_lushr {x v : Int64} {z : Int32} (hd : decode y.2.1 pc = .ok (.lushr, 1)) (hq : pc + 1 = q) (hv : (x.toUInt64 >>> (z.toInt64.toUInt64 &&& Int64.toUInt64 63)).toInt64 = v) (k : G w y Z d kc ks q lv (.long v :: st) m) : G w y Z d kc ks pc lv (.int z :: .long x :: st) m := by
  subst hq
  intro ok p e R s mi args below meth c H locs cells slots Q ls cx hl
  exact lv_lushr (cx_x cx) (cx_b cx) hd hv (k ok cx hl)
theorem g_lshl {x v : Int64} {z : Int32} (hd : decode y.2.1 pc = .ok (.lshl, 1)) (hq : pc + 1 = q) (hv : x <<< (z.toInt64 &&& 63) = v) (k : G w y Z d kc ks q lv (.long v :: st) m) : G w y Z d kc ks pc lv (.int z :: .long x :: st) m := by
  subst hq
  intro ok p e R s mi args below meth c H locs cells slots Q ls cx hl
  exact lv_lshl (cx_x cx) (cx_b cx) hd hv (k ok cx hl)
theorem g_i2l {x : Int32} {v : Int64} (hd : decode y.2.1 pc = .ok (.i2l, 1)) (hq : pc + 1 = q) (hv : x.toInt64 = v) (k : G w y Z d kc ks q lv (.long v :: st) m) : G w y Z d kc ks pc lv (.int x :: st) m := by
  subst hq
  intro ok p e R s mi args below meth c H locs cells slots Q ls cx hl
  exact lv_i2l (cx_x cx) (cx_b cx) hd hv (k ok cx hl)
theorem g_l2i {x : Int64} {v : Int32} (hd : decode y.2.1 pc = .ok (.l2i, 1)) (hq : pc + 1 = q) (hv : x.toInt32 = v) (k : G w y Z d kc ks q lv (.int v :: st) m) : G w y Z d kc ks pc lv (.long x :: st) m := by
  subst hq
  intro ok p e R s mi args below meth c H locs cells slots Q ls cx hl
  exact lv_l2i (cx_x cx) (cx_b cx) hd hv (k ok cx hl)
theorem g_i2b {x v : Int32} (hd : decode y.2.1 pc = .ok (.i2b, 1)) (hq : pc + 1 = q) (hv : x.toInt8.toInt32 = v) (k : G w y Z d kc ks q lv (.int v :: st) m) : G w y Z d kc ks pc lv (.int x :: st) m := by
  subst hq
  intro ok p e R s mi args below meth c H locs cells slots Q ls cx hl
  exact lv_i2b (cx_x cx) (cx_b cx) hd hv (k ok cx hl)
theorem g_i2c {x v : Int32} (hd : decode y.2.1 pc = .ok (.i2c, 1)) (hq : pc + 1 = q) (hv : (x.toUInt32 % 65536).toInt32 = v) (k : G w y Z d kc ks q lv (.int v :: st) m) : G w y Z d kc ks pc lv (.int x :: st) m := by
  subst hq
  intro ok p e R s mi args below meth c H locs cells slots Q ls cx hl
  exact lv_i2c (cx_x cx) (cx_b cx) hd hv (k ok cx hl)
theorem g_lcmp {x z : Int64} (hd : decode y.2.1 pc = .ok (.lcmp, 1)) (hq : pc + 1 = q) (k : G w y Z d kc ks q lv (.int (lg_cmp x z) :: st) m) : G w y Z d kc ks pc lv (.long z :: .long x :: st) m := by
  subst hq
  intro ok p e R s mi args below meth c H locs cells slots Q ls cx hl
  exact W.lcmp (cx_x cx) (cx_b cx) hd (k ok cx hl)
theorem g_iaddn {a b : Nat} (hd : decode y.2.1 pc = .ok (.iadd, 1)) (hq : pc + 1 = q) (k : G w y Z d kc ks q lv (.int (nI (a + b)) :: st) m) : G w y Z d kc ks pc lv (.int (nI b) :: .int (nI a) :: st) m :=
  g_iadd hd hq (by rw [nI_add]; exact k)
theorem g_isubn {a b : Nat} (hd : decode y.2.1 pc = .ok (.isub, 1)) (hq : pc + 1 = q) (hab : b ≤ a) (k : G w y Z d kc ks q lv (.int (nI (a - b)) :: st) m) : G w y Z d kc ks pc lv (.int (nI b) :: .int (nI a) :: st) m :=
  g_isub hd hq (by rw [pk_sub hab]; exact k)
theorem g_imuln {a b : Nat} (hd : decode y.2.1 pc = .ok (.imul, 1)) (hq : pc + 1 = q) (k : G w y Z d kc ks q lv (.int (nI (a * b)) :: st) m) : G w y Z d kc ks pc lv (.int (nI b) :: .int (nI a) :: st) m :=
  g_imul hd hq (by rw [pk_mul]; exact k)
theorem g_idivn {a b : Nat} (hd : decode y.2.1 pc = .ok (.idiv, 1)) (hq : pc + 1 = q) (ha : a < 2 ^ 31) (h0 : 0 < b) (hb : b < 2 ^ 31) (k : G w y Z d kc ks q lv (.int (nI (a / b)) :: st) m) : G w y Z d kc ks pc lv (.int (nI b) :: .int (nI a) :: st) m :=
  g_idiv hd hq (nI_ne0 h0 hb) (by rw [pk_div ha h0 hb]; exact k)
theorem g_iremn {a b : Nat} (hd : decode y.2.1 pc = .ok (.irem, 1)) (hq : pc + 1 = q) (ha : a < 2 ^ 31) (h0 : 0 < b) (hb : b < 2 ^ 31) (k : G w y Z d kc ks q lv (.int (nI (a % b)) :: st) m) : G w y Z d kc ks pc lv (.int (nI b) :: .int (nI a) :: st) m :=
  g_irem hd hq (nI_ne0 h0 hb) (by rw [pk_rem ha h0 hb]; exact k)
theorem g_dup {v : Value} (hd : decode y.2.1 pc = .ok (.dup, 1)) (hq : pc + 1 = q) (hc : v.category = 1) (k : G w y Z d kc ks q lv (v :: v :: st) m) : G w y Z d kc ks pc lv (v :: st) m := by
  subst hq
  intro ok p e R s mi args below meth c H locs cells slots Q ls cx hl
  exact lv_dup (cx_x cx) (cx_b cx) hd hc (k ok cx hl)
theorem g_pop {v : Value} (hd : decode y.2.1 pc = .ok (.pop, 1)) (hq : pc + 1 = q) (hc : v.category = 1) (k : G w y Z d kc ks q lv st m) : G w y Z d kc ks pc lv (v :: st) m := by
  subst hq
  intro ok p e R s mi args below meth c H locs cells slots Q ls cx hl
  exact lv_pop (cx_x cx) (cx_b cx) hd hc (k ok cx hl)
theorem g_pop2 {v : Value} (hd : decode y.2.1 pc = .ok (.pop2, 1)) (hq : pc + 1 = q) (hc : v.category = 2) (k : G w y Z d kc ks q lv st m) : G w y Z d kc ks pc lv (v :: st) m := by
  subst hq
  intro ok p e R s mi args below meth c H locs cells slots Q ls cx hl
  exact lv_pop2_2 (cx_x cx) (cx_b cx) hd hc (k ok cx hl)
theorem g_dup_x1 {v u : Value} (hd : decode y.2.1 pc = .ok (.dup_x1, 1)) (hq : pc + 1 = q) (hc : v.category = 1) (hc2 : u.category = 1) (k : G w y Z d kc ks q lv (v :: u :: v :: st) m) : G w y Z d kc ks pc lv (v :: u :: st) m := by
  subst hq
  intro ok p e R s mi args below meth c H locs cells slots Q ls cx hl
  exact lv_dup_x1 (cx_x cx) (cx_b cx) hd hc hc2 (k ok cx hl)
theorem g_dup2 {v u : Value} (hd : decode y.2.1 pc = .ok (.dup2, 1)) (hq : pc + 1 = q) (hc : v.category = 1) (hc2 : u.category = 1) (k : G w y Z d kc ks q lv (v :: u :: v :: u :: st) m) : G w y Z d kc ks pc lv (v :: u :: st) m := by
  subst hq
  intro ok p e R s mi args below meth c H locs cells slots Q ls cx hl
  exact lv_dup2_11 (cx_x cx) (cx_b cx) hd hc hc2 (k ok cx hl)
theorem rf_cat (r : Option Nat) : (va_rf r).category = 1 := by cases r <;> rfl
theorem g_if_eq {x : Int32} {off : Int} {tgt : Nat} (hd : decode y.2.1 pc = .ok (.ifCond .eq off, 3)) (ht : (pc : Int) + off = (tgt : Int)) (hq : pc + 3 = q) (kt : x = 0 → G w y Z d kc ks tgt lv st m) (kf : ¬ x = 0 → G w y Z d kc ks q lv st m) : G w y Z d kc ks pc lv (.int x :: st) m := by
  subst hq
  intro ok p e R s mi args below meth c H locs cells slots Q ls cx hl
  exact lv_if_eq (cx_x cx) (cx_b cx) hd ht (fun h => kt h ok cx hl) (fun h => kf h ok cx hl)
theorem g_icmp_eq {x z : Int32} {off : Int} {tgt : Nat} (hd : decode y.2.1 pc = .ok (.if_icmp .eq off, 3)) (ht : (pc : Int) + off = (tgt : Int)) (hq : pc + 3 = q) (kt : x = z → G w y Z d kc ks tgt lv st m) (kf : ¬ x = z → G w y Z d kc ks q lv st m) : G w y Z d kc ks pc lv (.int z :: .int x :: st) m := by
  subst hq
  intro ok p e R s mi args below meth c H locs cells slots Q ls cx hl
  exact lv_icmp_eq (cx_x cx) (cx_b cx) hd ht (fun h => kt h ok cx hl) (fun h => kf h ok cx hl)
theorem g_icmpn_eq {a b : Nat} {off : Int} {tgt : Nat} (hd : decode y.2.1 pc = .ok (.if_icmp .eq off, 3)) (ht : (pc : Int) + off = (tgt : Int)) (hq : pc + 3 = q) (ha : a < 2 ^ 31) (hb : b < 2 ^ 31) (kt : a = b → G w y Z d kc ks tgt lv st m) (kf : a ≠ b → G w y Z d kc ks q lv st m) : G w y Z d kc ks pc lv (.int (nI b) :: .int (nI a) :: st) m :=
  g_icmp_eq hd ht hq (fun h => kt ((nI_eq ha hb).mp h)) (fun h => kf (fun e => h ((nI_eq ha hb).mpr e)))
theorem g_ifn_eq {a : Nat} {off : Int} {tgt : Nat} (hd : decode y.2.1 pc = .ok (.ifCond .eq off, 3)) (ht : (pc : Int) + off = (tgt : Int)) (hq : pc + 3 = q) (ha : a < 2 ^ 31) (kt : a = 0 → G w y Z d kc ks tgt lv st m) (kf : a ≠ 0 → G w y Z d kc ks q lv st m) : G w y Z d kc ks pc lv (.int (nI a) :: st) m :=
  g_if_eq hd ht hq (fun h => kt ((nI_eq ha (by omega)).mp h)) (fun h => kf (fun e => h (by rw [e]; rfl)))
theorem g_if_ne {x : Int32} {off : Int} {tgt : Nat} (hd : decode y.2.1 pc = .ok (.ifCond .ne off, 3)) (ht : (pc : Int) + off = (tgt : Int)) (hq : pc + 3 = q) (kt : ¬ x = 0 → G w y Z d kc ks tgt lv st m) (kf : x = 0 → G w y Z d kc ks q lv st m) : G w y Z d kc ks pc lv (.int x :: st) m := by
  subst hq
  intro ok p e R s mi args below meth c H locs cells slots Q ls cx hl
  exact lv_if_ne (cx_x cx) (cx_b cx) hd ht (fun h => kt h ok cx hl) (fun h => kf h ok cx hl)
theorem g_icmp_ne {x z : Int32} {off : Int} {tgt : Nat} (hd : decode y.2.1 pc = .ok (.if_icmp .ne off, 3)) (ht : (pc : Int) + off = (tgt : Int)) (hq : pc + 3 = q) (kt : ¬ x = z → G w y Z d kc ks tgt lv st m) (kf : x = z → G w y Z d kc ks q lv st m) : G w y Z d kc ks pc lv (.int z :: .int x :: st) m := by
  subst hq
  intro ok p e R s mi args below meth c H locs cells slots Q ls cx hl
  exact lv_icmp_ne (cx_x cx) (cx_b cx) hd ht (fun h => kt h ok cx hl) (fun h => kf h ok cx hl)
theorem g_icmpn_ne {a b : Nat} {off : Int} {tgt : Nat} (hd : decode y.2.1 pc = .ok (.if_icmp .ne off, 3)) (ht : (pc : Int) + off = (tgt : Int)) (hq : pc + 3 = q) (ha : a < 2 ^ 31) (hb : b < 2 ^ 31) (kt : a ≠ b → G w y Z d kc ks tgt lv st m) (kf : a = b → G w y Z d kc ks q lv st m) : G w y Z d kc ks pc lv (.int (nI b) :: .int (nI a) :: st) m :=
  g_icmp_ne hd ht hq (fun h => kt (fun e => h ((nI_eq ha hb).mpr e))) (fun h => kf ((nI_eq ha hb).mp h))
theorem g_ifn_ne {a : Nat} {off : Int} {tgt : Nat} (hd : decode y.2.1 pc = .ok (.ifCond .ne off, 3)) (ht : (pc : Int) + off = (tgt : Int)) (hq : pc + 3 = q) (ha : a < 2 ^ 31) (kt : a ≠ 0 → G w y Z d kc ks tgt lv st m) (kf : a = 0 → G w y Z d kc ks q lv st m) : G w y Z d kc ks pc lv (.int (nI a) :: st) m :=
  g_if_ne hd ht hq (fun h => kt (fun e => h (by rw [e]; rfl))) (fun h => kf ((nI_eq ha (by omega)).mp h))
theorem g_if_lt {x : Int32} {off : Int} {tgt : Nat} (hd : decode y.2.1 pc = .ok (.ifCond .lt off, 3)) (ht : (pc : Int) + off = (tgt : Int)) (hq : pc + 3 = q) (kt : x < 0 → G w y Z d kc ks tgt lv st m) (kf : ¬ x < 0 → G w y Z d kc ks q lv st m) : G w y Z d kc ks pc lv (.int x :: st) m := by
  subst hq
  intro ok p e R s mi args below meth c H locs cells slots Q ls cx hl
  exact lv_if_lt (cx_x cx) (cx_b cx) hd ht (fun h => kt h ok cx hl) (fun h => kf h ok cx hl)
theorem g_icmp_lt {x z : Int32} {off : Int} {tgt : Nat} (hd : decode y.2.1 pc = .ok (.if_icmp .lt off, 3)) (ht : (pc : Int) + off = (tgt : Int)) (hq : pc + 3 = q) (kt : x < z → G w y Z d kc ks tgt lv st m) (kf : ¬ x < z → G w y Z d kc ks q lv st m) : G w y Z d kc ks pc lv (.int z :: .int x :: st) m := by
  subst hq
  intro ok p e R s mi args below meth c H locs cells slots Q ls cx hl
  exact lv_icmp_lt (cx_x cx) (cx_b cx) hd ht (fun h => kt h ok cx hl) (fun h => kf h ok cx hl)
theorem g_icmpn_lt {a b : Nat} {off : Int} {tgt : Nat} (hd : decode y.2.1 pc = .ok (.if_icmp .lt off, 3)) (ht : (pc : Int) + off = (tgt : Int)) (hq : pc + 3 = q) (ha : a < 2 ^ 31) (hb : b < 2 ^ 31) (kt : a < b → G w y Z d kc ks tgt lv st m) (kf : b ≤ a → G w y Z d kc ks q lv st m) : G w y Z d kc ks pc lv (.int (nI b) :: .int (nI a) :: st) m :=
  g_icmp_lt hd ht hq (fun h => kt ((nI_ltI ha hb).mp h)) (fun h => kf (Nat.le_of_not_lt (fun e => h ((nI_ltI ha hb).mpr e))))
theorem g_if_ge {x : Int32} {off : Int} {tgt : Nat} (hd : decode y.2.1 pc = .ok (.ifCond .ge off, 3)) (ht : (pc : Int) + off = (tgt : Int)) (hq : pc + 3 = q) (kt : 0 ≤ x → G w y Z d kc ks tgt lv st m) (kf : ¬ 0 ≤ x → G w y Z d kc ks q lv st m) : G w y Z d kc ks pc lv (.int x :: st) m := by
  subst hq
  intro ok p e R s mi args below meth c H locs cells slots Q ls cx hl
  exact lv_if_ge (cx_x cx) (cx_b cx) hd ht (fun h => kt h ok cx hl) (fun h => kf h ok cx hl)
theorem g_icmp_ge {x z : Int32} {off : Int} {tgt : Nat} (hd : decode y.2.1 pc = .ok (.if_icmp .ge off, 3)) (ht : (pc : Int) + off = (tgt : Int)) (hq : pc + 3 = q) (kt : z ≤ x → G w y Z d kc ks tgt lv st m) (kf : ¬ z ≤ x → G w y Z d kc ks q lv st m) : G w y Z d kc ks pc lv (.int z :: .int x :: st) m := by
  subst hq
  intro ok p e R s mi args below meth c H locs cells slots Q ls cx hl
  exact lv_icmp_ge (cx_x cx) (cx_b cx) hd ht (fun h => kt h ok cx hl) (fun h => kf h ok cx hl)
theorem g_icmpn_ge {a b : Nat} {off : Int} {tgt : Nat} (hd : decode y.2.1 pc = .ok (.if_icmp .ge off, 3)) (ht : (pc : Int) + off = (tgt : Int)) (hq : pc + 3 = q) (ha : a < 2 ^ 31) (hb : b < 2 ^ 31) (kt : b ≤ a → G w y Z d kc ks tgt lv st m) (kf : a < b → G w y Z d kc ks q lv st m) : G w y Z d kc ks pc lv (.int (nI b) :: .int (nI a) :: st) m :=
  g_icmp_ge hd ht hq (fun h => kt ((nI_leI hb ha).mp h)) (fun h => kf (Nat.lt_of_not_le (fun e => h ((nI_leI hb ha).mpr e))))
theorem g_if_gt {x : Int32} {off : Int} {tgt : Nat} (hd : decode y.2.1 pc = .ok (.ifCond .gt off, 3)) (ht : (pc : Int) + off = (tgt : Int)) (hq : pc + 3 = q) (kt : 0 < x → G w y Z d kc ks tgt lv st m) (kf : ¬ 0 < x → G w y Z d kc ks q lv st m) : G w y Z d kc ks pc lv (.int x :: st) m := by
  subst hq
  intro ok p e R s mi args below meth c H locs cells slots Q ls cx hl
  exact lv_if_gt (cx_x cx) (cx_b cx) hd ht (fun h => kt h ok cx hl) (fun h => kf h ok cx hl)
theorem g_icmp_gt {x z : Int32} {off : Int} {tgt : Nat} (hd : decode y.2.1 pc = .ok (.if_icmp .gt off, 3)) (ht : (pc : Int) + off = (tgt : Int)) (hq : pc + 3 = q) (kt : z < x → G w y Z d kc ks tgt lv st m) (kf : ¬ z < x → G w y Z d kc ks q lv st m) : G w y Z d kc ks pc lv (.int z :: .int x :: st) m := by
  subst hq
  intro ok p e R s mi args below meth c H locs cells slots Q ls cx hl
  exact lv_icmp_gt (cx_x cx) (cx_b cx) hd ht (fun h => kt h ok cx hl) (fun h => kf h ok cx hl)
theorem g_icmpn_gt {a b : Nat} {off : Int} {tgt : Nat} (hd : decode y.2.1 pc = .ok (.if_icmp .gt off, 3)) (ht : (pc : Int) + off = (tgt : Int)) (hq : pc + 3 = q) (ha : a < 2 ^ 31) (hb : b < 2 ^ 31) (kt : b < a → G w y Z d kc ks tgt lv st m) (kf : a ≤ b → G w y Z d kc ks q lv st m) : G w y Z d kc ks pc lv (.int (nI b) :: .int (nI a) :: st) m :=
  g_icmp_gt hd ht hq (fun h => kt ((nI_ltI hb ha).mp h)) (fun h => kf (Nat.le_of_not_lt (fun e => h ((nI_ltI hb ha).mpr e))))
theorem g_ifn_gt {a : Nat} {off : Int} {tgt : Nat} (hd : decode y.2.1 pc = .ok (.ifCond .gt off, 3)) (ht : (pc : Int) + off = (tgt : Int)) (hq : pc + 3 = q) (ha : a < 2 ^ 31) (kt : 0 < a → G w y Z d kc ks tgt lv st m) (kf : a = 0 → G w y Z d kc ks q lv st m) : G w y Z d kc ks pc lv (.int (nI a) :: st) m :=
  g_if_gt hd ht hq (fun h => kt ((nI_ltI (by omega) ha).mp h)) (fun h => kf (Nat.eq_zero_of_not_pos (fun e => h ((nI_ltI (a := 0) (by omega) ha).mpr e))))
theorem g_if_le {x : Int32} {off : Int} {tgt : Nat} (hd : decode y.2.1 pc = .ok (.ifCond .le off, 3)) (ht : (pc : Int) + off = (tgt : Int)) (hq : pc + 3 = q) (kt : x ≤ 0 → G w y Z d kc ks tgt lv st m) (kf : ¬ x ≤ 0 → G w y Z d kc ks q lv st m) : G w y Z d kc ks pc lv (.int x :: st) m := by
  subst hq
  intro ok p e R s mi args below meth c H locs cells slots Q ls cx hl
  exact lv_if_le (cx_x cx) (cx_b cx) hd ht (fun h => kt h ok cx hl) (fun h => kf h ok cx hl)
theorem g_icmp_le {x z : Int32} {off : Int} {tgt : Nat} (hd : decode y.2.1 pc = .ok (.if_icmp .le off, 3)) (ht : (pc : Int) + off = (tgt : Int)) (hq : pc + 3 = q) (kt : x ≤ z → G w y Z d kc ks tgt lv st m) (kf : ¬ x ≤ z → G w y Z d kc ks q lv st m) : G w y Z d kc ks pc lv (.int z :: .int x :: st) m := by
  subst hq
  intro ok p e R s mi args below meth c H locs cells slots Q ls cx hl
  exact lv_icmp_le (cx_x cx) (cx_b cx) hd ht (fun h => kt h ok cx hl) (fun h => kf h ok cx hl)
theorem g_icmpn_le {a b : Nat} {off : Int} {tgt : Nat} (hd : decode y.2.1 pc = .ok (.if_icmp .le off, 3)) (ht : (pc : Int) + off = (tgt : Int)) (hq : pc + 3 = q) (ha : a < 2 ^ 31) (hb : b < 2 ^ 31) (kt : a ≤ b → G w y Z d kc ks tgt lv st m) (kf : b < a → G w y Z d kc ks q lv st m) : G w y Z d kc ks pc lv (.int (nI b) :: .int (nI a) :: st) m :=
  g_icmp_le hd ht hq (fun h => kt ((nI_leI ha hb).mp h)) (fun h => kf (Nat.lt_of_not_le (fun e => h ((nI_leI ha hb).mpr e))))
theorem g_ifn_le {a : Nat} {off : Int} {tgt : Nat} (hd : decode y.2.1 pc = .ok (.ifCond .le off, 3)) (ht : (pc : Int) + off = (tgt : Int)) (hq : pc + 3 = q) (ha : a < 2 ^ 31) (kt : a = 0 → G w y Z d kc ks tgt lv st m) (kf : 0 < a → G w y Z d kc ks q lv st m) : G w y Z d kc ks pc lv (.int (nI a) :: st) m :=
  g_if_le hd ht hq (fun h => kt (by have := (nI_leI (b := 0) ha (by omega)).mp h; omega)) (fun h => kf (Nat.lt_of_not_le (fun e => h ((nI_leI (b := 0) ha (by omega)).mpr (by omega)))))
/-- a truth value as the machine has it -/
def xB (b : Bool) : Int32 := if b = true then 1 else 0
theorem xB_0 (b : Bool) : xB b = 0 ↔ b = false := by cases b <;> decide
theorem xB_n (b : Bool) : ¬ xB b = 0 ↔ b = true := by cases b <;> decide
theorem g_ifB_eq {b : Bool} {off : Int} {tgt : Nat} (hd : decode y.2.1 pc = .ok (.ifCond .eq off, 3)) (ht : (pc : Int) + off = (tgt : Int)) (hq : pc + 3 = q) (kt : b = false → G w y Z d kc ks tgt lv st m) (kf : b = true → G w y Z d kc ks q lv st m) : G w y Z d kc ks pc lv (.int (xB b) :: st) m :=
  g_if_eq hd ht hq (fun h => kt ((xB_0 b).mp h)) (fun h => kf ((xB_n b).mp h))
theorem g_ifB_ne {b : Bool} {off : Int} {tgt : Nat} (hd : decode y.2.1 pc = .ok (.ifCond .ne off, 3)) (ht : (pc : Int) + off = (tgt : Int)) (hq : pc + 3 = q) (kt : b = true → G w y Z d kc ks tgt lv st m) (kf : b = false → G w y Z d kc ks q lv st m) : G w y Z d kc ks pc lv (.int (xB b) :: st) m :=
  g_if_ne hd ht hq (fun h => kt ((xB_n b).mp h)) (fun h => kf ((xB_0 b).mp h))
theorem g_goto {off : Int} {tgt : Nat} (hd : decode y.2.1 pc = .ok (.goto off, 3)) (ht : (pc : Int) + off = (tgt : Int)) (k : G w y Z d kc ks tgt lv st m) : G w y Z d kc ks pc lv st m := by
  intro ok p e R s mi args below meth c H locs cells slots Q ls cx hl
  exact lv_goto (cx_x cx) (cx_b cx) hd ht (k ok cx hl)
theorem g_ifnull {x : Nat} {off : Int} (hd : decode y.2.1 pc = .ok (.ifnull off, 3)) (hq : pc + 3 = q) (k : G w y Z d kc ks q lv st m) : G w y Z d kc ks pc lv (.ref x :: st) m := by
  subst hq
  intro ok p e R s mi args below meth c H locs cells slots Q ls cx hl
  exact lv_ifnull (cx_x cx) (cx_b cx) hd (k ok cx hl)
theorem g_ifnullN {off : Int} {tgt : Nat} (hd : decode y.2.1 pc = .ok (.ifnull off, 3)) (ht : (pc : Int) + off = (tgt : Int)) (k : G w y Z d kc ks tgt lv st m) : G w y Z d kc ks pc lv (.null :: st) m := by
  intro ok p e R s mi args below meth c H locs cells slots Q ls cx hl
  exact lv_ifnullN (cx_x cx) (cx_b cx) hd ht (k ok cx hl)
theorem g_ifnonnull {x : Nat} {off : Int} {tgt : Nat} (hd : decode y.2.1 pc = .ok (.ifnonnull off, 3)) (ht : (pc : Int) + off = (tgt : Int)) (k : G w y Z d kc ks tgt lv st m) : G w y Z d kc ks pc lv (.ref x :: st) m := by
  intro ok p e R s mi args below meth c H locs cells slots Q ls cx hl
  exact lv_ifnonnull (cx_x cx) (cx_b cx) hd ht (k ok cx hl)
theorem g_ifnonnullN {off : Int} (hd : decode y.2.1 pc = .ok (.ifnonnull off, 3)) (hq : pc + 3 = q) (k : G w y Z d kc ks q lv st m) : G w y Z d kc ks pc lv (.null :: st) m := by
  subst hq
  intro ok p e R s mi args below meth c H locs cells slots Q ls cx hl
  exact lv_ifnonnullN (cx_x cx) (cx_b cx) hd (k ok cx hl)
theorem g_acmp_eq {ra rb : Option Nat} {off : Int} {tgt : Nat} (hd : decode y.2.1 pc = .ok (.if_acmp .eq off, 3)) (ht : (pc : Int) + off = (tgt : Int)) (hq : pc + 3 = q) (kt : ra = rb → G w y Z d kc ks tgt lv st m) (kf : ¬ ra = rb → G w y Z d kc ks q lv st m) : G w y Z d kc ks pc lv (va_rf rb :: va_rf ra :: st) m := by
  subst hq
  intro ok p e R s mi args below meth c H locs cells slots Q ls cx hl
  exact lv_acmp_eq (cx_x cx) (cx_b cx) hd ht (fun h => kt h ok cx hl) (fun h => kf h ok cx hl)
theorem g_acmp_ne {ra rb : Option Nat} {off : Int} {tgt : Nat} (hd : decode y.2.1 pc = .ok (.if_acmp .ne off, 3)) (ht : (pc : Int) + off = (tgt : Int)) (hq : pc + 3 = q) (kt : ¬ ra = rb → G w y Z d kc ks tgt lv st m) (kf : ra = rb → G w y Z d kc ks q lv st m) : G w y Z d kc ks pc lv (va_rf rb :: va_rf ra :: st) m := by
  subst hq
  intro ok p e R s mi args below meth c H locs cells slots Q ls cx hl
  exact lv_acmp_ne (cx_x cx) (cx_b cx) hd ht (fun h => kt h ok cx hl) (fun h => kf h ok cx hl)
theorem g_acmp_eqQ {a b : Nat} {off : Int} {tgt : Nat} (hd : decode y.2.1 pc = .ok (.if_acmp .eq off, 3)) (ht : (pc : Int) + off = (tgt : Int)) (hq : pc + 3 = q) (kt : a = b → G w y Z d kc ks tgt lv st m) (kf : ¬ a = b → G w y Z d kc ks q lv st m) : G w y Z d kc ks pc lv (.ref b :: .ref a :: st) m :=
  g_acmp_eq (ra := some a) (rb := some b) hd ht hq (fun h => kt (Option.some.inj h)) (fun h => kf (fun e => h (by rw [e])))
theorem g_acmp_neQ {a b : Nat} {off : Int} {tgt : Nat} (hd : decode y.2.1 pc = .ok (.if_acmp .ne off, 3)) (ht : (pc : Int) + off = (tgt : Int)) (hq : pc + 3 = q) (kt : ¬ a = b → G w y Z d kc ks tgt lv st m) (kf : a = b → G w y Z d kc ks q lv st m) : G w y Z d kc ks pc lv (.ref b :: .ref a :: st) m :=
  g_acmp_ne (ra := some a) (rb := some b) hd ht hq (fun h => kt (fun e => h (by rw [e]))) (fun h => kf (Option.some.inj h))
theorem g_tswIn {dflt lo hi : Int} {offs : Array Int} {len : Nat} {x : Int32} {off : Int} {tgt : Nat} (hd : decode y.2.1 pc = .ok (.tableswitch dflt lo hi offs, len)) (h1 : ¬ x.toInt < lo) (h2 : ¬ hi < x.toInt) (ho : offs[(x.toInt - lo).toNat]? = some off) (ht : (pc : Int) + off = (tgt : Int)) (k : G w y Z d kc ks tgt lv st m) : G w y Z d kc ks pc lv (.int x :: st) m := by
  intro ok p e R s mi args below meth c H locs cells slots Q ls cx hl
  exact lv_tableIn (cx_x cx) (cx_b cx) hd h1 h2 ho ht (k ok cx hl)
theorem g_tswOut {dflt lo hi : Int} {offs : Array Int} {len : Nat} {x : Int32} {tgt : Nat} (hd : decode y.2.1 pc = .ok (.tableswitch dflt lo hi offs, len)) (h : x.toInt < lo ∨ hi < x.toInt) (ht : (pc : Int) + dflt = (tgt : Int)) (k : G w y Z d kc ks tgt lv st m) : G w y Z d kc ks pc lv (.int x :: st) m := by
  intro ok p e R s mi args below meth c H locs cells slots Q ls cx hl
  exact lv_tableOut (cx_x cx) (cx_b cx) hd h ht (k ok cx hl)
/-- the goal with another heap map, other locals, less room -/
theorem g_lv {lv' : List (Option Value)} (hs : ∀ i v, xnth lv' i = some v → xnth lv i = some v) (k : G w y Z d kc ks pc lv' st m) : G w y Z d kc ks pc lv st m := by
  intro ok p e R s mi args below meth c H locs cells slots Q ls cx hl
  exact k ok cx (xlv_mono hl hs)
theorem g_room {kc' ks' : Nat} (h1 : kc' ≤ kc) (h2 : ks' ≤ ks) (k : G w y Z d kc' ks' pc lv st m) : G w y Z d kc ks pc lv st m := by
  intro ok p e R s mi args below meth c H locs cells slots Q ls cx hl
  exact k ok (cx_to cx (by have := cx_kc cx; omega) (by have := cx_ks cx; omega) (cx_rep cx) (cx_S cx)) hl
/-- a smaller map says less -/
theorem g_map {m' : XM} (hm : ∀ a e, m' a = some e → m a = some e) (k : G w y Z d kc ks pc lv st m') : G w y Z d kc ks pc lv st m := by
  intro ok p e R s mi args below meth c H locs cells slots Q ls cx hl
  exact k ok (cx_to cx (cx_kc cx) (cx_ks cx) ⟨(cx_rep cx).1, (cx_rep cx).2.1, fun a e h => (cx_rep cx).2.2 a e (hm a e h)⟩ (cx_S cx)) hl
end RULES
section ENDS
variable {w : XW} {y : XY} {P : Option Value → XM → Prop} {X : String → XM → Prop} {d kc ks pc : Nat} {lv : List (Option Value)} {m : XM}
theorem g_ireturn {v : Int32} (hd : decode y.2.1 pc = .ok (.ireturn, 1)) (hr : y.2.2.2.1 = some .int) (hP : P (some (.int v)) m) : G w y (xZ w P X) d kc ks pc lv [.int v] m := by
  intro ok p e R s mi args below meth c H locs cells slots Q ls cx hl
  rw [cx_q cx]
  refine W.widen (k := R.cells) (n := R.slots) (by have := cx_kc cx; omega) (by have := cx_ks cx; omega) ?_
  exact vx_ret (W.iret (cx_x cx) (cx_b cx) ((cx_ret cx).trans hr) (fun t ht hW => ⟨_, m, rfl, hP, by rw [ht]; exact cx_rep cx⟩) (cx_S cx).2.2 hd (cx_lk cx))
theorem g_zreturn {v : Int32} {ty : FieldType} (hd : decode y.2.1 pc = .ok (.ireturn, 1)) (hr : y.2.2.2.1 = some ty) (hn : narrow ty (.int v) = .int v) (hP : P (some (.int v)) m) : G w y (xZ w P X) d kc ks pc lv [.int v] m := by
  intro ok p e R s mi args below meth c H locs cells slots Q ls cx hl
  rw [cx_q cx]
  refine W.widen (k := R.cells) (n := R.slots) (by have := cx_kc cx; omega) (by have := cx_ks cx; omega) ?_
  exact vx_ret (W.zret (cx_x cx) (cx_b cx) ((cx_ret cx).trans hr) hn (fun t ht hW => ⟨_, m, rfl, hP, by rw [ht]; exact cx_rep cx⟩) (cx_S cx).2.2 hd (cx_lk cx))
theorem xB_nar (b : Bool) : narrow .boolean (.int (xB b)) = .int (xB b) := by cases b <;> rfl
theorem g_breturn {b : Bool} (hd : decode y.2.1 pc = .ok (.ireturn, 1)) (hr : y.2.2.2.1 = some .boolean) (hP : P (some (.int (xB b))) m) : G w y (xZ w P X) d kc ks pc lv [.int (xB b)] m := g_zreturn hd hr (xB_nar b) hP
theorem g_lreturn {v : Int64} (hd : decode y.2.1 pc = .ok (.lreturn, 1)) (hr : y.2.2.2.1 = some .long) (hP : P (some (.long v)) m) : G w y (xZ w P X) d kc ks pc lv [.long v] m := by
  intro ok p e R s mi args below meth c H locs cells slots Q ls cx hl
  rw [cx_q cx]
  refine W.widen (k := R.cells) (n := R.slots) (by have := cx_kc cx; omega) (by have := cx_ks cx; omega) ?_
  exact vx_ret (W.lret (cx_x cx) (cx_b cx) ((cx_ret cx).trans hr) (fun t ht hW => ⟨_, m, rfl, hP, by rw [ht]; exact cx_rep cx⟩) (cx_S cx).2.2 hd (cx_lk cx))
theorem g_return (hd : decode y.2.1 pc = .ok (.return_, 1)) (hr : y.2.2.2.1 = none) (hP : P none m) : G w y (xZ w P X) d kc ks pc lv [] m := by
  intro ok p e R s mi args below meth c H locs cells slots Q ls cx hl
  rw [cx_q cx]
  refine W.widen (k := R.cells) (n := R.slots) (by have := cx_kc cx; omega) (by have := cx_ks cx; omega) ?_
  exact vx_ret (W.vret (cx_x cx) (cx_b cx) ((cx_ret cx).trans hr) (fun t ht hW => ⟨_, m, rfl, hP, by rw [ht]; exact cx_rep cx⟩) (cx_S cx).2.2 hd (cx_lk cx))
theorem g_areturn {v : Value} {rt : FieldType} (hd : decode y.2.1 pc = .ok (.areturn, 1)) (hr : y.2.2.2.1 = some rt) (hrt : (∃ n, rt = .object n) ∨ ∃ t, rt = .array t) (hv : v = .null ∨ ∃ a, v = .ref a) (hP : P (some v) m) : G w y (xZ w P X) d kc ks pc lv [v] m := by
  intro ok p e R s mi args below meth c H locs cells slots Q ls cx hl
  rw [cx_q cx]
  refine W.widen (k := R.cells) (n := R.slots) (by have := cx_kc cx; omega) (by have := cx_ks cx; omega) ?_
  exact vx_ret (W.aret (cx_x cx) (cx_b cx) ((cx_ret cx).trans hr) hrt hv (fun t ht hW => ⟨_, m, rfl, hP, by rw [ht]; exact cx_rep cx⟩) (cx_S cx).2.2 hd (cx_lk cx))
theorem rf_is (r : Option Nat) : va_rf r = .null ∨ ∃ a, va_rf r = .ref a := by cases r with
  | none => exact Or.inl rfl
  | some a => exact Or.inr ⟨a, rfl⟩
/-- the locals at a method's entry -/
def xent : List Value → List (Option Value)
  | [] => []
  | v :: vs => if v.category = 2 then some v :: none :: xent vs else some v :: xent vs
theorem xent_args (as : List Value) (n i j : Nat) (v : Value) (h : xnth (xent as ++ List.replicate n none) i = some v) : (j + i, v) ∈ lv_args j as := by
  induction as generalizing i j with
  | nil =>
    exfalso
    simp only [xent, List.nil_append] at h
    induction n generalizing i with
    | zero => simp [xnth] at h
    | succ n ih => cases i with
      | zero => simp [List.replicate, xnth] at h
      | succ i => exact ih i (by simpa [List.replicate, xnth] using h)
  | cons a as ih =>
    rw [lv_args]
    by_cases hc : a.category = 2
    · simp only [xent, if_pos hc] at h ⊢
      match i, h with
      | 0, h => simp [xnth] at h; subst h; simp
      | 1, h => simp [xnth] at h
      | i + 2, h =>
        have := ih i (j + 2) (by simpa [xnth] using h)
        rw [show j + (i + 2) = j + 2 + i by omega]
        exact List.mem_cons_of_mem _ this
    · simp only [xent, if_neg hc] at h ⊢
      match i, h with
      | 0, h => simp [xnth] at h; subst h; simp
      | i + 1, h =>
        have := ih i (j + 1) (by simpa [xnth] using h)
        rw [show j + (i + 1) = j + 1 + i by omega]
        exact List.mem_cons_of_mem _ this
theorem ct_intro {as : List Value} (n : Nat) (hpl : plainName y.1.cls = true) (hh : y.2.2.2.2 = []) (hlen : (lg_sl as).length ≤ y.2.2.1) (hlv : xent as ++ List.replicate n none = lv) (k : G w y (xZ w P X) d kc ks 0 lv [] m) : CT w y d kc ks as m P X := by
  intro ok
  refine vx_ofW (cc := y.2.1) (maxL := y.2.2.1) (ret := y.2.2.2.1) hpl rfl ?_
  intro p e s mi args below meth c s₁ B hml hex hv
  obtain ⟨rfl, hW, hrep⟩ := hv
  have hts := atoms_spec (ws := ws_ y.1 y.2.1 y.2.2.1 y.2.2.2.1) B.pre
  have hx0 : c.exceptionTable.toList = tableOf y.2.2.2.2 := by rw [hh]; exact List.eq_nil_iff_forall_not_mem.mpr (fun x hx => hex x hx)
  have cx : Cx w y (xZ w P X) d kc ks m p (xRm d kc ks) s mi as.toArray below meth c s.heap [] 0 0 (vx_MQ below (xQc w P) (xXC w X) as.toArray s kc ks (xFree w)) :=
    ⟨B.exec, B.bytes, B.returns, B.notSynchronized, hml, B.named, fun x h => hts x (List.mem_cons_of_mem _ h), hW, (name_of_methodNamed B.named B.method).1, hx0, Nat.le_refl _, Nat.le_refl _, Nat.le_of_eq (Nat.zero_add _), Nat.le_of_eq (Nat.zero_add _), hrep, va_S.rf, hrep.2.1, hrep.1, rfl⟩
  have hl := lv_entry as (n := y.2.2.1) hlen
  rw [lg_entry_eq]
  refine k ok cx ⟨hl.1, hl.2.1, fun q hq => hl.2.2 q ?_⟩
  obtain ⟨i, h1, h2⟩ := (xal_mem _ _ _).mp hq
  subst hlv
  have := xent_args as n i 0 q.2 h2
  rw [show q = (0 + i, q.2) from Prod.ext h1 rfl]
  exact this
end ENDS
