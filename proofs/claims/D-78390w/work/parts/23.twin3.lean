/-! TWIN: the scanning methods over a page's list -/
set_option maxRecDepth 100000
def rowEndL (L : List Int32) (g : Nat) : Nat := rowEndF (lf L) L.length 0 g
def rowStartL (L : List Int32) (g : Nat) : Nat := rowStartF (lf L) 0 g
def endOfL (L : List Int32) (g : Nat) : Nat := endOfF (lf L) L.length 0 g
def beginOfL (L : List Int32) (g : Nat) : Nat := beginOfF (lf L) 0 g - 1
def itemEndL (L : List Int32) (g : Nat) : Nat := itemEndF (lf L) L.length g
def itemStartL (L : List Int32) (g : Nat) : Nat := itemStartF (lf L) g
def allL (L : List Int32) (a b : Nat) : Nat := allF (lf L) b 0 a
/-- every begin has its end, every end or border its begin -/
def Bal (L : List Int32) : Prop := (∀ j, j < L.length → isBg (lf L j) = true → endOfF (lf L) L.length 0 (j + 1) < L.length) ∧ ∀ j, j < L.length → (lf L j = -11 ∨ lf L j = -10) → beginOfF (lf L) 0 j ≠ 0
theorem endOf_ge (f : Nat → Int32) (n : Nat) (dp : Int32) (k : Nat) : k ≤ endOfF f n dp k := by
  fun_induction endOfF f n dp k with
  | case1 dp k h1 h2 ih => omega
  | case2 dp k h1 h2 h3 => omega
  | case3 dp k h1 h2 h3 ih => omega
  | case4 dp k h1 => omega
theorem itemEnd_gt (f : Nat → Int32) (n k : Nat) : k < itemEndF f n k := by
  unfold itemEndF
  split
  · have := endOf_ge f n 0 (k + 1); omega
  · omega
theorem rowEnd_le (f : Nat → Int32) (n : Nat) (dp : Int32) (k : Nat) (h : k ≤ n) : k ≤ rowEndF f n dp k ∧ rowEndF f n dp k ≤ n := by
  fun_induction rowEndF f n dp k with
  | case1 dp k h1 h2 ih => have := ih (by omega); omega
  | case2 dp k h1 h2 h3 => omega
  | case3 dp k h1 h2 h3 h4 => omega
  | case4 dp k h1 h2 h3 h4 ih => have := ih (by omega); omega
  | case5 dp k h1 => omega
theorem rowStart_le (f : Nat → Int32) (dp : Int32) (k : Nat) : rowStartF f dp k ≤ k := by
  induction k generalizing dp with
  | zero => exact Nat.le_refl _
  | succ k ih =>
    rw [rowStartF]
    repeat' split
    all_goals first | omega | exact Nat.le_trans (ih _) (by omega)
theorem beginOf_le (f : Nat → Int32) (dp : Int32) (k : Nat) : beginOfF f dp k ≤ k := by
  induction k generalizing dp with
  | zero => exact Nat.le_refl _
  | succ k ih =>
    rw [beginOfF]
    repeat' split
    all_goals first | omega | exact Nat.le_trans (ih _) (by omega)
theorem all_ub (f : Nat → Int32) (to c k : Nat) : allF f to c k ≤ c + (to - k) := by
  fun_induction allF f to c k with
  | case1 c k h1 ih =>
    have : oneF (f k) ≤ 1 := by
      unfold oneF
      split
      · omega
      · split <;> omega
    omega
  | case2 c k h1 => omega
def itemsF (f : Nat → Int32) (n to c k : Nat) : Nat := if k < to then itemsF f n to (c + 1) (itemEndF f n k) else c
termination_by to - k
decreasing_by have := itemEnd_gt f n k; omega
def itemsL (L : List Int32) (a b : Nat) : Nat := itemsF (lf L) L.length b 0 a
section TW3
variable {w : XW} {m : XM} {d : Nat} {r : Nat} {f : Nat → Int32} {L : List Int32}
theorem p_rowEnd {g : Nat} (hd : 2 ≤ d) (hm : m r = some (iA 0 184 f)) (hp : Pl f L) (hg : g ≤ L.length) : CT w MX5_rowEnd d 0 0 [.ref r, .int (nI g)] m (xRet (some (.int (nI (rowEndL L g)))) m) xN := by
  have := c_rowEnd (w := w) hd hm hp.2.1 hp.2.2 hg
  rwa [rowEnd_c hp.1] at this
theorem p_rowStart {g : Nat} (hd : 2 ≤ d) (hm : m r = some (iA 0 184 f)) (hp : Pl f L) (hg : g ≤ L.length) : CT w MX5_rowStart d 0 0 [.ref r, .int (nI g)] m (xRet (some (.int (nI (rowStartL L g)))) m) xN := by
  have := c_rowStart (w := w) hd hm (by omega) (g := g) (by have := hp.2.2; omega)
  rwa [rowStart_c 0 g (fun j hj => hp.1 j (by omega))] at this
theorem p_endOf {g : Nat} (hd : 2 ≤ d) (hm : m r = some (iA 0 184 f)) (hp : Pl f L) (hg : g ≤ L.length) (he : endOfL L g < L.length) : CT w MX5_endOf d 0 0 [.ref r, .int (nI g)] m (xRet (some (.int (nI (endOfL L g)))) m) xN := by
  have := c_endOf (w := w) (n := L.length) hd hm (by omega) (by have := hp.2.2; omega) hg (by rw [endOf_c hp.1]; exact he)
  rwa [endOf_c hp.1] at this
theorem p_beginOf {g : Nat} (hd : 2 ≤ d) (hm : m r = some (iA 0 184 f)) (hp : Pl f L) (hg : g ≤ L.length) (h0 : beginOfF (lf L) 0 g ≠ 0) : CT w MX5_beginOf d 0 0 [.ref r, .int (nI g)] m (xRet (some (.int (nI (beginOfL L g)))) m) xN := by
  have e := beginOf_c (f := f) (g := lf L) 0 g (fun j hj => hp.1 j (by omega))
  have := c_beginOf (w := w) hd hm (by omega) (g := g) (by have := hp.2.2; omega) (by rw [e]; exact h0)
  rwa [e] at this
theorem p_itemStart {g : Nat} (hd : 3 ≤ d) (hm : m r = some (iA 0 184 f)) (hp : Pl f L) (hb : Bal L) (hg : g ≤ L.length) (h1 : 1 ≤ g) : CT w MX5_itemStart d 0 0 [.ref r, .int (nI g)] m (xRet (some (.int (nI (itemStartL L g)))) m) xN := by
  have e := beginOf_c (f := f) (g := lf L) 0 (g - 1) (fun j hj => hp.1 j (by omega))
  have e2 := hp.1 (g - 1) (by omega)
  have := c_itemStart (w := w) hd hm (by omega) (g := g) (by have := hp.2.2; omega) h1 (fun h => by rw [e]; exact hb.2 _ (by omega) (Or.inl (e2 ▸ h)))
  have e3 : itemStartF f g = itemStartL L g := by unfold itemStartL itemStartF; rw [e, e2]
  rwa [e3] at this
theorem p_itemEnd {g : Nat} (hd : 3 ≤ d) (hm : m r = some (iA 0 184 f)) (hp : Pl f L) (hb : Bal L) (hg : g < L.length) : CT w MX5_itemEnd d 0 0 [.ref r, .int (nI g)] m (xRet (some (.int (nI (itemEndL L g)))) m) xN := by
  have := c_itemEnd (w := w) (n := L.length) hd hm (by omega) (by have := hp.2.2; omega) hg (fun h => by rw [endOf_c hp.1]; exact hb.1 g hg (by rw [← hp.1 g hg]; exact h))
  have e3 : itemEndF f L.length g = itemEndL L g := by unfold itemEndL itemEndF; rw [endOf_c hp.1, hp.1 g hg]
  rwa [e3] at this
theorem p_allIn {a b : Nat} (hd : 2 ≤ d) (hm : m r = some (iA 0 184 f)) (hp : Pl f L) (hab : a ≤ b) (hb : b ≤ L.length) : CT w MX5_allIn d 0 0 [.ref r, .int (nI a), .int (nI b)] m (xRet (some (.int (nI (allL L a b)))) m) xN := by
  have := c_allIn (w := w) hd hm (by omega) (to := b) (g := a) (by have := hp.2.2; omega) hab
  rwa [all_c (g := lf L) (fun j hj => hp.1 j (by omega))] at this
theorem p_levelAt {b : Nat} (hd : 2 ≤ d) (hm : m r = some (iA 0 184 f)) (hp : Pl f L) (hb : b ≤ L.length) : CT w MX5_levelAt d 0 0 [.ref r, .int (nI b)] m (xRet (some (.int (levF (lf L) b 0 0))) m) xN := by
  have := c_levelAt (w := w) hd hm (by omega) (to := b) (by have := hp.2.2; omega)
  rwa [lev_c (g := lf L) (fun j hj => hp.1 j (by omega))] at this
theorem p_deepest {a b : Nat} (hd : 2 ≤ d) (hm : m r = some (iA 0 184 f)) (hp : Pl f L) (hab : a ≤ b) (hb : b ≤ L.length) : CT w MX5_deepest d 0 0 [.ref r, .int (nI a), .int (nI b)] m (xRet (some (.int (deepF (lf L) b 0 0 a))) m) xN := by
  have := c_deepest (w := w) hd hm (by omega) (to := b) (g := a) (by have := hp.2.2; omega) hab
  rwa [deep_c (g := lf L) (fun j hj => hp.1 j (by omega))] at this
theorem l_itemsIn {b : Nat} {o1 : Option Value} (hd : 4 ≤ d) (hm : m r = some (iA 0 184 f)) (hp : Pl f L) (hb : Bal L) (hbn : b ≤ L.length) (ho : xc1 o1 = true) : ∀ t k c, b - k < t → k < 200 → c + (b - k) < 400 → G w MX5_itemsIn (xZ w (xRet (some (.int (nI (itemsF (lf L) L.length b c k)))) m) xN) d 0 0 5 [some (.ref r), o1, some (.int (nI b)), some (.int (nI c)), some (.int (nI k))] [] m := by
  have h3 := hp.2.2
  intro t
  induction t with
  | zero => intro k c h; omega
  | succ t ih =>
    intro k c h hk hc
    have hgt := itemEnd_gt (lf L) L.length k
    refine g_iload dX5_itemsIn_5 rfl rfl ?_
    refine g_iload_n dX5_itemsIn_7 rfl rfl rfl ?_
    refine g_icmpn_ge (tgt := 25) dX5_itemsIn_8 (by decide) rfl (by omega) (by omega) (fun c_8 => ?_) (fun c_8 => ?_)
    · refine g_iload_n dX5_itemsIn_25 rfl rfl rfl ?_
      refine g_ireturn dX5_itemsIn_26 rfl ?_
      refine ⟨?_, rfl⟩
      conv => lhs; rw [itemsF]
      rw [if_neg (by omega)]
    · refine g_incn3 dX5_itemsIn_11 rfl (by decide) (k := ?_)
      first | refine g_aload_n dX5_itemsIn_14 rfl rfl rfl ?_ | refine g_aload_nR dX5_itemsIn_14 rfl rfl rfl ?_ | refine g_aload_nN dX5_itemsIn_14 rfl rfl rfl ?_
      refine g_iload dX5_itemsIn_15 rfl rfl ?_
      refine g_staticP iS_X5_itemEnd q2542 (p_itemEnd (d := d - 1) (by omega) (by first | assumption | exact xu_eq _ _ _) (by assumption) (by assumption) (by omega)) dX5_itemsIn_17 rfl rfl rfl (by first | exact Nat.le_of_ble_eq_true rfl | simp [Value.category, rf_cat]) (by omega) xN_no ?_
      refine g_ist4 dX5_itemsIn_20 rfl (by decide) (k := ?_)
      refine g_goto (tgt := 5) dX5_itemsIn_22 (by decide) ?_
      have hle : itemEndL L k < 200 := by
        unfold itemEndL itemEndF
        split
        · have := hb.1 k (by omega) (by assumption)
          omega
        · omega
      refine xz_cast ?_ (ih (itemEndL L k) (c + 1) (by unfold itemEndL; omega) hle (by unfold itemEndL; omega))
      conv => lhs; rw [itemsF, if_pos (by omega)]
      rfl
theorem p_itemsIn {a b : Nat} (hd : 4 ≤ d) (hm : m r = some (iA 0 184 f)) (hp : Pl f L) (hb : Bal L) (hbn : b ≤ L.length) (ha : a ≤ b) : CT w MX5_itemsIn d 0 0 [.ref r, .int (nI a), .int (nI b)] m (xRet (some (.int (nI (itemsL L a b)))) m) xN := by
  have h3 := hp.2.2
  refine ct_intro (lv := [some (.ref r), some (.int (nI a)), some (.int (nI b)), none, none]) 2 (by decide) rfl (Nat.le_of_ble_eq_true rfl) rfl ?_
  refine g_iconst (v := (nI 0)) dX5_itemsIn_0 rfl rfl ?_
  refine g_ist3 dX5_itemsIn_1 rfl (by decide) (k := ?_)
  refine g_iload_n dX5_itemsIn_2 rfl rfl rfl ?_
  refine g_ist4 dX5_itemsIn_3 rfl (by decide) (k := ?_)
  exact l_itemsIn hd hm hp hb hbn rfl (b + 1) a 0 (by omega) (by omega) (by omega)
end TW3
