/-! STRUCTURES: constructor, empty -/
set_option maxRecDepth 100000
section STI
variable {w : XW} {id d : Nat} {g : XG}
theorem sm_ne {m : XM} {T : XT} {a b : Nat} {x y : Nat × Nat × Nat} (h1 : g a = x) (h2 : g b = y) (h : x ≠ y) : a ≠ b := fun e => h (by rw [← h1, ← h2, e])
/-- one slot is taken in -/
theorem l_stit {Z : XZ} {m : XM} {T : XT} {a sa k n j s sl cap S D kc ks : Nat} {ow : Option Nat} {is : List Nat} {f : Nat → Option Nat} {e : va_E} (hd : 5 ≤ d) (h : SM w g m id T) (hga : g a = (id, 3, a)) (ha : m a = some e) (hgs : g sa = (id, 4, a)) (hsa : m sa = some (rA 6 n f)) (hj : j < n) (hn : n ≤ 2) (hf : f j = some s) (hR : T.1 s = some (ow, sl, cap, is)) (hD : D < 10000)
    (kk : ∀ m2, SM w g m2 id (uF T.1 s (some (some a, j, cap, is)), T.2) → Fr id g m g m2 → m2 a = m a → m2 sa = m sa → G w MX9_init Z d kc ks 22 [some (.ref a), some (.int (nI k)), some (.ref sa), some (.int (nI (S + rS T.2.1 is))), some (.int (nI (max D (rD T.2.1 is)))), some (.int (nI (j + 1)))] [] m2) :
    G w MX9_init Z d kc ks 22 [some (.ref a), some (.int (nI k)), some (.ref sa), some (.int (nI S)), some (.int (nI D)), some (.int (nI j))] [] m := by
  obtain ⟨la, ar, bx, mc, h1, k1, hA, h3, h4, h5, hz⟩ := sm_row h hR
  have n1 : a ≠ s := sm_ne (m := m) (T := T) hga h3 (by simp)
  have n2 : sa ≠ s := sm_ne (m := m) (T := T) hgs h3 (by simp)
  have hrd := rD_lt h is
  refine g_iload dX9_init_22 rfl rfl ?_
  first | refine g_aload_n dX9_init_24 rfl rfl rfl ?_ | refine g_aload_nR dX9_init_24 rfl rfl rfl ?_ | refine g_aload_nN dX9_init_24 rfl rfl rfl ?_
  refine g_alenq (t := 6) rfl dX9_init_25 rfl (by first | assumption | exact Or.inl (by first | assumption | exact xu_eq _ _ _ | exact (xu_ne (by first | assumption | exact Ne.symm (by assumption))).trans (by first | assumption | exact xu_eq _ _ _) | exact (xu_ne (by first | assumption | exact Ne.symm (by assumption))).trans ((xu_ne (by first | assumption | exact Ne.symm (by assumption))).trans (by first | assumption | exact xu_eq _ _ _)) | exact (xu_ne (by first | assumption | exact Ne.symm (by assumption))).trans ((xu_ne (by first | assumption | exact Ne.symm (by assumption))).trans ((xu_ne (by first | assumption | exact Ne.symm (by assumption))).trans (by first | assumption | exact xu_eq _ _ _))))) ?_
  refine g_icmpn_ge (tgt := 76) dX9_init_26 (by decide) rfl (by omega) (by omega) (fun c_26 => by omega) (fun c_26 => ?_)
  first | refine g_aload_n dX9_init_29 rfl rfl rfl ?_ | refine g_aload_nR dX9_init_29 rfl rfl rfl ?_ | refine g_aload_nN dX9_init_29 rfl rfl rfl ?_
  refine g_iload dX9_init_30 rfl rfl ?_
  refine g_aaldn (t := 6) rfl dX9_init_32 rfl (by first | assumption | exact Or.inl (by first | assumption | exact xu_eq _ _ _ | exact (xu_ne (by first | assumption | exact Ne.symm (by assumption))).trans (by first | assumption | exact xu_eq _ _ _) | exact (xu_ne (by first | assumption | exact Ne.symm (by assumption))).trans ((xu_ne (by first | assumption | exact Ne.symm (by assumption))).trans (by first | assumption | exact xu_eq _ _ _)) | exact (xu_ne (by first | assumption | exact Ne.symm (by assumption))).trans ((xu_ne (by first | assumption | exact Ne.symm (by assumption))).trans ((xu_ne (by first | assumption | exact Ne.symm (by assumption))).trans (by first | assumption | exact xu_eq _ _ _))))) (by omega) (by omega) ?_
  rw [hf]
  first | refine g_aload_n dX9_init_33 rfl rfl rfl ?_ | refine g_aload_nR dX9_init_33 rfl rfl rfl ?_ | refine g_aload_nN dX9_init_33 rfl rfl rfl ?_
  refine g_put1 fl_X9_19_X4 dX9_init_34 rfl h1 rfl rfl ?_
  obtain ⟨hS1, hF1⟩ := sm_own (own' := some a) (sl' := sl) (bx' := bx) h hR h1
  have h11 := xu_eq m s (.inr (3, [.ref la, va_rf (some a), .int (nI sl), va_rf bx]))
  have ea : xu m s (.inr (3, [.ref la, va_rf (some a), .int (nI sl), va_rf bx])) a = m a := xu_ne n1
  have es : xu m s (.inr (3, [.ref la, va_rf (some a), .int (nI sl), va_rf bx])) sa = m sa := xu_ne n2
  change G w MX9_init Z d kc ks 37 _ _ (xu m s (.inr (3, [.ref la, va_rf (some a), .int (nI sl), va_rf bx])))
  generalize xu m s (.inr (3, [.ref la, va_rf (some a), .int (nI sl), va_rf bx])) = m1 at *
  rw [← es] at hsa
  first | refine g_aload_n dX9_init_37 rfl rfl rfl ?_ | refine g_aload_nR dX9_init_37 rfl rfl rfl ?_ | refine g_aload_nN dX9_init_37 rfl rfl rfl ?_
  refine g_iload dX9_init_38 rfl rfl ?_
  refine g_aaldn (t := 6) rfl dX9_init_40 rfl (by first | assumption | exact Or.inl (by first | assumption | exact xu_eq _ _ _ | exact (xu_ne (by first | assumption | exact Ne.symm (by assumption))).trans (by first | assumption | exact xu_eq _ _ _) | exact (xu_ne (by first | assumption | exact Ne.symm (by assumption))).trans ((xu_ne (by first | assumption | exact Ne.symm (by assumption))).trans (by first | assumption | exact xu_eq _ _ _)) | exact (xu_ne (by first | assumption | exact Ne.symm (by assumption))).trans ((xu_ne (by first | assumption | exact Ne.symm (by assumption))).trans ((xu_ne (by first | assumption | exact Ne.symm (by assumption))).trans (by first | assumption | exact xu_eq _ _ _))))) (by omega) (by omega) ?_
  refine g_iload dX9_init_41 rfl rfl ?_
  rw [hf]
  refine g_put2 fl_X9_25_X4 dX9_init_43 rfl h11 rfl rfl ?_
  obtain ⟨hS2, hF2⟩ := sm_own (own' := some a) (sl' := j) (bx' := bx) hS1 (uF_eq _ _ _) h11
  simp only [uF_uF] at hS2
  have h12 := xu_eq m1 s (.inr (3, [.ref la, va_rf (some a), .int (nI j), va_rf bx]))
  have ea2 : xu m1 s (.inr (3, [.ref la, va_rf (some a), .int (nI j), va_rf bx])) a = m1 a := xu_ne n1
  have es2 : xu m1 s (.inr (3, [.ref la, va_rf (some a), .int (nI j), va_rf bx])) sa = m1 sa := xu_ne n2
  change G w MX9_init Z d kc ks 46 _ _ (xu m1 s (.inr (3, [.ref la, va_rf (some a), .int (nI j), va_rf bx])))
  generalize xu m1 s (.inr (3, [.ref la, va_rf (some a), .int (nI j), va_rf bx])) = m2 at *
  rw [← es2] at hsa
  refine g_iload_n dX9_init_46 rfl rfl rfl ?_
  first | refine g_aload_n dX9_init_47 rfl rfl rfl ?_ | refine g_aload_nR dX9_init_47 rfl rfl rfl ?_ | refine g_aload_nN dX9_init_47 rfl rfl rfl ?_
  refine g_iload dX9_init_48 rfl rfl ?_
  refine g_aaldn (t := 6) rfl dX9_init_50 rfl (by first | assumption | exact Or.inl (by first | assumption | exact xu_eq _ _ _ | exact (xu_ne (by first | assumption | exact Ne.symm (by assumption))).trans (by first | assumption | exact xu_eq _ _ _) | exact (xu_ne (by first | assumption | exact Ne.symm (by assumption))).trans ((xu_ne (by first | assumption | exact Ne.symm (by assumption))).trans (by first | assumption | exact xu_eq _ _ _)) | exact (xu_ne (by first | assumption | exact Ne.symm (by assumption))).trans ((xu_ne (by first | assumption | exact Ne.symm (by assumption))).trans ((xu_ne (by first | assumption | exact Ne.symm (by assumption))).trans (by first | assumption | exact xu_eq _ _ _))))) (by omega) (by omega) ?_
  rw [hf]
  refine g_virtualP iV_X4_readSize q1547 (show CT w MX4_readSize (d - 1) 0 0 [.ref s] m2 (xRet (some (.int (nI (rS T.2.1 is)))) m2) xN from c_readSize (T := (uF T.1 s (some (some a, j, cap, is)), T.2)) (d := d - 1) (by omega) hS2 (uF_eq _ _ _)) (Or.inl (by first | assumption | exact xu_eq _ _ _ | exact (xu_ne (by first | assumption | exact Ne.symm (by assumption))).trans (by first | assumption | exact xu_eq _ _ _) | exact (xu_ne (by first | assumption | exact Ne.symm (by assumption))).trans ((xu_ne (by first | assumption | exact Ne.symm (by assumption))).trans (by first | assumption | exact xu_eq _ _ _)) | exact (xu_ne (by first | assumption | exact Ne.symm (by assumption))).trans ((xu_ne (by first | assumption | exact Ne.symm (by assumption))).trans ((xu_ne (by first | assumption | exact Ne.symm (by assumption))).trans (by first | assumption | exact xu_eq _ _ _))))) rfl (by decide) dX9_init_51 rfl rfl rfl (by first | exact Nat.le_of_ble_eq_true rfl | simp [Value.category, rf_cat]) (by omega) xN_no ?_
  refine g_iaddn dX9_init_54 rfl ?_
  refine g_ist3 dX9_init_55 rfl (by decide) (k := ?_)
  refine g_iload dX9_init_56 rfl rfl ?_
  first | refine g_aload_n dX9_init_58 rfl rfl rfl ?_ | refine g_aload_nR dX9_init_58 rfl rfl rfl ?_ | refine g_aload_nN dX9_init_58 rfl rfl rfl ?_
  refine g_iload dX9_init_59 rfl rfl ?_
  refine g_aaldn (t := 6) rfl dX9_init_61 rfl (by first | assumption | exact Or.inl (by first | assumption | exact xu_eq _ _ _ | exact (xu_ne (by first | assumption | exact Ne.symm (by assumption))).trans (by first | assumption | exact xu_eq _ _ _) | exact (xu_ne (by first | assumption | exact Ne.symm (by assumption))).trans ((xu_ne (by first | assumption | exact Ne.symm (by assumption))).trans (by first | assumption | exact xu_eq _ _ _)) | exact (xu_ne (by first | assumption | exact Ne.symm (by assumption))).trans ((xu_ne (by first | assumption | exact Ne.symm (by assumption))).trans ((xu_ne (by first | assumption | exact Ne.symm (by assumption))).trans (by first | assumption | exact xu_eq _ _ _))))) (by omega) (by omega) ?_
  rw [hf]
  refine g_virtualP iV_X4_readDepth q1554 (show CT w MX4_readDepth (d - 1) 0 0 [.ref s] m2 (xRet (some (.int (nI (rD T.2.1 is)))) m2) xN from c_readDepth (T := (uF T.1 s (some (some a, j, cap, is)), T.2)) (d := d - 1) (by omega) hS2 (uF_eq _ _ _)) (Or.inl (by first | assumption | exact xu_eq _ _ _ | exact (xu_ne (by first | assumption | exact Ne.symm (by assumption))).trans (by first | assumption | exact xu_eq _ _ _) | exact (xu_ne (by first | assumption | exact Ne.symm (by assumption))).trans ((xu_ne (by first | assumption | exact Ne.symm (by assumption))).trans (by first | assumption | exact xu_eq _ _ _)) | exact (xu_ne (by first | assumption | exact Ne.symm (by assumption))).trans ((xu_ne (by first | assumption | exact Ne.symm (by assumption))).trans ((xu_ne (by first | assumption | exact Ne.symm (by assumption))).trans (by first | assumption | exact xu_eq _ _ _))))) rfl (by decide) dX9_init_62 rfl rfl rfl (by first | exact Nat.le_of_ble_eq_true rfl | simp [Value.category, rf_cat]) (by omega) xN_no ?_
  refine g_maxn q1559 dX9_init_65 rfl (by first | exact Nat.le_of_ble_eq_true rfl | simp [Value.category, rf_cat]) (by omega) (by omega) (by omega) ?_
  refine g_ist4 dX9_init_68 rfl (by decide) (k := ?_)
  refine g_incn5 dX9_init_70 rfl (by decide) (k := ?_)
  refine g_goto (tgt := 22) dX9_init_73 (by decide) ?_
  exact kk _ hS2 (Fr_tr hF1 hF2) (ea2.trans ea) (es2.trans es)
theorem hna_ {e : va_E} {x : Option va_E} (h : x = some e) : x ≠ none := fun h2 => by rw [h2] at h; cases h
theorem l_stfin {P : Option Value → XM → Prop} {m : XM} {T : XT} {a sa k n p q S D kc ks : Nat} {f : Nat → Option Nat} (hd : 5 ≤ d) (h : SM w g m id T) (hga : g a = (id, 3, a)) (ha : m a = some (.inr (7, [.null, .int (nI k), .ref sa, .int 0, .int 0, .null]))) (hgs : g sa = (id, 4, a)) (hsa : m sa = some (rA 6 n f)) (hn : n = if k = 1 then 2 else 1) (hK : T.2.1 a = none) (hf : f 0 = some p) (hfq : k = 1 → f 1 = some q) (hk1 : 1 ≤ k) (hk2 : k < 6) (hD : D < 9999)
    (kk : ∀ m', SM w g m' id (T.1, uF T.2.1 a (some (.inr (k, p, q, S, 1 + D))), uF T.2.2 a none) → Fr id g m g m' → P none m') : G w MX9_init (xZ w P xN) d kc ks 22 [some (.ref a), some (.int (nI k)), some (.ref sa), some (.int (nI S)), some (.int (nI D)), some (.int (nI n))] [] m := by
  have nas : sa ≠ a := sm_ne (m := m) (T := T) hgs hga (by simp)
  have hn2 : n ≤ 2 := by rw [hn]; split <;> omega
  refine g_iload dX9_init_22 rfl rfl ?_
  first | refine g_aload_n dX9_init_24 rfl rfl rfl ?_ | refine g_aload_nR dX9_init_24 rfl rfl rfl ?_ | refine g_aload_nN dX9_init_24 rfl rfl rfl ?_
  refine g_alenq (t := 6) rfl dX9_init_25 rfl (by first | assumption | exact Or.inl (by first | assumption | exact xu_eq _ _ _ | exact (xu_ne (by first | assumption | exact Ne.symm (by assumption))).trans (by first | assumption | exact xu_eq _ _ _) | exact (xu_ne (by first | assumption | exact Ne.symm (by assumption))).trans ((xu_ne (by first | assumption | exact Ne.symm (by assumption))).trans (by first | assumption | exact xu_eq _ _ _)) | exact (xu_ne (by first | assumption | exact Ne.symm (by assumption))).trans ((xu_ne (by first | assumption | exact Ne.symm (by assumption))).trans ((xu_ne (by first | assumption | exact Ne.symm (by assumption))).trans (by first | assumption | exact xu_eq _ _ _))))) ?_
  refine g_icmpn_ge (tgt := 76) dX9_init_26 (by decide) rfl (by omega) (by omega) (fun c_26 => ?_) (fun c_26 => by omega)
  first | refine g_aload_n dX9_init_76 rfl rfl rfl ?_ | refine g_aload_nR dX9_init_76 rfl rfl rfl ?_ | refine g_aload_nN dX9_init_76 rfl rfl rfl ?_
  refine g_iload_n dX9_init_77 rfl rfl rfl ?_
  refine g_putF3 ff_X9_41_X9 rfl dX9_init_78 rfl ha rfl rfl ?_
  obtain ⟨hS4, hF4⟩ := sm_free (e := .inr (7, [.null, .int (nI k), .ref sa, .int (nI S), .int 0, .null])) h (hna_ ha) hga (Or.inr ⟨Or.inl rfl, hK⟩)
  have ha1 := xu_eq m a (.inr (7, [.null, .int (nI k), .ref sa, .int (nI S), .int 0, .null]))
  have hsa1 := (xu_ne (m := m) (a := a) (e := .inr (7, [.null, .int (nI k), .ref sa, .int (nI S), .int 0, .null])) nas).trans hsa
  generalize xu m a (.inr (7, [.null, .int (nI k), .ref sa, .int (nI S), .int 0, .null])) = m4 at *
  first | refine g_aload_n dX9_init_81 rfl rfl rfl ?_ | refine g_aload_nR dX9_init_81 rfl rfl rfl ?_ | refine g_aload_nN dX9_init_81 rfl rfl rfl ?_
  refine g_iconst (v := (nI 1)) dX9_init_82 rfl rfl ?_
  refine g_iload dX9_init_83 rfl rfl ?_
  refine g_iaddn dX9_init_85 rfl ?_
  refine g_putF4 ff_X9_43_X9 rfl dX9_init_86 rfl ha1 rfl rfl ?_
  obtain ⟨hS5, hF5⟩ := sm_free (e := .inr (7, [.null, .int (nI k), .ref sa, .int (nI S), .int (nI (1 + D)), .null])) hS4 (hna_ ha1) hga (Or.inr ⟨Or.inl rfl, hK⟩)
  have ha2 := xu_eq m4 a (.inr (7, [.null, .int (nI k), .ref sa, .int (nI S), .int (nI (1 + D)), .null]))
  have hsa2 := (xu_ne (m := m4) (a := a) (e := .inr (7, [.null, .int (nI k), .ref sa, .int (nI S), .int (nI (1 + D)), .null])) nas).trans hsa1
  generalize xu m4 a (.inr (7, [.null, .int (nI k), .ref sa, .int (nI S), .int (nI (1 + D)), .null])) = m5 at *
  exact g_return dX9_init_89 rfl (kk _ (sm_addK hS5 ⟨hga, sa, none, f, ha2, by rw [← hn]; exact hsa2, hf, hfq, hgs, hk1, hk2, by omega⟩) (Fr_tr hF4 hF5))
theorem l_stbeg {P : Option Value → XM → Prop} {m : XM} {T : XT} {a sa k n kc ks : Nat} {f : Nat → Option Nat} (hd : 5 ≤ d) (h : SM w g m id T) (hga : g a = (id, 3, a)) (ha : m a = some (.inr (7, [.null, .int 0, .null, .int 0, .int 0, .null]))) (hgs : g sa = (id, 4, a)) (hsa : m sa = some (rA 6 n f)) (hK : T.2.1 a = none)
    (kk : ∀ m', SM w g m' id T → Fr id g m g m' → m' a = some (.inr (7, [.null, .int (nI k), .ref sa, .int 0, .int 0, .null])) → m' sa = some (rA 6 n f) → G w MX9_init (xZ w P xN) d kc ks 22 [some (.ref a), some (.int (nI k)), some (.ref sa), some (.int (nI 1)), some (.int (nI 0)), some (.int (nI 0))] [] m') : CT w MX9_init d kc ks [.ref a, .int (nI k), .ref sa] m P xN := by
  refine ct_intro (lv := [some (.ref a), some (.int (nI k)), some (.ref sa), none, none, none]) 3 (by decide) rfl (Nat.le_of_ble_eq_true rfl) rfl ?_
  have nas : sa ≠ a := sm_ne (m := m) (T := T) hgs hga (by simp)
  first | refine g_aload_n dX9_init_0 rfl rfl rfl ?_ | refine g_aload_nR dX9_init_0 rfl rfl rfl ?_ | refine g_aload_nN dX9_init_0 rfl rfl rfl ?_
  refine g_ctorNP iC_X8_init q1543 (c_X8i (d := d - 1) (by omega)) dX9_init_1 rfl rfl rfl (by first | exact Nat.le_of_ble_eq_true rfl | simp [Value.category, rf_cat]) (by omega) xN_no ?_
  first | refine g_aload_n dX9_init_4 rfl rfl rfl ?_ | refine g_aload_nR dX9_init_4 rfl rfl rfl ?_ | refine g_aload_nN dX9_init_4 rfl rfl rfl ?_
  refine g_iload_n dX9_init_5 rfl rfl rfl ?_
  refine g_putF1 ff_X9_9_X9 rfl dX9_init_6 rfl ha rfl rfl ?_
  obtain ⟨hS1, hF1⟩ := sm_free (e := .inr (7, [.null, .int (nI k), .null, .int 0, .int 0, .null])) h (hna_ ha) hga (Or.inr ⟨Or.inl rfl, hK⟩)
  have ha1 := xu_eq m a (.inr (7, [.null, .int (nI k), .null, .int 0, .int 0, .null]))
  have hsa1 := (xu_ne (m := m) (a := a) (e := .inr (7, [.null, .int (nI k), .null, .int 0, .int 0, .null])) nas).trans hsa
  generalize xu m a (.inr (7, [.null, .int (nI k), .null, .int 0, .int 0, .null])) = m1 at *
  first | refine g_aload_n dX9_init_9 rfl rfl rfl ?_ | refine g_aload_nR dX9_init_9 rfl rfl rfl ?_ | refine g_aload_nN dX9_init_9 rfl rfl rfl ?_
  first | refine g_aload_n dX9_init_10 rfl rfl rfl ?_ | refine g_aload_nR dX9_init_10 rfl rfl rfl ?_ | refine g_aload_nN dX9_init_10 rfl rfl rfl ?_
  refine g_putF2 ff_X9_15_X9 rfl dX9_init_11 rfl ha1 rfl rfl ?_
  obtain ⟨hS2, hF2⟩ := sm_free (e := .inr (7, [.null, .int (nI k), .ref sa, .int 0, .int 0, .null])) hS1 (hna_ ha1) hga (Or.inr ⟨Or.inl rfl, hK⟩)
  have ha2 := xu_eq m1 a (.inr (7, [.null, .int (nI k), .ref sa, .int 0, .int 0, .null]))
  have hsa2 := (xu_ne (m := m1) (a := a) (e := .inr (7, [.null, .int (nI k), .ref sa, .int 0, .int 0, .null])) nas).trans hsa1
  generalize xu m1 a (.inr (7, [.null, .int (nI k), .ref sa, .int 0, .int 0, .null])) = m2 at *
  refine g_iconst (v := (nI 1)) dX9_init_14 rfl rfl ?_
  refine g_ist3 dX9_init_15 rfl (by decide) (k := ?_)
  refine g_iconst (v := (nI 0)) dX9_init_16 rfl rfl ?_
  refine g_ist4 dX9_init_17 rfl (by decide) (k := ?_)
  refine g_iconst (v := (nI 0)) dX9_init_19 rfl rfl ?_
  refine g_ist5 dX9_init_20 rfl (by decide) (k := ?_)
  exact kk _ hS2 (Fr_tr hF1 hF2) ha2 hsa2
/-- a structure of one row -/
theorem c_stinit1 {m : XM} {T : XT} {a sa k p q sl cap : Nat} {ow : Option Nat} {is : List Nat} {f : Nat → Option Nat} (hd : 5 ≤ d) (h : SM w g m id T) (hga : g a = (id, 3, a)) (ha : m a = some (.inr (7, [.null, .int 0, .null, .int 0, .int 0, .null]))) (hgs : g sa = (id, 4, a)) (hsa : m sa = some (rA 6 1 f)) (hK : T.2.1 a = none) (hf : f 0 = some p) (hR : T.1 p = some (ow, sl, cap, is)) (hk : k ≠ 1) (hk1 : 1 ≤ k) (hk2 : k < 6) (hD : rD T.2.1 is < 9999) :
    CT w MX9_init d 0 0 [.ref a, .int (nI k), .ref sa] m (fun v m' => none = v ∧ SM w g m' id (uF T.1 p (some (some a, 0, cap, is)), uF T.2.1 a (some (.inr (k, p, q, 1 + rS T.2.1 is, 1 + rD T.2.1 is))), uF T.2.2 a none) ∧ Fr id g m g m') xN := by
  refine l_stbeg hd h hga ha hgs hsa hK (fun m1 hS1 hF1 ha1 hsa1 => ?_)
  refine l_stit hd hS1 hga ha1 hgs hsa1 (by omega) (by omega) hf hR (by omega) (fun m2 hS2 hF2 ea es => ?_)
  rw [show max 0 (rD T.2.1 is) = rD T.2.1 is from by omega]
  exact l_stfin (n := 0 + 1) hd hS2 hga (ea.trans ha1) hgs (es.trans hsa1) (by rw [if_neg hk]) hK hf (fun h => absurd h hk) hk1 hk2 hD (fun m3 hS3 hF3 => ⟨rfl, hS3, Fr_tr hF1 (Fr_tr hF2 hF3)⟩)
/-- a fraction -/
theorem c_stinit2 {m : XM} {T : XT} {a sa p q sl cap sl2 cap2 : Nat} {ow ow2 : Option Nat} {is is2 : List Nat} {f : Nat → Option Nat} (hd : 5 ≤ d) (h : SM w g m id T) (hga : g a = (id, 3, a)) (ha : m a = some (.inr (7, [.null, .int 0, .null, .int 0, .int 0, .null]))) (hgs : g sa = (id, 4, a)) (hsa : m sa = some (rA 6 2 f)) (hK : T.2.1 a = none) (hf : f 0 = some p) (hfq : f 1 = some q) (hR : T.1 p = some (ow, sl, cap, is)) (hR2 : T.1 q = some (ow2, sl2, cap2, is2)) (hpq : q ≠ p) (hD : rD T.2.1 is < 9999) (hD2 : rD T.2.1 is2 < 9999) :
    CT w MX9_init d 0 0 [.ref a, .int (nI 1), .ref sa] m (fun v m' => none = v ∧ SM w g m' id (uF (uF T.1 p (some (some a, 0, cap, is))) q (some (some a, 1, cap2, is2)), uF T.2.1 a (some (.inr (1, p, q, 1 + rS T.2.1 is + rS T.2.1 is2, 1 + max (rD T.2.1 is) (rD T.2.1 is2)))), uF T.2.2 a none) ∧ Fr id g m g m') xN := by
  refine l_stbeg hd h hga ha hgs hsa hK (fun m1 hS1 hF1 ha1 hsa1 => ?_)
  refine l_stit hd hS1 hga ha1 hgs hsa1 (by omega) (by omega) hf hR (by omega) (fun m2 hS2 hF2 ea es => ?_)
  rw [show max 0 (rD T.2.1 is) = rD T.2.1 is from by omega]
  refine l_stit (j := 0 + 1) hd hS2 hga (ea.trans ha1) hgs (es.trans hsa1) (by omega) (by omega) hfq ((uF_ne hpq).trans hR2) (by omega) (fun m3 hS3 hF3 ea3 es3 => ?_)
  exact l_stfin (n := 0 + 1 + 1) hd hS3 hga (ea3.trans (ea.trans ha1)) hgs (es3.trans (es.trans hsa1)) rfl hK hf (fun _ => hfq) (by omega) (by omega) (by show max (rD T.2.1 is) (rD T.2.1 is2) < 9999; omega) (fun m4 hS4 hF4 => ⟨rfl, hS4, Fr_tr hF1 (Fr_tr hF2 (Fr_tr hF3 hF4))⟩)
/-- a new structure and its rows -/
theorem c_empty1 {m : XM} {T : XT} {k : Nat} (q : Nat) (hd : 7 ≤ d) (h : SM w g m id T) (hk : k ≠ 1) (hk1 : 1 ≤ k) (hk2 : k < 6) :
    CT w MX9_empty d 4 14 [.int (nI k)] m (fun v m' => ∃ a p g', some (.ref a) = v ∧ m a = none ∧ m p = none ∧ a ≠ p ∧ SM w g' m' id (uF T.1 p (some (some a, 0, 0, [])), uF T.2.1 a (some (.inr (k, p, q, 1, 1))), uF T.2.2 a none) ∧ Fr id g m g' m') xN := by
  refine ct_intro (lv := [some (.int (nI k))]) 0 (by decide) rfl (Nat.le_of_ble_eq_true rfl) rfl ?_
  refine g_iload_n dX9_empty_0 rfl rfl rfl ?_
  refine g_iconst (v := (nI 1)) dX9_empty_1 rfl rfl ?_
  refine g_icmpn_ne (tgt := 40) dX9_empty_2 (by decide) rfl (by omega) (by omega) (fun c_2 => ?_) (fun c_2 => by omega)
  refine g_new nw_X9_10 dX9_empty_40 rfl (by omega) (by omega) (fun a_40 hno_40 hb_40 => ?_)
  refine g_dup dX9_empty_43 rfl (by first | rfl | exact rf_cat _) ?_
  refine g_iload_n dX9_empty_44 rfl rfl rfl ?_
  refine g_iconst (v := (nI 1)) dX9_empty_45 rfl rfl ?_
  have hS1 := sm_n (e := .inr (7, [.null, .int 0, .null, .int 0, .int 0, .null])) (x := (3, a_40)) h hno_40
  have hF1 : Fr id g m (uF g a_40 (id, 3, a_40)) _ := fr_n (e := .inr (7, [.null, .int 0, .null, .int 0, .int 0, .null])) hno_40
  have hK1 := sm_Knone h hno_40
  refine g_newq q2108 q1539 (t := 6) rfl dX9_empty_46 rfl (by omega) (by omega) (by omega) (fun a_46 hno_46 hb_46 => ?_)
  refine g_dup dX9_empty_49 rfl (by first | rfl | exact rf_cat _) ?_
  refine g_iconst (v := (nI 0)) dX9_empty_50 rfl rfl ?_
  have hS2 := sm_n (e := rA 6 1 (fun _ => none)) (x := (4, a_40)) hS1 hno_46
  have hF2 := fr_n (id := id) (g := uF g a_40 (id, 3, a_40)) (e := rA 6 1 (fun _ => none)) (x := (4, a_40)) hno_46
  have nas : a_46 ≠ a_40 := fun e => by subst e; rw [xu_eq] at hno_46; cases hno_46
  refine g_new nw_X9_20 dX9_empty_51 rfl (by omega) (by omega) (fun a_51 hno_51 hb_51 => ?_)
  refine g_dup dX9_empty_54 rfl (by first | rfl | exact rf_cat _) ?_
  refine g_ctorN iC_X4_init q2109 (c_rinit (d := d - 1) (by omega) hS2 hno_51) dX9_empty_55 rfl rfl rfl (by first | exact Nat.le_of_ble_eq_true rfl | simp [Value.category, rf_cat]) (by omega) (by omega) (by omega) xN_no (fun v_55 m_55 h_55 => ?_)
  obtain ⟨rfl, g3, hS3, hF3, hne3, hk3⟩ := h_55
  have ha3 := (hk3 a_40 (by rw [xu_ne nas.symm, xu_eq]; exact fun h => by cases h)).trans ((xu_ne nas.symm).trans (xu_eq _ _ _))
  have hs3 := (hk3 a_46 (by rw [xu_eq]; exact fun h => by cases h)).trans (xu_eq _ _ _)
  have hga : g3 a_40 = (id, 3, a_40) := by
    rw [(hF3.1 a_40 (by rw [xu_ne nas.symm, xu_eq]; exact fun h => by cases h)).1, uF_ne nas.symm, uF_eq]
  have hgs : g3 a_46 = (id, 4, a_40) := by
    rw [(hF3.1 a_46 (by rw [xu_eq]; exact fun h => by cases h)).1, uF_eq]
  have hb46 : m a_46 = none := by rw [xu_ne nas] at hno_46; exact hno_46
  have nb1 : a_51 ≠ a_46 := fun e => by subst e; rw [xu_eq] at hno_51; cases hno_51
  have nb2 : a_51 ≠ a_40 := fun e => by subst e; rw [xu_ne nas.symm, xu_eq] at hno_51; cases hno_51
  have hb51 : m a_51 = none := by rw [xu_ne nb1, xu_ne nb2] at hno_51; exact hno_51
  obtain ⟨la, ar, bx, mc, h1, -⟩ := sm_row hS3 (uF_eq _ _ _)
  refine g_aastn (t := 6) rfl dX9_empty_58 rfl (by first | assumption | exact xu_eq _ _ _ | exact (xu_ne (by first | assumption | exact Ne.symm (by assumption))).trans (by first | assumption | exact xu_eq _ _ _) | exact (xu_ne (by first | assumption | exact Ne.symm (by assumption))).trans ((xu_ne (by first | assumption | exact Ne.symm (by assumption))).trans (by first | assumption | exact xu_eq _ _ _)) | exact (xu_ne (by first | assumption | exact Ne.symm (by assumption))).trans ((xu_ne (by first | assumption | exact Ne.symm (by assumption))).trans ((xu_ne (by first | assumption | exact Ne.symm (by assumption))).trans (by first | assumption | exact xu_eq _ _ _)))) (by omega) (by omega) (xany_obj (Or.inl h1) xc_X4.1 (by decide) (Or.inl rfl)) ?_
  obtain ⟨hS4, hF4⟩ := sm_free (e := rA 6 1 (va_up (fun _ => none) 0 (some a_51))) hS3 (hna_ hs3) hgs (Or.inr ⟨Or.inr rfl, hK1⟩)
  have ha4 := (xu_ne (m := m_55) (a := a_46) (e := rA 6 1 (va_up (fun _ => none) 0 (some a_51))) nas.symm).trans ha3
  have hs4 := xu_eq m_55 a_46 (rA 6 1 (va_up (fun _ => none) 0 (some a_51)))
  refine g_ctor iC_X9_init q2110 (c_stinit1 (d := d - 1) (q := q) (by omega) hS4 hga ha4 hgs hs4 hK1 (if_pos rfl) (uF_eq _ _ _) hk hk1 hk2 (by simp [rD])) dX9_empty_59 rfl rfl rfl (by first | exact Nat.le_of_ble_eq_true rfl | simp [Value.category, rf_cat]) (by omega) (by omega) (by omega) xN_no (fun v_59 m_59 h_59 => ?_)
  obtain ⟨rfl, hS5, hF5⟩ := h_59
  simp only [uF_uF] at hS5
  exact g_areturn dX9_empty_62 rfl (Or.inl ⟨_, rfl⟩) (Or.inr ⟨_, rfl⟩) ⟨a_40, a_51, g3, rfl, hno_40, hb51, nb2.symm, hS5, Fr_tr hF1 (Fr_tr hF2 (Fr_tr hF3 (Fr_tr hF4 hF5)))⟩
theorem c_empty2 {m : XM} {T : XT} (hd : 7 ≤ d) (h : SM w g m id T) :
    CT w MX9_empty d 6 22 [.int (nI 1)] m (fun v m' => ∃ a p q g', some (.ref a) = v ∧ m a = none ∧ m p = none ∧ m q = none ∧ a ≠ p ∧ a ≠ q ∧ q ≠ p ∧ SM w g' m' id (uF (uF T.1 p (some (some a, 0, 0, []))) q (some (some a, 1, 0, [])), uF T.2.1 a (some (.inr (1, p, q, 1, 1))), uF T.2.2 a none) ∧ Fr id g m g' m') xN := by
  refine ct_intro (lv := [some (.int (nI 1))]) 0 (by decide) rfl (Nat.le_of_ble_eq_true rfl) rfl ?_
  refine g_iload_n dX9_empty_0 rfl rfl rfl ?_
  refine g_iconst (v := (nI 1)) dX9_empty_1 rfl rfl ?_
  refine g_icmpn_ne (tgt := 40) dX9_empty_2 (by decide) rfl (by omega) (by omega) (fun c_2 => by omega) (fun c_2 => ?_)
  refine g_new nw_X9_10 dX9_empty_5 rfl (by omega) (by omega) (fun a_5 hno_5 hb_5 => ?_)
  refine g_dup dX9_empty_8 rfl (by first | rfl | exact rf_cat _) ?_
  refine g_iload_n dX9_empty_9 rfl rfl rfl ?_
  refine g_iconst (v := (nI 2)) dX9_empty_10 rfl rfl ?_
  have hS1 := sm_n (e := .inr (7, [.null, .int 0, .null, .int 0, .int 0, .null])) (x := (3, a_5)) h hno_5
  have hF1 : Fr id g m (uF g a_5 (id, 3, a_5)) _ := fr_n (e := .inr (7, [.null, .int 0, .null, .int 0, .int 0, .null])) hno_5
  have hK1 := sm_Knone h hno_5
  refine g_newq q2108 q1539 (t := 6) rfl dX9_empty_11 rfl (by omega) (by omega) (by omega) (fun a_11 hno_11 hb_11 => ?_)
  refine g_dup dX9_empty_14 rfl (by first | rfl | exact rf_cat _) ?_
  refine g_iconst (v := (nI 0)) dX9_empty_15 rfl rfl ?_
  have hS2 := sm_n (e := rA 6 2 (fun _ => none)) (x := (4, a_5)) hS1 hno_11
  have hF2 := fr_n (id := id) (g := uF g a_5 (id, 3, a_5)) (e := rA 6 2 (fun _ => none)) (x := (4, a_5)) hno_11
  have nas : a_11 ≠ a_5 := fun e => by subst e; rw [xu_eq] at hno_11; cases hno_11
  refine g_new nw_X9_20 dX9_empty_16 rfl (by omega) (by omega) (fun a_16 hno_16 hb_16 => ?_)
  refine g_dup dX9_empty_19 rfl (by first | rfl | exact rf_cat _) ?_
  refine g_ctorN iC_X4_init q2109 (c_rinit (d := d - 1) (by omega) hS2 hno_16) dX9_empty_20 rfl rfl rfl (by first | exact Nat.le_of_ble_eq_true rfl | simp [Value.category, rf_cat]) (by omega) (by omega) (by omega) xN_no (fun v_20 m_20 h_20 => ?_)
  obtain ⟨rfl, g3, hS3, hF3, hne3, hk3⟩ := h_20
  have ha3 := (hk3 a_5 (by rw [xu_ne nas.symm, xu_eq]; exact fun h => by cases h)).trans ((xu_ne nas.symm).trans (xu_eq _ _ _))
  have hs3 := (hk3 a_11 (by rw [xu_eq]; exact fun h => by cases h)).trans (xu_eq _ _ _)
  have hga : g3 a_5 = (id, 3, a_5) := by
    rw [(hF3.1 a_5 (by rw [xu_ne nas.symm, xu_eq]; exact fun h => by cases h)).1, uF_ne nas.symm, uF_eq]
  have hgs : g3 a_11 = (id, 4, a_5) := by
    rw [(hF3.1 a_11 (by rw [xu_eq]; exact fun h => by cases h)).1, uF_eq]
  have hb46 : m a_11 = none := by rw [xu_ne nas] at hno_11; exact hno_11
  have nb1 : a_16 ≠ a_11 := fun e => by subst e; rw [xu_eq] at hno_16; cases hno_16
  have nb2 : a_16 ≠ a_5 := fun e => by subst e; rw [xu_ne nas.symm, xu_eq] at hno_16; cases hno_16
  have hb51 : m a_16 = none := by rw [xu_ne nb1, xu_ne nb2] at hno_16; exact hno_16
  obtain ⟨la, ar, bx, mc, h1, -⟩ := sm_row hS3 (uF_eq _ _ _)
  refine g_aastn (t := 6) rfl dX9_empty_23 rfl (by first | assumption | exact xu_eq _ _ _ | exact (xu_ne (by first | assumption | exact Ne.symm (by assumption))).trans (by first | assumption | exact xu_eq _ _ _) | exact (xu_ne (by first | assumption | exact Ne.symm (by assumption))).trans ((xu_ne (by first | assumption | exact Ne.symm (by assumption))).trans (by first | assumption | exact xu_eq _ _ _)) | exact (xu_ne (by first | assumption | exact Ne.symm (by assumption))).trans ((xu_ne (by first | assumption | exact Ne.symm (by assumption))).trans ((xu_ne (by first | assumption | exact Ne.symm (by assumption))).trans (by first | assumption | exact xu_eq _ _ _)))) (by omega) (by omega) (xany_obj (Or.inl h1) xc_X4.1 (by decide) (Or.inl rfl)) ?_
  obtain ⟨hS4, hF4⟩ := sm_free (e := rA 6 2 (va_up (fun _ => none) 0 (some a_16))) hS3 (hna_ hs3) hgs (Or.inr ⟨Or.inr rfl, hK1⟩)
  have ha4 := (xu_ne (m := m_20) (a := a_11) (e := rA 6 2 (va_up (fun _ => none) 0 (some a_16))) nas.symm).trans ha3
  have hs4 := xu_eq m_20 a_11 (rA 6 2 (va_up (fun _ => none) 0 (some a_16)))
  have hF04 := Fr_tr hF1 (Fr_tr hF2 (Fr_tr hF3 hF4))
  generalize xu m_20 a_11 (rA 6 2 (va_up (fun _ => none) 0 (some a_16))) = m4 at *
  refine g_dup dX9_empty_24 rfl (by first | rfl | exact rf_cat _) ?_
  refine g_iconst (v := (nI 1)) dX9_empty_25 rfl rfl ?_
  refine g_new nw_X9_20 dX9_empty_26 rfl (by omega) (by omega) (fun a_26 hno_26 hb_26 => ?_)
  refine g_dup dX9_empty_29 rfl (by first | rfl | exact rf_cat _) ?_
  refine g_ctorN iC_X4_init q2109 (c_rinit (d := d - 1) (by omega) hS4 hno_26) dX9_empty_30 rfl rfl rfl (by first | exact Nat.le_of_ble_eq_true rfl | simp [Value.category, rf_cat]) (by omega) (by omega) (by omega) xN_no (fun v_30 m_30 h_30 => ?_)
  obtain ⟨rfl, g5, hS5, hF5, hne5, hk5⟩ := h_30
  have ha5 := (hk5 a_5 (hna_ ha4)).trans ha4
  have hs5 := (hk5 a_11 (hna_ hs4)).trans hs4
  have hga5 := (hF5.1 a_5 (hna_ ha4)).1.trans hga
  have hgs5 := (hF5.1 a_11 (hna_ hs4)).1.trans hgs
  have nc1 : a_26 ≠ a_5 := fun e => by subst e; rw [hno_26] at ha4; cases ha4
  have nc2 : a_26 ≠ a_16 := fun e => by
    subst e
    obtain ⟨la2, ar2, bx2, mc2, q1, -⟩ := sm_row hS4 (uF_eq _ _ _)
    rw [hno_26] at q1; cases q1
  have hb26 : m a_26 = none := by
    by_cases e : m a_26 = none
    · exact e
    · exact absurd hno_26 (hF04.1 a_26 e).2.1
  obtain ⟨la2, ar2, bx2, mc2, h21, -⟩ := sm_row hS5 (uF_eq _ _ _)
  refine g_aastn (t := 6) rfl dX9_empty_33 rfl (by first | assumption | exact xu_eq _ _ _ | exact (xu_ne (by first | assumption | exact Ne.symm (by assumption))).trans (by first | assumption | exact xu_eq _ _ _) | exact (xu_ne (by first | assumption | exact Ne.symm (by assumption))).trans ((xu_ne (by first | assumption | exact Ne.symm (by assumption))).trans (by first | assumption | exact xu_eq _ _ _)) | exact (xu_ne (by first | assumption | exact Ne.symm (by assumption))).trans ((xu_ne (by first | assumption | exact Ne.symm (by assumption))).trans ((xu_ne (by first | assumption | exact Ne.symm (by assumption))).trans (by first | assumption | exact xu_eq _ _ _)))) (by omega) (by omega) (xany_obj (Or.inl h21) xc_X4.1 (by decide) (Or.inl rfl)) ?_
  obtain ⟨hS6, hF6⟩ := sm_free (e := rA 6 2 (va_up (va_up (fun _ => none) 0 (some a_16)) 1 (some a_26))) hS5 (hna_ hs5) hgs5 (Or.inr ⟨Or.inr rfl, hK1⟩)
  have ha6 := (xu_ne (m := m_30) (a := a_11) (e := rA 6 2 (va_up (va_up (fun _ => none) 0 (some a_16)) 1 (some a_26))) nas.symm).trans ha5
  have hs6 := xu_eq m_30 a_11 (rA 6 2 (va_up (va_up (fun _ => none) 0 (some a_16)) 1 (some a_26)))
  refine g_ctor iC_X9_init q2110 (c_stinit2 (d := d - 1) (by omega) hS6 hga5 ha6 hgs5 hs6 hK1 (p := a_16) rfl (q := a_26) rfl ((uF_ne nc2.symm).trans (uF_eq _ _ _)) (uF_eq _ _ _) nc2 (by simp [rD]) (by simp [rD])) dX9_empty_34 rfl rfl rfl (by first | exact Nat.le_of_ble_eq_true rfl | simp [Value.category, rf_cat]) (by omega) (by omega) (by omega) xN_no (fun v_34 m_34 h_34 => ?_)
  obtain ⟨rfl, hS7, hF7⟩ := h_34
  simp only [uF_sw _ nc2.symm, uF_uF] at hS7
  rw [uF_sw _ nc2] at hS7
  refine g_goto (tgt := 62) dX9_empty_37 (by decide) ?_
  exact g_areturn dX9_empty_62 rfl (Or.inl ⟨_, rfl⟩) (Or.inr ⟨_, rfl⟩) ⟨a_5, a_16, a_26, g5, rfl, hno_5, hb51, hb26, nb2.symm, nc1.symm, nc2, hS7, Fr_tr hF04 (Fr_tr hF5 (Fr_tr hF6 hF7))⟩
end STI
