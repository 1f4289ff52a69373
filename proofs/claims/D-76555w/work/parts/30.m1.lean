set_option maxRecDepth 100000
abbrev rmX8_in : Room := { frames := 0, cells := 0, slots := 0, locals := 0 }
set_option maxHeartbeats 4000000 in
theorem kX8_in {KT : (Nat → Prop) → State → Heap → Prop} (hK : KTok KT) (l : Launch) (dC : Nat → ClassId) (dI : Nat → Nat → Nat) (ct ad : Nat → Nat) (σ : MS) (v : Int64) (lo : Int64) (hi : Int64)  : MC KT (dC, dI) vwCl (tysF ct) l yX8_in cX8_in 6 (some .boolean) rmX8_in [.long v, .long lo, .long hi] (RM ct ad σ) (QI_ (dC, dI) vwCl (RM ct ad) (fun (r : Int32) (σ' : MS) => (1 = r ∧ σ = σ' ∧ lo.toInt ≤ v.toInt ∧ v.toInt ≤ hi.toInt) ∨ (0 = r ∧ σ = σ' ∧ ¬ (lo.toInt ≤ v.toInt ∧ v.toInt ≤ hi.toInt)))) := by
  refine MC.ofI (own := RX8) pl_X8 rfl (Nat.le_of_ble_eq_true rfl) ?_
  intro pp ee ss mm aa bb hh cc AA QQ G hT hnm RET
  refine v_loc (L' := [(0, .long v), (2, .long lo), (4, .long hi)]) rfl ?_
  refine v_lload_n G 0 dX8_in_0 rfl ?_
  refine v_lload_n G 1 dX8_in_1 rfl ?_
  refine v_lcmp G dX8_in_2 ?_
  refine v_if_lt (tgt := 17) G dX8_in_3 (by decide) (fun h3 => ?_) (fun h3 => ?_)
  · refine v_iconst (v := 0) G dX8_in_17 rfl ?_
    refine RET _ _ _ _ _ _ (by first | rfl | assumption) (Nat.le_of_ble_eq_true rfl) (Nat.le_of_ble_eq_true rfl) dX8_in_18 (fun ws hw => ⟨_, hw, ?_⟩)
    clear RET G hT hnm
    exact Or.inr ⟨rfl, rfl, fun q => by first | (have := lc_lt h3; omega) | (have := lc_gt h10; omega)⟩
  · refine v_lload_n G 0 dX8_in_6 rfl ?_
    refine v_lload G 2 dX8_in_7 rfl ?_
    refine v_lcmp G dX8_in_9 ?_
    refine v_if_gt (tgt := 17) G dX8_in_10 (by decide) (fun h10 => ?_) (fun h10 => ?_)
    · refine v_iconst (v := 0) G dX8_in_17 rfl ?_
      refine RET _ _ _ _ _ _ (by first | rfl | assumption) (Nat.le_of_ble_eq_true rfl) (Nat.le_of_ble_eq_true rfl) dX8_in_18 (fun ws hw => ⟨_, hw, ?_⟩)
      clear RET G hT hnm
      exact Or.inr ⟨rfl, rfl, fun q => by first | (have := lc_lt h3; omega) | (have := lc_gt h10; omega)⟩
    · refine v_iconst (v := 1) G dX8_in_13 rfl ?_
      refine v_goto (tgt := 18) G dX8_in_14 (by decide) ?_
      refine RET _ _ _ _ _ _ (by first | rfl | assumption) (Nat.le_of_ble_eq_true rfl) (Nat.le_of_ble_eq_true rfl) dX8_in_18 (fun ws hw => ⟨_, hw, ?_⟩)
      clear RET G hT hnm
      exact Or.inl ⟨rfl, rfl, lc_ge h3, lc_le h10⟩
abbrev rmX8_within : Room := { frames := 0, cells := 0, slots := 0, locals := 0 }
set_option maxHeartbeats 4000000 in
theorem kX8_within {KT : (Nat → Prop) → State → Heap → Prop} (hK : KTok KT) (l : Launch) (dC : Nat → ClassId) (dI : Nat → Nat → Nat) (ct ad : Nat → Nat) (σ : MS) (v : Int32) (lo : Int32) (hi : Int32)  : MC KT (dC, dI) vwCl (tysF ct) l yX8_within cX8_within 3 (some .int) rmX8_within [.int v, .int lo, .int hi] (RM ct ad σ) (QI_ (dC, dI) vwCl (RM ct ad) (fun (r : Int32) (σ' : MS) => (if v < lo then lo else if hi < v then hi else v) = r ∧ σ = σ')) := by
  refine MC.ofI (own := RX8) pl_X8 rfl (Nat.le_of_ble_eq_true rfl) ?_
  intro pp ee ss mm aa bb hh cc AA QQ G hT hnm RET
  refine v_loc (L' := [(0, .int v), (1, .int lo), (2, .int hi)]) rfl ?_
  refine v_iload_n G 0 dX8_within_0 rfl ?_
  refine v_iload_n G 1 dX8_within_1 rfl ?_
  refine v_icmp_ge (tgt := 9) G dX8_within_2 (by decide) (fun h2 => ?_) (fun h2 => ?_)
  · refine v_iload_n G 0 dX8_within_9 rfl ?_
    refine v_iload_n G 2 dX8_within_10 rfl ?_
    refine v_icmp_le (tgt := 18) G dX8_within_11 (by decide) (fun h11 => ?_) (fun h11 => ?_)
    · refine v_iload_n G 0 dX8_within_18 rfl ?_
      refine RET _ _ _ _ _ _ rfl (Nat.le_of_ble_eq_true rfl) (Nat.le_of_ble_eq_true rfl) dX8_within_19 (fun ws hw => ⟨_, hw, ?_⟩)
      clear RET G hT hnm
      grind
    · refine v_iload_n G 2 dX8_within_14 rfl ?_
      refine v_goto (tgt := 19) G dX8_within_15 (by decide) ?_
      refine RET _ _ _ _ _ _ rfl (Nat.le_of_ble_eq_true rfl) (Nat.le_of_ble_eq_true rfl) dX8_within_19 (fun ws hw => ⟨_, hw, ?_⟩)
      clear RET G hT hnm
      grind
  · refine v_iload_n G 1 dX8_within_5 rfl ?_
    refine v_goto (tgt := 19) G dX8_within_6 (by decide) ?_
    refine RET _ _ _ _ _ _ rfl (Nat.le_of_ble_eq_true rfl) (Nat.le_of_ble_eq_true rfl) dX8_within_19 (fun ws hw => ⟨_, hw, ?_⟩)
    clear RET G hT hnm
    grind
abbrev rmX8_byteAt : Room := { frames := 0, cells := 0, slots := 0, locals := 0 }
set_option maxHeartbeats 4000000 in
theorem kX8_byteAt {KT : (Nat → Prop) → State → Heap → Prop} (hK : KTok KT) (l : Launch) (dC : Nat → ClassId) (dI : Nat → Nat → Nat) (ct ad : Nat → Nat) (σ : MS) (F : Nat) (n : Nat) (b : Nat → Int32) (i : Nat) (hX : TX F n b σ) (hi : i ≤ 1000) : MC KT (dC, dI) vwCl (tysF ct) l yX8_byteAt cX8_byteAt 2 (some .int) rmX8_byteAt [.ref (ad 43), .int (nI i)] (RM ct ad σ) (QI_ (dC, dI) vwCl (RM ct ad) (fun (r : Int32) (σ' : MS) => (by_ b n i) = r ∧ σ = σ')) := by
  refine MC.ofI (own := RX8) pl_X8 rfl (Nat.le_of_ble_eq_true rfl) ?_
  intro pp ee ss mm aa bb hh cc AA QQ G hT hnm RET
  refine v_loc (L' := [(0, .ref (ad 43)), (1, .int (nI i))]) rfl ?_
  obtain ⟨x1, x2, x3, x4, x5, x6⟩ := id hX
  refine v_iload_n G 1 dX8_byteAt_0 rfl ?_
  refine v_aload_n G 0 dX8_byteAt_1 rfl ?_
  refine m_get (v := .int (σ.1 19 0)) G 19 (by decide) rfl q1313 rfl dX8_byteAt_2 ?_
  refine v_icmp_ge (tgt := 22) G dX8_byteAt_5 (by decide) (fun h5 => ?_) (fun h5 => ?_)
  · have n5 := (cmp_le (x := σ.1 19 0) (y := nI i) (a := n) (b := i) x2 rfl (by omega) (by omega)).mp h5
    refine v_iconst (v := (-1)) G dX8_byteAt_22 rfl ?_
    refine RET _ _ _ _ _ _ rfl (Nat.le_of_ble_eq_true rfl) (Nat.le_of_ble_eq_true rfl) dX8_byteAt_23 (fun ws hw => ⟨_, hw, ?_⟩)
    clear RET G hT hnm
    exact ⟨by rw [by_, if_neg (by omega)], rfl⟩
  · have n5 := (not_congr (cmp_le (x := σ.1 19 0) (y := nI i) (a := n) (b := i) x2 rfl (by omega) (by omega))).mp h5
    refine v_aload_n G 0 dX8_byteAt_8 rfl ?_
    refine m_get (v := .ref (ad 1)) G 1 (by decide) rfl q1295 rfl dX8_byteAt_9 ?_
    refine v_aload_n G 0 dX8_byteAt_12 rfl ?_
    refine m_get (v := .int (σ.1 18 0)) G 18 (by decide) rfl q1312 rfl dX8_byteAt_13 ?_
    refine v_iload_n G 1 dX8_byteAt_16 rfl ?_
    refine v_iadd G dX8_byteAt_17 ?_
    refine m_iald G 1 rfl (F + i) (ix_add x1 rfl) (show F + i < 960 by first | omega | assumption | decide) dX8_byteAt_18 ?_
    refine v_goto (tgt := 23) G dX8_byteAt_19 (by decide) ?_
    refine RET _ _ _ _ _ _ rfl (Nat.le_of_ble_eq_true rfl) (Nat.le_of_ble_eq_true rfl) dX8_byteAt_23 (fun ws hw => ⟨_, hw, ?_⟩)
    clear RET G hT hnm
    exact ⟨by rw [by_, if_pos (by omega), x5 _ (by omega)], rfl⟩
abbrev rmX8_fail : Room := { frames := 0, cells := 0, slots := 0, locals := 0 }
set_option maxHeartbeats 4000000 in
theorem kX8_fail {KT : (Nat → Prop) → State → Heap → Prop} (hK : KTok KT) (l : Launch) (dC : Nat → ClassId) (dI : Nat → Nat → Nat) (ct ad : Nat → Nat) (σ : MS) (n : Nat) (b : Nat → Int32) (t : PS) (ht : tk b n t σ) : MC KT (dC, dI) vwCl (tysF ct) l yX8_fail cX8_fail 1 none rmX8_fail [.ref (ad 43)] (RM ct ad σ) (QV_ (dC, dI) vwCl (RM ct ad) (fun (σ' : MS) => tk b n (faS t) σ' ∧ σ'.1 25 0 = 1 ∧ ag [25, 26] σ σ')) := by
  refine MC.ofV (own := RX8) pl_X8 rfl (Nat.le_of_ble_eq_true rfl) ?_
  intro pp ee ss mm aa bb hh cc AA QQ G hT hnm RET
  refine v_loc (L' := [(0, .ref (ad 43))]) rfl ?_
  refine v_aload_n G 0 dX8_fail_0 rfl ?_
  refine m_get (v := .int (σ.1 25 0)) G 25 (by decide) rfl q1319 rfl dX8_fail_1 ?_
  refine v_if_ne (tgt := 20) G dX8_fail_4 (by decide) (fun h4 => ?_) (fun h4 => ?_)
  · refine RET _ _ _ _ _ (Nat.le_of_ble_eq_true rfl) (Nat.le_of_ble_eq_true rfl) dX8_fail_20 (fun ws hw => ⟨_, hw, ?_⟩)
    clear RET G hT hnm
    obtain ⟨e, rfl, he, e1, e2⟩ := tk_bad ht h4
    exact ⟨ht, e1, ag_rf⟩
  · refine v_aload_n G 0 dX8_fail_7 rfl ?_
    refine v_iconst (v := 1) G dX8_fail_8 rfl ?_
    refine m_putZ G 25 (by decide) q1319 rfl rfl rfl rfl rfl dX8_fail_9 ?_
    refine v_aload_n G 0 dX8_fail_12 rfl ?_
    refine v_aload_n G 0 dX8_fail_13 rfl ?_
    refine m_get (v := .int (σ.1 22 0)) G 22 (by decide) rfl q1316 rfl dX8_fail_14 ?_
    refine m_putI G 26 (by decide) q1320 rfl rfl rfl dX8_fail_17 ?_
    refine RET _ _ _ _ _ (Nat.le_of_ble_eq_true rfl) (Nat.le_of_ble_eq_true rfl) dX8_fail_20 (fun ws hw => ⟨_, hw, ?_⟩)
    clear RET G hT hnm
    obtain ⟨a, ha, ea, ef⟩ := tk_at ht h4
    exact ⟨by rw [ef]; exact ⟨ha, Or.inl ⟨rfl, ea⟩⟩, rfl, ag_tr (ag_set (by decide)) (ag_set (by decide))⟩
abbrev rmX8_isSign : Room := { frames := 0, cells := 0, slots := 0, locals := 0 }
set_option maxHeartbeats 4000000 in
theorem kX8_isSign {KT : (Nat → Prop) → State → Heap → Prop} (hK : KTok KT) (l : Launch) (dC : Nat → ClassId) (dI : Nat → Nat → Nat) (ct ad : Nat → Nat) (σ : MS) (n : Nat) (b : Nat → Int32) (t : PS) (z : Int32) (ht : tk b n t σ) : MC KT (dC, dI) vwCl (tysF ct) l yX8_isSign cX8_isSign 2 (some .boolean) rmX8_isSign [.ref (ad 43), .int z] (RM ct ad σ) (QI_ (dC, dI) vwCl (RM ct ad) (fun (r : Int32) (σ' : MS) => (1 = r ∧ σ = σ' ∧ isTk t 4 z = true) ∨ (0 = r ∧ σ = σ' ∧ isTk t 4 z = false))) := by
  refine MC.ofI (own := RX8) pl_X8 rfl (Nat.le_of_ble_eq_true rfl) ?_
  intro pp ee ss mm aa bb hh cc AA QQ G hT hnm RET
  refine v_loc (L' := [(0, .ref (ad 43)), (1, .int z)]) rfl ?_
  refine v_aload_n G 0 dX8_isSign_0 rfl ?_
  refine m_get (v := .int (σ.1 25 0)) G 25 (by decide) rfl q1319 rfl dX8_isSign_1 ?_
  refine v_if_ne (tgt := 29) G dX8_isSign_4 (by decide) (fun h4 => ?_) (fun h4 => ?_)
  · refine v_iconst (v := 0) G dX8_isSign_29 rfl ?_
    refine RET _ _ _ _ _ _ (by first | rfl | assumption) (Nat.le_of_ble_eq_true rfl) (Nat.le_of_ble_eq_true rfl) dX8_isSign_30 (fun ws hw => ⟨_, hw, ?_⟩)
    clear RET G hT hnm
    exact Or.inr ⟨rfl, rfl, tk_sg0 ht (fun q => by first | exact h4 q.1 | exact h12 q.2.1 | exact n22 q.2.2)⟩
  · refine v_aload_n G 0 dX8_isSign_7 rfl ?_
    refine m_get (v := .int (σ.1 21 0)) G 21 (by decide) rfl q1315 rfl dX8_isSign_8 ?_
    refine v_iconst (v := 3) G dX8_isSign_11 rfl ?_
    refine v_icmp_ne (tgt := 29) G dX8_isSign_12 (by decide) (fun h12 => ?_) (fun h12 => ?_)
    · refine v_iconst (v := 0) G dX8_isSign_29 rfl ?_
      refine RET _ _ _ _ _ _ (by first | rfl | assumption) (Nat.le_of_ble_eq_true rfl) (Nat.le_of_ble_eq_true rfl) dX8_isSign_30 (fun ws hw => ⟨_, hw, ?_⟩)
      clear RET G hT hnm
      exact Or.inr ⟨rfl, rfl, tk_sg0 ht (fun q => by first | exact h4 q.1 | exact h12 q.2.1 | exact n22 q.2.2)⟩
    · refine v_aload_n G 0 dX8_isSign_15 rfl ?_
      refine m_get (v := .long (σ.2 23 0)) G 23 (by decide) rfl q1317 rfl dX8_isSign_16 ?_
      refine v_iload_n G 1 dX8_isSign_19 rfl ?_
      refine v_i2l (v := z.toInt64) G dX8_isSign_20 rfl ?_
      refine v_lcmp G dX8_isSign_21 ?_
      refine v_if_ne (tgt := 29) G dX8_isSign_22 (by decide) (fun h22 => ?_) (fun h22 => ?_)
      · have n22 := (not_congr (le_of_lcmp (σ.2 23 0) z.toInt64).1).mp h22
        refine v_iconst (v := 0) G dX8_isSign_29 rfl ?_
        refine RET _ _ _ _ _ _ (by first | rfl | assumption) (Nat.le_of_ble_eq_true rfl) (Nat.le_of_ble_eq_true rfl) dX8_isSign_30 (fun ws hw => ⟨_, hw, ?_⟩)
        clear RET G hT hnm
        exact Or.inr ⟨rfl, rfl, tk_sg0 ht (fun q => by first | exact h4 q.1 | exact h12 q.2.1 | exact n22 q.2.2)⟩
      · have n22 := (le_of_lcmp (σ.2 23 0) z.toInt64).1.mp h22
        refine v_iconst (v := 1) G dX8_isSign_25 rfl ?_
        refine v_goto (tgt := 30) G dX8_isSign_26 (by decide) ?_
        refine RET _ _ _ _ _ _ (by first | rfl | assumption) (Nat.le_of_ble_eq_true rfl) (Nat.le_of_ble_eq_true rfl) dX8_isSign_30 (fun ws hw => ⟨_, hw, ?_⟩)
        clear RET G hT hnm
        exact Or.inl ⟨rfl, rfl, tk_sg1 ht h4 h12 n22⟩
abbrev rmX8_isLetter : Room := { frames := 1, cells := 0, slots := 0, locals := 21 }
set_option maxHeartbeats 4000000 in
theorem kX8_isLetter {KT : (Nat → Prop) → State → Heap → Prop} (hK : KTok KT) (l : Launch) (dC : Nat → ClassId) (dI : Nat → Nat → Nat) (ct ad : Nat → Nat) (σ : MS) (F : Nat) (n : Nat) (b : Nat → Int32) (a : Nat) (e : Nat) (i : Nat) (z : Int32) (hX : TX F n b σ) (ha : σ.1 22 0 = nI a) (he : σ.1 20 0 = nI e) (han : a ≤ n) (hen : e ≤ n) (hi : i ≤ 8) : MC KT (dC, dI) vwCl (tysF ct) l yX8_isLetter cX8_isLetter 3 (some .boolean) rmX8_isLetter [.ref (ad 43), .int (nI i), .int z] (RM ct ad σ) (QI_ (dC, dI) vwCl (RM ct ad) (fun (r : Int32) (σ' : MS) => (1 = r ∧ σ = σ' ∧ (if a + i < e then by_ b n (a + i) else 0) = z) ∨ (0 = r ∧ σ = σ' ∧ ¬ (if a + i < e then by_ b n (a + i) else 0) = z))) := by
  refine MC.ofI (own := RX8) pl_X8 rfl (Nat.le_of_ble_eq_true rfl) ?_
  intro pp ee ss mm aa bb hh cc AA QQ G hT hnm RET
  refine v_loc (L' := [(0, .ref (ad 43)), (1, .int (nI i)), (2, .int z)]) rfl ?_
  obtain ⟨x1, x2, x3, x4, x5, x6⟩ := id hX
  refine v_aload_n G 0 dX8_isLetter_0 rfl ?_
  refine m_get (v := .int (σ.1 22 0)) G 22 (by decide) rfl q1316 rfl dX8_isLetter_1 ?_
  refine v_iload_n G 1 dX8_isLetter_4 rfl ?_
  refine v_iadd G dX8_isLetter_5 ?_
  refine v_aload_n G 0 dX8_isLetter_6 rfl ?_
  refine m_get (v := .int (σ.1 20 0)) G 20 (by decide) rfl q1314 rfl dX8_isLetter_7 ?_
  refine v_icmp_ge (tgt := 35) G dX8_isLetter_10 (by decide) (fun h10 => ?_) (fun h10 => ?_)
  · have n10 := (cmp_le (x := σ.1 20 0) (y := (σ.1 22 0) + (nI i)) (a := e) (b := a + i) he (ix_add ha rfl) (by omega) (by omega)).mp h10
    refine v_iload_n G 2 dX8_isLetter_35 rfl ?_
    refine v_if_ne (tgt := 43) G dX8_isLetter_36 (by decide) (fun h36 => ?_) (fun h36 => ?_)
    · refine v_iconst (v := 0) G dX8_isLetter_43 rfl ?_
      refine RET _ _ _ _ _ _ (by first | rfl | assumption) (Nat.le_of_ble_eq_true rfl) (Nat.le_of_ble_eq_true rfl) dX8_isLetter_44 (fun ws hw => ⟨_, hw, ?_⟩)
      clear RET G hT hnm
      exact Or.inr ⟨rfl, rfl, by first | (rw [if_pos (by omega)]; assumption) | (rw [if_neg (by omega)]; exact fun q => h36 q.symm)⟩
    · refine v_iconst (v := 1) G dX8_isLetter_39 rfl ?_
      refine v_goto (tgt := 44) G dX8_isLetter_40 (by decide) ?_
      refine RET _ _ _ _ _ _ (by first | rfl | assumption) (Nat.le_of_ble_eq_true rfl) (Nat.le_of_ble_eq_true rfl) dX8_isLetter_44 (fun ws hw => ⟨_, hw, ?_⟩)
      clear RET G hT hnm
      exact Or.inl ⟨rfl, rfl, by first | (rw [if_pos (by omega)]; assumption) | (rw [if_neg (by omega)]; exact Eq.symm h36)⟩
  · have n10 := (not_congr (cmp_le (x := σ.1 20 0) (y := (σ.1 22 0) + (nI i)) (a := e) (b := a + i) he (ix_add ha rfl) (by omega) (by omega))).mp h10
    refine v_aload_n G 0 dX8_isLetter_13 rfl ?_
    refine v_aload_n G 0 dX8_isLetter_14 rfl ?_
    refine m_get (v := .int (σ.1 22 0)) G 22 (by decide) rfl q1316 rfl dX8_isLetter_15 ?_
    refine v_iload_n G 1 dX8_isLetter_18 rfl ?_
    refine v_iadd G dX8_isLetter_19 ?_
    refine v_stk (st' := [.int (nI (a + i)), .ref (ad 43)]) (by first | rfl | (have e0 : ((σ.1 22 0) + (nI i)) = nI (a + i) := (ix_add ha rfl) ; simp only [e0])) ?_
    refine w_callVi G hK hT (kX8_byteAt hK l dC dI ct ad σ F n b (a + i) (by first | assumption | omega) (by first | assumption | omega)) (ck_X8_159 G.2.2.2.2.1 ⟨Nat.le_of_ble_eq_true rfl, Nat.le_of_ble_eq_true rfl⟩) m_recv (fun _ h => h) rfl [] rfl (Nat.le_of_ble_eq_true rfl) dX8_isLetter_20 ⟨Nat.le_of_ble_eq_true rfl, Nat.le_of_ble_eq_true rfl⟩ (k1 := 0) (n1 := 0) rfl rfl ?_
    rintro r20 σ20 ⟨rfl, rfl⟩
    refine v_iload_n G 2 dX8_isLetter_23 rfl ?_
    refine v_icmp_ne (tgt := 31) G dX8_isLetter_24 (by decide) (fun h24 => ?_) (fun h24 => ?_)
    · refine v_iconst (v := 0) G dX8_isLetter_31 rfl ?_
      refine v_goto (tgt := 44) G dX8_isLetter_32 (by decide) ?_
      refine RET _ _ _ _ _ _ (by first | rfl | assumption) (Nat.le_of_ble_eq_true rfl) (Nat.le_of_ble_eq_true rfl) dX8_isLetter_44 (fun ws hw => ⟨_, hw, ?_⟩)
      clear RET G hT hnm
      exact Or.inr ⟨rfl, rfl, by first | (rw [if_pos (by omega)]; assumption) | (rw [if_neg (by omega)]; exact fun q => h36 q.symm)⟩
    · refine v_iconst (v := 1) G dX8_isLetter_27 rfl ?_
      refine v_goto (tgt := 44) G dX8_isLetter_28 (by decide) ?_
      refine RET _ _ _ _ _ _ (by first | rfl | assumption) (Nat.le_of_ble_eq_true rfl) (Nat.le_of_ble_eq_true rfl) dX8_isLetter_44 (fun ws hw => ⟨_, hw, ?_⟩)
      clear RET G hT hnm
      exact Or.inl ⟨rfl, rfl, by first | (rw [if_pos (by omega)]; assumption) | (rw [if_neg (by omega)]; exact Eq.symm h36)⟩
abbrev rmX8_isWord : Room := { frames := 2, cells := 0, slots := 0, locals := 43 }
set_option maxHeartbeats 4000000 in
theorem kX8_isWord {KT : (Nat → Prop) → State → Heap → Prop} (hK : KTok KT) (l : Launch) (dC : Nat → ClassId) (dI : Nat → Nat → Nat) (ct ad : Nat → Nat) (σ : MS) (F : Nat) (n : Nat) (b : Nat → Int32) (t : PS) (x : Nat × Nat × List Int32) (la : Int32) (lb : Int32) (lc : Int32) (ld : Int32) (le : Int32) (lf : Int32) (lg : Int32) (lh : Int32) (hX : TX F n b σ) (ht : tk b n t σ) (hx : x ∈ wtab) (hL : x.2.2 = [la, lb, lc, ld, le, lf, lg, lh]) : MC KT (dC, dI) vwCl (tysF ct) l yX8_isWord cX8_isWord 9 (some .boolean) rmX8_isWord [.ref (ad 43), .int la, .int lb, .int lc, .int ld, .int le, .int lf, .int lg, .int lh] (RM ct ad σ) (QI_ (dC, dI) vwCl (RM ct ad) (fun (r : Int32) (σ' : MS) => (1 = r ∧ σ = σ' ∧ isTk t x.1 (nI x.2.1) = true) ∨ (0 = r ∧ σ = σ' ∧ isTk t x.1 (nI x.2.1) = false))) := by
  refine MC.ofI (own := RX8) pl_X8 rfl (Nat.le_of_ble_eq_true rfl) ?_
  intro pp ee ss mm aa bb hh cc AA QQ G hT hnm RET
  refine v_loc (L' := [(0, .ref (ad 43)), (1, .int la), (2, .int lb), (3, .int lc), (4, .int ld), (5, .int le), (6, .int lf), (7, .int lg), (8, .int lh)]) rfl ?_
  obtain ⟨x1, x2, x3, x4, x5, x6⟩ := id hX
  have hk12 : ∀ x ∈ wtab, x.1 = 2 ∨ x.1 = 1 := by decide +kernel
  have h00 : ∀ x ∈ wtab, x.1 ≠ 0 := by decide +kernel
  refine v_aload_n G 0 dX8_isWord_0 rfl ?_
  refine m_get (v := .int (σ.1 25 0)) G 25 (by decide) rfl q1319 rfl dX8_isWord_1 ?_
  refine v_if_ne (tgt := 112) G dX8_isWord_4 (by decide) (fun h4 => ?_) (fun h4 => ?_)
  · refine v_iconst (v := 0) G dX8_isWord_112 rfl ?_
    refine RET _ _ _ _ _ _ (by first | rfl | assumption) (Nat.le_of_ble_eq_true rfl) (Nat.le_of_ble_eq_true rfl) dX8_isWord_113 (fun ws hw => ⟨_, hw, ?_⟩)
    clear RET G hT hnm
    refine Or.inr ⟨rfl, rfl, ?_⟩
    first
      | exact Bool.eq_false_iff.mpr (fun q => absurd (isTk_kd q).1 (fun z => by have := tk_nwd ht (fun y => by first | exact h4 y.1 | exact h12 y.2); have h0 := hk12 x hx; rcases h0 with h0 | h0 <;> rw [h0] at z <;> first | exact this.1 z | exact this.2 z))
      | (refine Bool.eq_false_iff.mpr (fun q => ?_)
         have q := (hq x hx).mp q
         rw [wc, if_neg (by omega)] at q
         exact absurd (congrArg Prod.fst q).symm (h00 x hx))
      | (refine Bool.eq_false_iff.mpr (fun q => ?_)
         have q := (hq x hx).mp q
         rw [wc, if_pos (by omega)] at q
         have q := (wfind_tab x hx _).mp q
         rw [hL] at q
         simp only [wl, List.range, List.range.loop, List.map_cons, List.map_nil, List.cons.injEq, and_true] at q
         first | exact h32_h q.1 | exact h41_h q.2.1 | exact h50_h q.2.2.1 | exact h60_h q.2.2.2.1 | exact h70_h q.2.2.2.2.1 | exact h80_h q.2.2.2.2.2.1 | exact h91_h q.2.2.2.2.2.2.1 | exact h102_h q.2.2.2.2.2.2.2)
  · refine v_aload_n G 0 dX8_isWord_7 rfl ?_
    refine m_get (v := .int (σ.1 21 0)) G 21 (by decide) rfl q1315 rfl dX8_isWord_8 ?_
    refine v_iconst (v := 1) G dX8_isWord_11 rfl ?_
    refine v_icmp_ne (tgt := 112) G dX8_isWord_12 (by decide) (fun h12 => ?_) (fun h12 => ?_)
    · refine v_iconst (v := 0) G dX8_isWord_112 rfl ?_
      refine RET _ _ _ _ _ _ (by first | rfl | assumption) (Nat.le_of_ble_eq_true rfl) (Nat.le_of_ble_eq_true rfl) dX8_isWord_113 (fun ws hw => ⟨_, hw, ?_⟩)
      clear RET G hT hnm
      refine Or.inr ⟨rfl, rfl, ?_⟩
      first
        | exact Bool.eq_false_iff.mpr (fun q => absurd (isTk_kd q).1 (fun z => by have := tk_nwd ht (fun y => by first | exact h4 y.1 | exact h12 y.2); have h0 := hk12 x hx; rcases h0 with h0 | h0 <;> rw [h0] at z <;> first | exact this.1 z | exact this.2 z))
        | (refine Bool.eq_false_iff.mpr (fun q => ?_)
           have q := (hq x hx).mp q
           rw [wc, if_neg (by omega)] at q
           exact absurd (congrArg Prod.fst q).symm (h00 x hx))
        | (refine Bool.eq_false_iff.mpr (fun q => ?_)
           have q := (hq x hx).mp q
           rw [wc, if_pos (by omega)] at q
           have q := (wfind_tab x hx _).mp q
           rw [hL] at q
           simp only [wl, List.range, List.range.loop, List.map_cons, List.map_nil, List.cons.injEq, and_true] at q
           first | exact h32_h q.1 | exact h41_h q.2.1 | exact h50_h q.2.2.1 | exact h60_h q.2.2.2.1 | exact h70_h q.2.2.2.2.1 | exact h80_h q.2.2.2.2.2.1 | exact h91_h q.2.2.2.2.2.2.1 | exact h102_h q.2.2.2.2.2.2.2)
    · obtain ⟨a, e, han, hen, ha, he, hfa, hq⟩ := tk_wd ht h4 h12
      refine v_aload_n G 0 dX8_isWord_15 rfl ?_
      refine m_get (v := .int (σ.1 20 0)) G 20 (by decide) rfl q1314 rfl dX8_isWord_16 ?_
      refine v_aload_n G 0 dX8_isWord_19 rfl ?_
      refine m_get (v := .int (σ.1 22 0)) G 22 (by decide) rfl q1316 rfl dX8_isWord_20 ?_
      refine v_bipush (v := 8) G dX8_isWord_23 rfl ?_
      refine v_iadd G dX8_isWord_25 ?_
      refine v_icmp_gt (tgt := 112) G dX8_isWord_26 (by decide) (fun h26 => ?_) (fun h26 => ?_)
      · have n26 := (cmp_lt (x := (σ.1 22 0) + 8) (y := σ.1 20 0) (a := a + 8) (b := e) (ix_add ha (ix_lit 8 rfl)) he (by omega) (by omega)).mp h26
        refine v_iconst (v := 0) G dX8_isWord_112 rfl ?_
        refine RET _ _ _ _ _ _ (by first | rfl | assumption) (Nat.le_of_ble_eq_true rfl) (Nat.le_of_ble_eq_true rfl) dX8_isWord_113 (fun ws hw => ⟨_, hw, ?_⟩)
        clear RET G hT hnm
        refine Or.inr ⟨rfl, rfl, ?_⟩
        first
          | exact Bool.eq_false_iff.mpr (fun q => absurd (isTk_kd q).1 (fun z => by have := tk_nwd ht (fun y => by first | exact h4 y.1 | exact h12 y.2); have h0 := hk12 x hx; rcases h0 with h0 | h0 <;> rw [h0] at z <;> first | exact this.1 z | exact this.2 z))
          | (refine Bool.eq_false_iff.mpr (fun q => ?_)
             have q := (hq x hx).mp q
             rw [wc, if_neg (by omega)] at q
             exact absurd (congrArg Prod.fst q).symm (h00 x hx))
          | (refine Bool.eq_false_iff.mpr (fun q => ?_)
             have q := (hq x hx).mp q
             rw [wc, if_pos (by omega)] at q
             have q := (wfind_tab x hx _).mp q
             rw [hL] at q
             simp only [wl, List.range, List.range.loop, List.map_cons, List.map_nil, List.cons.injEq, and_true] at q
             first | exact h32_h q.1 | exact h41_h q.2.1 | exact h50_h q.2.2.1 | exact h60_h q.2.2.2.1 | exact h70_h q.2.2.2.2.1 | exact h80_h q.2.2.2.2.2.1 | exact h91_h q.2.2.2.2.2.2.1 | exact h102_h q.2.2.2.2.2.2.2)
      · have n26 := (not_congr (cmp_lt (x := (σ.1 22 0) + 8) (y := σ.1 20 0) (a := a + 8) (b := e) (ix_add ha (ix_lit 8 rfl)) he (by omega) (by omega))).mp h26
        refine v_aload_n G 0 dX8_isWord_29 rfl ?_
        refine v_iconst (v := 0) G dX8_isWord_30 rfl ?_
        refine v_iload_n G 1 dX8_isWord_31 rfl ?_
        refine v_stk (st' := [.int la, .int (nI 0), .ref (ad 43)]) (by first | rfl | (have e0 : 0 = nI 0 := (ix_lit 0 rfl) ; simp only [e0])) ?_
        refine w_callVi G hK hT (kX8_isLetter hK l dC dI ct ad σ F n b a e 0 la (by first | assumption | omega) (by first | assumption | omega) (by first | assumption | omega) (by first | assumption | omega) (by first | assumption | omega) (by first | assumption | omega)) (ck_X8_187 G.2.2.2.2.1 ⟨Nat.le_of_ble_eq_true rfl, Nat.le_of_ble_eq_true rfl⟩) m_recv (fun _ h => h) rfl [] rfl (Nat.le_of_ble_eq_true rfl) dX8_isWord_32 ⟨Nat.le_of_ble_eq_true rfl, Nat.le_of_ble_eq_true rfl⟩ (k1 := 0) (n1 := 0) rfl rfl ?_
        rintro r32 σ32 (⟨rfl, rfl, h32_h⟩ | ⟨rfl, rfl, h32_h⟩)
        · refine v_if_eq (tgt := 112) G dX8_isWord_35 (by decide) (fun h35 => absurd h35 (by decide)) (fun h35 => ?_)
          refine v_aload_n G 0 dX8_isWord_38 rfl ?_
          refine v_iconst (v := 1) G dX8_isWord_39 rfl ?_
          refine v_iload_n G 2 dX8_isWord_40 rfl ?_
          refine v_stk (st' := [.int lb, .int (nI 1), .ref (ad 43)]) (by first | rfl | (have e0 : 1 = nI 1 := (ix_lit 1 rfl) ; simp only [e0])) ?_
          refine w_callVi G hK hT (kX8_isLetter hK l dC dI ct ad σ F n b a e 1 lb (by first | assumption | omega) (by first | assumption | omega) (by first | assumption | omega) (by first | assumption | omega) (by first | assumption | omega) (by first | assumption | omega)) (ck_X8_187 G.2.2.2.2.1 ⟨Nat.le_of_ble_eq_true rfl, Nat.le_of_ble_eq_true rfl⟩) m_recv (fun _ h => h) rfl [] rfl (Nat.le_of_ble_eq_true rfl) dX8_isWord_41 ⟨Nat.le_of_ble_eq_true rfl, Nat.le_of_ble_eq_true rfl⟩ (k1 := 0) (n1 := 0) rfl rfl ?_
          rintro r41 σ41 (⟨rfl, rfl, h41_h⟩ | ⟨rfl, rfl, h41_h⟩)
          · refine v_if_eq (tgt := 112) G dX8_isWord_44 (by decide) (fun h44 => absurd h44 (by decide)) (fun h44 => ?_)
            refine v_aload_n G 0 dX8_isWord_47 rfl ?_
            refine v_iconst (v := 2) G dX8_isWord_48 rfl ?_
            refine v_iload_n G 3 dX8_isWord_49 rfl ?_
            refine v_stk (st' := [.int lc, .int (nI 2), .ref (ad 43)]) (by first | rfl | (have e0 : 2 = nI 2 := (ix_lit 2 rfl) ; simp only [e0])) ?_
            refine w_callVi G hK hT (kX8_isLetter hK l dC dI ct ad σ F n b a e 2 lc (by first | assumption | omega) (by first | assumption | omega) (by first | assumption | omega) (by first | assumption | omega) (by first | assumption | omega) (by first | assumption | omega)) (ck_X8_187 G.2.2.2.2.1 ⟨Nat.le_of_ble_eq_true rfl, Nat.le_of_ble_eq_true rfl⟩) m_recv (fun _ h => h) rfl [] rfl (Nat.le_of_ble_eq_true rfl) dX8_isWord_50 ⟨Nat.le_of_ble_eq_true rfl, Nat.le_of_ble_eq_true rfl⟩ (k1 := 0) (n1 := 0) rfl rfl ?_
            rintro r50 σ50 (⟨rfl, rfl, h50_h⟩ | ⟨rfl, rfl, h50_h⟩)
            · refine v_if_eq (tgt := 112) G dX8_isWord_53 (by decide) (fun h53 => absurd h53 (by decide)) (fun h53 => ?_)
              refine v_aload_n G 0 dX8_isWord_56 rfl ?_
              refine v_iconst (v := 3) G dX8_isWord_57 rfl ?_
              refine v_iload G 4 dX8_isWord_58 rfl ?_
              refine v_stk (st' := [.int ld, .int (nI 3), .ref (ad 43)]) (by first | rfl | (have e0 : 3 = nI 3 := (ix_lit 3 rfl) ; simp only [e0])) ?_
              refine w_callVi G hK hT (kX8_isLetter hK l dC dI ct ad σ F n b a e 3 ld (by first | assumption | omega) (by first | assumption | omega) (by first | assumption | omega) (by first | assumption | omega) (by first | assumption | omega) (by first | assumption | omega)) (ck_X8_187 G.2.2.2.2.1 ⟨Nat.le_of_ble_eq_true rfl, Nat.le_of_ble_eq_true rfl⟩) m_recv (fun _ h => h) rfl [] rfl (Nat.le_of_ble_eq_true rfl) dX8_isWord_60 ⟨Nat.le_of_ble_eq_true rfl, Nat.le_of_ble_eq_true rfl⟩ (k1 := 0) (n1 := 0) rfl rfl ?_
              rintro r60 σ60 (⟨rfl, rfl, h60_h⟩ | ⟨rfl, rfl, h60_h⟩)
              · refine v_if_eq (tgt := 112) G dX8_isWord_63 (by decide) (fun h63 => absurd h63 (by decide)) (fun h63 => ?_)
                refine v_aload_n G 0 dX8_isWord_66 rfl ?_
                refine v_iconst (v := 4) G dX8_isWord_67 rfl ?_
                refine v_iload G 5 dX8_isWord_68 rfl ?_
                refine v_stk (st' := [.int le, .int (nI 4), .ref (ad 43)]) (by first | rfl | (have e0 : 4 = nI 4 := (ix_lit 4 rfl) ; simp only [e0])) ?_
                refine w_callVi G hK hT (kX8_isLetter hK l dC dI ct ad σ F n b a e 4 le (by first | assumption | omega) (by first | assumption | omega) (by first | assumption | omega) (by first | assumption | omega) (by first | assumption | omega) (by first | assumption | omega)) (ck_X8_187 G.2.2.2.2.1 ⟨Nat.le_of_ble_eq_true rfl, Nat.le_of_ble_eq_true rfl⟩) m_recv (fun _ h => h) rfl [] rfl (Nat.le_of_ble_eq_true rfl) dX8_isWord_70 ⟨Nat.le_of_ble_eq_true rfl, Nat.le_of_ble_eq_true rfl⟩ (k1 := 0) (n1 := 0) rfl rfl ?_
                rintro r70 σ70 (⟨rfl, rfl, h70_h⟩ | ⟨rfl, rfl, h70_h⟩)
                · refine v_if_eq (tgt := 112) G dX8_isWord_73 (by decide) (fun h73 => absurd h73 (by decide)) (fun h73 => ?_)
                  refine v_aload_n G 0 dX8_isWord_76 rfl ?_
                  refine v_iconst (v := 5) G dX8_isWord_77 rfl ?_
                  refine v_iload G 6 dX8_isWord_78 rfl ?_
                  refine v_stk (st' := [.int lf, .int (nI 5), .ref (ad 43)]) (by first | rfl | (have e0 : 5 = nI 5 := (ix_lit 5 rfl) ; simp only [e0])) ?_
                  refine w_callVi G hK hT (kX8_isLetter hK l dC dI ct ad σ F n b a e 5 lf (by first | assumption | omega) (by first | assumption | omega) (by first | assumption | omega) (by first | assumption | omega) (by first | assumption | omega) (by first | assumption | omega)) (ck_X8_187 G.2.2.2.2.1 ⟨Nat.le_of_ble_eq_true rfl, Nat.le_of_ble_eq_true rfl⟩) m_recv (fun _ h => h) rfl [] rfl (Nat.le_of_ble_eq_true rfl) dX8_isWord_80 ⟨Nat.le_of_ble_eq_true rfl, Nat.le_of_ble_eq_true rfl⟩ (k1 := 0) (n1 := 0) rfl rfl ?_
                  rintro r80 σ80 (⟨rfl, rfl, h80_h⟩ | ⟨rfl, rfl, h80_h⟩)
                  · refine v_if_eq (tgt := 112) G dX8_isWord_83 (by decide) (fun h83 => absurd h83 (by decide)) (fun h83 => ?_)
                    refine v_aload_n G 0 dX8_isWord_86 rfl ?_
                    refine v_bipush (v := 6) G dX8_isWord_87 rfl ?_
                    refine v_iload G 7 dX8_isWord_89 rfl ?_
                    refine v_stk (st' := [.int lg, .int (nI 6), .ref (ad 43)]) (by first | rfl | (have e0 : 6 = nI 6 := (ix_lit 6 rfl) ; simp only [e0])) ?_
                    refine w_callVi G hK hT (kX8_isLetter hK l dC dI ct ad σ F n b a e 6 lg (by first | assumption | omega) (by first | assumption | omega) (by first | assumption | omega) (by first | assumption | omega) (by first | assumption | omega) (by first | assumption | omega)) (ck_X8_187 G.2.2.2.2.1 ⟨Nat.le_of_ble_eq_true rfl, Nat.le_of_ble_eq_true rfl⟩) m_recv (fun _ h => h) rfl [] rfl (Nat.le_of_ble_eq_true rfl) dX8_isWord_91 ⟨Nat.le_of_ble_eq_true rfl, Nat.le_of_ble_eq_true rfl⟩ (k1 := 0) (n1 := 0) rfl rfl ?_
                    rintro r91 σ91 (⟨rfl, rfl, h91_h⟩ | ⟨rfl, rfl, h91_h⟩)
                    · refine v_if_eq (tgt := 112) G dX8_isWord_94 (by decide) (fun h94 => absurd h94 (by decide)) (fun h94 => ?_)
                      refine v_aload_n G 0 dX8_isWord_97 rfl ?_
                      refine v_bipush (v := 7) G dX8_isWord_98 rfl ?_
                      refine v_iload G 8 dX8_isWord_100 rfl ?_
                      refine v_stk (st' := [.int lh, .int (nI 7), .ref (ad 43)]) (by first | rfl | (have e0 : 7 = nI 7 := (ix_lit 7 rfl) ; simp only [e0])) ?_
                      refine w_callVi G hK hT (kX8_isLetter hK l dC dI ct ad σ F n b a e 7 lh (by first | assumption | omega) (by first | assumption | omega) (by first | assumption | omega) (by first | assumption | omega) (by first | assumption | omega) (by first | assumption | omega)) (ck_X8_187 G.2.2.2.2.1 ⟨Nat.le_of_ble_eq_true rfl, Nat.le_of_ble_eq_true rfl⟩) m_recv (fun _ h => h) rfl [] rfl (Nat.le_of_ble_eq_true rfl) dX8_isWord_102 ⟨Nat.le_of_ble_eq_true rfl, Nat.le_of_ble_eq_true rfl⟩ (k1 := 0) (n1 := 0) rfl rfl ?_
                      rintro r102 σ102 (⟨rfl, rfl, h102_h⟩ | ⟨rfl, rfl, h102_h⟩)
                      · refine v_if_eq (tgt := 112) G dX8_isWord_105 (by decide) (fun h105 => absurd h105 (by decide)) (fun h105 => ?_)
                        refine v_iconst (v := 1) G dX8_isWord_108 rfl ?_
                        refine v_goto (tgt := 113) G dX8_isWord_109 (by decide) ?_
                        refine RET _ _ _ _ _ _ (by first | rfl | assumption) (Nat.le_of_ble_eq_true rfl) (Nat.le_of_ble_eq_true rfl) dX8_isWord_113 (fun ws hw => ⟨_, hw, ?_⟩)
                        clear RET G hT hnm
                        refine Or.inl ⟨rfl, rfl, (hq x hx).mpr ?_⟩
                        rw [wc, if_pos (by omega)]
                        refine (wfind_tab x hx _).mpr ?_
                        rw [hL]
                        simp only [wl, List.range, List.range.loop, List.map_cons, List.map_nil, List.cons.injEq, and_true]
                        exact ⟨h32_h, h41_h, h50_h, h60_h, h70_h, h80_h, h91_h, h102_h⟩
                      · refine v_if_eq (tgt := 112) G dX8_isWord_105 (by decide) (fun h105 => ?_) (fun h105 => absurd h105 (by decide))
                        refine v_iconst (v := 0) G dX8_isWord_112 rfl ?_
                        refine RET _ _ _ _ _ _ (by first | rfl | assumption) (Nat.le_of_ble_eq_true rfl) (Nat.le_of_ble_eq_true rfl) dX8_isWord_113 (fun ws hw => ⟨_, hw, ?_⟩)
                        clear RET G hT hnm
                        refine Or.inr ⟨rfl, rfl, ?_⟩
                        first
                          | exact Bool.eq_false_iff.mpr (fun q => absurd (isTk_kd q).1 (fun z => by have := tk_nwd ht (fun y => by first | exact h4 y.1 | exact h12 y.2); have h0 := hk12 x hx; rcases h0 with h0 | h0 <;> rw [h0] at z <;> first | exact this.1 z | exact this.2 z))
                          | (refine Bool.eq_false_iff.mpr (fun q => ?_)
                             have q := (hq x hx).mp q
                             rw [wc, if_neg (by omega)] at q
                             exact absurd (congrArg Prod.fst q).symm (h00 x hx))
                          | (refine Bool.eq_false_iff.mpr (fun q => ?_)
                             have q := (hq x hx).mp q
                             rw [wc, if_pos (by omega)] at q
                             have q := (wfind_tab x hx _).mp q
                             rw [hL] at q
                             simp only [wl, List.range, List.range.loop, List.map_cons, List.map_nil, List.cons.injEq, and_true] at q
                             first | exact h32_h q.1 | exact h41_h q.2.1 | exact h50_h q.2.2.1 | exact h60_h q.2.2.2.1 | exact h70_h q.2.2.2.2.1 | exact h80_h q.2.2.2.2.2.1 | exact h91_h q.2.2.2.2.2.2.1 | exact h102_h q.2.2.2.2.2.2.2)
                    · refine v_if_eq (tgt := 112) G dX8_isWord_94 (by decide) (fun h94 => ?_) (fun h94 => absurd h94 (by decide))
                      refine v_iconst (v := 0) G dX8_isWord_112 rfl ?_
                      refine RET _ _ _ _ _ _ (by first | rfl | assumption) (Nat.le_of_ble_eq_true rfl) (Nat.le_of_ble_eq_true rfl) dX8_isWord_113 (fun ws hw => ⟨_, hw, ?_⟩)
                      clear RET G hT hnm
                      refine Or.inr ⟨rfl, rfl, ?_⟩
                      first
                        | exact Bool.eq_false_iff.mpr (fun q => absurd (isTk_kd q).1 (fun z => by have := tk_nwd ht (fun y => by first | exact h4 y.1 | exact h12 y.2); have h0 := hk12 x hx; rcases h0 with h0 | h0 <;> rw [h0] at z <;> first | exact this.1 z | exact this.2 z))
                        | (refine Bool.eq_false_iff.mpr (fun q => ?_)
                           have q := (hq x hx).mp q
                           rw [wc, if_neg (by omega)] at q
                           exact absurd (congrArg Prod.fst q).symm (h00 x hx))
                        | (refine Bool.eq_false_iff.mpr (fun q => ?_)
                           have q := (hq x hx).mp q
                           rw [wc, if_pos (by omega)] at q
                           have q := (wfind_tab x hx _).mp q
                           rw [hL] at q
                           simp only [wl, List.range, List.range.loop, List.map_cons, List.map_nil, List.cons.injEq, and_true] at q
                           first | exact h32_h q.1 | exact h41_h q.2.1 | exact h50_h q.2.2.1 | exact h60_h q.2.2.2.1 | exact h70_h q.2.2.2.2.1 | exact h80_h q.2.2.2.2.2.1 | exact h91_h q.2.2.2.2.2.2.1 | exact h102_h q.2.2.2.2.2.2.2)
                  · refine v_if_eq (tgt := 112) G dX8_isWord_83 (by decide) (fun h83 => ?_) (fun h83 => absurd h83 (by decide))
                    refine v_iconst (v := 0) G dX8_isWord_112 rfl ?_
                    refine RET _ _ _ _ _ _ (by first | rfl | assumption) (Nat.le_of_ble_eq_true rfl) (Nat.le_of_ble_eq_true rfl) dX8_isWord_113 (fun ws hw => ⟨_, hw, ?_⟩)
                    clear RET G hT hnm
                    refine Or.inr ⟨rfl, rfl, ?_⟩
                    first
                      | exact Bool.eq_false_iff.mpr (fun q => absurd (isTk_kd q).1 (fun z => by have := tk_nwd ht (fun y => by first | exact h4 y.1 | exact h12 y.2); have h0 := hk12 x hx; rcases h0 with h0 | h0 <;> rw [h0] at z <;> first | exact this.1 z | exact this.2 z))
                      | (refine Bool.eq_false_iff.mpr (fun q => ?_)
                         have q := (hq x hx).mp q
                         rw [wc, if_neg (by omega)] at q
                         exact absurd (congrArg Prod.fst q).symm (h00 x hx))
                      | (refine Bool.eq_false_iff.mpr (fun q => ?_)
                         have q := (hq x hx).mp q
                         rw [wc, if_pos (by omega)] at q
                         have q := (wfind_tab x hx _).mp q
                         rw [hL] at q
                         simp only [wl, List.range, List.range.loop, List.map_cons, List.map_nil, List.cons.injEq, and_true] at q
                         first | exact h32_h q.1 | exact h41_h q.2.1 | exact h50_h q.2.2.1 | exact h60_h q.2.2.2.1 | exact h70_h q.2.2.2.2.1 | exact h80_h q.2.2.2.2.2.1 | exact h91_h q.2.2.2.2.2.2.1 | exact h102_h q.2.2.2.2.2.2.2)
                · refine v_if_eq (tgt := 112) G dX8_isWord_73 (by decide) (fun h73 => ?_) (fun h73 => absurd h73 (by decide))
                  refine v_iconst (v := 0) G dX8_isWord_112 rfl ?_
                  refine RET _ _ _ _ _ _ (by first | rfl | assumption) (Nat.le_of_ble_eq_true rfl) (Nat.le_of_ble_eq_true rfl) dX8_isWord_113 (fun ws hw => ⟨_, hw, ?_⟩)
                  clear RET G hT hnm
                  refine Or.inr ⟨rfl, rfl, ?_⟩
                  first
                    | exact Bool.eq_false_iff.mpr (fun q => absurd (isTk_kd q).1 (fun z => by have := tk_nwd ht (fun y => by first | exact h4 y.1 | exact h12 y.2); have h0 := hk12 x hx; rcases h0 with h0 | h0 <;> rw [h0] at z <;> first | exact this.1 z | exact this.2 z))
                    | (refine Bool.eq_false_iff.mpr (fun q => ?_)
                       have q := (hq x hx).mp q
                       rw [wc, if_neg (by omega)] at q
                       exact absurd (congrArg Prod.fst q).symm (h00 x hx))
                    | (refine Bool.eq_false_iff.mpr (fun q => ?_)
                       have q := (hq x hx).mp q
                       rw [wc, if_pos (by omega)] at q
                       have q := (wfind_tab x hx _).mp q
                       rw [hL] at q
                       simp only [wl, List.range, List.range.loop, List.map_cons, List.map_nil, List.cons.injEq, and_true] at q
                       first | exact h32_h q.1 | exact h41_h q.2.1 | exact h50_h q.2.2.1 | exact h60_h q.2.2.2.1 | exact h70_h q.2.2.2.2.1 | exact h80_h q.2.2.2.2.2.1 | exact h91_h q.2.2.2.2.2.2.1 | exact h102_h q.2.2.2.2.2.2.2)
              · refine v_if_eq (tgt := 112) G dX8_isWord_63 (by decide) (fun h63 => ?_) (fun h63 => absurd h63 (by decide))
                refine v_iconst (v := 0) G dX8_isWord_112 rfl ?_
                refine RET _ _ _ _ _ _ (by first | rfl | assumption) (Nat.le_of_ble_eq_true rfl) (Nat.le_of_ble_eq_true rfl) dX8_isWord_113 (fun ws hw => ⟨_, hw, ?_⟩)
                clear RET G hT hnm
                refine Or.inr ⟨rfl, rfl, ?_⟩
                first
                  | exact Bool.eq_false_iff.mpr (fun q => absurd (isTk_kd q).1 (fun z => by have := tk_nwd ht (fun y => by first | exact h4 y.1 | exact h12 y.2); have h0 := hk12 x hx; rcases h0 with h0 | h0 <;> rw [h0] at z <;> first | exact this.1 z | exact this.2 z))
                  | (refine Bool.eq_false_iff.mpr (fun q => ?_)
                     have q := (hq x hx).mp q
                     rw [wc, if_neg (by omega)] at q
                     exact absurd (congrArg Prod.fst q).symm (h00 x hx))
                  | (refine Bool.eq_false_iff.mpr (fun q => ?_)
                     have q := (hq x hx).mp q
                     rw [wc, if_pos (by omega)] at q
                     have q := (wfind_tab x hx _).mp q
                     rw [hL] at q
                     simp only [wl, List.range, List.range.loop, List.map_cons, List.map_nil, List.cons.injEq, and_true] at q
                     first | exact h32_h q.1 | exact h41_h q.2.1 | exact h50_h q.2.2.1 | exact h60_h q.2.2.2.1 | exact h70_h q.2.2.2.2.1 | exact h80_h q.2.2.2.2.2.1 | exact h91_h q.2.2.2.2.2.2.1 | exact h102_h q.2.2.2.2.2.2.2)
            · refine v_if_eq (tgt := 112) G dX8_isWord_53 (by decide) (fun h53 => ?_) (fun h53 => absurd h53 (by decide))
              refine v_iconst (v := 0) G dX8_isWord_112 rfl ?_
              refine RET _ _ _ _ _ _ (by first | rfl | assumption) (Nat.le_of_ble_eq_true rfl) (Nat.le_of_ble_eq_true rfl) dX8_isWord_113 (fun ws hw => ⟨_, hw, ?_⟩)
              clear RET G hT hnm
              refine Or.inr ⟨rfl, rfl, ?_⟩
              first
                | exact Bool.eq_false_iff.mpr (fun q => absurd (isTk_kd q).1 (fun z => by have := tk_nwd ht (fun y => by first | exact h4 y.1 | exact h12 y.2); have h0 := hk12 x hx; rcases h0 with h0 | h0 <;> rw [h0] at z <;> first | exact this.1 z | exact this.2 z))
                | (refine Bool.eq_false_iff.mpr (fun q => ?_)
                   have q := (hq x hx).mp q
                   rw [wc, if_neg (by omega)] at q
                   exact absurd (congrArg Prod.fst q).symm (h00 x hx))
                | (refine Bool.eq_false_iff.mpr (fun q => ?_)
                   have q := (hq x hx).mp q
                   rw [wc, if_pos (by omega)] at q
                   have q := (wfind_tab x hx _).mp q
                   rw [hL] at q
                   simp only [wl, List.range, List.range.loop, List.map_cons, List.map_nil, List.cons.injEq, and_true] at q
                   first | exact h32_h q.1 | exact h41_h q.2.1 | exact h50_h q.2.2.1 | exact h60_h q.2.2.2.1 | exact h70_h q.2.2.2.2.1 | exact h80_h q.2.2.2.2.2.1 | exact h91_h q.2.2.2.2.2.2.1 | exact h102_h q.2.2.2.2.2.2.2)
          · refine v_if_eq (tgt := 112) G dX8_isWord_44 (by decide) (fun h44 => ?_) (fun h44 => absurd h44 (by decide))
            refine v_iconst (v := 0) G dX8_isWord_112 rfl ?_
            refine RET _ _ _ _ _ _ (by first | rfl | assumption) (Nat.le_of_ble_eq_true rfl) (Nat.le_of_ble_eq_true rfl) dX8_isWord_113 (fun ws hw => ⟨_, hw, ?_⟩)
            clear RET G hT hnm
            refine Or.inr ⟨rfl, rfl, ?_⟩
            first
              | exact Bool.eq_false_iff.mpr (fun q => absurd (isTk_kd q).1 (fun z => by have := tk_nwd ht (fun y => by first | exact h4 y.1 | exact h12 y.2); have h0 := hk12 x hx; rcases h0 with h0 | h0 <;> rw [h0] at z <;> first | exact this.1 z | exact this.2 z))
              | (refine Bool.eq_false_iff.mpr (fun q => ?_)
                 have q := (hq x hx).mp q
                 rw [wc, if_neg (by omega)] at q
                 exact absurd (congrArg Prod.fst q).symm (h00 x hx))
              | (refine Bool.eq_false_iff.mpr (fun q => ?_)
                 have q := (hq x hx).mp q
                 rw [wc, if_pos (by omega)] at q
                 have q := (wfind_tab x hx _).mp q
                 rw [hL] at q
                 simp only [wl, List.range, List.range.loop, List.map_cons, List.map_nil, List.cons.injEq, and_true] at q
                 first | exact h32_h q.1 | exact h41_h q.2.1 | exact h50_h q.2.2.1 | exact h60_h q.2.2.2.1 | exact h70_h q.2.2.2.2.1 | exact h80_h q.2.2.2.2.2.1 | exact h91_h q.2.2.2.2.2.2.1 | exact h102_h q.2.2.2.2.2.2.2)
        · refine v_if_eq (tgt := 112) G dX8_isWord_35 (by decide) (fun h35 => ?_) (fun h35 => absurd h35 (by decide))
          refine v_iconst (v := 0) G dX8_isWord_112 rfl ?_
          refine RET _ _ _ _ _ _ (by first | rfl | assumption) (Nat.le_of_ble_eq_true rfl) (Nat.le_of_ble_eq_true rfl) dX8_isWord_113 (fun ws hw => ⟨_, hw, ?_⟩)
          clear RET G hT hnm
          refine Or.inr ⟨rfl, rfl, ?_⟩
          first
            | exact Bool.eq_false_iff.mpr (fun q => absurd (isTk_kd q).1 (fun z => by have := tk_nwd ht (fun y => by first | exact h4 y.1 | exact h12 y.2); have h0 := hk12 x hx; rcases h0 with h0 | h0 <;> rw [h0] at z <;> first | exact this.1 z | exact this.2 z))
            | (refine Bool.eq_false_iff.mpr (fun q => ?_)
               have q := (hq x hx).mp q
               rw [wc, if_neg (by omega)] at q
               exact absurd (congrArg Prod.fst q).symm (h00 x hx))
            | (refine Bool.eq_false_iff.mpr (fun q => ?_)
               have q := (hq x hx).mp q
               rw [wc, if_pos (by omega)] at q
               have q := (wfind_tab x hx _).mp q
               rw [hL] at q
               simp only [wl, List.range, List.range.loop, List.map_cons, List.map_nil, List.cons.injEq, and_true] at q
               first | exact h32_h q.1 | exact h41_h q.2.1 | exact h50_h q.2.2.1 | exact h60_h q.2.2.2.1 | exact h70_h q.2.2.2.2.1 | exact h80_h q.2.2.2.2.2.1 | exact h91_h q.2.2.2.2.2.2.1 | exact h102_h q.2.2.2.2.2.2.2)
abbrev rmX8_next : Room := { frames := 1, cells := 0, slots := 0, locals := 25 }
set_option maxHeartbeats 4000000 in
theorem kX8_next {KT : (Nat → Prop) → State → Heap → Prop} (hK : KTok KT) (l : Launch) (dC : Nat → ClassId) (dI : Nat → Nat → Nat) (ct ad : Nat → Nat) (σ : MS) (F : Nat) (n : Nat) (b : Nat → Int32) (i : Nat) (hX : TX F n b σ) (hb : σ.1 25 0 = 0) (h2i : σ.1 20 0 = nI i) (hi : i ≤ n) : MC KT (dC, dI) vwCl (tysF ct) l yX8_next cX8_next 3 none rmX8_next [.ref (ad 43)] (RM ct ad σ) (QV_ (dC, dI) vwCl (RM ct ad) (fun (σ' : MS) => tk b n (nx b n i) σ' ∧ ag [20, 21, 22] σ σ')) := by
  refine MC.ofV (own := RX8) pl_X8 rfl (Nat.le_of_ble_eq_true rfl) ?_
  intro pp ee ss mm aa bb hh cc AA QQ G hT hnm RET
  refine v_loc (L' := [(0, .ref (ad 43))]) rfl ?_
  obtain ⟨x1, x2, x3, x4, x5, x6⟩ := id hX
  have loop0 : ∀ (dd : Nat) (f : Nat) (q : Nat) (τ : MS), (ag [20] σ τ) → (τ.1 20 0 = nI q) → (q ≤ n) → (sk b n f q = sk b n (n + 1) i) → (n - q < f) → f < dd → V_ pp l ee rmX8_next ss mm aa bb hh cc 3 (dC, dI) vwCl AA QQ 0 0 (RM ct ad τ) 0 [(0, .ref (ad 43))] [] := by
    intro dd
    induction dd with
    | zero => intro f q τ hτ h20 hq hsk hf hdd; exact absurd hdd (Nat.not_lt_zero _)
    | succ dd ih0 =>
      intro f q τ hτ h20 hq hsk hf hdd
      obtain ⟨f, rfl⟩ : ∃ g, f = g + 1 := ⟨f - 1, by omega⟩
      have hY : TX F n b τ := TX_ag (ag_mono hτ (by decide)) hX
      obtain ⟨y1, y2, y3, y4, y5, y6⟩ := id hY
      refine v_aload_n G 0 dX8_next_0 rfl ?_
      refine v_aload_n G 0 dX8_next_1 rfl ?_
      refine m_get (v := .int (τ.1 20 0)) G 20 (by decide) rfl q1314 rfl dX8_next_2 ?_
      refine v_stk (st' := [.int (nI q), .ref (ad 43)]) (by first | rfl | (have e0 : (τ.1 20 0) = nI q := h20 ; simp only [e0])) ?_
      refine w_callVi G hK hT (kX8_byteAt hK l dC dI ct ad τ F n b q hY (by omega)) (ck_X8_159 G.2.2.2.2.1 ⟨Nat.le_of_ble_eq_true rfl, Nat.le_of_ble_eq_true rfl⟩) m_recv (fun _ h => h) rfl [] rfl (Nat.le_of_ble_eq_true rfl) dX8_next_5 ⟨Nat.le_of_ble_eq_true rfl, Nat.le_of_ble_eq_true rfl⟩ (k1 := 0) (n1 := 0) rfl rfl ?_
      rintro r5 σ5 ⟨rfl, rfl⟩
      refine v_bipush (v := 32) G dX8_next_8 rfl ?_
      refine v_icmp_eq (tgt := 26) G dX8_next_10 (by decide) (fun h10 => ?_) (fun h10 => ?_)
      · refine v_aload_n G 0 dX8_next_26 rfl ?_
        refine v_dup G dX8_next_27 rfl ?_
        refine m_get (v := .int (τ.1 20 0)) G 20 (by decide) rfl q1314 rfl dX8_next_28 ?_
        refine v_iconst (v := 1) G dX8_next_31 rfl ?_
        refine v_iadd G dX8_next_32 ?_
        refine m_putI G 20 (by decide) q1314 rfl rfl rfl dX8_next_33 ?_
        refine v_goto (tgt := 0) G dX8_next_36 (by decide) ?_
        have hqn : q < n := by_ne (b := b) (fun z => by first | (rw [h10] at z; exact absurd z (by decide)) | (rw [h23] at z; exact absurd z (by decide)))
        refine V_.sub (L' := [(0, .ref (ad 43))]) ?_ [0] rfl
        exact ih0  f (q + 1) (mset τ 20 0 ((τ.1 20 0) + 1)) (ag_tr hτ (ag_set (by decide))) (by rw [mset_eq]; exact ix_add h20 (ix_lit 1 rfl)) (by omega) (by rw [← hsk, sk, if_pos (by first | exact Or.inl h10 | exact Or.inr h23)]) (by omega) (by omega)
      · refine v_aload_n G 0 dX8_next_13 rfl ?_
        refine v_aload_n G 0 dX8_next_14 rfl ?_
        refine m_get (v := .int (τ.1 20 0)) G 20 (by decide) rfl q1314 rfl dX8_next_15 ?_
        refine v_stk (st' := [.int (nI q), .ref (ad 43)]) (by first | rfl | (have e0 : (τ.1 20 0) = nI q := h20 ; simp only [e0])) ?_
        refine w_callVi G hK hT (kX8_byteAt hK l dC dI ct ad τ F n b q hY (by omega)) (ck_X8_159 G.2.2.2.2.1 ⟨Nat.le_of_ble_eq_true rfl, Nat.le_of_ble_eq_true rfl⟩) m_recv (fun _ h => h) rfl [] rfl (Nat.le_of_ble_eq_true rfl) dX8_next_18 ⟨Nat.le_of_ble_eq_true rfl, Nat.le_of_ble_eq_true rfl⟩ (k1 := 0) (n1 := 0) rfl rfl ?_
        rintro r18 σ18 ⟨rfl, rfl⟩
        refine v_bipush (v := 10) G dX8_next_21 rfl ?_
        refine v_icmp_ne (tgt := 39) G dX8_next_23 (by decide) (fun h23 => ?_) (fun h23 => ?_)
        · have hj : sk b n (n + 1) i = q := by rw [← hsk, sk, if_neg (fun z => z.elim h10 h23)]
          refine v_aload_n G 0 dX8_next_39 rfl ?_
          refine v_aload_n G 0 dX8_next_40 rfl ?_
          refine m_get (v := .int (τ.1 20 0)) G 20 (by decide) rfl q1314 rfl dX8_next_41 ?_
          refine m_putI G 22 (by decide) q1316 rfl rfl rfl dX8_next_44 ?_
          refine v_aload_n G 0 dX8_next_47 rfl ?_
          refine v_aload_n G 0 dX8_next_48 rfl ?_
          refine m_get (v := .int (τ.1 20 0)) G 20 (by decide) rfl q1314 rfl dX8_next_49 ?_
          refine v_stk (st' := [.int (nI q), .ref (ad 43)]) (by first | rfl | (have e0 : (τ.1 20 0) = nI q := h20 ; simp only [e0])) ?_
          refine w_callVi G hK hT (kX8_byteAt hK l dC dI ct ad (mset τ 22 0 (τ.1 20 0)) F n b q (TX_ag (ag_set (by decide)) hY) (by omega)) (ck_X8_159 G.2.2.2.2.1 ⟨Nat.le_of_ble_eq_true rfl, Nat.le_of_ble_eq_true rfl⟩) m_recv (fun _ h => h) rfl [] rfl (Nat.le_of_ble_eq_true rfl) dX8_next_52 ⟨Nat.le_of_ble_eq_true rfl, Nat.le_of_ble_eq_true rfl⟩ (k1 := 0) (n1 := 0) rfl rfl ?_
          rintro r52 σ52 ⟨rfl, rfl⟩
          refine v_istore_n (L' := [(1, .int (by_ b n q)), (0, .ref (ad 43))]) G dX8_next_55 (by decide) rfl ?_
          refine v_aload_n G 1 dX8_next_56 rfl ?_
          refine v_iconst (v := 4) G dX8_next_57 rfl ?_
          refine m_putI G 21 (by decide) q1315 rfl rfl rfl dX8_next_58 ?_
          refine v_iload_n G 0 dX8_next_61 rfl ?_
          refine v_if_ge (tgt := 81) G dX8_next_62 (by decide) (fun h62 => ?_) (fun h62 => ?_)
          · refine v_iload_n G 0 dX8_next_81 rfl ?_
            refine v_i2l (v := (by_ b n q).toInt64) G dX8_next_82 rfl ?_
            refine v_ldc2 G q1482 dX8_next_83 ?_
            refine v_ldc2 G q1483 dX8_next_86 ?_
            refine w_callSi G hK hT (kX8_in hK l dC dI ct ad (mset (mset τ 22 0 (τ.1 20 0)) 21 0 4) ((by_ b n q).toInt64) 97 122) (ck_X8_86 G.2.2.2.2.1 ⟨Nat.le_of_ble_eq_true rfl, Nat.le_of_ble_eq_true rfl⟩) (fun _ h => h) rfl [] rfl (Nat.le_of_ble_eq_true rfl) dX8_next_89 ⟨Nat.le_of_ble_eq_true rfl, Nat.le_of_ble_eq_true rfl⟩ (k1 := 0) (n1 := 0) rfl rfl ?_
            rintro r89 σ89 (⟨rfl, rfl, h89_h⟩ | ⟨rfl, rfl, h89_h⟩)
            · have g89 := (in_rg (c := (by_ b n q)) (lo := 97) (hi := 122) (a := 97) (z := 122) (by decide) (by decide)).mp h89_h
              refine v_if_eq (tgt := 134) G dX8_next_92 (by decide) (fun h92 => absurd h92 (by decide)) (fun h92 => ?_)
              refine v_aload_n G 1 dX8_next_95 rfl ?_
              refine v_iconst (v := 1) G dX8_next_96 rfl ?_
              refine m_putI G 21 (by decide) q1315 rfl rfl rfl dX8_next_97 ?_
              have loop100 : ∀ (dd : Nat) (f1 : Nat) (e : Nat) (μ : MS), (ag [20, 21, 22] σ μ) → (μ.1 20 0 = nI e) → (μ.1 21 0 = 1) → (μ.1 22 0 = nI q) → (e ≤ n) → (wd b n f1 e = wd b n (n + 1) q) → (n - e < f1) → f1 < dd → V_ pp l ee rmX8_next ss mm aa bb hh cc 3 (dC, dI) vwCl AA QQ 0 0 (RM ct ad μ) 100 [(1, .int (by_ b n q)), (0, .ref (ad 43))] [] := by
                intro dd
                induction dd with
                | zero => intro f1 e μ hμ g20 g21 g22 he hwd hf1 hdd; exact absurd hdd (Nat.not_lt_zero _)
                | succ dd ih100 =>
                  intro f1 e μ hμ g20 g21 g22 he hwd hf1 hdd
                  obtain ⟨f1, rfl⟩ : ∃ g, f1 = g + 1 := ⟨f1 - 1, by omega⟩
                  have hZ : TX F n b μ := TX_ag (ag_mono hμ (by decide)) hX
                  refine v_aload_n G 1 dX8_next_100 rfl ?_
                  refine v_aload_n G 1 dX8_next_101 rfl ?_
                  refine m_get (v := .int (μ.1 20 0)) G 20 (by decide) rfl q1314 rfl dX8_next_102 ?_
                  refine v_stk (st' := [.int (nI e), .ref (ad 43)]) (by first | rfl | (have e0 : (μ.1 20 0) = nI e := g20 ; simp only [e0])) ?_
                  refine w_callVi G hK hT (kX8_byteAt hK l dC dI ct ad μ F n b e hZ (by omega)) (ck_X8_159 G.2.2.2.2.1 ⟨Nat.le_of_ble_eq_true rfl, Nat.le_of_ble_eq_true rfl⟩) m_recv (fun _ h => h) rfl [] rfl (Nat.le_of_ble_eq_true rfl) dX8_next_105 ⟨Nat.le_of_ble_eq_true rfl, Nat.le_of_ble_eq_true rfl⟩ (k1 := 0) (n1 := 0) rfl rfl ?_
                  rintro r105 σ105 ⟨rfl, rfl⟩
                  refine v_i2l (v := (by_ b n e).toInt64) G dX8_next_108 rfl ?_
                  refine v_ldc2 G q1482 dX8_next_109 ?_
                  refine v_ldc2 G q1483 dX8_next_112 ?_
                  refine w_callSi G hK hT (kX8_in hK l dC dI ct ad μ ((by_ b n e).toInt64) 97 122) (ck_X8_86 G.2.2.2.2.1 ⟨Nat.le_of_ble_eq_true rfl, Nat.le_of_ble_eq_true rfl⟩) (fun _ h => h) rfl [] rfl (Nat.le_of_ble_eq_true rfl) dX8_next_115 ⟨Nat.le_of_ble_eq_true rfl, Nat.le_of_ble_eq_true rfl⟩ (k1 := 0) (n1 := 0) rfl rfl ?_
                  rintro r115 σ115 (⟨rfl, rfl, h115_h⟩ | ⟨rfl, rfl, h115_h⟩)
                  · have g115 := (in_rg (c := (by_ b n e)) (lo := 97) (hi := 122) (a := 97) (z := 122) (by decide) (by decide)).mp h115_h
                    refine v_if_eq (tgt := 321) G dX8_next_118 (by decide) (fun h118 => absurd h118 (by decide)) (fun h118 => ?_)
                    refine v_aload_n G 1 dX8_next_121 rfl ?_
                    refine v_dup G dX8_next_122 rfl ?_
                    refine m_get (v := .int (μ.1 20 0)) G 20 (by decide) rfl q1314 rfl dX8_next_123 ?_
                    refine v_iconst (v := 1) G dX8_next_126 rfl ?_
                    refine v_iadd G dX8_next_127 ?_
                    refine m_putI G 20 (by decide) q1314 rfl rfl rfl dX8_next_128 ?_
                    refine v_goto (tgt := 100) G dX8_next_131 (by decide) ?_
                    refine V_.sub (L' := [(1, .int (by_ b n q)), (0, .ref (ad 43))]) ?_ [0, 1] rfl
                    exact ih100  f1 (e + 1) (mset μ 20 0 ((μ.1 20 0) + 1)) (ag_tr hμ (ag_set (by decide))) (by rw [mset_eq]; exact ix_add g20 (ix_lit 1 rfl)) (by rw [mset_ne (by decide)]; exact g21) (by rw [mset_ne (by decide)]; exact g22) (by have := by_ne (b := b) (n := n) (i := e) (fun z => by rw [z] at g115; exact absurd g115 (by decide)); omega) (by rw [← hwd, wd, if_pos g115]) (by have := by_ne (b := b) (n := n) (i := e) (fun z => by rw [z] at g115; exact absurd g115 (by decide)); omega) (by omega)
                  · have g115 : ¬ rg (by_ b n e) 97 122 := fun zz => h115_h ((in_rg (c := (by_ b n e)) (lo := 97) (hi := 122) (a := 97) (z := 122) (by decide) (by decide)).mpr zz)
                    refine v_if_eq (tgt := 321) G dX8_next_118 (by decide) (fun h118 => ?_) (fun h118 => absurd h118 (by decide))
                    refine RET _ _ _ _ _ (Nat.le_of_ble_eq_true rfl) (Nat.le_of_ble_eq_true rfl) dX8_next_321 (fun ws hw => ⟨_, hw, ?_⟩)
                    clear RET G hT hnm
                    have hw : wd b n (n + 1) q = e := by rw [← hwd, wd, if_neg g115]
                    refine ⟨?_, hμ⟩
                    have hc : ¬ by_ b n q = -1 := fun z => by rw [z] at g89; exact absurd g89 (by decide)
                    rw [nx, hj, if_neg hc, if_pos g89, hw]
                    by_cases hz : (wc b n q e).1 = 0
                    · rw [if_pos hz]
                      exact ⟨hq, Or.inr ⟨(ag_at hμ (by decide)).trans hb, g22, Or.inr ⟨g21, e, he, g20, hz⟩⟩⟩
                    · rw [if_neg hz]
                      have hqe : q < e := by
                        rcases Nat.lt_or_ge q e with z | z
                        · exact z
                        · exfalso
                          have h1 := (wd_le (b := b) (n := n) n (q + 1) (by have := by_ne hc; omega)).1
                          rw [wd, if_pos g89] at hw
                          omega
                      have hk : (wc b n q e).1 = 1 ∨ (wc b n q e).1 = 2 := by
                        have hx : ∀ x ∈ wtab, x.1 = 1 ∨ x.1 = 2 := by decide +kernel
                        revert hz
                        unfold wc
                        split
                        · unfold wfind
                          split
                          next z hz => exact fun _ => hx z (List.mem_of_find?_eq_some hz)
                          next => exact fun q => absurd rfl q
                        · exact fun q => absurd rfl q
                      exact ⟨⟨Nat.le_of_lt hqe, he, fun _ => hqe⟩, (ag_at hμ (by decide)).trans hb, g22, g20, Or.inr (Or.inl ⟨hk, g21, rfl, rfl⟩)⟩
              refine V_.sub (L' := [(1, .int (by_ b n q)), (0, .ref (ad 43))]) ?_ [0, 1] rfl
              exact loop100 _ (n + 1) q (mset (mset (mset τ 22 0 (τ.1 20 0)) 21 0 4) 21 0 1) (by refine ag_tr (ag_mono hτ (by decide)) (ag_tr (ag_tr (ag_set ?_) (ag_set ?_)) (ag_set ?_)) <;> decide) (by simp [mset, msetL, upd2, h20]) mset_eq (by simp [mset, msetL, upd2, h20]) hq rfl (by omega) (Nat.lt_succ_self _)
            · have g89 : ¬ rg (by_ b n q) 97 122 := fun zz => h89_h ((in_rg (c := (by_ b n q)) (lo := 97) (hi := 122) (a := 97) (z := 122) (by decide) (by decide)).mpr zz)
              refine v_if_eq (tgt := 134) G dX8_next_92 (by decide) (fun h92 => ?_) (fun h92 => absurd h92 (by decide))
              refine v_iload_n G 0 dX8_next_134 rfl ?_
              refine v_i2l (v := (by_ b n q).toInt64) G dX8_next_135 rfl ?_
              refine v_ldc2 G q1484 dX8_next_136 ?_
              refine v_ldc2 G q1485 dX8_next_139 ?_
              refine w_callSi G hK hT (kX8_in hK l dC dI ct ad (mset (mset τ 22 0 (τ.1 20 0)) 21 0 4) ((by_ b n q).toInt64) 48 57) (ck_X8_86 G.2.2.2.2.1 ⟨Nat.le_of_ble_eq_true rfl, Nat.le_of_ble_eq_true rfl⟩) (fun _ h => h) rfl [] rfl (Nat.le_of_ble_eq_true rfl) dX8_next_142 ⟨Nat.le_of_ble_eq_true rfl, Nat.le_of_ble_eq_true rfl⟩ (k1 := 0) (n1 := 0) rfl rfl ?_
              rintro r142 σ142 (⟨rfl, rfl, h142_h⟩ | ⟨rfl, rfl, h142_h⟩)
              · have g142 := (in_rg (c := (by_ b n q)) (lo := 48) (hi := 57) (a := 48) (z := 57) (by decide) (by decide)).mp h142_h
                refine v_if_eq (tgt := 252) G dX8_next_145 (by decide) (fun h145 => absurd h145 (by decide)) (fun h145 => ?_)
                refine v_aload_n G 1 dX8_next_148 rfl ?_
                refine v_iconst (v := 2) G dX8_next_149 rfl ?_
                refine m_putI G 21 (by decide) q1315 rfl rfl rfl dX8_next_150 ?_
                refine v_aload_n G 1 dX8_next_153 rfl ?_
                refine v_lconst (v := 0) G dX8_next_154 rfl ?_
                refine m_putL G 23 (by decide) q1317 rfl rfl rfl dX8_next_155 ?_
                refine v_iconst (v := 0) G dX8_next_158 rfl ?_
                refine v_istore_n (L' := [(2, .int 0), (1, .int (by_ b n q)), (0, .ref (ad 43))]) G dX8_next_159 (by decide) rfl ?_
                have loop160 : ∀ (dd : Nat) (f1 : Nat) (v : Nat) (k : Nat) (e : Nat) (μ : MS), (ag [20, 21, 22] σ μ) → (μ.1 20 0 = nI e) → (μ.2 23 0 = lN v) → (μ.1 22 0 = nI q) → (e ≤ n) → (k + q ≤ e) → (v < 100000 ∧ (k ≤ 4 → v < 10 ^ k)) → (dg b n f1 v k e = dg b n (n + 1) 0 0 q) → (n - e < f1) → f1 < dd → V_ pp l ee rmX8_next ss mm aa bb hh cc 3 (dC, dI) vwCl AA QQ 0 0 (RM ct ad μ) 160 [(2, .int (nI k)), (1, .int (by_ b n q)), (0, .ref (ad 43))] [] := by
                  intro dd
                  induction dd with
                  | zero => intro f1 v k e μ hμ g20 g23 g22 he hk hv hdg hf1 hdd; exact absurd hdd (Nat.not_lt_zero _)
                  | succ dd ih160 =>
                    intro f1 v k e μ hμ g20 g23 g22 he hk hv hdg hf1 hdd
                    obtain ⟨f1, rfl⟩ : ∃ g, f1 = g + 1 := ⟨f1 - 1, by omega⟩
                    have hZ : TX F n b μ := TX_ag (ag_mono hμ (by decide)) hX
                    refine v_aload_n G 2 dX8_next_160 rfl ?_
                    refine v_aload_n G 2 dX8_next_161 rfl ?_
                    refine m_get (v := .int (μ.1 20 0)) G 20 (by decide) rfl q1314 rfl dX8_next_162 ?_
                    refine v_stk (st' := [.int (nI e), .ref (ad 43)]) (by first | rfl | (have e0 : (μ.1 20 0) = nI e := g20 ; simp only [e0])) ?_
                    refine w_callVi G hK hT (kX8_byteAt hK l dC dI ct ad μ F n b e hZ (by omega)) (ck_X8_159 G.2.2.2.2.1 ⟨Nat.le_of_ble_eq_true rfl, Nat.le_of_ble_eq_true rfl⟩) m_recv (fun _ h => h) rfl [] rfl (Nat.le_of_ble_eq_true rfl) dX8_next_165 ⟨Nat.le_of_ble_eq_true rfl, Nat.le_of_ble_eq_true rfl⟩ (k1 := 0) (n1 := 0) rfl rfl ?_
                    rintro r165 σ165 ⟨rfl, rfl⟩
                    refine v_i2l (v := (by_ b n e).toInt64) G dX8_next_168 rfl ?_
                    refine v_ldc2 G q1484 dX8_next_169 ?_
                    refine v_ldc2 G q1485 dX8_next_172 ?_
                    refine w_callSi G hK hT (kX8_in hK l dC dI ct ad μ ((by_ b n e).toInt64) 48 57) (ck_X8_86 G.2.2.2.2.1 ⟨Nat.le_of_ble_eq_true rfl, Nat.le_of_ble_eq_true rfl⟩) (fun _ h => h) rfl [] rfl (Nat.le_of_ble_eq_true rfl) dX8_next_175 ⟨Nat.le_of_ble_eq_true rfl, Nat.le_of_ble_eq_true rfl⟩ (k1 := 0) (n1 := 0) rfl rfl ?_
                    rintro r175 σ175 (⟨rfl, rfl, h175_h⟩ | ⟨rfl, rfl, h175_h⟩)
                    · have g175 := (in_rg (c := (by_ b n e)) (lo := 48) (hi := 57) (a := 48) (z := 57) (by decide) (by decide)).mp h175_h
                      refine v_if_eq (tgt := 235) G dX8_next_178 (by decide) (fun h178 => absurd h178 (by decide)) (fun h178 => ?_)
                      refine v_aload_n G 2 dX8_next_181 rfl ?_
                      refine v_iload_n G 0 dX8_next_182 rfl ?_
                      refine v_iconst (v := 4) G dX8_next_183 rfl ?_
                      refine v_icmp_ge (tgt := 212) G dX8_next_184 (by decide) (fun h184 => ?_) (fun h184 => ?_)
                      · have n184 := (cmp_le (x := 4) (y := nI k) (a := 4) (b := k) (ix_lit 4 rfl) rfl (by omega) (by omega)).mp h184
                        refine v_aload_n G 2 dX8_next_212 rfl ?_
                        refine m_get (v := .long (μ.2 23 0)) G 23 (by decide) rfl q1317 rfl dX8_next_213 ?_
                        refine m_putL G 23 (by decide) q1317 rfl rfl rfl dX8_next_216 ?_
                        refine v_iinc (v := nI (k + 1)) (L' := [(2, .int (nI (k + 1))), (1, .int (by_ b n q)), (0, .ref (ad 43))]) G 0 dX8_next_219 rfl (ix_add rfl (ix_lit 1 rfl)) (by decide) rfl ?_
                        refine v_aload_n G 2 dX8_next_222 rfl ?_
                        refine v_dup G dX8_next_223 rfl ?_
                        refine m_get (v := .int (μ.1 20 0)) G 20 (by decide) rfl q1314 rfl dX8_next_224 ?_
                        refine v_iconst (v := 1) G dX8_next_227 rfl ?_
                        refine v_iadd G dX8_next_228 ?_
                        refine m_putI G 20 (by decide) q1314 rfl rfl rfl dX8_next_229 ?_
                        refine v_goto (tgt := 160) G dX8_next_232 (by decide) ?_
                        obtain ⟨cN, hcN, ecN⟩ := rg_nat (x := by_ b n e) (n := 57) ⟨by have := g175.1; omega, g175.2⟩ (by decide)
                        have hc48 : 48 ≤ cN := by have := g175.1; rw [ecN, nI_toInt (by omega)] at this; omega
                        have ecl : n_ (by_ b n e) = cN := by rw [ecN]; exact nI_clamp (by omega)
                        have gb : (if k < 4 then 10 * v + (n_ (by_ b n e) - 48) else v) < 100000 ∧ (k + 1 ≤ 4 → (if k < 4 then 10 * v + (n_ (by_ b n e) - 48) else v) < 10 ^ (k + 1)) := by
                          rw [ecl]
                          obtain ⟨v1, v2⟩ := hv
                          by_cases hk4 : k < 4
                          · rw [if_pos hk4]
                            have v3 := v2 (by omega)
                            have h4 : 10 ^ k ≤ 1000 := by
                              have : k = 0 ∨ k = 1 ∨ k = 2 ∨ k = 3 := by omega
                              rcases this with rfl | rfl | rfl | rfl <;> decide
                            rw [Nat.pow_succ]
                            exact ⟨by omega, fun _ => by omega⟩
                          · rw [if_neg hk4]
                            exact ⟨v1, fun z => by omega⟩
                        refine V_.sub (L' := [(2, .int (nI (k + 1))), (1, .int (by_ b n q)), (0, .ref (ad 43))]) ?_ [0, 1, 2] rfl
                        exact ih160  f1 (if k < 4 then 10 * v + (n_ (by_ b n e) - 48) else v) (k + 1) (e + 1) (mset (msetL μ 23 0 (μ.2 23 0)) 20 0 ((μ.1 20 0) + 1)) (ag_tr hμ (ag_tr ag_L (ag_set (by decide)))) (by rw [mset_eq]; exact ix_add g20 (ix_lit 1 rfl)) ((msetL_eq (σ := μ) (k := 23) (i := 0) (v := μ.2 23 0)).trans (by rw [ecl]; first | rw [if_pos (by omega), g23, ecN, dg_step hc48 hcN] | rw [if_neg (by omega), g23])) (by rw [mset_ne (by decide)]; exact g22) (by have := by_ne (b := b) (n := n) (i := e) (fun z => by rw [z] at g175; exact absurd g175 (by decide)); omega) (by omega) gb (by rw [← hdg]; conv => rhs; rw [dg, if_pos g175]) (by have := by_ne (b := b) (n := n) (i := e) (fun z => by rw [z] at g175; exact absurd g175 (by decide)); omega) (by omega)
                      · have n184 := (not_congr (cmp_le (x := 4) (y := nI k) (a := 4) (b := k) (ix_lit 4 rfl) rfl (by omega) (by omega))).mp h184
                        refine v_ldc2 G q1457 dX8_next_187 ?_
                        refine v_aload_n G 2 dX8_next_190 rfl ?_
                        refine m_get (v := .long (μ.2 23 0)) G 23 (by decide) rfl q1317 rfl dX8_next_191 ?_
                        refine v_lmul G dX8_next_194 ?_
                        refine v_aload_n G 2 dX8_next_195 rfl ?_
                        refine v_aload_n G 2 dX8_next_196 rfl ?_
                        refine m_get (v := .int (μ.1 20 0)) G 20 (by decide) rfl q1314 rfl dX8_next_197 ?_
                        refine v_stk (st' := [.int (nI e), .ref (ad 43), .long (10 * (μ.2 23 0)), .ref (ad 43)]) (by first | rfl | (have e0 : (μ.1 20 0) = nI e := g20 ; simp only [e0])) ?_
                        refine w_callVi G hK hT (kX8_byteAt hK l dC dI ct ad μ F n b e hZ (by omega)) (ck_X8_159 G.2.2.2.2.1 ⟨Nat.le_of_ble_eq_true rfl, Nat.le_of_ble_eq_true rfl⟩) m_recv (fun _ h => h) rfl [.long (10 * (μ.2 23 0)), .ref (ad 43)] rfl (Nat.le_of_ble_eq_true rfl) dX8_next_200 ⟨Nat.le_of_ble_eq_true rfl, Nat.le_of_ble_eq_true rfl⟩ (k1 := 0) (n1 := 0) rfl rfl ?_
                        rintro r200 σ200 ⟨rfl, rfl⟩
                        refine v_i2l (v := (by_ b n e).toInt64) G dX8_next_203 rfl ?_
                        refine v_ladd G dX8_next_204 ?_
                        refine v_ldc2 G q1484 dX8_next_205 ?_
                        refine v_lsub G dX8_next_208 ?_
                        refine v_goto (tgt := 216) G dX8_next_209 (by decide) ?_
                        refine m_putL G 23 (by decide) q1317 rfl rfl rfl dX8_next_216 ?_
                        refine v_iinc (v := nI (k + 1)) (L' := [(2, .int (nI (k + 1))), (1, .int (by_ b n q)), (0, .ref (ad 43))]) G 0 dX8_next_219 rfl (ix_add rfl (ix_lit 1 rfl)) (by decide) rfl ?_
                        refine v_aload_n G 2 dX8_next_222 rfl ?_
                        refine v_dup G dX8_next_223 rfl ?_
                        refine m_get (v := .int (μ.1 20 0)) G 20 (by decide) rfl q1314 rfl dX8_next_224 ?_
                        refine v_iconst (v := 1) G dX8_next_227 rfl ?_
                        refine v_iadd G dX8_next_228 ?_
                        refine m_putI G 20 (by decide) q1314 rfl rfl rfl dX8_next_229 ?_
                        refine v_goto (tgt := 160) G dX8_next_232 (by decide) ?_
                        obtain ⟨cN, hcN, ecN⟩ := rg_nat (x := by_ b n e) (n := 57) ⟨by have := g175.1; omega, g175.2⟩ (by decide)
                        have hc48 : 48 ≤ cN := by have := g175.1; rw [ecN, nI_toInt (by omega)] at this; omega
                        have ecl : n_ (by_ b n e) = cN := by rw [ecN]; exact nI_clamp (by omega)
                        have gb : (if k < 4 then 10 * v + (n_ (by_ b n e) - 48) else v) < 100000 ∧ (k + 1 ≤ 4 → (if k < 4 then 10 * v + (n_ (by_ b n e) - 48) else v) < 10 ^ (k + 1)) := by
                          rw [ecl]
                          obtain ⟨v1, v2⟩ := hv
                          by_cases hk4 : k < 4
                          · rw [if_pos hk4]
                            have v3 := v2 (by omega)
                            have h4 : 10 ^ k ≤ 1000 := by
                              have : k = 0 ∨ k = 1 ∨ k = 2 ∨ k = 3 := by omega
                              rcases this with rfl | rfl | rfl | rfl <;> decide
                            rw [Nat.pow_succ]
                            exact ⟨by omega, fun _ => by omega⟩
                          · rw [if_neg hk4]
                            exact ⟨v1, fun z => by omega⟩
                        refine V_.sub (L' := [(2, .int (nI (k + 1))), (1, .int (by_ b n q)), (0, .ref (ad 43))]) ?_ [0, 1, 2] rfl
                        exact ih160  f1 (if k < 4 then 10 * v + (n_ (by_ b n e) - 48) else v) (k + 1) (e + 1) (mset (msetL μ 23 0 (((10 * (μ.2 23 0)) + ((by_ b n e).toInt64)) - 48)) 20 0 ((μ.1 20 0) + 1)) (ag_tr hμ (ag_tr ag_L (ag_set (by decide)))) (by rw [mset_eq]; exact ix_add g20 (ix_lit 1 rfl)) ((msetL_eq (σ := μ) (k := 23) (i := 0) (v := ((10 * (μ.2 23 0)) + ((by_ b n e).toInt64)) - 48)).trans (by rw [ecl]; first | rw [if_pos (by omega), g23, ecN, dg_step hc48 hcN] | rw [if_neg (by omega), g23])) (by rw [mset_ne (by decide)]; exact g22) (by have := by_ne (b := b) (n := n) (i := e) (fun z => by rw [z] at g175; exact absurd g175 (by decide)); omega) (by omega) gb (by rw [← hdg]; conv => rhs; rw [dg, if_pos g175]) (by have := by_ne (b := b) (n := n) (i := e) (fun z => by rw [z] at g175; exact absurd g175 (by decide)); omega) (by omega)
                    · have g175 : ¬ rg (by_ b n e) 48 57 := fun zz => h175_h ((in_rg (c := (by_ b n e)) (lo := 48) (hi := 57) (a := 48) (z := 57) (by decide) (by decide)).mpr zz)
                      refine v_if_eq (tgt := 235) G dX8_next_178 (by decide) (fun h178 => ?_) (fun h178 => absurd h178 (by decide))
                      refine v_aload_n G 2 dX8_next_235 rfl ?_
                      refine v_iload_n G 0 dX8_next_236 rfl ?_
                      refine v_iconst (v := 4) G dX8_next_237 rfl ?_
                      refine v_icmp_le (tgt := 245) G dX8_next_238 (by decide) (fun h238 => ?_) (fun h238 => ?_)
                      · have n238 := (cmp_le (x := nI k) (y := 4) (a := k) (b := 4) rfl (ix_lit 4 rfl) (by omega) (by omega)).mp h238
                        refine v_iconst (v := 2) G dX8_next_245 rfl ?_
                        refine m_putI G 21 (by decide) q1315 rfl rfl rfl dX8_next_246 ?_
                        refine v_goto (tgt := 321) G dX8_next_249 (by decide) ?_
                        refine RET _ _ _ _ _ (Nat.le_of_ble_eq_true rfl) (Nat.le_of_ble_eq_true rfl) dX8_next_321 (fun ws hw => ⟨_, hw, ?_⟩)
                        clear RET G hT hnm
                        have hw : dg b n (n + 1) 0 0 q = (v, k, e) := by rw [← hdg, dg, if_neg g175]
                        have hc : ¬ by_ b n q = -1 := fun z => by rw [z] at g142; exact absurd g142 (by decide)
                        obtain ⟨hv1, hv2⟩ := hv
                        refine ⟨?_, ag_tr hμ (ag_set (by decide))⟩
                        · rw [nx, hj, if_neg hc, if_neg g89, if_pos g142, hw]
                          rw [if_neg (show ¬ 4 < (v, k, e).2.1 from (by show ¬ 4 < k; omega))]
                          have hqe : q < e := by
                            rcases Nat.lt_or_ge q e with z | z
                            · exact z
                            · exfalso
                              have h1 := (dg_le (b := b) (n := n) n (if 0 < 4 then 10 * 0 + (n_ (by_ b n q) - 48) else 0) (0 + 1) (q + 1) (by have := by_ne hc; omega)).1
                              rw [dg, if_pos g142] at hw
                              rw [hw] at h1
                              have h1 : q + 1 ≤ e := h1
                              omega
                          refine ⟨⟨Nat.le_of_lt hqe, he, fun _ => hqe⟩, ?_, ?_, ?_, Or.inr (Or.inr (Or.inl ⟨rfl, ?_, ?_⟩))⟩
                          · rw [mset_ne (by decide)]; exact (ag_at hμ (by decide)).trans hb
                          · rw [mset_ne (by decide)]; exact g22
                          · rw [mset_ne (by decide)]; exact g20
                          · rw [mset_eq]
                          · show μ.2 23 0 = (nI v).toInt64
                            rw [g23, nI_l (by omega)]
                      · have n238 := (not_congr (cmp_le (x := nI k) (y := 4) (a := k) (b := 4) rfl (ix_lit 4 rfl) (by omega) (by omega))).mp h238
                        refine v_iconst (v := 4) G dX8_next_241 rfl ?_
                        refine v_goto (tgt := 246) G dX8_next_242 (by decide) ?_
                        refine m_putI G 21 (by decide) q1315 rfl rfl rfl dX8_next_246 ?_
                        refine v_goto (tgt := 321) G dX8_next_249 (by decide) ?_
                        refine RET _ _ _ _ _ (Nat.le_of_ble_eq_true rfl) (Nat.le_of_ble_eq_true rfl) dX8_next_321 (fun ws hw => ⟨_, hw, ?_⟩)
                        clear RET G hT hnm
                        have hw : dg b n (n + 1) 0 0 q = (v, k, e) := by rw [← hdg, dg, if_neg g175]
                        have hc : ¬ by_ b n q = -1 := fun z => by rw [z] at g142; exact absurd g142 (by decide)
                        obtain ⟨hv1, hv2⟩ := hv
                        refine ⟨?_, ag_tr hμ (ag_set (by decide))⟩
                        · rw [nx, hj, if_neg hc, if_neg g89, if_pos g142, hw]
                          rw [if_pos (show 4 < (v, k, e).2.1 from (by show 4 < k; omega))]
                          refine ⟨hq, Or.inr ⟨?_, ?_, Or.inl ?_⟩⟩
                          · rw [mset_ne (by decide)]; exact (ag_at hμ (by decide)).trans hb
                          · rw [mset_ne (by decide)]; exact g22
                          · rw [mset_eq]
                refine V_.sub (L' := [(2, .int 0), (1, .int (by_ b n q)), (0, .ref (ad 43))]) ?_ [0, 1, 2] rfl
                refine v_loc (L' := [(2, .int (nI 0)), (1, .int (by_ b n q)), (0, .ref (ad 43))]) (rfl) ?_
                exact loop160 _ (n + 1) 0 0 q (msetL (mset (mset (mset τ 22 0 (τ.1 20 0)) 21 0 4) 21 0 2) 23 0 0) (by refine ag_tr (ag_mono hτ (by decide)) (ag_tr (ag_tr (ag_tr (ag_set ?_) (ag_set ?_)) (ag_set ?_)) ag_L) <;> decide) (by simp [mset, msetL, upd2, h20]) (by rw [msetL_eq]; rfl) (by simp [mset, msetL, upd2, h20]) hq (by omega) (by simp) rfl (by omega) (Nat.lt_succ_self _)
              · have g142 : ¬ rg (by_ b n q) 48 57 := fun zz => h142_h ((in_rg (c := (by_ b n q)) (lo := 48) (hi := 57) (a := 48) (z := 57) (by decide) (by decide)).mpr zz)
                refine v_if_eq (tgt := 252) G dX8_next_145 (by decide) (fun h145 => ?_) (fun h145 => absurd h145 (by decide))
                refine v_iload_n G 0 dX8_next_252 rfl ?_
                refine v_bipush (v := 40) G dX8_next_253 rfl ?_
                refine v_icmp_eq (tgt := 300) G dX8_next_255 (by decide) (fun h255 => ?_) (fun h255 => ?_)
                · refine v_aload_n G 1 dX8_next_300 rfl ?_
                  refine v_iconst (v := 3) G dX8_next_301 rfl ?_
                  refine m_putI G 21 (by decide) q1315 rfl rfl rfl dX8_next_302 ?_
                  refine v_aload_n G 1 dX8_next_305 rfl ?_
                  refine v_iload_n G 0 dX8_next_306 rfl ?_
                  refine v_i2l (v := (by_ b n q).toInt64) G dX8_next_307 rfl ?_
                  refine m_putL G 23 (by decide) q1317 rfl rfl rfl dX8_next_308 ?_
                  refine v_aload_n G 1 dX8_next_311 rfl ?_
                  refine v_dup G dX8_next_312 rfl ?_
                  refine m_get (v := .int (τ.1 20 0)) G 20 (by decide) rfl q1314 rfl dX8_next_313 ?_
                  refine v_iconst (v := 1) G dX8_next_316 rfl ?_
                  refine v_iadd G dX8_next_317 ?_
                  refine m_putI G 20 (by decide) q1314 rfl rfl rfl dX8_next_318 ?_
                  refine RET _ _ _ _ _ (Nat.le_of_ble_eq_true rfl) (Nat.le_of_ble_eq_true rfl) dX8_next_321 (fun ws hw => ⟨_, hw, ?_⟩)
                  clear RET G hT hnm
                  have hc : ¬ by_ b n q = -1 := fun z => by rw [z] at h62; exact absurd h62 (by decide)
                  have hm : by_ b n q ∈ ([40, 41, 59, 43, 45, 42, 60, 61] : List Int32) := by simp only [List.mem_cons, List.not_mem_nil, or_false]; first | exact Or.inl h255 | exact Or.inr (Or.inl h261) | exact Or.inr (Or.inr (Or.inl h267)) | exact Or.inr (Or.inr (Or.inr (Or.inl h273))) | exact Or.inr (Or.inr (Or.inr (Or.inr (Or.inl h279)))) | exact Or.inr (Or.inr (Or.inr (Or.inr (Or.inr (Or.inl h285))))) | exact Or.inr (Or.inr (Or.inr (Or.inr (Or.inr (Or.inr (Or.inl h291)))))) | exact Or.inr (Or.inr (Or.inr (Or.inr (Or.inr (Or.inr (Or.inr h297))))))
                  refine ⟨?_, ?_⟩
                  · rw [nx, hj, if_neg hc, if_neg g89, if_neg g142, if_pos hm]
                    have hqn := by_ne hc
                    refine ⟨⟨by show q ≤ q + 1; omega, by show q + 1 ≤ n; omega, fun _ => by show q < q + 1; omega⟩, ?_, ?_, ?_, Or.inr (Or.inr (Or.inr ⟨rfl, ?_, ?_⟩))⟩
                    · simp [mset, msetL, upd2]; exact (ag_at hτ (by decide)).trans hb
                    · simp [mset, msetL, upd2, h20]
                    · rw [mset_eq]; exact ix_add h20 (ix_lit 1 rfl)
                    · simp [mset, msetL, upd2]
                    · simp [mset, msetL, upd2]
                  · refine ag_tr (ag_mono hτ (by decide)) (ag_tr (ag_tr (ag_tr (ag_tr (ag_set ?_) (ag_set ?_)) (ag_set ?_)) ag_L) (ag_set ?_)) <;> decide
                · refine v_iload_n G 0 dX8_next_258 rfl ?_
                  refine v_bipush (v := 41) G dX8_next_259 rfl ?_
                  refine v_icmp_eq (tgt := 300) G dX8_next_261 (by decide) (fun h261 => ?_) (fun h261 => ?_)
                  · refine v_aload_n G 1 dX8_next_300 rfl ?_
                    refine v_iconst (v := 3) G dX8_next_301 rfl ?_
                    refine m_putI G 21 (by decide) q1315 rfl rfl rfl dX8_next_302 ?_
                    refine v_aload_n G 1 dX8_next_305 rfl ?_
                    refine v_iload_n G 0 dX8_next_306 rfl ?_
                    refine v_i2l (v := (by_ b n q).toInt64) G dX8_next_307 rfl ?_
                    refine m_putL G 23 (by decide) q1317 rfl rfl rfl dX8_next_308 ?_
                    refine v_aload_n G 1 dX8_next_311 rfl ?_
                    refine v_dup G dX8_next_312 rfl ?_
                    refine m_get (v := .int (τ.1 20 0)) G 20 (by decide) rfl q1314 rfl dX8_next_313 ?_
                    refine v_iconst (v := 1) G dX8_next_316 rfl ?_
                    refine v_iadd G dX8_next_317 ?_
                    refine m_putI G 20 (by decide) q1314 rfl rfl rfl dX8_next_318 ?_
                    refine RET _ _ _ _ _ (Nat.le_of_ble_eq_true rfl) (Nat.le_of_ble_eq_true rfl) dX8_next_321 (fun ws hw => ⟨_, hw, ?_⟩)
                    clear RET G hT hnm
                    have hc : ¬ by_ b n q = -1 := fun z => by rw [z] at h62; exact absurd h62 (by decide)
                    have hm : by_ b n q ∈ ([40, 41, 59, 43, 45, 42, 60, 61] : List Int32) := by simp only [List.mem_cons, List.not_mem_nil, or_false]; first | exact Or.inl h255 | exact Or.inr (Or.inl h261) | exact Or.inr (Or.inr (Or.inl h267)) | exact Or.inr (Or.inr (Or.inr (Or.inl h273))) | exact Or.inr (Or.inr (Or.inr (Or.inr (Or.inl h279)))) | exact Or.inr (Or.inr (Or.inr (Or.inr (Or.inr (Or.inl h285))))) | exact Or.inr (Or.inr (Or.inr (Or.inr (Or.inr (Or.inr (Or.inl h291)))))) | exact Or.inr (Or.inr (Or.inr (Or.inr (Or.inr (Or.inr (Or.inr h297))))))
                    refine ⟨?_, ?_⟩
                    · rw [nx, hj, if_neg hc, if_neg g89, if_neg g142, if_pos hm]
                      have hqn := by_ne hc
                      refine ⟨⟨by show q ≤ q + 1; omega, by show q + 1 ≤ n; omega, fun _ => by show q < q + 1; omega⟩, ?_, ?_, ?_, Or.inr (Or.inr (Or.inr ⟨rfl, ?_, ?_⟩))⟩
                      · simp [mset, msetL, upd2]; exact (ag_at hτ (by decide)).trans hb
                      · simp [mset, msetL, upd2, h20]
                      · rw [mset_eq]; exact ix_add h20 (ix_lit 1 rfl)
                      · simp [mset, msetL, upd2]
                      · simp [mset, msetL, upd2]
                    · refine ag_tr (ag_mono hτ (by decide)) (ag_tr (ag_tr (ag_tr (ag_tr (ag_set ?_) (ag_set ?_)) (ag_set ?_)) ag_L) (ag_set ?_)) <;> decide
                  · refine v_iload_n G 0 dX8_next_264 rfl ?_
                    refine v_bipush (v := 59) G dX8_next_265 rfl ?_
                    refine v_icmp_eq (tgt := 300) G dX8_next_267 (by decide) (fun h267 => ?_) (fun h267 => ?_)
                    · refine v_aload_n G 1 dX8_next_300 rfl ?_
                      refine v_iconst (v := 3) G dX8_next_301 rfl ?_
                      refine m_putI G 21 (by decide) q1315 rfl rfl rfl dX8_next_302 ?_
                      refine v_aload_n G 1 dX8_next_305 rfl ?_
                      refine v_iload_n G 0 dX8_next_306 rfl ?_
                      refine v_i2l (v := (by_ b n q).toInt64) G dX8_next_307 rfl ?_
                      refine m_putL G 23 (by decide) q1317 rfl rfl rfl dX8_next_308 ?_
                      refine v_aload_n G 1 dX8_next_311 rfl ?_
                      refine v_dup G dX8_next_312 rfl ?_
                      refine m_get (v := .int (τ.1 20 0)) G 20 (by decide) rfl q1314 rfl dX8_next_313 ?_
                      refine v_iconst (v := 1) G dX8_next_316 rfl ?_
                      refine v_iadd G dX8_next_317 ?_
                      refine m_putI G 20 (by decide) q1314 rfl rfl rfl dX8_next_318 ?_
                      refine RET _ _ _ _ _ (Nat.le_of_ble_eq_true rfl) (Nat.le_of_ble_eq_true rfl) dX8_next_321 (fun ws hw => ⟨_, hw, ?_⟩)
                      clear RET G hT hnm
                      have hc : ¬ by_ b n q = -1 := fun z => by rw [z] at h62; exact absurd h62 (by decide)
                      have hm : by_ b n q ∈ ([40, 41, 59, 43, 45, 42, 60, 61] : List Int32) := by simp only [List.mem_cons, List.not_mem_nil, or_false]; first | exact Or.inl h255 | exact Or.inr (Or.inl h261) | exact Or.inr (Or.inr (Or.inl h267)) | exact Or.inr (Or.inr (Or.inr (Or.inl h273))) | exact Or.inr (Or.inr (Or.inr (Or.inr (Or.inl h279)))) | exact Or.inr (Or.inr (Or.inr (Or.inr (Or.inr (Or.inl h285))))) | exact Or.inr (Or.inr (Or.inr (Or.inr (Or.inr (Or.inr (Or.inl h291)))))) | exact Or.inr (Or.inr (Or.inr (Or.inr (Or.inr (Or.inr (Or.inr h297))))))
                      refine ⟨?_, ?_⟩
                      · rw [nx, hj, if_neg hc, if_neg g89, if_neg g142, if_pos hm]
                        have hqn := by_ne hc
                        refine ⟨⟨by show q ≤ q + 1; omega, by show q + 1 ≤ n; omega, fun _ => by show q < q + 1; omega⟩, ?_, ?_, ?_, Or.inr (Or.inr (Or.inr ⟨rfl, ?_, ?_⟩))⟩
                        · simp [mset, msetL, upd2]; exact (ag_at hτ (by decide)).trans hb
                        · simp [mset, msetL, upd2, h20]
                        · rw [mset_eq]; exact ix_add h20 (ix_lit 1 rfl)
                        · simp [mset, msetL, upd2]
                        · simp [mset, msetL, upd2]
                      · refine ag_tr (ag_mono hτ (by decide)) (ag_tr (ag_tr (ag_tr (ag_tr (ag_set ?_) (ag_set ?_)) (ag_set ?_)) ag_L) (ag_set ?_)) <;> decide
                    · refine v_iload_n G 0 dX8_next_270 rfl ?_
                      refine v_bipush (v := 43) G dX8_next_271 rfl ?_
                      refine v_icmp_eq (tgt := 300) G dX8_next_273 (by decide) (fun h273 => ?_) (fun h273 => ?_)
                      · refine v_aload_n G 1 dX8_next_300 rfl ?_
                        refine v_iconst (v := 3) G dX8_next_301 rfl ?_
                        refine m_putI G 21 (by decide) q1315 rfl rfl rfl dX8_next_302 ?_
                        refine v_aload_n G 1 dX8_next_305 rfl ?_
                        refine v_iload_n G 0 dX8_next_306 rfl ?_
                        refine v_i2l (v := (by_ b n q).toInt64) G dX8_next_307 rfl ?_
                        refine m_putL G 23 (by decide) q1317 rfl rfl rfl dX8_next_308 ?_
                        refine v_aload_n G 1 dX8_next_311 rfl ?_
                        refine v_dup G dX8_next_312 rfl ?_
                        refine m_get (v := .int (τ.1 20 0)) G 20 (by decide) rfl q1314 rfl dX8_next_313 ?_
                        refine v_iconst (v := 1) G dX8_next_316 rfl ?_
                        refine v_iadd G dX8_next_317 ?_
                        refine m_putI G 20 (by decide) q1314 rfl rfl rfl dX8_next_318 ?_
                        refine RET _ _ _ _ _ (Nat.le_of_ble_eq_true rfl) (Nat.le_of_ble_eq_true rfl) dX8_next_321 (fun ws hw => ⟨_, hw, ?_⟩)
                        clear RET G hT hnm
                        have hc : ¬ by_ b n q = -1 := fun z => by rw [z] at h62; exact absurd h62 (by decide)
                        have hm : by_ b n q ∈ ([40, 41, 59, 43, 45, 42, 60, 61] : List Int32) := by simp only [List.mem_cons, List.not_mem_nil, or_false]; first | exact Or.inl h255 | exact Or.inr (Or.inl h261) | exact Or.inr (Or.inr (Or.inl h267)) | exact Or.inr (Or.inr (Or.inr (Or.inl h273))) | exact Or.inr (Or.inr (Or.inr (Or.inr (Or.inl h279)))) | exact Or.inr (Or.inr (Or.inr (Or.inr (Or.inr (Or.inl h285))))) | exact Or.inr (Or.inr (Or.inr (Or.inr (Or.inr (Or.inr (Or.inl h291)))))) | exact Or.inr (Or.inr (Or.inr (Or.inr (Or.inr (Or.inr (Or.inr h297))))))
                        refine ⟨?_, ?_⟩
                        · rw [nx, hj, if_neg hc, if_neg g89, if_neg g142, if_pos hm]
                          have hqn := by_ne hc
                          refine ⟨⟨by show q ≤ q + 1; omega, by show q + 1 ≤ n; omega, fun _ => by show q < q + 1; omega⟩, ?_, ?_, ?_, Or.inr (Or.inr (Or.inr ⟨rfl, ?_, ?_⟩))⟩
                          · simp [mset, msetL, upd2]; exact (ag_at hτ (by decide)).trans hb
                          · simp [mset, msetL, upd2, h20]
                          · rw [mset_eq]; exact ix_add h20 (ix_lit 1 rfl)
                          · simp [mset, msetL, upd2]
                          · simp [mset, msetL, upd2]
                        · refine ag_tr (ag_mono hτ (by decide)) (ag_tr (ag_tr (ag_tr (ag_tr (ag_set ?_) (ag_set ?_)) (ag_set ?_)) ag_L) (ag_set ?_)) <;> decide
                      · refine v_iload_n G 0 dX8_next_276 rfl ?_
                        refine v_bipush (v := 45) G dX8_next_277 rfl ?_
                        refine v_icmp_eq (tgt := 300) G dX8_next_279 (by decide) (fun h279 => ?_) (fun h279 => ?_)
                        · refine v_aload_n G 1 dX8_next_300 rfl ?_
                          refine v_iconst (v := 3) G dX8_next_301 rfl ?_
                          refine m_putI G 21 (by decide) q1315 rfl rfl rfl dX8_next_302 ?_
                          refine v_aload_n G 1 dX8_next_305 rfl ?_
                          refine v_iload_n G 0 dX8_next_306 rfl ?_
                          refine v_i2l (v := (by_ b n q).toInt64) G dX8_next_307 rfl ?_
                          refine m_putL G 23 (by decide) q1317 rfl rfl rfl dX8_next_308 ?_
                          refine v_aload_n G 1 dX8_next_311 rfl ?_
                          refine v_dup G dX8_next_312 rfl ?_
                          refine m_get (v := .int (τ.1 20 0)) G 20 (by decide) rfl q1314 rfl dX8_next_313 ?_
                          refine v_iconst (v := 1) G dX8_next_316 rfl ?_
                          refine v_iadd G dX8_next_317 ?_
                          refine m_putI G 20 (by decide) q1314 rfl rfl rfl dX8_next_318 ?_
                          refine RET _ _ _ _ _ (Nat.le_of_ble_eq_true rfl) (Nat.le_of_ble_eq_true rfl) dX8_next_321 (fun ws hw => ⟨_, hw, ?_⟩)
                          clear RET G hT hnm
                          have hc : ¬ by_ b n q = -1 := fun z => by rw [z] at h62; exact absurd h62 (by decide)
                          have hm : by_ b n q ∈ ([40, 41, 59, 43, 45, 42, 60, 61] : List Int32) := by simp only [List.mem_cons, List.not_mem_nil, or_false]; first | exact Or.inl h255 | exact Or.inr (Or.inl h261) | exact Or.inr (Or.inr (Or.inl h267)) | exact Or.inr (Or.inr (Or.inr (Or.inl h273))) | exact Or.inr (Or.inr (Or.inr (Or.inr (Or.inl h279)))) | exact Or.inr (Or.inr (Or.inr (Or.inr (Or.inr (Or.inl h285))))) | exact Or.inr (Or.inr (Or.inr (Or.inr (Or.inr (Or.inr (Or.inl h291)))))) | exact Or.inr (Or.inr (Or.inr (Or.inr (Or.inr (Or.inr (Or.inr h297))))))
                          refine ⟨?_, ?_⟩
                          · rw [nx, hj, if_neg hc, if_neg g89, if_neg g142, if_pos hm]
                            have hqn := by_ne hc
                            refine ⟨⟨by show q ≤ q + 1; omega, by show q + 1 ≤ n; omega, fun _ => by show q < q + 1; omega⟩, ?_, ?_, ?_, Or.inr (Or.inr (Or.inr ⟨rfl, ?_, ?_⟩))⟩
                            · simp [mset, msetL, upd2]; exact (ag_at hτ (by decide)).trans hb
                            · simp [mset, msetL, upd2, h20]
                            · rw [mset_eq]; exact ix_add h20 (ix_lit 1 rfl)
                            · simp [mset, msetL, upd2]
                            · simp [mset, msetL, upd2]
                          · refine ag_tr (ag_mono hτ (by decide)) (ag_tr (ag_tr (ag_tr (ag_tr (ag_set ?_) (ag_set ?_)) (ag_set ?_)) ag_L) (ag_set ?_)) <;> decide
                        · refine v_iload_n G 0 dX8_next_282 rfl ?_
                          refine v_bipush (v := 42) G dX8_next_283 rfl ?_
                          refine v_icmp_eq (tgt := 300) G dX8_next_285 (by decide) (fun h285 => ?_) (fun h285 => ?_)
                          · refine v_aload_n G 1 dX8_next_300 rfl ?_
                            refine v_iconst (v := 3) G dX8_next_301 rfl ?_
                            refine m_putI G 21 (by decide) q1315 rfl rfl rfl dX8_next_302 ?_
                            refine v_aload_n G 1 dX8_next_305 rfl ?_
                            refine v_iload_n G 0 dX8_next_306 rfl ?_
                            refine v_i2l (v := (by_ b n q).toInt64) G dX8_next_307 rfl ?_
                            refine m_putL G 23 (by decide) q1317 rfl rfl rfl dX8_next_308 ?_
                            refine v_aload_n G 1 dX8_next_311 rfl ?_
                            refine v_dup G dX8_next_312 rfl ?_
                            refine m_get (v := .int (τ.1 20 0)) G 20 (by decide) rfl q1314 rfl dX8_next_313 ?_
                            refine v_iconst (v := 1) G dX8_next_316 rfl ?_
                            refine v_iadd G dX8_next_317 ?_
                            refine m_putI G 20 (by decide) q1314 rfl rfl rfl dX8_next_318 ?_
                            refine RET _ _ _ _ _ (Nat.le_of_ble_eq_true rfl) (Nat.le_of_ble_eq_true rfl) dX8_next_321 (fun ws hw => ⟨_, hw, ?_⟩)
                            clear RET G hT hnm
                            have hc : ¬ by_ b n q = -1 := fun z => by rw [z] at h62; exact absurd h62 (by decide)
                            have hm : by_ b n q ∈ ([40, 41, 59, 43, 45, 42, 60, 61] : List Int32) := by simp only [List.mem_cons, List.not_mem_nil, or_false]; first | exact Or.inl h255 | exact Or.inr (Or.inl h261) | exact Or.inr (Or.inr (Or.inl h267)) | exact Or.inr (Or.inr (Or.inr (Or.inl h273))) | exact Or.inr (Or.inr (Or.inr (Or.inr (Or.inl h279)))) | exact Or.inr (Or.inr (Or.inr (Or.inr (Or.inr (Or.inl h285))))) | exact Or.inr (Or.inr (Or.inr (Or.inr (Or.inr (Or.inr (Or.inl h291)))))) | exact Or.inr (Or.inr (Or.inr (Or.inr (Or.inr (Or.inr (Or.inr h297))))))
                            refine ⟨?_, ?_⟩
                            · rw [nx, hj, if_neg hc, if_neg g89, if_neg g142, if_pos hm]
                              have hqn := by_ne hc
                              refine ⟨⟨by show q ≤ q + 1; omega, by show q + 1 ≤ n; omega, fun _ => by show q < q + 1; omega⟩, ?_, ?_, ?_, Or.inr (Or.inr (Or.inr ⟨rfl, ?_, ?_⟩))⟩
                              · simp [mset, msetL, upd2]; exact (ag_at hτ (by decide)).trans hb
                              · simp [mset, msetL, upd2, h20]
                              · rw [mset_eq]; exact ix_add h20 (ix_lit 1 rfl)
                              · simp [mset, msetL, upd2]
                              · simp [mset, msetL, upd2]
                            · refine ag_tr (ag_mono hτ (by decide)) (ag_tr (ag_tr (ag_tr (ag_tr (ag_set ?_) (ag_set ?_)) (ag_set ?_)) ag_L) (ag_set ?_)) <;> decide
                          · refine v_iload_n G 0 dX8_next_288 rfl ?_
                            refine v_bipush (v := 60) G dX8_next_289 rfl ?_
                            refine v_icmp_eq (tgt := 300) G dX8_next_291 (by decide) (fun h291 => ?_) (fun h291 => ?_)
                            · refine v_aload_n G 1 dX8_next_300 rfl ?_
                              refine v_iconst (v := 3) G dX8_next_301 rfl ?_
                              refine m_putI G 21 (by decide) q1315 rfl rfl rfl dX8_next_302 ?_
                              refine v_aload_n G 1 dX8_next_305 rfl ?_
                              refine v_iload_n G 0 dX8_next_306 rfl ?_
                              refine v_i2l (v := (by_ b n q).toInt64) G dX8_next_307 rfl ?_
                              refine m_putL G 23 (by decide) q1317 rfl rfl rfl dX8_next_308 ?_
                              refine v_aload_n G 1 dX8_next_311 rfl ?_
                              refine v_dup G dX8_next_312 rfl ?_
                              refine m_get (v := .int (τ.1 20 0)) G 20 (by decide) rfl q1314 rfl dX8_next_313 ?_
                              refine v_iconst (v := 1) G dX8_next_316 rfl ?_
                              refine v_iadd G dX8_next_317 ?_
                              refine m_putI G 20 (by decide) q1314 rfl rfl rfl dX8_next_318 ?_
                              refine RET _ _ _ _ _ (Nat.le_of_ble_eq_true rfl) (Nat.le_of_ble_eq_true rfl) dX8_next_321 (fun ws hw => ⟨_, hw, ?_⟩)
                              clear RET G hT hnm
                              have hc : ¬ by_ b n q = -1 := fun z => by rw [z] at h62; exact absurd h62 (by decide)
                              have hm : by_ b n q ∈ ([40, 41, 59, 43, 45, 42, 60, 61] : List Int32) := by simp only [List.mem_cons, List.not_mem_nil, or_false]; first | exact Or.inl h255 | exact Or.inr (Or.inl h261) | exact Or.inr (Or.inr (Or.inl h267)) | exact Or.inr (Or.inr (Or.inr (Or.inl h273))) | exact Or.inr (Or.inr (Or.inr (Or.inr (Or.inl h279)))) | exact Or.inr (Or.inr (Or.inr (Or.inr (Or.inr (Or.inl h285))))) | exact Or.inr (Or.inr (Or.inr (Or.inr (Or.inr (Or.inr (Or.inl h291)))))) | exact Or.inr (Or.inr (Or.inr (Or.inr (Or.inr (Or.inr (Or.inr h297))))))
                              refine ⟨?_, ?_⟩
                              · rw [nx, hj, if_neg hc, if_neg g89, if_neg g142, if_pos hm]
                                have hqn := by_ne hc
                                refine ⟨⟨by show q ≤ q + 1; omega, by show q + 1 ≤ n; omega, fun _ => by show q < q + 1; omega⟩, ?_, ?_, ?_, Or.inr (Or.inr (Or.inr ⟨rfl, ?_, ?_⟩))⟩
                                · simp [mset, msetL, upd2]; exact (ag_at hτ (by decide)).trans hb
                                · simp [mset, msetL, upd2, h20]
                                · rw [mset_eq]; exact ix_add h20 (ix_lit 1 rfl)
                                · simp [mset, msetL, upd2]
                                · simp [mset, msetL, upd2]
                              · refine ag_tr (ag_mono hτ (by decide)) (ag_tr (ag_tr (ag_tr (ag_tr (ag_set ?_) (ag_set ?_)) (ag_set ?_)) ag_L) (ag_set ?_)) <;> decide
                            · refine v_iload_n G 0 dX8_next_294 rfl ?_
                              refine v_bipush (v := 61) G dX8_next_295 rfl ?_
                              refine v_icmp_ne (tgt := 321) G dX8_next_297 (by decide) (fun h297 => ?_) (fun h297 => ?_)
                              · refine RET _ _ _ _ _ (Nat.le_of_ble_eq_true rfl) (Nat.le_of_ble_eq_true rfl) dX8_next_321 (fun ws hw => ⟨_, hw, ?_⟩)
                                clear RET G hT hnm
                                have hc : ¬ by_ b n q = -1 := fun z => by rw [z] at h62; exact absurd h62 (by decide)
                                have hm : ¬ by_ b n q ∈ ([40, 41, 59, 43, 45, 42, 60, 61] : List Int32) := by
                                  simp only [List.mem_cons, List.not_mem_nil, or_false, not_or]
                                  exact ⟨h255, h261, h267, h273, h279, h285, h291, h297⟩
                                refine ⟨?_, ?_⟩
                                · rw [nx, hj, if_neg hc, if_neg g89, if_neg g142, if_neg hm]
                                  refine ⟨hq, Or.inr ⟨?_, ?_, Or.inl ?_⟩⟩
                                  · simp [mset, msetL, upd2]; exact (ag_at hτ (by decide)).trans hb
                                  · simp [mset, msetL, upd2, h20]
                                  · rw [mset_eq]
                                · refine ag_tr (ag_mono hτ (by decide)) (ag_tr (ag_set ?_) (ag_set ?_)) <;> decide
                              · refine v_aload_n G 1 dX8_next_300 rfl ?_
                                refine v_iconst (v := 3) G dX8_next_301 rfl ?_
                                refine m_putI G 21 (by decide) q1315 rfl rfl rfl dX8_next_302 ?_
                                refine v_aload_n G 1 dX8_next_305 rfl ?_
                                refine v_iload_n G 0 dX8_next_306 rfl ?_
                                refine v_i2l (v := (by_ b n q).toInt64) G dX8_next_307 rfl ?_
                                refine m_putL G 23 (by decide) q1317 rfl rfl rfl dX8_next_308 ?_
                                refine v_aload_n G 1 dX8_next_311 rfl ?_
                                refine v_dup G dX8_next_312 rfl ?_
                                refine m_get (v := .int (τ.1 20 0)) G 20 (by decide) rfl q1314 rfl dX8_next_313 ?_
                                refine v_iconst (v := 1) G dX8_next_316 rfl ?_
                                refine v_iadd G dX8_next_317 ?_
                                refine m_putI G 20 (by decide) q1314 rfl rfl rfl dX8_next_318 ?_
                                refine RET _ _ _ _ _ (Nat.le_of_ble_eq_true rfl) (Nat.le_of_ble_eq_true rfl) dX8_next_321 (fun ws hw => ⟨_, hw, ?_⟩)
                                clear RET G hT hnm
                                have hc : ¬ by_ b n q = -1 := fun z => by rw [z] at h62; exact absurd h62 (by decide)
                                have hm : by_ b n q ∈ ([40, 41, 59, 43, 45, 42, 60, 61] : List Int32) := by simp only [List.mem_cons, List.not_mem_nil, or_false]; first | exact Or.inl h255 | exact Or.inr (Or.inl h261) | exact Or.inr (Or.inr (Or.inl h267)) | exact Or.inr (Or.inr (Or.inr (Or.inl h273))) | exact Or.inr (Or.inr (Or.inr (Or.inr (Or.inl h279)))) | exact Or.inr (Or.inr (Or.inr (Or.inr (Or.inr (Or.inl h285))))) | exact Or.inr (Or.inr (Or.inr (Or.inr (Or.inr (Or.inr (Or.inl h291)))))) | exact Or.inr (Or.inr (Or.inr (Or.inr (Or.inr (Or.inr (Or.inr h297))))))
                                refine ⟨?_, ?_⟩
                                · rw [nx, hj, if_neg hc, if_neg g89, if_neg g142, if_pos hm]
                                  have hqn := by_ne hc
                                  refine ⟨⟨by show q ≤ q + 1; omega, by show q + 1 ≤ n; omega, fun _ => by show q < q + 1; omega⟩, ?_, ?_, ?_, Or.inr (Or.inr (Or.inr ⟨rfl, ?_, ?_⟩))⟩
                                  · simp [mset, msetL, upd2]; exact (ag_at hτ (by decide)).trans hb
                                  · simp [mset, msetL, upd2, h20]
                                  · rw [mset_eq]; exact ix_add h20 (ix_lit 1 rfl)
                                  · simp [mset, msetL, upd2]
                                  · simp [mset, msetL, upd2]
                                · refine ag_tr (ag_mono hτ (by decide)) (ag_tr (ag_tr (ag_tr (ag_tr (ag_set ?_) (ag_set ?_)) (ag_set ?_)) ag_L) (ag_set ?_)) <;> decide
          · refine v_aload_n G 1 dX8_next_65 rfl ?_
            refine v_iconst (v := 0) G dX8_next_66 rfl ?_
            refine m_putI G 21 (by decide) q1315 rfl rfl rfl dX8_next_67 ?_
            refine v_aload_n G 1 dX8_next_70 rfl ?_
            refine v_aload_n G 1 dX8_next_71 rfl ?_
            refine m_get (v := .int (τ.1 19 0)) G 19 (by decide) rfl q1313 rfl dX8_next_72 ?_
            refine m_putI G 22 (by decide) q1316 rfl rfl rfl dX8_next_75 ?_
            refine v_goto (tgt := 321) G dX8_next_78 (by decide) ?_
            refine RET _ _ _ _ _ (Nat.le_of_ble_eq_true rfl) (Nat.le_of_ble_eq_true rfl) dX8_next_321 (fun ws hw => ⟨_, hw, ?_⟩)
            clear RET G hT hnm
            have hc : by_ b n q = -1 ∧ n ≤ q := by
              rcases by_lt (b := b) (n := n) (i := q) x6 with z | ⟨z1, cN, z2, z3⟩
              · exact z
              · exact absurd (Int32.not_le.mpr (show by_ b n q < 0 by first | exact Int32.not_le.mp h62 | exact h62)) (fun z => z (by rw [z3]; exact nI_pos' (by omega)))
            have hqn : q = n := by omega
            subst hqn
            refine ⟨?_, ?_⟩
            · rw [nx, hj, if_pos hc.1]
              refine ⟨⟨Nat.le_refl _, Nat.le_refl _, fun z => absurd rfl z⟩, ?_, ?_, ?_, Or.inl ⟨rfl, ?_⟩⟩
              · simp only [mset, upd2]
                exact (ag_at hτ (by decide)).trans hb
              · rw [mset_eq]; exact y2
              · rw [mset_ne (by decide), mset_ne (by decide), mset_ne (by decide), mset_ne (by decide)]; exact h20
              · rw [mset_ne (by decide), mset_eq]
            · refine ag_tr (ag_mono hτ (by decide)) ?_
              refine ag_tr (ag_tr (ag_tr (ag_set ?_) (ag_set ?_)) (ag_set ?_)) (ag_set ?_) <;> decide
        · refine v_aload_n G 0 dX8_next_26 rfl ?_
          refine v_dup G dX8_next_27 rfl ?_
          refine m_get (v := .int (τ.1 20 0)) G 20 (by decide) rfl q1314 rfl dX8_next_28 ?_
          refine v_iconst (v := 1) G dX8_next_31 rfl ?_
          refine v_iadd G dX8_next_32 ?_
          refine m_putI G 20 (by decide) q1314 rfl rfl rfl dX8_next_33 ?_
          refine v_goto (tgt := 0) G dX8_next_36 (by decide) ?_
          have hqn : q < n := by_ne (b := b) (fun z => by first | (rw [h10] at z; exact absurd z (by decide)) | (rw [h23] at z; exact absurd z (by decide)))
          refine V_.sub (L' := [(0, .ref (ad 43))]) ?_ [0] rfl
          exact ih0  f (q + 1) (mset τ 20 0 ((τ.1 20 0) + 1)) (ag_tr hτ (ag_set (by decide))) (by rw [mset_eq]; exact ix_add h20 (ix_lit 1 rfl)) (by omega) (by rw [← hsk, sk, if_pos (by first | exact Or.inl h10 | exact Or.inr h23)]) (by omega) (by omega)
  refine V_.sub (L' := [(0, .ref (ad 43))]) ?_ [0] rfl
  exact loop0 _ (n + 1) i σ ag_rf h2i (by first | assumption | omega) rfl (by omega) (Nat.lt_succ_self _)
