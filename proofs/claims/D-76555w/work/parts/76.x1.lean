set_option maxRecDepth 100000
abbrev rmX0_in : Room := { frames := 0, cells := 0, slots := 0, locals := 0 }
set_option maxHeartbeats 1000000 in
theorem kX0_in {KT : (Nat → Prop) → State → Heap → Prop} (hK : KTok KT) (l : Launch) (dC : Nat → ClassId) (dI : Nat → Nat → Nat) (ct ad : Nat → Nat) (F : List (Nat × va_E)) (σ : MS) (v : Int64) (lo : Int64) (hi : Int64)  : MC KT (dC, dI) vwCl (tysF ct) l yX0_in cX0_in 6 (some .boolean) rmX0_in [.long v, .long lo, .long hi] (RX ct ad F σ) (QI_ (dC, dI) vwCl (RX ct ad F) (fun (r : Int32) (σ' : MS) => (1 = r ∧ σ = σ' ∧ lo.toInt ≤ v.toInt ∧ v.toInt ≤ hi.toInt) ∨ (0 = r ∧ σ = σ' ∧ ¬ (lo.toInt ≤ v.toInt ∧ v.toInt ≤ hi.toInt)))) := by
  refine MC.ofI (own := RX0) pl_X0 rfl (Nat.le_of_ble_eq_true rfl) ?_
  intro pp ee ss mm aa bb hh cc AA QQ G hT hnm RET
  refine v_loc (L' := [(0, .long v), (2, .long lo), (4, .long hi)]) rfl ?_
  refine v_lload_n G 0 dX0_in_0 rfl ?_
  refine v_lload_n G 1 dX0_in_1 rfl ?_
  refine v_lcmp G dX0_in_2 ?_
  refine v_if_lt (tgt := 17) G dX0_in_3 (by decide) (fun h3 => ?_) (fun h3 => ?_)
  · refine v_iconst (v := 0) G dX0_in_17 rfl ?_
    refine RET _ _ _ _ _ _ (by first | rfl | assumption) (Nat.le_of_ble_eq_true rfl) (Nat.le_of_ble_eq_true rfl) dX0_in_18 (fun ws hws => ⟨_, hws, ?_⟩)
    clear RET G hT hnm
    exact Or.inr ⟨rfl, rfl, fun q => by first | (have := lc_lt h3; omega) | (have := lc_gt h9; omega) | (have := lc_gt h10; omega)⟩
  · refine v_lload_n G 0 dX0_in_6 rfl ?_
    refine v_lload G 2 dX0_in_7 rfl ?_
    refine v_lcmp G dX0_in_9 ?_
    refine v_if_gt (tgt := 17) G dX0_in_10 (by decide) (fun h10 => ?_) (fun h10 => ?_)
    · refine v_iconst (v := 0) G dX0_in_17 rfl ?_
      refine RET _ _ _ _ _ _ (by first | rfl | assumption) (Nat.le_of_ble_eq_true rfl) (Nat.le_of_ble_eq_true rfl) dX0_in_18 (fun ws hws => ⟨_, hws, ?_⟩)
      clear RET G hT hnm
      exact Or.inr ⟨rfl, rfl, fun q => by first | (have := lc_lt h3; omega) | (have := lc_gt h9; omega) | (have := lc_gt h10; omega)⟩
    · refine v_iconst (v := 1) G dX0_in_13 rfl ?_
      refine v_goto (tgt := 18) G dX0_in_14 (by decide) ?_
      refine RET _ _ _ _ _ _ (by first | rfl | assumption) (Nat.le_of_ble_eq_true rfl) (Nat.le_of_ble_eq_true rfl) dX0_in_18 (fun ws hws => ⟨_, hws, ?_⟩)
      clear RET G hT hnm
      exact Or.inl ⟨rfl, rfl, by first | exact lc_ge h3 | exact lc_ge h4, by first | exact lc_le h9 | exact lc_le h10⟩
abbrev rmX0_isCrossing : Room := { frames := 1, cells := 0, slots := 0, locals := 25 }
set_option maxHeartbeats 1000000 in
theorem kX0_isCrossing {KT : (Nat → Prop) → State → Heap → Prop} (hK : KTok KT) (l : Launch) (dC : Nat → ClassId) (dI : Nat → Nat → Nat) (ct ad : Nat → Nat) (F : List (Nat × va_E)) (σ : MS) (z : Int32)  : MC KT (dC, dI) vwCl (tysF ct) l yX0_isCrossing cX0_isCrossing 1 (some .boolean) rmX0_isCrossing [.int z] (RX ct ad F σ) (QI_ (dC, dI) vwCl (RX ct ad F) (fun (r : Int32) (σ' : MS) => (1 = r ∧ σ = σ' ∧ rg z 0 11) ∨ (0 = r ∧ σ = σ' ∧ ¬ rg z 0 11))) := by
  refine MC.ofI (own := RX0) pl_X0 rfl (Nat.le_of_ble_eq_true rfl) ?_
  intro pp ee ss mm aa bb hh cc AA QQ G hT hnm RET
  refine v_loc (L' := [(0, .int z)]) rfl ?_
  refine v_iload_n G 0 dX0_isCrossing_0 rfl ?_
  refine v_i2l (v := z.toInt64) G dX0_isCrossing_1 rfl ?_
  refine v_lconst (v := 0) G dX0_isCrossing_2 rfl ?_
  refine v_ldc2 G q166 dX0_isCrossing_3 ?_
  refine w_callSi G hK hT (kX0_in hK l dC dI ct ad F σ z.toInt64 0 11) (ck_X0_14 G.2.2.2.2.1 ⟨Nat.le_of_ble_eq_true rfl, Nat.le_of_ble_eq_true rfl⟩) (fun _ h => h) rfl [] rfl (Nat.le_of_ble_eq_true rfl) dX0_isCrossing_6 ⟨Nat.le_of_ble_eq_true rfl, Nat.le_of_ble_eq_true rfl⟩ (k1 := 0) (n1 := 0) rfl rfl ?_
  rintro r6 σ6 (⟨rfl, rfl, h6_h⟩ | ⟨rfl, rfl, h6_h⟩)
  · have g6 := (in_rg (c := z) (lo := 0) (hi := 11) (a := 0) (z := 11) (by decide) (by decide)).mp h6_h
    refine RET _ _ _ _ _ _ (by first | rfl | assumption) (Nat.le_of_ble_eq_true rfl) (Nat.le_of_ble_eq_true rfl) dX0_isCrossing_9 (fun ws hws => ⟨_, hws, ?_⟩)
    clear RET G hT hnm
    exact Or.inl ⟨rfl, rfl, g6⟩
  · have g6 : ¬ rg z 0 11 := fun zz => h6_h ((in_rg (c := z) (lo := 0) (hi := 11) (a := 0) (z := 11) (by decide) (by decide)).mpr zz)
    refine RET _ _ _ _ _ _ (by first | rfl | assumption) (Nat.le_of_ble_eq_true rfl) (Nat.le_of_ble_eq_true rfl) dX0_isCrossing_9 (fun ws hws => ⟨_, hws, ?_⟩)
    clear RET G hT hnm
    exact Or.inr ⟨rfl, rfl, g6⟩
abbrev rmX0_isRoad : Room := { frames := 1, cells := 0, slots := 0, locals := 25 }
set_option maxHeartbeats 1000000 in
theorem kX0_isRoad {KT : (Nat → Prop) → State → Heap → Prop} (hK : KTok KT) (l : Launch) (dC : Nat → ClassId) (dI : Nat → Nat → Nat) (ct ad : Nat → Nat) (F : List (Nat × va_E)) (σ : MS) (z : Int32)  : MC KT (dC, dI) vwCl (tysF ct) l yX0_isRoad cX0_isRoad 1 (some .boolean) rmX0_isRoad [.int z] (RX ct ad F σ) (QI_ (dC, dI) vwCl (RX ct ad F) (fun (r : Int32) (σ' : MS) => (1 = r ∧ σ = σ' ∧ rg z 0 23) ∨ (0 = r ∧ σ = σ' ∧ ¬ rg z 0 23))) := by
  refine MC.ofI (own := RX0) pl_X0 rfl (Nat.le_of_ble_eq_true rfl) ?_
  intro pp ee ss mm aa bb hh cc AA QQ G hT hnm RET
  refine v_loc (L' := [(0, .int z)]) rfl ?_
  refine v_iload_n G 0 dX0_isRoad_0 rfl ?_
  refine v_i2l (v := z.toInt64) G dX0_isRoad_1 rfl ?_
  refine v_lconst (v := 0) G dX0_isRoad_2 rfl ?_
  refine v_ldc2 G q281 dX0_isRoad_3 ?_
  refine w_callSi G hK hT (kX0_in hK l dC dI ct ad F σ z.toInt64 0 23) (ck_X0_14 G.2.2.2.2.1 ⟨Nat.le_of_ble_eq_true rfl, Nat.le_of_ble_eq_true rfl⟩) (fun _ h => h) rfl [] rfl (Nat.le_of_ble_eq_true rfl) dX0_isRoad_6 ⟨Nat.le_of_ble_eq_true rfl, Nat.le_of_ble_eq_true rfl⟩ (k1 := 0) (n1 := 0) rfl rfl ?_
  rintro r6 σ6 (⟨rfl, rfl, h6_h⟩ | ⟨rfl, rfl, h6_h⟩)
  · have g6 := (in_rg (c := z) (lo := 0) (hi := 23) (a := 0) (z := 23) (by decide) (by decide)).mp h6_h
    refine RET _ _ _ _ _ _ (by first | rfl | assumption) (Nat.le_of_ble_eq_true rfl) (Nat.le_of_ble_eq_true rfl) dX0_isRoad_9 (fun ws hws => ⟨_, hws, ?_⟩)
    clear RET G hT hnm
    exact Or.inl ⟨rfl, rfl, g6⟩
  · have g6 : ¬ rg z 0 23 := fun zz => h6_h ((in_rg (c := z) (lo := 0) (hi := 23) (a := 0) (z := 23) (by decide) (by decide)).mpr zz)
    refine RET _ _ _ _ _ _ (by first | rfl | assumption) (Nat.le_of_ble_eq_true rfl) (Nat.le_of_ble_eq_true rfl) dX0_isRoad_9 (fun ws hws => ⟨_, hws, ?_⟩)
    clear RET G hT hnm
    exact Or.inr ⟨rfl, rfl, g6⟩
abbrev rmX0_isSheet : Room := { frames := 1, cells := 0, slots := 0, locals := 25 }
set_option maxHeartbeats 1000000 in
theorem kX0_isSheet {KT : (Nat → Prop) → State → Heap → Prop} (hK : KTok KT) (l : Launch) (dC : Nat → ClassId) (dI : Nat → Nat → Nat) (ct ad : Nat → Nat) (F : List (Nat × va_E)) (σ : MS) (z : Int32)  : MC KT (dC, dI) vwCl (tysF ct) l yX0_isSheet cX0_isSheet 1 (some .boolean) rmX0_isSheet [.int z] (RX ct ad F σ) (QI_ (dC, dI) vwCl (RX ct ad F) (fun (r : Int32) (σ' : MS) => (1 = r ∧ σ = σ' ∧ rg z 0 3) ∨ (0 = r ∧ σ = σ' ∧ ¬ rg z 0 3))) := by
  refine MC.ofI (own := RX0) pl_X0 rfl (Nat.le_of_ble_eq_true rfl) ?_
  intro pp ee ss mm aa bb hh cc AA QQ G hT hnm RET
  refine v_loc (L' := [(0, .int z)]) rfl ?_
  refine v_iload_n G 0 dX0_isSheet_0 rfl ?_
  refine v_i2l (v := z.toInt64) G dX0_isSheet_1 rfl ?_
  refine v_lconst (v := 0) G dX0_isSheet_2 rfl ?_
  refine v_ldc2 G q1061 dX0_isSheet_3 ?_
  refine w_callSi G hK hT (kX0_in hK l dC dI ct ad F σ z.toInt64 0 3) (ck_X0_14 G.2.2.2.2.1 ⟨Nat.le_of_ble_eq_true rfl, Nat.le_of_ble_eq_true rfl⟩) (fun _ h => h) rfl [] rfl (Nat.le_of_ble_eq_true rfl) dX0_isSheet_6 ⟨Nat.le_of_ble_eq_true rfl, Nat.le_of_ble_eq_true rfl⟩ (k1 := 0) (n1 := 0) rfl rfl ?_
  rintro r6 σ6 (⟨rfl, rfl, h6_h⟩ | ⟨rfl, rfl, h6_h⟩)
  · have g6 := (in_rg (c := z) (lo := 0) (hi := 3) (a := 0) (z := 3) (by decide) (by decide)).mp h6_h
    refine RET _ _ _ _ _ _ (by first | rfl | assumption) (Nat.le_of_ble_eq_true rfl) (Nat.le_of_ble_eq_true rfl) dX0_isSheet_9 (fun ws hws => ⟨_, hws, ?_⟩)
    clear RET G hT hnm
    exact Or.inl ⟨rfl, rfl, g6⟩
  · have g6 : ¬ rg z 0 3 := fun zz => h6_h ((in_rg (c := z) (lo := 0) (hi := 3) (a := 0) (z := 3) (by decide) (by decide)).mpr zz)
    refine RET _ _ _ _ _ _ (by first | rfl | assumption) (Nat.le_of_ble_eq_true rfl) (Nat.le_of_ble_eq_true rfl) dX0_isSheet_9 (fun ws hws => ⟨_, hws, ?_⟩)
    clear RET G hT hnm
    exact Or.inr ⟨rfl, rfl, g6⟩
abbrev rmX0_held : Room := { frames := 1, cells := 0, slots := 0, locals := 24 }
set_option maxHeartbeats 1000000 in
theorem kX0_held {KT : (Nat → Prop) → State → Heap → Prop} (hK : KTok KT) (l : Launch) (dC : Nat → ClassId) (dI : Nat → Nat → Nat) (ct ad : Nat → Nat) (F : List (Nat × va_E)) (σ : MS) (v : Int32) (lo : Int32) (hi : Int32) (hl : lo ≤ hi) : MC KT (dC, dI) vwCl (tysF ct) l yX0_held cX0_held 3 (some .int) rmX0_held [.int v, .int lo, .int hi] (RX ct ad F σ) (QI_ (dC, dI) vwCl (RX ct ad F) (fun (r : Int32) (σ' : MS) => (s_clamp v lo hi) = r ∧ σ = σ')) := by
  refine MC.ofI (own := RX0) pl_X0 rfl (Nat.le_of_ble_eq_true rfl) ?_
  intro pp ee ss mm aa bb hh cc AA QQ G hT hnm RET
  refine v_loc (L' := [(0, .int v), (1, .int lo), (2, .int hi)]) rfl ?_
  refine v_iload_n G 1 dX0_held_0 rfl ?_
  refine v_iload_n G 2 dX0_held_1 rfl ?_
  refine v_iload_n G 0 dX0_held_2 rfl ?_
  refine v_mmin G q360 dX0_held_3 (Nat.le_of_ble_eq_true rfl) (Nat.le_of_ble_eq_true rfl) (Nat.le_of_ble_eq_true rfl) (Nat.le_of_ble_eq_true rfl) (Nat.le_of_ble_eq_true rfl) ?_
  refine v_mmax G q363 dX0_held_6 (Nat.le_of_ble_eq_true rfl) (Nat.le_of_ble_eq_true rfl) (Nat.le_of_ble_eq_true rfl) (Nat.le_of_ble_eq_true rfl) (Nat.le_of_ble_eq_true rfl) ?_
  refine RET _ _ _ _ _ _ rfl (Nat.le_of_ble_eq_true rfl) (Nat.le_of_ble_eq_true rfl) dX0_held_9 (fun ws hws => ⟨_, hws, ?_⟩)
  clear RET G hT hnm
  refine ⟨?_, rfl⟩
  rw [Int32.le_iff_toInt_le] at hl
  unfold s_clamp
  simp only [Int32.lt_iff_toInt_lt]
  (repeat' split) <;> first | rfl | (exfalso; omega) | (apply Int32.toInt_inj.mp; omega)
abbrev rmX0_isOne : Room := { frames := 1, cells := 0, slots := 0, locals := 25 }
set_option maxHeartbeats 1000000 in
theorem kX0_isOne {KT : (Nat → Prop) → State → Heap → Prop} (hK : KTok KT) (l : Launch) (dC : Nat → ClassId) (dI : Nat → Nat → Nat) (ct ad : Nat → Nat) (F : List (Nat × va_E)) (σ : MS) (m : Nat) (z : Int32) (hm5 : m ≤ 5) (hm : σ.1 11 0 = nI m) : MC KT (dC, dI) vwCl (tysF ct) l yX0_isOne cX0_isOne 2 (some .boolean) rmX0_isOne [.ref (ad 0), .int z] (RX ct ad F σ) (QI_ (dC, dI) vwCl (RX ct ad F) (fun (r : Int32) (σ' : MS) => (1 = r ∧ σ = σ' ∧ rg z 0 ((m : Int) - 1)) ∨ (0 = r ∧ σ = σ' ∧ ¬ rg z 0 ((m : Int) - 1)))) := by
  refine MC.ofI (own := RX0) pl_X0 rfl (Nat.le_of_ble_eq_true rfl) ?_
  intro pp ee ss mm aa bb hh cc AA QQ G hT hnm RET
  refine v_loc (L' := [(0, .ref (ad 0)), (1, .int z)]) rfl ?_
  refine v_iload_n G 1 dX0_isOne_0 rfl ?_
  refine v_i2l (v := z.toInt64) G dX0_isOne_1 rfl ?_
  refine v_lconst (v := 0) G dX0_isOne_2 rfl ?_
  refine v_aload_n G 0 dX0_isOne_3 rfl ?_
  refine x_get (v := .int (σ.1 11 0)) G 1 (by decide) rfl q788 rfl dX0_isOne_4 ?_
  refine v_iconst (v := 1) G dX0_isOne_7 rfl ?_
  refine v_isub G dX0_isOne_8 ?_
  refine v_i2l (v := ((σ.1 11 0) - 1).toInt64) G dX0_isOne_9 rfl ?_
  refine w_callSi G hK hT (kX0_in hK l dC dI ct ad F σ z.toInt64 0 (((σ.1 11 0) - 1).toInt64)) (ck_X0_14 G.2.2.2.2.1 ⟨Nat.le_of_ble_eq_true rfl, Nat.le_of_ble_eq_true rfl⟩) (fun _ h => h) rfl [] rfl (Nat.le_of_ble_eq_true rfl) dX0_isOne_10 ⟨Nat.le_of_ble_eq_true rfl, Nat.le_of_ble_eq_true rfl⟩ (k1 := 0) (n1 := 0) rfl rfl ?_
  rintro r10 σ10 (⟨rfl, rfl, h10_h⟩ | ⟨rfl, rfl, h10_h⟩)
  · refine RET _ _ _ _ _ _ (by first | rfl | assumption) (Nat.le_of_ble_eq_true rfl) (Nat.le_of_ble_eq_true rfl) dX0_isOne_13 (fun ws hws => ⟨_, hws, ?_⟩)
    clear RET G hT hnm
    have e : (σ.1 11 0 - 1).toInt64.toInt = (m : Int) - 1 := by rw [i64_toInt, hm]; exact nI_m1 (by omega)
    exact Or.inl ⟨rfl, rfl, (in_rg (by decide) e).mp h10_h⟩
  · refine RET _ _ _ _ _ _ (by first | rfl | assumption) (Nat.le_of_ble_eq_true rfl) (Nat.le_of_ble_eq_true rfl) dX0_isOne_13 (fun ws hws => ⟨_, hws, ?_⟩)
    clear RET G hT hnm
    have e : (σ.1 11 0 - 1).toInt64.toInt = (m : Int) - 1 := by rw [i64_toInt, hm]; exact nI_m1 (by omega)
    exact Or.inr ⟨rfl, rfl, fun q => h10_h ((in_rg (by decide) e).mpr q)⟩
abbrev rmX0_isThere : Room := { frames := 2, cells := 0, slots := 0, locals := 46 }
set_option maxHeartbeats 1000000 in
theorem kX0_isThere {KT : (Nat → Prop) → State → Heap → Prop} (hK : KTok KT) (l : Launch) (dC : Nat → ClassId) (dI : Nat → Nat → Nat) (ct ad : Nat → Nat) (F : List (Nat × va_E)) (σ : MS) (k : Nat) (x : Int32) (hO : Ok (co σ)) (hk : k ≤ 9) : MC KT (dC, dI) vwCl (tysF ct) l yX0_isThere cX0_isThere 3 (some .boolean) rmX0_isThere [.ref (ad 0), .int (nI k), .int x] (RX ct ad F σ) (QI_ (dC, dI) vwCl (RX ct ad F) (fun (r : Int32) (σ' : MS) => (1 = r ∧ σ = σ' ∧ s_isOf (co σ) k x) ∨ (0 = r ∧ σ = σ' ∧ ¬ s_isOf (co σ) k x))) := by
  refine MC.ofI (own := RX0) pl_X0 rfl (Nat.le_of_ble_eq_true rfl) ?_
  intro pp ee ss mm aa bb hh cc AA QQ G hT hnm RET
  refine v_loc (L' := [(0, .ref (ad 0)), (1, .int (nI k)), (2, .int x)]) rfl ?_
  obtain ⟨hm5, hm⟩ := many5 hO.1
  have hm : σ.1 11 0 = nI (s_many (co σ)) := hm
  refine v_iload_n G 1 dX0_isThere_0 rfl ?_
  refine v_iconst (v := 2) G dX0_isThere_1 rfl ?_
  refine v_icmp_eq (tgt := 28) G dX0_isThere_2 (by decide) (fun h2 => ?_) (fun h2 => ?_)
  · have n2 := (cmp_eq (x := nI k) (y := 2) (a := k) (b := 2) rfl (ix_lit 2 rfl) (by omega) (by omega)).mp h2
    refine v_iconst (v := 1) G dX0_isThere_28 rfl ?_
    refine v_goto (tgt := 33) G dX0_isThere_29 (by decide) ?_
    refine RET _ _ _ _ _ _ (by first | rfl | assumption) (Nat.le_of_ble_eq_true rfl) (Nat.le_of_ble_eq_true rfl) dX0_isThere_33 (fun ws hws => ⟨_, hws, ?_⟩)
    clear RET G hT hnm
    exact Or.inl ⟨rfl, rfl, by unfold s_isOf; first | (rw [if_pos (by omega)]; first | exact Or.inl n2 | exact Or.inr h11_h; done) | (rw [if_neg (by omega), if_neg (by omega)]; exact h22_h)⟩
  · have n2 := (not_congr (cmp_eq (x := nI k) (y := 2) (a := k) (b := 2) rfl (ix_lit 2 rfl) (by omega) (by omega))).mp h2
    refine v_iload_n G 1 dX0_isThere_5 rfl ?_
    refine v_iconst (v := 2) G dX0_isThere_6 rfl ?_
    refine v_icmp_ge (tgt := 20) G dX0_isThere_7 (by decide) (fun h7 => ?_) (fun h7 => ?_)
    · have n7 := (cmp_le (x := 2) (y := nI k) (a := 2) (b := k) (ix_lit 2 rfl) rfl (by omega) (by omega)).mp h7
      refine v_aload_n G 0 dX0_isThere_20 rfl ?_
      refine v_iload_n G 2 dX0_isThere_21 rfl ?_
      refine w_callVi G hK hT (kX0_isOne hK l dC dI ct ad F σ (s_many (co σ)) x hm5 hm) (ck_X0_64 G.2.2.2.2.1 ⟨Nat.le_of_ble_eq_true rfl, Nat.le_of_ble_eq_true rfl⟩) x_recv (fun _ h => h) rfl [] rfl (Nat.le_of_ble_eq_true rfl) dX0_isThere_22 ⟨Nat.le_of_ble_eq_true rfl, Nat.le_of_ble_eq_true rfl⟩ (k1 := 0) (n1 := 0) rfl rfl ?_
      rintro r22 σ22 (⟨rfl, rfl, h22_h⟩ | ⟨rfl, rfl, h22_h⟩)
      · refine v_if_eq (tgt := 32) G dX0_isThere_25 (by decide) (fun h25 => absurd h25 (by decide)) (fun h25 => ?_)
        refine v_iconst (v := 1) G dX0_isThere_28 rfl ?_
        refine v_goto (tgt := 33) G dX0_isThere_29 (by decide) ?_
        refine RET _ _ _ _ _ _ (by first | rfl | assumption) (Nat.le_of_ble_eq_true rfl) (Nat.le_of_ble_eq_true rfl) dX0_isThere_33 (fun ws hws => ⟨_, hws, ?_⟩)
        clear RET G hT hnm
        exact Or.inl ⟨rfl, rfl, by unfold s_isOf; first | (rw [if_pos (by omega)]; first | exact Or.inl n2 | exact Or.inr h11_h; done) | (rw [if_neg (by omega), if_neg (by omega)]; exact h22_h)⟩
      · refine v_if_eq (tgt := 32) G dX0_isThere_25 (by decide) (fun h25 => ?_) (fun h25 => absurd h25 (by decide))
        refine v_iconst (v := 0) G dX0_isThere_32 rfl ?_
        refine RET _ _ _ _ _ _ (by first | rfl | assumption) (Nat.le_of_ble_eq_true rfl) (Nat.le_of_ble_eq_true rfl) dX0_isThere_33 (fun ws hws => ⟨_, hws, ?_⟩)
        clear RET G hT hnm
        exact Or.inr ⟨rfl, rfl, by unfold s_isOf; first | (rw [if_pos (by omega)]; exact fun q => q.elim (by omega) h11_h) | (rw [if_neg (by omega), if_neg (by omega)]; exact h22_h)⟩
    · have n7 := (not_congr (cmp_le (x := 2) (y := nI k) (a := 2) (b := k) (ix_lit 2 rfl) rfl (by omega) (by omega))).mp h7
      refine v_iload_n G 2 dX0_isThere_10 rfl ?_
      refine w_callSi G hK hT (kX0_isRoad hK l dC dI ct ad F σ x) (ck_X0_61 G.2.2.2.2.1 ⟨Nat.le_of_ble_eq_true rfl, Nat.le_of_ble_eq_true rfl⟩) (fun _ h => h) rfl [] rfl (Nat.le_of_ble_eq_true rfl) dX0_isThere_11 ⟨Nat.le_of_ble_eq_true rfl, Nat.le_of_ble_eq_true rfl⟩ (k1 := 0) (n1 := 0) rfl rfl ?_
      rintro r11 σ11 (⟨rfl, rfl, h11_h⟩ | ⟨rfl, rfl, h11_h⟩)
      · refine v_if_eq (tgt := 32) G dX0_isThere_14 (by decide) (fun h14 => absurd h14 (by decide)) (fun h14 => ?_)
        refine v_goto (tgt := 28) G dX0_isThere_17 (by decide) ?_
        refine v_iconst (v := 1) G dX0_isThere_28 rfl ?_
        refine v_goto (tgt := 33) G dX0_isThere_29 (by decide) ?_
        refine RET _ _ _ _ _ _ (by first | rfl | assumption) (Nat.le_of_ble_eq_true rfl) (Nat.le_of_ble_eq_true rfl) dX0_isThere_33 (fun ws hws => ⟨_, hws, ?_⟩)
        clear RET G hT hnm
        exact Or.inl ⟨rfl, rfl, by unfold s_isOf; first | (rw [if_pos (by omega)]; first | exact Or.inl n2 | exact Or.inr h11_h; done) | (rw [if_neg (by omega), if_neg (by omega)]; exact h22_h)⟩
      · refine v_if_eq (tgt := 32) G dX0_isThere_14 (by decide) (fun h14 => ?_) (fun h14 => absurd h14 (by decide))
        refine v_iconst (v := 0) G dX0_isThere_32 rfl ?_
        refine RET _ _ _ _ _ _ (by first | rfl | assumption) (Nat.le_of_ble_eq_true rfl) (Nat.le_of_ble_eq_true rfl) dX0_isThere_33 (fun ws hws => ⟨_, hws, ?_⟩)
        clear RET G hT hnm
        exact Or.inr ⟨rfl, rfl, by unfold s_isOf; first | (rw [if_pos (by omega)]; exact fun q => q.elim (by omega) h11_h) | (rw [if_neg (by omega), if_neg (by omega)]; exact h22_h)⟩
