set_option maxRecDepth 100000
abbrev sfr : List Nat := [12, 13, 14, 15, 16, 17, 18, 19, 20, 21, 22, 23, 24, 25, 26]
abbrev rmX8_isCrossing : Room := { frames := 1, cells := 0, slots := 0, locals := 25 }
set_option maxHeartbeats 4000000 in
theorem kX8_isCrossing {KT : (Nat → Prop) → State → Heap → Prop} (hK : KTok KT) (l : Launch) (dC : Nat → ClassId) (dI : Nat → Nat → Nat) (ct ad : Nat → Nat) (σ : MS) (z : Int32)  : MC KT (dC, dI) vwCl (tysF ct) l yX8_isCrossing cX8_isCrossing 1 (some .boolean) rmX8_isCrossing [.int z] (RM ct ad σ) (QI_ (dC, dI) vwCl (RM ct ad) (fun (r : Int32) (σ' : MS) => (1 = r ∧ σ = σ' ∧ rg z 0 11) ∨ (0 = r ∧ σ = σ' ∧ ¬ rg z 0 11))) := by
  refine MC.ofI (own := RX8) pl_X8 rfl (Nat.le_of_ble_eq_true rfl) ?_
  intro pp ee ss mm aa bb hh cc AA QQ G hT hnm RET
  refine v_loc (L' := [(0, .int z)]) rfl ?_
  refine v_iload_n G 0 dX8_isCrossing_0 rfl ?_
  refine v_i2l (v := z.toInt64) G dX8_isCrossing_1 rfl ?_
  refine v_lconst (v := 0) G dX8_isCrossing_2 rfl ?_
  refine v_ldc2 G q1444 dX8_isCrossing_3 ?_
  refine w_callSi G hK hT (kX8_in hK l dC dI ct ad σ z.toInt64 0 11) (ck_X8_86 G.2.2.2.2.1 ⟨Nat.le_of_ble_eq_true rfl, Nat.le_of_ble_eq_true rfl⟩) (fun _ h => h) rfl [] rfl (Nat.le_of_ble_eq_true rfl) dX8_isCrossing_6 ⟨Nat.le_of_ble_eq_true rfl, Nat.le_of_ble_eq_true rfl⟩ (k1 := 0) (n1 := 0) rfl rfl ?_
  rintro r6 σ6 (⟨rfl, rfl, h6_h⟩ | ⟨rfl, rfl, h6_h⟩)
  · have g6 := (in_rg (c := z) (lo := 0) (hi := 11) (a := 0) (z := 11) (by decide) (by decide)).mp h6_h
    refine RET _ _ _ _ _ _ (by first | rfl | assumption) (Nat.le_of_ble_eq_true rfl) (Nat.le_of_ble_eq_true rfl) dX8_isCrossing_9 (fun ws hw => ⟨_, hw, ?_⟩)
    clear RET G hT hnm
    exact Or.inl ⟨rfl, rfl, g6⟩
  · have g6 : ¬ rg z 0 11 := fun zz => h6_h ((in_rg (c := z) (lo := 0) (hi := 11) (a := 0) (z := 11) (by decide) (by decide)).mpr zz)
    refine RET _ _ _ _ _ _ (by first | rfl | assumption) (Nat.le_of_ble_eq_true rfl) (Nat.le_of_ble_eq_true rfl) dX8_isCrossing_9 (fun ws hw => ⟨_, hw, ?_⟩)
    clear RET G hT hnm
    exact Or.inr ⟨rfl, rfl, g6⟩
abbrev rmX8_isJar : Room := { frames := 1, cells := 0, slots := 0, locals := 25 }
set_option maxHeartbeats 4000000 in
theorem kX8_isJar {KT : (Nat → Prop) → State → Heap → Prop} (hK : KTok KT) (l : Launch) (dC : Nat → ClassId) (dI : Nat → Nat → Nat) (ct ad : Nat → Nat) (σ : MS) (z : Int32)  : MC KT (dC, dI) vwCl (tysF ct) l yX8_isJar cX8_isJar 1 (some .boolean) rmX8_isJar [.int z] (RM ct ad σ) (QI_ (dC, dI) vwCl (RM ct ad) (fun (r : Int32) (σ' : MS) => (1 = r ∧ σ = σ' ∧ rg z 0 23) ∨ (0 = r ∧ σ = σ' ∧ ¬ rg z 0 23))) := by
  refine MC.ofI (own := RX8) pl_X8 rfl (Nat.le_of_ble_eq_true rfl) ?_
  intro pp ee ss mm aa bb hh cc AA QQ G hT hnm RET
  refine v_loc (L' := [(0, .int z)]) rfl ?_
  refine v_iload_n G 0 dX8_isJar_0 rfl ?_
  refine v_i2l (v := z.toInt64) G dX8_isJar_1 rfl ?_
  refine v_lconst (v := 0) G dX8_isJar_2 rfl ?_
  refine v_ldc2 G q1440 dX8_isJar_3 ?_
  refine w_callSi G hK hT (kX8_in hK l dC dI ct ad σ z.toInt64 0 23) (ck_X8_86 G.2.2.2.2.1 ⟨Nat.le_of_ble_eq_true rfl, Nat.le_of_ble_eq_true rfl⟩) (fun _ h => h) rfl [] rfl (Nat.le_of_ble_eq_true rfl) dX8_isJar_6 ⟨Nat.le_of_ble_eq_true rfl, Nat.le_of_ble_eq_true rfl⟩ (k1 := 0) (n1 := 0) rfl rfl ?_
  rintro r6 σ6 (⟨rfl, rfl, h6_h⟩ | ⟨rfl, rfl, h6_h⟩)
  · have g6 := (in_rg (c := z) (lo := 0) (hi := 23) (a := 0) (z := 23) (by decide) (by decide)).mp h6_h
    refine RET _ _ _ _ _ _ (by first | rfl | assumption) (Nat.le_of_ble_eq_true rfl) (Nat.le_of_ble_eq_true rfl) dX8_isJar_9 (fun ws hw => ⟨_, hw, ?_⟩)
    clear RET G hT hnm
    exact Or.inl ⟨rfl, rfl, g6⟩
  · have g6 : ¬ rg z 0 23 := fun zz => h6_h ((in_rg (c := z) (lo := 0) (hi := 23) (a := 0) (z := 23) (by decide) (by decide)).mpr zz)
    refine RET _ _ _ _ _ _ (by first | rfl | assumption) (Nat.le_of_ble_eq_true rfl) (Nat.le_of_ble_eq_true rfl) dX8_isJar_9 (fun ws hw => ⟨_, hw, ?_⟩)
    clear RET G hT hnm
    exact Or.inr ⟨rfl, rfl, g6⟩
abbrev rmX8_isSheet : Room := { frames := 1, cells := 0, slots := 0, locals := 25 }
set_option maxHeartbeats 4000000 in
theorem kX8_isSheet {KT : (Nat → Prop) → State → Heap → Prop} (hK : KTok KT) (l : Launch) (dC : Nat → ClassId) (dI : Nat → Nat → Nat) (ct ad : Nat → Nat) (σ : MS) (z : Int32)  : MC KT (dC, dI) vwCl (tysF ct) l yX8_isSheet cX8_isSheet 1 (some .boolean) rmX8_isSheet [.int z] (RM ct ad σ) (QI_ (dC, dI) vwCl (RM ct ad) (fun (r : Int32) (σ' : MS) => (1 = r ∧ σ = σ' ∧ rg z 0 3) ∨ (0 = r ∧ σ = σ' ∧ ¬ rg z 0 3))) := by
  refine MC.ofI (own := RX8) pl_X8 rfl (Nat.le_of_ble_eq_true rfl) ?_
  intro pp ee ss mm aa bb hh cc AA QQ G hT hnm RET
  refine v_loc (L' := [(0, .int z)]) rfl ?_
  refine v_iload_n G 0 dX8_isSheet_0 rfl ?_
  refine v_i2l (v := z.toInt64) G dX8_isSheet_1 rfl ?_
  refine v_lconst (v := 0) G dX8_isSheet_2 rfl ?_
  refine v_ldc2 G q1794 dX8_isSheet_3 ?_
  refine w_callSi G hK hT (kX8_in hK l dC dI ct ad σ z.toInt64 0 3) (ck_X8_86 G.2.2.2.2.1 ⟨Nat.le_of_ble_eq_true rfl, Nat.le_of_ble_eq_true rfl⟩) (fun _ h => h) rfl [] rfl (Nat.le_of_ble_eq_true rfl) dX8_isSheet_6 ⟨Nat.le_of_ble_eq_true rfl, Nat.le_of_ble_eq_true rfl⟩ (k1 := 0) (n1 := 0) rfl rfl ?_
  rintro r6 σ6 (⟨rfl, rfl, h6_h⟩ | ⟨rfl, rfl, h6_h⟩)
  · have g6 := (in_rg (c := z) (lo := 0) (hi := 3) (a := 0) (z := 3) (by decide) (by decide)).mp h6_h
    refine RET _ _ _ _ _ _ (by first | rfl | assumption) (Nat.le_of_ble_eq_true rfl) (Nat.le_of_ble_eq_true rfl) dX8_isSheet_9 (fun ws hw => ⟨_, hw, ?_⟩)
    clear RET G hT hnm
    exact Or.inl ⟨rfl, rfl, g6⟩
  · have g6 : ¬ rg z 0 3 := fun zz => h6_h ((in_rg (c := z) (lo := 0) (hi := 3) (a := 0) (z := 3) (by decide) (by decide)).mpr zz)
    refine RET _ _ _ _ _ _ (by first | rfl | assumption) (Nat.le_of_ble_eq_true rfl) (Nat.le_of_ble_eq_true rfl) dX8_isSheet_9 (fun ws hw => ⟨_, hw, ?_⟩)
    clear RET G hT hnm
    exact Or.inr ⟨rfl, rfl, g6⟩
abbrev rmX8_isOne : Room := { frames := 1, cells := 0, slots := 0, locals := 25 }
set_option maxHeartbeats 4000000 in
theorem kX8_isOne {KT : (Nat → Prop) → State → Heap → Prop} (hK : KTok KT) (l : Launch) (dC : Nat → ClassId) (dI : Nat → Nat → Nat) (ct ad : Nat → Nat) (σ : MS) (m : Nat) (z : Int32) (hm5 : m ≤ 5) (hm : σ.1 11 0 = nI m) : MC KT (dC, dI) vwCl (tysF ct) l yX8_isOne cX8_isOne 2 (some .boolean) rmX8_isOne [.ref (ad 43), .int z] (RM ct ad σ) (QI_ (dC, dI) vwCl (RM ct ad) (fun (r : Int32) (σ' : MS) => (1 = r ∧ σ = σ' ∧ rg z 0 ((m : Int) - 1)) ∨ (0 = r ∧ σ = σ' ∧ ¬ rg z 0 ((m : Int) - 1)))) := by
  refine MC.ofI (own := RX8) pl_X8 rfl (Nat.le_of_ble_eq_true rfl) ?_
  intro pp ee ss mm aa bb hh cc AA QQ G hT hnm RET
  refine v_loc (L' := [(0, .ref (ad 43)), (1, .int z)]) rfl ?_
  refine v_iload_n G 1 dX8_isOne_0 rfl ?_
  refine v_i2l (v := z.toInt64) G dX8_isOne_1 rfl ?_
  refine v_lconst (v := 0) G dX8_isOne_2 rfl ?_
  refine v_aload_n G 0 dX8_isOne_3 rfl ?_
  refine m_get (v := .int (σ.1 11 0)) G 11 (by decide) rfl q1305 rfl dX8_isOne_4 ?_
  refine v_iconst (v := 1) G dX8_isOne_7 rfl ?_
  refine v_isub G dX8_isOne_8 ?_
  refine v_i2l (v := ((σ.1 11 0) - 1).toInt64) G dX8_isOne_9 rfl ?_
  refine w_callSi G hK hT (kX8_in hK l dC dI ct ad σ z.toInt64 0 (((σ.1 11 0) - 1).toInt64)) (ck_X8_86 G.2.2.2.2.1 ⟨Nat.le_of_ble_eq_true rfl, Nat.le_of_ble_eq_true rfl⟩) (fun _ h => h) rfl [] rfl (Nat.le_of_ble_eq_true rfl) dX8_isOne_10 ⟨Nat.le_of_ble_eq_true rfl, Nat.le_of_ble_eq_true rfl⟩ (k1 := 0) (n1 := 0) rfl rfl ?_
  rintro r10 σ10 (⟨rfl, rfl, h10_h⟩ | ⟨rfl, rfl, h10_h⟩)
  · refine RET _ _ _ _ _ _ (by first | rfl | assumption) (Nat.le_of_ble_eq_true rfl) (Nat.le_of_ble_eq_true rfl) dX8_isOne_13 (fun ws hw => ⟨_, hw, ?_⟩)
    clear RET G hT hnm
    have e : (σ.1 11 0 - 1).toInt64.toInt = (m : Int) - 1 := by rw [i64_toInt, hm]; exact nI_m1 (by omega)
    exact Or.inl ⟨rfl, rfl, (in_rg (by decide) e).mp h10_h⟩
  · refine RET _ _ _ _ _ _ (by first | rfl | assumption) (Nat.le_of_ble_eq_true rfl) (Nat.le_of_ble_eq_true rfl) dX8_isOne_13 (fun ws hw => ⟨_, hw, ?_⟩)
    clear RET G hT hnm
    have e : (σ.1 11 0 - 1).toInt64.toInt = (m : Int) - 1 := by rw [i64_toInt, hm]; exact nI_m1 (by omega)
    exact Or.inr ⟨rfl, rfl, fun q => h10_h ((in_rg (by decide) e).mpr q)⟩
abbrev rmX8_atOf : Room := { frames := 0, cells := 0, slots := 0, locals := 0 }
set_option maxHeartbeats 4000000 in
theorem kX8_atOf {KT : (Nat → Prop) → State → Heap → Prop} (hK : KTok KT) (l : Launch) (dC : Nat → ClassId) (dI : Nat → Nat → Nat) (ct ad : Nat → Nat) (σ : MS) (p : Nat) (hp : p < 5) : MC KT (dC, dI) vwCl (tysF ct) l yX8_atOf cX8_atOf 2 (some .int) rmX8_atOf [.ref (ad 43), .int (nI p)] (RM ct ad σ) (QI_ (dC, dI) vwCl (RM ct ad) (fun (r : Int32) (σ' : MS) => (σ.1 10 (5 * p + 1)) = r ∧ σ = σ')) := by
  refine MC.ofI (own := RX8) pl_X8 rfl (Nat.le_of_ble_eq_true rfl) ?_
  intro pp ee ss mm aa bb hh cc AA QQ G hT hnm RET
  refine v_loc (L' := [(0, .ref (ad 43)), (1, .int (nI p))]) rfl ?_
  refine v_aload_n G 0 dX8_atOf_0 rfl ?_
  refine m_get (v := .ref (ad 10)) G 10 (by decide) rfl q1304 rfl dX8_atOf_1 ?_
  refine v_iconst (v := 5) G dX8_atOf_4 rfl ?_
  refine v_iload_n G 1 dX8_atOf_5 rfl ?_
  refine v_imul G dX8_atOf_6 ?_
  refine v_iconst (v := 1) G dX8_atOf_7 rfl ?_
  refine v_iadd G dX8_atOf_8 ?_
  refine m_iald G 10 rfl ((5 * p) + 1) (ix_add (ix_mul (ix_lit 5 rfl) rfl) (ix_lit 1 rfl)) (show (5 * p) + 1 < 25 by first | omega | assumption | decide) dX8_atOf_9 ?_
  refine RET _ _ _ _ _ _ rfl (Nat.le_of_ble_eq_true rfl) (Nat.le_of_ble_eq_true rfl) dX8_atOf_10 (fun ws hw => ⟨_, hw, ?_⟩)
  clear RET G hT hnm
  exact ⟨rfl, rfl⟩
abbrev rmX8_jarsAll : Room := { frames := 0, cells := 0, slots := 0, locals := 0 }
set_option maxHeartbeats 4000000 in
theorem kX8_jarsAll {KT : (Nat → Prop) → State → Heap → Prop} (hK : KTok KT) (l : Launch) (dC : Nat → ClassId) (dI : Nat → Nat → Nat) (ct ad : Nat → Nat) (σ : MS)   : MC KT (dC, dI) vwCl (tysF ct) l yX8_jarsAll cX8_jarsAll 3 (some .int) rmX8_jarsAll [.ref (ad 43)] (RM ct ad σ) (QI_ (dC, dI) vwCl (RM ct ad) (fun (r : Int32) (σ' : MS) => (s_all (co σ) 24) = r ∧ σ = σ')) := by
  refine MC.ofI (own := RX8) pl_X8 rfl (Nat.le_of_ble_eq_true rfl) ?_
  intro pp ee ss mm aa bb hh cc AA QQ G hT hnm RET
  refine v_loc (L' := [(0, .ref (ad 43))]) rfl ?_
  refine v_iconst (v := 0) G dX8_jarsAll_0 rfl ?_
  refine v_istore_n (L' := [(1, .int 0), (0, .ref (ad 43))]) G dX8_jarsAll_1 (by decide) rfl ?_
  refine v_iconst (v := 0) G dX8_jarsAll_2 rfl ?_
  refine v_istore_n (L' := [(2, .int 0), (1, .int 0), (0, .ref (ad 43))]) G dX8_jarsAll_3 (by decide) rfl ?_
  have loop4 : ∀ (dd : Nat) (q : Nat), (q ≤ 24) → 24 - q < dd → V_ pp l ee rmX8_jarsAll ss mm aa bb hh cc 3 (dC, dI) vwCl AA QQ 0 0 (RM ct ad σ) 4 [(2, .int (nI q)), (1, .int (s_all (co σ) q)), (0, .ref (ad 43))] [] := by
    intro dd
    induction dd with
    | zero => intro q hq hdd; exact absurd hdd (Nat.not_lt_zero _)
    | succ dd ih4 =>
      intro q hq hdd
      refine v_iload_n G 0 dX8_jarsAll_4 rfl ?_
      refine v_bipush (v := 24) G dX8_jarsAll_5 rfl ?_
      refine v_icmp_ge (tgt := 25) G dX8_jarsAll_7 (by decide) (fun h7 => ?_) (fun h7 => ?_)
      · have n7 := (cmp_le (x := 24) (y := nI q) (a := 24) (b := q) (ix_lit 24 rfl) rfl (by omega) (by omega)).mp h7
        refine v_iload_n G 1 dX8_jarsAll_25 rfl ?_
        refine RET _ _ _ _ _ _ rfl (Nat.le_of_ble_eq_true rfl) (Nat.le_of_ble_eq_true rfl) dX8_jarsAll_26 (fun ws hw => ⟨_, hw, ?_⟩)
        clear RET G hT hnm
        exact ⟨by rw [show q = 24 by omega], rfl⟩
      · have n7 := (not_congr (cmp_le (x := 24) (y := nI q) (a := 24) (b := q) (ix_lit 24 rfl) rfl (by omega) (by omega))).mp h7
        refine v_iload_n G 1 dX8_jarsAll_10 rfl ?_
        refine v_aload_n G 2 dX8_jarsAll_11 rfl ?_
        refine m_get (v := .ref (ad 9)) G 9 (by decide) rfl q1303 rfl dX8_jarsAll_12 ?_
        refine v_iload_n G 0 dX8_jarsAll_15 rfl ?_
        refine m_iald G 9 rfl (q) rfl (show q < 24 by first | omega | assumption | decide) dX8_jarsAll_16 ?_
        refine v_iadd G dX8_jarsAll_17 ?_
        refine v_istore_n (L' := [(1, .int ((s_all (co σ) q) + (σ.1 9 q))), (2, .int (nI q)), (0, .ref (ad 43))]) G dX8_jarsAll_18 (by decide) rfl ?_
        refine v_iinc (v := nI (q + 1)) (L' := [(2, .int (nI (q + 1))), (1, .int ((s_all (co σ) q) + (σ.1 9 q))), (0, .ref (ad 43))]) G 1 dX8_jarsAll_19 rfl (ix_add rfl (ix_lit 1 rfl)) (by decide) rfl ?_
        refine v_goto (tgt := 4) G dX8_jarsAll_22 (by decide) ?_
        refine V_.sub (L' := [(2, .int (nI (q + 1))), (1, .int ((s_all (co σ) q) + (σ.1 9 q))), (0, .ref (ad 43))]) ?_ [0, 1, 2] rfl
        refine v_loc (L' := [(2, .int (nI (q + 1))), (1, .int (s_all (co σ) (q + 1))), (0, .ref (ad 43))]) (rfl) ?_
        exact ih4  (q + 1) (by first | assumption | omega) (by omega)
  refine V_.sub (L' := [(2, .int 0), (1, .int 0), (0, .ref (ad 43))]) ?_ [0, 1, 2] rfl
  refine v_loc (L' := [(2, .int (nI 0)), (1, .int (s_all (co σ) 0)), (0, .ref (ad 43))]) (rfl) ?_
  exact loop4 _ 0 (by first | assumption | omega) (Nat.lt_succ_self _)
theorem nI_nm1 {j : Nat} (hj : j < 2 ^ 30) : ¬ nI j = -1 := fun h => by
  have := congrArg Int32.toInt h
  rw [nI_toInt (by omega)] at this
  have h2 : (-1 : Int32).toInt = -1 := by decide
  omega
abbrev rmX8_says : Room := { frames := 42, cells := 0, slots := 0, locals := 930 }
set_option maxHeartbeats 4000000 in
theorem kX8_says {KT : (Nat → Prop) → State → Heap → Prop} (hK : KTok KT) (l : Launch) (dC : Nat → ClassId) (dI : Nat → Nat → Nat) (ct ad : Nat → Nat) (σ : MS) (w : Nat) (p : Nat) (z : Int32) (jv : Int32) (hO : Ok (co σ)) (hw : w ≤ 2) (hp : p < 5) (hz : (z = -1 ∧ jv = s_jar2 (co σ) p) ∨ (∃ j, j < 24 ∧ z = nI j ∧ jv = co σ 9 j)) : MC KT (dC, dI) vwCl (tysF ct) l yX8_says cX8_says 5 (some .int) rmX8_says [.ref (ad 43), .int (nI w), .int (nI p), .int z] (RM ct ad σ) (QI_ (dC, dI) vwCl (RM ct ad) (fun (r : Int32) (σ' : MS) => (s_says (co σ) w p jv) = r ∧ ag sfr σ σ')) := by
  refine MC.ofI (own := RX8) pl_X8 rfl (Nat.le_of_ble_eq_true rfl) ?_
  intro pp ee ss mm aa bb hh cc AA QQ G hT hnm RET
  refine v_loc (L' := [(0, .ref (ad 43)), (1, .int (nI w)), (2, .int (nI p)), (3, .int z)]) rfl ?_
  obtain ⟨⟨vn, hvn, evn⟩, ⟨c, hc, ec⟩, hmood, ⟨ve, hve, eve⟩, vk, hvk, evk⟩ := hO.1.2.1 p hp
  have evn : σ.1 10 (5 * p) = nI vn := evn
  have ec : σ.1 10 (5 * p + 1) = nI c := ec
  have eve : σ.1 10 (5 * p + 3) = nI ve := eve
  have evk : σ.1 10 (5 * p + 4) = nI vk := evk
  have esc : s_c (co σ) p = c := by rw [s_c, cq10, ec]; exact nI_clamp (by omega)
  obtain ⟨tr, nr, htr, hnr, etr, hnt, enr, hnn, hbr, t0, ht0⟩ := ok_rule hO
  have etr : σ.1 4 0 = nI tr := etr
  have enr : σ.1 2 tr = nI nr := enr
  refine v_aload_n G 0 dX8_says_0 rfl ?_
  refine v_iload_n G 2 dX8_says_1 rfl ?_
  refine w_callVi G hK hT (kX8_atOf hK l dC dI ct ad σ p (by first | assumption | omega)) (ck_X8_351 G.2.2.2.2.1 ⟨Nat.le_of_ble_eq_true rfl, Nat.le_of_ble_eq_true rfl⟩) m_recv (fun _ h => h) rfl [] rfl (Nat.le_of_ble_eq_true rfl) dX8_says_2 ⟨Nat.le_of_ble_eq_true rfl, Nat.le_of_ble_eq_true rfl⟩ (k1 := 0) (n1 := 0) rfl rfl ?_
  rintro r2 σ2 ⟨rfl, rfl⟩
  refine v_istore (L' := [(4, .int (σ.1 10 (5 * p + 1))), (0, .ref (ad 43)), (1, .int (nI w)), (2, .int (nI p)), (3, .int z)]) G dX8_says_5 (by decide) rfl ?_
  refine v_aload_n G 1 dX8_says_7 rfl ?_
  refine v_iload G 0 dX8_says_8 rfl ?_
  refine m_putI G 12 (by decide) q1306 rfl rfl rfl dX8_says_10 ?_
  refine v_aload_n G 1 dX8_says_13 rfl ?_
  refine v_iload_n G 4 dX8_says_14 rfl ?_
  refine v_iconst (v := (-1)) G dX8_says_15 rfl ?_
  refine v_icmp_ne (tgt := 43) G dX8_says_16 (by decide) (fun h16 => ?_) (fun h16 => ?_)
  · obtain ⟨j, hj, ez, hjv⟩ : ∃ j, j < 24 ∧ z = nI j ∧ jv = co σ 9 j := by rcases hz with ⟨h1, h2⟩ | h; exact absurd h1 h16; exact h
    have hjv : σ.1 9 j = jv := hjv.symm
    refine v_aload_n G 1 dX8_says_43 rfl ?_
    refine m_get (v := .ref (ad 9)) G 9 (by decide) rfl q1303 rfl dX8_says_44 ?_
    refine v_iload_n G 4 dX8_says_47 rfl ?_
    refine m_iald G 9 rfl (j) ez (show j < 24 by first | omega | assumption | decide) dX8_says_48 ?_
    refine v_topr (congrArg Value.int (show (mset σ 12 0 (σ.1 10 (5 * p + 1))).1 9 j = σ.1 9 j from rfl)) ?_
    refine m_putI G 13 (by decide) q1307 rfl rfl rfl dX8_says_49 ?_
    refine v_aload_n G 1 dX8_says_52 rfl ?_
    refine v_aload_n G 1 dX8_says_53 rfl ?_
    refine m_get (v := .ref (ad 10)) G 10 (by decide) rfl q1304 rfl dX8_says_54 ?_
    refine v_iconst (v := 5) G dX8_says_57 rfl ?_
    refine v_iload_n G 3 dX8_says_58 rfl ?_
    refine v_imul G dX8_says_59 ?_
    refine m_iald G 10 rfl (5 * p) (ix_mul (ix_lit 5 rfl) rfl) (show 5 * p < 25 by first | omega | assumption | decide) dX8_says_60 ?_
    refine v_topr (congrArg Value.int (show (mset (mset σ 12 0 (σ.1 10 (5 * p + 1))) 13 0 (σ.1 9 j)).1 10 (5 * p) = σ.1 10 (5 * p) from rfl)) ?_
    refine m_putI G 14 (by decide) q1308 rfl rfl rfl dX8_says_61 ?_
    refine v_aload_n G 1 dX8_says_64 rfl ?_
    refine v_aload_n G 1 dX8_says_65 rfl ?_
    refine m_get (v := .int (σ.1 7 0)) G 7 (by decide) rfl q1301 rfl dX8_says_66 ?_
    refine m_putI G 15 (by decide) q1309 rfl rfl rfl dX8_says_69 ?_
    refine v_aload_n G 1 dX8_says_72 rfl ?_
    refine v_aload_n G 1 dX8_says_73 rfl ?_
    refine m_get (v := .ref (ad 10)) G 10 (by decide) rfl q1304 rfl dX8_says_74 ?_
    refine v_iconst (v := 5) G dX8_says_77 rfl ?_
    refine v_iload_n G 3 dX8_says_78 rfl ?_
    refine v_imul G dX8_says_79 ?_
    refine v_iconst (v := 2) G dX8_says_80 rfl ?_
    refine v_iadd G dX8_says_81 ?_
    refine m_iald G 10 rfl ((5 * p) + 2) (ix_add (ix_mul (ix_lit 5 rfl) rfl) (ix_lit 2 rfl)) (show (5 * p) + 2 < 25 by first | omega | assumption | decide) dX8_says_82 ?_
    refine v_topr (congrArg Value.int (show (mset (mset (mset (mset σ 12 0 (σ.1 10 (5 * p + 1))) 13 0 (σ.1 9 j)) 14 0 (σ.1 10 (5 * p))) 15 0 (σ.1 7 0)).1 10 ((5 * p) + 2) = σ.1 10 ((5 * p) + 2) from rfl)) ?_
    refine m_putI G 16 (by decide) q1310 rfl rfl rfl dX8_says_83 ?_
    refine v_aload_n G 1 dX8_says_86 rfl ?_
    refine v_aload_n G 1 dX8_says_87 rfl ?_
    refine m_get (v := .ref (ad 10)) G 10 (by decide) rfl q1304 rfl dX8_says_88 ?_
    refine v_iconst (v := 5) G dX8_says_91 rfl ?_
    refine v_iload_n G 3 dX8_says_92 rfl ?_
    refine v_imul G dX8_says_93 ?_
    refine v_iconst (v := 3) G dX8_says_94 rfl ?_
    refine v_iadd G dX8_says_95 ?_
    refine m_iald G 10 rfl ((5 * p) + 3) (ix_add (ix_mul (ix_lit 5 rfl) rfl) (ix_lit 3 rfl)) (show (5 * p) + 3 < 25 by first | omega | assumption | decide) dX8_says_96 ?_
    refine v_topr (congrArg Value.int (show (mset (mset (mset (mset (mset σ 12 0 (σ.1 10 (5 * p + 1))) 13 0 (σ.1 9 j)) 14 0 (σ.1 10 (5 * p))) 15 0 (σ.1 7 0)) 16 0 (σ.1 10 ((5 * p) + 2))).1 10 ((5 * p) + 3) = σ.1 10 ((5 * p) + 3) from rfl)) ?_
    refine m_putI G 17 (by decide) q1311 rfl rfl rfl dX8_says_97 ?_
    refine v_aload_n G 1 dX8_says_100 rfl ?_
    refine v_aload_n G 1 dX8_says_101 rfl ?_
    refine m_get (v := .int (σ.1 4 0)) G 4 (by decide) rfl q1298 rfl dX8_says_102 ?_
    refine v_iload_n G 2 dX8_says_105 rfl ?_
    refine v_stk (st' := [.int (nI w), .int (nI tr), .ref (ad 43)]) (by first | rfl | (have e0 : (σ.1 4 0) = nI tr := etr ; simp only [e0])) ?_
    refine w_callVi G hK hT (kX8_read hK l dC dI ct ad (mset (mset (mset (mset (mset (mset σ 12 0 (σ.1 10 (5 * p + 1))) 13 0 (σ.1 9 j)) 14 0 (σ.1 10 (5 * p))) 15 0 (σ.1 7 0)) 16 0 (σ.1 10 ((5 * p) + 2))) 17 0 (σ.1 10 ((5 * p) + 3))) tr w nr htr hw (by simp [mset, upd2]; exact enr) hnr (fun i hi => by simp [mset, upd2]; exact hbr i hi)) (ck_X8_348 G.2.2.2.2.1 ⟨Nat.le_of_ble_eq_true rfl, Nat.le_of_ble_eq_true rfl⟩) m_recv (fun _ h => h) rfl [] rfl (Nat.le_of_ble_eq_true rfl) dX8_says_106 ⟨Nat.le_of_ble_eq_true rfl, Nat.le_of_ble_eq_true rfl⟩ (k1 := 0) (n1 := 0) rfl rfl ?_
    rintro r106 σ106 ⟨h106_v, h106_e, h106_a⟩
    obtain ⟨ev106, -⟩ := h106_v t0 (by simp [mset, upd2]; exact ht0)
    have hA106 : ag sfr σ σ106 := ag_tr (by refine ag_tr (ag_tr (ag_tr (ag_tr (ag_tr (ag_set ?_) (ag_set ?_)) (ag_set ?_)) (ag_set ?_)) (ag_set ?_)) (ag_set ?_) <;> decide) (ag_mono h106_a (by decide))
    have es106 : r106 = s_sem (co σ) (n_ (co σ 4 0)) w (s_env (co σ) p jv) := by
      rw [ev106, hnt, s_sem, hnn]
      refine congrArg (p_sem (fun i => co σ 1 (160 * tr + i)) nr w) (funext fun i => ?_)
      unfold envS s_env
      have hi : i = 0 ∨ i = 1 ∨ i = 2 ∨ i = 3 ∨ i = 4 ∨ i = 5 ∨ 6 ≤ i := by omega
      rcases hi with rfl | rfl | rfl | rfl | rfl | rfl | hi
      · simp [mset, upd2, cq10]
      · simp [mset, upd2, hjv]
      · simp [mset, upd2, cq10]
      · simp [mset, upd2, cq7]
      · simp [mset, upd2, cq10]
      · simp [mset, upd2, cq10]
      · rw [if_neg (by omega), if_neg (by omega), if_neg (by omega), if_neg (by omega), if_neg (by omega), if_neg (by omega), if_neg (by omega)]
    refine v_iload_n G 2 dX8_says_109 rfl ?_
    refine v_iconst (v := 1) G dX8_says_110 rfl ?_
    refine v_icmp_ne (tgt := 118) G dX8_says_111 (by decide) (fun h111 => ?_) (fun h111 => ?_)
    · have n111 := (not_congr (cmp_eq (x := nI w) (y := 1) (a := w) (b := 1) rfl (ix_lit 1 rfl) (by omega) (by omega))).mp h111
      refine v_bipush (v := (-99)) G dX8_says_118 rfl ?_
      refine v_bipush (v := 99) G dX8_says_120 rfl ?_
      refine w_callSi G hK hT (kX8_within hK l dC dI ct ad σ106 r106 (-99) 99) (ck_X8_354 G.2.2.2.2.1 ⟨Nat.le_of_ble_eq_true rfl, Nat.le_of_ble_eq_true rfl⟩) (fun _ h => h) rfl [] rfl (Nat.le_of_ble_eq_true rfl) dX8_says_122 ⟨Nat.le_of_ble_eq_true rfl, Nat.le_of_ble_eq_true rfl⟩ (k1 := 0) (n1 := 0) rfl rfl ?_
      rintro r122 σ122 ⟨rfl, rfl⟩
      refine RET _ _ _ _ _ _ rfl (Nat.le_of_ble_eq_true rfl) (Nat.le_of_ble_eq_true rfl) dX8_says_125 (fun ws hw => ⟨_, hw, ?_⟩)
      clear RET G hT hnm
      refine ⟨?_, hA106⟩
      rw [es106, s_says]
      have hw3 : w = 0 ∨ w = 1 ∨ w = 2 := by omega
      first
        | (rw [if_pos n111])
        | (rw [if_neg n111])
    · have n111 := (cmp_eq (x := nI w) (y := 1) (a := w) (b := 1) rfl (ix_lit 1 rfl) (by omega) (by omega)).mp h111
      refine v_iconst (v := 0) G dX8_says_114 rfl ?_
      refine v_goto (tgt := 120) G dX8_says_115 (by decide) ?_
      refine v_bipush (v := 99) G dX8_says_120 rfl ?_
      refine w_callSi G hK hT (kX8_within hK l dC dI ct ad σ106 r106 0 99) (ck_X8_354 G.2.2.2.2.1 ⟨Nat.le_of_ble_eq_true rfl, Nat.le_of_ble_eq_true rfl⟩) (fun _ h => h) rfl [] rfl (Nat.le_of_ble_eq_true rfl) dX8_says_122 ⟨Nat.le_of_ble_eq_true rfl, Nat.le_of_ble_eq_true rfl⟩ (k1 := 0) (n1 := 0) rfl rfl ?_
      rintro r122 σ122 ⟨rfl, rfl⟩
      refine RET _ _ _ _ _ _ rfl (Nat.le_of_ble_eq_true rfl) (Nat.le_of_ble_eq_true rfl) dX8_says_125 (fun ws hw => ⟨_, hw, ?_⟩)
      clear RET G hT hnm
      refine ⟨?_, hA106⟩
      rw [es106, s_says]
      have hw3 : w = 0 ∨ w = 1 ∨ w = 2 := by omega
      first
        | (rw [if_pos n111])
        | (rw [if_neg n111])
  · have hjv : σ.1 9 (2 * c) + σ.1 9 (2 * c + 1) = jv := by rcases hz with ⟨h1, h2⟩ | ⟨j, hj, h1, h2⟩; rw [h2, s_jar2, esc, cq9, cq9]; rw [h1] at h16; exact absurd h16 (nI_nm1 (by omega))
    refine v_aload_n G 1 dX8_says_19 rfl ?_
    refine m_get (v := .ref (ad 9)) G 9 (by decide) rfl q1303 rfl dX8_says_20 ?_
    refine v_iconst (v := 2) G dX8_says_23 rfl ?_
    refine v_iload G 0 dX8_says_24 rfl ?_
    refine v_imul G dX8_says_26 ?_
    refine m_iald G 9 rfl (2 * c) (ix_mul (ix_lit 2 rfl) ec) (show 2 * c < 24 by first | omega | assumption | decide) dX8_says_27 ?_
    refine v_topr (congrArg Value.int (show (mset σ 12 0 (σ.1 10 (5 * p + 1))).1 9 (2 * c) = σ.1 9 (2 * c) from rfl)) ?_
    refine v_aload_n G 1 dX8_says_28 rfl ?_
    refine m_get (v := .ref (ad 9)) G 9 (by decide) rfl q1303 rfl dX8_says_29 ?_
    refine v_iconst (v := 2) G dX8_says_32 rfl ?_
    refine v_iload G 0 dX8_says_33 rfl ?_
    refine v_imul G dX8_says_35 ?_
    refine v_iconst (v := 1) G dX8_says_36 rfl ?_
    refine v_iadd G dX8_says_37 ?_
    refine m_iald G 9 rfl ((2 * c) + 1) (ix_add (ix_mul (ix_lit 2 rfl) ec) (ix_lit 1 rfl)) (show (2 * c) + 1 < 24 by first | omega | assumption | decide) dX8_says_38 ?_
    refine v_topr (congrArg Value.int (show (mset σ 12 0 (σ.1 10 (5 * p + 1))).1 9 ((2 * c) + 1) = σ.1 9 ((2 * c) + 1) from rfl)) ?_
    refine v_iadd G dX8_says_39 ?_
    refine v_goto (tgt := 49) G dX8_says_40 (by decide) ?_
    refine m_putI G 13 (by decide) q1307 rfl rfl rfl dX8_says_49 ?_
    refine v_aload_n G 1 dX8_says_52 rfl ?_
    refine v_aload_n G 1 dX8_says_53 rfl ?_
    refine m_get (v := .ref (ad 10)) G 10 (by decide) rfl q1304 rfl dX8_says_54 ?_
    refine v_iconst (v := 5) G dX8_says_57 rfl ?_
    refine v_iload_n G 3 dX8_says_58 rfl ?_
    refine v_imul G dX8_says_59 ?_
    refine m_iald G 10 rfl (5 * p) (ix_mul (ix_lit 5 rfl) rfl) (show 5 * p < 25 by first | omega | assumption | decide) dX8_says_60 ?_
    refine v_topr (congrArg Value.int (show (mset (mset σ 12 0 (σ.1 10 (5 * p + 1))) 13 0 ((σ.1 9 (2 * c)) + (σ.1 9 ((2 * c) + 1)))).1 10 (5 * p) = σ.1 10 (5 * p) from rfl)) ?_
    refine m_putI G 14 (by decide) q1308 rfl rfl rfl dX8_says_61 ?_
    refine v_aload_n G 1 dX8_says_64 rfl ?_
    refine v_aload_n G 1 dX8_says_65 rfl ?_
    refine m_get (v := .int (σ.1 7 0)) G 7 (by decide) rfl q1301 rfl dX8_says_66 ?_
    refine m_putI G 15 (by decide) q1309 rfl rfl rfl dX8_says_69 ?_
    refine v_aload_n G 1 dX8_says_72 rfl ?_
    refine v_aload_n G 1 dX8_says_73 rfl ?_
    refine m_get (v := .ref (ad 10)) G 10 (by decide) rfl q1304 rfl dX8_says_74 ?_
    refine v_iconst (v := 5) G dX8_says_77 rfl ?_
    refine v_iload_n G 3 dX8_says_78 rfl ?_
    refine v_imul G dX8_says_79 ?_
    refine v_iconst (v := 2) G dX8_says_80 rfl ?_
    refine v_iadd G dX8_says_81 ?_
    refine m_iald G 10 rfl ((5 * p) + 2) (ix_add (ix_mul (ix_lit 5 rfl) rfl) (ix_lit 2 rfl)) (show (5 * p) + 2 < 25 by first | omega | assumption | decide) dX8_says_82 ?_
    refine v_topr (congrArg Value.int (show (mset (mset (mset (mset σ 12 0 (σ.1 10 (5 * p + 1))) 13 0 ((σ.1 9 (2 * c)) + (σ.1 9 ((2 * c) + 1)))) 14 0 (σ.1 10 (5 * p))) 15 0 (σ.1 7 0)).1 10 ((5 * p) + 2) = σ.1 10 ((5 * p) + 2) from rfl)) ?_
    refine m_putI G 16 (by decide) q1310 rfl rfl rfl dX8_says_83 ?_
    refine v_aload_n G 1 dX8_says_86 rfl ?_
    refine v_aload_n G 1 dX8_says_87 rfl ?_
    refine m_get (v := .ref (ad 10)) G 10 (by decide) rfl q1304 rfl dX8_says_88 ?_
    refine v_iconst (v := 5) G dX8_says_91 rfl ?_
    refine v_iload_n G 3 dX8_says_92 rfl ?_
    refine v_imul G dX8_says_93 ?_
    refine v_iconst (v := 3) G dX8_says_94 rfl ?_
    refine v_iadd G dX8_says_95 ?_
    refine m_iald G 10 rfl ((5 * p) + 3) (ix_add (ix_mul (ix_lit 5 rfl) rfl) (ix_lit 3 rfl)) (show (5 * p) + 3 < 25 by first | omega | assumption | decide) dX8_says_96 ?_
    refine v_topr (congrArg Value.int (show (mset (mset (mset (mset (mset σ 12 0 (σ.1 10 (5 * p + 1))) 13 0 ((σ.1 9 (2 * c)) + (σ.1 9 ((2 * c) + 1)))) 14 0 (σ.1 10 (5 * p))) 15 0 (σ.1 7 0)) 16 0 (σ.1 10 ((5 * p) + 2))).1 10 ((5 * p) + 3) = σ.1 10 ((5 * p) + 3) from rfl)) ?_
    refine m_putI G 17 (by decide) q1311 rfl rfl rfl dX8_says_97 ?_
    refine v_aload_n G 1 dX8_says_100 rfl ?_
    refine v_aload_n G 1 dX8_says_101 rfl ?_
    refine m_get (v := .int (σ.1 4 0)) G 4 (by decide) rfl q1298 rfl dX8_says_102 ?_
    refine v_iload_n G 2 dX8_says_105 rfl ?_
    refine v_stk (st' := [.int (nI w), .int (nI tr), .ref (ad 43)]) (by first | rfl | (have e0 : (σ.1 4 0) = nI tr := etr ; simp only [e0])) ?_
    refine w_callVi G hK hT (kX8_read hK l dC dI ct ad (mset (mset (mset (mset (mset (mset σ 12 0 (σ.1 10 (5 * p + 1))) 13 0 ((σ.1 9 (2 * c)) + (σ.1 9 ((2 * c) + 1)))) 14 0 (σ.1 10 (5 * p))) 15 0 (σ.1 7 0)) 16 0 (σ.1 10 ((5 * p) + 2))) 17 0 (σ.1 10 ((5 * p) + 3))) tr w nr htr hw (by simp [mset, upd2]; exact enr) hnr (fun i hi => by simp [mset, upd2]; exact hbr i hi)) (ck_X8_348 G.2.2.2.2.1 ⟨Nat.le_of_ble_eq_true rfl, Nat.le_of_ble_eq_true rfl⟩) m_recv (fun _ h => h) rfl [] rfl (Nat.le_of_ble_eq_true rfl) dX8_says_106 ⟨Nat.le_of_ble_eq_true rfl, Nat.le_of_ble_eq_true rfl⟩ (k1 := 0) (n1 := 0) rfl rfl ?_
    rintro r106 σ106 ⟨h106_v, h106_e, h106_a⟩
    obtain ⟨ev106, -⟩ := h106_v t0 (by simp [mset, upd2]; exact ht0)
    have hA106 : ag sfr σ σ106 := ag_tr (by refine ag_tr (ag_tr (ag_tr (ag_tr (ag_tr (ag_set ?_) (ag_set ?_)) (ag_set ?_)) (ag_set ?_)) (ag_set ?_)) (ag_set ?_) <;> decide) (ag_mono h106_a (by decide))
    have es106 : r106 = s_sem (co σ) (n_ (co σ 4 0)) w (s_env (co σ) p jv) := by
      rw [ev106, hnt, s_sem, hnn]
      refine congrArg (p_sem (fun i => co σ 1 (160 * tr + i)) nr w) (funext fun i => ?_)
      unfold envS s_env
      have hi : i = 0 ∨ i = 1 ∨ i = 2 ∨ i = 3 ∨ i = 4 ∨ i = 5 ∨ 6 ≤ i := by omega
      rcases hi with rfl | rfl | rfl | rfl | rfl | rfl | hi
      · simp [mset, upd2, cq10]
      · simp [mset, upd2, hjv]
      · simp [mset, upd2, cq10]
      · simp [mset, upd2, cq7]
      · simp [mset, upd2, cq10]
      · simp [mset, upd2, cq10]
      · rw [if_neg (by omega), if_neg (by omega), if_neg (by omega), if_neg (by omega), if_neg (by omega), if_neg (by omega), if_neg (by omega)]
    refine v_iload_n G 2 dX8_says_109 rfl ?_
    refine v_iconst (v := 1) G dX8_says_110 rfl ?_
    refine v_icmp_ne (tgt := 118) G dX8_says_111 (by decide) (fun h111 => ?_) (fun h111 => ?_)
    · have n111 := (not_congr (cmp_eq (x := nI w) (y := 1) (a := w) (b := 1) rfl (ix_lit 1 rfl) (by omega) (by omega))).mp h111
      refine v_bipush (v := (-99)) G dX8_says_118 rfl ?_
      refine v_bipush (v := 99) G dX8_says_120 rfl ?_
      refine w_callSi G hK hT (kX8_within hK l dC dI ct ad σ106 r106 (-99) 99) (ck_X8_354 G.2.2.2.2.1 ⟨Nat.le_of_ble_eq_true rfl, Nat.le_of_ble_eq_true rfl⟩) (fun _ h => h) rfl [] rfl (Nat.le_of_ble_eq_true rfl) dX8_says_122 ⟨Nat.le_of_ble_eq_true rfl, Nat.le_of_ble_eq_true rfl⟩ (k1 := 0) (n1 := 0) rfl rfl ?_
      rintro r122 σ122 ⟨rfl, rfl⟩
      refine RET _ _ _ _ _ _ rfl (Nat.le_of_ble_eq_true rfl) (Nat.le_of_ble_eq_true rfl) dX8_says_125 (fun ws hw => ⟨_, hw, ?_⟩)
      clear RET G hT hnm
      refine ⟨?_, hA106⟩
      rw [es106, s_says]
      have hw3 : w = 0 ∨ w = 1 ∨ w = 2 := by omega
      first
        | (rw [if_pos n111])
        | (rw [if_neg n111])
    · have n111 := (cmp_eq (x := nI w) (y := 1) (a := w) (b := 1) rfl (ix_lit 1 rfl) (by omega) (by omega)).mp h111
      refine v_iconst (v := 0) G dX8_says_114 rfl ?_
      refine v_goto (tgt := 120) G dX8_says_115 (by decide) ?_
      refine v_bipush (v := 99) G dX8_says_120 rfl ?_
      refine w_callSi G hK hT (kX8_within hK l dC dI ct ad σ106 r106 0 99) (ck_X8_354 G.2.2.2.2.1 ⟨Nat.le_of_ble_eq_true rfl, Nat.le_of_ble_eq_true rfl⟩) (fun _ h => h) rfl [] rfl (Nat.le_of_ble_eq_true rfl) dX8_says_122 ⟨Nat.le_of_ble_eq_true rfl, Nat.le_of_ble_eq_true rfl⟩ (k1 := 0) (n1 := 0) rfl rfl ?_
      rintro r122 σ122 ⟨rfl, rfl⟩
      refine RET _ _ _ _ _ _ rfl (Nat.le_of_ble_eq_true rfl) (Nat.le_of_ble_eq_true rfl) dX8_says_125 (fun ws hw => ⟨_, hw, ?_⟩)
      clear RET G hT hnm
      refine ⟨?_, hA106⟩
      rw [es106, s_says]
      have hw3 : w = 0 ∨ w = 1 ∨ w = 2 := by omega
      first
        | (rw [if_pos n111])
        | (rw [if_neg n111])
abbrev rmX8_takesOf : Room := { frames := 43, cells := 0, slots := 0, locals := 954 }
set_option maxHeartbeats 4000000 in
theorem kX8_takesOf {KT : (Nat → Prop) → State → Heap → Prop} (hK : KTok KT) (l : Launch) (dC : Nat → ClassId) (dI : Nat → Nat → Nat) (ct ad : Nat → Nat) (σ : MS) (p : Nat) (hO : Ok (co σ)) (hp : p < 5) : MC KT (dC, dI) vwCl (tysF ct) l yX8_takesOf cX8_takesOf 6 (some .int) rmX8_takesOf [.ref (ad 43), .int (nI p)] (RM ct ad σ) (QI_ (dC, dI) vwCl (RM ct ad) (fun (r : Int32) (σ' : MS) => (s_road (co σ) p) = r ∧ ag sfr σ σ')) := by
  refine MC.ofI (own := RX8) pl_X8 rfl (Nat.le_of_ble_eq_true rfl) ?_
  intro pp ee ss mm aa bb hh cc AA QQ G hT hnm RET
  refine v_loc (L' := [(0, .ref (ad 43)), (1, .int (nI p))]) rfl ?_
  obtain ⟨⟨vn, hvn, evn⟩, ⟨c, hc, ec⟩, hmood, ⟨ve, hve, eve⟩, vk, hvk, evk⟩ := hO.1.2.1 p hp
  have evn : σ.1 10 (5 * p) = nI vn := evn
  have ec : σ.1 10 (5 * p + 1) = nI c := ec
  have eve : σ.1 10 (5 * p + 3) = nI ve := eve
  have evk : σ.1 10 (5 * p + 4) = nI vk := evk
  have esc : s_c (co σ) p = c := by rw [s_c, cq10, ec]; exact nI_clamp (by omega)
  refine v_aload_n G 0 dX8_takesOf_0 rfl ?_
  refine m_get (v := .ref (ad 10)) G 10 (by decide) rfl q1304 rfl dX8_takesOf_1 ?_
  refine v_iconst (v := 5) G dX8_takesOf_4 rfl ?_
  refine v_iload_n G 1 dX8_takesOf_5 rfl ?_
  refine v_imul G dX8_takesOf_6 ?_
  refine v_iconst (v := 4) G dX8_takesOf_7 rfl ?_
  refine v_iadd G dX8_takesOf_8 ?_
  refine m_iald G 10 rfl ((5 * p) + 4) (ix_add (ix_mul (ix_lit 5 rfl) rfl) (ix_lit 4 rfl)) (show (5 * p) + 4 < 25 by first | omega | assumption | decide) dX8_takesOf_9 ?_
  refine v_istore_n (L' := [(2, .int (σ.1 10 ((5 * p) + 4))), (0, .ref (ad 43)), (1, .int (nI p))]) G dX8_takesOf_10 (by decide) rfl ?_
  refine v_aload_n G 1 dX8_takesOf_11 rfl ?_
  refine v_iload_n G 2 dX8_takesOf_12 rfl ?_
  refine w_callVi G hK hT (kX8_atOf hK l dC dI ct ad σ p (by first | assumption | omega)) (ck_X8_351 G.2.2.2.2.1 ⟨Nat.le_of_ble_eq_true rfl, Nat.le_of_ble_eq_true rfl⟩) m_recv (fun _ h => h) rfl [] rfl (Nat.le_of_ble_eq_true rfl) dX8_takesOf_13 ⟨Nat.le_of_ble_eq_true rfl, Nat.le_of_ble_eq_true rfl⟩ (k1 := 0) (n1 := 0) rfl rfl ?_
  rintro r13 σ13 ⟨rfl, rfl⟩
  refine v_istore_n (L' := [(3, .int (σ.1 10 (5 * p + 1))), (2, .int (σ.1 10 ((5 * p) + 4))), (0, .ref (ad 43)), (1, .int (nI p))]) G dX8_takesOf_16 (by decide) rfl ?_
  refine v_iload_n G 1 dX8_takesOf_17 rfl ?_
  refine v_iconst (v := 5) G dX8_takesOf_18 rfl ?_
  refine v_icmp_ne (tgt := 33) G dX8_takesOf_19 (by decide) (fun h19 => ?_) (fun h19 => ?_)
  · have n19 := (not_congr (cmp_eq (x := σ.1 10 ((5 * p) + 4)) (y := 5) (a := vk) (b := 5) evk (ix_lit 5 rfl) (by omega) (by omega))).mp h19
    refine v_iload_n G 1 dX8_takesOf_33 rfl ?_
    refine v_iconst (v := 2) G dX8_takesOf_34 rfl ?_
    refine v_icmp_eq (tgt := 43) G dX8_takesOf_35 (by decide) (fun h35 => ?_) (fun h35 => ?_)
    · have n35 := (cmp_eq (x := σ.1 10 ((5 * p) + 4)) (y := 2) (a := vk) (b := 2) evk (ix_lit 2 rfl) (by omega) (by omega)).mp h35
      refine v_iload_n G 1 dX8_takesOf_43 rfl ?_
      refine v_iconst (v := 4) G dX8_takesOf_44 rfl ?_
      refine v_icmp_ne (tgt := 57) G dX8_takesOf_45 (by decide) (fun h45 => ?_) (fun h45 => ?_)
      · have n45 := (not_congr (cmp_eq (x := σ.1 10 ((5 * p) + 4)) (y := 4) (a := vk) (b := 4) evk (ix_lit 4 rfl) (by omega) (by omega))).mp h45
        refine v_aload_n G 2 dX8_takesOf_57 rfl ?_
        refine m_get (v := .ref (ad 9)) G 9 (by decide) rfl q1303 rfl dX8_takesOf_58 ?_
        refine v_iconst (v := 2) G dX8_takesOf_61 rfl ?_
        refine v_iload_n G 0 dX8_takesOf_62 rfl ?_
        refine v_imul G dX8_takesOf_63 ?_
        refine m_iald G 9 rfl (2 * c) (ix_mul (ix_lit 2 rfl) ec) (show 2 * c < 24 by first | omega | assumption | decide) dX8_takesOf_64 ?_
        refine v_aload_n G 2 dX8_takesOf_65 rfl ?_
        refine m_get (v := .ref (ad 9)) G 9 (by decide) rfl q1303 rfl dX8_takesOf_66 ?_
        refine v_iconst (v := 2) G dX8_takesOf_69 rfl ?_
        refine v_iload_n G 0 dX8_takesOf_70 rfl ?_
        refine v_imul G dX8_takesOf_71 ?_
        refine v_iconst (v := 1) G dX8_takesOf_72 rfl ?_
        refine v_iadd G dX8_takesOf_73 ?_
        refine m_iald G 9 rfl ((2 * c) + 1) (ix_add (ix_mul (ix_lit 2 rfl) ec) (ix_lit 1 rfl)) (show (2 * c) + 1 < 24 by first | omega | assumption | decide) dX8_takesOf_74 ?_
        refine v_icmp_gt (tgt := 82) G dX8_takesOf_75 (by decide) (fun h75 => ?_) (fun h75 => ?_)
        · refine v_iconst (v := 0) G dX8_takesOf_82 rfl ?_
          refine v_istore (L' := [(4, .int 0), (3, .int (σ.1 10 (5 * p + 1))), (2, .int (σ.1 10 ((5 * p) + 4))), (0, .ref (ad 43)), (1, .int (nI p))]) G dX8_takesOf_83 (by decide) rfl ?_
          refine v_iload G 0 dX8_takesOf_85 rfl ?_
          refine v_if_eq (tgt := 94) G dX8_takesOf_87 (by decide) (fun h87 => ?_) (fun h87 => absurd h87 (by decide))
          refine v_iconst (v := 1) G dX8_takesOf_94 rfl ?_
          refine RET _ _ _ _ _ _ rfl (Nat.le_of_ble_eq_true rfl) (Nat.le_of_ble_eq_true rfl) dX8_takesOf_95 (fun ws hw => ⟨_, hw, ?_⟩)
          clear RET G hT hnm
          refine ⟨?_, ag_rf⟩
          simp only [s_road, s_eng, s_way, cq1, cq2, cq3, cq4, cq5, cq6, cq7, cq8, cq9, cq10, cq11, esc, s_rem] at *
          grind
        · refine v_iconst (v := 1) G dX8_takesOf_78 rfl ?_
          refine v_goto (tgt := 83) G dX8_takesOf_79 (by decide) ?_
          refine v_istore (L' := [(4, .int 1), (3, .int (σ.1 10 (5 * p + 1))), (2, .int (σ.1 10 ((5 * p) + 4))), (0, .ref (ad 43)), (1, .int (nI p))]) G dX8_takesOf_83 (by decide) rfl ?_
          refine v_iload G 0 dX8_takesOf_85 rfl ?_
          refine v_if_eq (tgt := 94) G dX8_takesOf_87 (by decide) (fun h87 => absurd h87 (by decide)) (fun h87 => ?_)
          refine v_iconst (v := 0) G dX8_takesOf_90 rfl ?_
          refine v_goto (tgt := 95) G dX8_takesOf_91 (by decide) ?_
          refine RET _ _ _ _ _ _ rfl (Nat.le_of_ble_eq_true rfl) (Nat.le_of_ble_eq_true rfl) dX8_takesOf_95 (fun ws hw => ⟨_, hw, ?_⟩)
          clear RET G hT hnm
          refine ⟨?_, ag_rf⟩
          simp only [s_road, s_eng, s_way, cq1, cq2, cq3, cq4, cq5, cq6, cq7, cq8, cq9, cq10, cq11, esc, s_rem] at *
          grind
      · have n45 := (cmp_eq (x := σ.1 10 ((5 * p) + 4)) (y := 4) (a := vk) (b := 4) evk (ix_lit 4 rfl) (by omega) (by omega)).mp h45
        refine v_aload_n G 2 dX8_takesOf_48 rfl ?_
        refine m_get (v := .int (σ.1 7 0)) G 7 (by decide) rfl q1301 rfl dX8_takesOf_49 ?_
        refine v_iconst (v := 3) G dX8_takesOf_52 rfl ?_
        refine v_irem G dX8_takesOf_53 (by decide) ?_
        refine v_if_eq (tgt := 78) G dX8_takesOf_54 (by decide) (fun h54 => ?_) (fun h54 => ?_)
        · refine v_iconst (v := 1) G dX8_takesOf_78 rfl ?_
          refine v_goto (tgt := 83) G dX8_takesOf_79 (by decide) ?_
          refine v_istore (L' := [(4, .int 1), (3, .int (σ.1 10 (5 * p + 1))), (2, .int (σ.1 10 ((5 * p) + 4))), (0, .ref (ad 43)), (1, .int (nI p))]) G dX8_takesOf_83 (by decide) rfl ?_
          refine v_iload G 0 dX8_takesOf_85 rfl ?_
          refine v_if_eq (tgt := 94) G dX8_takesOf_87 (by decide) (fun h87 => absurd h87 (by decide)) (fun h87 => ?_)
          refine v_iconst (v := 0) G dX8_takesOf_90 rfl ?_
          refine v_goto (tgt := 95) G dX8_takesOf_91 (by decide) ?_
          refine RET _ _ _ _ _ _ rfl (Nat.le_of_ble_eq_true rfl) (Nat.le_of_ble_eq_true rfl) dX8_takesOf_95 (fun ws hw => ⟨_, hw, ?_⟩)
          clear RET G hT hnm
          refine ⟨?_, ag_rf⟩
          simp only [s_road, s_eng, s_way, cq1, cq2, cq3, cq4, cq5, cq6, cq7, cq8, cq9, cq10, cq11, esc, s_rem] at *
          grind
        · refine v_aload_n G 2 dX8_takesOf_57 rfl ?_
          refine m_get (v := .ref (ad 9)) G 9 (by decide) rfl q1303 rfl dX8_takesOf_58 ?_
          refine v_iconst (v := 2) G dX8_takesOf_61 rfl ?_
          refine v_iload_n G 0 dX8_takesOf_62 rfl ?_
          refine v_imul G dX8_takesOf_63 ?_
          refine m_iald G 9 rfl (2 * c) (ix_mul (ix_lit 2 rfl) ec) (show 2 * c < 24 by first | omega | assumption | decide) dX8_takesOf_64 ?_
          refine v_aload_n G 2 dX8_takesOf_65 rfl ?_
          refine m_get (v := .ref (ad 9)) G 9 (by decide) rfl q1303 rfl dX8_takesOf_66 ?_
          refine v_iconst (v := 2) G dX8_takesOf_69 rfl ?_
          refine v_iload_n G 0 dX8_takesOf_70 rfl ?_
          refine v_imul G dX8_takesOf_71 ?_
          refine v_iconst (v := 1) G dX8_takesOf_72 rfl ?_
          refine v_iadd G dX8_takesOf_73 ?_
          refine m_iald G 9 rfl ((2 * c) + 1) (ix_add (ix_mul (ix_lit 2 rfl) ec) (ix_lit 1 rfl)) (show (2 * c) + 1 < 24 by first | omega | assumption | decide) dX8_takesOf_74 ?_
          refine v_icmp_gt (tgt := 82) G dX8_takesOf_75 (by decide) (fun h75 => ?_) (fun h75 => ?_)
          · refine v_iconst (v := 0) G dX8_takesOf_82 rfl ?_
            refine v_istore (L' := [(4, .int 0), (3, .int (σ.1 10 (5 * p + 1))), (2, .int (σ.1 10 ((5 * p) + 4))), (0, .ref (ad 43)), (1, .int (nI p))]) G dX8_takesOf_83 (by decide) rfl ?_
            refine v_iload G 0 dX8_takesOf_85 rfl ?_
            refine v_if_eq (tgt := 94) G dX8_takesOf_87 (by decide) (fun h87 => ?_) (fun h87 => absurd h87 (by decide))
            refine v_iconst (v := 1) G dX8_takesOf_94 rfl ?_
            refine RET _ _ _ _ _ _ rfl (Nat.le_of_ble_eq_true rfl) (Nat.le_of_ble_eq_true rfl) dX8_takesOf_95 (fun ws hw => ⟨_, hw, ?_⟩)
            clear RET G hT hnm
            refine ⟨?_, ag_rf⟩
            simp only [s_road, s_eng, s_way, cq1, cq2, cq3, cq4, cq5, cq6, cq7, cq8, cq9, cq10, cq11, esc, s_rem] at *
            grind
          · refine v_iconst (v := 1) G dX8_takesOf_78 rfl ?_
            refine v_goto (tgt := 83) G dX8_takesOf_79 (by decide) ?_
            refine v_istore (L' := [(4, .int 1), (3, .int (σ.1 10 (5 * p + 1))), (2, .int (σ.1 10 ((5 * p) + 4))), (0, .ref (ad 43)), (1, .int (nI p))]) G dX8_takesOf_83 (by decide) rfl ?_
            refine v_iload G 0 dX8_takesOf_85 rfl ?_
            refine v_if_eq (tgt := 94) G dX8_takesOf_87 (by decide) (fun h87 => absurd h87 (by decide)) (fun h87 => ?_)
            refine v_iconst (v := 0) G dX8_takesOf_90 rfl ?_
            refine v_goto (tgt := 95) G dX8_takesOf_91 (by decide) ?_
            refine RET _ _ _ _ _ _ rfl (Nat.le_of_ble_eq_true rfl) (Nat.le_of_ble_eq_true rfl) dX8_takesOf_95 (fun ws hw => ⟨_, hw, ?_⟩)
            clear RET G hT hnm
            refine ⟨?_, ag_rf⟩
            simp only [s_road, s_eng, s_way, cq1, cq2, cq3, cq4, cq5, cq6, cq7, cq8, cq9, cq10, cq11, esc, s_rem] at *
            grind
    · have n35 := (not_congr (cmp_eq (x := σ.1 10 ((5 * p) + 4)) (y := 2) (a := vk) (b := 2) evk (ix_lit 2 rfl) (by omega) (by omega))).mp h35
      refine v_iload_n G 1 dX8_takesOf_38 rfl ?_
      refine v_iconst (v := 4) G dX8_takesOf_39 rfl ?_
      refine v_icmp_ne (tgt := 96) G dX8_takesOf_40 (by decide) (fun h40 => ?_) (fun h40 => ?_)
      · have n40 := (not_congr (cmp_eq (x := σ.1 10 ((5 * p) + 4)) (y := 4) (a := vk) (b := 4) evk (ix_lit 4 rfl) (by omega) (by omega))).mp h40
        refine v_aload_n G 2 dX8_takesOf_96 rfl ?_
        refine v_iconst (v := 0) G dX8_takesOf_97 rfl ?_
        refine v_iload_n G 3 dX8_takesOf_98 rfl ?_
        refine v_iconst (v := (-1)) G dX8_takesOf_99 rfl ?_
        refine v_stk (st' := [.int (-1), .int (nI p), .int (nI 0), .ref (ad 43)]) (by first | rfl | (have e0 : 0 = nI 0 := (ix_lit 0 rfl) ; simp only [e0])) ?_
        refine w_callVi G hK hT (kX8_says hK l dC dI ct ad σ 0 p (-1) (s_jar2 (co σ) p) hO (by omega) hp (Or.inl ⟨rfl, rfl⟩)) (ck_X8_358 G.2.2.2.2.1 ⟨Nat.le_of_ble_eq_true rfl, Nat.le_of_ble_eq_true rfl⟩) m_recv (fun _ h => h) rfl [] rfl (Nat.le_of_ble_eq_true rfl) dX8_takesOf_100 ⟨Nat.le_of_ble_eq_true rfl, Nat.le_of_ble_eq_true rfl⟩ (k1 := 0) (n1 := 0) rfl rfl ?_
        rintro r100 σ100 ⟨rfl, h100_a⟩
        refine v_iconst (v := 2) G dX8_takesOf_103 rfl ?_
        refine v_irem G dX8_takesOf_104 (by decide) ?_
        refine v_if_ne (tgt := 112) G dX8_takesOf_105 (by decide) (fun h105 => ?_) (fun h105 => ?_)
        · refine v_iconst (v := 1) G dX8_takesOf_112 rfl ?_
          refine v_istore (L' := [(4, .int 1), (3, .int (σ.1 10 (5 * p + 1))), (2, .int (σ.1 10 ((5 * p) + 4))), (0, .ref (ad 43)), (1, .int (nI p))]) G dX8_takesOf_113 (by decide) rfl ?_
          refine v_iload_n G 1 dX8_takesOf_115 rfl ?_
          refine v_aload_n G 3 dX8_takesOf_116 rfl ?_
          refine m_get (v := .ref (ad 10)) G 10 (by decide) rfl q1304 rfl dX8_takesOf_117 ?_
          refine v_iconst (v := 5) G dX8_takesOf_120 rfl ?_
          refine v_iload_n G 4 dX8_takesOf_121 rfl ?_
          refine v_imul G dX8_takesOf_122 ?_
          refine m_iald G 10 rfl (5 * p) (ix_mul (ix_lit 5 rfl) rfl) (show 5 * p < 25 by first | omega | assumption | decide) dX8_takesOf_123 ?_
          refine v_topr (congrArg Value.int (show σ100.1 10 (5 * p) = σ.1 10 (5 * p) from (ag_at h100_a (by decide)))) ?_
          refine v_icmp_ne (tgt := 131) G dX8_takesOf_124 (by decide) (fun h124 => ?_) (fun h124 => ?_)
          · have n124 := (not_congr (cmp_eq (x := σ.1 10 (5 * p + 1)) (y := σ.1 10 (5 * p)) (a := c) (b := vn) ec evn (by omega) (by omega))).mp h124
            refine v_iload G 0 dX8_takesOf_131 rfl ?_
            refine v_istore (L' := [(5, .int 1), (4, .int 1), (3, .int (σ.1 10 (5 * p + 1))), (2, .int (σ.1 10 ((5 * p) + 4))), (0, .ref (ad 43)), (1, .int (nI p))]) G dX8_takesOf_133 (by decide) rfl ?_
            refine v_iload_n G 3 dX8_takesOf_135 rfl ?_
            refine v_if_ne (tgt := 144) G dX8_takesOf_136 (by decide) (fun h136 => ?_) (fun h136 => ?_)
            · have n136 := (not_congr (cmp_eq (x := σ.1 10 ((5 * p) + 4)) (y := 0) (a := vk) (b := 0) evk (ix_lit 0 rfl) (by omega) (by omega))).mp h136
              refine v_iload_n G 3 dX8_takesOf_144 rfl ?_
              refine v_iconst (v := 3) G dX8_takesOf_145 rfl ?_
              refine v_icmp_ne (tgt := 169) G dX8_takesOf_146 (by decide) (fun h146 => ?_) (fun h146 => ?_)
              · have n146 := (not_congr (cmp_eq (x := σ.1 10 ((5 * p) + 4)) (y := 3) (a := vk) (b := 3) evk (ix_lit 3 rfl) (by omega) (by omega))).mp h146
                refine v_iload G 0 dX8_takesOf_169 rfl ?_
                refine RET _ _ _ _ _ _ rfl (Nat.le_of_ble_eq_true rfl) (Nat.le_of_ble_eq_true rfl) dX8_takesOf_171 (fun ws hw => ⟨_, hw, ?_⟩)
                clear RET G hT hnm
                refine ⟨?_, h100_a⟩
                simp only [s_road, s_eng, s_way, cq1, cq2, cq3, cq4, cq5, cq6, cq7, cq8, cq9, cq10, cq11, esc, s_rem] at *
                grind
              · have n146 := (cmp_eq (x := σ.1 10 ((5 * p) + 4)) (y := 3) (a := vk) (b := 3) evk (ix_lit 3 rfl) (by omega) (by omega)).mp h146
                refine v_aload_n G 4 dX8_takesOf_149 rfl ?_
                refine m_get (v := .ref (ad 10)) G 10 (by decide) rfl q1304 rfl dX8_takesOf_150 ?_
                refine v_iconst (v := 5) G dX8_takesOf_153 rfl ?_
                refine v_iload_n G 5 dX8_takesOf_154 rfl ?_
                refine v_imul G dX8_takesOf_155 ?_
                refine v_iconst (v := 2) G dX8_takesOf_156 rfl ?_
                refine v_iadd G dX8_takesOf_157 ?_
                refine m_iald G 10 rfl ((5 * p) + 2) (ix_add (ix_mul (ix_lit 5 rfl) rfl) (ix_lit 2 rfl)) (show (5 * p) + 2 < 25 by first | omega | assumption | decide) dX8_takesOf_158 ?_
                refine v_topr (congrArg Value.int (show σ100.1 10 ((5 * p) + 2) = σ.1 10 ((5 * p) + 2) from (ag_at h100_a (by decide)))) ?_
                refine v_if_ge (tgt := 169) G dX8_takesOf_159 (by decide) (fun h159 => ?_) (fun h159 => ?_)
                · refine v_iload G 0 dX8_takesOf_169 rfl ?_
                  refine RET _ _ _ _ _ _ rfl (Nat.le_of_ble_eq_true rfl) (Nat.le_of_ble_eq_true rfl) dX8_takesOf_171 (fun ws hw => ⟨_, hw, ?_⟩)
                  clear RET G hT hnm
                  refine ⟨?_, h100_a⟩
                  simp only [s_road, s_eng, s_way, cq1, cq2, cq3, cq4, cq5, cq6, cq7, cq8, cq9, cq10, cq11, esc, s_rem] at *
                  grind
                · refine v_iconst (v := 1) G dX8_takesOf_162 rfl ?_
                  refine v_iload G 0 dX8_takesOf_163 rfl ?_
                  refine v_isub G dX8_takesOf_165 ?_
                  refine v_goto (tgt := 171) G dX8_takesOf_166 (by decide) ?_
                  refine RET _ _ _ _ _ _ rfl (Nat.le_of_ble_eq_true rfl) (Nat.le_of_ble_eq_true rfl) dX8_takesOf_171 (fun ws hw => ⟨_, hw, ?_⟩)
                  clear RET G hT hnm
                  refine ⟨?_, h100_a⟩
                  simp only [s_road, s_eng, s_way, cq1, cq2, cq3, cq4, cq5, cq6, cq7, cq8, cq9, cq10, cq11, esc, s_rem] at *
                  grind
            · have n136 := (cmp_eq (x := σ.1 10 ((5 * p) + 4)) (y := 0) (a := vk) (b := 0) evk (ix_lit 0 rfl) (by omega) (by omega)).mp h136
              refine v_iload G 1 dX8_takesOf_139 rfl ?_
              refine v_goto (tgt := 171) G dX8_takesOf_141 (by decide) ?_
              refine RET _ _ _ _ _ _ rfl (Nat.le_of_ble_eq_true rfl) (Nat.le_of_ble_eq_true rfl) dX8_takesOf_171 (fun ws hw => ⟨_, hw, ?_⟩)
              clear RET G hT hnm
              refine ⟨?_, h100_a⟩
              simp only [s_road, s_eng, s_way, cq1, cq2, cq3, cq4, cq5, cq6, cq7, cq8, cq9, cq10, cq11, esc, s_rem] at *
              grind
          · have n124 := (cmp_eq (x := σ.1 10 (5 * p + 1)) (y := σ.1 10 (5 * p)) (a := c) (b := vn) ec evn (by omega) (by omega)).mp h124
            refine v_iconst (v := 1) G dX8_takesOf_127 rfl ?_
            refine v_goto (tgt := 133) G dX8_takesOf_128 (by decide) ?_
            refine v_istore (L' := [(5, .int 1), (4, .int 1), (3, .int (σ.1 10 (5 * p + 1))), (2, .int (σ.1 10 ((5 * p) + 4))), (0, .ref (ad 43)), (1, .int (nI p))]) G dX8_takesOf_133 (by decide) rfl ?_
            refine v_iload_n G 3 dX8_takesOf_135 rfl ?_
            refine v_if_ne (tgt := 144) G dX8_takesOf_136 (by decide) (fun h136 => ?_) (fun h136 => ?_)
            · have n136 := (not_congr (cmp_eq (x := σ.1 10 ((5 * p) + 4)) (y := 0) (a := vk) (b := 0) evk (ix_lit 0 rfl) (by omega) (by omega))).mp h136
              refine v_iload_n G 3 dX8_takesOf_144 rfl ?_
              refine v_iconst (v := 3) G dX8_takesOf_145 rfl ?_
              refine v_icmp_ne (tgt := 169) G dX8_takesOf_146 (by decide) (fun h146 => ?_) (fun h146 => ?_)
              · have n146 := (not_congr (cmp_eq (x := σ.1 10 ((5 * p) + 4)) (y := 3) (a := vk) (b := 3) evk (ix_lit 3 rfl) (by omega) (by omega))).mp h146
                refine v_iload G 0 dX8_takesOf_169 rfl ?_
                refine RET _ _ _ _ _ _ rfl (Nat.le_of_ble_eq_true rfl) (Nat.le_of_ble_eq_true rfl) dX8_takesOf_171 (fun ws hw => ⟨_, hw, ?_⟩)
                clear RET G hT hnm
                refine ⟨?_, h100_a⟩
                simp only [s_road, s_eng, s_way, cq1, cq2, cq3, cq4, cq5, cq6, cq7, cq8, cq9, cq10, cq11, esc, s_rem] at *
                grind
              · have n146 := (cmp_eq (x := σ.1 10 ((5 * p) + 4)) (y := 3) (a := vk) (b := 3) evk (ix_lit 3 rfl) (by omega) (by omega)).mp h146
                refine v_aload_n G 4 dX8_takesOf_149 rfl ?_
                refine m_get (v := .ref (ad 10)) G 10 (by decide) rfl q1304 rfl dX8_takesOf_150 ?_
                refine v_iconst (v := 5) G dX8_takesOf_153 rfl ?_
                refine v_iload_n G 5 dX8_takesOf_154 rfl ?_
                refine v_imul G dX8_takesOf_155 ?_
                refine v_iconst (v := 2) G dX8_takesOf_156 rfl ?_
                refine v_iadd G dX8_takesOf_157 ?_
                refine m_iald G 10 rfl ((5 * p) + 2) (ix_add (ix_mul (ix_lit 5 rfl) rfl) (ix_lit 2 rfl)) (show (5 * p) + 2 < 25 by first | omega | assumption | decide) dX8_takesOf_158 ?_
                refine v_topr (congrArg Value.int (show σ100.1 10 ((5 * p) + 2) = σ.1 10 ((5 * p) + 2) from (ag_at h100_a (by decide)))) ?_
                refine v_if_ge (tgt := 169) G dX8_takesOf_159 (by decide) (fun h159 => ?_) (fun h159 => ?_)
                · refine v_iload G 0 dX8_takesOf_169 rfl ?_
                  refine RET _ _ _ _ _ _ rfl (Nat.le_of_ble_eq_true rfl) (Nat.le_of_ble_eq_true rfl) dX8_takesOf_171 (fun ws hw => ⟨_, hw, ?_⟩)
                  clear RET G hT hnm
                  refine ⟨?_, h100_a⟩
                  simp only [s_road, s_eng, s_way, cq1, cq2, cq3, cq4, cq5, cq6, cq7, cq8, cq9, cq10, cq11, esc, s_rem] at *
                  grind
                · refine v_iconst (v := 1) G dX8_takesOf_162 rfl ?_
                  refine v_iload G 0 dX8_takesOf_163 rfl ?_
                  refine v_isub G dX8_takesOf_165 ?_
                  refine v_goto (tgt := 171) G dX8_takesOf_166 (by decide) ?_
                  refine RET _ _ _ _ _ _ rfl (Nat.le_of_ble_eq_true rfl) (Nat.le_of_ble_eq_true rfl) dX8_takesOf_171 (fun ws hw => ⟨_, hw, ?_⟩)
                  clear RET G hT hnm
                  refine ⟨?_, h100_a⟩
                  simp only [s_road, s_eng, s_way, cq1, cq2, cq3, cq4, cq5, cq6, cq7, cq8, cq9, cq10, cq11, esc, s_rem] at *
                  grind
            · have n136 := (cmp_eq (x := σ.1 10 ((5 * p) + 4)) (y := 0) (a := vk) (b := 0) evk (ix_lit 0 rfl) (by omega) (by omega)).mp h136
              refine v_iload G 1 dX8_takesOf_139 rfl ?_
              refine v_goto (tgt := 171) G dX8_takesOf_141 (by decide) ?_
              refine RET _ _ _ _ _ _ rfl (Nat.le_of_ble_eq_true rfl) (Nat.le_of_ble_eq_true rfl) dX8_takesOf_171 (fun ws hw => ⟨_, hw, ?_⟩)
              clear RET G hT hnm
              refine ⟨?_, h100_a⟩
              simp only [s_road, s_eng, s_way, cq1, cq2, cq3, cq4, cq5, cq6, cq7, cq8, cq9, cq10, cq11, esc, s_rem] at *
              grind
        · refine v_iconst (v := 0) G dX8_takesOf_108 rfl ?_
          refine v_goto (tgt := 113) G dX8_takesOf_109 (by decide) ?_
          refine v_istore (L' := [(4, .int 0), (3, .int (σ.1 10 (5 * p + 1))), (2, .int (σ.1 10 ((5 * p) + 4))), (0, .ref (ad 43)), (1, .int (nI p))]) G dX8_takesOf_113 (by decide) rfl ?_
          refine v_iload_n G 1 dX8_takesOf_115 rfl ?_
          refine v_aload_n G 3 dX8_takesOf_116 rfl ?_
          refine m_get (v := .ref (ad 10)) G 10 (by decide) rfl q1304 rfl dX8_takesOf_117 ?_
          refine v_iconst (v := 5) G dX8_takesOf_120 rfl ?_
          refine v_iload_n G 4 dX8_takesOf_121 rfl ?_
          refine v_imul G dX8_takesOf_122 ?_
          refine m_iald G 10 rfl (5 * p) (ix_mul (ix_lit 5 rfl) rfl) (show 5 * p < 25 by first | omega | assumption | decide) dX8_takesOf_123 ?_
          refine v_topr (congrArg Value.int (show σ100.1 10 (5 * p) = σ.1 10 (5 * p) from (ag_at h100_a (by decide)))) ?_
          refine v_icmp_ne (tgt := 131) G dX8_takesOf_124 (by decide) (fun h124 => ?_) (fun h124 => ?_)
          · have n124 := (not_congr (cmp_eq (x := σ.1 10 (5 * p + 1)) (y := σ.1 10 (5 * p)) (a := c) (b := vn) ec evn (by omega) (by omega))).mp h124
            refine v_iload G 0 dX8_takesOf_131 rfl ?_
            refine v_istore (L' := [(5, .int 0), (4, .int 0), (3, .int (σ.1 10 (5 * p + 1))), (2, .int (σ.1 10 ((5 * p) + 4))), (0, .ref (ad 43)), (1, .int (nI p))]) G dX8_takesOf_133 (by decide) rfl ?_
            refine v_iload_n G 3 dX8_takesOf_135 rfl ?_
            refine v_if_ne (tgt := 144) G dX8_takesOf_136 (by decide) (fun h136 => ?_) (fun h136 => ?_)
            · have n136 := (not_congr (cmp_eq (x := σ.1 10 ((5 * p) + 4)) (y := 0) (a := vk) (b := 0) evk (ix_lit 0 rfl) (by omega) (by omega))).mp h136
              refine v_iload_n G 3 dX8_takesOf_144 rfl ?_
              refine v_iconst (v := 3) G dX8_takesOf_145 rfl ?_
              refine v_icmp_ne (tgt := 169) G dX8_takesOf_146 (by decide) (fun h146 => ?_) (fun h146 => ?_)
              · have n146 := (not_congr (cmp_eq (x := σ.1 10 ((5 * p) + 4)) (y := 3) (a := vk) (b := 3) evk (ix_lit 3 rfl) (by omega) (by omega))).mp h146
                refine v_iload G 0 dX8_takesOf_169 rfl ?_
                refine RET _ _ _ _ _ _ rfl (Nat.le_of_ble_eq_true rfl) (Nat.le_of_ble_eq_true rfl) dX8_takesOf_171 (fun ws hw => ⟨_, hw, ?_⟩)
                clear RET G hT hnm
                refine ⟨?_, h100_a⟩
                simp only [s_road, s_eng, s_way, cq1, cq2, cq3, cq4, cq5, cq6, cq7, cq8, cq9, cq10, cq11, esc, s_rem] at *
                grind
              · have n146 := (cmp_eq (x := σ.1 10 ((5 * p) + 4)) (y := 3) (a := vk) (b := 3) evk (ix_lit 3 rfl) (by omega) (by omega)).mp h146
                refine v_aload_n G 4 dX8_takesOf_149 rfl ?_
                refine m_get (v := .ref (ad 10)) G 10 (by decide) rfl q1304 rfl dX8_takesOf_150 ?_
                refine v_iconst (v := 5) G dX8_takesOf_153 rfl ?_
                refine v_iload_n G 5 dX8_takesOf_154 rfl ?_
                refine v_imul G dX8_takesOf_155 ?_
                refine v_iconst (v := 2) G dX8_takesOf_156 rfl ?_
                refine v_iadd G dX8_takesOf_157 ?_
                refine m_iald G 10 rfl ((5 * p) + 2) (ix_add (ix_mul (ix_lit 5 rfl) rfl) (ix_lit 2 rfl)) (show (5 * p) + 2 < 25 by first | omega | assumption | decide) dX8_takesOf_158 ?_
                refine v_topr (congrArg Value.int (show σ100.1 10 ((5 * p) + 2) = σ.1 10 ((5 * p) + 2) from (ag_at h100_a (by decide)))) ?_
                refine v_if_ge (tgt := 169) G dX8_takesOf_159 (by decide) (fun h159 => ?_) (fun h159 => ?_)
                · refine v_iload G 0 dX8_takesOf_169 rfl ?_
                  refine RET _ _ _ _ _ _ rfl (Nat.le_of_ble_eq_true rfl) (Nat.le_of_ble_eq_true rfl) dX8_takesOf_171 (fun ws hw => ⟨_, hw, ?_⟩)
                  clear RET G hT hnm
                  refine ⟨?_, h100_a⟩
                  simp only [s_road, s_eng, s_way, cq1, cq2, cq3, cq4, cq5, cq6, cq7, cq8, cq9, cq10, cq11, esc, s_rem] at *
                  grind
                · refine v_iconst (v := 1) G dX8_takesOf_162 rfl ?_
                  refine v_iload G 0 dX8_takesOf_163 rfl ?_
                  refine v_isub G dX8_takesOf_165 ?_
                  refine v_goto (tgt := 171) G dX8_takesOf_166 (by decide) ?_
                  refine RET _ _ _ _ _ _ rfl (Nat.le_of_ble_eq_true rfl) (Nat.le_of_ble_eq_true rfl) dX8_takesOf_171 (fun ws hw => ⟨_, hw, ?_⟩)
                  clear RET G hT hnm
                  refine ⟨?_, h100_a⟩
                  simp only [s_road, s_eng, s_way, cq1, cq2, cq3, cq4, cq5, cq6, cq7, cq8, cq9, cq10, cq11, esc, s_rem] at *
                  grind
            · have n136 := (cmp_eq (x := σ.1 10 ((5 * p) + 4)) (y := 0) (a := vk) (b := 0) evk (ix_lit 0 rfl) (by omega) (by omega)).mp h136
              refine v_iload G 1 dX8_takesOf_139 rfl ?_
              refine v_goto (tgt := 171) G dX8_takesOf_141 (by decide) ?_
              refine RET _ _ _ _ _ _ rfl (Nat.le_of_ble_eq_true rfl) (Nat.le_of_ble_eq_true rfl) dX8_takesOf_171 (fun ws hw => ⟨_, hw, ?_⟩)
              clear RET G hT hnm
              refine ⟨?_, h100_a⟩
              simp only [s_road, s_eng, s_way, cq1, cq2, cq3, cq4, cq5, cq6, cq7, cq8, cq9, cq10, cq11, esc, s_rem] at *
              grind
          · have n124 := (cmp_eq (x := σ.1 10 (5 * p + 1)) (y := σ.1 10 (5 * p)) (a := c) (b := vn) ec evn (by omega) (by omega)).mp h124
            refine v_iconst (v := 1) G dX8_takesOf_127 rfl ?_
            refine v_goto (tgt := 133) G dX8_takesOf_128 (by decide) ?_
            refine v_istore (L' := [(5, .int 1), (4, .int 0), (3, .int (σ.1 10 (5 * p + 1))), (2, .int (σ.1 10 ((5 * p) + 4))), (0, .ref (ad 43)), (1, .int (nI p))]) G dX8_takesOf_133 (by decide) rfl ?_
            refine v_iload_n G 3 dX8_takesOf_135 rfl ?_
            refine v_if_ne (tgt := 144) G dX8_takesOf_136 (by decide) (fun h136 => ?_) (fun h136 => ?_)
            · have n136 := (not_congr (cmp_eq (x := σ.1 10 ((5 * p) + 4)) (y := 0) (a := vk) (b := 0) evk (ix_lit 0 rfl) (by omega) (by omega))).mp h136
              refine v_iload_n G 3 dX8_takesOf_144 rfl ?_
              refine v_iconst (v := 3) G dX8_takesOf_145 rfl ?_
              refine v_icmp_ne (tgt := 169) G dX8_takesOf_146 (by decide) (fun h146 => ?_) (fun h146 => ?_)
              · have n146 := (not_congr (cmp_eq (x := σ.1 10 ((5 * p) + 4)) (y := 3) (a := vk) (b := 3) evk (ix_lit 3 rfl) (by omega) (by omega))).mp h146
                refine v_iload G 0 dX8_takesOf_169 rfl ?_
                refine RET _ _ _ _ _ _ rfl (Nat.le_of_ble_eq_true rfl) (Nat.le_of_ble_eq_true rfl) dX8_takesOf_171 (fun ws hw => ⟨_, hw, ?_⟩)
                clear RET G hT hnm
                refine ⟨?_, h100_a⟩
                simp only [s_road, s_eng, s_way, cq1, cq2, cq3, cq4, cq5, cq6, cq7, cq8, cq9, cq10, cq11, esc, s_rem] at *
                grind
              · have n146 := (cmp_eq (x := σ.1 10 ((5 * p) + 4)) (y := 3) (a := vk) (b := 3) evk (ix_lit 3 rfl) (by omega) (by omega)).mp h146
                refine v_aload_n G 4 dX8_takesOf_149 rfl ?_
                refine m_get (v := .ref (ad 10)) G 10 (by decide) rfl q1304 rfl dX8_takesOf_150 ?_
                refine v_iconst (v := 5) G dX8_takesOf_153 rfl ?_
                refine v_iload_n G 5 dX8_takesOf_154 rfl ?_
                refine v_imul G dX8_takesOf_155 ?_
                refine v_iconst (v := 2) G dX8_takesOf_156 rfl ?_
                refine v_iadd G dX8_takesOf_157 ?_
                refine m_iald G 10 rfl ((5 * p) + 2) (ix_add (ix_mul (ix_lit 5 rfl) rfl) (ix_lit 2 rfl)) (show (5 * p) + 2 < 25 by first | omega | assumption | decide) dX8_takesOf_158 ?_
                refine v_topr (congrArg Value.int (show σ100.1 10 ((5 * p) + 2) = σ.1 10 ((5 * p) + 2) from (ag_at h100_a (by decide)))) ?_
                refine v_if_ge (tgt := 169) G dX8_takesOf_159 (by decide) (fun h159 => ?_) (fun h159 => ?_)
                · refine v_iload G 0 dX8_takesOf_169 rfl ?_
                  refine RET _ _ _ _ _ _ rfl (Nat.le_of_ble_eq_true rfl) (Nat.le_of_ble_eq_true rfl) dX8_takesOf_171 (fun ws hw => ⟨_, hw, ?_⟩)
                  clear RET G hT hnm
                  refine ⟨?_, h100_a⟩
                  simp only [s_road, s_eng, s_way, cq1, cq2, cq3, cq4, cq5, cq6, cq7, cq8, cq9, cq10, cq11, esc, s_rem] at *
                  grind
                · refine v_iconst (v := 1) G dX8_takesOf_162 rfl ?_
                  refine v_iload G 0 dX8_takesOf_163 rfl ?_
                  refine v_isub G dX8_takesOf_165 ?_
                  refine v_goto (tgt := 171) G dX8_takesOf_166 (by decide) ?_
                  refine RET _ _ _ _ _ _ rfl (Nat.le_of_ble_eq_true rfl) (Nat.le_of_ble_eq_true rfl) dX8_takesOf_171 (fun ws hw => ⟨_, hw, ?_⟩)
                  clear RET G hT hnm
                  refine ⟨?_, h100_a⟩
                  simp only [s_road, s_eng, s_way, cq1, cq2, cq3, cq4, cq5, cq6, cq7, cq8, cq9, cq10, cq11, esc, s_rem] at *
                  grind
            · have n136 := (cmp_eq (x := σ.1 10 ((5 * p) + 4)) (y := 0) (a := vk) (b := 0) evk (ix_lit 0 rfl) (by omega) (by omega)).mp h136
              refine v_iload G 1 dX8_takesOf_139 rfl ?_
              refine v_goto (tgt := 171) G dX8_takesOf_141 (by decide) ?_
              refine RET _ _ _ _ _ _ rfl (Nat.le_of_ble_eq_true rfl) (Nat.le_of_ble_eq_true rfl) dX8_takesOf_171 (fun ws hw => ⟨_, hw, ?_⟩)
              clear RET G hT hnm
              refine ⟨?_, h100_a⟩
              simp only [s_road, s_eng, s_way, cq1, cq2, cq3, cq4, cq5, cq6, cq7, cq8, cq9, cq10, cq11, esc, s_rem] at *
              grind
      · have n40 := (cmp_eq (x := σ.1 10 ((5 * p) + 4)) (y := 4) (a := vk) (b := 4) evk (ix_lit 4 rfl) (by omega) (by omega)).mp h40
        refine v_iload_n G 1 dX8_takesOf_43 rfl ?_
        refine v_iconst (v := 4) G dX8_takesOf_44 rfl ?_
        refine v_icmp_ne (tgt := 57) G dX8_takesOf_45 (by decide) (fun h45 => False.elim (by exact h45 h40)) (fun h45 => ?_)
        refine v_aload_n G 2 dX8_takesOf_48 rfl ?_
        refine m_get (v := .int (σ.1 7 0)) G 7 (by decide) rfl q1301 rfl dX8_takesOf_49 ?_
        refine v_iconst (v := 3) G dX8_takesOf_52 rfl ?_
        refine v_irem G dX8_takesOf_53 (by decide) ?_
        refine v_if_eq (tgt := 78) G dX8_takesOf_54 (by decide) (fun h54 => ?_) (fun h54 => ?_)
        · refine v_iconst (v := 1) G dX8_takesOf_78 rfl ?_
          refine v_goto (tgt := 83) G dX8_takesOf_79 (by decide) ?_
          refine v_istore (L' := [(4, .int 1), (3, .int (σ.1 10 (5 * p + 1))), (2, .int (σ.1 10 ((5 * p) + 4))), (0, .ref (ad 43)), (1, .int (nI p))]) G dX8_takesOf_83 (by decide) rfl ?_
          refine v_iload G 0 dX8_takesOf_85 rfl ?_
          refine v_if_eq (tgt := 94) G dX8_takesOf_87 (by decide) (fun h87 => absurd h87 (by decide)) (fun h87 => ?_)
          refine v_iconst (v := 0) G dX8_takesOf_90 rfl ?_
          refine v_goto (tgt := 95) G dX8_takesOf_91 (by decide) ?_
          refine RET _ _ _ _ _ _ rfl (Nat.le_of_ble_eq_true rfl) (Nat.le_of_ble_eq_true rfl) dX8_takesOf_95 (fun ws hw => ⟨_, hw, ?_⟩)
          clear RET G hT hnm
          refine ⟨?_, ag_rf⟩
          simp only [s_road, s_eng, s_way, cq1, cq2, cq3, cq4, cq5, cq6, cq7, cq8, cq9, cq10, cq11, esc, s_rem] at *
          grind
        · refine v_aload_n G 2 dX8_takesOf_57 rfl ?_
          refine m_get (v := .ref (ad 9)) G 9 (by decide) rfl q1303 rfl dX8_takesOf_58 ?_
          refine v_iconst (v := 2) G dX8_takesOf_61 rfl ?_
          refine v_iload_n G 0 dX8_takesOf_62 rfl ?_
          refine v_imul G dX8_takesOf_63 ?_
          refine m_iald G 9 rfl (2 * c) (ix_mul (ix_lit 2 rfl) ec) (show 2 * c < 24 by first | omega | assumption | decide) dX8_takesOf_64 ?_
          refine v_aload_n G 2 dX8_takesOf_65 rfl ?_
          refine m_get (v := .ref (ad 9)) G 9 (by decide) rfl q1303 rfl dX8_takesOf_66 ?_
          refine v_iconst (v := 2) G dX8_takesOf_69 rfl ?_
          refine v_iload_n G 0 dX8_takesOf_70 rfl ?_
          refine v_imul G dX8_takesOf_71 ?_
          refine v_iconst (v := 1) G dX8_takesOf_72 rfl ?_
          refine v_iadd G dX8_takesOf_73 ?_
          refine m_iald G 9 rfl ((2 * c) + 1) (ix_add (ix_mul (ix_lit 2 rfl) ec) (ix_lit 1 rfl)) (show (2 * c) + 1 < 24 by first | omega | assumption | decide) dX8_takesOf_74 ?_
          refine v_icmp_gt (tgt := 82) G dX8_takesOf_75 (by decide) (fun h75 => ?_) (fun h75 => ?_)
          · refine v_iconst (v := 0) G dX8_takesOf_82 rfl ?_
            refine v_istore (L' := [(4, .int 0), (3, .int (σ.1 10 (5 * p + 1))), (2, .int (σ.1 10 ((5 * p) + 4))), (0, .ref (ad 43)), (1, .int (nI p))]) G dX8_takesOf_83 (by decide) rfl ?_
            refine v_iload G 0 dX8_takesOf_85 rfl ?_
            refine v_if_eq (tgt := 94) G dX8_takesOf_87 (by decide) (fun h87 => ?_) (fun h87 => absurd h87 (by decide))
            refine v_iconst (v := 1) G dX8_takesOf_94 rfl ?_
            refine RET _ _ _ _ _ _ rfl (Nat.le_of_ble_eq_true rfl) (Nat.le_of_ble_eq_true rfl) dX8_takesOf_95 (fun ws hw => ⟨_, hw, ?_⟩)
            clear RET G hT hnm
            refine ⟨?_, ag_rf⟩
            simp only [s_road, s_eng, s_way, cq1, cq2, cq3, cq4, cq5, cq6, cq7, cq8, cq9, cq10, cq11, esc, s_rem] at *
            grind
          · refine v_iconst (v := 1) G dX8_takesOf_78 rfl ?_
            refine v_goto (tgt := 83) G dX8_takesOf_79 (by decide) ?_
            refine v_istore (L' := [(4, .int 1), (3, .int (σ.1 10 (5 * p + 1))), (2, .int (σ.1 10 ((5 * p) + 4))), (0, .ref (ad 43)), (1, .int (nI p))]) G dX8_takesOf_83 (by decide) rfl ?_
            refine v_iload G 0 dX8_takesOf_85 rfl ?_
            refine v_if_eq (tgt := 94) G dX8_takesOf_87 (by decide) (fun h87 => absurd h87 (by decide)) (fun h87 => ?_)
            refine v_iconst (v := 0) G dX8_takesOf_90 rfl ?_
            refine v_goto (tgt := 95) G dX8_takesOf_91 (by decide) ?_
            refine RET _ _ _ _ _ _ rfl (Nat.le_of_ble_eq_true rfl) (Nat.le_of_ble_eq_true rfl) dX8_takesOf_95 (fun ws hw => ⟨_, hw, ?_⟩)
            clear RET G hT hnm
            refine ⟨?_, ag_rf⟩
            simp only [s_road, s_eng, s_way, cq1, cq2, cq3, cq4, cq5, cq6, cq7, cq8, cq9, cq10, cq11, esc, s_rem] at *
            grind
  · have n19 := (cmp_eq (x := σ.1 10 ((5 * p) + 4)) (y := 5) (a := vk) (b := 5) evk (ix_lit 5 rfl) (by omega) (by omega)).mp h19
    refine v_aload_n G 2 dX8_takesOf_22 rfl ?_
    refine m_get (v := .ref (ad 10)) G 10 (by decide) rfl q1304 rfl dX8_takesOf_23 ?_
    refine v_iconst (v := 5) G dX8_takesOf_26 rfl ?_
    refine v_iload_n G 3 dX8_takesOf_27 rfl ?_
    refine v_imul G dX8_takesOf_28 ?_
    refine m_iald G 10 rfl (5 * p) (ix_mul (ix_lit 5 rfl) rfl) (show 5 * p < 25 by first | omega | assumption | decide) dX8_takesOf_29 ?_
    refine v_iconst (v := 2) G dX8_takesOf_30 rfl ?_
    refine v_irem G dX8_takesOf_31 (by decide) ?_
    refine RET _ _ _ _ _ _ rfl (Nat.le_of_ble_eq_true rfl) (Nat.le_of_ble_eq_true rfl) dX8_takesOf_32 (fun ws hw => ⟨_, hw, ?_⟩)
    clear RET G hT hnm
    refine ⟨?_, ag_rf⟩
    simp only [s_road, s_eng, s_way, cq1, cq2, cq3, cq4, cq5, cq6, cq7, cq8, cq9, cq10, cq11, esc, s_rem] at *
    grind
abbrev rmX8_putsOf : Room := { frames := 43, cells := 0, slots := 0, locals := 954 }
set_option maxHeartbeats 4000000 in
theorem kX8_putsOf {KT : (Nat → Prop) → State → Heap → Prop} (hK : KTok KT) (l : Launch) (dC : Nat → ClassId) (dI : Nat → Nat → Nat) (ct ad : Nat → Nat) (σ : MS) (p : Nat) (hO : Ok (co σ)) (hp : p < 5) : MC KT (dC, dI) vwCl (tysF ct) l yX8_putsOf cX8_putsOf 6 (some .int) rmX8_putsOf [.ref (ad 43), .int (nI p)] (RM ct ad σ) (QI_ (dC, dI) vwCl (RM ct ad) (fun (r : Int32) (σ' : MS) => (s_puts (co σ) p) = r ∧ ag sfr σ σ')) := by
  refine MC.ofI (own := RX8) pl_X8 rfl (Nat.le_of_ble_eq_true rfl) ?_
  intro pp ee ss mm aa bb hh cc AA QQ G hT hnm RET
  refine v_loc (L' := [(0, .ref (ad 43)), (1, .int (nI p))]) rfl ?_
  obtain ⟨⟨vn, hvn, evn⟩, ⟨c, hc, ec⟩, hmood, ⟨ve, hve, eve⟩, vk, hvk, evk⟩ := hO.1.2.1 p hp
  have evn : σ.1 10 (5 * p) = nI vn := evn
  have ec : σ.1 10 (5 * p + 1) = nI c := ec
  have eve : σ.1 10 (5 * p + 3) = nI ve := eve
  have evk : σ.1 10 (5 * p + 4) = nI vk := evk
  have esc : s_c (co σ) p = c := by rw [s_c, cq10, ec]; exact nI_clamp (by omega)
  refine v_aload_n G 0 dX8_putsOf_0 rfl ?_
  refine m_get (v := .ref (ad 10)) G 10 (by decide) rfl q1304 rfl dX8_putsOf_1 ?_
  refine v_iconst (v := 5) G dX8_putsOf_4 rfl ?_
  refine v_iload_n G 1 dX8_putsOf_5 rfl ?_
  refine v_imul G dX8_putsOf_6 ?_
  refine v_iconst (v := 4) G dX8_putsOf_7 rfl ?_
  refine v_iadd G dX8_putsOf_8 ?_
  refine m_iald G 10 rfl ((5 * p) + 4) (ix_add (ix_mul (ix_lit 5 rfl) rfl) (ix_lit 4 rfl)) (show (5 * p) + 4 < 25 by first | omega | assumption | decide) dX8_putsOf_9 ?_
  refine v_istore_n (L' := [(2, .int (σ.1 10 ((5 * p) + 4))), (0, .ref (ad 43)), (1, .int (nI p))]) G dX8_putsOf_10 (by decide) rfl ?_
  refine v_iload_n G 0 dX8_putsOf_11 rfl ?_
  refine v_iconst (v := 5) G dX8_putsOf_12 rfl ?_
  refine v_icmp_ne (tgt := 18) G dX8_putsOf_13 (by decide) (fun h13 => ?_) (fun h13 => ?_)
  · have n13 := (not_congr (cmp_eq (x := σ.1 10 ((5 * p) + 4)) (y := 5) (a := vk) (b := 5) evk (ix_lit 5 rfl) (by omega) (by omega))).mp h13
    refine v_aload_n G 1 dX8_putsOf_18 rfl ?_
    refine v_iconst (v := 1) G dX8_putsOf_19 rfl ?_
    refine v_iload_n G 2 dX8_putsOf_20 rfl ?_
    refine v_iconst (v := (-1)) G dX8_putsOf_21 rfl ?_
    refine v_stk (st' := [.int (-1), .int (nI p), .int (nI 1), .ref (ad 43)]) (by first | rfl | (have e0 : 1 = nI 1 := (ix_lit 1 rfl) ; simp only [e0])) ?_
    refine w_callVi G hK hT (kX8_says hK l dC dI ct ad σ 1 p (-1) (s_jar2 (co σ) p) hO (by omega) hp (Or.inl ⟨rfl, rfl⟩)) (ck_X8_358 G.2.2.2.2.1 ⟨Nat.le_of_ble_eq_true rfl, Nat.le_of_ble_eq_true rfl⟩) m_recv (fun _ h => h) rfl [] rfl (Nat.le_of_ble_eq_true rfl) dX8_putsOf_22 ⟨Nat.le_of_ble_eq_true rfl, Nat.le_of_ble_eq_true rfl⟩ (k1 := 0) (n1 := 0) rfl rfl ?_
    rintro r22 σ22 ⟨rfl, h22_a⟩
    refine v_istore_n (L' := [(3, .int (s_says (co σ) 1 p (s_jar2 (co σ) p))), (2, .int (σ.1 10 ((5 * p) + 4))), (0, .ref (ad 43)), (1, .int (nI p))]) G dX8_putsOf_25 (by decide) rfl ?_
    refine v_iconst (v := 2) G dX8_putsOf_26 rfl ?_
    refine v_iload_n G 0 dX8_putsOf_27 rfl ?_
    refine v_imul G dX8_putsOf_28 ?_
    refine v_istore (L' := [(4, .int (2 * (s_says (co σ) 1 p (s_jar2 (co σ) p)))), (3, .int (s_says (co σ) 1 p (s_jar2 (co σ) p))), (2, .int (σ.1 10 ((5 * p) + 4))), (0, .ref (ad 43)), (1, .int (nI p))]) G dX8_putsOf_29 (by decide) rfl ?_
    refine v_iload_n G 1 dX8_putsOf_31 rfl ?_
    refine v_iconst (v := 1) G dX8_putsOf_32 rfl ?_
    refine v_iadd G dX8_putsOf_33 ?_
    refine v_istore (L' := [(5, .int ((s_says (co σ) 1 p (s_jar2 (co σ) p)) + 1)), (4, .int (2 * (s_says (co σ) 1 p (s_jar2 (co σ) p)))), (3, .int (s_says (co σ) 1 p (s_jar2 (co σ) p))), (2, .int (σ.1 10 ((5 * p) + 4))), (0, .ref (ad 43)), (1, .int (nI p))]) G dX8_putsOf_34 (by decide) rfl ?_
    refine v_iload_n G 3 dX8_putsOf_36 rfl ?_
    refine v_iconst (v := 1) G dX8_putsOf_37 rfl ?_
    refine v_icmp_ne (tgt := 46) G dX8_putsOf_38 (by decide) (fun h38 => ?_) (fun h38 => ?_)
    · have n38 := (not_congr (cmp_eq (x := σ.1 10 ((5 * p) + 4)) (y := 1) (a := vk) (b := 1) evk (ix_lit 1 rfl) (by omega) (by omega))).mp h38
      refine v_iload_n G 3 dX8_putsOf_46 rfl ?_
      refine v_iconst (v := 2) G dX8_putsOf_47 rfl ?_
      refine v_icmp_ne (tgt := 56) G dX8_putsOf_48 (by decide) (fun h48 => ?_) (fun h48 => ?_)
      · have n48 := (not_congr (cmp_eq (x := σ.1 10 ((5 * p) + 4)) (y := 2) (a := vk) (b := 2) evk (ix_lit 2 rfl) (by omega) (by omega))).mp h48
        refine v_iload_n G 3 dX8_putsOf_56 rfl ?_
        refine v_iconst (v := 3) G dX8_putsOf_57 rfl ?_
        refine v_icmp_ne (tgt := 75) G dX8_putsOf_58 (by decide) (fun h58 => ?_) (fun h58 => ?_)
        · have n58 := (not_congr (cmp_eq (x := σ.1 10 ((5 * p) + 4)) (y := 3) (a := vk) (b := 3) evk (ix_lit 3 rfl) (by omega) (by omega))).mp h58
          refine v_iload_n G 3 dX8_putsOf_75 rfl ?_
          refine v_iconst (v := 4) G dX8_putsOf_76 rfl ?_
          refine v_icmp_ne (tgt := 87) G dX8_putsOf_77 (by decide) (fun h77 => ?_) (fun h77 => ?_)
          · have n77 := (not_congr (cmp_eq (x := σ.1 10 ((5 * p) + 4)) (y := 4) (a := vk) (b := 4) evk (ix_lit 4 rfl) (by omega) (by omega))).mp h77
            refine v_iload_n G 2 dX8_putsOf_87 rfl ?_
            refine v_iconst (v := 0) G dX8_putsOf_88 rfl ?_
            refine v_bipush (v := 99) G dX8_putsOf_89 rfl ?_
            refine w_callSi G hK hT (kX8_within hK l dC dI ct ad σ22 (s_says (co σ) 1 p (s_jar2 (co σ) p)) 0 99) (ck_X8_354 G.2.2.2.2.1 ⟨Nat.le_of_ble_eq_true rfl, Nat.le_of_ble_eq_true rfl⟩) (fun _ h => h) rfl [] rfl (Nat.le_of_ble_eq_true rfl) dX8_putsOf_91 ⟨Nat.le_of_ble_eq_true rfl, Nat.le_of_ble_eq_true rfl⟩ (k1 := 0) (n1 := 0) rfl rfl ?_
            rintro r91 σ91 ⟨rfl, rfl⟩
            refine RET _ _ _ _ _ _ rfl (Nat.le_of_ble_eq_true rfl) (Nat.le_of_ble_eq_true rfl) dX8_putsOf_94 (fun ws hw => ⟨_, hw, ?_⟩)
            clear RET G hT hnm
            refine ⟨?_, h22_a⟩
            simp only [s_puts, s_putv, cq1, cq2, cq3, cq4, cq5, cq6, cq7, cq8, cq9, cq10, cq11, s_clamp] at *
            grind
          · have n77 := (cmp_eq (x := σ.1 10 ((5 * p) + 4)) (y := 4) (a := vk) (b := 4) evk (ix_lit 4 rfl) (by omega) (by omega)).mp h77
            refine v_iload G 0 dX8_putsOf_80 rfl ?_
            refine v_iconst (v := 2) G dX8_putsOf_82 rfl ?_
            refine v_idiv G dX8_putsOf_83 (by decide) ?_
            refine v_goto (tgt := 88) G dX8_putsOf_84 (by decide) ?_
            refine v_iconst (v := 0) G dX8_putsOf_88 rfl ?_
            refine v_bipush (v := 99) G dX8_putsOf_89 rfl ?_
            refine w_callSi G hK hT (kX8_within hK l dC dI ct ad σ22 (((s_says (co σ) 1 p (s_jar2 (co σ) p)) + 1) / 2) 0 99) (ck_X8_354 G.2.2.2.2.1 ⟨Nat.le_of_ble_eq_true rfl, Nat.le_of_ble_eq_true rfl⟩) (fun _ h => h) rfl [] rfl (Nat.le_of_ble_eq_true rfl) dX8_putsOf_91 ⟨Nat.le_of_ble_eq_true rfl, Nat.le_of_ble_eq_true rfl⟩ (k1 := 0) (n1 := 0) rfl rfl ?_
            rintro r91 σ91 ⟨rfl, rfl⟩
            refine RET _ _ _ _ _ _ rfl (Nat.le_of_ble_eq_true rfl) (Nat.le_of_ble_eq_true rfl) dX8_putsOf_94 (fun ws hw => ⟨_, hw, ?_⟩)
            clear RET G hT hnm
            refine ⟨?_, h22_a⟩
            simp only [s_puts, s_putv, cq1, cq2, cq3, cq4, cq5, cq6, cq7, cq8, cq9, cq10, cq11, s_clamp] at *
            grind
        · have n58 := (cmp_eq (x := σ.1 10 ((5 * p) + 4)) (y := 3) (a := vk) (b := 3) evk (ix_lit 3 rfl) (by omega) (by omega)).mp h58
          refine v_iload G 1 dX8_putsOf_61 rfl ?_
          refine v_aload_n G 4 dX8_putsOf_63 rfl ?_
          refine m_get (v := .ref (ad 10)) G 10 (by decide) rfl q1304 rfl dX8_putsOf_64 ?_
          refine v_iconst (v := 5) G dX8_putsOf_67 rfl ?_
          refine v_iload_n G 5 dX8_putsOf_68 rfl ?_
          refine v_imul G dX8_putsOf_69 ?_
          refine m_iald G 10 rfl (5 * p) (ix_mul (ix_lit 5 rfl) rfl) (show 5 * p < 25 by first | omega | assumption | decide) dX8_putsOf_70 ?_
          refine v_topr (congrArg Value.int (show σ22.1 10 (5 * p) = σ.1 10 (5 * p) from (ag_at h22_a (by decide)))) ?_
          refine v_iadd G dX8_putsOf_71 ?_
          refine v_goto (tgt := 88) G dX8_putsOf_72 (by decide) ?_
          refine v_iconst (v := 0) G dX8_putsOf_88 rfl ?_
          refine v_bipush (v := 99) G dX8_putsOf_89 rfl ?_
          refine w_callSi G hK hT (kX8_within hK l dC dI ct ad σ22 ((2 * (s_says (co σ) 1 p (s_jar2 (co σ) p))) + (σ.1 10 (5 * p))) 0 99) (ck_X8_354 G.2.2.2.2.1 ⟨Nat.le_of_ble_eq_true rfl, Nat.le_of_ble_eq_true rfl⟩) (fun _ h => h) rfl [] rfl (Nat.le_of_ble_eq_true rfl) dX8_putsOf_91 ⟨Nat.le_of_ble_eq_true rfl, Nat.le_of_ble_eq_true rfl⟩ (k1 := 0) (n1 := 0) rfl rfl ?_
          rintro r91 σ91 ⟨rfl, rfl⟩
          refine RET _ _ _ _ _ _ rfl (Nat.le_of_ble_eq_true rfl) (Nat.le_of_ble_eq_true rfl) dX8_putsOf_94 (fun ws hw => ⟨_, hw, ?_⟩)
          clear RET G hT hnm
          refine ⟨?_, h22_a⟩
          simp only [s_puts, s_putv, cq1, cq2, cq3, cq4, cq5, cq6, cq7, cq8, cq9, cq10, cq11, s_clamp] at *
          grind
      · have n48 := (cmp_eq (x := σ.1 10 ((5 * p) + 4)) (y := 2) (a := vk) (b := 2) evk (ix_lit 2 rfl) (by omega) (by omega)).mp h48
        refine v_iload G 0 dX8_putsOf_51 rfl ?_
        refine v_goto (tgt := 88) G dX8_putsOf_53 (by decide) ?_
        refine v_iconst (v := 0) G dX8_putsOf_88 rfl ?_
        refine v_bipush (v := 99) G dX8_putsOf_89 rfl ?_
        refine w_callSi G hK hT (kX8_within hK l dC dI ct ad σ22 ((s_says (co σ) 1 p (s_jar2 (co σ) p)) + 1) 0 99) (ck_X8_354 G.2.2.2.2.1 ⟨Nat.le_of_ble_eq_true rfl, Nat.le_of_ble_eq_true rfl⟩) (fun _ h => h) rfl [] rfl (Nat.le_of_ble_eq_true rfl) dX8_putsOf_91 ⟨Nat.le_of_ble_eq_true rfl, Nat.le_of_ble_eq_true rfl⟩ (k1 := 0) (n1 := 0) rfl rfl ?_
        rintro r91 σ91 ⟨rfl, rfl⟩
        refine RET _ _ _ _ _ _ rfl (Nat.le_of_ble_eq_true rfl) (Nat.le_of_ble_eq_true rfl) dX8_putsOf_94 (fun ws hw => ⟨_, hw, ?_⟩)
        clear RET G hT hnm
        refine ⟨?_, h22_a⟩
        simp only [s_puts, s_putv, cq1, cq2, cq3, cq4, cq5, cq6, cq7, cq8, cq9, cq10, cq11, s_clamp] at *
        grind
    · have n38 := (cmp_eq (x := σ.1 10 ((5 * p) + 4)) (y := 1) (a := vk) (b := 1) evk (ix_lit 1 rfl) (by omega) (by omega)).mp h38
      refine v_iload G 1 dX8_putsOf_41 rfl ?_
      refine v_goto (tgt := 88) G dX8_putsOf_43 (by decide) ?_
      refine v_iconst (v := 0) G dX8_putsOf_88 rfl ?_
      refine v_bipush (v := 99) G dX8_putsOf_89 rfl ?_
      refine w_callSi G hK hT (kX8_within hK l dC dI ct ad σ22 (2 * (s_says (co σ) 1 p (s_jar2 (co σ) p))) 0 99) (ck_X8_354 G.2.2.2.2.1 ⟨Nat.le_of_ble_eq_true rfl, Nat.le_of_ble_eq_true rfl⟩) (fun _ h => h) rfl [] rfl (Nat.le_of_ble_eq_true rfl) dX8_putsOf_91 ⟨Nat.le_of_ble_eq_true rfl, Nat.le_of_ble_eq_true rfl⟩ (k1 := 0) (n1 := 0) rfl rfl ?_
      rintro r91 σ91 ⟨rfl, rfl⟩
      refine RET _ _ _ _ _ _ rfl (Nat.le_of_ble_eq_true rfl) (Nat.le_of_ble_eq_true rfl) dX8_putsOf_94 (fun ws hw => ⟨_, hw, ?_⟩)
      clear RET G hT hnm
      refine ⟨?_, h22_a⟩
      simp only [s_puts, s_putv, cq1, cq2, cq3, cq4, cq5, cq6, cq7, cq8, cq9, cq10, cq11, s_clamp] at *
      grind
  · have n13 := (cmp_eq (x := σ.1 10 ((5 * p) + 4)) (y := 5) (a := vk) (b := 5) evk (ix_lit 5 rfl) (by omega) (by omega)).mp h13
    refine v_iconst (v := 0) G dX8_putsOf_16 rfl ?_
    refine RET _ _ _ _ _ _ rfl (Nat.le_of_ble_eq_true rfl) (Nat.le_of_ble_eq_true rfl) dX8_putsOf_17 (fun ws hw => ⟨_, hw, ?_⟩)
    clear RET G hT hnm
    exact ⟨by rw [s_puts, cq10, if_pos h13], ag_rf⟩
abbrev rmX8_feelsOf : Room := { frames := 43, cells := 0, slots := 0, locals := 954 }
set_option maxHeartbeats 4000000 in
theorem kX8_feelsOf {KT : (Nat → Prop) → State → Heap → Prop} (hK : KTok KT) (l : Launch) (dC : Nat → ClassId) (dI : Nat → Nat → Nat) (ct ad : Nat → Nat) (σ : MS) (p : Nat) (j : Nat) (hO : Ok (co σ)) (hp : p < 5) (hj : j < 24) : MC KT (dC, dI) vwCl (tysF ct) l yX8_feelsOf cX8_feelsOf 7 (some .int) rmX8_feelsOf [.ref (ad 43), .int (nI p), .int (nI j)] (RM ct ad σ) (QI_ (dC, dI) vwCl (RM ct ad) (fun (r : Int32) (σ' : MS) => (s_feels (co σ) p j) = r ∧ ag sfr σ σ')) := by
  refine MC.ofI (own := RX8) pl_X8 rfl (Nat.le_of_ble_eq_true rfl) ?_
  intro pp ee ss mm aa bb hh cc AA QQ G hT hnm RET
  refine v_loc (L' := [(0, .ref (ad 43)), (1, .int (nI p)), (2, .int (nI j))]) rfl ?_
  obtain ⟨⟨vn, hvn, evn⟩, ⟨c, hc, ec⟩, hmood, ⟨ve, hve, eve⟩, vk, hvk, evk⟩ := hO.1.2.1 p hp
  have evn : σ.1 10 (5 * p) = nI vn := evn
  have ec : σ.1 10 (5 * p + 1) = nI c := ec
  have eve : σ.1 10 (5 * p + 3) = nI ve := eve
  have evk : σ.1 10 (5 * p + 4) = nI vk := evk
  have esc : s_c (co σ) p = c := by rw [s_c, cq10, ec]; exact nI_clamp (by omega)
  refine v_aload_n G 0 dX8_feelsOf_0 rfl ?_
  refine m_get (v := .ref (ad 10)) G 10 (by decide) rfl q1304 rfl dX8_feelsOf_1 ?_
  refine v_iconst (v := 5) G dX8_feelsOf_4 rfl ?_
  refine v_iload_n G 1 dX8_feelsOf_5 rfl ?_
  refine v_imul G dX8_feelsOf_6 ?_
  refine v_iconst (v := 4) G dX8_feelsOf_7 rfl ?_
  refine v_iadd G dX8_feelsOf_8 ?_
  refine m_iald G 10 rfl ((5 * p) + 4) (ix_add (ix_mul (ix_lit 5 rfl) rfl) (ix_lit 4 rfl)) (show (5 * p) + 4 < 25 by first | omega | assumption | decide) dX8_feelsOf_9 ?_
  refine v_istore_n (L' := [(3, .int (σ.1 10 ((5 * p) + 4))), (0, .ref (ad 43)), (1, .int (nI p)), (2, .int (nI j))]) G dX8_feelsOf_10 (by decide) rfl ?_
  refine v_iload_n G 0 dX8_feelsOf_11 rfl ?_
  refine v_iconst (v := 5) G dX8_feelsOf_12 rfl ?_
  refine v_icmp_ne (tgt := 18) G dX8_feelsOf_13 (by decide) (fun h13 => ?_) (fun h13 => ?_)
  · have n13 := (not_congr (cmp_eq (x := σ.1 10 ((5 * p) + 4)) (y := 5) (a := vk) (b := 5) evk (ix_lit 5 rfl) (by omega) (by omega))).mp h13
    refine v_aload_n G 1 dX8_feelsOf_18 rfl ?_
    refine v_iconst (v := 2) G dX8_feelsOf_19 rfl ?_
    refine v_iload_n G 2 dX8_feelsOf_20 rfl ?_
    refine v_iload_n G 3 dX8_feelsOf_21 rfl ?_
    refine v_stk (st' := [.int (nI j), .int (nI p), .int (nI 2), .ref (ad 43)]) (by first | rfl | (have e0 : 2 = nI 2 := (ix_lit 2 rfl) ; simp only [e0])) ?_
    refine w_callVi G hK hT (kX8_says hK l dC dI ct ad σ 2 p (nI j) (co σ 9 j) hO (by omega) hp (Or.inr ⟨j, hj, rfl, rfl⟩)) (ck_X8_358 G.2.2.2.2.1 ⟨Nat.le_of_ble_eq_true rfl, Nat.le_of_ble_eq_true rfl⟩) m_recv (fun _ h => h) rfl [] rfl (Nat.le_of_ble_eq_true rfl) dX8_feelsOf_22 ⟨Nat.le_of_ble_eq_true rfl, Nat.le_of_ble_eq_true rfl⟩ (k1 := 0) (n1 := 0) rfl rfl ?_
    rintro r22 σ22 ⟨rfl, h22_a⟩
    refine v_istore (L' := [(4, .int (s_says (co σ) 2 p (co σ 9 j))), (3, .int (σ.1 10 ((5 * p) + 4))), (0, .ref (ad 43)), (1, .int (nI p)), (2, .int (nI j))]) G dX8_feelsOf_25 (by decide) rfl ?_
    refine v_iload G 0 dX8_feelsOf_27 rfl ?_
    refine v_if_ge (tgt := 36) G dX8_feelsOf_29 (by decide) (fun h29 => ?_) (fun h29 => ?_)
    · refine v_iload G 0 dX8_feelsOf_36 rfl ?_
      refine v_istore (L' := [(5, .int (s_says (co σ) 2 p (co σ 9 j))), (4, .int (s_says (co σ) 2 p (co σ 9 j))), (3, .int (σ.1 10 ((5 * p) + 4))), (0, .ref (ad 43)), (1, .int (nI p)), (2, .int (nI j))]) G dX8_feelsOf_38 (by decide) rfl ?_
      refine v_aload_n G 3 dX8_feelsOf_40 rfl ?_
      refine m_get (v := .ref (ad 10)) G 10 (by decide) rfl q1304 rfl dX8_feelsOf_41 ?_
      refine v_iconst (v := 5) G dX8_feelsOf_44 rfl ?_
      refine v_iload_n G 4 dX8_feelsOf_45 rfl ?_
      refine v_imul G dX8_feelsOf_46 ?_
      refine v_iconst (v := 3) G dX8_feelsOf_47 rfl ?_
      refine v_iadd G dX8_feelsOf_48 ?_
      refine m_iald G 10 rfl ((5 * p) + 3) (ix_add (ix_mul (ix_lit 5 rfl) rfl) (ix_lit 3 rfl)) (show (5 * p) + 3 < 25 by first | omega | assumption | decide) dX8_feelsOf_49 ?_
      refine v_topr (congrArg Value.int (show σ22.1 10 ((5 * p) + 3) = σ.1 10 ((5 * p) + 3) from (ag_at h22_a (by decide)))) ?_
      refine v_iconst (v := 2) G dX8_feelsOf_50 rfl ?_
      refine v_icmp_le (tgt := 60) G dX8_feelsOf_51 (by decide) (fun h51 => ?_) (fun h51 => ?_)
      · have n51 := (cmp_le (x := σ.1 10 ((5 * p) + 3)) (y := 2) (a := ve) (b := 2) eve (ix_lit 2 rfl) (by omega) (by omega)).mp h51
        refine v_iload G 1 dX8_feelsOf_60 rfl ?_
        refine v_istore (L' := [(6, .int (s_says (co σ) 2 p (co σ 9 j))), (5, .int (s_says (co σ) 2 p (co σ 9 j))), (4, .int (s_says (co σ) 2 p (co σ 9 j))), (3, .int (σ.1 10 ((5 * p) + 4))), (0, .ref (ad 43)), (1, .int (nI p)), (2, .int (nI j))]) G dX8_feelsOf_62 (by decide) rfl ?_
        refine v_iload_n G 3 dX8_feelsOf_64 rfl ?_
        refine v_iconst (v := 1) G dX8_feelsOf_65 rfl ?_
        refine v_icmp_ne (tgt := 74) G dX8_feelsOf_66 (by decide) (fun h66 => ?_) (fun h66 => ?_)
        · have n66 := (not_congr (cmp_eq (x := σ.1 10 ((5 * p) + 4)) (y := 1) (a := vk) (b := 1) evk (ix_lit 1 rfl) (by omega) (by omega))).mp h66
          refine v_iload_n G 3 dX8_feelsOf_74 rfl ?_
          refine v_iconst (v := 3) G dX8_feelsOf_75 rfl ?_
          refine v_icmp_ne (tgt := 86) G dX8_feelsOf_76 (by decide) (fun h76 => ?_) (fun h76 => ?_)
          · have n76 := (not_congr (cmp_eq (x := σ.1 10 ((5 * p) + 4)) (y := 3) (a := vk) (b := 3) evk (ix_lit 3 rfl) (by omega) (by omega))).mp h76
            refine v_iload_n G 3 dX8_feelsOf_86 rfl ?_
            refine v_iconst (v := 2) G dX8_feelsOf_87 rfl ?_
            refine v_icmp_ne (tgt := 96) G dX8_feelsOf_88 (by decide) (fun h88 => ?_) (fun h88 => ?_)
            · have n88 := (not_congr (cmp_eq (x := σ.1 10 ((5 * p) + 4)) (y := 2) (a := vk) (b := 2) evk (ix_lit 2 rfl) (by omega) (by omega))).mp h88
              refine v_iload_n G 3 dX8_feelsOf_96 rfl ?_
              refine v_iconst (v := 4) G dX8_feelsOf_97 rfl ?_
              refine v_icmp_ne (tgt := 115) G dX8_feelsOf_98 (by decide) (fun h98 => ?_) (fun h98 => ?_)
              · have n98 := (not_congr (cmp_eq (x := σ.1 10 ((5 * p) + 4)) (y := 4) (a := vk) (b := 4) evk (ix_lit 4 rfl) (by omega) (by omega))).mp h98
                refine v_iload G 2 dX8_feelsOf_115 rfl ?_
                refine RET _ _ _ _ _ _ rfl (Nat.le_of_ble_eq_true rfl) (Nat.le_of_ble_eq_true rfl) dX8_feelsOf_117 (fun ws hw => ⟨_, hw, ?_⟩)
                clear RET G hT hnm
                refine ⟨?_, h22_a⟩
                simp only [s_feels, s_feelv, cq1, cq2, cq3, cq4, cq5, cq6, cq7, cq8, cq9, cq10, cq11] at *
                grind
              · have n98 := (cmp_eq (x := σ.1 10 ((5 * p) + 4)) (y := 4) (a := vk) (b := 4) evk (ix_lit 4 rfl) (by omega) (by omega)).mp h98
                refine v_iload G 0 dX8_feelsOf_101 rfl ?_
                refine v_aload_n G 4 dX8_feelsOf_103 rfl ?_
                refine m_get (v := .ref (ad 10)) G 10 (by decide) rfl q1304 rfl dX8_feelsOf_104 ?_
                refine v_iconst (v := 5) G dX8_feelsOf_107 rfl ?_
                refine v_iload_n G 5 dX8_feelsOf_108 rfl ?_
                refine v_imul G dX8_feelsOf_109 ?_
                refine m_iald G 10 rfl (5 * p) (ix_mul (ix_lit 5 rfl) rfl) (show 5 * p < 25 by first | omega | assumption | decide) dX8_feelsOf_110 ?_
                refine v_topr (congrArg Value.int (show σ22.1 10 (5 * p) = σ.1 10 (5 * p) from (ag_at h22_a (by decide)))) ?_
                refine v_iadd G dX8_feelsOf_111 ?_
                refine v_goto (tgt := 117) G dX8_feelsOf_112 (by decide) ?_
                refine RET _ _ _ _ _ _ rfl (Nat.le_of_ble_eq_true rfl) (Nat.le_of_ble_eq_true rfl) dX8_feelsOf_117 (fun ws hw => ⟨_, hw, ?_⟩)
                clear RET G hT hnm
                refine ⟨?_, h22_a⟩
                simp only [s_feels, s_feelv, cq1, cq2, cq3, cq4, cq5, cq6, cq7, cq8, cq9, cq10, cq11] at *
                grind
            · have n88 := (cmp_eq (x := σ.1 10 ((5 * p) + 4)) (y := 2) (a := vk) (b := 2) evk (ix_lit 2 rfl) (by omega) (by omega)).mp h88
              refine v_iload G 0 dX8_feelsOf_91 rfl ?_
              refine v_goto (tgt := 117) G dX8_feelsOf_93 (by decide) ?_
              refine RET _ _ _ _ _ _ rfl (Nat.le_of_ble_eq_true rfl) (Nat.le_of_ble_eq_true rfl) dX8_feelsOf_117 (fun ws hw => ⟨_, hw, ?_⟩)
              clear RET G hT hnm
              refine ⟨?_, h22_a⟩
              simp only [s_feels, s_feelv, cq1, cq2, cq3, cq4, cq5, cq6, cq7, cq8, cq9, cq10, cq11] at *
              grind
          · have n76 := (cmp_eq (x := σ.1 10 ((5 * p) + 4)) (y := 3) (a := vk) (b := 3) evk (ix_lit 3 rfl) (by omega) (by omega)).mp h76
            refine v_iconst (v := 2) G dX8_feelsOf_79 rfl ?_
            refine v_iload G 1 dX8_feelsOf_80 rfl ?_
            refine v_imul G dX8_feelsOf_82 ?_
            refine v_goto (tgt := 117) G dX8_feelsOf_83 (by decide) ?_
            refine RET _ _ _ _ _ _ rfl (Nat.le_of_ble_eq_true rfl) (Nat.le_of_ble_eq_true rfl) dX8_feelsOf_117 (fun ws hw => ⟨_, hw, ?_⟩)
            clear RET G hT hnm
            refine ⟨?_, h22_a⟩
            simp only [s_feels, s_feelv, cq1, cq2, cq3, cq4, cq5, cq6, cq7, cq8, cq9, cq10, cq11] at *
            grind
        · have n66 := (cmp_eq (x := σ.1 10 ((5 * p) + 4)) (y := 1) (a := vk) (b := 1) evk (ix_lit 1 rfl) (by omega) (by omega)).mp h66
          refine v_iload G 1 dX8_feelsOf_69 rfl ?_
          refine v_goto (tgt := 117) G dX8_feelsOf_71 (by decide) ?_
          refine RET _ _ _ _ _ _ rfl (Nat.le_of_ble_eq_true rfl) (Nat.le_of_ble_eq_true rfl) dX8_feelsOf_117 (fun ws hw => ⟨_, hw, ?_⟩)
          clear RET G hT hnm
          refine ⟨?_, h22_a⟩
          simp only [s_feels, s_feelv, cq1, cq2, cq3, cq4, cq5, cq6, cq7, cq8, cq9, cq10, cq11] at *
          grind
      · have n51 := (not_congr (cmp_le (x := σ.1 10 ((5 * p) + 3)) (y := 2) (a := ve) (b := 2) eve (ix_lit 2 rfl) (by omega) (by omega))).mp h51
        refine v_iload G 1 dX8_feelsOf_54 rfl ?_
        refine v_ineg G dX8_feelsOf_56 ?_
        refine v_goto (tgt := 62) G dX8_feelsOf_57 (by decide) ?_
        refine v_istore (L' := [(6, .int (-(s_says (co σ) 2 p (co σ 9 j)))), (5, .int (s_says (co σ) 2 p (co σ 9 j))), (4, .int (s_says (co σ) 2 p (co σ 9 j))), (3, .int (σ.1 10 ((5 * p) + 4))), (0, .ref (ad 43)), (1, .int (nI p)), (2, .int (nI j))]) G dX8_feelsOf_62 (by decide) rfl ?_
        refine v_iload_n G 3 dX8_feelsOf_64 rfl ?_
        refine v_iconst (v := 1) G dX8_feelsOf_65 rfl ?_
        refine v_icmp_ne (tgt := 74) G dX8_feelsOf_66 (by decide) (fun h66 => ?_) (fun h66 => ?_)
        · have n66 := (not_congr (cmp_eq (x := σ.1 10 ((5 * p) + 4)) (y := 1) (a := vk) (b := 1) evk (ix_lit 1 rfl) (by omega) (by omega))).mp h66
          refine v_iload_n G 3 dX8_feelsOf_74 rfl ?_
          refine v_iconst (v := 3) G dX8_feelsOf_75 rfl ?_
          refine v_icmp_ne (tgt := 86) G dX8_feelsOf_76 (by decide) (fun h76 => ?_) (fun h76 => ?_)
          · have n76 := (not_congr (cmp_eq (x := σ.1 10 ((5 * p) + 4)) (y := 3) (a := vk) (b := 3) evk (ix_lit 3 rfl) (by omega) (by omega))).mp h76
            refine v_iload_n G 3 dX8_feelsOf_86 rfl ?_
            refine v_iconst (v := 2) G dX8_feelsOf_87 rfl ?_
            refine v_icmp_ne (tgt := 96) G dX8_feelsOf_88 (by decide) (fun h88 => ?_) (fun h88 => ?_)
            · have n88 := (not_congr (cmp_eq (x := σ.1 10 ((5 * p) + 4)) (y := 2) (a := vk) (b := 2) evk (ix_lit 2 rfl) (by omega) (by omega))).mp h88
              refine v_iload_n G 3 dX8_feelsOf_96 rfl ?_
              refine v_iconst (v := 4) G dX8_feelsOf_97 rfl ?_
              refine v_icmp_ne (tgt := 115) G dX8_feelsOf_98 (by decide) (fun h98 => ?_) (fun h98 => ?_)
              · have n98 := (not_congr (cmp_eq (x := σ.1 10 ((5 * p) + 4)) (y := 4) (a := vk) (b := 4) evk (ix_lit 4 rfl) (by omega) (by omega))).mp h98
                refine v_iload G 2 dX8_feelsOf_115 rfl ?_
                refine RET _ _ _ _ _ _ rfl (Nat.le_of_ble_eq_true rfl) (Nat.le_of_ble_eq_true rfl) dX8_feelsOf_117 (fun ws hw => ⟨_, hw, ?_⟩)
                clear RET G hT hnm
                refine ⟨?_, h22_a⟩
                simp only [s_feels, s_feelv, cq1, cq2, cq3, cq4, cq5, cq6, cq7, cq8, cq9, cq10, cq11] at *
                grind
              · have n98 := (cmp_eq (x := σ.1 10 ((5 * p) + 4)) (y := 4) (a := vk) (b := 4) evk (ix_lit 4 rfl) (by omega) (by omega)).mp h98
                refine v_iload G 0 dX8_feelsOf_101 rfl ?_
                refine v_aload_n G 4 dX8_feelsOf_103 rfl ?_
                refine m_get (v := .ref (ad 10)) G 10 (by decide) rfl q1304 rfl dX8_feelsOf_104 ?_
                refine v_iconst (v := 5) G dX8_feelsOf_107 rfl ?_
                refine v_iload_n G 5 dX8_feelsOf_108 rfl ?_
                refine v_imul G dX8_feelsOf_109 ?_
                refine m_iald G 10 rfl (5 * p) (ix_mul (ix_lit 5 rfl) rfl) (show 5 * p < 25 by first | omega | assumption | decide) dX8_feelsOf_110 ?_
                refine v_topr (congrArg Value.int (show σ22.1 10 (5 * p) = σ.1 10 (5 * p) from (ag_at h22_a (by decide)))) ?_
                refine v_iadd G dX8_feelsOf_111 ?_
                refine v_goto (tgt := 117) G dX8_feelsOf_112 (by decide) ?_
                refine RET _ _ _ _ _ _ rfl (Nat.le_of_ble_eq_true rfl) (Nat.le_of_ble_eq_true rfl) dX8_feelsOf_117 (fun ws hw => ⟨_, hw, ?_⟩)
                clear RET G hT hnm
                refine ⟨?_, h22_a⟩
                simp only [s_feels, s_feelv, cq1, cq2, cq3, cq4, cq5, cq6, cq7, cq8, cq9, cq10, cq11] at *
                grind
            · have n88 := (cmp_eq (x := σ.1 10 ((5 * p) + 4)) (y := 2) (a := vk) (b := 2) evk (ix_lit 2 rfl) (by omega) (by omega)).mp h88
              refine v_iload G 0 dX8_feelsOf_91 rfl ?_
              refine v_goto (tgt := 117) G dX8_feelsOf_93 (by decide) ?_
              refine RET _ _ _ _ _ _ rfl (Nat.le_of_ble_eq_true rfl) (Nat.le_of_ble_eq_true rfl) dX8_feelsOf_117 (fun ws hw => ⟨_, hw, ?_⟩)
              clear RET G hT hnm
              refine ⟨?_, h22_a⟩
              simp only [s_feels, s_feelv, cq1, cq2, cq3, cq4, cq5, cq6, cq7, cq8, cq9, cq10, cq11] at *
              grind
          · have n76 := (cmp_eq (x := σ.1 10 ((5 * p) + 4)) (y := 3) (a := vk) (b := 3) evk (ix_lit 3 rfl) (by omega) (by omega)).mp h76
            refine v_iconst (v := 2) G dX8_feelsOf_79 rfl ?_
            refine v_iload G 1 dX8_feelsOf_80 rfl ?_
            refine v_imul G dX8_feelsOf_82 ?_
            refine v_goto (tgt := 117) G dX8_feelsOf_83 (by decide) ?_
            refine RET _ _ _ _ _ _ rfl (Nat.le_of_ble_eq_true rfl) (Nat.le_of_ble_eq_true rfl) dX8_feelsOf_117 (fun ws hw => ⟨_, hw, ?_⟩)
            clear RET G hT hnm
            refine ⟨?_, h22_a⟩
            simp only [s_feels, s_feelv, cq1, cq2, cq3, cq4, cq5, cq6, cq7, cq8, cq9, cq10, cq11] at *
            grind
        · have n66 := (cmp_eq (x := σ.1 10 ((5 * p) + 4)) (y := 1) (a := vk) (b := 1) evk (ix_lit 1 rfl) (by omega) (by omega)).mp h66
          refine v_iload G 1 dX8_feelsOf_69 rfl ?_
          refine v_goto (tgt := 117) G dX8_feelsOf_71 (by decide) ?_
          refine RET _ _ _ _ _ _ rfl (Nat.le_of_ble_eq_true rfl) (Nat.le_of_ble_eq_true rfl) dX8_feelsOf_117 (fun ws hw => ⟨_, hw, ?_⟩)
          clear RET G hT hnm
          refine ⟨?_, h22_a⟩
          simp only [s_feels, s_feelv, cq1, cq2, cq3, cq4, cq5, cq6, cq7, cq8, cq9, cq10, cq11] at *
          grind
    · refine v_iconst (v := 0) G dX8_feelsOf_32 rfl ?_
      refine v_goto (tgt := 38) G dX8_feelsOf_33 (by decide) ?_
      refine v_istore (L' := [(5, .int 0), (4, .int (s_says (co σ) 2 p (co σ 9 j))), (3, .int (σ.1 10 ((5 * p) + 4))), (0, .ref (ad 43)), (1, .int (nI p)), (2, .int (nI j))]) G dX8_feelsOf_38 (by decide) rfl ?_
      refine v_aload_n G 3 dX8_feelsOf_40 rfl ?_
      refine m_get (v := .ref (ad 10)) G 10 (by decide) rfl q1304 rfl dX8_feelsOf_41 ?_
      refine v_iconst (v := 5) G dX8_feelsOf_44 rfl ?_
      refine v_iload_n G 4 dX8_feelsOf_45 rfl ?_
      refine v_imul G dX8_feelsOf_46 ?_
      refine v_iconst (v := 3) G dX8_feelsOf_47 rfl ?_
      refine v_iadd G dX8_feelsOf_48 ?_
      refine m_iald G 10 rfl ((5 * p) + 3) (ix_add (ix_mul (ix_lit 5 rfl) rfl) (ix_lit 3 rfl)) (show (5 * p) + 3 < 25 by first | omega | assumption | decide) dX8_feelsOf_49 ?_
      refine v_topr (congrArg Value.int (show σ22.1 10 ((5 * p) + 3) = σ.1 10 ((5 * p) + 3) from (ag_at h22_a (by decide)))) ?_
      refine v_iconst (v := 2) G dX8_feelsOf_50 rfl ?_
      refine v_icmp_le (tgt := 60) G dX8_feelsOf_51 (by decide) (fun h51 => ?_) (fun h51 => ?_)
      · have n51 := (cmp_le (x := σ.1 10 ((5 * p) + 3)) (y := 2) (a := ve) (b := 2) eve (ix_lit 2 rfl) (by omega) (by omega)).mp h51
        refine v_iload G 1 dX8_feelsOf_60 rfl ?_
        refine v_istore (L' := [(6, .int (s_says (co σ) 2 p (co σ 9 j))), (5, .int 0), (4, .int (s_says (co σ) 2 p (co σ 9 j))), (3, .int (σ.1 10 ((5 * p) + 4))), (0, .ref (ad 43)), (1, .int (nI p)), (2, .int (nI j))]) G dX8_feelsOf_62 (by decide) rfl ?_
        refine v_iload_n G 3 dX8_feelsOf_64 rfl ?_
        refine v_iconst (v := 1) G dX8_feelsOf_65 rfl ?_
        refine v_icmp_ne (tgt := 74) G dX8_feelsOf_66 (by decide) (fun h66 => ?_) (fun h66 => ?_)
        · have n66 := (not_congr (cmp_eq (x := σ.1 10 ((5 * p) + 4)) (y := 1) (a := vk) (b := 1) evk (ix_lit 1 rfl) (by omega) (by omega))).mp h66
          refine v_iload_n G 3 dX8_feelsOf_74 rfl ?_
          refine v_iconst (v := 3) G dX8_feelsOf_75 rfl ?_
          refine v_icmp_ne (tgt := 86) G dX8_feelsOf_76 (by decide) (fun h76 => ?_) (fun h76 => ?_)
          · have n76 := (not_congr (cmp_eq (x := σ.1 10 ((5 * p) + 4)) (y := 3) (a := vk) (b := 3) evk (ix_lit 3 rfl) (by omega) (by omega))).mp h76
            refine v_iload_n G 3 dX8_feelsOf_86 rfl ?_
            refine v_iconst (v := 2) G dX8_feelsOf_87 rfl ?_
            refine v_icmp_ne (tgt := 96) G dX8_feelsOf_88 (by decide) (fun h88 => ?_) (fun h88 => ?_)
            · have n88 := (not_congr (cmp_eq (x := σ.1 10 ((5 * p) + 4)) (y := 2) (a := vk) (b := 2) evk (ix_lit 2 rfl) (by omega) (by omega))).mp h88
              refine v_iload_n G 3 dX8_feelsOf_96 rfl ?_
              refine v_iconst (v := 4) G dX8_feelsOf_97 rfl ?_
              refine v_icmp_ne (tgt := 115) G dX8_feelsOf_98 (by decide) (fun h98 => ?_) (fun h98 => ?_)
              · have n98 := (not_congr (cmp_eq (x := σ.1 10 ((5 * p) + 4)) (y := 4) (a := vk) (b := 4) evk (ix_lit 4 rfl) (by omega) (by omega))).mp h98
                refine v_iload G 2 dX8_feelsOf_115 rfl ?_
                refine RET _ _ _ _ _ _ rfl (Nat.le_of_ble_eq_true rfl) (Nat.le_of_ble_eq_true rfl) dX8_feelsOf_117 (fun ws hw => ⟨_, hw, ?_⟩)
                clear RET G hT hnm
                refine ⟨?_, h22_a⟩
                simp only [s_feels, s_feelv, cq1, cq2, cq3, cq4, cq5, cq6, cq7, cq8, cq9, cq10, cq11] at *
                grind
              · have n98 := (cmp_eq (x := σ.1 10 ((5 * p) + 4)) (y := 4) (a := vk) (b := 4) evk (ix_lit 4 rfl) (by omega) (by omega)).mp h98
                refine v_iload G 0 dX8_feelsOf_101 rfl ?_
                refine v_aload_n G 4 dX8_feelsOf_103 rfl ?_
                refine m_get (v := .ref (ad 10)) G 10 (by decide) rfl q1304 rfl dX8_feelsOf_104 ?_
                refine v_iconst (v := 5) G dX8_feelsOf_107 rfl ?_
                refine v_iload_n G 5 dX8_feelsOf_108 rfl ?_
                refine v_imul G dX8_feelsOf_109 ?_
                refine m_iald G 10 rfl (5 * p) (ix_mul (ix_lit 5 rfl) rfl) (show 5 * p < 25 by first | omega | assumption | decide) dX8_feelsOf_110 ?_
                refine v_topr (congrArg Value.int (show σ22.1 10 (5 * p) = σ.1 10 (5 * p) from (ag_at h22_a (by decide)))) ?_
                refine v_iadd G dX8_feelsOf_111 ?_
                refine v_goto (tgt := 117) G dX8_feelsOf_112 (by decide) ?_
                refine RET _ _ _ _ _ _ rfl (Nat.le_of_ble_eq_true rfl) (Nat.le_of_ble_eq_true rfl) dX8_feelsOf_117 (fun ws hw => ⟨_, hw, ?_⟩)
                clear RET G hT hnm
                refine ⟨?_, h22_a⟩
                simp only [s_feels, s_feelv, cq1, cq2, cq3, cq4, cq5, cq6, cq7, cq8, cq9, cq10, cq11] at *
                grind
            · have n88 := (cmp_eq (x := σ.1 10 ((5 * p) + 4)) (y := 2) (a := vk) (b := 2) evk (ix_lit 2 rfl) (by omega) (by omega)).mp h88
              refine v_iload G 0 dX8_feelsOf_91 rfl ?_
              refine v_goto (tgt := 117) G dX8_feelsOf_93 (by decide) ?_
              refine RET _ _ _ _ _ _ rfl (Nat.le_of_ble_eq_true rfl) (Nat.le_of_ble_eq_true rfl) dX8_feelsOf_117 (fun ws hw => ⟨_, hw, ?_⟩)
              clear RET G hT hnm
              refine ⟨?_, h22_a⟩
              simp only [s_feels, s_feelv, cq1, cq2, cq3, cq4, cq5, cq6, cq7, cq8, cq9, cq10, cq11] at *
              grind
          · have n76 := (cmp_eq (x := σ.1 10 ((5 * p) + 4)) (y := 3) (a := vk) (b := 3) evk (ix_lit 3 rfl) (by omega) (by omega)).mp h76
            refine v_iconst (v := 2) G dX8_feelsOf_79 rfl ?_
            refine v_iload G 1 dX8_feelsOf_80 rfl ?_
            refine v_imul G dX8_feelsOf_82 ?_
            refine v_goto (tgt := 117) G dX8_feelsOf_83 (by decide) ?_
            refine RET _ _ _ _ _ _ rfl (Nat.le_of_ble_eq_true rfl) (Nat.le_of_ble_eq_true rfl) dX8_feelsOf_117 (fun ws hw => ⟨_, hw, ?_⟩)
            clear RET G hT hnm
            refine ⟨?_, h22_a⟩
            simp only [s_feels, s_feelv, cq1, cq2, cq3, cq4, cq5, cq6, cq7, cq8, cq9, cq10, cq11] at *
            grind
        · have n66 := (cmp_eq (x := σ.1 10 ((5 * p) + 4)) (y := 1) (a := vk) (b := 1) evk (ix_lit 1 rfl) (by omega) (by omega)).mp h66
          refine v_iload G 1 dX8_feelsOf_69 rfl ?_
          refine v_goto (tgt := 117) G dX8_feelsOf_71 (by decide) ?_
          refine RET _ _ _ _ _ _ rfl (Nat.le_of_ble_eq_true rfl) (Nat.le_of_ble_eq_true rfl) dX8_feelsOf_117 (fun ws hw => ⟨_, hw, ?_⟩)
          clear RET G hT hnm
          refine ⟨?_, h22_a⟩
          simp only [s_feels, s_feelv, cq1, cq2, cq3, cq4, cq5, cq6, cq7, cq8, cq9, cq10, cq11] at *
          grind
      · have n51 := (not_congr (cmp_le (x := σ.1 10 ((5 * p) + 3)) (y := 2) (a := ve) (b := 2) eve (ix_lit 2 rfl) (by omega) (by omega))).mp h51
        refine v_iload G 1 dX8_feelsOf_54 rfl ?_
        refine v_ineg G dX8_feelsOf_56 ?_
        refine v_goto (tgt := 62) G dX8_feelsOf_57 (by decide) ?_
        refine v_istore (L' := [(6, .int (-(s_says (co σ) 2 p (co σ 9 j)))), (5, .int 0), (4, .int (s_says (co σ) 2 p (co σ 9 j))), (3, .int (σ.1 10 ((5 * p) + 4))), (0, .ref (ad 43)), (1, .int (nI p)), (2, .int (nI j))]) G dX8_feelsOf_62 (by decide) rfl ?_
        refine v_iload_n G 3 dX8_feelsOf_64 rfl ?_
        refine v_iconst (v := 1) G dX8_feelsOf_65 rfl ?_
        refine v_icmp_ne (tgt := 74) G dX8_feelsOf_66 (by decide) (fun h66 => ?_) (fun h66 => ?_)
        · have n66 := (not_congr (cmp_eq (x := σ.1 10 ((5 * p) + 4)) (y := 1) (a := vk) (b := 1) evk (ix_lit 1 rfl) (by omega) (by omega))).mp h66
          refine v_iload_n G 3 dX8_feelsOf_74 rfl ?_
          refine v_iconst (v := 3) G dX8_feelsOf_75 rfl ?_
          refine v_icmp_ne (tgt := 86) G dX8_feelsOf_76 (by decide) (fun h76 => ?_) (fun h76 => ?_)
          · have n76 := (not_congr (cmp_eq (x := σ.1 10 ((5 * p) + 4)) (y := 3) (a := vk) (b := 3) evk (ix_lit 3 rfl) (by omega) (by omega))).mp h76
            refine v_iload_n G 3 dX8_feelsOf_86 rfl ?_
            refine v_iconst (v := 2) G dX8_feelsOf_87 rfl ?_
            refine v_icmp_ne (tgt := 96) G dX8_feelsOf_88 (by decide) (fun h88 => ?_) (fun h88 => ?_)
            · have n88 := (not_congr (cmp_eq (x := σ.1 10 ((5 * p) + 4)) (y := 2) (a := vk) (b := 2) evk (ix_lit 2 rfl) (by omega) (by omega))).mp h88
              refine v_iload_n G 3 dX8_feelsOf_96 rfl ?_
              refine v_iconst (v := 4) G dX8_feelsOf_97 rfl ?_
              refine v_icmp_ne (tgt := 115) G dX8_feelsOf_98 (by decide) (fun h98 => ?_) (fun h98 => ?_)
              · have n98 := (not_congr (cmp_eq (x := σ.1 10 ((5 * p) + 4)) (y := 4) (a := vk) (b := 4) evk (ix_lit 4 rfl) (by omega) (by omega))).mp h98
                refine v_iload G 2 dX8_feelsOf_115 rfl ?_
                refine RET _ _ _ _ _ _ rfl (Nat.le_of_ble_eq_true rfl) (Nat.le_of_ble_eq_true rfl) dX8_feelsOf_117 (fun ws hw => ⟨_, hw, ?_⟩)
                clear RET G hT hnm
                refine ⟨?_, h22_a⟩
                simp only [s_feels, s_feelv, cq1, cq2, cq3, cq4, cq5, cq6, cq7, cq8, cq9, cq10, cq11] at *
                grind
              · have n98 := (cmp_eq (x := σ.1 10 ((5 * p) + 4)) (y := 4) (a := vk) (b := 4) evk (ix_lit 4 rfl) (by omega) (by omega)).mp h98
                refine v_iload G 0 dX8_feelsOf_101 rfl ?_
                refine v_aload_n G 4 dX8_feelsOf_103 rfl ?_
                refine m_get (v := .ref (ad 10)) G 10 (by decide) rfl q1304 rfl dX8_feelsOf_104 ?_
                refine v_iconst (v := 5) G dX8_feelsOf_107 rfl ?_
                refine v_iload_n G 5 dX8_feelsOf_108 rfl ?_
                refine v_imul G dX8_feelsOf_109 ?_
                refine m_iald G 10 rfl (5 * p) (ix_mul (ix_lit 5 rfl) rfl) (show 5 * p < 25 by first | omega | assumption | decide) dX8_feelsOf_110 ?_
                refine v_topr (congrArg Value.int (show σ22.1 10 (5 * p) = σ.1 10 (5 * p) from (ag_at h22_a (by decide)))) ?_
                refine v_iadd G dX8_feelsOf_111 ?_
                refine v_goto (tgt := 117) G dX8_feelsOf_112 (by decide) ?_
                refine RET _ _ _ _ _ _ rfl (Nat.le_of_ble_eq_true rfl) (Nat.le_of_ble_eq_true rfl) dX8_feelsOf_117 (fun ws hw => ⟨_, hw, ?_⟩)
                clear RET G hT hnm
                refine ⟨?_, h22_a⟩
                simp only [s_feels, s_feelv, cq1, cq2, cq3, cq4, cq5, cq6, cq7, cq8, cq9, cq10, cq11] at *
                grind
            · have n88 := (cmp_eq (x := σ.1 10 ((5 * p) + 4)) (y := 2) (a := vk) (b := 2) evk (ix_lit 2 rfl) (by omega) (by omega)).mp h88
              refine v_iload G 0 dX8_feelsOf_91 rfl ?_
              refine v_goto (tgt := 117) G dX8_feelsOf_93 (by decide) ?_
              refine RET _ _ _ _ _ _ rfl (Nat.le_of_ble_eq_true rfl) (Nat.le_of_ble_eq_true rfl) dX8_feelsOf_117 (fun ws hw => ⟨_, hw, ?_⟩)
              clear RET G hT hnm
              refine ⟨?_, h22_a⟩
              simp only [s_feels, s_feelv, cq1, cq2, cq3, cq4, cq5, cq6, cq7, cq8, cq9, cq10, cq11] at *
              grind
          · have n76 := (cmp_eq (x := σ.1 10 ((5 * p) + 4)) (y := 3) (a := vk) (b := 3) evk (ix_lit 3 rfl) (by omega) (by omega)).mp h76
            refine v_iconst (v := 2) G dX8_feelsOf_79 rfl ?_
            refine v_iload G 1 dX8_feelsOf_80 rfl ?_
            refine v_imul G dX8_feelsOf_82 ?_
            refine v_goto (tgt := 117) G dX8_feelsOf_83 (by decide) ?_
            refine RET _ _ _ _ _ _ rfl (Nat.le_of_ble_eq_true rfl) (Nat.le_of_ble_eq_true rfl) dX8_feelsOf_117 (fun ws hw => ⟨_, hw, ?_⟩)
            clear RET G hT hnm
            refine ⟨?_, h22_a⟩
            simp only [s_feels, s_feelv, cq1, cq2, cq3, cq4, cq5, cq6, cq7, cq8, cq9, cq10, cq11] at *
            grind
        · have n66 := (cmp_eq (x := σ.1 10 ((5 * p) + 4)) (y := 1) (a := vk) (b := 1) evk (ix_lit 1 rfl) (by omega) (by omega)).mp h66
          refine v_iload G 1 dX8_feelsOf_69 rfl ?_
          refine v_goto (tgt := 117) G dX8_feelsOf_71 (by decide) ?_
          refine RET _ _ _ _ _ _ rfl (Nat.le_of_ble_eq_true rfl) (Nat.le_of_ble_eq_true rfl) dX8_feelsOf_117 (fun ws hw => ⟨_, hw, ?_⟩)
          clear RET G hT hnm
          refine ⟨?_, h22_a⟩
          simp only [s_feels, s_feelv, cq1, cq2, cq3, cq4, cq5, cq6, cq7, cq8, cq9, cq10, cq11] at *
          grind
  · have n13 := (cmp_eq (x := σ.1 10 ((5 * p) + 4)) (y := 5) (a := vk) (b := 5) evk (ix_lit 5 rfl) (by omega) (by omega)).mp h13
    refine v_iconst (v := 0) G dX8_feelsOf_16 rfl ?_
    refine RET _ _ _ _ _ _ rfl (Nat.le_of_ble_eq_true rfl) (Nat.le_of_ble_eq_true rfl) dX8_feelsOf_17 (fun ws hw => ⟨_, hw, ?_⟩)
    clear RET G hT hnm
    exact ⟨by rw [s_feels, cq10, if_pos h13], ag_rf⟩
def s_tastes (K : GS) (x y : Int32) : Int32 := if rg x 0 ((s_many K : Int) - 1) ∧ rg y 0 23 then s_feels K (n_ x) (n_ y) else -1000
abbrev rmX8_tastes : Room := { frames := 44, cells := 0, slots := 0, locals := 980 }
set_option maxHeartbeats 4000000 in
theorem kX8_tastes {KT : (Nat → Prop) → State → Heap → Prop} (hK : KTok KT) (l : Launch) (dC : Nat → ClassId) (dI : Nat → Nat → Nat) (ct ad : Nat → Nat) (σ : MS) (x : Int32) (y : Int32) (hO : Ok (co σ)) : MC KT (dC, dI) vwCl (tysF ct) l yX8_tastes cX8_tastes 3 (some .int) rmX8_tastes [.ref (ad 43), .int x, .int y] (RM ct ad σ) (QI_ (dC, dI) vwCl (RM ct ad) (fun (r : Int32) (σ' : MS) => (s_tastes (co σ) x y) = r ∧ ag sfr σ σ')) := by
  refine MC.ofI (own := RX8) pl_X8 rfl (Nat.le_of_ble_eq_true rfl) ?_
  intro pp ee ss mm aa bb hh cc AA QQ G hT hnm RET
  refine v_loc (L' := [(0, .ref (ad 43)), (1, .int x), (2, .int y)]) rfl ?_
  obtain ⟨hm5, hm⟩ := many5 hO.1
  have hm : σ.1 11 0 = nI (s_many (co σ)) := hm
  refine v_aload_n G 0 dX8_tastes_0 rfl ?_
  refine v_iload_n G 1 dX8_tastes_1 rfl ?_
  refine w_callVi G hK hT (kX8_isOne hK l dC dI ct ad σ (s_many (co σ)) x hm5 hm) (ck_X8_101 G.2.2.2.2.1 ⟨Nat.le_of_ble_eq_true rfl, Nat.le_of_ble_eq_true rfl⟩) m_recv (fun _ h => h) rfl [] rfl (Nat.le_of_ble_eq_true rfl) dX8_tastes_2 ⟨Nat.le_of_ble_eq_true rfl, Nat.le_of_ble_eq_true rfl⟩ (k1 := 0) (n1 := 0) rfl rfl ?_
  rintro r2 σ2 (⟨rfl, rfl, h2_h⟩ | ⟨rfl, rfl, h2_h⟩)
  · refine v_if_eq (tgt := 24) G dX8_tastes_5 (by decide) (fun h5 => absurd h5 (by decide)) (fun h5 => ?_)
    refine v_iload_n G 2 dX8_tastes_8 rfl ?_
    refine w_callSi G hK hT (kX8_isJar hK l dC dI ct ad σ y) (ck_X8_94 G.2.2.2.2.1 ⟨Nat.le_of_ble_eq_true rfl, Nat.le_of_ble_eq_true rfl⟩) (fun _ h => h) rfl [] rfl (Nat.le_of_ble_eq_true rfl) dX8_tastes_9 ⟨Nat.le_of_ble_eq_true rfl, Nat.le_of_ble_eq_true rfl⟩ (k1 := 0) (n1 := 0) rfl rfl ?_
    rintro r9 σ9 (⟨rfl, rfl, h9_h⟩ | ⟨rfl, rfl, h9_h⟩)
    · refine v_if_eq (tgt := 24) G dX8_tastes_12 (by decide) (fun h12 => absurd h12 (by decide)) (fun h12 => ?_)
      obtain ⟨p, hpm, ep⟩ := rg_lt h2_h (by omega)
      obtain ⟨j, hjj, ej⟩ := rg_nat (n := 23) h9_h (by decide)
      refine v_aload_n G 0 dX8_tastes_15 rfl ?_
      refine v_iload_n G 1 dX8_tastes_16 rfl ?_
      refine v_iload_n G 2 dX8_tastes_17 rfl ?_
      refine v_stk (st' := [.int (nI j), .int (nI p), .ref (ad 43)]) (by first | rfl | (have e0 : x = nI p := ep ; have e1 : y = nI j := ej ; simp only [e0, e1])) ?_
      refine w_callVi G hK hT (kX8_feelsOf hK l dC dI ct ad σ p j (by first | assumption | omega) (by first | assumption | omega) (by first | assumption | omega)) (ck_X8_361 G.2.2.2.2.1 ⟨Nat.le_of_ble_eq_true rfl, Nat.le_of_ble_eq_true rfl⟩) m_recv (fun _ h => h) rfl [] rfl (Nat.le_of_ble_eq_true rfl) dX8_tastes_18 ⟨Nat.le_of_ble_eq_true rfl, Nat.le_of_ble_eq_true rfl⟩ (k1 := 0) (n1 := 0) rfl rfl ?_
      rintro r18 σ18 ⟨rfl, h18_a⟩
      refine v_goto (tgt := 27) G dX8_tastes_21 (by decide) ?_
      refine RET _ _ _ _ _ _ rfl (Nat.le_of_ble_eq_true rfl) (Nat.le_of_ble_eq_true rfl) dX8_tastes_27 (fun ws hw => ⟨_, hw, ?_⟩)
      clear RET G hT hnm
      exact ⟨by rw [s_tastes, if_pos ⟨h2_h, h9_h⟩, ep, ej]; rw [n_, n_, nI_clamp (by omega), nI_clamp (by omega)], h18_a⟩
    · refine v_if_eq (tgt := 24) G dX8_tastes_12 (by decide) (fun h12 => ?_) (fun h12 => absurd h12 (by decide))
      refine v_sipush (v := (-1000)) G dX8_tastes_24 rfl ?_
      refine RET _ _ _ _ _ _ rfl (Nat.le_of_ble_eq_true rfl) (Nat.le_of_ble_eq_true rfl) dX8_tastes_27 (fun ws hw => ⟨_, hw, ?_⟩)
      clear RET G hT hnm
      exact ⟨by rw [s_tastes, if_neg (fun q => by first | exact h2_h q.1 | exact h9_h q.2)], ag_rf⟩
  · refine v_if_eq (tgt := 24) G dX8_tastes_5 (by decide) (fun h5 => ?_) (fun h5 => absurd h5 (by decide))
    refine v_sipush (v := (-1000)) G dX8_tastes_24 rfl ?_
    refine RET _ _ _ _ _ _ rfl (Nat.le_of_ble_eq_true rfl) (Nat.le_of_ble_eq_true rfl) dX8_tastes_27 (fun ws hw => ⟨_, hw, ?_⟩)
    clear RET G hT hnm
    exact ⟨by rw [s_tastes, if_neg (fun q => by first | exact h2_h q.1 | exact h9_h q.2)], ag_rf⟩
