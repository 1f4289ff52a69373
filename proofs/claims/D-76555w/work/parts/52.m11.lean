set_option maxRecDepth 100000
abbrev rmX8_lays : Room := { frames := 0, cells := 0, slots := 0, locals := 0 }
set_option maxHeartbeats 1000000 in
theorem kX8_lays {KT : (Nat → Prop) → State → Heap → Prop} (hK : KTok KT) (l : Launch) (dC : Nat → ClassId) (dI : Nat → Nat → Nat) (ct ad : Nat → Nat) (σ : MS) (k : Nat) (x : Int32) (v : Int32) (hk : k ≤ 8) (hj : k < 2 → ∃ j, j < 24 ∧ x = nI j) (hp : 3 ≤ k → k < 8 → ∃ p, p < 5 ∧ x = nI p) : MC KT (dC, dI) vwCl (tysF ct) l yX8_lays cX8_lays 4 none rmX8_lays [.ref (ad 43), .int (nI k), .int x, .int v] (RM ct ad σ) (QV_ (dC, dI) vwCl (RM ct ad) (fun (σ' : MS) => co σ' = s_lay (co σ) k x v ∧ ag [4, 7, 8, 9, 10] σ σ')) := by
  refine MC.ofV (own := RX8) pl_X8 rfl (Nat.le_of_ble_eq_true rfl) ?_
  intro pp ee ss mm aa bb hh cc AA QQ G hT hnm RET
  refine v_loc (L' := [(0, .ref (ad 43)), (1, .int (nI k)), (2, .int x), (3, .int v)]) rfl ?_
  refine v_iload_n G 1 dX8_lays_0 rfl ?_
  refine v_if_ne (tgt := 14) G dX8_lays_1 (by decide) (fun h1 => ?_) (fun h1 => ?_)
  · have n1 := (not_congr (cmp_eq (x := nI k) (y := 0) (a := k) (b := 0) rfl (ix_lit 0 rfl) (by omega) (by omega))).mp h1
    refine v_iload_n G 1 dX8_lays_14 rfl ?_
    refine v_iconst (v := 1) G dX8_lays_15 rfl ?_
    refine v_icmp_ne (tgt := 29) G dX8_lays_16 (by decide) (fun h16 => ?_) (fun h16 => ?_)
    · have n16 := (not_congr (cmp_eq (x := nI k) (y := 1) (a := k) (b := 1) rfl (ix_lit 1 rfl) (by omega) (by omega))).mp h16
      refine v_iload_n G 1 dX8_lays_29 rfl ?_
      refine v_iconst (v := 2) G dX8_lays_30 rfl ?_
      refine v_icmp_ne (tgt := 42) G dX8_lays_31 (by decide) (fun h31 => ?_) (fun h31 => ?_)
      · have n31 := (not_congr (cmp_eq (x := nI k) (y := 2) (a := k) (b := 2) rfl (ix_lit 2 rfl) (by omega) (by omega))).mp h31
        refine v_iload_n G 1 dX8_lays_42 rfl ?_
        refine v_bipush (v := 8) G dX8_lays_43 rfl ?_
        refine v_icmp_ge (tgt := 64) G dX8_lays_45 (by decide) (fun h45 => ?_) (fun h45 => ?_)
        · have n45 := (cmp_le (x := 8) (y := nI k) (a := 8) (b := k) (ix_lit 8 rfl) rfl (by omega) (by omega)).mp h45
          refine v_aload_n G 0 dX8_lays_64 rfl ?_
          refine v_iload_n G 3 dX8_lays_65 rfl ?_
          refine m_putI G 4 (by decide) q1298 rfl rfl rfl dX8_lays_66 ?_
          refine RET _ _ _ _ _ (Nat.le_of_ble_eq_true rfl) (Nat.le_of_ble_eq_true rfl) dX8_lays_69 (fun ws hws => ⟨_, hws, ?_⟩)
          clear RET G hT hnm
          refine ⟨?_, ag_set (by decide)⟩
          rw [co_set (by decide)]
          unfold s_lay
          first
            | (rw [if_pos (by omega), ejn] <;> rfl)
            | (rw [if_neg (by omega), if_pos (by omega), ejn] <;> rfl)
            | (rw [if_neg (by omega), if_neg (by omega), if_pos (by omega)] <;> rfl)
            | (rw [if_neg (by omega), if_neg (by omega), if_neg (by omega), if_pos (by omega), ejn] <;> rfl)
            | (rw [if_neg (by omega), if_neg (by omega), if_neg (by omega), if_neg (by omega)] <;> rfl)
        · have n45 := (not_congr (cmp_le (x := 8) (y := nI k) (a := 8) (b := k) (ix_lit 8 rfl) rfl (by omega) (by omega))).mp h45
          obtain ⟨j, hj5, ej⟩ := hp (by omega) (by omega)
          have ejn : n_ x = j := by rw [ej]; exact nI_clamp (by omega)
          refine v_aload_n G 0 dX8_lays_48 rfl ?_
          refine m_get (v := .ref (ad 10)) G 10 (by decide) rfl q1304 rfl dX8_lays_49 ?_
          refine v_iconst (v := 5) G dX8_lays_52 rfl ?_
          refine v_iload_n G 2 dX8_lays_53 rfl ?_
          refine v_imul G dX8_lays_54 ?_
          refine v_iload_n G 1 dX8_lays_55 rfl ?_
          refine v_iadd G dX8_lays_56 ?_
          refine v_iconst (v := 3) G dX8_lays_57 rfl ?_
          refine v_isub G dX8_lays_58 ?_
          refine v_iload_n G 3 dX8_lays_59 rfl ?_
          refine m_iast G 10 rfl (((5 * j) + k) - 3) (ix_sub (ix_add (ix_mul (ix_lit 5 rfl) ej) rfl) (ix_lit 3 rfl) (by omega)) (show ((5 * j) + k) - 3 < 25 by first | omega | assumption | decide) dX8_lays_60 ?_
          refine v_goto (tgt := 69) G dX8_lays_61 (by decide) ?_
          refine RET _ _ _ _ _ (Nat.le_of_ble_eq_true rfl) (Nat.le_of_ble_eq_true rfl) dX8_lays_69 (fun ws hws => ⟨_, hws, ?_⟩)
          clear RET G hT hnm
          refine ⟨?_, ag_set (by decide)⟩
          rw [co_set (by decide)]
          unfold s_lay
          first
            | (rw [if_pos (by omega), ejn] <;> rfl)
            | (rw [if_neg (by omega), if_pos (by omega), ejn] <;> rfl)
            | (rw [if_neg (by omega), if_neg (by omega), if_pos (by omega)] <;> rfl)
            | (rw [if_neg (by omega), if_neg (by omega), if_neg (by omega), if_pos (by omega), ejn] <;> rfl)
            | (rw [if_neg (by omega), if_neg (by omega), if_neg (by omega), if_neg (by omega)] <;> rfl)
      · have n31 := (cmp_eq (x := nI k) (y := 2) (a := k) (b := 2) rfl (ix_lit 2 rfl) (by omega) (by omega)).mp h31
        refine v_aload_n G 0 dX8_lays_34 rfl ?_
        refine v_iload_n G 3 dX8_lays_35 rfl ?_
        refine m_putI G 7 (by decide) q1301 rfl rfl rfl dX8_lays_36 ?_
        refine v_goto (tgt := 69) G dX8_lays_39 (by decide) ?_
        refine RET _ _ _ _ _ (Nat.le_of_ble_eq_true rfl) (Nat.le_of_ble_eq_true rfl) dX8_lays_69 (fun ws hws => ⟨_, hws, ?_⟩)
        clear RET G hT hnm
        refine ⟨?_, ag_set (by decide)⟩
        rw [co_set (by decide)]
        unfold s_lay
        first
          | (rw [if_pos (by omega), ejn] <;> rfl)
          | (rw [if_neg (by omega), if_pos (by omega), ejn] <;> rfl)
          | (rw [if_neg (by omega), if_neg (by omega), if_pos (by omega)] <;> rfl)
          | (rw [if_neg (by omega), if_neg (by omega), if_neg (by omega), if_pos (by omega), ejn] <;> rfl)
          | (rw [if_neg (by omega), if_neg (by omega), if_neg (by omega), if_neg (by omega)] <;> rfl)
    · have n16 := (cmp_eq (x := nI k) (y := 1) (a := k) (b := 1) rfl (ix_lit 1 rfl) (by omega) (by omega)).mp h16
      obtain ⟨j, hj24, ej⟩ := hj (by omega)
      have ejn : n_ x = j := by rw [ej]; exact nI_clamp (by omega)
      refine v_aload_n G 0 dX8_lays_19 rfl ?_
      refine m_get (v := .ref (ad 9)) G 9 (by decide) rfl q1303 rfl dX8_lays_20 ?_
      refine v_iload_n G 2 dX8_lays_23 rfl ?_
      refine v_iload_n G 3 dX8_lays_24 rfl ?_
      refine m_iast G 9 rfl (j) ej (show j < 24 by first | omega | assumption | decide) dX8_lays_25 ?_
      refine v_goto (tgt := 69) G dX8_lays_26 (by decide) ?_
      refine RET _ _ _ _ _ (Nat.le_of_ble_eq_true rfl) (Nat.le_of_ble_eq_true rfl) dX8_lays_69 (fun ws hws => ⟨_, hws, ?_⟩)
      clear RET G hT hnm
      refine ⟨?_, ag_set (by decide)⟩
      rw [co_set (by decide)]
      unfold s_lay
      first
        | (rw [if_pos (by omega), ejn] <;> rfl)
        | (rw [if_neg (by omega), if_pos (by omega), ejn] <;> rfl)
        | (rw [if_neg (by omega), if_neg (by omega), if_pos (by omega)] <;> rfl)
        | (rw [if_neg (by omega), if_neg (by omega), if_neg (by omega), if_pos (by omega), ejn] <;> rfl)
        | (rw [if_neg (by omega), if_neg (by omega), if_neg (by omega), if_neg (by omega)] <;> rfl)
  · have n1 := (cmp_eq (x := nI k) (y := 0) (a := k) (b := 0) rfl (ix_lit 0 rfl) (by omega) (by omega)).mp h1
    obtain ⟨j, hj24, ej⟩ := hj (by omega)
    have ejn : n_ x = j := by rw [ej]; exact nI_clamp (by omega)
    refine v_aload_n G 0 dX8_lays_4 rfl ?_
    refine m_get (v := .ref (ad 8)) G 8 (by decide) rfl q1302 rfl dX8_lays_5 ?_
    refine v_iload_n G 2 dX8_lays_8 rfl ?_
    refine v_iload_n G 3 dX8_lays_9 rfl ?_
    refine m_iast G 8 rfl (j) ej (show j < 24 by first | omega | assumption | decide) dX8_lays_10 ?_
    refine v_goto (tgt := 69) G dX8_lays_11 (by decide) ?_
    refine RET _ _ _ _ _ (Nat.le_of_ble_eq_true rfl) (Nat.le_of_ble_eq_true rfl) dX8_lays_69 (fun ws hws => ⟨_, hws, ?_⟩)
    clear RET G hT hnm
    refine ⟨?_, ag_set (by decide)⟩
    rw [co_set (by decide)]
    unfold s_lay
    first
      | (rw [if_pos (by omega), ejn] <;> rfl)
      | (rw [if_neg (by omega), if_pos (by omega), ejn] <;> rfl)
      | (rw [if_neg (by omega), if_neg (by omega), if_pos (by omega)] <;> rfl)
      | (rw [if_neg (by omega), if_neg (by omega), if_neg (by omega), if_pos (by omega), ejn] <;> rfl)
      | (rw [if_neg (by omega), if_neg (by omega), if_neg (by omega), if_neg (by omega)] <;> rfl)
abbrev rmX8_set : Room := { frames := 45, cells := 0, slots := 0, locals := 1001 }
set_option maxHeartbeats 1000000 in
theorem kX8_set {KT : (Nat → Prop) → State → Heap → Prop} (hK : KTok KT) (l : Launch) (dC : Nat → ClassId) (dI : Nat → Nat → Nat) (ct ad : Nat → Nat) (σ : MS) (what : Int32) (x : Int32) (v : Int32) (hO : Ok (co σ)) : MC KT (dC, dI) vwCl (tysF ct) l yX8_set cX8_set 5 (some .int) rmX8_set [.ref (ad 43), .int what, .int x, .int v] (RM ct ad σ) (QI_ (dC, dI) vwCl (RM ct ad) (fun (r : Int32) (σ' : MS) => ((s_put (co σ) what x v).1) = r ∧ co σ' = (s_put (co σ) what x v).2)) := by
  refine MC.ofI (own := RX8) pl_X8 rfl (Nat.le_of_ble_eq_true rfl) ?_
  intro pp ee ss mm aa bb hh cc AA QQ G hT hnm RET
  refine v_loc (L' := [(0, .ref (ad 43)), (1, .int what), (2, .int x), (3, .int v)]) rfl ?_
  obtain ⟨hm5, hm⟩ := many5 hO.1
  have hm : σ.1 11 0 = nI (s_many (co σ)) := hm
  refine v_iload_n G 1 dX8_set_0 rfl ?_
  refine v_i2l (v := what.toInt64) G dX8_set_1 rfl ?_
  refine v_lconst (v := 0) G dX8_set_2 rfl ?_
  refine v_ldc2 G q1429 dX8_set_3 ?_
  refine w_callSi G hK hT (kX8_in hK l dC dI ct ad σ what.toInt64 0 6) (ck_X8_86 G.2.2.2.2.1 ⟨Nat.le_of_ble_eq_true rfl, Nat.le_of_ble_eq_true rfl⟩) (fun _ h => h) rfl [] rfl (Nat.le_of_ble_eq_true rfl) dX8_set_6 ⟨Nat.le_of_ble_eq_true rfl, Nat.le_of_ble_eq_true rfl⟩ (k1 := 0) (n1 := 0) rfl rfl ?_
  rintro r6 σ6 (⟨rfl, rfl, h6_h⟩ | ⟨rfl, rfl, h6_h⟩)
  · have g6 := (in_rg (c := what) (lo := 0) (hi := 6) (a := 0) (z := 6) (by decide) (by decide)).mp h6_h
    refine v_if_eq (tgt := 46) G dX8_set_9 (by decide) (fun h9 => absurd h9 (by decide)) (fun h9 => ?_)
    obtain ⟨k, hk, ek⟩ := rg_nat (n := 6) (x := what) g6 (by decide)
    have ekn : n_ what = k := by rw [ek]; exact nI_clamp (by omega)
    refine v_aload_n G 0 dX8_set_12 rfl ?_
    refine v_iload_n G 1 dX8_set_13 rfl ?_
    refine v_iload_n G 2 dX8_set_14 rfl ?_
    refine v_stk (st' := [.int x, .int (nI k), .ref (ad 43)]) (by first | rfl | (have e0 : what = nI k := ek ; simp only [e0])) ?_
    refine w_callVi G hK hT (kX8_isOf hK l dC dI ct ad σ k x hO (by first | assumption | omega)) (ck_X8_106 G.2.2.2.2.1 ⟨Nat.le_of_ble_eq_true rfl, Nat.le_of_ble_eq_true rfl⟩) m_recv (fun _ h => h) rfl [] rfl (Nat.le_of_ble_eq_true rfl) dX8_set_15 ⟨Nat.le_of_ble_eq_true rfl, Nat.le_of_ble_eq_true rfl⟩ (k1 := 0) (n1 := 0) rfl rfl ?_
    rintro r15 σ15 (⟨rfl, rfl, h15_h⟩ | ⟨rfl, rfl, h15_h⟩)
    · refine v_if_eq (tgt := 46) G dX8_set_18 (by decide) (fun h18 => absurd h18 (by decide)) (fun h18 => ?_)
      refine v_iload_n G 3 dX8_set_21 rfl ?_
      refine v_i2l (v := v.toInt64) G dX8_set_22 rfl ?_
      refine v_iload_n G 1 dX8_set_23 rfl ?_
      refine v_iconst (v := 5) G dX8_set_24 rfl ?_
      refine v_icmp_ne (tgt := 34) G dX8_set_25 (by decide) (fun h25 => ?_) (fun h25 => ?_)
      · have n25 := (not_congr (cmp_eq (x := what) (y := 5) (a := k) (b := 5) ek (ix_lit 5 rfl) (by omega) (by omega))).mp h25
        refine v_lconst (v := 0) G dX8_set_34 rfl ?_
        refine v_iload_n G 1 dX8_set_35 rfl ?_
        refine v_stk (st' := [.int (nI k), .long 0, .long v.toInt64]) (by first | rfl | (have e0 : what = nI k := ek ; simp only [e0])) ?_
        refine w_callSi G hK hT (kX8_mostOf hK l dC dI ct ad σ k (by first | assumption | omega)) (ck_X8_112 G.2.2.2.2.1 ⟨Nat.le_of_ble_eq_true rfl, Nat.le_of_ble_eq_true rfl⟩) (fun _ h => h) rfl [.long 0, .long v.toInt64] rfl (Nat.le_of_ble_eq_true rfl) dX8_set_36 ⟨Nat.le_of_ble_eq_true rfl, Nat.le_of_ble_eq_true rfl⟩ (k1 := 0) (n1 := 0) rfl rfl ?_
        rintro r36 σ36 ⟨rfl, rfl⟩
        refine v_i2l (v := (s_most k).toInt64) G dX8_set_39 rfl ?_
        refine w_callSi G hK hT (kX8_in hK l dC dI ct ad σ v.toInt64 0 ((s_most k).toInt64)) (ck_X8_86 G.2.2.2.2.1 ⟨Nat.le_of_ble_eq_true rfl, Nat.le_of_ble_eq_true rfl⟩) (fun _ h => h) rfl [] rfl (Nat.le_of_ble_eq_true rfl) dX8_set_40 ⟨Nat.le_of_ble_eq_true rfl, Nat.le_of_ble_eq_true rfl⟩ (k1 := 0) (n1 := 0) rfl rfl ?_
        rintro r40 σ40 (⟨rfl, rfl, h40_h⟩ | ⟨rfl, rfl, h40_h⟩)
        · have e5 : (if k = 5 then (-99 : Int) else 0) = 0 := if_neg (by omega)
          have hv40 := (in_rg (c := v) (lo := 0) (hi := (s_most k).toInt64) (a := 0) (z := (s_most k).toInt) (by decide) (i64_toInt _)).mp h40_h
          refine v_if_ne (tgt := 50) G dX8_set_43 (by decide) (fun h43 => ?_) (fun h43 => absurd h43 (by decide))
          refine v_aload_n G 0 dX8_set_50 rfl ?_
          refine v_iload_n G 2 dX8_set_51 rfl ?_
          refine v_iload_n G 1 dX8_set_52 rfl ?_
          refine w_callVi G hK hT (kX8_told hK l dC dI ct ad σ x what hO) (ck_X8_116 G.2.2.2.2.1 ⟨Nat.le_of_ble_eq_true rfl, Nat.le_of_ble_eq_true rfl⟩) m_recv (fun _ h => h) rfl [] rfl (Nat.le_of_ble_eq_true rfl) dX8_set_53 ⟨Nat.le_of_ble_eq_true rfl, Nat.le_of_ble_eq_true rfl⟩ (k1 := 0) (n1 := 0) rfl rfl ?_
          rintro r53 σ53 ⟨rfl, h53_c, h53_a⟩
          refine v_istore (L' := [(4, .int (s_told (co σ) x what)), (0, .ref (ad 43)), (1, .int what), (2, .int x), (3, .int v)]) G dX8_set_56 (by decide) rfl ?_
          refine v_aload_n G 1 dX8_set_58 rfl ?_
          refine v_iload_n G 2 dX8_set_59 rfl ?_
          refine v_iload_n G 3 dX8_set_60 rfl ?_
          refine v_iload_n G 4 dX8_set_61 rfl ?_
          refine v_stk (st' := [.int v, .int x, .int (nI k), .ref (ad 43)]) (by first | rfl | (have e0 : what = nI k := ek ; simp only [e0])) ?_
          refine w_callVv G hK hT (kX8_lays hK l dC dI ct ad σ53 k x v (by omega) (fun h => by obtain ⟨j, hj, ej⟩ := rg_nat (n := 23) (isOf_jar h15_h (by omega) (by omega)) (by decide); exact ⟨j, by omega, ej⟩) (fun h _ => by obtain ⟨j, hj, ej⟩ := rg_lt (isOf_one h15_h (by omega) (by omega)) (by omega); exact ⟨j, by omega, ej⟩)) (ck_X8_120 G.2.2.2.2.1 ⟨Nat.le_of_ble_eq_true rfl, Nat.le_of_ble_eq_true rfl⟩) m_recv (fun _ h => h) rfl [] rfl (Nat.le_of_ble_eq_true rfl) dX8_set_62 ⟨Nat.le_of_ble_eq_true rfl, Nat.le_of_ble_eq_true rfl⟩ (k1 := 0) (n1 := 0) rfl rfl ?_
          rintro σ62 ⟨h62_c, h62_a⟩
          refine v_iload G 0 dX8_set_65 rfl ?_
          refine RET _ _ _ _ _ _ rfl (Nat.le_of_ble_eq_true rfl) (Nat.le_of_ble_eq_true rfl) dX8_set_67 (fun ws hws => ⟨_, hws, ?_⟩)
          clear RET G hT hnm
          rw [s_put, if_pos ⟨g6, by rw [ekn]; exact h15_h, by rw [ekn, e5]; exact hv40⟩, ekn]
          exact ⟨rfl, by rw [h62_c, h53_c]⟩
        · have e5 : (if k = 5 then (-99 : Int) else 0) = 0 := if_neg (by omega)
          have hv40 : ¬ _ := fun q => h40_h ((in_rg (c := v) (lo := 0) (hi := (s_most k).toInt64) (a := 0) (z := (s_most k).toInt) (by decide) (i64_toInt _)).mpr q)
          refine v_if_ne (tgt := 50) G dX8_set_43 (by decide) (fun h43 => absurd h43 (by decide)) (fun h43 => ?_)
          refine v_sipush (v := (-1000)) G dX8_set_46 rfl ?_
          refine RET _ _ _ _ _ _ rfl (Nat.le_of_ble_eq_true rfl) (Nat.le_of_ble_eq_true rfl) dX8_set_49 (fun ws hws => ⟨_, hws, ?_⟩)
          clear RET G hT hnm
          rw [s_put, if_neg (fun q => by first | exact g6 q.1 | exact h15_h (by rw [← ekn]; exact q.2.1) | (have q := q.2.2; rw [ekn, e5] at q; exact hv40 q))]
          exact ⟨rfl, rfl⟩
      · have n25 := (cmp_eq (x := what) (y := 5) (a := k) (b := 5) ek (ix_lit 5 rfl) (by omega) (by omega)).mp h25
        refine v_ldc2 G q1449 dX8_set_28 ?_
        refine v_goto (tgt := 35) G dX8_set_31 (by decide) ?_
        refine v_iload_n G 1 dX8_set_35 rfl ?_
        refine v_stk (st' := [.int (nI k), .long (-99), .long v.toInt64]) (by first | rfl | (have e0 : what = nI k := ek ; simp only [e0])) ?_
        refine w_callSi G hK hT (kX8_mostOf hK l dC dI ct ad σ k (by first | assumption | omega)) (ck_X8_112 G.2.2.2.2.1 ⟨Nat.le_of_ble_eq_true rfl, Nat.le_of_ble_eq_true rfl⟩) (fun _ h => h) rfl [.long (-99), .long v.toInt64] rfl (Nat.le_of_ble_eq_true rfl) dX8_set_36 ⟨Nat.le_of_ble_eq_true rfl, Nat.le_of_ble_eq_true rfl⟩ (k1 := 0) (n1 := 0) rfl rfl ?_
        rintro r36 σ36 ⟨rfl, rfl⟩
        refine v_i2l (v := (s_most k).toInt64) G dX8_set_39 rfl ?_
        refine w_callSi G hK hT (kX8_in hK l dC dI ct ad σ v.toInt64 (-99) ((s_most k).toInt64)) (ck_X8_86 G.2.2.2.2.1 ⟨Nat.le_of_ble_eq_true rfl, Nat.le_of_ble_eq_true rfl⟩) (fun _ h => h) rfl [] rfl (Nat.le_of_ble_eq_true rfl) dX8_set_40 ⟨Nat.le_of_ble_eq_true rfl, Nat.le_of_ble_eq_true rfl⟩ (k1 := 0) (n1 := 0) rfl rfl ?_
        rintro r40 σ40 (⟨rfl, rfl, h40_h⟩ | ⟨rfl, rfl, h40_h⟩)
        · have e5 : (if k = 5 then (-99 : Int) else 0) = -99 := if_pos (by omega)
          have hv40 := (in_rg (c := v) (lo := -99) (hi := (s_most k).toInt64) (a := -99) (z := (s_most k).toInt) (by decide) (i64_toInt _)).mp h40_h
          refine v_if_ne (tgt := 50) G dX8_set_43 (by decide) (fun h43 => ?_) (fun h43 => absurd h43 (by decide))
          refine v_aload_n G 0 dX8_set_50 rfl ?_
          refine v_iload_n G 2 dX8_set_51 rfl ?_
          refine v_iload_n G 1 dX8_set_52 rfl ?_
          refine w_callVi G hK hT (kX8_told hK l dC dI ct ad σ x what hO) (ck_X8_116 G.2.2.2.2.1 ⟨Nat.le_of_ble_eq_true rfl, Nat.le_of_ble_eq_true rfl⟩) m_recv (fun _ h => h) rfl [] rfl (Nat.le_of_ble_eq_true rfl) dX8_set_53 ⟨Nat.le_of_ble_eq_true rfl, Nat.le_of_ble_eq_true rfl⟩ (k1 := 0) (n1 := 0) rfl rfl ?_
          rintro r53 σ53 ⟨rfl, h53_c, h53_a⟩
          refine v_istore (L' := [(4, .int (s_told (co σ) x what)), (0, .ref (ad 43)), (1, .int what), (2, .int x), (3, .int v)]) G dX8_set_56 (by decide) rfl ?_
          refine v_aload_n G 1 dX8_set_58 rfl ?_
          refine v_iload_n G 2 dX8_set_59 rfl ?_
          refine v_iload_n G 3 dX8_set_60 rfl ?_
          refine v_iload_n G 4 dX8_set_61 rfl ?_
          refine v_stk (st' := [.int v, .int x, .int (nI k), .ref (ad 43)]) (by first | rfl | (have e0 : what = nI k := ek ; simp only [e0])) ?_
          refine w_callVv G hK hT (kX8_lays hK l dC dI ct ad σ53 k x v (by omega) (fun h => by obtain ⟨j, hj, ej⟩ := rg_nat (n := 23) (isOf_jar h15_h (by omega) (by omega)) (by decide); exact ⟨j, by omega, ej⟩) (fun h _ => by obtain ⟨j, hj, ej⟩ := rg_lt (isOf_one h15_h (by omega) (by omega)) (by omega); exact ⟨j, by omega, ej⟩)) (ck_X8_120 G.2.2.2.2.1 ⟨Nat.le_of_ble_eq_true rfl, Nat.le_of_ble_eq_true rfl⟩) m_recv (fun _ h => h) rfl [] rfl (Nat.le_of_ble_eq_true rfl) dX8_set_62 ⟨Nat.le_of_ble_eq_true rfl, Nat.le_of_ble_eq_true rfl⟩ (k1 := 0) (n1 := 0) rfl rfl ?_
          rintro σ62 ⟨h62_c, h62_a⟩
          refine v_iload G 0 dX8_set_65 rfl ?_
          refine RET _ _ _ _ _ _ rfl (Nat.le_of_ble_eq_true rfl) (Nat.le_of_ble_eq_true rfl) dX8_set_67 (fun ws hws => ⟨_, hws, ?_⟩)
          clear RET G hT hnm
          rw [s_put, if_pos ⟨g6, by rw [ekn]; exact h15_h, by rw [ekn, e5]; exact hv40⟩, ekn]
          exact ⟨rfl, by rw [h62_c, h53_c]⟩
        · have e5 : (if k = 5 then (-99 : Int) else 0) = -99 := if_pos (by omega)
          have hv40 : ¬ _ := fun q => h40_h ((in_rg (c := v) (lo := -99) (hi := (s_most k).toInt64) (a := -99) (z := (s_most k).toInt) (by decide) (i64_toInt _)).mpr q)
          refine v_if_ne (tgt := 50) G dX8_set_43 (by decide) (fun h43 => absurd h43 (by decide)) (fun h43 => ?_)
          refine v_sipush (v := (-1000)) G dX8_set_46 rfl ?_
          refine RET _ _ _ _ _ _ rfl (Nat.le_of_ble_eq_true rfl) (Nat.le_of_ble_eq_true rfl) dX8_set_49 (fun ws hws => ⟨_, hws, ?_⟩)
          clear RET G hT hnm
          rw [s_put, if_neg (fun q => by first | exact g6 q.1 | exact h15_h (by rw [← ekn]; exact q.2.1) | (have q := q.2.2; rw [ekn, e5] at q; exact hv40 q))]
          exact ⟨rfl, rfl⟩
    · refine v_if_eq (tgt := 46) G dX8_set_18 (by decide) (fun h18 => ?_) (fun h18 => absurd h18 (by decide))
      refine v_sipush (v := (-1000)) G dX8_set_46 rfl ?_
      refine RET _ _ _ _ _ _ rfl (Nat.le_of_ble_eq_true rfl) (Nat.le_of_ble_eq_true rfl) dX8_set_49 (fun ws hws => ⟨_, hws, ?_⟩)
      clear RET G hT hnm
      rw [s_put, if_neg (fun q => by first | exact g6 q.1 | exact h15_h (by rw [← ekn]; exact q.2.1) | (have q := q.2.2; rw [ekn, e5] at q; exact hv40 q))]
      exact ⟨rfl, rfl⟩
  · have g6 : ¬ rg what 0 6 := fun zz => h6_h ((in_rg (c := what) (lo := 0) (hi := 6) (a := 0) (z := 6) (by decide) (by decide)).mpr zz)
    refine v_if_eq (tgt := 46) G dX8_set_9 (by decide) (fun h9 => ?_) (fun h9 => absurd h9 (by decide))
    refine v_sipush (v := (-1000)) G dX8_set_46 rfl ?_
    refine RET _ _ _ _ _ _ rfl (Nat.le_of_ble_eq_true rfl) (Nat.le_of_ble_eq_true rfl) dX8_set_49 (fun ws hws => ⟨_, hws, ?_⟩)
    clear RET G hT hnm
    rw [s_put, if_neg (fun q => by first | exact g6 q.1 | exact h15_h (by rw [← ekn]; exact q.2.1) | (have q := q.2.2; rw [ekn, e5] at q; exact hv40 q))]
    exact ⟨rfl, rfl⟩
abbrev rmX8_life : Room := { frames := 2, cells := 0, slots := 0, locals := 45 }
set_option maxHeartbeats 1000000 in
theorem kX8_life {KT : (Nat → Prop) → State → Heap → Prop} (hK : KTok KT) (l : Launch) (dC : Nat → ClassId) (dI : Nat → Nat → Nat) (ct ad : Nat → Nat) (σ : MS) (kd : Int32) (nm : Int32) (c : Int32) (hO : Ok (co σ)) : MC KT (dC, dI) vwCl (tysF ct) l yX8_life cX8_life 4 (some .int) rmX8_life [.ref (ad 43), .int kd, .int nm, .int c] (RM ct ad σ) (QI_ (dC, dI) vwCl (RM ct ad) (fun (r : Int32) (σ' : MS) => ((s_life (co σ) kd nm c).1) = r ∧ co σ' = (s_life (co σ) kd nm c).2)) := by
  refine MC.ofI (own := RX8) pl_X8 rfl (Nat.le_of_ble_eq_true rfl) ?_
  intro pp ee ss mm aa bb hh cc AA QQ G hT hnm RET
  refine v_loc (L' := [(0, .ref (ad 43)), (1, .int kd), (2, .int nm), (3, .int c)]) rfl ?_
  obtain ⟨hm5, hm⟩ := many5 hO.1
  have hm : σ.1 11 0 = nI (s_many (co σ)) := hm
  refine v_iload_n G 1 dX8_life_0 rfl ?_
  refine v_i2l (v := kd.toInt64) G dX8_life_1 rfl ?_
  refine v_lconst (v := 0) G dX8_life_2 rfl ?_
  refine v_ldc2 G q1679 dX8_life_3 ?_
  refine w_callSi G hK hT (kX8_in hK l dC dI ct ad σ kd.toInt64 0 5) (ck_X8_86 G.2.2.2.2.1 ⟨Nat.le_of_ble_eq_true rfl, Nat.le_of_ble_eq_true rfl⟩) (fun _ h => h) rfl [] rfl (Nat.le_of_ble_eq_true rfl) dX8_life_6 ⟨Nat.le_of_ble_eq_true rfl, Nat.le_of_ble_eq_true rfl⟩ (k1 := 0) (n1 := 0) rfl rfl ?_
  rintro r6 σ6 (⟨rfl, rfl, h6_h⟩ | ⟨rfl, rfl, h6_h⟩)
  · have g6 := (in_rg (c := kd) (lo := 0) (hi := 5) (a := 0) (z := 5) (by decide) (by decide)).mp h6_h
    refine v_if_eq (tgt := 31) G dX8_life_9 (by decide) (fun h9 => absurd h9 (by decide)) (fun h9 => ?_)
    refine v_iload_n G 2 dX8_life_12 rfl ?_
    refine v_i2l (v := nm.toInt64) G dX8_life_13 rfl ?_
    refine v_lconst (v := 0) G dX8_life_14 rfl ?_
    refine v_ldc2 G q1680 dX8_life_15 ?_
    refine w_callSi G hK hT (kX8_in hK l dC dI ct ad σ nm.toInt64 0 9) (ck_X8_86 G.2.2.2.2.1 ⟨Nat.le_of_ble_eq_true rfl, Nat.le_of_ble_eq_true rfl⟩) (fun _ h => h) rfl [] rfl (Nat.le_of_ble_eq_true rfl) dX8_life_18 ⟨Nat.le_of_ble_eq_true rfl, Nat.le_of_ble_eq_true rfl⟩ (k1 := 0) (n1 := 0) rfl rfl ?_
    rintro r18 σ18 (⟨rfl, rfl, h18_h⟩ | ⟨rfl, rfl, h18_h⟩)
    · have g18 := (in_rg (c := nm) (lo := 0) (hi := 9) (a := 0) (z := 9) (by decide) (by decide)).mp h18_h
      refine v_if_eq (tgt := 31) G dX8_life_21 (by decide) (fun h21 => absurd h21 (by decide)) (fun h21 => ?_)
      refine v_iload_n G 3 dX8_life_24 rfl ?_
      refine w_callSi G hK hT (kX8_isCrossing hK l dC dI ct ad σ c) (ck_X8_98 G.2.2.2.2.1 ⟨Nat.le_of_ble_eq_true rfl, Nat.le_of_ble_eq_true rfl⟩) (fun _ h => h) rfl [] rfl (Nat.le_of_ble_eq_true rfl) dX8_life_25 ⟨Nat.le_of_ble_eq_true rfl, Nat.le_of_ble_eq_true rfl⟩ (k1 := 0) (n1 := 0) rfl rfl ?_
      rintro r25 σ25 (⟨rfl, rfl, h25_h⟩ | ⟨rfl, rfl, h25_h⟩)
      · refine v_if_ne (tgt := 34) G dX8_life_28 (by decide) (fun h28 => ?_) (fun h28 => absurd h28 (by decide))
        refine v_aload_n G 0 dX8_life_34 rfl ?_
        refine m_get (v := .int (σ.1 11 0)) G 11 (by decide) rfl q1305 rfl dX8_life_35 ?_
        refine v_iconst (v := 5) G dX8_life_38 rfl ?_
        refine v_icmp_ne (tgt := 45) G dX8_life_39 (by decide) (fun h39 => ?_) (fun h39 => ?_)
        · have n39 := (not_congr (cmp_eq (x := σ.1 11 0) (y := 5) (a := s_many (co σ)) (b := 5) hm (ix_lit 5 rfl) (by omega) (by omega))).mp h39
          have hm4 : s_many (co σ) < 5 := by omega
          refine v_aload_n G 0 dX8_life_45 rfl ?_
          refine m_get (v := .ref (ad 10)) G 10 (by decide) rfl q1304 rfl dX8_life_46 ?_
          refine v_iconst (v := 5) G dX8_life_49 rfl ?_
          refine v_aload_n G 0 dX8_life_50 rfl ?_
          refine m_get (v := .int (σ.1 11 0)) G 11 (by decide) rfl q1305 rfl dX8_life_51 ?_
          refine v_imul G dX8_life_54 ?_
          refine v_iload_n G 2 dX8_life_55 rfl ?_
          refine m_iast G 10 rfl (5 * (s_many (co σ))) (ix_mul (ix_lit 5 rfl) hm) (show 5 * (s_many (co σ)) < 25 by first | omega | assumption | decide) dX8_life_56 ?_
          refine v_aload_n G 0 dX8_life_57 rfl ?_
          refine m_get (v := .ref (ad 10)) G 10 (by decide) rfl q1304 rfl dX8_life_58 ?_
          refine v_iconst (v := 5) G dX8_life_61 rfl ?_
          refine v_aload_n G 0 dX8_life_62 rfl ?_
          refine m_get (v := .int (σ.1 11 0)) G 11 (by decide) rfl q1305 rfl dX8_life_63 ?_
          refine v_imul G dX8_life_66 ?_
          refine v_iconst (v := 1) G dX8_life_67 rfl ?_
          refine v_iadd G dX8_life_68 ?_
          refine v_iload_n G 3 dX8_life_69 rfl ?_
          refine m_iast G 10 rfl ((5 * (s_many (co σ))) + 1) (ix_add (ix_mul (ix_lit 5 rfl) hm) (ix_lit 1 rfl)) (show (5 * (s_many (co σ))) + 1 < 25 by first | omega | assumption | decide) dX8_life_70 ?_
          refine v_aload_n G 0 dX8_life_71 rfl ?_
          refine m_get (v := .ref (ad 10)) G 10 (by decide) rfl q1304 rfl dX8_life_72 ?_
          refine v_iconst (v := 5) G dX8_life_75 rfl ?_
          refine v_aload_n G 0 dX8_life_76 rfl ?_
          refine m_get (v := .int (σ.1 11 0)) G 11 (by decide) rfl q1305 rfl dX8_life_77 ?_
          refine v_imul G dX8_life_80 ?_
          refine v_iconst (v := 2) G dX8_life_81 rfl ?_
          refine v_iadd G dX8_life_82 ?_
          refine v_iconst (v := 0) G dX8_life_83 rfl ?_
          refine m_iast G 10 rfl ((5 * (s_many (co σ))) + 2) (ix_add (ix_mul (ix_lit 5 rfl) hm) (ix_lit 2 rfl)) (show (5 * (s_many (co σ))) + 2 < 25 by first | omega | assumption | decide) dX8_life_84 ?_
          refine v_aload_n G 0 dX8_life_85 rfl ?_
          refine m_get (v := .ref (ad 10)) G 10 (by decide) rfl q1304 rfl dX8_life_86 ?_
          refine v_iconst (v := 5) G dX8_life_89 rfl ?_
          refine v_aload_n G 0 dX8_life_90 rfl ?_
          refine m_get (v := .int (σ.1 11 0)) G 11 (by decide) rfl q1305 rfl dX8_life_91 ?_
          refine v_imul G dX8_life_94 ?_
          refine v_iconst (v := 3) G dX8_life_95 rfl ?_
          refine v_iadd G dX8_life_96 ?_
          refine v_iconst (v := 0) G dX8_life_97 rfl ?_
          refine m_iast G 10 rfl ((5 * (s_many (co σ))) + 3) (ix_add (ix_mul (ix_lit 5 rfl) hm) (ix_lit 3 rfl)) (show (5 * (s_many (co σ))) + 3 < 25 by first | omega | assumption | decide) dX8_life_98 ?_
          refine v_aload_n G 0 dX8_life_99 rfl ?_
          refine m_get (v := .ref (ad 10)) G 10 (by decide) rfl q1304 rfl dX8_life_100 ?_
          refine v_iconst (v := 5) G dX8_life_103 rfl ?_
          refine v_aload_n G 0 dX8_life_104 rfl ?_
          refine m_get (v := .int (σ.1 11 0)) G 11 (by decide) rfl q1305 rfl dX8_life_105 ?_
          refine v_imul G dX8_life_108 ?_
          refine v_iconst (v := 4) G dX8_life_109 rfl ?_
          refine v_iadd G dX8_life_110 ?_
          refine v_iload_n G 1 dX8_life_111 rfl ?_
          refine m_iast G 10 rfl ((5 * (s_many (co σ))) + 4) (ix_add (ix_mul (ix_lit 5 rfl) hm) (ix_lit 4 rfl)) (show (5 * (s_many (co σ))) + 4 < 25 by first | omega | assumption | decide) dX8_life_112 ?_
          refine v_aload_n G 0 dX8_life_113 rfl ?_
          refine v_dup G dX8_life_114 rfl ?_
          refine m_get (v := .int (σ.1 11 0)) G 11 (by decide) rfl q1305 rfl dX8_life_115 ?_
          refine v_iconst (v := 1) G dX8_life_118 rfl ?_
          refine v_iadd G dX8_life_119 ?_
          refine m_putI G 11 (by decide) q1305 rfl rfl rfl dX8_life_120 ?_
          refine v_aload_n G 0 dX8_life_123 rfl ?_
          refine m_get (v := .int ((mset (mset (mset (mset (mset (mset σ 10 (5 * (s_many (co σ))) nm) 10 ((5 * (s_many (co σ))) + 1) c) 10 ((5 * (s_many (co σ))) + 2) 0) 10 ((5 * (s_many (co σ))) + 3) 0) 10 ((5 * (s_many (co σ))) + 4) kd) 11 0 ((σ.1 11 0) + 1)).1 11 0)) G 11 (by decide) rfl q1305 rfl dX8_life_124 ?_
          refine v_topr (congrArg Value.int (show (mset (mset (mset (mset (mset (mset σ 10 (5 * (s_many (co σ))) nm) 10 ((5 * (s_many (co σ))) + 1) c) 10 ((5 * (s_many (co σ))) + 2) 0) 10 ((5 * (s_many (co σ))) + 3) 0) 10 ((5 * (s_many (co σ))) + 4) kd) 11 0 ((σ.1 11 0) + 1)).1 11 0 = (σ.1 11 0) + 1 from (by first | rfl | simp [mset, msetL, upd2]))) ?_
          refine v_iconst (v := 1) G dX8_life_127 rfl ?_
          refine v_isub G dX8_life_128 ?_
          refine RET _ _ _ _ _ _ rfl (Nat.le_of_ble_eq_true rfl) (Nat.le_of_ble_eq_true rfl) dX8_life_129 (fun ws hws => ⟨_, hws, ?_⟩)
          clear RET G hT hnm
          rw [s_life, if_pos ⟨g6, g18, h25_h⟩, cq11, if_neg h39]
          refine ⟨?_, ?_⟩
          · show σ.1 11 0 = _
            simp [mset, upd2]
          · rw [co_set (by decide), co_set (by decide), co_set (by decide), co_set (by decide), co_set (by decide), co_set (by decide), s_born]
            rfl
        · have n39 := (cmp_eq (x := σ.1 11 0) (y := 5) (a := s_many (co σ)) (b := 5) hm (ix_lit 5 rfl) (by omega) (by omega)).mp h39
          refine v_bipush (v := (-4)) G dX8_life_42 rfl ?_
          refine RET _ _ _ _ _ _ rfl (Nat.le_of_ble_eq_true rfl) (Nat.le_of_ble_eq_true rfl) dX8_life_44 (fun ws hws => ⟨_, hws, ?_⟩)
          clear RET G hT hnm
          rw [s_life, if_pos ⟨g6, g18, h25_h⟩, cq11, if_pos h39]
          exact ⟨rfl, rfl⟩
      · refine v_if_ne (tgt := 34) G dX8_life_28 (by decide) (fun h28 => absurd h28 (by decide)) (fun h28 => ?_)
        refine v_bipush (v := (-2)) G dX8_life_31 rfl ?_
        refine RET _ _ _ _ _ _ rfl (Nat.le_of_ble_eq_true rfl) (Nat.le_of_ble_eq_true rfl) dX8_life_33 (fun ws hws => ⟨_, hws, ?_⟩)
        clear RET G hT hnm
        rw [s_life, if_neg (fun q => by first | exact g6 q.1 | exact g18 q.2.1 | exact h25_h q.2.2)]
        exact ⟨rfl, rfl⟩
    · have g18 : ¬ rg nm 0 9 := fun zz => h18_h ((in_rg (c := nm) (lo := 0) (hi := 9) (a := 0) (z := 9) (by decide) (by decide)).mpr zz)
      refine v_if_eq (tgt := 31) G dX8_life_21 (by decide) (fun h21 => ?_) (fun h21 => absurd h21 (by decide))
      refine v_bipush (v := (-2)) G dX8_life_31 rfl ?_
      refine RET _ _ _ _ _ _ rfl (Nat.le_of_ble_eq_true rfl) (Nat.le_of_ble_eq_true rfl) dX8_life_33 (fun ws hws => ⟨_, hws, ?_⟩)
      clear RET G hT hnm
      rw [s_life, if_neg (fun q => by first | exact g6 q.1 | exact g18 q.2.1 | exact h25_h q.2.2)]
      exact ⟨rfl, rfl⟩
  · have g6 : ¬ rg kd 0 5 := fun zz => h6_h ((in_rg (c := kd) (lo := 0) (hi := 5) (a := 0) (z := 5) (by decide) (by decide)).mpr zz)
    refine v_if_eq (tgt := 31) G dX8_life_9 (by decide) (fun h9 => ?_) (fun h9 => absurd h9 (by decide))
    refine v_bipush (v := (-2)) G dX8_life_31 rfl ?_
    refine RET _ _ _ _ _ _ rfl (Nat.le_of_ble_eq_true rfl) (Nat.le_of_ble_eq_true rfl) dX8_life_33 (fun ws hws => ⟨_, hws, ?_⟩)
    clear RET G hT hnm
    rw [s_life, if_neg (fun q => by first | exact g6 q.1 | exact g18 q.2.1 | exact h25_h q.2.2)]
    exact ⟨rfl, rfl⟩
abbrev rmX8_feed : Room := { frames := 1, cells := 0, slots := 0, locals := 25 }
set_option maxHeartbeats 1000000 in
theorem kX8_feed {KT : (Nat → Prop) → State → Heap → Prop} (hK : KTok KT) (l : Launch) (dC : Nat → ClassId) (dI : Nat → Nat → Nat) (ct ad : Nat → Nat) (σ : MS) (b : Int32) (hO : Ok (co σ)) : MC KT (dC, dI) vwCl (tysF ct) l yX8_feed cX8_feed 2 (some .int) rmX8_feed [.ref (ad 43), .int b] (RM ct ad σ) (QI_ (dC, dI) vwCl (RM ct ad) (fun (r : Int32) (σ' : MS) => ((s_feed (co σ) b).1) = r ∧ co σ' = (s_feed (co σ) b).2)) := by
  refine MC.ofI (own := RX8) pl_X8 rfl (Nat.le_of_ble_eq_true rfl) ?_
  intro pp ee ss mm aa bb hh cc AA QQ G hT hnm RET
  refine v_loc (L' := [(0, .ref (ad 43)), (1, .int b)]) rfl ?_
  obtain ⟨n6, hn6, e6, en6⟩ := tape6 hO
  have e6 : σ.1 6 0 = nI n6 := e6
  refine v_iload_n G 1 dX8_feed_0 rfl ?_
  refine v_i2l (v := b.toInt64) G dX8_feed_1 rfl ?_
  refine v_lconst (v := 0) G dX8_feed_2 rfl ?_
  refine v_ldc2 G q1686 dX8_feed_3 ?_
  refine w_callSi G hK hT (kX8_in hK l dC dI ct ad σ b.toInt64 0 255) (ck_X8_86 G.2.2.2.2.1 ⟨Nat.le_of_ble_eq_true rfl, Nat.le_of_ble_eq_true rfl⟩) (fun _ h => h) rfl [] rfl (Nat.le_of_ble_eq_true rfl) dX8_feed_6 ⟨Nat.le_of_ble_eq_true rfl, Nat.le_of_ble_eq_true rfl⟩ (k1 := 0) (n1 := 0) rfl rfl ?_
  rintro r6 σ6 (⟨rfl, rfl, h6_h⟩ | ⟨rfl, rfl, h6_h⟩)
  · have g6 := (in_rg (c := b) (lo := 0) (hi := 255) (a := 0) (z := 255) (by decide) (by decide)).mp h6_h
    refine v_if_ne (tgt := 15) G dX8_feed_9 (by decide) (fun h9 => ?_) (fun h9 => absurd h9 (by decide))
    refine v_aload_n G 0 dX8_feed_15 rfl ?_
    refine m_get (v := .int (σ.1 6 0)) G 6 (by decide) rfl q1300 rfl dX8_feed_16 ?_
    refine v_sipush (v := 160) G dX8_feed_19 rfl ?_
    refine v_icmp_ne (tgt := 28) G dX8_feed_22 (by decide) (fun h22 => ?_) (fun h22 => ?_)
    · have n22 := (not_congr (cmp_eq (x := σ.1 6 0) (y := 160) (a := n6) (b := 160) e6 (ix_lit 160 rfl) (by omega) (by omega))).mp h22
      have hn7 : n6 < 160 := by omega
      refine v_aload_n G 0 dX8_feed_28 rfl ?_
      refine m_get (v := .ref (ad 5)) G 5 (by decide) rfl q1299 rfl dX8_feed_29 ?_
      refine v_aload_n G 0 dX8_feed_32 rfl ?_
      refine m_get (v := .int (σ.1 6 0)) G 6 (by decide) rfl q1300 rfl dX8_feed_33 ?_
      refine v_iload_n G 1 dX8_feed_36 rfl ?_
      refine m_iast G 5 rfl (n6) e6 (show n6 < 160 by first | omega | assumption | decide) dX8_feed_37 ?_
      refine v_aload_n G 0 dX8_feed_38 rfl ?_
      refine v_dup G dX8_feed_39 rfl ?_
      refine m_get (v := .int (σ.1 6 0)) G 6 (by decide) rfl q1300 rfl dX8_feed_40 ?_
      refine v_iconst (v := 1) G dX8_feed_43 rfl ?_
      refine v_iadd G dX8_feed_44 ?_
      refine m_putI G 6 (by decide) q1300 rfl rfl rfl dX8_feed_45 ?_
      refine v_aload_n G 0 dX8_feed_48 rfl ?_
      refine m_get (v := .int ((mset (mset σ 5 n6 b) 6 0 ((σ.1 6 0) + 1)).1 6 0)) G 6 (by decide) rfl q1300 rfl dX8_feed_49 ?_
      refine v_topr (congrArg Value.int (show (mset (mset σ 5 n6 b) 6 0 ((σ.1 6 0) + 1)).1 6 0 = (σ.1 6 0) + 1 from (by first | rfl | simp [mset, msetL, upd2]))) ?_
      refine RET _ _ _ _ _ _ rfl (Nat.le_of_ble_eq_true rfl) (Nat.le_of_ble_eq_true rfl) dX8_feed_52 (fun ws hws => ⟨_, hws, ?_⟩)
      clear RET G hT hnm
      rw [s_feed, if_pos g6, cq6, if_neg h22]
      refine ⟨rfl, ?_⟩
      rw [co_set (by decide), co_set (by decide), show n_ (σ.1 6 0) = n6 from en6]
    · have n22 := (cmp_eq (x := σ.1 6 0) (y := 160) (a := n6) (b := 160) e6 (ix_lit 160 rfl) (by omega) (by omega)).mp h22
      refine v_bipush (v := (-4)) G dX8_feed_25 rfl ?_
      refine RET _ _ _ _ _ _ rfl (Nat.le_of_ble_eq_true rfl) (Nat.le_of_ble_eq_true rfl) dX8_feed_27 (fun ws hws => ⟨_, hws, ?_⟩)
      clear RET G hT hnm
      rw [s_feed, if_pos g6, cq6, if_pos h22]
      exact ⟨rfl, rfl⟩
  · have g6 : ¬ rg b 0 255 := fun zz => h6_h ((in_rg (c := b) (lo := 0) (hi := 255) (a := 0) (z := 255) (by decide) (by decide)).mpr zz)
    refine v_if_ne (tgt := 15) G dX8_feed_9 (by decide) (fun h9 => absurd h9 (by decide)) (fun h9 => ?_)
    refine v_bipush (v := (-2)) G dX8_feed_12 rfl ?_
    refine RET _ _ _ _ _ _ rfl (Nat.le_of_ble_eq_true rfl) (Nat.le_of_ble_eq_true rfl) dX8_feed_14 (fun ws hws => ⟨_, hws, ?_⟩)
    clear RET G hT hnm
    rw [s_feed, if_neg g6]
    exact ⟨rfl, rfl⟩
abbrev rmX8_force : Room := { frames := 1, cells := 0, slots := 0, locals := 25 }
set_option maxHeartbeats 1000000 in
theorem kX8_force {KT : (Nat → Prop) → State → Heap → Prop} (hK : KTok KT) (l : Launch) (dC : Nat → ClassId) (dI : Nat → Nat → Nat) (ct ad : Nat → Nat) (σ : MS) (t : Int32) (hO : Ok (co σ)) : MC KT (dC, dI) vwCl (tysF ct) l yX8_force cX8_force 3 (some .int) rmX8_force [.ref (ad 43), .int t] (RM ct ad σ) (QI_ (dC, dI) vwCl (RM ct ad) (fun (r : Int32) (σ' : MS) => ((s_force (co σ) t).1) = r ∧ co σ' = (s_force (co σ) t).2)) := by
  refine MC.ofI (own := RX8) pl_X8 rfl (Nat.le_of_ble_eq_true rfl) ?_
  intro pp ee ss mm aa bb hh cc AA QQ G hT hnm RET
  refine v_loc (L' := [(0, .ref (ad 43)), (1, .int t)]) rfl ?_
  obtain ⟨m3, hm3, e3, en3⟩ := texts3 hO
  have e3 : σ.1 3 0 = nI m3 := e3
  refine v_iload_n G 1 dX8_force_0 rfl ?_
  refine v_i2l (v := t.toInt64) G dX8_force_1 rfl ?_
  refine v_lconst (v := 0) G dX8_force_2 rfl ?_
  refine v_aload_n G 0 dX8_force_3 rfl ?_
  refine m_get (v := .int (σ.1 3 0)) G 3 (by decide) rfl q1297 rfl dX8_force_4 ?_
  refine v_iconst (v := 1) G dX8_force_7 rfl ?_
  refine v_isub G dX8_force_8 ?_
  refine v_i2l (v := ((σ.1 3 0) - 1).toInt64) G dX8_force_9 rfl ?_
  refine w_callSi G hK hT (kX8_in hK l dC dI ct ad σ t.toInt64 0 (((σ.1 3 0) - 1).toInt64)) (ck_X8_86 G.2.2.2.2.1 ⟨Nat.le_of_ble_eq_true rfl, Nat.le_of_ble_eq_true rfl⟩) (fun _ h => h) rfl [] rfl (Nat.le_of_ble_eq_true rfl) dX8_force_10 ⟨Nat.le_of_ble_eq_true rfl, Nat.le_of_ble_eq_true rfl⟩ (k1 := 0) (n1 := 0) rfl rfl ?_
  rintro r10 σ10 (⟨rfl, rfl, h10_h⟩ | ⟨rfl, rfl, h10_h⟩)
  · have e27 : (σ.1 3 0 - 1).toInt64.toInt = (n_ (co σ 3 0) : Int) - 1 := by rw [i64_toInt, en3, e3]; exact nI_m1 (by omega)
    have g10 : rg t 0 ((n_ (co σ 3 0) : Int) - 1) := (in_rg (by decide) e27).mp h10_h
    refine v_if_ne (tgt := 19) G dX8_force_13 (by decide) (fun h13 => ?_) (fun h13 => absurd h13 (by decide))
    refine v_aload_n G 0 dX8_force_19 rfl ?_
    refine m_get (v := .int (σ.1 4 0)) G 4 (by decide) rfl q1298 rfl dX8_force_20 ?_
    refine v_istore_n (L' := [(2, .int (σ.1 4 0)), (0, .ref (ad 43)), (1, .int t)]) G dX8_force_23 (by decide) rfl ?_
    refine v_aload_n G 1 dX8_force_24 rfl ?_
    refine v_iload_n G 2 dX8_force_25 rfl ?_
    refine m_putI G 4 (by decide) q1298 rfl rfl rfl dX8_force_26 ?_
    refine v_iload_n G 0 dX8_force_29 rfl ?_
    refine RET _ _ _ _ _ _ rfl (Nat.le_of_ble_eq_true rfl) (Nat.le_of_ble_eq_true rfl) dX8_force_30 (fun ws hws => ⟨_, hws, ?_⟩)
    clear RET G hT hnm
    rw [s_force, if_pos g10]
    exact ⟨rfl, co_set (by decide)⟩
  · have e27 : (σ.1 3 0 - 1).toInt64.toInt = (n_ (co σ 3 0) : Int) - 1 := by rw [i64_toInt, en3, e3]; exact nI_m1 (by omega)
    have g10 : ¬ rg t 0 ((n_ (co σ 3 0) : Int) - 1) := fun q => h10_h ((in_rg (by decide) e27).mpr q)
    refine v_if_ne (tgt := 19) G dX8_force_13 (by decide) (fun h13 => absurd h13 (by decide)) (fun h13 => ?_)
    refine v_bipush (v := (-2)) G dX8_force_16 rfl ?_
    refine RET _ _ _ _ _ _ rfl (Nat.le_of_ble_eq_true rfl) (Nat.le_of_ble_eq_true rfl) dX8_force_18 (fun ws hws => ⟨_, hws, ?_⟩)
    clear RET G hT hnm
    rw [s_force, if_neg g10]
    exact ⟨rfl, rfl⟩
abbrev rmX8_count : Room := { frames := 1, cells := 0, slots := 0, locals := 25 }
set_option maxHeartbeats 1000000 in
theorem kX8_count {KT : (Nat → Prop) → State → Heap → Prop} (hK : KTok KT) (l : Launch) (dC : Nat → ClassId) (dI : Nat → Nat → Nat) (ct ad : Nat → Nat) (σ : MS) (w : Int32) (hO : Ok (co σ)) : MC KT (dC, dI) vwCl (tysF ct) l yX8_count cX8_count 2 (some .int) rmX8_count [.ref (ad 43), .int w] (RM ct ad σ) (QI_ (dC, dI) vwCl (RM ct ad) (fun (r : Int32) (σ' : MS) => (s_count (co σ) w) = r ∧ σ = σ')) := by
  refine MC.ofI (own := RX8) pl_X8 rfl (Nat.le_of_ble_eq_true rfl) ?_
  intro pp ee ss mm aa bb hh cc AA QQ G hT hnm RET
  refine v_loc (L' := [(0, .ref (ad 43)), (1, .int w)]) rfl ?_
  refine v_iload_n G 1 dX8_count_0 rfl ?_
  refine v_i2l (v := w.toInt64) G dX8_count_1 rfl ?_
  refine v_lconst (v := 0) G dX8_count_2 rfl ?_
  refine v_ldc2 G q1679 dX8_count_3 ?_
  refine w_callSi G hK hT (kX8_in hK l dC dI ct ad σ w.toInt64 0 5) (ck_X8_86 G.2.2.2.2.1 ⟨Nat.le_of_ble_eq_true rfl, Nat.le_of_ble_eq_true rfl⟩) (fun _ h => h) rfl [] rfl (Nat.le_of_ble_eq_true rfl) dX8_count_6 ⟨Nat.le_of_ble_eq_true rfl, Nat.le_of_ble_eq_true rfl⟩ (k1 := 0) (n1 := 0) rfl rfl ?_
  rintro r6 σ6 (⟨rfl, rfl, h6_h⟩ | ⟨rfl, rfl, h6_h⟩)
  · have g6 := (in_rg (c := w) (lo := 0) (hi := 5) (a := 0) (z := 5) (by decide) (by decide)).mp h6_h
    refine v_if_ne (tgt := 15) G dX8_count_9 (by decide) (fun h9 => ?_) (fun h9 => absurd h9 (by decide))
    refine v_iload_n G 1 dX8_count_15 rfl ?_
    refine v_if_ne (tgt := 26) G dX8_count_16 (by decide) (fun h16 => ?_) (fun h16 => ?_)
    · refine v_iload_n G 1 dX8_count_26 rfl ?_
      refine v_iconst (v := 1) G dX8_count_27 rfl ?_
      refine v_icmp_ne (tgt := 38) G dX8_count_28 (by decide) (fun h28 => ?_) (fun h28 => ?_)
      · refine v_iload_n G 1 dX8_count_38 rfl ?_
        refine v_iconst (v := 2) G dX8_count_39 rfl ?_
        refine v_icmp_ne (tgt := 50) G dX8_count_40 (by decide) (fun h40 => ?_) (fun h40 => ?_)
        · refine v_iload_n G 1 dX8_count_50 rfl ?_
          refine v_iconst (v := 3) G dX8_count_51 rfl ?_
          refine v_icmp_ne (tgt := 62) G dX8_count_52 (by decide) (fun h52 => ?_) (fun h52 => ?_)
          · refine v_iload_n G 1 dX8_count_62 rfl ?_
            refine v_iconst (v := 4) G dX8_count_63 rfl ?_
            refine v_icmp_ne (tgt := 74) G dX8_count_64 (by decide) (fun h64 => ?_) (fun h64 => ?_)
            · refine v_aload_n G 0 dX8_count_74 rfl ?_
              refine m_get (v := .int (σ.1 4 0)) G 4 (by decide) rfl q1298 rfl dX8_count_75 ?_
              refine RET _ _ _ _ _ _ rfl (Nat.le_of_ble_eq_true rfl) (Nat.le_of_ble_eq_true rfl) dX8_count_78 (fun ws hws => ⟨_, hws, ?_⟩)
              clear RET G hT hnm
              exact ⟨by rw [s_count, if_pos g6]; first | (rw [if_pos h16] <;> rfl) | (rw [if_neg h16, if_pos h28] <;> rfl) | (rw [if_neg h16, if_neg h28, if_pos h40] <;> rfl) | (rw [if_neg h16, if_neg h28, if_neg h40, if_pos h52] <;> rfl) | (rw [if_neg h16, if_neg h28, if_neg h40, if_neg h52, if_pos h64] <;> rfl) | (rw [if_neg h16, if_neg h28, if_neg h40, if_neg h52, if_neg h64] <;> rfl), rfl⟩
            · refine v_aload_n G 0 dX8_count_67 rfl ?_
              refine m_get (v := .int (σ.1 6 0)) G 6 (by decide) rfl q1300 rfl dX8_count_68 ?_
              refine v_goto (tgt := 78) G dX8_count_71 (by decide) ?_
              refine RET _ _ _ _ _ _ rfl (Nat.le_of_ble_eq_true rfl) (Nat.le_of_ble_eq_true rfl) dX8_count_78 (fun ws hws => ⟨_, hws, ?_⟩)
              clear RET G hT hnm
              exact ⟨by rw [s_count, if_pos g6]; first | (rw [if_pos h16] <;> rfl) | (rw [if_neg h16, if_pos h28] <;> rfl) | (rw [if_neg h16, if_neg h28, if_pos h40] <;> rfl) | (rw [if_neg h16, if_neg h28, if_neg h40, if_pos h52] <;> rfl) | (rw [if_neg h16, if_neg h28, if_neg h40, if_neg h52, if_pos h64] <;> rfl) | (rw [if_neg h16, if_neg h28, if_neg h40, if_neg h52, if_neg h64] <;> rfl), rfl⟩
          · refine v_aload_n G 0 dX8_count_55 rfl ?_
            refine m_get (v := .int (σ.1 3 0)) G 3 (by decide) rfl q1297 rfl dX8_count_56 ?_
            refine v_goto (tgt := 78) G dX8_count_59 (by decide) ?_
            refine RET _ _ _ _ _ _ rfl (Nat.le_of_ble_eq_true rfl) (Nat.le_of_ble_eq_true rfl) dX8_count_78 (fun ws hws => ⟨_, hws, ?_⟩)
            clear RET G hT hnm
            exact ⟨by rw [s_count, if_pos g6]; first | (rw [if_pos h16] <;> rfl) | (rw [if_neg h16, if_pos h28] <;> rfl) | (rw [if_neg h16, if_neg h28, if_pos h40] <;> rfl) | (rw [if_neg h16, if_neg h28, if_neg h40, if_pos h52] <;> rfl) | (rw [if_neg h16, if_neg h28, if_neg h40, if_neg h52, if_pos h64] <;> rfl) | (rw [if_neg h16, if_neg h28, if_neg h40, if_neg h52, if_neg h64] <;> rfl), rfl⟩
        · refine v_aload_n G 0 dX8_count_43 rfl ?_
          refine m_get (v := .int (σ.1 7 0)) G 7 (by decide) rfl q1301 rfl dX8_count_44 ?_
          refine v_goto (tgt := 78) G dX8_count_47 (by decide) ?_
          refine RET _ _ _ _ _ _ rfl (Nat.le_of_ble_eq_true rfl) (Nat.le_of_ble_eq_true rfl) dX8_count_78 (fun ws hws => ⟨_, hws, ?_⟩)
          clear RET G hT hnm
          exact ⟨by rw [s_count, if_pos g6]; first | (rw [if_pos h16] <;> rfl) | (rw [if_neg h16, if_pos h28] <;> rfl) | (rw [if_neg h16, if_neg h28, if_pos h40] <;> rfl) | (rw [if_neg h16, if_neg h28, if_neg h40, if_pos h52] <;> rfl) | (rw [if_neg h16, if_neg h28, if_neg h40, if_neg h52, if_pos h64] <;> rfl) | (rw [if_neg h16, if_neg h28, if_neg h40, if_neg h52, if_neg h64] <;> rfl), rfl⟩
      · refine v_aload_n G 0 dX8_count_31 rfl ?_
        refine w_callVi G hK hT (kX8_jarsAll hK l dC dI ct ad σ) (ck_X8_371 G.2.2.2.2.1 ⟨Nat.le_of_ble_eq_true rfl, Nat.le_of_ble_eq_true rfl⟩) m_recv (fun _ h => h) rfl [] rfl (Nat.le_of_ble_eq_true rfl) dX8_count_32 ⟨Nat.le_of_ble_eq_true rfl, Nat.le_of_ble_eq_true rfl⟩ (k1 := 0) (n1 := 0) rfl rfl ?_
        rintro r32 σ32 ⟨rfl, rfl⟩
        refine v_goto (tgt := 78) G dX8_count_35 (by decide) ?_
        refine RET _ _ _ _ _ _ rfl (Nat.le_of_ble_eq_true rfl) (Nat.le_of_ble_eq_true rfl) dX8_count_78 (fun ws hws => ⟨_, hws, ?_⟩)
        clear RET G hT hnm
        exact ⟨by rw [s_count, if_pos g6]; first | (rw [if_pos h16] <;> rfl) | (rw [if_neg h16, if_pos h28] <;> rfl) | (rw [if_neg h16, if_neg h28, if_pos h40] <;> rfl) | (rw [if_neg h16, if_neg h28, if_neg h40, if_pos h52] <;> rfl) | (rw [if_neg h16, if_neg h28, if_neg h40, if_neg h52, if_pos h64] <;> rfl) | (rw [if_neg h16, if_neg h28, if_neg h40, if_neg h52, if_neg h64] <;> rfl), rfl⟩
    · refine v_aload_n G 0 dX8_count_19 rfl ?_
      refine m_get (v := .int (σ.1 11 0)) G 11 (by decide) rfl q1305 rfl dX8_count_20 ?_
      refine v_goto (tgt := 78) G dX8_count_23 (by decide) ?_
      refine RET _ _ _ _ _ _ rfl (Nat.le_of_ble_eq_true rfl) (Nat.le_of_ble_eq_true rfl) dX8_count_78 (fun ws hws => ⟨_, hws, ?_⟩)
      clear RET G hT hnm
      exact ⟨by rw [s_count, if_pos g6]; first | (rw [if_pos h16] <;> rfl) | (rw [if_neg h16, if_pos h28] <;> rfl) | (rw [if_neg h16, if_neg h28, if_pos h40] <;> rfl) | (rw [if_neg h16, if_neg h28, if_neg h40, if_pos h52] <;> rfl) | (rw [if_neg h16, if_neg h28, if_neg h40, if_neg h52, if_pos h64] <;> rfl) | (rw [if_neg h16, if_neg h28, if_neg h40, if_neg h52, if_neg h64] <;> rfl), rfl⟩
  · have g6 : ¬ rg w 0 5 := fun zz => h6_h ((in_rg (c := w) (lo := 0) (hi := 5) (a := 0) (z := 5) (by decide) (by decide)).mpr zz)
    refine v_if_ne (tgt := 15) G dX8_count_9 (by decide) (fun h9 => absurd h9 (by decide)) (fun h9 => ?_)
    refine v_bipush (v := (-2)) G dX8_count_12 rfl ?_
    refine RET _ _ _ _ _ _ rfl (Nat.le_of_ble_eq_true rfl) (Nat.le_of_ble_eq_true rfl) dX8_count_14 (fun ws hws => ⟨_, hws, ?_⟩)
    clear RET G hT hnm
    exact ⟨by rw [s_count, if_neg g6], rfl⟩
