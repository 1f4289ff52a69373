set_option maxRecDepth 100000
abbrev rmX0_shelf : Room := { frames := 1, cells := 0, slots := 0, locals := 24 }
set_option maxHeartbeats 1000000 in
theorem kX0_shelf {KT : (Nat → Prop) → State → Heap → Prop} (hK : KTok KT) (l : Launch) (dC : Nat → ClassId) (dI : Nat → Nat → Nat) (ct ad : Nat → Nat) (F : List (Nat × va_E)) (σ : MS)   : MC KT (dC, dI) vwCl (tysF ct) l yX0_shelf cX0_shelf 4 (some .int) rmX0_shelf [.ref (ad 0)] (RX ct ad F σ) (QI_ (dC, dI) vwCl (RX ct ad F) (fun (r : Int32) (σ' : MS) => ((s_shF (co σ) 24).1) = r ∧ σ = σ')) := by
  refine MC.ofI (own := RX0) pl_X0 rfl (Nat.le_of_ble_eq_true rfl) ?_
  intro pp ee ss mm aa bb hh cc AA QQ G hT hnm RET
  refine v_loc (L' := [(0, .ref (ad 0))]) rfl ?_
  refine v_iconst (v := (-1)) G dX0_shelf_0 rfl ?_
  refine v_istore_n (L' := [(1, .int (-1)), (0, .ref (ad 0))]) G dX0_shelf_1 (by decide) rfl ?_
  refine v_iconst (v := 0) G dX0_shelf_2 rfl ?_
  refine v_istore_n (L' := [(2, .int 0), (1, .int (-1)), (0, .ref (ad 0))]) G dX0_shelf_3 (by decide) rfl ?_
  refine v_iconst (v := 0) G dX0_shelf_4 rfl ?_
  refine v_istore_n (L' := [(3, .int 0), (2, .int 0), (1, .int (-1)), (0, .ref (ad 0))]) G dX0_shelf_5 (by decide) rfl ?_
  have loop6 : ∀ (dd : Nat) (q : Nat), (q ≤ 24) → 24 - q < dd → V_ pp l ee rmX0_shelf ss mm aa bb hh cc 4 (dC, dI) vwCl AA QQ 0 0 (RX ct ad F σ) 6 [(3, .int (nI q)), (2, .int ((s_shF (co σ) q).2)), (1, .int ((s_shF (co σ) q).1)), (0, .ref (ad 0))] [] := by
    intro dd
    induction dd with
    | zero => intro q hq hdd; exact absurd hdd (Nat.not_lt_zero _)
    | succ dd ih6 =>
      intro q hq hdd
      refine v_iload_n G 0 dX0_shelf_6 rfl ?_
      refine v_bipush (v := 24) G dX0_shelf_7 rfl ?_
      refine v_icmp_ge (tgt := 45) G dX0_shelf_9 (by decide) (fun h9 => ?_) (fun h9 => ?_)
      · have n9 := (cmp_le (x := 24) (y := nI q) (a := 24) (b := q) (ix_lit 24 rfl) rfl (by omega) (by omega)).mp h9
        refine v_iload_n G 2 dX0_shelf_45 rfl ?_
        refine RET _ _ _ _ _ _ rfl (Nat.le_of_ble_eq_true rfl) (Nat.le_of_ble_eq_true rfl) dX0_shelf_46 (fun ws hws => ⟨_, hws, ?_⟩)
        clear RET G hT hnm
        exact ⟨by rw [show q = 24 by omega], rfl⟩
      · have n9 := (not_congr (cmp_le (x := 24) (y := nI q) (a := 24) (b := q) (ix_lit 24 rfl) rfl (by omega) (by omega))).mp h9
        refine v_aload_n G 3 dX0_shelf_12 rfl ?_
        refine x_get (v := .ref (ad 9)) G 4 (by decide) rfl q792 rfl dX0_shelf_13 ?_
        refine v_iload_n G 0 dX0_shelf_16 rfl ?_
        refine x_iald G 9 rfl (q) rfl (show q < 24 by first | omega | assumption | decide) dX0_shelf_17 ?_
        refine v_iload_n G 1 dX0_shelf_18 rfl ?_
        refine v_icmp_le (tgt := 26) G dX0_shelf_19 (by decide) (fun h19 => ?_) (fun h19 => ?_)
        · refine v_iload_n G 2 dX0_shelf_26 rfl ?_
          refine v_istore_n (L' := [(1, .int ((s_shF (co σ) q).1)), (3, .int (nI q)), (2, .int ((s_shF (co σ) q).2)), (0, .ref (ad 0))]) G dX0_shelf_27 (by decide) rfl ?_
          refine v_iload_n G 2 dX0_shelf_28 rfl ?_
          refine v_aload_n G 3 dX0_shelf_29 rfl ?_
          refine x_get (v := .ref (ad 9)) G 4 (by decide) rfl q792 rfl dX0_shelf_30 ?_
          refine v_iload_n G 1 dX0_shelf_33 rfl ?_
          refine x_iald G 9 rfl (q) rfl (show q < 24 by first | omega | assumption | decide) dX0_shelf_34 ?_
          refine v_mmax G q363 dX0_shelf_35 (Nat.le_of_ble_eq_true rfl) (Nat.le_of_ble_eq_true rfl) (Nat.le_of_ble_eq_true rfl) (Nat.le_of_ble_eq_true rfl) (Nat.le_of_ble_eq_true rfl) ?_
          refine v_istore_n (L' := [(2, .int (if ((s_shF (co σ) q).2) < (σ.1 9 q) then (σ.1 9 q) else ((s_shF (co σ) q).2))), (1, .int ((s_shF (co σ) q).1)), (3, .int (nI q)), (0, .ref (ad 0))]) G dX0_shelf_38 (by decide) rfl ?_
          refine v_iinc (v := nI (q + 1)) (L' := [(3, .int (nI (q + 1))), (2, .int (if ((s_shF (co σ) q).2) < (σ.1 9 q) then (σ.1 9 q) else ((s_shF (co σ) q).2))), (1, .int ((s_shF (co σ) q).1)), (0, .ref (ad 0))]) G 2 dX0_shelf_39 rfl (ix_add rfl (ix_lit 1 rfl)) (by decide) rfl ?_
          refine v_goto (tgt := 6) G dX0_shelf_42 (by decide) ?_
          refine V_.sub (L' := [(3, .int (nI (q + 1))), (2, .int (if ((s_shF (co σ) q).2) < (σ.1 9 q) then (σ.1 9 q) else ((s_shF (co σ) q).2))), (1, .int ((s_shF (co σ) q).1)), (0, .ref (ad 0))]) ?_ [0, 1, 2, 3] rfl
          refine v_loc (L' := [(3, .int (nI (q + 1))), (2, .int ((s_shF (co σ) (q + 1)).2)), (1, .int ((s_shF (co σ) (q + 1)).1)), (0, .ref (ad 0))]) (by rw [s_shF]; first | (rw [if_pos (by exact Int32.not_le.mp h19), if_pos (by exact Int32.not_le.mp h19)] <;> rfl) | (rw [if_neg (by exact Int32.not_lt.mpr h19), if_neg (by exact Int32.not_lt.mpr h19)] <;> rfl)) ?_
          exact ih6  (q + 1) (by omega) (by omega)
        · refine v_iload_n G 0 dX0_shelf_22 rfl ?_
          refine v_goto (tgt := 27) G dX0_shelf_23 (by decide) ?_
          refine v_istore_n (L' := [(1, .int (nI q)), (3, .int (nI q)), (2, .int ((s_shF (co σ) q).2)), (0, .ref (ad 0))]) G dX0_shelf_27 (by decide) rfl ?_
          refine v_iload_n G 2 dX0_shelf_28 rfl ?_
          refine v_aload_n G 3 dX0_shelf_29 rfl ?_
          refine x_get (v := .ref (ad 9)) G 4 (by decide) rfl q792 rfl dX0_shelf_30 ?_
          refine v_iload_n G 1 dX0_shelf_33 rfl ?_
          refine x_iald G 9 rfl (q) rfl (show q < 24 by first | omega | assumption | decide) dX0_shelf_34 ?_
          refine v_mmax G q363 dX0_shelf_35 (Nat.le_of_ble_eq_true rfl) (Nat.le_of_ble_eq_true rfl) (Nat.le_of_ble_eq_true rfl) (Nat.le_of_ble_eq_true rfl) (Nat.le_of_ble_eq_true rfl) ?_
          refine v_istore_n (L' := [(2, .int (if ((s_shF (co σ) q).2) < (σ.1 9 q) then (σ.1 9 q) else ((s_shF (co σ) q).2))), (1, .int (nI q)), (3, .int (nI q)), (0, .ref (ad 0))]) G dX0_shelf_38 (by decide) rfl ?_
          refine v_iinc (v := nI (q + 1)) (L' := [(3, .int (nI (q + 1))), (2, .int (if ((s_shF (co σ) q).2) < (σ.1 9 q) then (σ.1 9 q) else ((s_shF (co σ) q).2))), (1, .int (nI q)), (0, .ref (ad 0))]) G 2 dX0_shelf_39 rfl (ix_add rfl (ix_lit 1 rfl)) (by decide) rfl ?_
          refine v_goto (tgt := 6) G dX0_shelf_42 (by decide) ?_
          refine V_.sub (L' := [(3, .int (nI (q + 1))), (2, .int (if ((s_shF (co σ) q).2) < (σ.1 9 q) then (σ.1 9 q) else ((s_shF (co σ) q).2))), (1, .int (nI q)), (0, .ref (ad 0))]) ?_ [0, 1, 2, 3] rfl
          refine v_loc (L' := [(3, .int (nI (q + 1))), (2, .int ((s_shF (co σ) (q + 1)).2)), (1, .int ((s_shF (co σ) (q + 1)).1)), (0, .ref (ad 0))]) (by rw [s_shF]; first | (rw [if_pos (by exact Int32.not_le.mp h19), if_pos (by exact Int32.not_le.mp h19)] <;> rfl) | (rw [if_neg (by exact Int32.not_lt.mpr h19), if_neg (by exact Int32.not_lt.mpr h19)] <;> rfl)) ?_
          exact ih6  (q + 1) (by omega) (by omega)
  refine V_.sub (L' := [(3, .int 0), (2, .int 0), (1, .int (-1)), (0, .ref (ad 0))]) ?_ [0, 1, 2, 3] rfl
  refine v_loc (L' := [(3, .int (nI 0)), (2, .int ((s_shF (co σ) 0).2)), (1, .int ((s_shF (co σ) 0).1)), (0, .ref (ad 0))]) (rfl) ?_
  exact loop6 _ 0 (Nat.zero_le _) (Nat.lt_succ_self _)
abbrev rmX0_feed : Room := { frames := 1, cells := 0, slots := 0, locals := 25 }
set_option maxHeartbeats 1000000 in
theorem kX0_feed {KT : (Nat → Prop) → State → Heap → Prop} (hK : KTok KT) (l : Launch) (dC : Nat → ClassId) (dI : Nat → Nat → Nat) (ct ad : Nat → Nat) (F : List (Nat × va_E)) (σ : MS) (b : Int32) (hO : Ok (co σ)) : MC KT (dC, dI) vwCl (tysF ct) l yX0_feed cX0_feed 2 (some .int) rmX0_feed [.ref (ad 0), .int b] (RX ct ad F σ) (QI_ (dC, dI) vwCl (RX ct ad F) (fun (r : Int32) (σ' : MS) => ((s_feed (co σ) b).1) = r ∧ co σ' = (s_feed (co σ) b).2)) := by
  refine MC.ofI (own := RX0) pl_X0 rfl (Nat.le_of_ble_eq_true rfl) ?_
  intro pp ee ss mm aa bb hh cc AA QQ G hT hnm RET
  refine v_loc (L' := [(0, .ref (ad 0)), (1, .int b)]) rfl ?_
  obtain ⟨tz, hn6, e6, en6⟩ := tape6 hO
  have e6 : σ.1 6 0 = nI tz := e6
  refine v_iload_n G 1 dX0_feed_0 rfl ?_
  refine v_i2l (v := b.toInt64) G dX0_feed_1 rfl ?_
  refine v_lconst (v := 0) G dX0_feed_2 rfl ?_
  refine v_ldc2 G q421 dX0_feed_3 ?_
  refine w_callSi G hK hT (kX0_in hK l dC dI ct ad F σ b.toInt64 0 255) (ck_X0_14 G.2.2.2.2.1 ⟨Nat.le_of_ble_eq_true rfl, Nat.le_of_ble_eq_true rfl⟩) (fun _ h => h) rfl [] rfl (Nat.le_of_ble_eq_true rfl) dX0_feed_6 ⟨Nat.le_of_ble_eq_true rfl, Nat.le_of_ble_eq_true rfl⟩ (k1 := 0) (n1 := 0) rfl rfl ?_
  rintro r6 σ6 (⟨rfl, rfl, h6_h⟩ | ⟨rfl, rfl, h6_h⟩)
  · have g6 := (in_rg (c := b) (lo := 0) (hi := 255) (a := 0) (z := 255) (by decide) (by decide)).mp h6_h
    refine v_if_ne (tgt := 15) G dX0_feed_9 (by decide) (fun h9 => ?_) (fun h9 => absurd h9 (by decide))
    refine v_aload_n G 0 dX0_feed_15 rfl ?_
    refine x_get (v := .int (σ.1 6 0)) G 13 (by decide) rfl q803 rfl dX0_feed_16 ?_
    refine v_sipush (v := 160) G dX0_feed_19 rfl ?_
    refine v_icmp_ne (tgt := 28) G dX0_feed_22 (by decide) (fun h22 => ?_) (fun h22 => ?_)
    · have n22 := (not_congr (cmp_eq (x := σ.1 6 0) (y := 160) (a := tz) (b := 160) e6 (ix_lit 160 rfl) (by omega) (by omega))).mp h22
      have hn7 : tz < 160 := by omega
      refine v_aload_n G 0 dX0_feed_28 rfl ?_
      refine x_get (v := .ref (ad 5)) G 12 (by decide) rfl q802 rfl dX0_feed_29 ?_
      refine v_aload_n G 0 dX0_feed_32 rfl ?_
      refine x_get (v := .int (σ.1 6 0)) G 13 (by decide) rfl q803 rfl dX0_feed_33 ?_
      refine v_iload_n G 1 dX0_feed_36 rfl ?_
      refine v_i2b (v := b.toInt8.toInt32) G dX0_feed_37 rfl ?_
      refine x_bast (w := b) G tz e6 (by omega) (by show (b.toInt8.toInt32).toInt8.toInt32 = b.toInt8.toInt32; simp) dX0_feed_38 ?_
      refine v_aload_n G 0 dX0_feed_39 rfl ?_
      refine v_dup G dX0_feed_40 rfl ?_
      refine x_get (v := .int (σ.1 6 0)) G 13 (by decide) rfl q803 rfl dX0_feed_41 ?_
      refine v_iconst (v := 1) G dX0_feed_44 rfl ?_
      refine v_iadd G dX0_feed_45 ?_
      refine x_putI G 13 6 (by decide) (by decide) rfl q803 rfl rfl rfl dX0_feed_46 ?_
      refine v_aload_n G 0 dX0_feed_49 rfl ?_
      refine x_get (v := .int ((mset (mset σ 5 tz b) 6 0 ((σ.1 6 0) + 1)).1 6 0)) G 13 (by decide) rfl q803 rfl dX0_feed_50 ?_
      refine v_topr (congrArg Value.int (show (mset (mset σ 5 tz b) 6 0 ((σ.1 6 0) + 1)).1 6 0 = (σ.1 6 0) + 1 from (by first | rfl | simp [mset, msetL, upd2]))) ?_
      refine RET _ _ _ _ _ _ rfl (Nat.le_of_ble_eq_true rfl) (Nat.le_of_ble_eq_true rfl) dX0_feed_53 (fun ws hws => ⟨_, hws, ?_⟩)
      clear RET G hT hnm
      rw [s_feed, if_pos g6, cq6, if_neg h22]
      refine ⟨rfl, ?_⟩
      rw [co_set (by decide), co_set (by decide), show n_ (σ.1 6 0) = tz from en6]
    · have n22 := (cmp_eq (x := σ.1 6 0) (y := 160) (a := tz) (b := 160) e6 (ix_lit 160 rfl) (by omega) (by omega)).mp h22
      refine v_bipush (v := (-4)) G dX0_feed_25 rfl ?_
      refine RET _ _ _ _ _ _ rfl (Nat.le_of_ble_eq_true rfl) (Nat.le_of_ble_eq_true rfl) dX0_feed_27 (fun ws hws => ⟨_, hws, ?_⟩)
      clear RET G hT hnm
      rw [s_feed, if_pos g6, cq6, if_pos h22]
      exact ⟨rfl, rfl⟩
  · have g6 : ¬ rg b 0 255 := fun zz => h6_h ((in_rg (c := b) (lo := 0) (hi := 255) (a := 0) (z := 255) (by decide) (by decide)).mpr zz)
    refine v_if_ne (tgt := 15) G dX0_feed_9 (by decide) (fun h9 => absurd h9 (by decide)) (fun h9 => ?_)
    refine v_bipush (v := (-2)) G dX0_feed_12 rfl ?_
    refine RET _ _ _ _ _ _ rfl (Nat.le_of_ble_eq_true rfl) (Nat.le_of_ble_eq_true rfl) dX0_feed_14 (fun ws hws => ⟨_, hws, ?_⟩)
    clear RET G hT hnm
    rw [s_feed, if_neg g6]
    exact ⟨rfl, rfl⟩
