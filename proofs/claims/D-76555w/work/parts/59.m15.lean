set_option maxRecDepth 100000
abbrev rmX8_atDrawn : Room := { frames := 1, cells := 0, slots := 0, locals := 21 }
set_option maxHeartbeats 1000000 in
theorem kX8_atDrawn {KT : (Nat → Prop) → State → Heap → Prop} (hK : KTok KT) (l : Launch) (dC : Nat → ClassId) (dI : Nat → Nat → Nat) (ct ad : Nat → Nat) (σ : MS) (sd : Int32) (p : Nat) (n : Nat) (hO : Ok (co σ)) (hp : p < 5) (hn : n ≤ 40) : MC KT (dC, dI) vwCl (tysF ct) l yX8_atDrawn cX8_atDrawn 7 (some .int) rmX8_atDrawn [.ref (ad 43), .int sd, .int (nI p), .int (nI n)] (RM ct ad σ) (QI_ (dC, dI) vwCl (RM ct ad) (fun (r : Int32) (σ' : MS) => ((s_dr (co σ 8) sd (co σ 10 (5 * p + 1)) n).2) = r ∧ σ = σ')) := by
  refine MC.ofI (own := RX8) pl_X8 rfl (Nat.le_of_ble_eq_true rfl) ?_
  intro pp ee ss mm aa bb hh cc AA QQ G hT hnm RET
  refine v_loc (L' := [(0, .ref (ad 43)), (1, .int sd), (2, .int (nI p)), (3, .int (nI n))]) rfl ?_
  refine v_iload_n G 1 dX8_atDrawn_0 rfl ?_
  refine v_istore (L' := [(4, .int sd), (0, .ref (ad 43)), (1, .int sd), (2, .int (nI p)), (3, .int (nI n))]) G dX8_atDrawn_1 (by decide) rfl ?_
  refine v_aload_n G 1 dX8_atDrawn_3 rfl ?_
  refine v_iload_n G 3 dX8_atDrawn_4 rfl ?_
  refine w_callVi G hK hT (kX8_atOf hK l dC dI ct ad σ p (by first | assumption | omega)) (ck_X8_351 G.2.2.2.2.1 ⟨Nat.le_of_ble_eq_true rfl, Nat.le_of_ble_eq_true rfl⟩) m_recv (fun _ h => h) rfl [] rfl (Nat.le_of_ble_eq_true rfl) dX8_atDrawn_5 ⟨Nat.le_of_ble_eq_true rfl, Nat.le_of_ble_eq_true rfl⟩ (k1 := 0) (n1 := 0) rfl rfl ?_
  rintro r5 σ5 ⟨rfl, rfl⟩
  refine v_topr (congrArg Value.int (show σ.1 10 (5 * p + 1) = (co σ) 10 (5 * p + 1) from rfl)) ?_
  refine v_istore (L' := [(5, .int ((co σ) 10 (5 * p + 1))), (4, .int sd), (0, .ref (ad 43)), (1, .int sd), (2, .int (nI p)), (3, .int (nI n))]) G dX8_atDrawn_8 (by decide) rfl ?_
  refine v_iconst (v := 0) G dX8_atDrawn_10 rfl ?_
  refine v_istore (L' := [(6, .int 0), (5, .int ((co σ) 10 (5 * p + 1))), (4, .int sd), (0, .ref (ad 43)), (1, .int sd), (2, .int (nI p)), (3, .int (nI n))]) G dX8_atDrawn_11 (by decide) rfl ?_
  have loop13 : ∀ (dd : Nat) (q : Nat), (q ≤ n) → n - q < dd → V_ pp l ee rmX8_atDrawn ss mm aa bb hh cc 7 (dC, dI) vwCl AA QQ 0 0 (RM ct ad σ) 13 [(6, .int (nI q)), (5, .int ((s_dr (co σ 8) sd (co σ 10 (5 * p + 1)) q).2)), (4, .int ((s_dr (co σ 8) sd (co σ 10 (5 * p + 1)) q).1)), (3, .int (nI n)), (2, .int (nI p)), (1, .int sd), (0, .ref (ad 43))] [] := by
    intro dd
    induction dd with
    | zero => intro q hq hdd; exact absurd hdd (Nat.not_lt_zero _)
    | succ dd ih13 =>
      intro q hq hdd
      refine v_iload G 0 dX8_atDrawn_13 rfl ?_
      refine v_iload_n G 3 dX8_atDrawn_15 rfl ?_
      refine v_icmp_ge (tgt := 56) G dX8_atDrawn_16 (by decide) (fun h16 => ?_) (fun h16 => ?_)
      · have n16 := (cmp_le (x := nI n) (y := nI q) (a := n) (b := q) rfl rfl (by omega) (by omega)).mp h16
        refine v_iload G 1 dX8_atDrawn_56 rfl ?_
        refine RET _ _ _ _ _ _ rfl (Nat.le_of_ble_eq_true rfl) (Nat.le_of_ble_eq_true rfl) dX8_atDrawn_58 (fun ws hws => ⟨_, hws, ?_⟩)
        clear RET G hT hnm
        exact ⟨by rw [show q = n by omega], rfl⟩
      · have n16 := (not_congr (cmp_le (x := nI n) (y := nI q) (a := n) (b := q) rfl rfl (by omega) (by omega))).mp h16
        obtain ⟨c0, hc0, ec0⟩ := (hO.1.2.1 p hp).2.1
        obtain ⟨c, hc, ec⟩ := s_dr_c (r := sd) (c0 := c0) hO.1.2.2.1 hc0 q
        rw [← ec0] at ec
        refine v_iload G 2 dX8_atDrawn_19 rfl ?_
        refine v_ldcw G q1821 dX8_atDrawn_21 ?_
        refine v_imul G dX8_atDrawn_24 ?_
        refine v_sipush (v := 12345) G dX8_atDrawn_25 rfl ?_
        refine v_iadd G dX8_atDrawn_28 ?_
        refine v_istore (L' := [(4, .int ((((s_dr (co σ 8) sd (co σ 10 (5 * p + 1)) q).1) * 1103515245) + 12345)), (6, .int (nI q)), (5, .int ((s_dr (co σ 8) sd (co σ 10 (5 * p + 1)) q).2)), (3, .int (nI n)), (2, .int (nI p)), (1, .int sd), (0, .ref (ad 43))]) G dX8_atDrawn_29 (by decide) rfl ?_
        refine v_aload_n G 6 dX8_atDrawn_31 rfl ?_
        refine m_get (v := .ref (ad 8)) G 8 (by decide) rfl q1302 rfl dX8_atDrawn_32 ?_
        refine v_iconst (v := 2) G dX8_atDrawn_35 rfl ?_
        refine v_iload G 2 dX8_atDrawn_36 rfl ?_
        refine v_imul G dX8_atDrawn_38 ?_
        refine v_iload G 0 dX8_atDrawn_39 rfl ?_
        refine v_bipush (v := 9) G dX8_atDrawn_41 rfl ?_
        refine v_iushr G dX8_atDrawn_43 rfl ?_
        refine v_iconst (v := 2) G dX8_atDrawn_44 rfl ?_
        refine v_irem G dX8_atDrawn_45 (by decide) ?_
        obtain ⟨z, hz, ez⟩ := s_bit01 (r := s_rnd (s_dr (co σ 8) sd (co σ 10 (5 * p + 1)) q).1)
        have es : 2 * (s_dr (co σ 8) sd (co σ 10 (5 * p + 1)) q).2 + s_bit (s_rnd (s_dr (co σ 8) sd (co σ 10 (5 * p + 1)) q).1) = nI (2 * c + z) := by rw [ec, ez]; exact ix_add (ix_mul (ix_lit 2 rfl) rfl) rfl
        refine v_topr (congrArg Value.int (show ((((((s_dr (co σ 8) sd (co σ 10 (5 * p + 1)) q).1) * 1103515245) + 12345).toUInt32 >>> ((9 : Int32).toUInt32 &&& Int32.toUInt32 31)).toInt32) - ((((((s_dr (co σ 8) sd (co σ 10 (5 * p + 1)) q).1) * 1103515245) + 12345).toUInt32 >>> ((9 : Int32).toUInt32 &&& Int32.toUInt32 31)).toInt32) / 2 * 2 = nI z from ez)) ?_
        refine v_iadd G dX8_atDrawn_46 ?_
        refine m_iald G 8 rfl ((2 * c) + z) (ix_add (ix_mul (ix_lit 2 rfl) ec) rfl) (show (2 * c) + z < 24 by first | omega | assumption | decide) dX8_atDrawn_47 ?_
        refine v_istore (L' := [(5, .int (σ.1 8 ((2 * c) + z))), (4, .int ((((s_dr (co σ 8) sd (co σ 10 (5 * p + 1)) q).1) * 1103515245) + 12345)), (6, .int (nI q)), (3, .int (nI n)), (2, .int (nI p)), (1, .int sd), (0, .ref (ad 43))]) G dX8_atDrawn_48 (by decide) rfl ?_
        refine v_iinc (v := nI (q + 1)) (L' := [(6, .int (nI (q + 1))), (5, .int (σ.1 8 ((2 * c) + z))), (4, .int ((((s_dr (co σ 8) sd (co σ 10 (5 * p + 1)) q).1) * 1103515245) + 12345)), (3, .int (nI n)), (2, .int (nI p)), (1, .int sd), (0, .ref (ad 43))]) G 2 dX8_atDrawn_50 rfl (ix_add rfl (ix_lit 1 rfl)) (by decide) rfl ?_
        refine v_goto (tgt := 13) G dX8_atDrawn_53 (by decide) ?_
        refine V_.sub (L' := [(6, .int (nI (q + 1))), (5, .int (σ.1 8 ((2 * c) + z))), (4, .int ((((s_dr (co σ 8) sd (co σ 10 (5 * p + 1)) q).1) * 1103515245) + 12345)), (3, .int (nI n)), (2, .int (nI p)), (1, .int sd), (0, .ref (ad 43))]) ?_ [0, 1, 2, 3, 4, 5, 6] rfl
        refine v_loc (L' := [(6, .int (nI (q + 1))), (5, .int ((s_dr (co σ 8) sd (co σ 10 (5 * p + 1)) (q + 1)).2)), (4, .int ((s_dr (co σ 8) sd (co σ 10 (5 * p + 1)) (q + 1)).1)), (3, .int (nI n)), (2, .int (nI p)), (1, .int sd), (0, .ref (ad 43))]) (by rw [s_dr, es, show n_ (nI (2 * c + z)) = 2 * c + z from nI_clamp (by omega)] <;> rfl) ?_
        exact ih13  (q + 1) (by omega) (by omega)
  refine V_.sub (L' := [(6, .int 0), (5, .int ((co σ) 10 (5 * p + 1))), (4, .int sd), (3, .int (nI n)), (2, .int (nI p)), (1, .int sd), (0, .ref (ad 43))]) ?_ [0, 1, 2, 6, 5, 4, 3] rfl
  refine v_loc (L' := [(6, .int (nI 0)), (5, .int ((s_dr (co σ 8) sd (co σ 10 (5 * p + 1)) 0).2)), (4, .int ((s_dr (co σ 8) sd (co σ 10 (5 * p + 1)) 0).1)), (3, .int (nI n)), (2, .int (nI p)), (1, .int sd), (0, .ref (ad 43))]) (rfl) ?_
  exact loop13 _ 0 (Nat.zero_le _) (Nat.lt_succ_self _)
abbrev rmX8_drawn : Room := { frames := 2, cells := 0, slots := 0, locals := 47 }
set_option maxHeartbeats 1000000 in
theorem kX8_drawn {KT : (Nat → Prop) → State → Heap → Prop} (hK : KTok KT) (l : Launch) (dC : Nat → ClassId) (dI : Nat → Nat → Nat) (ct ad : Nat → Nat) (σ : MS) (sd : Int32) (x : Int32) (n : Int32) (hO : Ok (co σ)) : MC KT (dC, dI) vwCl (tysF ct) l yX8_drawn cX8_drawn 4 (some .int) rmX8_drawn [.ref (ad 43), .int sd, .int x, .int n] (RM ct ad σ) (QI_ (dC, dI) vwCl (RM ct ad) (fun (r : Int32) (σ' : MS) => (s_drawn (co σ) sd x n) = r ∧ σ = σ')) := by
  refine MC.ofI (own := RX8) pl_X8 rfl (Nat.le_of_ble_eq_true rfl) ?_
  intro pp ee ss mm aa bb hh cc AA QQ G hT hnm RET
  refine v_loc (L' := [(0, .ref (ad 43)), (1, .int sd), (2, .int x), (3, .int n)]) rfl ?_
  obtain ⟨hm5, hm⟩ := many5 hO.1
  have hm : σ.1 11 0 = nI (s_many (co σ)) := hm
  refine v_aload_n G 0 dX8_drawn_0 rfl ?_
  refine v_iload_n G 2 dX8_drawn_1 rfl ?_
  refine w_callVi G hK hT (kX8_isOne hK l dC dI ct ad σ (s_many (co σ)) x hm5 hm) (ck_X8_101 G.2.2.2.2.1 ⟨Nat.le_of_ble_eq_true rfl, Nat.le_of_ble_eq_true rfl⟩) m_recv (fun _ h => h) rfl [] rfl (Nat.le_of_ble_eq_true rfl) dX8_drawn_2 ⟨Nat.le_of_ble_eq_true rfl, Nat.le_of_ble_eq_true rfl⟩ (k1 := 0) (n1 := 0) rfl rfl ?_
  rintro r2 σ2 (⟨rfl, rfl, h2_h⟩ | ⟨rfl, rfl, h2_h⟩)
  · refine v_if_eq (tgt := 30) G dX8_drawn_5 (by decide) (fun h5 => absurd h5 (by decide)) (fun h5 => ?_)
    refine v_iload_n G 3 dX8_drawn_8 rfl ?_
    refine v_i2l (v := n.toInt64) G dX8_drawn_9 rfl ?_
    refine v_lconst (v := 0) G dX8_drawn_10 rfl ?_
    refine v_ldc2 G q1741 dX8_drawn_11 ?_
    refine w_callSi G hK hT (kX8_in hK l dC dI ct ad σ n.toInt64 0 40) (ck_X8_86 G.2.2.2.2.1 ⟨Nat.le_of_ble_eq_true rfl, Nat.le_of_ble_eq_true rfl⟩) (fun _ h => h) rfl [] rfl (Nat.le_of_ble_eq_true rfl) dX8_drawn_14 ⟨Nat.le_of_ble_eq_true rfl, Nat.le_of_ble_eq_true rfl⟩ (k1 := 0) (n1 := 0) rfl rfl ?_
    rintro r14 σ14 (⟨rfl, rfl, h14_h⟩ | ⟨rfl, rfl, h14_h⟩)
    · have g14 := (in_rg (c := n) (lo := 0) (hi := 40) (a := 0) (z := 40) (by decide) (by decide)).mp h14_h
      refine v_if_eq (tgt := 30) G dX8_drawn_17 (by decide) (fun h17 => absurd h17 (by decide)) (fun h17 => ?_)
      obtain ⟨p, hpm, ep⟩ := rg_lt h2_h (by omega)
      obtain ⟨nn, hnn, enn_⟩ := rg_nat (n := 40) (x := n) g14 (by decide)
      have ennn : n_ n = nn := by rw [enn_]; exact nI_clamp (by omega)
      refine v_aload_n G 0 dX8_drawn_20 rfl ?_
      refine v_iload_n G 1 dX8_drawn_21 rfl ?_
      refine v_iload_n G 2 dX8_drawn_22 rfl ?_
      refine v_iload_n G 3 dX8_drawn_23 rfl ?_
      refine v_stk (st' := [.int (nI nn), .int (nI p), .int sd, .ref (ad 43)]) (by first | rfl | (have e0 : x = nI p := ep ; have e1 : n = nI nn := enn_ ; simp only [e0, e1])) ?_
      refine w_callVi G hK hT (kX8_atDrawn hK l dC dI ct ad σ sd p nn hO (by omega) (by first | assumption | omega)) (ck_X8_422 G.2.2.2.2.1 ⟨Nat.le_of_ble_eq_true rfl, Nat.le_of_ble_eq_true rfl⟩) m_recv (fun _ h => h) rfl [] rfl (Nat.le_of_ble_eq_true rfl) dX8_drawn_24 ⟨Nat.le_of_ble_eq_true rfl, Nat.le_of_ble_eq_true rfl⟩ (k1 := 0) (n1 := 0) rfl rfl ?_
      rintro r24 σ24 ⟨rfl, rfl⟩
      refine v_goto (tgt := 32) G dX8_drawn_27 (by decide) ?_
      refine RET _ _ _ _ _ _ rfl (Nat.le_of_ble_eq_true rfl) (Nat.le_of_ble_eq_true rfl) dX8_drawn_32 (fun ws hws => ⟨_, hws, ?_⟩)
      clear RET G hT hnm
      exact ⟨by rw [s_drawn, if_pos ⟨h2_h, g14⟩, ennn, show n_ x = p by rw [ep]; exact nI_clamp (by omega)], rfl⟩
    · have g14 : ¬ rg n 0 40 := fun zz => h14_h ((in_rg (c := n) (lo := 0) (hi := 40) (a := 0) (z := 40) (by decide) (by decide)).mpr zz)
      refine v_if_eq (tgt := 30) G dX8_drawn_17 (by decide) (fun h17 => ?_) (fun h17 => absurd h17 (by decide))
      refine v_bipush (v := (-2)) G dX8_drawn_30 rfl ?_
      refine RET _ _ _ _ _ _ rfl (Nat.le_of_ble_eq_true rfl) (Nat.le_of_ble_eq_true rfl) dX8_drawn_32 (fun ws hws => ⟨_, hws, ?_⟩)
      clear RET G hT hnm
      exact ⟨by rw [s_drawn, if_neg (fun q => by first | exact h2_h q.1 | exact g14 q.2)], rfl⟩
  · refine v_if_eq (tgt := 30) G dX8_drawn_5 (by decide) (fun h5 => ?_) (fun h5 => absurd h5 (by decide))
    refine v_bipush (v := (-2)) G dX8_drawn_30 rfl ?_
    refine RET _ _ _ _ _ _ rfl (Nat.le_of_ble_eq_true rfl) (Nat.le_of_ble_eq_true rfl) dX8_drawn_32 (fun ws hws => ⟨_, hws, ?_⟩)
    clear RET G hT hnm
    exact ⟨by rw [s_drawn, if_neg (fun q => by first | exact h2_h q.1 | exact g14 q.2)], rfl⟩
abbrev rmX8_chance : Room := { frames := 2, cells := 0, slots := 0, locals := 47 }
set_option maxHeartbeats 1000000 in
theorem kX8_chance {KT : (Nat → Prop) → State → Heap → Prop} (hK : KTok KT) (l : Launch) (dC : Nat → ClassId) (dI : Nat → Nat → Nat) (ct ad : Nat → Nat) (σ : MS) (sd : Int32) (n : Int32) (x : Int32) (c : Int32) (w : Int32) (hO : Ok (co σ)) : MC KT (dC, dI) vwCl (tysF ct) l yX8_chance cX8_chance 9 (some .long) rmX8_chance [.ref (ad 43), .int sd, .int n, .int x, .int c, .int w] (RM ct ad σ) (QL_ (dC, dI) vwCl (RM ct ad) (fun (r : Int64) (σ' : MS) => (s_chance (co σ) sd n x c w) = r ∧ σ = σ')) := by
  refine MC.ofL (own := RX8) pl_X8 rfl (Nat.le_of_ble_eq_true rfl) ?_
  intro pp ee ss mm aa bb hh cc AA QQ G hT hnm RET
  refine v_loc (L' := [(0, .ref (ad 43)), (1, .int sd), (2, .int n), (3, .int x), (4, .int c), (5, .int w)]) rfl ?_
  obtain ⟨hm5, hm⟩ := many5 hO.1
  have hm : σ.1 11 0 = nI (s_many (co σ)) := hm
  refine v_iload_n G 2 dX8_chance_0 rfl ?_
  refine v_i2l (v := n.toInt64) G dX8_chance_1 rfl ?_
  refine v_lconst (v := 1) G dX8_chance_2 rfl ?_
  refine v_ldc2 G q1741 dX8_chance_3 ?_
  refine w_callSi G hK hT (kX8_in hK l dC dI ct ad σ n.toInt64 1 40) (ck_X8_86 G.2.2.2.2.1 ⟨Nat.le_of_ble_eq_true rfl, Nat.le_of_ble_eq_true rfl⟩) (fun _ h => h) rfl [] rfl (Nat.le_of_ble_eq_true rfl) dX8_chance_6 ⟨Nat.le_of_ble_eq_true rfl, Nat.le_of_ble_eq_true rfl⟩ (k1 := 0) (n1 := 0) rfl rfl ?_
  rintro r6 σ6 (⟨rfl, rfl, h6_h⟩ | ⟨rfl, rfl, h6_h⟩)
  · have g6 := (in_rg (c := n) (lo := 1) (hi := 40) (a := 1) (z := 40) (by decide) (by decide)).mp h6_h
    refine v_if_eq (tgt := 39) G dX8_chance_9 (by decide) (fun h9 => absurd h9 (by decide)) (fun h9 => ?_)
    refine v_aload_n G 0 dX8_chance_12 rfl ?_
    refine v_iload_n G 3 dX8_chance_13 rfl ?_
    refine w_callVi G hK hT (kX8_isOne hK l dC dI ct ad σ (s_many (co σ)) x hm5 hm) (ck_X8_101 G.2.2.2.2.1 ⟨Nat.le_of_ble_eq_true rfl, Nat.le_of_ble_eq_true rfl⟩) m_recv (fun _ h => h) rfl [] rfl (Nat.le_of_ble_eq_true rfl) dX8_chance_14 ⟨Nat.le_of_ble_eq_true rfl, Nat.le_of_ble_eq_true rfl⟩ (k1 := 0) (n1 := 0) rfl rfl ?_
    rintro r14 σ14 (⟨rfl, rfl, h14_h⟩ | ⟨rfl, rfl, h14_h⟩)
    · refine v_if_eq (tgt := 39) G dX8_chance_17 (by decide) (fun h17 => absurd h17 (by decide)) (fun h17 => ?_)
      refine v_iload G 4 dX8_chance_20 rfl ?_
      refine w_callSi G hK hT (kX8_isCrossing hK l dC dI ct ad σ c) (ck_X8_98 G.2.2.2.2.1 ⟨Nat.le_of_ble_eq_true rfl, Nat.le_of_ble_eq_true rfl⟩) (fun _ h => h) rfl [] rfl (Nat.le_of_ble_eq_true rfl) dX8_chance_22 ⟨Nat.le_of_ble_eq_true rfl, Nat.le_of_ble_eq_true rfl⟩ (k1 := 0) (n1 := 0) rfl rfl ?_
      rintro r22 σ22 (⟨rfl, rfl, h22_h⟩ | ⟨rfl, rfl, h22_h⟩)
      · refine v_if_eq (tgt := 39) G dX8_chance_25 (by decide) (fun h25 => absurd h25 (by decide)) (fun h25 => ?_)
        refine v_iload G 5 dX8_chance_28 rfl ?_
        refine v_i2l (v := w.toInt64) G dX8_chance_30 rfl ?_
        refine v_lconst (v := 0) G dX8_chance_31 rfl ?_
        refine v_lconst (v := 1) G dX8_chance_32 rfl ?_
        refine w_callSi G hK hT (kX8_in hK l dC dI ct ad σ w.toInt64 0 1) (ck_X8_86 G.2.2.2.2.1 ⟨Nat.le_of_ble_eq_true rfl, Nat.le_of_ble_eq_true rfl⟩) (fun _ h => h) rfl [] rfl (Nat.le_of_ble_eq_true rfl) dX8_chance_33 ⟨Nat.le_of_ble_eq_true rfl, Nat.le_of_ble_eq_true rfl⟩ (k1 := 0) (n1 := 0) rfl rfl ?_
        rintro r33 σ33 (⟨rfl, rfl, h33_h⟩ | ⟨rfl, rfl, h33_h⟩)
        · have g33 := (in_rg (c := w) (lo := 0) (hi := 1) (a := 0) (z := 1) (by decide) (by decide)).mp h33_h
          refine v_if_ne (tgt := 43) G dX8_chance_36 (by decide) (fun h36 => ?_) (fun h36 => absurd h36 (by decide))
          obtain ⟨nn, hnn, enn_⟩ := rg_nat (n := 40) (x := n) ⟨(by have := g6.1; omega), g6.2⟩ (by decide)
          have ennn : n_ n = nn := by rw [enn_]; exact nI_clamp (by omega)
          have nn1 : 1 ≤ nn := by have := g6.1; rw [enn_, nI_toInt (by omega)] at this; omega
          obtain ⟨p, hpm, ep⟩ := rg_lt h14_h (by omega)
          refine v_lconst (v := 0) G dX8_chance_43 rfl ?_
          refine v_lstore (L' := [(6, .long 0), (0, .ref (ad 43)), (1, .int sd), (2, .int n), (3, .int x), (4, .int c), (5, .int w)]) G dX8_chance_44 (by decide) rfl ?_
          refine v_iconst (v := 0) G dX8_chance_46 rfl ?_
          refine v_istore (L' := [(8, .int 0), (6, .long 0), (0, .ref (ad 43)), (1, .int sd), (2, .int n), (3, .int x), (4, .int c), (5, .int w)]) G dX8_chance_47 (by decide) rfl ?_
          have loop49 : ∀ (dd : Nat) (q : Nat), (q ≤ nn) → nn - q < dd → V_ pp l ee rmX8_chance ss mm aa bb hh cc 9 (dC, dI) vwCl AA QQ 0 0 (RM ct ad σ) 49 [(8, .int (nI q)), (6, .long (lN (s_hit (co σ) sd p c q))), (5, .int w), (4, .int c), (3, .int x), (2, .int n), (1, .int sd), (0, .ref (ad 43))] [] := by
            intro dd
            induction dd with
            | zero => intro q hq hdd; exact absurd hdd (Nat.not_lt_zero _)
            | succ dd ih49 =>
              intro q hq hdd
              refine v_iload G 0 dX8_chance_49 rfl ?_
              refine v_iload_n G 5 dX8_chance_51 rfl ?_
              refine v_icmp_ge (tgt := 87) G dX8_chance_52 (by decide) (fun h52 => ?_) (fun h52 => ?_)
              · have n52 := (cmp_le (x := n) (y := nI q) (a := nn) (b := q) enn_ rfl (by omega) (by omega)).mp h52
                refine v_lload G 1 dX8_chance_87 rfl ?_
                refine v_topr (congrArg Value.long (show lN (s_hit (co σ) sd p c q) = lN (s_hit (co σ) sd p c nn) by rw [show q = nn by omega])) ?_
                refine v_iload_n G 5 dX8_chance_89 rfl ?_
                refine v_i2l (v := n.toInt64) G dX8_chance_90 rfl ?_
                refine v_topr (congrArg Value.long (show n.toInt64 = lN nn by rw [enn_]; exact nI_l (by omega))) ?_
                refine v_iload G 2 dX8_chance_91 rfl ?_
                refine w_callSl G hK hT (kX8_lowest hK l dC dI ct ad σ (s_hit (co σ) sd p c nn) nn w (by have := s_hit_le (K := co σ) (r := sd) (p := p) (c := c) nn; omega) (by omega) (by omega)) (ck_X8_394 G.2.2.2.2.1 ⟨Nat.le_of_ble_eq_true rfl, Nat.le_of_ble_eq_true rfl⟩) (fun _ h => h) rfl [] rfl (Nat.le_of_ble_eq_true rfl) dX8_chance_93 ⟨Nat.le_of_ble_eq_true rfl, Nat.le_of_ble_eq_true rfl⟩ (k1 := 0) (n1 := 0) rfl rfl ?_
                rintro r93 σ93 ⟨rfl, rfl⟩
                refine RET _ _ _ _ _ _ (Nat.le_of_ble_eq_true rfl) (Nat.le_of_ble_eq_true rfl) dX8_chance_96 (fun ws hws => ⟨_, hws, ?_⟩)
                clear RET G hT hnm
                exact ⟨by rw [s_chance, if_pos ⟨g6, h14_h, h22_h, g33⟩, ennn, show n_ x = p by rw [ep]; exact nI_clamp (by omega)], rfl⟩
              · have n52 := (not_congr (cmp_le (x := n) (y := nI q) (a := nn) (b := q) enn_ rfl (by omega) (by omega))).mp h52
                refine v_lload G 1 dX8_chance_55 rfl ?_
                refine v_aload_n G 7 dX8_chance_57 rfl ?_
                refine v_iload_n G 6 dX8_chance_58 rfl ?_
                refine v_iload G 0 dX8_chance_59 rfl ?_
                refine v_iadd G dX8_chance_61 ?_
                refine v_iload_n G 4 dX8_chance_62 rfl ?_
                refine v_bipush (v := 8) G dX8_chance_63 rfl ?_
                refine v_stk (st' := [.int (nI 8), .int (nI p), .int (sd + (nI q)), .ref (ad 43), .long (lN (s_hit (co σ) sd p c q))]) (by first | rfl | (have e0 : x = nI p := ep ; have e1 : 8 = nI 8 := (ix_lit 8 rfl) ; simp only [e0, e1])) ?_
                refine w_callVi G hK hT (kX8_atDrawn hK l dC dI ct ad σ (sd + (nI q)) p 8 hO (by omega) (by first | assumption | omega)) (ck_X8_422 G.2.2.2.2.1 ⟨Nat.le_of_ble_eq_true rfl, Nat.le_of_ble_eq_true rfl⟩) m_recv (fun _ h => h) rfl [.long (lN (s_hit (co σ) sd p c q))] rfl (Nat.le_of_ble_eq_true rfl) dX8_chance_65 ⟨Nat.le_of_ble_eq_true rfl, Nat.le_of_ble_eq_true rfl⟩ (k1 := 0) (n1 := 0) rfl rfl ?_
                rintro r65 σ65 ⟨rfl, rfl⟩
                refine v_iload G 3 dX8_chance_68 rfl ?_
                refine v_icmp_ne (tgt := 77) G dX8_chance_70 (by decide) (fun h70 => ?_) (fun h70 => ?_)
                · refine v_lconst (v := 0) G dX8_chance_77 rfl ?_
                  refine v_ladd G dX8_chance_78 ?_
                  refine v_lstore (L' := [(6, .long ((lN (s_hit (co σ) sd p c q)) + 0)), (8, .int (nI q)), (5, .int w), (4, .int c), (3, .int x), (2, .int n), (1, .int sd), (0, .ref (ad 43))]) G dX8_chance_79 (by decide) rfl ?_
                  refine v_iinc (v := nI (q + 1)) (L' := [(8, .int (nI (q + 1))), (6, .long ((lN (s_hit (co σ) sd p c q)) + 0)), (5, .int w), (4, .int c), (3, .int x), (2, .int n), (1, .int sd), (0, .ref (ad 43))]) G 1 dX8_chance_81 rfl (ix_add rfl (ix_lit 1 rfl)) (by decide) rfl ?_
                  refine v_goto (tgt := 49) G dX8_chance_84 (by decide) ?_
                  refine V_.sub (L' := [(8, .int (nI (q + 1))), (6, .long ((lN (s_hit (co σ) sd p c q)) + 0)), (5, .int w), (4, .int c), (3, .int x), (2, .int n), (1, .int sd), (0, .ref (ad 43))]) ?_ [0, 1, 2, 3, 4, 5, 6, 7] rfl
                  refine v_loc (L' := [(8, .int (nI (q + 1))), (6, .long (lN (s_hit (co σ) sd p c (q + 1)))), (5, .int w), (4, .int c), (3, .int x), (2, .int n), (1, .int sd), (0, .ref (ad 43))]) (by rw [s_hit]; first | (rw [if_pos (by exact h70), ← lN_add] <;> rfl) | (rw [if_neg (by exact h70), ← lN_add] <;> rfl)) ?_
                  exact ih49  (q + 1) (by omega) (by omega)
                · refine v_lconst (v := 1) G dX8_chance_73 rfl ?_
                  refine v_goto (tgt := 78) G dX8_chance_74 (by decide) ?_
                  refine v_ladd G dX8_chance_78 ?_
                  refine v_lstore (L' := [(6, .long ((lN (s_hit (co σ) sd p c q)) + 1)), (8, .int (nI q)), (5, .int w), (4, .int c), (3, .int x), (2, .int n), (1, .int sd), (0, .ref (ad 43))]) G dX8_chance_79 (by decide) rfl ?_
                  refine v_iinc (v := nI (q + 1)) (L' := [(8, .int (nI (q + 1))), (6, .long ((lN (s_hit (co σ) sd p c q)) + 1)), (5, .int w), (4, .int c), (3, .int x), (2, .int n), (1, .int sd), (0, .ref (ad 43))]) G 1 dX8_chance_81 rfl (ix_add rfl (ix_lit 1 rfl)) (by decide) rfl ?_
                  refine v_goto (tgt := 49) G dX8_chance_84 (by decide) ?_
                  refine V_.sub (L' := [(8, .int (nI (q + 1))), (6, .long ((lN (s_hit (co σ) sd p c q)) + 1)), (5, .int w), (4, .int c), (3, .int x), (2, .int n), (1, .int sd), (0, .ref (ad 43))]) ?_ [0, 1, 2, 3, 4, 5, 6, 7] rfl
                  refine v_loc (L' := [(8, .int (nI (q + 1))), (6, .long (lN (s_hit (co σ) sd p c (q + 1)))), (5, .int w), (4, .int c), (3, .int x), (2, .int n), (1, .int sd), (0, .ref (ad 43))]) (by rw [s_hit]; first | (rw [if_pos (by exact h70), ← lN_add] <;> rfl) | (rw [if_neg (by exact h70), ← lN_add] <;> rfl)) ?_
                  exact ih49  (q + 1) (by omega) (by omega)
          refine V_.sub (L' := [(8, .int 0), (6, .long 0), (5, .int w), (4, .int c), (3, .int x), (2, .int n), (1, .int sd), (0, .ref (ad 43))]) ?_ [0, 1, 7, 6, 5, 4, 3, 2] rfl
          refine v_loc (L' := [(8, .int (nI 0)), (6, .long (lN (s_hit (co σ) sd p c 0))), (5, .int w), (4, .int c), (3, .int x), (2, .int n), (1, .int sd), (0, .ref (ad 43))]) (rfl) ?_
          exact loop49 _ 0 (Nat.zero_le _) (Nat.lt_succ_self _)
        · have g33 : ¬ rg w 0 1 := fun zz => h33_h ((in_rg (c := w) (lo := 0) (hi := 1) (a := 0) (z := 1) (by decide) (by decide)).mpr zz)
          refine v_if_ne (tgt := 43) G dX8_chance_36 (by decide) (fun h36 => absurd h36 (by decide)) (fun h36 => ?_)
          refine v_ldc2 G q1751 dX8_chance_39 ?_
          refine RET _ _ _ _ _ _ (Nat.le_of_ble_eq_true rfl) (Nat.le_of_ble_eq_true rfl) dX8_chance_42 (fun ws hws => ⟨_, hws, ?_⟩)
          clear RET G hT hnm
          exact ⟨by rw [s_chance, if_neg (fun q => by first | exact g6 q.1 | exact h14_h q.2.1 | exact h22_h q.2.2.1 | exact g33 q.2.2.2)], rfl⟩
      · refine v_if_eq (tgt := 39) G dX8_chance_25 (by decide) (fun h25 => ?_) (fun h25 => absurd h25 (by decide))
        refine v_ldc2 G q1751 dX8_chance_39 ?_
        refine RET _ _ _ _ _ _ (Nat.le_of_ble_eq_true rfl) (Nat.le_of_ble_eq_true rfl) dX8_chance_42 (fun ws hws => ⟨_, hws, ?_⟩)
        clear RET G hT hnm
        exact ⟨by rw [s_chance, if_neg (fun q => by first | exact g6 q.1 | exact h14_h q.2.1 | exact h22_h q.2.2.1 | exact g33 q.2.2.2)], rfl⟩
    · refine v_if_eq (tgt := 39) G dX8_chance_17 (by decide) (fun h17 => ?_) (fun h17 => absurd h17 (by decide))
      refine v_ldc2 G q1751 dX8_chance_39 ?_
      refine RET _ _ _ _ _ _ (Nat.le_of_ble_eq_true rfl) (Nat.le_of_ble_eq_true rfl) dX8_chance_42 (fun ws hws => ⟨_, hws, ?_⟩)
      clear RET G hT hnm
      exact ⟨by rw [s_chance, if_neg (fun q => by first | exact g6 q.1 | exact h14_h q.2.1 | exact h22_h q.2.2.1 | exact g33 q.2.2.2)], rfl⟩
  · have g6 : ¬ rg n 1 40 := fun zz => h6_h ((in_rg (c := n) (lo := 1) (hi := 40) (a := 1) (z := 40) (by decide) (by decide)).mpr zz)
    refine v_if_eq (tgt := 39) G dX8_chance_9 (by decide) (fun h9 => ?_) (fun h9 => absurd h9 (by decide))
    refine v_ldc2 G q1751 dX8_chance_39 ?_
    refine RET _ _ _ _ _ _ (Nat.le_of_ble_eq_true rfl) (Nat.le_of_ble_eq_true rfl) dX8_chance_42 (fun ws hws => ⟨_, hws, ?_⟩)
    clear RET G hT hnm
    exact ⟨by rw [s_chance, if_neg (fun q => by first | exact g6 q.1 | exact h14_h q.2.1 | exact h22_h q.2.2.1 | exact g33 q.2.2.2)], rfl⟩
abbrev rmX8_over : Room := { frames := 0, cells := 0, slots := 0, locals := 0 }
set_option maxHeartbeats 1000000 in
theorem kX8_over {KT : (Nat → Prop) → State → Heap → Prop} (hK : KTok KT) (l : Launch) (dC : Nat → ClassId) (dI : Nat → Nat → Nat) (ct ad : Nat → Nat) (σ : MS) (z : Int32)  : MC KT (dC, dI) vwCl (tysF ct) l yX8_over cX8_over 1 (some .int) rmX8_over [.int z] (RM ct ad σ) (QI_ (dC, dI) vwCl (RM ct ad) (fun (r : Int32) (σ' : MS) => (s_over z) = r ∧ σ = σ')) := by
  refine MC.ofI (own := RX8) pl_X8 rfl (Nat.le_of_ble_eq_true rfl) ?_
  intro pp ee ss mm aa bb hh cc AA QQ G hT hnm RET
  refine v_loc (L' := [(0, .int z)]) rfl ?_
  refine v_iload_n G 0 dX8_over_0 rfl ?_
  refine v_if_ne (tgt := 8) G dX8_over_1 (by decide) (fun h1 => ?_) (fun h1 => ?_)
  · refine v_iload_n G 0 dX8_over_8 rfl ?_
    refine v_iconst (v := 3) G dX8_over_9 rfl ?_
    refine v_icmp_ne (tgt := 17) G dX8_over_10 (by decide) (fun h10 => ?_) (fun h10 => ?_)
    · refine v_iload_n G 0 dX8_over_17 rfl ?_
      refine v_iconst (v := 4) G dX8_over_18 rfl ?_
      refine v_icmp_ne (tgt := 26) G dX8_over_19 (by decide) (fun h19 => ?_) (fun h19 => ?_)
      · refine v_iconst (v := 0) G dX8_over_26 rfl ?_
        refine RET _ _ _ _ _ _ rfl (Nat.le_of_ble_eq_true rfl) (Nat.le_of_ble_eq_true rfl) dX8_over_27 (fun ws hws => ⟨_, hws, ?_⟩)
        clear RET G hT hnm
        exact ⟨by unfold s_over; first | (rw [if_pos h1]; done) | (rw [if_neg h1, if_pos h10]; done) | (rw [if_neg h1, if_neg h10, if_pos h19]; done) | (rw [if_neg h1, if_neg h10, if_neg h19]; done), rfl⟩
      · refine v_iconst (v := 2) G dX8_over_22 rfl ?_
        refine v_goto (tgt := 27) G dX8_over_23 (by decide) ?_
        refine RET _ _ _ _ _ _ rfl (Nat.le_of_ble_eq_true rfl) (Nat.le_of_ble_eq_true rfl) dX8_over_27 (fun ws hws => ⟨_, hws, ?_⟩)
        clear RET G hT hnm
        exact ⟨by unfold s_over; first | (rw [if_pos h1]; done) | (rw [if_neg h1, if_pos h10]; done) | (rw [if_neg h1, if_neg h10, if_pos h19]; done) | (rw [if_neg h1, if_neg h10, if_neg h19]; done), rfl⟩
    · refine v_iconst (v := 1) G dX8_over_13 rfl ?_
      refine v_goto (tgt := 27) G dX8_over_14 (by decide) ?_
      refine RET _ _ _ _ _ _ rfl (Nat.le_of_ble_eq_true rfl) (Nat.le_of_ble_eq_true rfl) dX8_over_27 (fun ws hws => ⟨_, hws, ?_⟩)
      clear RET G hT hnm
      exact ⟨by unfold s_over; first | (rw [if_pos h1]; done) | (rw [if_neg h1, if_pos h10]; done) | (rw [if_neg h1, if_neg h10, if_pos h19]; done) | (rw [if_neg h1, if_neg h10, if_neg h19]; done), rfl⟩
  · refine v_iconst (v := (-1)) G dX8_over_4 rfl ?_
    refine v_goto (tgt := 27) G dX8_over_5 (by decide) ?_
    refine RET _ _ _ _ _ _ rfl (Nat.le_of_ble_eq_true rfl) (Nat.le_of_ble_eq_true rfl) dX8_over_27 (fun ws hws => ⟨_, hws, ?_⟩)
    clear RET G hT hnm
    exact ⟨by unfold s_over; first | (rw [if_pos h1]; done) | (rw [if_neg h1, if_pos h10]; done) | (rw [if_neg h1, if_neg h10, if_pos h19]; done) | (rw [if_neg h1, if_neg h10, if_neg h19]; done), rfl⟩
def tkm (v : Int32) : Nat := if v = 0 then 1 else if v = -1 then 0 else if v = 3 ∨ v = 4 then 3 else 2
theorem tkm4 {v : Int32} (h : True) : tkm v ≤ 4 := by unfold tkm; (repeat' split) <;> omega
theorem tkm_s {v : Int32} (h : ¬ v = -1) : tkm (s_over v) < tkm v := by
  unfold tkm s_over
  by_cases h0 : v = 0
  · subst h0; decide
  · by_cases h3 : v = 3
    · subst h3; decide
    · by_cases h4 : v = 4
      · subst h4; decide
      · simp [h, h0, h3, h4]
abbrev rmX8_taken : Room := { frames := 2, cells := 0, slots := 0, locals := 46 }
set_option maxHeartbeats 1000000 in
theorem kX8_taken {KT : (Nat → Prop) → State → Heap → Prop} (hK : KTok KT) (l : Launch) (dC : Nat → ClassId) (dI : Nat → Nat → Nat) (ct ad : Nat → Nat) (σ : MS) (x : Int32) (k : Int32) (hO : Ok (co σ)) : MC KT (dC, dI) vwCl (tysF ct) l yX8_taken cX8_taken 4 (some .int) rmX8_taken [.ref (ad 43), .int x, .int k] (RM ct ad σ) (QI_ (dC, dI) vwCl (RM ct ad) (fun (r : Int32) (σ' : MS) => (s_taken (co σ) x k) = r ∧ σ = σ')) := by
  refine MC.ofI (own := RX8) pl_X8 rfl (Nat.le_of_ble_eq_true rfl) ?_
  intro pp ee ss mm aa bb hh cc AA QQ G hT hnm RET
  refine v_loc (L' := [(0, .ref (ad 43)), (1, .int x), (2, .int k)]) rfl ?_
  obtain ⟨hm5, hm⟩ := many5 hO.1
  have hm : σ.1 11 0 = nI (s_many (co σ)) := hm
  have hkd := True.intro
  refine v_iload_n G 2 dX8_taken_0 rfl ?_
  refine v_i2l (v := k.toInt64) G dX8_taken_1 rfl ?_
  refine v_lconst (v := 0) G dX8_taken_2 rfl ?_
  refine v_ldc2 G q1679 dX8_taken_3 ?_
  refine w_callSi G hK hT (kX8_in hK l dC dI ct ad σ k.toInt64 0 5) (ck_X8_86 G.2.2.2.2.1 ⟨Nat.le_of_ble_eq_true rfl, Nat.le_of_ble_eq_true rfl⟩) (fun _ h => h) rfl [] rfl (Nat.le_of_ble_eq_true rfl) dX8_taken_6 ⟨Nat.le_of_ble_eq_true rfl, Nat.le_of_ble_eq_true rfl⟩ (k1 := 0) (n1 := 0) rfl rfl ?_
  rintro r6 σ6 (⟨rfl, rfl, h6_h⟩ | ⟨rfl, rfl, h6_h⟩)
  · have g6 := (in_rg (c := k) (lo := 0) (hi := 5) (a := 0) (z := 5) (by decide) (by decide)).mp h6_h
    refine v_if_ne (tgt := 15) G dX8_taken_9 (by decide) (fun h9 => ?_) (fun h9 => absurd h9 (by decide))
    refine v_aload_n G 0 dX8_taken_15 rfl ?_
    refine v_iload_n G 1 dX8_taken_16 rfl ?_
    refine w_callVi G hK hT (kX8_isOne hK l dC dI ct ad σ (s_many (co σ)) x hm5 hm) (ck_X8_101 G.2.2.2.2.1 ⟨Nat.le_of_ble_eq_true rfl, Nat.le_of_ble_eq_true rfl⟩) m_recv (fun _ h => h) rfl [] rfl (Nat.le_of_ble_eq_true rfl) dX8_taken_17 ⟨Nat.le_of_ble_eq_true rfl, Nat.le_of_ble_eq_true rfl⟩ (k1 := 0) (n1 := 0) rfl rfl ?_
    rintro r17 σ17 (⟨rfl, rfl, h17_h⟩ | ⟨rfl, rfl, h17_h⟩)
    · refine v_if_ne (tgt := 26) G dX8_taken_20 (by decide) (fun h20 => ?_) (fun h20 => absurd h20 (by decide))
      obtain ⟨p, hpm, ep⟩ := rg_lt h17_h (by omega)
      refine v_aload_n G 0 dX8_taken_26 rfl ?_
      refine m_get (v := .ref (ad 10)) G 10 (by decide) rfl q1304 rfl dX8_taken_27 ?_
      refine v_iconst (v := 5) G dX8_taken_30 rfl ?_
      refine v_iload_n G 1 dX8_taken_31 rfl ?_
      refine v_imul G dX8_taken_32 ?_
      refine v_iconst (v := 4) G dX8_taken_33 rfl ?_
      refine v_iadd G dX8_taken_34 ?_
      refine m_iald G 10 rfl ((5 * p) + 4) (ix_add (ix_mul (ix_lit 5 rfl) ep) (ix_lit 4 rfl)) (show (5 * p) + 4 < 25 by first | omega | assumption | decide) dX8_taken_35 ?_
      refine v_istore_n (L' := [(3, .int (σ.1 10 ((5 * p) + 4))), (0, .ref (ad 43)), (1, .int x), (2, .int k)]) G dX8_taken_36 (by decide) rfl ?_
      have loop37 : ∀ (dd : Nat) (f : Nat) (v : Int32), (s_tkn k f v = s_tkn k 4 (σ.1 10 (5 * p + 4))) → (tkm v ≤ f) → tkm v < dd → V_ pp l ee rmX8_taken ss mm aa bb hh cc 4 (dC, dI) vwCl AA QQ 0 0 (RM ct ad σ) 37 [(3, .int v), (2, .int k), (1, .int x), (0, .ref (ad 43))] [] := by
        intro dd
        induction dd with
        | zero => intro f v hf hm4 hdd; exact absurd hdd (Nat.not_lt_zero _)
        | succ dd ih37 =>
          intro f v hf hm4 hdd
          refine v_iload_n G 0 dX8_taken_37 rfl ?_
          refine v_iconst (v := (-1)) G dX8_taken_38 rfl ?_
          refine v_icmp_eq (tgt := 55) G dX8_taken_39 (by decide) (fun h39 => ?_) (fun h39 => ?_)
          · refine v_iload_n G 0 dX8_taken_55 rfl ?_
            refine v_iload_n G 1 dX8_taken_56 rfl ?_
            refine v_icmp_ne (tgt := 71) G dX8_taken_57 (by decide) (fun h57 => ?_) (fun h57 => ?_)
            · refine v_bipush (v := (-13)) G dX8_taken_71 rfl ?_
              refine RET _ _ _ _ _ _ rfl (Nat.le_of_ble_eq_true rfl) (Nat.le_of_ble_eq_true rfl) dX8_taken_73 (fun ws hws => ⟨_, hws, ?_⟩)
              clear RET G hT hnm
              have epn : n_ x = p := by rw [ep]; exact nI_clamp (by omega)
              have hv : s_tkn k f v = v := by
                cases f with
                | zero => rfl
                | succ f => rw [s_tkn]; first | rw [if_pos (Or.inl h39)] | rw [if_pos (Or.inr h44)]
              refine ⟨?_, rfl⟩
              rw [s_taken, if_pos g6, if_pos h17_h, epn, show co σ 10 (5 * p + 4) = σ.1 10 (5 * p + 4) from rfl, ← hf, hv]
              first
                | (rw [if_pos (by first | exact h57 | exact h44)] <;> rfl)
                | (rw [if_neg (by first | exact h57 | exact h44)] <;> rfl)
            · refine v_aload_n G 3 dX8_taken_60 rfl ?_
              refine m_get (v := .ref (ad 10)) G 10 (by decide) rfl q1304 rfl dX8_taken_61 ?_
              refine v_iconst (v := 5) G dX8_taken_64 rfl ?_
              refine v_iload_n G 2 dX8_taken_65 rfl ?_
              refine v_imul G dX8_taken_66 ?_
              refine m_iald G 10 rfl (5 * p) (ix_mul (ix_lit 5 rfl) ep) (show 5 * p < 25 by first | omega | assumption | decide) dX8_taken_67 ?_
              refine v_goto (tgt := 73) G dX8_taken_68 (by decide) ?_
              refine RET _ _ _ _ _ _ rfl (Nat.le_of_ble_eq_true rfl) (Nat.le_of_ble_eq_true rfl) dX8_taken_73 (fun ws hws => ⟨_, hws, ?_⟩)
              clear RET G hT hnm
              have epn : n_ x = p := by rw [ep]; exact nI_clamp (by omega)
              have hv : s_tkn k f v = v := by
                cases f with
                | zero => rfl
                | succ f => rw [s_tkn]; first | rw [if_pos (Or.inl h39)] | rw [if_pos (Or.inr h44)]
              refine ⟨?_, rfl⟩
              rw [s_taken, if_pos g6, if_pos h17_h, epn, show co σ 10 (5 * p + 4) = σ.1 10 (5 * p + 4) from rfl, ← hf, hv]
              first
                | (rw [if_pos (by first | exact h57 | exact h44)] <;> rfl)
                | (rw [if_neg (by first | exact h57 | exact h44)] <;> rfl)
          · refine v_iload_n G 0 dX8_taken_42 rfl ?_
            refine v_iload_n G 1 dX8_taken_43 rfl ?_
            refine v_icmp_eq (tgt := 55) G dX8_taken_44 (by decide) (fun h44 => ?_) (fun h44 => ?_)
            · refine v_iload_n G 0 dX8_taken_55 rfl ?_
              refine v_iload_n G 1 dX8_taken_56 rfl ?_
              refine v_icmp_ne (tgt := 71) G dX8_taken_57 (by decide) (fun h57 => False.elim (by exact h57 h44)) (fun h57 => ?_)
              refine v_aload_n G 3 dX8_taken_60 rfl ?_
              refine m_get (v := .ref (ad 10)) G 10 (by decide) rfl q1304 rfl dX8_taken_61 ?_
              refine v_iconst (v := 5) G dX8_taken_64 rfl ?_
              refine v_iload_n G 2 dX8_taken_65 rfl ?_
              refine v_imul G dX8_taken_66 ?_
              refine m_iald G 10 rfl (5 * p) (ix_mul (ix_lit 5 rfl) ep) (show 5 * p < 25 by first | omega | assumption | decide) dX8_taken_67 ?_
              refine v_goto (tgt := 73) G dX8_taken_68 (by decide) ?_
              refine RET _ _ _ _ _ _ rfl (Nat.le_of_ble_eq_true rfl) (Nat.le_of_ble_eq_true rfl) dX8_taken_73 (fun ws hws => ⟨_, hws, ?_⟩)
              clear RET G hT hnm
              have epn : n_ x = p := by rw [ep]; exact nI_clamp (by omega)
              have hv : s_tkn k f v = v := by
                cases f with
                | zero => rfl
                | succ f => rw [s_tkn]; first | rw [if_pos (Or.inl h39)] | rw [if_pos (Or.inr h44)]
              refine ⟨?_, rfl⟩
              rw [s_taken, if_pos g6, if_pos h17_h, epn, show co σ 10 (5 * p + 4) = σ.1 10 (5 * p + 4) from rfl, ← hf, hv]
              first
                | (rw [if_pos (by first | exact h57 | exact h44)] <;> rfl)
                | (rw [if_neg (by first | exact h57 | exact h44)] <;> rfl)
            · refine v_iload_n G 0 dX8_taken_47 rfl ?_
              refine w_callSi G hK hT (kX8_over hK l dC dI ct ad σ v) (ck_X8_438 G.2.2.2.2.1 ⟨Nat.le_of_ble_eq_true rfl, Nat.le_of_ble_eq_true rfl⟩) (fun _ h => h) rfl [] rfl (Nat.le_of_ble_eq_true rfl) dX8_taken_48 ⟨Nat.le_of_ble_eq_true rfl, Nat.le_of_ble_eq_true rfl⟩ (k1 := 0) (n1 := 0) rfl rfl ?_
              rintro r48 σ48 ⟨rfl, rfl⟩
              refine v_istore_n (L' := [(3, .int (s_over v)), (2, .int k), (1, .int x), (0, .ref (ad 43))]) G dX8_taken_51 (by decide) rfl ?_
              refine v_goto (tgt := 37) G dX8_taken_52 (by decide) ?_
              have hm5 := tkm_s h39
              refine V_.sub (L' := [(3, .int (s_over v)), (2, .int k), (1, .int x), (0, .ref (ad 43))]) ?_ [0, 1, 2, 3] rfl
              exact ih37  (f - 1) (s_over v) (by rw [← hf, show f = (f - 1) + 1 by omega, s_tkn, if_neg (fun q => by rcases q with q | q; exact h39 q; exact h44 q)]; rfl) (by omega) (by omega)
      refine V_.sub (L' := [(3, .int (σ.1 10 ((5 * p) + 4))), (2, .int k), (1, .int x), (0, .ref (ad 43))]) ?_ [0, 3, 2, 1] rfl
      refine v_loc (L' := [(3, .int (σ.1 10 (5 * p + 4))), (2, .int k), (1, .int x), (0, .ref (ad 43))]) (rfl) ?_
      exact loop37 _ 4 (σ.1 10 (5 * p + 4)) rfl (tkm4 hkd) (Nat.lt_succ_self _)
    · refine v_if_ne (tgt := 26) G dX8_taken_20 (by decide) (fun h20 => absurd h20 (by decide)) (fun h20 => ?_)
      refine v_bipush (v := (-11)) G dX8_taken_23 rfl ?_
      refine RET _ _ _ _ _ _ rfl (Nat.le_of_ble_eq_true rfl) (Nat.le_of_ble_eq_true rfl) dX8_taken_25 (fun ws hws => ⟨_, hws, ?_⟩)
      clear RET G hT hnm
      exact ⟨by rw [s_taken, if_pos g6, if_neg h17_h], rfl⟩
  · have g6 : ¬ rg k 0 5 := fun zz => h6_h ((in_rg (c := k) (lo := 0) (hi := 5) (a := 0) (z := 5) (by decide) (by decide)).mpr zz)
    refine v_if_ne (tgt := 15) G dX8_taken_9 (by decide) (fun h9 => absurd h9 (by decide)) (fun h9 => ?_)
    refine v_bipush (v := (-2)) G dX8_taken_12 rfl ?_
    refine RET _ _ _ _ _ _ rfl (Nat.le_of_ble_eq_true rfl) (Nat.le_of_ble_eq_true rfl) dX8_taken_14 (fun ws hws => ⟨_, hws, ?_⟩)
    clear RET G hT hnm
    exact ⟨by rw [s_taken, if_neg g6], rfl⟩
