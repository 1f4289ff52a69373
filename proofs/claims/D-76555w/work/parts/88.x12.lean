set_option maxRecDepth 100000
abbrev rmX0_lowest : Room := { frames := 0, cells := 0, slots := 0, locals := 0 }
set_option maxHeartbeats 1000000 in
theorem kX0_lowest {KT : (Nat → Prop) → State → Heap → Prop} (hK : KTok KT) (l : Launch) (dC : Nat → ClassId) (dI : Nat → Nat → Nat) (ct ad : Nat → Nat) (F : List (Nat × va_E)) (σ : MS) (p : Nat) (q : Nat) (w : Int32) (hp : p < 2 ^ 31) (hq : q < 2 ^ 31) (q0 : 0 < q) : MC KT (dC, dI) vwCl (tysF ct) l yX0_lowest cX0_lowest 11 (some .long) rmX0_lowest [.long (lN p), .long (lN q), .int w] (RX ct ad F σ) (QL_ (dC, dI) vwCl (RX ct ad F) (fun (r : Int64) (σ' : MS) => (s_low p q w) = r ∧ σ = σ')) := by
  refine MC.ofL (own := RX0) pl_X0 rfl (Nat.le_of_ble_eq_true rfl) ?_
  intro pp ee ss mm aa bb hh cc AA QQ G hT hnm RET
  refine v_loc (L' := [(0, .long (lN p)), (2, .long (lN q)), (4, .int w)]) rfl ?_
  refine v_lload_n G 0 dX0_lowest_0 rfl ?_
  refine v_lstore (L' := [(5, .long (lN p)), (0, .long (lN p)), (2, .long (lN q)), (4, .int w)]) G dX0_lowest_1 (by decide) rfl ?_
  refine v_lload_n G 2 dX0_lowest_3 rfl ?_
  refine v_lstore (L' := [(7, .long (lN q)), (5, .long (lN p)), (0, .long (lN p)), (2, .long (lN q)), (4, .int w)]) G dX0_lowest_4 (by decide) rfl ?_
  have loop6 : ∀ (dd : Nat) (y : Nat) (z : Nat), (Nat.gcd y z = Nat.gcd p q) → (y < 2 ^ 31) → (z < 2 ^ 31) → z < dd → V_ pp l ee rmX0_lowest ss mm aa bb hh cc 11 (dC, dI) vwCl AA QQ 0 0 (RX ct ad F σ) 6 [(7, .long (lN z)), (5, .long (lN y)), (4, .int w), (2, .long (lN q)), (0, .long (lN p))] [] := by
    intro dd
    induction dd with
    | zero => intro y z hg hy hz hdd; exact absurd hdd (Nat.not_lt_zero _)
    | succ dd ih6 =>
      intro y z hg hy hz hdd
      refine v_lload G 0 dX0_lowest_6 rfl ?_
      refine v_lconst (v := 0) G dX0_lowest_8 rfl ?_
      refine v_lcmp G dX0_lowest_9 ?_
      refine v_if_eq (tgt := 31) G dX0_lowest_10 (by decide) (fun h10 => ?_) (fun h10 => ?_)
      · have n10 := (le_of_lcmp (lN z) 0).1.mp h10
        have z0 : z = 0 := (lN_z hz).mp n10
        have eg : y = Nat.gcd p q := by rw [← hg, z0, Nat.gcd_zero_right]
        have yp : 0 < y := by rw [eg]; exact Nat.gcd_pos_of_pos_right _ q0
        have y0 : ¬ lN y = 0 := fun h => by have := (lN_z hy).mp h; omega
        refine v_iload G 2 dX0_lowest_31 rfl ?_
        refine v_if_ne (tgt := 40) G dX0_lowest_33 (by decide) (fun h33 => ?_) (fun h33 => ?_)
        · refine v_lload_n G 3 dX0_lowest_40 rfl ?_
          refine v_lload G 1 dX0_lowest_41 rfl ?_
          refine v_ldiv G dX0_lowest_43 y0 ?_
          refine RET _ _ _ _ _ _ (Nat.le_of_ble_eq_true rfl) (Nat.le_of_ble_eq_true rfl) dX0_lowest_44 (fun ws hws => ⟨_, hws, ?_⟩)
          clear RET G hT hnm
          exact ⟨by rw [s_low]; first | (rw [if_pos h33, ← eg, lN_div hp yp hy]; done) | (rw [if_neg h33, ← eg, lN_div hq yp hy]; done), rfl⟩
        · refine v_lload_n G 4 dX0_lowest_36 rfl ?_
          refine v_goto (tgt := 41) G dX0_lowest_37 (by decide) ?_
          refine v_lload G 1 dX0_lowest_41 rfl ?_
          refine v_ldiv G dX0_lowest_43 y0 ?_
          refine RET _ _ _ _ _ _ (Nat.le_of_ble_eq_true rfl) (Nat.le_of_ble_eq_true rfl) dX0_lowest_44 (fun ws hws => ⟨_, hws, ?_⟩)
          clear RET G hT hnm
          exact ⟨by rw [s_low]; first | (rw [if_pos h33, ← eg, lN_div hp yp hy]; done) | (rw [if_neg h33, ← eg, lN_div hq yp hy]; done), rfl⟩
      · have n10 := (not_congr (le_of_lcmp (lN z) 0).1).mp h10
        have z0 : 0 < z := by have := (not_congr (lN_z hz)).mp n10; omega
        refine v_lload G 1 dX0_lowest_13 rfl ?_
        refine v_lload G 0 dX0_lowest_15 rfl ?_
        refine v_lrem G dX0_lowest_17 n10 ?_
        refine v_lstore (L' := [(9, .long ((lN y) - (lN y) / (lN z) * (lN z))), (7, .long (lN z)), (5, .long (lN y)), (4, .int w), (2, .long (lN q)), (0, .long (lN p))]) G dX0_lowest_18 (by decide) rfl ?_
        refine v_lload G 1 dX0_lowest_20 rfl ?_
        refine v_lstore (L' := [(5, .long (lN z)), (9, .long ((lN y) - (lN y) / (lN z) * (lN z))), (7, .long (lN z)), (4, .int w), (2, .long (lN q)), (0, .long (lN p))]) G dX0_lowest_22 (by decide) rfl ?_
        refine v_lload G 1 dX0_lowest_24 rfl ?_
        refine v_lstore (L' := [(7, .long ((lN y) - (lN y) / (lN z) * (lN z))), (5, .long (lN z)), (9, .long ((lN y) - (lN y) / (lN z) * (lN z))), (4, .int w), (2, .long (lN q)), (0, .long (lN p))]) G dX0_lowest_26 (by decide) rfl ?_
        refine v_goto (tgt := 6) G dX0_lowest_28 (by decide) ?_
        refine V_.sub (L' := [(7, .long ((lN y) - (lN y) / (lN z) * (lN z))), (5, .long (lN z)), (4, .int w), (2, .long (lN q)), (0, .long (lN p))]) ?_ [0, 1, 3, 4, 5] rfl
        refine v_loc (L' := [(7, .long (lN (y % z))), (5, .long (lN z)), (4, .int w), (2, .long (lN q)), (0, .long (lN p))]) (by rw [lN_rem hy z0 hz]) ?_
        exact ih6  z (y % z) (gcd_st hg) hz (Nat.lt_trans (Nat.mod_lt _ z0) hz) (by have := Nat.mod_lt y z0; omega)
  refine V_.sub (L' := [(7, .long (lN q)), (5, .long (lN p)), (4, .int w), (2, .long (lN q)), (0, .long (lN p))]) ?_ [0, 1, 4, 3, 2] rfl
  exact loop6 _ p q rfl hp hq (Nat.lt_succ_self _)
abbrev rmX0_comesDrawn : Room := { frames := 0, cells := 0, slots := 0, locals := 0 }
set_option maxHeartbeats 1000000 in
theorem kX0_comesDrawn {KT : (Nat → Prop) → State → Heap → Prop} (hK : KTok KT) (l : Launch) (dC : Nat → ClassId) (dI : Nat → Nat → Nat) (ct ad : Nat → Nat) (F : List (Nat × va_E)) (σ : MS) (sd : Int32) (p : Nat) (n : Nat) (hO : Ok (co σ)) (hp : p < s_many (co σ)) (hn : n ≤ 40) : MC KT (dC, dI) vwCl (tysF ct) l yX0_comesDrawn cX0_comesDrawn 7 (some .int) rmX0_comesDrawn [.ref (ad 0), .int sd, .int (nI p), .int (nI n)] (RX ct ad F σ) (QI_ (dC, dI) vwCl (RX ct ad F) (fun (r : Int32) (σ' : MS) => ((s_dr (co σ 8) sd (co σ 10 (5 * p + 1)) n).2) = r ∧ σ = σ')) := by
  refine MC.ofI (own := RX0) pl_X0 rfl (Nat.le_of_ble_eq_true rfl) ?_
  intro pp ee ss mm aa bb hh cc AA QQ G hT hnm RET
  refine v_loc (L' := [(0, .ref (ad 0)), (1, .int sd), (2, .int (nI p)), (3, .int (nI n))]) rfl ?_
  have hp5 : p < 5 := by have := (many5 hO.1).1; omega
  refine v_iload_n G 1 dX0_comesDrawn_0 rfl ?_
  refine v_istore (L' := [(4, .int sd), (0, .ref (ad 0)), (1, .int sd), (2, .int (nI p)), (3, .int (nI n))]) G dX0_comesDrawn_1 (by decide) rfl ?_
  refine v_aload_n G 1 dX0_comesDrawn_3 rfl ?_
  refine x_get (v := .ref (ad 100)) G 0 (by decide) rfl q787 rfl dX0_comesDrawn_4 ?_
  refine v_iload_n G 3 dX0_comesDrawn_7 rfl ?_
  refine x_fald G (p) rfl (show p < n_ (σ.1 11 0) from (by exact (show p < s_many (co σ) by omega))) (by omega) dX0_comesDrawn_8 ?_
  refine x_lg (v := σ.1 10 (5 * p + 1)) G 1 p (by decide) (show p < n_ (σ.1 11 0) from (by exact (show p < s_many (co σ) by omega))) (kd_of hO (by omega)) (rfl) q196 dX0_comesDrawn_9 ?_
  refine v_istore (L' := [(5, .int (σ.1 10 (5 * p + 1))), (4, .int sd), (0, .ref (ad 0)), (1, .int sd), (2, .int (nI p)), (3, .int (nI n))]) G dX0_comesDrawn_12 (by decide) rfl ?_
  refine v_iconst (v := 0) G dX0_comesDrawn_14 rfl ?_
  refine v_istore (L' := [(6, .int 0), (5, .int (σ.1 10 (5 * p + 1))), (4, .int sd), (0, .ref (ad 0)), (1, .int sd), (2, .int (nI p)), (3, .int (nI n))]) G dX0_comesDrawn_15 (by decide) rfl ?_
  have loop17 : ∀ (dd : Nat) (q : Nat), (q ≤ n) → n - q < dd → V_ pp l ee rmX0_comesDrawn ss mm aa bb hh cc 7 (dC, dI) vwCl AA QQ 0 0 (RX ct ad F σ) 17 [(6, .int (nI q)), (5, .int ((s_dr (co σ 8) sd (co σ 10 (5 * p + 1)) q).2)), (4, .int ((s_dr (co σ 8) sd (co σ 10 (5 * p + 1)) q).1)), (3, .int (nI n)), (2, .int (nI p)), (1, .int sd), (0, .ref (ad 0))] [] := by
    intro dd
    induction dd with
    | zero => intro q hq hdd; exact absurd hdd (Nat.not_lt_zero _)
    | succ dd ih17 =>
      intro q hq hdd
      refine v_iload G 0 dX0_comesDrawn_17 rfl ?_
      refine v_iload_n G 3 dX0_comesDrawn_19 rfl ?_
      refine v_icmp_ge (tgt := 60) G dX0_comesDrawn_20 (by decide) (fun h20 => ?_) (fun h20 => ?_)
      · have n20 := (cmp_le (x := nI n) (y := nI q) (a := n) (b := q) rfl rfl (by omega) (by omega)).mp h20
        refine v_iload G 1 dX0_comesDrawn_60 rfl ?_
        refine RET _ _ _ _ _ _ rfl (Nat.le_of_ble_eq_true rfl) (Nat.le_of_ble_eq_true rfl) dX0_comesDrawn_62 (fun ws hws => ⟨_, hws, ?_⟩)
        clear RET G hT hnm
        exact ⟨by rw [show q = n by omega], rfl⟩
      · have n20 := (not_congr (cmp_le (x := nI n) (y := nI q) (a := n) (b := q) rfl rfl (by omega) (by omega))).mp h20
        obtain ⟨c0, hc0, ec0⟩ := (hO.1.2.1 p hp5).2.1
        obtain ⟨c, hc, ec⟩ := s_dr_c (r := sd) (c0 := c0) hO.1.2.2.1 hc0 q
        rw [← ec0] at ec
        refine v_iload G 2 dX0_comesDrawn_23 rfl ?_
        refine v_ldcw G q1232 dX0_comesDrawn_25 ?_
        refine v_imul G dX0_comesDrawn_28 ?_
        refine v_sipush (v := 12345) G dX0_comesDrawn_29 rfl ?_
        refine v_iadd G dX0_comesDrawn_32 ?_
        refine v_istore (L' := [(4, .int ((((s_dr (co σ 8) sd (co σ 10 (5 * p + 1)) q).1) * 1103515245) + 12345)), (6, .int (nI q)), (5, .int ((s_dr (co σ 8) sd (co σ 10 (5 * p + 1)) q).2)), (3, .int (nI n)), (2, .int (nI p)), (1, .int sd), (0, .ref (ad 0))]) G dX0_comesDrawn_33 (by decide) rfl ?_
        refine v_aload_n G 6 dX0_comesDrawn_35 rfl ?_
        refine x_get (v := .ref (ad 8)) G 3 (by decide) rfl q791 rfl dX0_comesDrawn_36 ?_
        refine v_iconst (v := 2) G dX0_comesDrawn_39 rfl ?_
        refine v_iload G 2 dX0_comesDrawn_40 rfl ?_
        refine v_imul G dX0_comesDrawn_42 ?_
        refine v_iload G 0 dX0_comesDrawn_43 rfl ?_
        refine v_bipush (v := 9) G dX0_comesDrawn_45 rfl ?_
        refine v_iushr G dX0_comesDrawn_47 rfl ?_
        refine v_iconst (v := 2) G dX0_comesDrawn_48 rfl ?_
        refine v_irem G dX0_comesDrawn_49 (by decide) ?_
        obtain ⟨z, hz, ez⟩ := s_bit01 (r := s_rnd (s_dr (co σ 8) sd (co σ 10 (5 * p + 1)) q).1)
        have es : 2 * (s_dr (co σ 8) sd (co σ 10 (5 * p + 1)) q).2 + s_bit (s_rnd (s_dr (co σ 8) sd (co σ 10 (5 * p + 1)) q).1) = nI (2 * c + z) := by rw [ec, ez]; exact ix_add (ix_mul (ix_lit 2 rfl) rfl) rfl
        refine v_topr (congrArg Value.int (show ((((((s_dr (co σ 8) sd (co σ 10 (5 * p + 1)) q).1) * 1103515245) + 12345).toUInt32 >>> ((9 : Int32).toUInt32 &&& Int32.toUInt32 31)).toInt32) - ((((((s_dr (co σ 8) sd (co σ 10 (5 * p + 1)) q).1) * 1103515245) + 12345).toUInt32 >>> ((9 : Int32).toUInt32 &&& Int32.toUInt32 31)).toInt32) / 2 * 2 = nI z from ez)) ?_
        refine v_iadd G dX0_comesDrawn_50 ?_
        refine x_iald G 8 rfl ((2 * c) + z) (ix_add (ix_mul (ix_lit 2 rfl) ec) rfl) (show (2 * c) + z < 24 by first | omega | assumption | decide) dX0_comesDrawn_51 ?_
        refine v_istore (L' := [(5, .int (σ.1 8 ((2 * c) + z))), (4, .int ((((s_dr (co σ 8) sd (co σ 10 (5 * p + 1)) q).1) * 1103515245) + 12345)), (6, .int (nI q)), (3, .int (nI n)), (2, .int (nI p)), (1, .int sd), (0, .ref (ad 0))]) G dX0_comesDrawn_52 (by decide) rfl ?_
        refine v_iinc (v := nI (q + 1)) (L' := [(6, .int (nI (q + 1))), (5, .int (σ.1 8 ((2 * c) + z))), (4, .int ((((s_dr (co σ 8) sd (co σ 10 (5 * p + 1)) q).1) * 1103515245) + 12345)), (3, .int (nI n)), (2, .int (nI p)), (1, .int sd), (0, .ref (ad 0))]) G 2 dX0_comesDrawn_54 rfl (ix_add rfl (ix_lit 1 rfl)) (by decide) rfl ?_
        refine v_goto (tgt := 17) G dX0_comesDrawn_57 (by decide) ?_
        refine V_.sub (L' := [(6, .int (nI (q + 1))), (5, .int (σ.1 8 ((2 * c) + z))), (4, .int ((((s_dr (co σ 8) sd (co σ 10 (5 * p + 1)) q).1) * 1103515245) + 12345)), (3, .int (nI n)), (2, .int (nI p)), (1, .int sd), (0, .ref (ad 0))]) ?_ [0, 1, 2, 3, 4, 5, 6] rfl
        refine v_loc (L' := [(6, .int (nI (q + 1))), (5, .int ((s_dr (co σ 8) sd (co σ 10 (5 * p + 1)) (q + 1)).2)), (4, .int ((s_dr (co σ 8) sd (co σ 10 (5 * p + 1)) (q + 1)).1)), (3, .int (nI n)), (2, .int (nI p)), (1, .int sd), (0, .ref (ad 0))]) (by rw [s_dr, es, show n_ (nI (2 * c + z)) = 2 * c + z from nI_clamp (by omega)] <;> rfl) ?_
        exact ih17  (q + 1) (by omega) (by omega)
  refine V_.sub (L' := [(6, .int 0), (5, .int (σ.1 10 (5 * p + 1))), (4, .int sd), (3, .int (nI n)), (2, .int (nI p)), (1, .int sd), (0, .ref (ad 0))]) ?_ [0, 1, 2, 6, 5, 4, 3] rfl
  refine v_loc (L' := [(6, .int (nI 0)), (5, .int ((s_dr (co σ 8) sd (co σ 10 (5 * p + 1)) 0).2)), (4, .int ((s_dr (co σ 8) sd (co σ 10 (5 * p + 1)) 0).1)), (3, .int (nI n)), (2, .int (nI p)), (1, .int sd), (0, .ref (ad 0))]) (rfl) ?_
  exact loop17 _ 0 (Nat.zero_le _) (Nat.lt_succ_self _)
abbrev rmX0_drawn : Room := { frames := 2, cells := 0, slots := 0, locals := 46 }
set_option maxHeartbeats 1000000 in
theorem kX0_drawn {KT : (Nat → Prop) → State → Heap → Prop} (hK : KTok KT) (l : Launch) (dC : Nat → ClassId) (dI : Nat → Nat → Nat) (ct ad : Nat → Nat) (F : List (Nat × va_E)) (σ : MS) (sd : Int32) (x : Int32) (n : Int32) (hO : Ok (co σ)) : MC KT (dC, dI) vwCl (tysF ct) l yX0_drawn cX0_drawn 4 (some .int) rmX0_drawn [.ref (ad 0), .int sd, .int x, .int n] (RX ct ad F σ) (QI_ (dC, dI) vwCl (RX ct ad F) (fun (r : Int32) (σ' : MS) => (s_drawn (co σ) sd x n) = r ∧ σ = σ')) := by
  refine MC.ofI (own := RX0) pl_X0 rfl (Nat.le_of_ble_eq_true rfl) ?_
  intro pp ee ss mm aa bb hh cc AA QQ G hT hnm RET
  refine v_loc (L' := [(0, .ref (ad 0)), (1, .int sd), (2, .int x), (3, .int n)]) rfl ?_
  obtain ⟨hm5, hm⟩ := many5 hO.1
  have hm : σ.1 11 0 = nI (s_many (co σ)) := hm
  refine v_aload_n G 0 dX0_drawn_0 rfl ?_
  refine v_iload_n G 2 dX0_drawn_1 rfl ?_
  refine w_callVi G hK hT (kX0_isOne hK l dC dI ct ad F σ (s_many (co σ)) x hm5 hm) (ck_X0_64 G.2.2.2.2.1 ⟨Nat.le_of_ble_eq_true rfl, Nat.le_of_ble_eq_true rfl⟩) x_recv (fun _ h => h) rfl [] rfl (Nat.le_of_ble_eq_true rfl) dX0_drawn_2 ⟨Nat.le_of_ble_eq_true rfl, Nat.le_of_ble_eq_true rfl⟩ (k1 := 0) (n1 := 0) rfl rfl ?_
  rintro r2 σ2 (⟨rfl, rfl, h2_h⟩ | ⟨rfl, rfl, h2_h⟩)
  · refine v_if_eq (tgt := 30) G dX0_drawn_5 (by decide) (fun h5 => absurd h5 (by decide)) (fun h5 => ?_)
    refine v_iload_n G 3 dX0_drawn_8 rfl ?_
    refine v_i2l (v := n.toInt64) G dX0_drawn_9 rfl ?_
    refine v_lconst (v := 0) G dX0_drawn_10 rfl ?_
    refine v_ldc2 G q985 dX0_drawn_11 ?_
    refine w_callSi G hK hT (kX0_in hK l dC dI ct ad F σ n.toInt64 0 40) (ck_X0_14 G.2.2.2.2.1 ⟨Nat.le_of_ble_eq_true rfl, Nat.le_of_ble_eq_true rfl⟩) (fun _ h => h) rfl [] rfl (Nat.le_of_ble_eq_true rfl) dX0_drawn_14 ⟨Nat.le_of_ble_eq_true rfl, Nat.le_of_ble_eq_true rfl⟩ (k1 := 0) (n1 := 0) rfl rfl ?_
    rintro r14 σ14 (⟨rfl, rfl, h14_h⟩ | ⟨rfl, rfl, h14_h⟩)
    · have g14 := (in_rg (c := n) (lo := 0) (hi := 40) (a := 0) (z := 40) (by decide) (by decide)).mp h14_h
      refine v_if_eq (tgt := 30) G dX0_drawn_17 (by decide) (fun h17 => absurd h17 (by decide)) (fun h17 => ?_)
      obtain ⟨p, hpm, ep⟩ := rg_lt h2_h (by omega)
      obtain ⟨nn, hnn, enn_⟩ := rg_nat (n := 40) (x := n) g14 (by decide)
      have ennn : n_ n = nn := by rw [enn_]; exact nI_clamp (by omega)
      refine v_aload_n G 0 dX0_drawn_20 rfl ?_
      refine v_iload_n G 1 dX0_drawn_21 rfl ?_
      refine v_iload_n G 2 dX0_drawn_22 rfl ?_
      refine v_iload_n G 3 dX0_drawn_23 rfl ?_
      refine v_stk (st' := [.int (nI nn), .int (nI p), .int sd, .ref (ad 0)]) (by first | rfl | (have e0 : x = nI p := ep ; have e1 : n = nI nn := enn_ ; simp only [e0, e1])) ?_
      refine w_callVi G hK hT (kX0_comesDrawn hK l dC dI ct ad F σ sd p nn hO (by first | assumption | omega) (by first | assumption | omega)) (ck_X0_515 G.2.2.2.2.1 ⟨Nat.le_of_ble_eq_true rfl, Nat.le_of_ble_eq_true rfl⟩) x_recv (fun _ h => h) rfl [] rfl (Nat.le_of_ble_eq_true rfl) dX0_drawn_24 ⟨Nat.le_of_ble_eq_true rfl, Nat.le_of_ble_eq_true rfl⟩ (k1 := 0) (n1 := 0) rfl rfl ?_
      rintro r24 σ24 ⟨rfl, rfl⟩
      refine v_goto (tgt := 32) G dX0_drawn_27 (by decide) ?_
      refine RET _ _ _ _ _ _ rfl (Nat.le_of_ble_eq_true rfl) (Nat.le_of_ble_eq_true rfl) dX0_drawn_32 (fun ws hws => ⟨_, hws, ?_⟩)
      clear RET G hT hnm
      exact ⟨by rw [s_drawn, if_pos ⟨h2_h, g14⟩, ennn, show n_ x = p by rw [ep]; exact nI_clamp (by omega)], rfl⟩
    · have g14 : ¬ rg n 0 40 := fun zz => h14_h ((in_rg (c := n) (lo := 0) (hi := 40) (a := 0) (z := 40) (by decide) (by decide)).mpr zz)
      refine v_if_eq (tgt := 30) G dX0_drawn_17 (by decide) (fun h17 => ?_) (fun h17 => absurd h17 (by decide))
      refine v_bipush (v := (-2)) G dX0_drawn_30 rfl ?_
      refine RET _ _ _ _ _ _ rfl (Nat.le_of_ble_eq_true rfl) (Nat.le_of_ble_eq_true rfl) dX0_drawn_32 (fun ws hws => ⟨_, hws, ?_⟩)
      clear RET G hT hnm
      exact ⟨by rw [s_drawn, if_neg (fun q => by first | exact h2_h q.1 | exact g14 q.2)], rfl⟩
  · refine v_if_eq (tgt := 30) G dX0_drawn_5 (by decide) (fun h5 => ?_) (fun h5 => absurd h5 (by decide))
    refine v_bipush (v := (-2)) G dX0_drawn_30 rfl ?_
    refine RET _ _ _ _ _ _ rfl (Nat.le_of_ble_eq_true rfl) (Nat.le_of_ble_eq_true rfl) dX0_drawn_32 (fun ws hws => ⟨_, hws, ?_⟩)
    clear RET G hT hnm
    exact ⟨by rw [s_drawn, if_neg (fun q => by first | exact h2_h q.1 | exact g14 q.2)], rfl⟩
abbrev rmX0_chance : Room := { frames := 2, cells := 0, slots := 0, locals := 46 }
set_option maxHeartbeats 1000000 in
theorem kX0_chance {KT : (Nat → Prop) → State → Heap → Prop} (hK : KTok KT) (l : Launch) (dC : Nat → ClassId) (dI : Nat → Nat → Nat) (ct ad : Nat → Nat) (F : List (Nat × va_E)) (σ : MS) (sd : Int32) (n : Int32) (x : Int32) (c : Int32) (w : Int32) (hO : Ok (co σ)) : MC KT (dC, dI) vwCl (tysF ct) l yX0_chance cX0_chance 9 (some .long) rmX0_chance [.ref (ad 0), .int sd, .int n, .int x, .int c, .int w] (RX ct ad F σ) (QL_ (dC, dI) vwCl (RX ct ad F) (fun (r : Int64) (σ' : MS) => (s_chance (co σ) sd n x c w) = r ∧ σ = σ')) := by
  refine MC.ofL (own := RX0) pl_X0 rfl (Nat.le_of_ble_eq_true rfl) ?_
  intro pp ee ss mm aa bb hh cc AA QQ G hT hnm RET
  refine v_loc (L' := [(0, .ref (ad 0)), (1, .int sd), (2, .int n), (3, .int x), (4, .int c), (5, .int w)]) rfl ?_
  obtain ⟨hm5, hm⟩ := many5 hO.1
  have hm : σ.1 11 0 = nI (s_many (co σ)) := hm
  refine v_iload_n G 2 dX0_chance_0 rfl ?_
  refine v_i2l (v := n.toInt64) G dX0_chance_1 rfl ?_
  refine v_lconst (v := 1) G dX0_chance_2 rfl ?_
  refine v_ldc2 G q985 dX0_chance_3 ?_
  refine w_callSi G hK hT (kX0_in hK l dC dI ct ad F σ n.toInt64 1 40) (ck_X0_14 G.2.2.2.2.1 ⟨Nat.le_of_ble_eq_true rfl, Nat.le_of_ble_eq_true rfl⟩) (fun _ h => h) rfl [] rfl (Nat.le_of_ble_eq_true rfl) dX0_chance_6 ⟨Nat.le_of_ble_eq_true rfl, Nat.le_of_ble_eq_true rfl⟩ (k1 := 0) (n1 := 0) rfl rfl ?_
  rintro r6 σ6 (⟨rfl, rfl, h6_h⟩ | ⟨rfl, rfl, h6_h⟩)
  · have g6 := (in_rg (c := n) (lo := 1) (hi := 40) (a := 1) (z := 40) (by decide) (by decide)).mp h6_h
    refine v_if_eq (tgt := 39) G dX0_chance_9 (by decide) (fun h9 => absurd h9 (by decide)) (fun h9 => ?_)
    refine v_aload_n G 0 dX0_chance_12 rfl ?_
    refine v_iload_n G 3 dX0_chance_13 rfl ?_
    refine w_callVi G hK hT (kX0_isOne hK l dC dI ct ad F σ (s_many (co σ)) x hm5 hm) (ck_X0_64 G.2.2.2.2.1 ⟨Nat.le_of_ble_eq_true rfl, Nat.le_of_ble_eq_true rfl⟩) x_recv (fun _ h => h) rfl [] rfl (Nat.le_of_ble_eq_true rfl) dX0_chance_14 ⟨Nat.le_of_ble_eq_true rfl, Nat.le_of_ble_eq_true rfl⟩ (k1 := 0) (n1 := 0) rfl rfl ?_
    rintro r14 σ14 (⟨rfl, rfl, h14_h⟩ | ⟨rfl, rfl, h14_h⟩)
    · refine v_if_eq (tgt := 39) G dX0_chance_17 (by decide) (fun h17 => absurd h17 (by decide)) (fun h17 => ?_)
      refine v_iload G 4 dX0_chance_20 rfl ?_
      refine w_callSi G hK hT (kX0_isCrossing hK l dC dI ct ad F σ c) (ck_X0_49 G.2.2.2.2.1 ⟨Nat.le_of_ble_eq_true rfl, Nat.le_of_ble_eq_true rfl⟩) (fun _ h => h) rfl [] rfl (Nat.le_of_ble_eq_true rfl) dX0_chance_22 ⟨Nat.le_of_ble_eq_true rfl, Nat.le_of_ble_eq_true rfl⟩ (k1 := 0) (n1 := 0) rfl rfl ?_
      rintro r22 σ22 (⟨rfl, rfl, h22_h⟩ | ⟨rfl, rfl, h22_h⟩)
      · refine v_if_eq (tgt := 39) G dX0_chance_25 (by decide) (fun h25 => absurd h25 (by decide)) (fun h25 => ?_)
        refine v_iload G 5 dX0_chance_28 rfl ?_
        refine v_i2l (v := w.toInt64) G dX0_chance_30 rfl ?_
        refine v_lconst (v := 0) G dX0_chance_31 rfl ?_
        refine v_lconst (v := 1) G dX0_chance_32 rfl ?_
        refine w_callSi G hK hT (kX0_in hK l dC dI ct ad F σ w.toInt64 0 1) (ck_X0_14 G.2.2.2.2.1 ⟨Nat.le_of_ble_eq_true rfl, Nat.le_of_ble_eq_true rfl⟩) (fun _ h => h) rfl [] rfl (Nat.le_of_ble_eq_true rfl) dX0_chance_33 ⟨Nat.le_of_ble_eq_true rfl, Nat.le_of_ble_eq_true rfl⟩ (k1 := 0) (n1 := 0) rfl rfl ?_
        rintro r33 σ33 (⟨rfl, rfl, h33_h⟩ | ⟨rfl, rfl, h33_h⟩)
        · have g33 := (in_rg (c := w) (lo := 0) (hi := 1) (a := 0) (z := 1) (by decide) (by decide)).mp h33_h
          refine v_if_ne (tgt := 43) G dX0_chance_36 (by decide) (fun h36 => ?_) (fun h36 => absurd h36 (by decide))
          obtain ⟨nn, hnn, enn_⟩ := rg_nat (n := 40) (x := n) ⟨(by have := g6.1; omega), g6.2⟩ (by decide)
          have ennn : n_ n = nn := by rw [enn_]; exact nI_clamp (by omega)
          have nn1 : 1 ≤ nn := by have := g6.1; rw [enn_, nI_toInt (by omega)] at this; omega
          obtain ⟨p, hpm, ep⟩ := rg_lt h14_h (by omega)
          refine v_lconst (v := 0) G dX0_chance_43 rfl ?_
          refine v_lstore (L' := [(6, .long 0), (0, .ref (ad 0)), (1, .int sd), (2, .int n), (3, .int x), (4, .int c), (5, .int w)]) G dX0_chance_44 (by decide) rfl ?_
          refine v_iconst (v := 0) G dX0_chance_46 rfl ?_
          refine v_istore (L' := [(8, .int 0), (6, .long 0), (0, .ref (ad 0)), (1, .int sd), (2, .int n), (3, .int x), (4, .int c), (5, .int w)]) G dX0_chance_47 (by decide) rfl ?_
          have loop49 : ∀ (dd : Nat) (q : Nat), (q ≤ nn) → nn - q < dd → V_ pp l ee rmX0_chance ss mm aa bb hh cc 9 (dC, dI) vwCl AA QQ 0 0 (RX ct ad F σ) 49 [(8, .int (nI q)), (6, .long (lN (s_hit (co σ) sd p c q))), (5, .int w), (4, .int c), (3, .int x), (2, .int n), (1, .int sd), (0, .ref (ad 0))] [] := by
            intro dd
            induction dd with
            | zero => intro q hq hdd; exact absurd hdd (Nat.not_lt_zero _)
            | succ dd ih49 =>
              intro q hq hdd
              refine v_iload G 0 dX0_chance_49 rfl ?_
              refine v_iload_n G 5 dX0_chance_51 rfl ?_
              refine v_icmp_ge (tgt := 87) G dX0_chance_52 (by decide) (fun h52 => ?_) (fun h52 => ?_)
              · have n52 := (cmp_le (x := n) (y := nI q) (a := nn) (b := q) enn_ rfl (by omega) (by omega)).mp h52
                refine v_lload G 1 dX0_chance_87 rfl ?_
                refine v_topr (congrArg Value.long (show lN (s_hit (co σ) sd p c q) = lN (s_hit (co σ) sd p c nn) by rw [show q = nn by omega])) ?_
                refine v_iload_n G 5 dX0_chance_89 rfl ?_
                refine v_i2l (v := n.toInt64) G dX0_chance_90 rfl ?_
                refine v_topr (congrArg Value.long (show n.toInt64 = lN nn by rw [enn_]; exact nI_l (by omega))) ?_
                refine v_iload G 2 dX0_chance_91 rfl ?_
                refine w_callSl G hK hT (kX0_lowest hK l dC dI ct ad F σ (s_hit (co σ) sd p c nn) nn w (by have := s_hit_le (K := co σ) (r := sd) (p := p) (c := c) nn; omega) (by omega) (by omega)) (ck_X0_431 G.2.2.2.2.1 ⟨Nat.le_of_ble_eq_true rfl, Nat.le_of_ble_eq_true rfl⟩) (fun _ h => h) rfl [] rfl (Nat.le_of_ble_eq_true rfl) dX0_chance_93 ⟨Nat.le_of_ble_eq_true rfl, Nat.le_of_ble_eq_true rfl⟩ (k1 := 0) (n1 := 0) rfl rfl ?_
                rintro r93 σ93 ⟨rfl, rfl⟩
                refine RET _ _ _ _ _ _ (Nat.le_of_ble_eq_true rfl) (Nat.le_of_ble_eq_true rfl) dX0_chance_96 (fun ws hws => ⟨_, hws, ?_⟩)
                clear RET G hT hnm
                exact ⟨by rw [s_chance, if_pos ⟨g6, h14_h, h22_h, g33⟩, ennn, show n_ x = p by rw [ep]; exact nI_clamp (by omega)], rfl⟩
              · have n52 := (not_congr (cmp_le (x := n) (y := nI q) (a := nn) (b := q) enn_ rfl (by omega) (by omega))).mp h52
                refine v_lload G 1 dX0_chance_55 rfl ?_
                refine v_aload_n G 7 dX0_chance_57 rfl ?_
                refine v_iload_n G 6 dX0_chance_58 rfl ?_
                refine v_iload G 0 dX0_chance_59 rfl ?_
                refine v_iadd G dX0_chance_61 ?_
                refine v_iload_n G 4 dX0_chance_62 rfl ?_
                refine v_bipush (v := 8) G dX0_chance_63 rfl ?_
                refine v_stk (st' := [.int (nI 8), .int (nI p), .int (sd + (nI q)), .ref (ad 0), .long (lN (s_hit (co σ) sd p c q))]) (by first | rfl | (have e0 : x = nI p := ep ; have e1 : 8 = nI 8 := (ix_lit 8 rfl) ; simp only [e0, e1])) ?_
                refine w_callVi G hK hT (kX0_comesDrawn hK l dC dI ct ad F σ (sd + (nI q)) p 8 hO (by first | assumption | omega) (by first | assumption | omega)) (ck_X0_515 G.2.2.2.2.1 ⟨Nat.le_of_ble_eq_true rfl, Nat.le_of_ble_eq_true rfl⟩) x_recv (fun _ h => h) rfl [.long (lN (s_hit (co σ) sd p c q))] rfl (Nat.le_of_ble_eq_true rfl) dX0_chance_65 ⟨Nat.le_of_ble_eq_true rfl, Nat.le_of_ble_eq_true rfl⟩ (k1 := 0) (n1 := 0) rfl rfl ?_
                rintro r65 σ65 ⟨rfl, rfl⟩
                refine v_iload G 3 dX0_chance_68 rfl ?_
                refine v_icmp_ne (tgt := 77) G dX0_chance_70 (by decide) (fun h70 => ?_) (fun h70 => ?_)
                · refine v_lconst (v := 0) G dX0_chance_77 rfl ?_
                  refine v_ladd G dX0_chance_78 ?_
                  refine v_lstore (L' := [(6, .long ((lN (s_hit (co σ) sd p c q)) + 0)), (8, .int (nI q)), (5, .int w), (4, .int c), (3, .int x), (2, .int n), (1, .int sd), (0, .ref (ad 0))]) G dX0_chance_79 (by decide) rfl ?_
                  refine v_iinc (v := nI (q + 1)) (L' := [(8, .int (nI (q + 1))), (6, .long ((lN (s_hit (co σ) sd p c q)) + 0)), (5, .int w), (4, .int c), (3, .int x), (2, .int n), (1, .int sd), (0, .ref (ad 0))]) G 1 dX0_chance_81 rfl (ix_add rfl (ix_lit 1 rfl)) (by decide) rfl ?_
                  refine v_goto (tgt := 49) G dX0_chance_84 (by decide) ?_
                  refine V_.sub (L' := [(8, .int (nI (q + 1))), (6, .long ((lN (s_hit (co σ) sd p c q)) + 0)), (5, .int w), (4, .int c), (3, .int x), (2, .int n), (1, .int sd), (0, .ref (ad 0))]) ?_ [0, 1, 2, 3, 4, 5, 6, 7] rfl
                  refine v_loc (L' := [(8, .int (nI (q + 1))), (6, .long (lN (s_hit (co σ) sd p c (q + 1)))), (5, .int w), (4, .int c), (3, .int x), (2, .int n), (1, .int sd), (0, .ref (ad 0))]) (by rw [s_hit]; first | (rw [if_pos (by exact h70), ← lN_add] <;> rfl) | (rw [if_neg (by exact h70), ← lN_add] <;> rfl)) ?_
                  exact ih49  (q + 1) (by omega) (by omega)
                · refine v_lconst (v := 1) G dX0_chance_73 rfl ?_
                  refine v_goto (tgt := 78) G dX0_chance_74 (by decide) ?_
                  refine v_ladd G dX0_chance_78 ?_
                  refine v_lstore (L' := [(6, .long ((lN (s_hit (co σ) sd p c q)) + 1)), (8, .int (nI q)), (5, .int w), (4, .int c), (3, .int x), (2, .int n), (1, .int sd), (0, .ref (ad 0))]) G dX0_chance_79 (by decide) rfl ?_
                  refine v_iinc (v := nI (q + 1)) (L' := [(8, .int (nI (q + 1))), (6, .long ((lN (s_hit (co σ) sd p c q)) + 1)), (5, .int w), (4, .int c), (3, .int x), (2, .int n), (1, .int sd), (0, .ref (ad 0))]) G 1 dX0_chance_81 rfl (ix_add rfl (ix_lit 1 rfl)) (by decide) rfl ?_
                  refine v_goto (tgt := 49) G dX0_chance_84 (by decide) ?_
                  refine V_.sub (L' := [(8, .int (nI (q + 1))), (6, .long ((lN (s_hit (co σ) sd p c q)) + 1)), (5, .int w), (4, .int c), (3, .int x), (2, .int n), (1, .int sd), (0, .ref (ad 0))]) ?_ [0, 1, 2, 3, 4, 5, 6, 7] rfl
                  refine v_loc (L' := [(8, .int (nI (q + 1))), (6, .long (lN (s_hit (co σ) sd p c (q + 1)))), (5, .int w), (4, .int c), (3, .int x), (2, .int n), (1, .int sd), (0, .ref (ad 0))]) (by rw [s_hit]; first | (rw [if_pos (by exact h70), ← lN_add] <;> rfl) | (rw [if_neg (by exact h70), ← lN_add] <;> rfl)) ?_
                  exact ih49  (q + 1) (by omega) (by omega)
          refine V_.sub (L' := [(8, .int 0), (6, .long 0), (5, .int w), (4, .int c), (3, .int x), (2, .int n), (1, .int sd), (0, .ref (ad 0))]) ?_ [0, 1, 7, 6, 5, 4, 3, 2] rfl
          refine v_loc (L' := [(8, .int (nI 0)), (6, .long (lN (s_hit (co σ) sd p c 0))), (5, .int w), (4, .int c), (3, .int x), (2, .int n), (1, .int sd), (0, .ref (ad 0))]) (rfl) ?_
          exact loop49 _ 0 (Nat.zero_le _) (Nat.lt_succ_self _)
        · have g33 : ¬ rg w 0 1 := fun zz => h33_h ((in_rg (c := w) (lo := 0) (hi := 1) (a := 0) (z := 1) (by decide) (by decide)).mpr zz)
          refine v_if_ne (tgt := 43) G dX0_chance_36 (by decide) (fun h36 => absurd h36 (by decide)) (fun h36 => ?_)
          refine v_ldc2 G q1002 dX0_chance_39 ?_
          refine RET _ _ _ _ _ _ (Nat.le_of_ble_eq_true rfl) (Nat.le_of_ble_eq_true rfl) dX0_chance_42 (fun ws hws => ⟨_, hws, ?_⟩)
          clear RET G hT hnm
          exact ⟨by rw [s_chance, if_neg (fun q => by first | exact g6 q.1 | exact h14_h q.2.1 | exact h22_h q.2.2.1 | exact g33 q.2.2.2)], rfl⟩
      · refine v_if_eq (tgt := 39) G dX0_chance_25 (by decide) (fun h25 => ?_) (fun h25 => absurd h25 (by decide))
        refine v_ldc2 G q1002 dX0_chance_39 ?_
        refine RET _ _ _ _ _ _ (Nat.le_of_ble_eq_true rfl) (Nat.le_of_ble_eq_true rfl) dX0_chance_42 (fun ws hws => ⟨_, hws, ?_⟩)
        clear RET G hT hnm
        exact ⟨by rw [s_chance, if_neg (fun q => by first | exact g6 q.1 | exact h14_h q.2.1 | exact h22_h q.2.2.1 | exact g33 q.2.2.2)], rfl⟩
    · refine v_if_eq (tgt := 39) G dX0_chance_17 (by decide) (fun h17 => ?_) (fun h17 => absurd h17 (by decide))
      refine v_ldc2 G q1002 dX0_chance_39 ?_
      refine RET _ _ _ _ _ _ (Nat.le_of_ble_eq_true rfl) (Nat.le_of_ble_eq_true rfl) dX0_chance_42 (fun ws hws => ⟨_, hws, ?_⟩)
      clear RET G hT hnm
      exact ⟨by rw [s_chance, if_neg (fun q => by first | exact g6 q.1 | exact h14_h q.2.1 | exact h22_h q.2.2.1 | exact g33 q.2.2.2)], rfl⟩
  · have g6 : ¬ rg n 1 40 := fun zz => h6_h ((in_rg (c := n) (lo := 1) (hi := 40) (a := 1) (z := 40) (by decide) (by decide)).mpr zz)
    refine v_if_eq (tgt := 39) G dX0_chance_9 (by decide) (fun h9 => ?_) (fun h9 => absurd h9 (by decide))
    refine v_ldc2 G q1002 dX0_chance_39 ?_
    refine RET _ _ _ _ _ _ (Nat.le_of_ble_eq_true rfl) (Nat.le_of_ble_eq_true rfl) dX0_chance_42 (fun ws hws => ⟨_, hws, ?_⟩)
    clear RET G hT hnm
    exact ⟨by rw [s_chance, if_neg (fun q => by first | exact g6 q.1 | exact h14_h q.2.1 | exact h22_h q.2.2.1 | exact g33 q.2.2.2)], rfl⟩
