set_option maxRecDepth 100000
abbrev rmX0_areWays : Room := { frames := 2, cells := 0, slots := 0, locals := 45 }
set_option maxHeartbeats 1000000 in
theorem kX0_areWays {KT : (Nat → Prop) → State → Heap → Prop} (hK : KTok KT) (l : Launch) (dC : Nat → ClassId) (dI : Nat → Nat → Nat) (ct ad : Nat → Nat) (F : List (Nat × va_E)) (σ : MS) (x : Int32) (y : Int32) (n : Int32)  : MC KT (dC, dI) vwCl (tysF ct) l yX0_areWays cX0_areWays 3 (some .boolean) rmX0_areWays [.int x, .int y, .int n] (RX ct ad F σ) (QI_ (dC, dI) vwCl (RX ct ad F) (fun (r : Int32) (σ' : MS) => (1 = r ∧ σ = σ' ∧ rg x 0 11 ∧ rg y 0 11 ∧ rg n 0 30) ∨ (0 = r ∧ σ = σ' ∧ ¬ (rg x 0 11 ∧ rg y 0 11 ∧ rg n 0 30)))) := by
  refine MC.ofI (own := RX0) pl_X0 rfl (Nat.le_of_ble_eq_true rfl) ?_
  intro pp ee ss mm aa bb hh cc AA QQ G hT hnm RET
  refine v_loc (L' := [(0, .int x), (1, .int y), (2, .int n)]) rfl ?_
  refine v_iload_n G 0 dX0_areWays_0 rfl ?_
  refine w_callSi G hK hT (kX0_isCrossing hK l dC dI ct ad F σ x) (ck_X0_49 G.2.2.2.2.1 ⟨Nat.le_of_ble_eq_true rfl, Nat.le_of_ble_eq_true rfl⟩) (fun _ h => h) rfl [] rfl (Nat.le_of_ble_eq_true rfl) dX0_areWays_1 ⟨Nat.le_of_ble_eq_true rfl, Nat.le_of_ble_eq_true rfl⟩ (k1 := 0) (n1 := 0) rfl rfl ?_
  rintro r1 σ1 (⟨rfl, rfl, h1_h⟩ | ⟨rfl, rfl, h1_h⟩)
  · refine v_if_eq (tgt := 30) G dX0_areWays_4 (by decide) (fun h4 => absurd h4 (by decide)) (fun h4 => ?_)
    refine v_iload_n G 1 dX0_areWays_7 rfl ?_
    refine w_callSi G hK hT (kX0_isCrossing hK l dC dI ct ad F σ y) (ck_X0_49 G.2.2.2.2.1 ⟨Nat.le_of_ble_eq_true rfl, Nat.le_of_ble_eq_true rfl⟩) (fun _ h => h) rfl [] rfl (Nat.le_of_ble_eq_true rfl) dX0_areWays_8 ⟨Nat.le_of_ble_eq_true rfl, Nat.le_of_ble_eq_true rfl⟩ (k1 := 0) (n1 := 0) rfl rfl ?_
    rintro r8 σ8 (⟨rfl, rfl, h8_h⟩ | ⟨rfl, rfl, h8_h⟩)
    · refine v_if_eq (tgt := 30) G dX0_areWays_11 (by decide) (fun h11 => absurd h11 (by decide)) (fun h11 => ?_)
      refine v_iload_n G 2 dX0_areWays_14 rfl ?_
      refine v_i2l (v := n.toInt64) G dX0_areWays_15 rfl ?_
      refine v_lconst (v := 0) G dX0_areWays_16 rfl ?_
      refine v_ldc2 G q993 dX0_areWays_17 ?_
      refine w_callSi G hK hT (kX0_in hK l dC dI ct ad F σ n.toInt64 0 30) (ck_X0_14 G.2.2.2.2.1 ⟨Nat.le_of_ble_eq_true rfl, Nat.le_of_ble_eq_true rfl⟩) (fun _ h => h) rfl [] rfl (Nat.le_of_ble_eq_true rfl) dX0_areWays_20 ⟨Nat.le_of_ble_eq_true rfl, Nat.le_of_ble_eq_true rfl⟩ (k1 := 0) (n1 := 0) rfl rfl ?_
      rintro r20 σ20 (⟨rfl, rfl, h20_h⟩ | ⟨rfl, rfl, h20_h⟩)
      · have g20 := (in_rg (c := n) (lo := 0) (hi := 30) (a := 0) (z := 30) (by decide) (by decide)).mp h20_h
        refine v_if_eq (tgt := 30) G dX0_areWays_23 (by decide) (fun h23 => absurd h23 (by decide)) (fun h23 => ?_)
        refine v_iconst (v := 1) G dX0_areWays_26 rfl ?_
        refine v_goto (tgt := 31) G dX0_areWays_27 (by decide) ?_
        refine RET _ _ _ _ _ _ (by first | rfl | assumption) (Nat.le_of_ble_eq_true rfl) (Nat.le_of_ble_eq_true rfl) dX0_areWays_31 (fun ws hws => ⟨_, hws, ?_⟩)
        clear RET G hT hnm
        exact Or.inl ⟨rfl, rfl, h1_h, h8_h, g20⟩
      · have g20 : ¬ rg n 0 30 := fun zz => h20_h ((in_rg (c := n) (lo := 0) (hi := 30) (a := 0) (z := 30) (by decide) (by decide)).mpr zz)
        refine v_if_eq (tgt := 30) G dX0_areWays_23 (by decide) (fun h23 => ?_) (fun h23 => absurd h23 (by decide))
        refine v_iconst (v := 0) G dX0_areWays_30 rfl ?_
        refine RET _ _ _ _ _ _ (by first | rfl | assumption) (Nat.le_of_ble_eq_true rfl) (Nat.le_of_ble_eq_true rfl) dX0_areWays_31 (fun ws hws => ⟨_, hws, ?_⟩)
        clear RET G hT hnm
        exact Or.inr ⟨rfl, rfl, fun q => by first | exact h1_h q.1 | exact h8_h q.2.1 | exact g20 q.2.2⟩
    · refine v_if_eq (tgt := 30) G dX0_areWays_11 (by decide) (fun h11 => ?_) (fun h11 => absurd h11 (by decide))
      refine v_iconst (v := 0) G dX0_areWays_30 rfl ?_
      refine RET _ _ _ _ _ _ (by first | rfl | assumption) (Nat.le_of_ble_eq_true rfl) (Nat.le_of_ble_eq_true rfl) dX0_areWays_31 (fun ws hws => ⟨_, hws, ?_⟩)
      clear RET G hT hnm
      exact Or.inr ⟨rfl, rfl, fun q => by first | exact h1_h q.1 | exact h8_h q.2.1 | exact g20 q.2.2⟩
  · refine v_if_eq (tgt := 30) G dX0_areWays_4 (by decide) (fun h4 => ?_) (fun h4 => absurd h4 (by decide))
    refine v_iconst (v := 0) G dX0_areWays_30 rfl ?_
    refine RET _ _ _ _ _ _ (by first | rfl | assumption) (Nat.le_of_ble_eq_true rfl) (Nat.le_of_ble_eq_true rfl) dX0_areWays_31 (fun ws hws => ⟨_, hws, ?_⟩)
    clear RET G hT hnm
    exact Or.inr ⟨rfl, rfl, fun q => by first | exact h1_h q.1 | exact h8_h q.2.1 | exact g20 q.2.2⟩
abbrev rmX0_bestSpoon : Room := { frames := 404, cells := 0, slots := 0, locals := 17045 }
set_option maxHeartbeats 1000000 in
theorem kX0_bestSpoon {KT : (Nat → Prop) → State → Heap → Prop} (hK : KTx KT) (l : Launch) (dC : Nat → ClassId) (dI : Nat → Nat → Nat) (ct ad : Nat → Nat) (F : List (Nat × va_E)) (σ : MS) (p : Nat) (z : Int32) (hO : Ok (co σ)) (hp : p < s_many (co σ)) : MC KT (dC, dI) vwCl (tysF ct) l yX0_bestSpoon cX0_bestSpoon 8 (some .int) rmX0_bestSpoon [.ref (ad 0), .int (nI p), .int z] (RX ct ad F σ) (QI_ (dC, dI) vwCl (RX ct ad F) (fun (r : Int32) (σ' : MS) => (if z = 0 then (s_spF (co σ) p 24).2 else (s_spF (co σ) p 24).1) = r ∧ ag sfr σ σ')) := by
  refine MC.ofI (own := RX0) pl_X0 rfl (Nat.le_of_ble_eq_true rfl) ?_
  intro pp ee ss mm aa bb hh cc AA QQ G hT hnm RET
  refine v_loc (L' := [(0, .ref (ad 0)), (1, .int (nI p)), (2, .int z)]) rfl ?_
  refine v_iconst (v := (-1)) G dX0_bestSpoon_0 rfl ?_
  refine v_istore_n (L' := [(3, .int (-1)), (0, .ref (ad 0)), (1, .int (nI p)), (2, .int z)]) G dX0_bestSpoon_1 (by decide) rfl ?_
  refine v_iconst (v := 0) G dX0_bestSpoon_2 rfl ?_
  refine v_istore (L' := [(4, .int 0), (3, .int (-1)), (0, .ref (ad 0)), (1, .int (nI p)), (2, .int z)]) G dX0_bestSpoon_3 (by decide) rfl ?_
  refine v_iconst (v := 0) G dX0_bestSpoon_5 rfl ?_
  refine v_istore (L' := [(5, .int 0), (4, .int 0), (3, .int (-1)), (0, .ref (ad 0)), (1, .int (nI p)), (2, .int z)]) G dX0_bestSpoon_6 (by decide) rfl ?_
  have loop8 : ∀ (dd : Nat) (q : Nat) (τ : MS), (q ≤ 24) → (ag sfr σ τ) → 24 - q < dd → V_ pp l ee rmX0_bestSpoon ss mm aa bb hh cc 8 (dC, dI) vwCl AA QQ 0 0 (RX ct ad F τ) 8 [(5, .int (nI q)), (4, .int ((s_spF (co σ) p q).2)), (3, .int ((s_spF (co σ) p q).1)), (2, .int z), (1, .int (nI p)), (0, .ref (ad 0))] [] := by
    intro dd
    induction dd with
    | zero => intro q τ hq ha hdd; exact absurd hdd (Nat.not_lt_zero _)
    | succ dd ih8 =>
      intro q τ hq ha hdd
      refine v_iload G 0 dX0_bestSpoon_8 rfl ?_
      refine v_bipush (v := 24) G dX0_bestSpoon_10 rfl ?_
      refine v_icmp_ge (tgt := 99) G dX0_bestSpoon_12 (by decide) (fun h12 => ?_) (fun h12 => ?_)
      · have n12 := (cmp_le (x := 24) (y := nI q) (a := 24) (b := q) (ix_lit 24 rfl) rfl (by omega) (by omega)).mp h12
        refine v_iload_n G 3 dX0_bestSpoon_99 rfl ?_
        refine v_if_eq (tgt := 107) G dX0_bestSpoon_100 (by decide) (fun h100 => ?_) (fun h100 => ?_)
        · refine v_iload G 1 dX0_bestSpoon_107 rfl ?_
          refine RET _ _ _ _ _ _ rfl (Nat.le_of_ble_eq_true rfl) (Nat.le_of_ble_eq_true rfl) dX0_bestSpoon_109 (fun ws hws => ⟨_, hws, ?_⟩)
          clear RET G hT hnm
          have hq24 : q = 24 := by omega
          subst hq24
          exact ⟨by first | rw [if_pos h100] | rw [if_neg h100], ha⟩
        · refine v_iload_n G 2 dX0_bestSpoon_103 rfl ?_
          refine v_goto (tgt := 109) G dX0_bestSpoon_104 (by decide) ?_
          refine RET _ _ _ _ _ _ rfl (Nat.le_of_ble_eq_true rfl) (Nat.le_of_ble_eq_true rfl) dX0_bestSpoon_109 (fun ws hws => ⟨_, hws, ?_⟩)
          clear RET G hT hnm
          have hq24 : q = 24 := by omega
          subst hq24
          exact ⟨by first | rw [if_pos h100] | rw [if_neg h100], ha⟩
      · have n12 := (not_congr (cmp_le (x := 24) (y := nI q) (a := 24) (b := q) (ix_lit 24 rfl) rfl (by omega) (by omega))).mp h12
        refine v_aload_n G 5 dX0_bestSpoon_15 rfl ?_
        refine x_get (v := .ref (ad 9)) G 4 (by decide) rfl q792 rfl dX0_bestSpoon_16 ?_
        refine v_iload G 0 dX0_bestSpoon_19 rfl ?_
        refine x_iald G 9 rfl (q) rfl (show q < 24 by first | omega | assumption | decide) dX0_bestSpoon_21 ?_
        refine v_topr (congrArg Value.int (show τ.1 9 q = σ.1 9 q from (show τ.1 9 q = σ.1 9 q from ag_at ha (by decide)))) ?_
        refine v_if_le (tgt := 35) G dX0_bestSpoon_22 (by decide) (fun h22 => ?_) (fun h22 => ?_)
        · refine v_iconst (v := 0) G dX0_bestSpoon_35 rfl ?_
          refine v_istore (L' := [(6, .int 0), (5, .int (nI q)), (4, .int ((s_spF (co σ) p q).2)), (3, .int ((s_spF (co σ) p q).1)), (2, .int z), (1, .int (nI p)), (0, .ref (ad 0))]) G dX0_bestSpoon_36 (by decide) rfl ?_
          refine v_aload_n G 6 dX0_bestSpoon_38 rfl ?_
          refine x_get (v := .ref (ad 9)) G 4 (by decide) rfl q792 rfl dX0_bestSpoon_39 ?_
          refine v_iload G 1 dX0_bestSpoon_42 rfl ?_
          refine x_iald G 9 rfl (q) rfl (show q < 24 by first | omega | assumption | decide) dX0_bestSpoon_44 ?_
          refine v_topr (congrArg Value.int (show τ.1 9 q = σ.1 9 q from (show τ.1 9 q = σ.1 9 q from ag_at ha (by decide)))) ?_
          refine v_if_le (tgt := 64) G dX0_bestSpoon_45 (by decide) (fun h45 => ?_) (fun h45 => ?_)
          · refine v_iconst (v := 0) G dX0_bestSpoon_64 rfl ?_
            refine v_istore (L' := [(7, .int 0), (6, .int 0), (5, .int (nI q)), (4, .int ((s_spF (co σ) p q).2)), (3, .int ((s_spF (co σ) p q).1)), (2, .int z), (1, .int (nI p)), (0, .ref (ad 0))]) G dX0_bestSpoon_65 (by decide) rfl ?_
            refine v_iload G 0 dX0_bestSpoon_67 rfl ?_
            refine v_if_eq (tgt := 77) G dX0_bestSpoon_69 (by decide) (fun h69 => ?_) (fun h69 => absurd h69 (by decide))
            refine v_iload_n G 4 dX0_bestSpoon_77 rfl ?_
            refine v_istore_n (L' := [(3, .int ((s_spF (co σ) p q).1)), (7, .int 0), (6, .int 0), (5, .int (nI q)), (4, .int ((s_spF (co σ) p q).2)), (2, .int z), (1, .int (nI p)), (0, .ref (ad 0))]) G dX0_bestSpoon_78 (by decide) rfl ?_
            refine v_iload G 1 dX0_bestSpoon_79 rfl ?_
            refine v_if_eq (tgt := 89) G dX0_bestSpoon_81 (by decide) (fun h81 => ?_) (fun h81 => absurd h81 (by decide))
            refine v_iload G 4 dX0_bestSpoon_89 rfl ?_
            refine v_istore (L' := [(4, .int ((s_spF (co σ) p q).2)), (3, .int ((s_spF (co σ) p q).1)), (7, .int 0), (6, .int 0), (5, .int (nI q)), (2, .int z), (1, .int (nI p)), (0, .ref (ad 0))]) G dX0_bestSpoon_91 (by decide) rfl ?_
            refine v_iinc (v := nI (q + 1)) (L' := [(5, .int (nI (q + 1))), (4, .int ((s_spF (co σ) p q).2)), (3, .int ((s_spF (co σ) p q).1)), (7, .int 0), (6, .int 0), (2, .int z), (1, .int (nI p)), (0, .ref (ad 0))]) G 4 dX0_bestSpoon_93 rfl (ix_add rfl (ix_lit 1 rfl)) (by decide) rfl ?_
            refine v_goto (tgt := 8) G dX0_bestSpoon_96 (by decide) ?_
            refine V_.sub (L' := [(5, .int (nI (q + 1))), (4, .int ((s_spF (co σ) p q).2)), (3, .int ((s_spF (co σ) p q).1)), (2, .int z), (1, .int (nI p)), (0, .ref (ad 0))]) ?_ [0, 1, 2, 5, 6, 7] rfl
            refine v_loc (L' := [(5, .int (nI (q + 1))), (4, .int ((s_spF (co σ) p (q + 1)).2)), (3, .int ((s_spF (co σ) p (q + 1)).1)), (2, .int z), (1, .int (nI p)), (0, .ref (ad 0))]) (by rw [s_spF]; first | (rw [if_pos (by exact Int32.not_le.mp h22), if_pos (by first | exact Or.inl h50 | exact Or.inr (Int32.not_le.mp h57))]; done) | (rw [if_pos (by exact Int32.not_le.mp h22), if_neg (by rintro (z | z); exact h50 z; exact Int32.not_lt.mpr h57 z)]; done) | (rw [if_neg (by exact Int32.not_lt.mpr h22)]; done) | exact absurd h22 h45 | exact absurd h45 h22) ?_
            exact ih8  (q + 1) τ (by omega) ha (by omega)
          · refine v_iload_n G 3 dX0_bestSpoon_48 rfl ?_
            refine v_iconst (v := (-1)) G dX0_bestSpoon_49 rfl ?_
            refine v_icmp_eq (tgt := 60) G dX0_bestSpoon_50 (by decide) (fun h50 => ?_) (fun h50 => ?_)
            · refine v_iconst (v := 1) G dX0_bestSpoon_60 rfl ?_
              refine v_goto (tgt := 65) G dX0_bestSpoon_61 (by decide) ?_
              refine v_istore (L' := [(7, .int 1), (6, .int 0), (5, .int (nI q)), (4, .int ((s_spF (co σ) p q).2)), (3, .int ((s_spF (co σ) p q).1)), (2, .int z), (1, .int (nI p)), (0, .ref (ad 0))]) G dX0_bestSpoon_65 (by decide) rfl ?_
              refine v_iload G 0 dX0_bestSpoon_67 rfl ?_
              refine v_if_eq (tgt := 77) G dX0_bestSpoon_69 (by decide) (fun h69 => absurd h69 (by decide)) (fun h69 => ?_)
              refine v_iload G 2 dX0_bestSpoon_72 rfl ?_
              refine v_goto (tgt := 78) G dX0_bestSpoon_74 (by decide) ?_
              refine v_istore_n (L' := [(3, .int (nI q)), (7, .int 1), (6, .int 0), (5, .int (nI q)), (4, .int ((s_spF (co σ) p q).2)), (2, .int z), (1, .int (nI p)), (0, .ref (ad 0))]) G dX0_bestSpoon_78 (by decide) rfl ?_
              refine v_iload G 1 dX0_bestSpoon_79 rfl ?_
              refine v_if_eq (tgt := 89) G dX0_bestSpoon_81 (by decide) (fun h81 => absurd h81 (by decide)) (fun h81 => ?_)
              refine v_iload G 2 dX0_bestSpoon_84 rfl ?_
              refine v_goto (tgt := 91) G dX0_bestSpoon_86 (by decide) ?_
              refine v_istore (L' := [(4, .int 0), (3, .int (nI q)), (7, .int 1), (6, .int 0), (5, .int (nI q)), (2, .int z), (1, .int (nI p)), (0, .ref (ad 0))]) G dX0_bestSpoon_91 (by decide) rfl ?_
              refine v_iinc (v := nI (q + 1)) (L' := [(5, .int (nI (q + 1))), (4, .int 0), (3, .int (nI q)), (7, .int 1), (6, .int 0), (2, .int z), (1, .int (nI p)), (0, .ref (ad 0))]) G 4 dX0_bestSpoon_93 rfl (ix_add rfl (ix_lit 1 rfl)) (by decide) rfl ?_
              refine v_goto (tgt := 8) G dX0_bestSpoon_96 (by decide) ?_
              refine V_.sub (L' := [(5, .int (nI (q + 1))), (4, .int 0), (3, .int (nI q)), (2, .int z), (1, .int (nI p)), (0, .ref (ad 0))]) ?_ [0, 1, 2, 5, 6, 7] rfl
              refine v_loc (L' := [(5, .int (nI (q + 1))), (4, .int ((s_spF (co σ) p (q + 1)).2)), (3, .int ((s_spF (co σ) p (q + 1)).1)), (2, .int z), (1, .int (nI p)), (0, .ref (ad 0))]) (by rw [s_spF]; first | (rw [if_pos (by exact Int32.not_le.mp h22), if_pos (by first | exact Or.inl h50 | exact Or.inr (Int32.not_le.mp h57))]; done) | (rw [if_pos (by exact Int32.not_le.mp h22), if_neg (by rintro (z | z); exact h50 z; exact Int32.not_lt.mpr h57 z)]; done) | (rw [if_neg (by exact Int32.not_lt.mpr h22)]; done) | exact absurd h22 h45 | exact absurd h45 h22) ?_
              exact ih8  (q + 1) τ (by omega) ha (by omega)
            · refine v_iload G 0 dX0_bestSpoon_53 rfl ?_
              refine v_iload G 2 dX0_bestSpoon_55 rfl ?_
              refine v_icmp_le (tgt := 64) G dX0_bestSpoon_57 (by decide) (fun h57 => ?_) (fun h57 => ?_)
              · refine v_iconst (v := 0) G dX0_bestSpoon_64 rfl ?_
                refine v_istore (L' := [(7, .int 0), (6, .int 0), (5, .int (nI q)), (4, .int ((s_spF (co σ) p q).2)), (3, .int ((s_spF (co σ) p q).1)), (2, .int z), (1, .int (nI p)), (0, .ref (ad 0))]) G dX0_bestSpoon_65 (by decide) rfl ?_
                refine v_iload G 0 dX0_bestSpoon_67 rfl ?_
                refine v_if_eq (tgt := 77) G dX0_bestSpoon_69 (by decide) (fun h69 => ?_) (fun h69 => absurd h69 (by decide))
                refine v_iload_n G 4 dX0_bestSpoon_77 rfl ?_
                refine v_istore_n (L' := [(3, .int ((s_spF (co σ) p q).1)), (7, .int 0), (6, .int 0), (5, .int (nI q)), (4, .int ((s_spF (co σ) p q).2)), (2, .int z), (1, .int (nI p)), (0, .ref (ad 0))]) G dX0_bestSpoon_78 (by decide) rfl ?_
                refine v_iload G 1 dX0_bestSpoon_79 rfl ?_
                refine v_if_eq (tgt := 89) G dX0_bestSpoon_81 (by decide) (fun h81 => ?_) (fun h81 => absurd h81 (by decide))
                refine v_iload G 4 dX0_bestSpoon_89 rfl ?_
                refine v_istore (L' := [(4, .int ((s_spF (co σ) p q).2)), (3, .int ((s_spF (co σ) p q).1)), (7, .int 0), (6, .int 0), (5, .int (nI q)), (2, .int z), (1, .int (nI p)), (0, .ref (ad 0))]) G dX0_bestSpoon_91 (by decide) rfl ?_
                refine v_iinc (v := nI (q + 1)) (L' := [(5, .int (nI (q + 1))), (4, .int ((s_spF (co σ) p q).2)), (3, .int ((s_spF (co σ) p q).1)), (7, .int 0), (6, .int 0), (2, .int z), (1, .int (nI p)), (0, .ref (ad 0))]) G 4 dX0_bestSpoon_93 rfl (ix_add rfl (ix_lit 1 rfl)) (by decide) rfl ?_
                refine v_goto (tgt := 8) G dX0_bestSpoon_96 (by decide) ?_
                refine V_.sub (L' := [(5, .int (nI (q + 1))), (4, .int ((s_spF (co σ) p q).2)), (3, .int ((s_spF (co σ) p q).1)), (2, .int z), (1, .int (nI p)), (0, .ref (ad 0))]) ?_ [0, 1, 2, 5, 6, 7] rfl
                refine v_loc (L' := [(5, .int (nI (q + 1))), (4, .int ((s_spF (co σ) p (q + 1)).2)), (3, .int ((s_spF (co σ) p (q + 1)).1)), (2, .int z), (1, .int (nI p)), (0, .ref (ad 0))]) (by rw [s_spF]; first | (rw [if_pos (by exact Int32.not_le.mp h22), if_pos (by first | exact Or.inl h50 | exact Or.inr (Int32.not_le.mp h57))]; done) | (rw [if_pos (by exact Int32.not_le.mp h22), if_neg (by rintro (z | z); exact h50 z; exact Int32.not_lt.mpr h57 z)]; done) | (rw [if_neg (by exact Int32.not_lt.mpr h22)]; done) | exact absurd h22 h45 | exact absurd h45 h22) ?_
                exact ih8  (q + 1) τ (by omega) ha (by omega)
              · refine v_iconst (v := 1) G dX0_bestSpoon_60 rfl ?_
                refine v_goto (tgt := 65) G dX0_bestSpoon_61 (by decide) ?_
                refine v_istore (L' := [(7, .int 1), (6, .int 0), (5, .int (nI q)), (4, .int ((s_spF (co σ) p q).2)), (3, .int ((s_spF (co σ) p q).1)), (2, .int z), (1, .int (nI p)), (0, .ref (ad 0))]) G dX0_bestSpoon_65 (by decide) rfl ?_
                refine v_iload G 0 dX0_bestSpoon_67 rfl ?_
                refine v_if_eq (tgt := 77) G dX0_bestSpoon_69 (by decide) (fun h69 => absurd h69 (by decide)) (fun h69 => ?_)
                refine v_iload G 2 dX0_bestSpoon_72 rfl ?_
                refine v_goto (tgt := 78) G dX0_bestSpoon_74 (by decide) ?_
                refine v_istore_n (L' := [(3, .int (nI q)), (7, .int 1), (6, .int 0), (5, .int (nI q)), (4, .int ((s_spF (co σ) p q).2)), (2, .int z), (1, .int (nI p)), (0, .ref (ad 0))]) G dX0_bestSpoon_78 (by decide) rfl ?_
                refine v_iload G 1 dX0_bestSpoon_79 rfl ?_
                refine v_if_eq (tgt := 89) G dX0_bestSpoon_81 (by decide) (fun h81 => absurd h81 (by decide)) (fun h81 => ?_)
                refine v_iload G 2 dX0_bestSpoon_84 rfl ?_
                refine v_goto (tgt := 91) G dX0_bestSpoon_86 (by decide) ?_
                refine v_istore (L' := [(4, .int 0), (3, .int (nI q)), (7, .int 1), (6, .int 0), (5, .int (nI q)), (2, .int z), (1, .int (nI p)), (0, .ref (ad 0))]) G dX0_bestSpoon_91 (by decide) rfl ?_
                refine v_iinc (v := nI (q + 1)) (L' := [(5, .int (nI (q + 1))), (4, .int 0), (3, .int (nI q)), (7, .int 1), (6, .int 0), (2, .int z), (1, .int (nI p)), (0, .ref (ad 0))]) G 4 dX0_bestSpoon_93 rfl (ix_add rfl (ix_lit 1 rfl)) (by decide) rfl ?_
                refine v_goto (tgt := 8) G dX0_bestSpoon_96 (by decide) ?_
                refine V_.sub (L' := [(5, .int (nI (q + 1))), (4, .int 0), (3, .int (nI q)), (2, .int z), (1, .int (nI p)), (0, .ref (ad 0))]) ?_ [0, 1, 2, 5, 6, 7] rfl
                refine v_loc (L' := [(5, .int (nI (q + 1))), (4, .int ((s_spF (co σ) p (q + 1)).2)), (3, .int ((s_spF (co σ) p (q + 1)).1)), (2, .int z), (1, .int (nI p)), (0, .ref (ad 0))]) (by rw [s_spF]; first | (rw [if_pos (by exact Int32.not_le.mp h22), if_pos (by first | exact Or.inl h50 | exact Or.inr (Int32.not_le.mp h57))]; done) | (rw [if_pos (by exact Int32.not_le.mp h22), if_neg (by rintro (z | z); exact h50 z; exact Int32.not_lt.mpr h57 z)]; done) | (rw [if_neg (by exact Int32.not_lt.mpr h22)]; done) | exact absurd h22 h45 | exact absurd h45 h22) ?_
                exact ih8  (q + 1) τ (by omega) ha (by omega)
        · refine v_aload_n G 5 dX0_bestSpoon_25 rfl ?_
          refine v_iload_n G 4 dX0_bestSpoon_26 rfl ?_
          refine v_iload G 0 dX0_bestSpoon_27 rfl ?_
          refine w_callVi G hK.1 hT (kX0_feelsOf hK l dC dI ct ad F τ p q (by rw [(ag_co ha (by decide))]; exact hO) (by rw [show co τ = co σ from (ag_co ha (by decide))]; exact hp) (by omega)) (ck_X0_373 G.2.2.2.2.1 ⟨Nat.le_of_ble_eq_true rfl, Nat.le_of_ble_eq_true rfl⟩) x_recv (fun _ h => h) rfl [] rfl (Nat.le_of_ble_eq_true rfl) dX0_bestSpoon_29 ⟨Nat.le_of_ble_eq_true rfl, Nat.le_of_ble_eq_true rfl⟩ (k1 := 0) (n1 := 0) rfl rfl ?_
          rintro r29 σ29 ⟨rfl, h29_a⟩
          refine v_topr (congrArg Value.int (show s_feels (co τ) p q = s_feels (co σ) p q from by rw [(ag_co ha (by decide))])) ?_
          refine v_goto (tgt := 36) G dX0_bestSpoon_32 (by decide) ?_
          refine v_istore (L' := [(6, .int (s_feels (co σ) p q)), (5, .int (nI q)), (4, .int ((s_spF (co σ) p q).2)), (3, .int ((s_spF (co σ) p q).1)), (2, .int z), (1, .int (nI p)), (0, .ref (ad 0))]) G dX0_bestSpoon_36 (by decide) rfl ?_
          refine v_aload_n G 6 dX0_bestSpoon_38 rfl ?_
          refine x_get (v := .ref (ad 9)) G 4 (by decide) rfl q792 rfl dX0_bestSpoon_39 ?_
          refine v_iload G 1 dX0_bestSpoon_42 rfl ?_
          refine x_iald G 9 rfl (q) rfl (show q < 24 by first | omega | assumption | decide) dX0_bestSpoon_44 ?_
          refine v_topr (congrArg Value.int (show σ29.1 9 q = σ.1 9 q from ((show σ29.1 9 q = τ.1 9 q from ag_at h29_a (by decide)).trans (show τ.1 9 q = σ.1 9 q from ag_at ha (by decide))))) ?_
          refine v_if_le (tgt := 64) G dX0_bestSpoon_45 (by decide) (fun h45 => ?_) (fun h45 => ?_)
          · refine v_iconst (v := 0) G dX0_bestSpoon_64 rfl ?_
            refine v_istore (L' := [(7, .int 0), (6, .int (s_feels (co σ) p q)), (5, .int (nI q)), (4, .int ((s_spF (co σ) p q).2)), (3, .int ((s_spF (co σ) p q).1)), (2, .int z), (1, .int (nI p)), (0, .ref (ad 0))]) G dX0_bestSpoon_65 (by decide) rfl ?_
            refine v_iload G 0 dX0_bestSpoon_67 rfl ?_
            refine v_if_eq (tgt := 77) G dX0_bestSpoon_69 (by decide) (fun h69 => ?_) (fun h69 => absurd h69 (by decide))
            refine v_iload_n G 4 dX0_bestSpoon_77 rfl ?_
            refine v_istore_n (L' := [(3, .int ((s_spF (co σ) p q).1)), (7, .int 0), (6, .int (s_feels (co σ) p q)), (5, .int (nI q)), (4, .int ((s_spF (co σ) p q).2)), (2, .int z), (1, .int (nI p)), (0, .ref (ad 0))]) G dX0_bestSpoon_78 (by decide) rfl ?_
            refine v_iload G 1 dX0_bestSpoon_79 rfl ?_
            refine v_if_eq (tgt := 89) G dX0_bestSpoon_81 (by decide) (fun h81 => ?_) (fun h81 => absurd h81 (by decide))
            refine v_iload G 4 dX0_bestSpoon_89 rfl ?_
            refine v_istore (L' := [(4, .int ((s_spF (co σ) p q).2)), (3, .int ((s_spF (co σ) p q).1)), (7, .int 0), (6, .int (s_feels (co σ) p q)), (5, .int (nI q)), (2, .int z), (1, .int (nI p)), (0, .ref (ad 0))]) G dX0_bestSpoon_91 (by decide) rfl ?_
            refine v_iinc (v := nI (q + 1)) (L' := [(5, .int (nI (q + 1))), (4, .int ((s_spF (co σ) p q).2)), (3, .int ((s_spF (co σ) p q).1)), (7, .int 0), (6, .int (s_feels (co σ) p q)), (2, .int z), (1, .int (nI p)), (0, .ref (ad 0))]) G 4 dX0_bestSpoon_93 rfl (ix_add rfl (ix_lit 1 rfl)) (by decide) rfl ?_
            refine v_goto (tgt := 8) G dX0_bestSpoon_96 (by decide) ?_
            refine V_.sub (L' := [(5, .int (nI (q + 1))), (4, .int ((s_spF (co σ) p q).2)), (3, .int ((s_spF (co σ) p q).1)), (2, .int z), (1, .int (nI p)), (0, .ref (ad 0))]) ?_ [0, 1, 2, 5, 6, 7] rfl
            refine v_loc (L' := [(5, .int (nI (q + 1))), (4, .int ((s_spF (co σ) p (q + 1)).2)), (3, .int ((s_spF (co σ) p (q + 1)).1)), (2, .int z), (1, .int (nI p)), (0, .ref (ad 0))]) (by rw [s_spF]; first | (rw [if_pos (by exact Int32.not_le.mp h22), if_pos (by first | exact Or.inl h50 | exact Or.inr (Int32.not_le.mp h57))]; done) | (rw [if_pos (by exact Int32.not_le.mp h22), if_neg (by rintro (z | z); exact h50 z; exact Int32.not_lt.mpr h57 z)]; done) | (rw [if_neg (by exact Int32.not_lt.mpr h22)]; done) | exact absurd h22 h45 | exact absurd h45 h22) ?_
            exact ih8  (q + 1) σ29 (by omega) (ag_tr ha (ag_mono h29_a (by decide))) (by omega)
          · refine v_iload_n G 3 dX0_bestSpoon_48 rfl ?_
            refine v_iconst (v := (-1)) G dX0_bestSpoon_49 rfl ?_
            refine v_icmp_eq (tgt := 60) G dX0_bestSpoon_50 (by decide) (fun h50 => ?_) (fun h50 => ?_)
            · refine v_iconst (v := 1) G dX0_bestSpoon_60 rfl ?_
              refine v_goto (tgt := 65) G dX0_bestSpoon_61 (by decide) ?_
              refine v_istore (L' := [(7, .int 1), (6, .int (s_feels (co σ) p q)), (5, .int (nI q)), (4, .int ((s_spF (co σ) p q).2)), (3, .int ((s_spF (co σ) p q).1)), (2, .int z), (1, .int (nI p)), (0, .ref (ad 0))]) G dX0_bestSpoon_65 (by decide) rfl ?_
              refine v_iload G 0 dX0_bestSpoon_67 rfl ?_
              refine v_if_eq (tgt := 77) G dX0_bestSpoon_69 (by decide) (fun h69 => absurd h69 (by decide)) (fun h69 => ?_)
              refine v_iload G 2 dX0_bestSpoon_72 rfl ?_
              refine v_goto (tgt := 78) G dX0_bestSpoon_74 (by decide) ?_
              refine v_istore_n (L' := [(3, .int (nI q)), (7, .int 1), (6, .int (s_feels (co σ) p q)), (5, .int (nI q)), (4, .int ((s_spF (co σ) p q).2)), (2, .int z), (1, .int (nI p)), (0, .ref (ad 0))]) G dX0_bestSpoon_78 (by decide) rfl ?_
              refine v_iload G 1 dX0_bestSpoon_79 rfl ?_
              refine v_if_eq (tgt := 89) G dX0_bestSpoon_81 (by decide) (fun h81 => absurd h81 (by decide)) (fun h81 => ?_)
              refine v_iload G 2 dX0_bestSpoon_84 rfl ?_
              refine v_goto (tgt := 91) G dX0_bestSpoon_86 (by decide) ?_
              refine v_istore (L' := [(4, .int (s_feels (co σ) p q)), (3, .int (nI q)), (7, .int 1), (6, .int (s_feels (co σ) p q)), (5, .int (nI q)), (2, .int z), (1, .int (nI p)), (0, .ref (ad 0))]) G dX0_bestSpoon_91 (by decide) rfl ?_
              refine v_iinc (v := nI (q + 1)) (L' := [(5, .int (nI (q + 1))), (4, .int (s_feels (co σ) p q)), (3, .int (nI q)), (7, .int 1), (6, .int (s_feels (co σ) p q)), (2, .int z), (1, .int (nI p)), (0, .ref (ad 0))]) G 4 dX0_bestSpoon_93 rfl (ix_add rfl (ix_lit 1 rfl)) (by decide) rfl ?_
              refine v_goto (tgt := 8) G dX0_bestSpoon_96 (by decide) ?_
              refine V_.sub (L' := [(5, .int (nI (q + 1))), (4, .int (s_feels (co σ) p q)), (3, .int (nI q)), (2, .int z), (1, .int (nI p)), (0, .ref (ad 0))]) ?_ [0, 1, 2, 5, 6, 7] rfl
              refine v_loc (L' := [(5, .int (nI (q + 1))), (4, .int ((s_spF (co σ) p (q + 1)).2)), (3, .int ((s_spF (co σ) p (q + 1)).1)), (2, .int z), (1, .int (nI p)), (0, .ref (ad 0))]) (by rw [s_spF]; first | (rw [if_pos (by exact Int32.not_le.mp h22), if_pos (by first | exact Or.inl h50 | exact Or.inr (Int32.not_le.mp h57))]; done) | (rw [if_pos (by exact Int32.not_le.mp h22), if_neg (by rintro (z | z); exact h50 z; exact Int32.not_lt.mpr h57 z)]; done) | (rw [if_neg (by exact Int32.not_lt.mpr h22)]; done) | exact absurd h22 h45 | exact absurd h45 h22) ?_
              exact ih8  (q + 1) σ29 (by omega) (ag_tr ha (ag_mono h29_a (by decide))) (by omega)
            · refine v_iload G 0 dX0_bestSpoon_53 rfl ?_
              refine v_iload G 2 dX0_bestSpoon_55 rfl ?_
              refine v_icmp_le (tgt := 64) G dX0_bestSpoon_57 (by decide) (fun h57 => ?_) (fun h57 => ?_)
              · refine v_iconst (v := 0) G dX0_bestSpoon_64 rfl ?_
                refine v_istore (L' := [(7, .int 0), (6, .int (s_feels (co σ) p q)), (5, .int (nI q)), (4, .int ((s_spF (co σ) p q).2)), (3, .int ((s_spF (co σ) p q).1)), (2, .int z), (1, .int (nI p)), (0, .ref (ad 0))]) G dX0_bestSpoon_65 (by decide) rfl ?_
                refine v_iload G 0 dX0_bestSpoon_67 rfl ?_
                refine v_if_eq (tgt := 77) G dX0_bestSpoon_69 (by decide) (fun h69 => ?_) (fun h69 => absurd h69 (by decide))
                refine v_iload_n G 4 dX0_bestSpoon_77 rfl ?_
                refine v_istore_n (L' := [(3, .int ((s_spF (co σ) p q).1)), (7, .int 0), (6, .int (s_feels (co σ) p q)), (5, .int (nI q)), (4, .int ((s_spF (co σ) p q).2)), (2, .int z), (1, .int (nI p)), (0, .ref (ad 0))]) G dX0_bestSpoon_78 (by decide) rfl ?_
                refine v_iload G 1 dX0_bestSpoon_79 rfl ?_
                refine v_if_eq (tgt := 89) G dX0_bestSpoon_81 (by decide) (fun h81 => ?_) (fun h81 => absurd h81 (by decide))
                refine v_iload G 4 dX0_bestSpoon_89 rfl ?_
                refine v_istore (L' := [(4, .int ((s_spF (co σ) p q).2)), (3, .int ((s_spF (co σ) p q).1)), (7, .int 0), (6, .int (s_feels (co σ) p q)), (5, .int (nI q)), (2, .int z), (1, .int (nI p)), (0, .ref (ad 0))]) G dX0_bestSpoon_91 (by decide) rfl ?_
                refine v_iinc (v := nI (q + 1)) (L' := [(5, .int (nI (q + 1))), (4, .int ((s_spF (co σ) p q).2)), (3, .int ((s_spF (co σ) p q).1)), (7, .int 0), (6, .int (s_feels (co σ) p q)), (2, .int z), (1, .int (nI p)), (0, .ref (ad 0))]) G 4 dX0_bestSpoon_93 rfl (ix_add rfl (ix_lit 1 rfl)) (by decide) rfl ?_
                refine v_goto (tgt := 8) G dX0_bestSpoon_96 (by decide) ?_
                refine V_.sub (L' := [(5, .int (nI (q + 1))), (4, .int ((s_spF (co σ) p q).2)), (3, .int ((s_spF (co σ) p q).1)), (2, .int z), (1, .int (nI p)), (0, .ref (ad 0))]) ?_ [0, 1, 2, 5, 6, 7] rfl
                refine v_loc (L' := [(5, .int (nI (q + 1))), (4, .int ((s_spF (co σ) p (q + 1)).2)), (3, .int ((s_spF (co σ) p (q + 1)).1)), (2, .int z), (1, .int (nI p)), (0, .ref (ad 0))]) (by rw [s_spF]; first | (rw [if_pos (by exact Int32.not_le.mp h22), if_pos (by first | exact Or.inl h50 | exact Or.inr (Int32.not_le.mp h57))]; done) | (rw [if_pos (by exact Int32.not_le.mp h22), if_neg (by rintro (z | z); exact h50 z; exact Int32.not_lt.mpr h57 z)]; done) | (rw [if_neg (by exact Int32.not_lt.mpr h22)]; done) | exact absurd h22 h45 | exact absurd h45 h22) ?_
                exact ih8  (q + 1) σ29 (by omega) (ag_tr ha (ag_mono h29_a (by decide))) (by omega)
              · refine v_iconst (v := 1) G dX0_bestSpoon_60 rfl ?_
                refine v_goto (tgt := 65) G dX0_bestSpoon_61 (by decide) ?_
                refine v_istore (L' := [(7, .int 1), (6, .int (s_feels (co σ) p q)), (5, .int (nI q)), (4, .int ((s_spF (co σ) p q).2)), (3, .int ((s_spF (co σ) p q).1)), (2, .int z), (1, .int (nI p)), (0, .ref (ad 0))]) G dX0_bestSpoon_65 (by decide) rfl ?_
                refine v_iload G 0 dX0_bestSpoon_67 rfl ?_
                refine v_if_eq (tgt := 77) G dX0_bestSpoon_69 (by decide) (fun h69 => absurd h69 (by decide)) (fun h69 => ?_)
                refine v_iload G 2 dX0_bestSpoon_72 rfl ?_
                refine v_goto (tgt := 78) G dX0_bestSpoon_74 (by decide) ?_
                refine v_istore_n (L' := [(3, .int (nI q)), (7, .int 1), (6, .int (s_feels (co σ) p q)), (5, .int (nI q)), (4, .int ((s_spF (co σ) p q).2)), (2, .int z), (1, .int (nI p)), (0, .ref (ad 0))]) G dX0_bestSpoon_78 (by decide) rfl ?_
                refine v_iload G 1 dX0_bestSpoon_79 rfl ?_
                refine v_if_eq (tgt := 89) G dX0_bestSpoon_81 (by decide) (fun h81 => absurd h81 (by decide)) (fun h81 => ?_)
                refine v_iload G 2 dX0_bestSpoon_84 rfl ?_
                refine v_goto (tgt := 91) G dX0_bestSpoon_86 (by decide) ?_
                refine v_istore (L' := [(4, .int (s_feels (co σ) p q)), (3, .int (nI q)), (7, .int 1), (6, .int (s_feels (co σ) p q)), (5, .int (nI q)), (2, .int z), (1, .int (nI p)), (0, .ref (ad 0))]) G dX0_bestSpoon_91 (by decide) rfl ?_
                refine v_iinc (v := nI (q + 1)) (L' := [(5, .int (nI (q + 1))), (4, .int (s_feels (co σ) p q)), (3, .int (nI q)), (7, .int 1), (6, .int (s_feels (co σ) p q)), (2, .int z), (1, .int (nI p)), (0, .ref (ad 0))]) G 4 dX0_bestSpoon_93 rfl (ix_add rfl (ix_lit 1 rfl)) (by decide) rfl ?_
                refine v_goto (tgt := 8) G dX0_bestSpoon_96 (by decide) ?_
                refine V_.sub (L' := [(5, .int (nI (q + 1))), (4, .int (s_feels (co σ) p q)), (3, .int (nI q)), (2, .int z), (1, .int (nI p)), (0, .ref (ad 0))]) ?_ [0, 1, 2, 5, 6, 7] rfl
                refine v_loc (L' := [(5, .int (nI (q + 1))), (4, .int ((s_spF (co σ) p (q + 1)).2)), (3, .int ((s_spF (co σ) p (q + 1)).1)), (2, .int z), (1, .int (nI p)), (0, .ref (ad 0))]) (by rw [s_spF]; first | (rw [if_pos (by exact Int32.not_le.mp h22), if_pos (by first | exact Or.inl h50 | exact Or.inr (Int32.not_le.mp h57))]; done) | (rw [if_pos (by exact Int32.not_le.mp h22), if_neg (by rintro (z | z); exact h50 z; exact Int32.not_lt.mpr h57 z)]; done) | (rw [if_neg (by exact Int32.not_lt.mpr h22)]; done) | exact absurd h22 h45 | exact absurd h45 h22) ?_
                exact ih8  (q + 1) σ29 (by omega) (ag_tr ha (ag_mono h29_a (by decide))) (by omega)
  refine V_.sub (L' := [(5, .int 0), (4, .int 0), (3, .int (-1)), (2, .int z), (1, .int (nI p)), (0, .ref (ad 0))]) ?_ [0, 1, 2, 5, 4, 3] rfl
  refine v_loc (L' := [(5, .int (nI 0)), (4, .int ((s_spF (co σ) p 0).2)), (3, .int ((s_spF (co σ) p 0).1)), (2, .int z), (1, .int (nI p)), (0, .ref (ad 0))]) (rfl) ?_
  exact loop8 _ 0 σ (by omega) ag_rf (Nat.lt_succ_self _)
