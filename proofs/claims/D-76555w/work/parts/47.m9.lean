set_option maxRecDepth 100000
abbrev rmX8_shelf : Room := { frames := 0, cells := 0, slots := 0, locals := 0 }
set_option maxHeartbeats 1000000 in
theorem kX8_shelf {KT : (Nat → Prop) → State → Heap → Prop} (hK : KTok KT) (l : Launch) (dC : Nat → ClassId) (dI : Nat → Nat → Nat) (ct ad : Nat → Nat) (σ : MS)   : MC KT (dC, dI) vwCl (tysF ct) l yX8_shelf cX8_shelf 4 (some .int) rmX8_shelf [.ref (ad 43)] (RM ct ad σ) (QI_ (dC, dI) vwCl (RM ct ad) (fun (r : Int32) (σ' : MS) => ((s_shF (co σ) 24).1) = r ∧ σ = σ')) := by
  refine MC.ofI (own := RX8) pl_X8 rfl (Nat.le_of_ble_eq_true rfl) ?_
  intro pp ee ss mm aa bb hh cc AA QQ G hT hnm RET
  refine v_loc (L' := [(0, .ref (ad 43))]) rfl ?_
  refine v_iconst (v := (-1)) G dX8_shelf_0 rfl ?_
  refine v_istore_n (L' := [(1, .int (-1)), (0, .ref (ad 43))]) G dX8_shelf_1 (by decide) rfl ?_
  refine v_iconst (v := 0) G dX8_shelf_2 rfl ?_
  refine v_istore_n (L' := [(2, .int 0), (1, .int (-1)), (0, .ref (ad 43))]) G dX8_shelf_3 (by decide) rfl ?_
  refine v_iconst (v := 0) G dX8_shelf_4 rfl ?_
  refine v_istore_n (L' := [(3, .int 0), (2, .int 0), (1, .int (-1)), (0, .ref (ad 43))]) G dX8_shelf_5 (by decide) rfl ?_
  have loop6 : ∀ (dd : Nat) (q : Nat), (q ≤ 24) → 24 - q < dd → V_ pp l ee rmX8_shelf ss mm aa bb hh cc 4 (dC, dI) vwCl AA QQ 0 0 (RM ct ad σ) 6 [(3, .int (nI q)), (2, .int ((s_shF (co σ) q).2)), (1, .int ((s_shF (co σ) q).1)), (0, .ref (ad 43))] [] := by
    intro dd
    induction dd with
    | zero => intro q hq hdd; exact absurd hdd (Nat.not_lt_zero _)
    | succ dd ih6 =>
      intro q hq hdd
      refine v_iload_n G 0 dX8_shelf_6 rfl ?_
      refine v_bipush (v := 24) G dX8_shelf_7 rfl ?_
      refine v_icmp_ge (tgt := 37) G dX8_shelf_9 (by decide) (fun h9 => ?_) (fun h9 => ?_)
      · have n9 := (cmp_le (x := 24) (y := nI q) (a := 24) (b := q) (ix_lit 24 rfl) rfl (by omega) (by omega)).mp h9
        refine v_iload_n G 2 dX8_shelf_37 rfl ?_
        refine RET _ _ _ _ _ _ rfl (Nat.le_of_ble_eq_true rfl) (Nat.le_of_ble_eq_true rfl) dX8_shelf_38 (fun ws hws => ⟨_, hws, ?_⟩)
        clear RET G hT hnm
        exact ⟨by rw [show q = 24 by omega], rfl⟩
      · have n9 := (not_congr (cmp_le (x := 24) (y := nI q) (a := 24) (b := q) (ix_lit 24 rfl) rfl (by omega) (by omega))).mp h9
        refine v_aload_n G 3 dX8_shelf_12 rfl ?_
        refine m_get (v := .ref (ad 9)) G 9 (by decide) rfl q1303 rfl dX8_shelf_13 ?_
        refine v_iload_n G 0 dX8_shelf_16 rfl ?_
        refine m_iald G 9 rfl (q) rfl (show q < 24 by first | omega | assumption | decide) dX8_shelf_17 ?_
        refine v_iload_n G 1 dX8_shelf_18 rfl ?_
        refine v_icmp_le (tgt := 31) G dX8_shelf_19 (by decide) (fun h19 => ?_) (fun h19 => ?_)
        · refine v_iinc (v := nI (q + 1)) (L' := [(3, .int (nI (q + 1))), (2, .int ((s_shF (co σ) q).2)), (1, .int ((s_shF (co σ) q).1)), (0, .ref (ad 43))]) G 0 dX8_shelf_31 rfl (ix_add rfl (ix_lit 1 rfl)) (by decide) rfl ?_
          refine v_goto (tgt := 6) G dX8_shelf_34 (by decide) ?_
          refine V_.sub (L' := [(3, .int (nI (q + 1))), (2, .int ((s_shF (co σ) q).2)), (1, .int ((s_shF (co σ) q).1)), (0, .ref (ad 43))]) ?_ [0, 1, 2, 3] rfl
          refine v_loc (L' := [(3, .int (nI (q + 1))), (2, .int ((s_shF (co σ) (q + 1)).2)), (1, .int ((s_shF (co σ) (q + 1)).1)), (0, .ref (ad 43))]) (by rw [s_shF]; first | (rw [if_pos (by exact Int32.not_le.mp h19)] <;> rfl) | rw [if_neg (by exact Int32.not_lt.mpr h19)]) ?_
          exact ih6  (q + 1) (by first | assumption | omega) (by omega)
        · refine v_iload_n G 0 dX8_shelf_22 rfl ?_
          refine v_istore_n (L' := [(1, .int (nI q)), (3, .int (nI q)), (2, .int ((s_shF (co σ) q).2)), (0, .ref (ad 43))]) G dX8_shelf_23 (by decide) rfl ?_
          refine v_aload_n G 3 dX8_shelf_24 rfl ?_
          refine m_get (v := .ref (ad 9)) G 9 (by decide) rfl q1303 rfl dX8_shelf_25 ?_
          refine v_iload_n G 1 dX8_shelf_28 rfl ?_
          refine m_iald G 9 rfl (q) rfl (show q < 24 by first | omega | assumption | decide) dX8_shelf_29 ?_
          refine v_istore_n (L' := [(2, .int (σ.1 9 q)), (1, .int (nI q)), (3, .int (nI q)), (0, .ref (ad 43))]) G dX8_shelf_30 (by decide) rfl ?_
          refine v_iinc (v := nI (q + 1)) (L' := [(3, .int (nI (q + 1))), (2, .int (σ.1 9 q)), (1, .int (nI q)), (0, .ref (ad 43))]) G 2 dX8_shelf_31 rfl (ix_add rfl (ix_lit 1 rfl)) (by decide) rfl ?_
          refine v_goto (tgt := 6) G dX8_shelf_34 (by decide) ?_
          refine V_.sub (L' := [(3, .int (nI (q + 1))), (2, .int (σ.1 9 q)), (1, .int (nI q)), (0, .ref (ad 43))]) ?_ [0, 1, 2, 3] rfl
          refine v_loc (L' := [(3, .int (nI (q + 1))), (2, .int ((s_shF (co σ) (q + 1)).2)), (1, .int ((s_shF (co σ) (q + 1)).1)), (0, .ref (ad 43))]) (by rw [s_shF]; first | (rw [if_pos (by exact Int32.not_le.mp h19)] <;> rfl) | rw [if_neg (by exact Int32.not_lt.mpr h19)]) ?_
          exact ih6  (q + 1) (by first | assumption | omega) (by omega)
  refine V_.sub (L' := [(3, .int 0), (2, .int 0), (1, .int (-1)), (0, .ref (ad 43))]) ?_ [0, 1, 2, 3] rfl
  refine v_loc (L' := [(3, .int (nI 0)), (2, .int ((s_shF (co σ) 0).2)), (1, .int ((s_shF (co σ) 0).1)), (0, .ref (ad 43))]) (rfl) ?_
  exact loop6 _ 0 (by first | assumption | omega) (Nat.lt_succ_self _)
abbrev rmX8_spoonFor : Room := { frames := 44, cells := 0, slots := 0, locals := 980 }
set_option maxHeartbeats 1000000 in
theorem kX8_spoonFor {KT : (Nat → Prop) → State → Heap → Prop} (hK : KTok KT) (l : Launch) (dC : Nat → ClassId) (dI : Nat → Nat → Nat) (ct ad : Nat → Nat) (σ : MS) (p : Nat) (what : Int32) (hO : Ok (co σ)) (hp : p < 5) : MC KT (dC, dI) vwCl (tysF ct) l yX8_spoonFor cX8_spoonFor 7 (some .int) rmX8_spoonFor [.ref (ad 43), .int (nI p), .int what] (RM ct ad σ) (QI_ (dC, dI) vwCl (RM ct ad) (fun (r : Int32) (σ' : MS) => (if what = 0 then (s_spF (co σ) p 24).1 else (s_spF (co σ) p 24).2) = r ∧ ag sfr σ σ')) := by
  refine MC.ofI (own := RX8) pl_X8 rfl (Nat.le_of_ble_eq_true rfl) ?_
  intro pp ee ss mm aa bb hh cc AA QQ G hT hnm RET
  refine v_loc (L' := [(0, .ref (ad 43)), (1, .int (nI p)), (2, .int what)]) rfl ?_
  refine v_iconst (v := (-1)) G dX8_spoonFor_0 rfl ?_
  refine v_istore_n (L' := [(3, .int (-1)), (0, .ref (ad 43)), (1, .int (nI p)), (2, .int what)]) G dX8_spoonFor_1 (by decide) rfl ?_
  refine v_iconst (v := 0) G dX8_spoonFor_2 rfl ?_
  refine v_istore (L' := [(4, .int 0), (3, .int (-1)), (0, .ref (ad 43)), (1, .int (nI p)), (2, .int what)]) G dX8_spoonFor_3 (by decide) rfl ?_
  refine v_iconst (v := 0) G dX8_spoonFor_5 rfl ?_
  refine v_istore (L' := [(5, .int 0), (4, .int 0), (3, .int (-1)), (0, .ref (ad 43)), (1, .int (nI p)), (2, .int what)]) G dX8_spoonFor_6 (by decide) rfl ?_
  have loop8 : ∀ (dd : Nat) (q : Nat) (τ : MS), (q ≤ 24) → (ag sfr σ τ) → 24 - q < dd → V_ pp l ee rmX8_spoonFor ss mm aa bb hh cc 7 (dC, dI) vwCl AA QQ 0 0 (RM ct ad τ) 8 [(5, .int (nI q)), (4, .int ((s_spF (co σ) p q).2)), (3, .int ((s_spF (co σ) p q).1)), (2, .int what), (1, .int (nI p)), (0, .ref (ad 43))] [] := by
    intro dd
    induction dd with
    | zero => intro q τ hq ha hdd; exact absurd hdd (Nat.not_lt_zero _)
    | succ dd ih8 =>
      intro q τ hq ha hdd
      refine v_iload G 0 dX8_spoonFor_8 rfl ?_
      refine v_bipush (v := 24) G dX8_spoonFor_10 rfl ?_
      refine v_icmp_ge (tgt := 59) G dX8_spoonFor_12 (by decide) (fun h12 => ?_) (fun h12 => ?_)
      · have n12 := (cmp_le (x := 24) (y := nI q) (a := 24) (b := q) (ix_lit 24 rfl) rfl (by omega) (by omega)).mp h12
        refine v_iload_n G 3 dX8_spoonFor_59 rfl ?_
        refine v_if_ne (tgt := 67) G dX8_spoonFor_60 (by decide) (fun h60 => ?_) (fun h60 => ?_)
        · refine v_iload G 1 dX8_spoonFor_67 rfl ?_
          refine RET _ _ _ _ _ _ rfl (Nat.le_of_ble_eq_true rfl) (Nat.le_of_ble_eq_true rfl) dX8_spoonFor_69 (fun ws hws => ⟨_, hws, ?_⟩)
          clear RET G hT hnm
          have hq24 : q = 24 := by omega
          subst hq24
          exact ⟨by first | rw [if_pos h60] | rw [if_neg h60], ha⟩
        · refine v_iload_n G 2 dX8_spoonFor_63 rfl ?_
          refine v_goto (tgt := 69) G dX8_spoonFor_64 (by decide) ?_
          refine RET _ _ _ _ _ _ rfl (Nat.le_of_ble_eq_true rfl) (Nat.le_of_ble_eq_true rfl) dX8_spoonFor_69 (fun ws hws => ⟨_, hws, ?_⟩)
          clear RET G hT hnm
          have hq24 : q = 24 := by omega
          subst hq24
          exact ⟨by first | rw [if_pos h60] | rw [if_neg h60], ha⟩
      · have n12 := (not_congr (cmp_le (x := 24) (y := nI q) (a := 24) (b := q) (ix_lit 24 rfl) rfl (by omega) (by omega))).mp h12
        refine v_aload_n G 5 dX8_spoonFor_15 rfl ?_
        refine m_get (v := .ref (ad 9)) G 9 (by decide) rfl q1303 rfl dX8_spoonFor_16 ?_
        refine v_iload G 0 dX8_spoonFor_19 rfl ?_
        refine m_iald G 9 rfl (q) rfl (show q < 24 by first | omega | assumption | decide) dX8_spoonFor_21 ?_
        refine v_topr (congrArg Value.int (show τ.1 9 q = σ.1 9 q from (show τ.1 9 q = σ.1 9 q from ag_at ha (by decide)))) ?_
        refine v_if_le (tgt := 53) G dX8_spoonFor_22 (by decide) (fun h22 => ?_) (fun h22 => ?_)
        · refine v_iinc (v := nI (q + 1)) (L' := [(5, .int (nI (q + 1))), (4, .int ((s_spF (co σ) p q).2)), (3, .int ((s_spF (co σ) p q).1)), (2, .int what), (1, .int (nI p)), (0, .ref (ad 43))]) G 0 dX8_spoonFor_53 rfl (ix_add rfl (ix_lit 1 rfl)) (by decide) rfl ?_
          refine v_goto (tgt := 8) G dX8_spoonFor_56 (by decide) ?_
          refine V_.sub (L' := [(5, .int (nI (q + 1))), (4, .int ((s_spF (co σ) p q).2)), (3, .int ((s_spF (co σ) p q).1)), (2, .int what), (1, .int (nI p)), (0, .ref (ad 43))]) ?_ [0, 1, 2, 3, 4, 5] rfl
          refine v_loc (L' := [(5, .int (nI (q + 1))), (4, .int ((s_spF (co σ) p (q + 1)).2)), (3, .int ((s_spF (co σ) p (q + 1)).1)), (2, .int what), (1, .int (nI p)), (0, .ref (ad 43))]) (by rw [s_spF]; first | rw [if_pos (by exact Int32.not_le.mp h22), if_pos (by first | exact Or.inl h36 | exact Or.inr (Int32.not_le.mp h43))] | rw [if_pos (by exact Int32.not_le.mp h22), if_neg (by rintro (z | z); exact h36 z; exact Int32.not_lt.mpr h43 z)] | rw [if_neg (by exact Int32.not_lt.mpr h22)]) ?_
          exact ih8  (q + 1) τ (by omega) ha (by omega)
        · refine v_aload_n G 5 dX8_spoonFor_25 rfl ?_
          refine v_iload_n G 4 dX8_spoonFor_26 rfl ?_
          refine v_iload G 0 dX8_spoonFor_27 rfl ?_
          refine w_callVi G hK hT (kX8_feelsOf hK l dC dI ct ad τ p q (by rw [(ag_co ha (by decide))]; exact hO) (by first | assumption | omega) (by omega)) (ck_X8_361 G.2.2.2.2.1 ⟨Nat.le_of_ble_eq_true rfl, Nat.le_of_ble_eq_true rfl⟩) m_recv (fun _ h => h) rfl [] rfl (Nat.le_of_ble_eq_true rfl) dX8_spoonFor_29 ⟨Nat.le_of_ble_eq_true rfl, Nat.le_of_ble_eq_true rfl⟩ (k1 := 0) (n1 := 0) rfl rfl ?_
          rintro r29 σ29 ⟨rfl, h29_a⟩
          refine v_topr (congrArg Value.int (show s_feels (co τ) p q = s_feels (co σ) p q from by rw [(ag_co ha (by decide))])) ?_
          refine v_istore (L' := [(6, .int (s_feels (co σ) p q)), (5, .int (nI q)), (4, .int ((s_spF (co σ) p q).2)), (3, .int ((s_spF (co σ) p q).1)), (2, .int what), (1, .int (nI p)), (0, .ref (ad 43))]) G dX8_spoonFor_32 (by decide) rfl ?_
          refine v_iload_n G 3 dX8_spoonFor_34 rfl ?_
          refine v_iconst (v := (-1)) G dX8_spoonFor_35 rfl ?_
          refine v_icmp_eq (tgt := 46) G dX8_spoonFor_36 (by decide) (fun h36 => ?_) (fun h36 => ?_)
          · refine v_iload G 1 dX8_spoonFor_46 rfl ?_
            refine v_istore_n (L' := [(3, .int (nI q)), (6, .int (s_feels (co σ) p q)), (5, .int (nI q)), (4, .int ((s_spF (co σ) p q).2)), (2, .int what), (1, .int (nI p)), (0, .ref (ad 43))]) G dX8_spoonFor_48 (by decide) rfl ?_
            refine v_iload G 1 dX8_spoonFor_49 rfl ?_
            refine v_istore (L' := [(4, .int (s_feels (co σ) p q)), (3, .int (nI q)), (6, .int (s_feels (co σ) p q)), (5, .int (nI q)), (2, .int what), (1, .int (nI p)), (0, .ref (ad 43))]) G dX8_spoonFor_51 (by decide) rfl ?_
            refine v_iinc (v := nI (q + 1)) (L' := [(5, .int (nI (q + 1))), (4, .int (s_feels (co σ) p q)), (3, .int (nI q)), (6, .int (s_feels (co σ) p q)), (2, .int what), (1, .int (nI p)), (0, .ref (ad 43))]) G 3 dX8_spoonFor_53 rfl (ix_add rfl (ix_lit 1 rfl)) (by decide) rfl ?_
            refine v_goto (tgt := 8) G dX8_spoonFor_56 (by decide) ?_
            refine V_.sub (L' := [(5, .int (nI (q + 1))), (4, .int (s_feels (co σ) p q)), (3, .int (nI q)), (2, .int what), (1, .int (nI p)), (0, .ref (ad 43))]) ?_ [0, 1, 2, 4, 5, 6] rfl
            refine v_loc (L' := [(5, .int (nI (q + 1))), (4, .int ((s_spF (co σ) p (q + 1)).2)), (3, .int ((s_spF (co σ) p (q + 1)).1)), (2, .int what), (1, .int (nI p)), (0, .ref (ad 43))]) (by rw [s_spF]; first | rw [if_pos (by exact Int32.not_le.mp h22), if_pos (by first | exact Or.inl h36 | exact Or.inr (Int32.not_le.mp h43))] | rw [if_pos (by exact Int32.not_le.mp h22), if_neg (by rintro (z | z); exact h36 z; exact Int32.not_lt.mpr h43 z)] | rw [if_neg (by exact Int32.not_lt.mpr h22)]) ?_
            exact ih8  (q + 1) σ29 (by omega) (ag_tr ha (ag_mono h29_a (by decide))) (by omega)
          · refine v_iload G 0 dX8_spoonFor_39 rfl ?_
            refine v_iload G 2 dX8_spoonFor_41 rfl ?_
            refine v_icmp_le (tgt := 53) G dX8_spoonFor_43 (by decide) (fun h43 => ?_) (fun h43 => ?_)
            · refine v_iinc (v := nI (q + 1)) (L' := [(5, .int (nI (q + 1))), (6, .int (s_feels (co σ) p q)), (4, .int ((s_spF (co σ) p q).2)), (3, .int ((s_spF (co σ) p q).1)), (2, .int what), (1, .int (nI p)), (0, .ref (ad 43))]) G 1 dX8_spoonFor_53 rfl (ix_add rfl (ix_lit 1 rfl)) (by decide) rfl ?_
              refine v_goto (tgt := 8) G dX8_spoonFor_56 (by decide) ?_
              refine V_.sub (L' := [(5, .int (nI (q + 1))), (4, .int ((s_spF (co σ) p q).2)), (3, .int ((s_spF (co σ) p q).1)), (2, .int what), (1, .int (nI p)), (0, .ref (ad 43))]) ?_ [0, 2, 3, 4, 5, 6] rfl
              refine v_loc (L' := [(5, .int (nI (q + 1))), (4, .int ((s_spF (co σ) p (q + 1)).2)), (3, .int ((s_spF (co σ) p (q + 1)).1)), (2, .int what), (1, .int (nI p)), (0, .ref (ad 43))]) (by rw [s_spF]; first | rw [if_pos (by exact Int32.not_le.mp h22), if_pos (by first | exact Or.inl h36 | exact Or.inr (Int32.not_le.mp h43))] | rw [if_pos (by exact Int32.not_le.mp h22), if_neg (by rintro (z | z); exact h36 z; exact Int32.not_lt.mpr h43 z)] | rw [if_neg (by exact Int32.not_lt.mpr h22)]) ?_
              exact ih8  (q + 1) σ29 (by omega) (ag_tr ha (ag_mono h29_a (by decide))) (by omega)
            · refine v_iload G 1 dX8_spoonFor_46 rfl ?_
              refine v_istore_n (L' := [(3, .int (nI q)), (6, .int (s_feels (co σ) p q)), (5, .int (nI q)), (4, .int ((s_spF (co σ) p q).2)), (2, .int what), (1, .int (nI p)), (0, .ref (ad 43))]) G dX8_spoonFor_48 (by decide) rfl ?_
              refine v_iload G 1 dX8_spoonFor_49 rfl ?_
              refine v_istore (L' := [(4, .int (s_feels (co σ) p q)), (3, .int (nI q)), (6, .int (s_feels (co σ) p q)), (5, .int (nI q)), (2, .int what), (1, .int (nI p)), (0, .ref (ad 43))]) G dX8_spoonFor_51 (by decide) rfl ?_
              refine v_iinc (v := nI (q + 1)) (L' := [(5, .int (nI (q + 1))), (4, .int (s_feels (co σ) p q)), (3, .int (nI q)), (6, .int (s_feels (co σ) p q)), (2, .int what), (1, .int (nI p)), (0, .ref (ad 43))]) G 3 dX8_spoonFor_53 rfl (ix_add rfl (ix_lit 1 rfl)) (by decide) rfl ?_
              refine v_goto (tgt := 8) G dX8_spoonFor_56 (by decide) ?_
              refine V_.sub (L' := [(5, .int (nI (q + 1))), (4, .int (s_feels (co σ) p q)), (3, .int (nI q)), (2, .int what), (1, .int (nI p)), (0, .ref (ad 43))]) ?_ [0, 1, 2, 4, 5, 6] rfl
              refine v_loc (L' := [(5, .int (nI (q + 1))), (4, .int ((s_spF (co σ) p (q + 1)).2)), (3, .int ((s_spF (co σ) p (q + 1)).1)), (2, .int what), (1, .int (nI p)), (0, .ref (ad 43))]) (by rw [s_spF]; first | rw [if_pos (by exact Int32.not_le.mp h22), if_pos (by first | exact Or.inl h36 | exact Or.inr (Int32.not_le.mp h43))] | rw [if_pos (by exact Int32.not_le.mp h22), if_neg (by rintro (z | z); exact h36 z; exact Int32.not_lt.mpr h43 z)] | rw [if_neg (by exact Int32.not_lt.mpr h22)]) ?_
              exact ih8  (q + 1) σ29 (by omega) (ag_tr ha (ag_mono h29_a (by decide))) (by omega)
  refine V_.sub (L' := [(5, .int 0), (4, .int 0), (3, .int (-1)), (2, .int what), (1, .int (nI p)), (0, .ref (ad 43))]) ?_ [0, 1, 2, 5, 4, 3] rfl
  refine v_loc (L' := [(5, .int (nI 0)), (4, .int ((s_spF (co σ) p 0).2)), (3, .int ((s_spF (co σ) p 0).1)), (2, .int what), (1, .int (nI p)), (0, .ref (ad 43))]) (rfl) ?_
  exact loop8 _ 0 σ (by omega) ag_rf (Nat.lt_succ_self _)
abbrev rmX8_best : Room := { frames := 45, cells := 0, slots := 0, locals := 1006 }
set_option maxHeartbeats 1000000 in
theorem kX8_best {KT : (Nat → Prop) → State → Heap → Prop} (hK : KTok KT) (l : Launch) (dC : Nat → ClassId) (dI : Nat → Nat → Nat) (ct ad : Nat → Nat) (σ : MS) (x : Int32) (what : Int32) (hO : Ok (co σ)) : MC KT (dC, dI) vwCl (tysF ct) l yX8_best cX8_best 3 (some .int) rmX8_best [.ref (ad 43), .int x, .int what] (RM ct ad σ) (QI_ (dC, dI) vwCl (RM ct ad) (fun (r : Int32) (σ' : MS) => (s_best (co σ) x what) = r ∧ co σ' = co σ)) := by
  refine MC.ofI (own := RX8) pl_X8 rfl (Nat.le_of_ble_eq_true rfl) ?_
  intro pp ee ss mm aa bb hh cc AA QQ G hT hnm RET
  refine v_loc (L' := [(0, .ref (ad 43)), (1, .int x), (2, .int what)]) rfl ?_
  obtain ⟨hm5, hm⟩ := many5 hO.1
  have hm : σ.1 11 0 = nI (s_many (co σ)) := hm
  refine v_aload_n G 0 dX8_best_0 rfl ?_
  refine v_iload_n G 1 dX8_best_1 rfl ?_
  refine w_callVi G hK hT (kX8_isOne hK l dC dI ct ad σ (s_many (co σ)) x hm5 hm) (ck_X8_101 G.2.2.2.2.1 ⟨Nat.le_of_ble_eq_true rfl, Nat.le_of_ble_eq_true rfl⟩) m_recv (fun _ h => h) rfl [] rfl (Nat.le_of_ble_eq_true rfl) dX8_best_2 ⟨Nat.le_of_ble_eq_true rfl, Nat.le_of_ble_eq_true rfl⟩ (k1 := 0) (n1 := 0) rfl rfl ?_
  rintro r2 σ2 (⟨rfl, rfl, h2_h⟩ | ⟨rfl, rfl, h2_h⟩)
  · refine v_if_eq (tgt := 20) G dX8_best_5 (by decide) (fun h5 => absurd h5 (by decide)) (fun h5 => ?_)
    refine v_iload_n G 2 dX8_best_8 rfl ?_
    refine v_i2l (v := what.toInt64) G dX8_best_9 rfl ?_
    refine v_lconst (v := 0) G dX8_best_10 rfl ?_
    refine v_ldc2 G q1727 dX8_best_11 ?_
    refine w_callSi G hK hT (kX8_in hK l dC dI ct ad σ what.toInt64 0 2) (ck_X8_86 G.2.2.2.2.1 ⟨Nat.le_of_ble_eq_true rfl, Nat.le_of_ble_eq_true rfl⟩) (fun _ h => h) rfl [] rfl (Nat.le_of_ble_eq_true rfl) dX8_best_14 ⟨Nat.le_of_ble_eq_true rfl, Nat.le_of_ble_eq_true rfl⟩ (k1 := 0) (n1 := 0) rfl rfl ?_
    rintro r14 σ14 (⟨rfl, rfl, h14_h⟩ | ⟨rfl, rfl, h14_h⟩)
    · have g14 := (in_rg (c := what) (lo := 0) (hi := 2) (a := 0) (z := 2) (by decide) (by decide)).mp h14_h
      refine v_if_ne (tgt := 24) G dX8_best_17 (by decide) (fun h17 => ?_) (fun h17 => absurd h17 (by decide))
      obtain ⟨p, hpm, ep⟩ := rg_lt h2_h (by omega)
      refine v_iload_n G 2 dX8_best_24 rfl ?_
      refine v_iconst (v := 2) G dX8_best_25 rfl ?_
      refine v_icmp_ne (tgt := 36) G dX8_best_26 (by decide) (fun h26 => ?_) (fun h26 => ?_)
      · refine v_aload_n G 0 dX8_best_36 rfl ?_
        refine v_iload_n G 1 dX8_best_37 rfl ?_
        refine v_iload_n G 2 dX8_best_38 rfl ?_
        refine v_stk (st' := [.int what, .int (nI p), .ref (ad 43)]) (by first | rfl | (have e0 : x = nI p := ep ; simp only [e0])) ?_
        refine w_callVi G hK hT (kX8_spoonFor hK l dC dI ct ad σ p what hO (by first | assumption | omega)) (ck_X8_404 G.2.2.2.2.1 ⟨Nat.le_of_ble_eq_true rfl, Nat.le_of_ble_eq_true rfl⟩) m_recv (fun _ h => h) rfl [] rfl (Nat.le_of_ble_eq_true rfl) dX8_best_39 ⟨Nat.le_of_ble_eq_true rfl, Nat.le_of_ble_eq_true rfl⟩ (k1 := 0) (n1 := 0) rfl rfl ?_
        rintro r39 σ39 ⟨rfl, h39_a⟩
        refine RET _ _ _ _ _ _ rfl (Nat.le_of_ble_eq_true rfl) (Nat.le_of_ble_eq_true rfl) dX8_best_42 (fun ws hws => ⟨_, hws, ?_⟩)
        clear RET G hT hnm
        have epn : n_ x = p := by rw [ep]; exact nI_clamp (by omega)
        exact ⟨by rw [s_best, if_pos ⟨h2_h, g14⟩, if_neg h26, epn], ag_co h39_a (by decide)⟩
      · refine v_aload_n G 0 dX8_best_29 rfl ?_
        refine w_callVi G hK hT (kX8_shelf hK l dC dI ct ad σ) (ck_X8_401 G.2.2.2.2.1 ⟨Nat.le_of_ble_eq_true rfl, Nat.le_of_ble_eq_true rfl⟩) m_recv (fun _ h => h) rfl [] rfl (Nat.le_of_ble_eq_true rfl) dX8_best_30 ⟨Nat.le_of_ble_eq_true rfl, Nat.le_of_ble_eq_true rfl⟩ (k1 := 0) (n1 := 0) rfl rfl ?_
        rintro r30 σ30 ⟨rfl, rfl⟩
        refine v_goto (tgt := 42) G dX8_best_33 (by decide) ?_
        refine RET _ _ _ _ _ _ rfl (Nat.le_of_ble_eq_true rfl) (Nat.le_of_ble_eq_true rfl) dX8_best_42 (fun ws hws => ⟨_, hws, ?_⟩)
        clear RET G hT hnm
        exact ⟨by rw [s_best, if_pos ⟨h2_h, g14⟩, if_pos h26], rfl⟩
    · have g14 : ¬ rg what 0 2 := fun zz => h14_h ((in_rg (c := what) (lo := 0) (hi := 2) (a := 0) (z := 2) (by decide) (by decide)).mpr zz)
      refine v_if_ne (tgt := 24) G dX8_best_17 (by decide) (fun h17 => absurd h17 (by decide)) (fun h17 => ?_)
      refine v_sipush (v := (-1000)) G dX8_best_20 rfl ?_
      refine RET _ _ _ _ _ _ rfl (Nat.le_of_ble_eq_true rfl) (Nat.le_of_ble_eq_true rfl) dX8_best_23 (fun ws hws => ⟨_, hws, ?_⟩)
      clear RET G hT hnm
      exact ⟨by rw [s_best, if_neg (fun q => by first | exact h2_h q.1 | exact g14 q.2)], rfl⟩
  · refine v_if_eq (tgt := 20) G dX8_best_5 (by decide) (fun h5 => ?_) (fun h5 => absurd h5 (by decide))
    refine v_sipush (v := (-1000)) G dX8_best_20 rfl ?_
    refine RET _ _ _ _ _ _ rfl (Nat.le_of_ble_eq_true rfl) (Nat.le_of_ble_eq_true rfl) dX8_best_23 (fun ws hws => ⟨_, hws, ?_⟩)
    clear RET G hT hnm
    exact ⟨by rw [s_best, if_neg (fun q => by first | exact h2_h q.1 | exact g14 q.2)], rfl⟩
abbrev rmX8_shut : Room := { frames := 47, cells := 0, slots := 0, locals := 1048 }
set_option maxHeartbeats 1000000 in
theorem kX8_shut {KT : (Nat → Prop) → State → Heap → Prop} (hK : KTok KT) (l : Launch) (dC : Nat → ClassId) (dI : Nat → Nat → Nat) (ct ad : Nat → Nat) (σ : MS) (n : Int32) (what : Int32) (hO : Ok (co σ)) : MC KT (dC, dI) vwCl (tysF ct) l yX8_shut cX8_shut 7 (some .int) rmX8_shut [.ref (ad 43), .int n, .int what] (RM ct ad σ) (QI_ (dC, dI) vwCl (RM ct ad) (fun (r : Int32) (σ' : MS) => (s_shut (co σ) n what) = r ∧ co σ' = co σ)) := by
  refine MC.ofI (own := RX8) pl_X8 rfl (Nat.le_of_ble_eq_true rfl) ?_
  intro pp ee ss mm aa bb hh cc AA QQ G hT hnm RET
  refine v_loc (L' := [(0, .ref (ad 43)), (1, .int n), (2, .int what)]) rfl ?_
  refine v_iload_n G 1 dX8_shut_0 rfl ?_
  refine v_i2l (v := n.toInt64) G dX8_shut_1 rfl ?_
  refine v_lconst (v := 0) G dX8_shut_2 rfl ?_
  refine v_ldc2 G q1741 dX8_shut_3 ?_
  refine w_callSi G hK hT (kX8_in hK l dC dI ct ad σ n.toInt64 0 40) (ck_X8_86 G.2.2.2.2.1 ⟨Nat.le_of_ble_eq_true rfl, Nat.le_of_ble_eq_true rfl⟩) (fun _ h => h) rfl [] rfl (Nat.le_of_ble_eq_true rfl) dX8_shut_6 ⟨Nat.le_of_ble_eq_true rfl, Nat.le_of_ble_eq_true rfl⟩ (k1 := 0) (n1 := 0) rfl rfl ?_
  rintro r6 σ6 (⟨rfl, rfl, h6_h⟩ | ⟨rfl, rfl, h6_h⟩)
  · have g6 := (in_rg (c := n) (lo := 0) (hi := 40) (a := 0) (z := 40) (by decide) (by decide)).mp h6_h
    refine v_if_eq (tgt := 22) G dX8_shut_9 (by decide) (fun h9 => absurd h9 (by decide)) (fun h9 => ?_)
    refine v_iload_n G 2 dX8_shut_12 rfl ?_
    refine v_i2l (v := what.toInt64) G dX8_shut_13 rfl ?_
    refine v_lconst (v := 0) G dX8_shut_14 rfl ?_
    refine v_lconst (v := 1) G dX8_shut_15 rfl ?_
    refine w_callSi G hK hT (kX8_in hK l dC dI ct ad σ what.toInt64 0 1) (ck_X8_86 G.2.2.2.2.1 ⟨Nat.le_of_ble_eq_true rfl, Nat.le_of_ble_eq_true rfl⟩) (fun _ h => h) rfl [] rfl (Nat.le_of_ble_eq_true rfl) dX8_shut_16 ⟨Nat.le_of_ble_eq_true rfl, Nat.le_of_ble_eq_true rfl⟩ (k1 := 0) (n1 := 0) rfl rfl ?_
    rintro r16 σ16 (⟨rfl, rfl, h16_h⟩ | ⟨rfl, rfl, h16_h⟩)
    · have g16 := (in_rg (c := what) (lo := 0) (hi := 1) (a := 0) (z := 1) (by decide) (by decide)).mp h16_h
      refine v_if_ne (tgt := 25) G dX8_shut_19 (by decide) (fun h19 => ?_) (fun h19 => absurd h19 (by decide))
      obtain ⟨nn, hnn, enn_⟩ := rg_nat (n := 40) (x := n) ⟨(by have := (g6).1; omega), (g6).2⟩ (by decide)
      refine v_iconst (v := 0) G dX8_shut_25 rfl ?_
      refine v_istore_n (L' := [(3, .int 0), (0, .ref (ad 43)), (1, .int n), (2, .int what)]) G dX8_shut_26 (by decide) rfl ?_
      have loop27 : ∀ (dd : Nat) (q : Nat) (τ : MS), (q ≤ 24) → (∀ i, i < q → τ.1 32 i = σ.1 8 i) → (∀ i, q ≤ i → τ.1 32 i = σ.1 32 i) → (ag [32] σ τ) → 24 - q < dd → V_ pp l ee rmX8_shut ss mm aa bb hh cc 7 (dC, dI) vwCl AA QQ 0 0 (RM ct ad τ) 27 [(3, .int (nI q)), (0, .ref (ad 43)), (1, .int n), (2, .int what)] [] := by
        intro dd
        induction dd with
        | zero => intro q τ hqτ hloτ hhiτ haτ hdd; exact absurd hdd (Nat.not_lt_zero _)
        | succ dd ih27 =>
          intro q τ hqτ hloτ hhiτ haτ hdd
          refine v_iload_n G 0 dX8_shut_27 rfl ?_
          refine v_bipush (v := 24) G dX8_shut_28 rfl ?_
          refine v_icmp_ge (tgt := 51) G dX8_shut_30 (by decide) (fun h30 => ?_) (fun h30 => ?_)
          · have n30 := (cmp_le (x := 24) (y := nI q) (a := 24) (b := q) (ix_lit 24 rfl) rfl (by omega) (by omega)).mp h30
            refine v_iconst (v := (-1)) G dX8_shut_51 rfl ?_
            refine v_istore_n (L' := [(3, .int (-1)), (0, .ref (ad 43)), (1, .int n), (2, .int what)]) G dX8_shut_52 (by decide) rfl ?_
            refine v_aload_n G 1 dX8_shut_53 rfl ?_
            refine v_iload_n G 2 dX8_shut_54 rfl ?_
            refine v_stk (st' := [.int (nI nn), .ref (ad 43)]) (by first | rfl | (have e0 : n = nI nn := enn_ ; simp only [e0])) ?_
            refine w_callVi G hK hT (kX8_jarsBehind hK l dC dI ct ad τ nn (by rw [(ag_co haτ (by decide))]; exact hO) (by omega)) (ck_X8_398 G.2.2.2.2.1 ⟨Nat.le_of_ble_eq_true rfl, Nat.le_of_ble_eq_true rfl⟩) m_recv (fun _ h => h) rfl [] rfl (Nat.le_of_ble_eq_true rfl) dX8_shut_55 ⟨Nat.le_of_ble_eq_true rfl, Nat.le_of_ble_eq_true rfl⟩ (k1 := 0) (n1 := 0) rfl rfl ?_
            rintro r55 σ55 ⟨rfl, h55_c, h55_a⟩
            refine v_topr (congrArg Value.int (show s_all (s_iter (co τ) nn) 24 = s_all (s_iter (co σ) nn) 24 from by rw [(ag_co haτ (by decide))])) ?_
            refine v_istore (L' := [(4, .int (s_all (s_iter (co σ) nn) 24)), (3, .int (-1)), (0, .ref (ad 43)), (1, .int n), (2, .int what)]) G dX8_shut_58 (by decide) rfl ?_
            refine v_iconst (v := 0) G dX8_shut_60 rfl ?_
            refine v_istore (L' := [(5, .int 0), (4, .int (s_all (s_iter (co σ) nn) 24)), (3, .int (-1)), (0, .ref (ad 43)), (1, .int n), (2, .int what)]) G dX8_shut_61 (by decide) rfl ?_
            have loop63 : ∀ (dd : Nat) (c : Nat) (μ : MS), (c ≤ 12) → (∀ k, k ≠ 8 → co μ k = co σ k) → (∀ i, 24 ≤ i → μ.1 8 i = σ.1 8 i) → (∀ i, i < 24 → μ.1 32 i = σ.1 8 i) → 12 - c < dd → V_ pp l ee rmX8_shut ss mm aa bb hh cc 7 (dC, dI) vwCl AA QQ 0 0 (RM ct ad μ) 63 [(5, .int (nI c)), (4, .int ((s_shutF (co σ) nn c).2)), (3, .int ((s_shutF (co σ) nn c).1)), (2, .int what), (1, .int n), (0, .ref (ad 43))] [] := by
              intro dd
              induction dd with
              | zero => intro c μ hc12 hk8 hh8 h32 hdd; exact absurd hdd (Nat.not_lt_zero _)
              | succ dd ih63 =>
                intro c μ hc12 hk8 hh8 h32 hdd
                refine v_iload G 0 dX8_shut_63 rfl ?_
                refine v_bipush (v := 12) G dX8_shut_65 rfl ?_
                refine v_icmp_ge (tgt := 149) G dX8_shut_67 (by decide) (fun h67 => ?_) (fun h67 => ?_)
                · have n67 := (cmp_le (x := 12) (y := nI c) (a := 12) (b := c) (ix_lit 12 rfl) rfl (by omega) (by omega)).mp h67
                  refine v_iconst (v := 0) G dX8_shut_149 rfl ?_
                  refine v_istore (L' := [(5, .int 0), (4, .int ((s_shutF (co σ) nn c).2)), (3, .int ((s_shutF (co σ) nn c).1)), (2, .int what), (1, .int n), (0, .ref (ad 43))]) G dX8_shut_150 (by decide) rfl ?_
                  have loop152 : ∀ (dd : Nat) (y : Nat) (ρ : MS), (y ≤ 24) → (∀ i, i < y → ρ.1 8 i = μ.1 32 i) → (∀ i, y ≤ i → ρ.1 8 i = μ.1 8 i) → (ag [8] μ ρ) → 24 - y < dd → V_ pp l ee rmX8_shut ss mm aa bb hh cc 7 (dC, dI) vwCl AA QQ 0 0 (RM ct ad ρ) 152 [(5, .int (nI y)), (4, .int ((s_shutF (co σ) nn c).2)), (3, .int ((s_shutF (co σ) nn c).1)), (2, .int what), (1, .int n), (0, .ref (ad 43))] [] := by
                    intro dd
                    induction dd with
                    | zero => intro y ρ hqρ hloρ hhiρ haρ hdd; exact absurd hdd (Nat.not_lt_zero _)
                    | succ dd ih152 =>
                      intro y ρ hqρ hloρ hhiρ haρ hdd
                      refine v_iload G 0 dX8_shut_152 rfl ?_
                      refine v_bipush (v := 24) G dX8_shut_154 rfl ?_
                      refine v_icmp_ge (tgt := 179) G dX8_shut_156 (by decide) (fun h156 => ?_) (fun h156 => ?_)
                      · have n156 := (cmp_le (x := 24) (y := nI y) (a := 24) (b := y) (ix_lit 24 rfl) rfl (by omega) (by omega)).mp h156
                        refine v_iload_n G 3 dX8_shut_179 rfl ?_
                        refine v_if_ne (tgt := 187) G dX8_shut_180 (by decide) (fun h180 => ?_) (fun h180 => ?_)
                        · refine v_iload G 1 dX8_shut_187 rfl ?_
                          refine RET _ _ _ _ _ _ rfl (Nat.le_of_ble_eq_true rfl) (Nat.le_of_ble_eq_true rfl) dX8_shut_189 (fun ws hws => ⟨_, hws, ?_⟩)
                          clear RET G hT hnm
                          have enn : n_ n = nn := by rw [enn_]; exact nI_clamp (by omega)
                          have hc12' : c = 12 := by omega
                          have hy24 : y = 24 := by omega
                          subst hc12' hy24
                          refine ⟨by rw [s_shut, if_pos ⟨g6, g16⟩, enn]; first | rw [if_pos h180] | rw [if_neg h180], ?_⟩
                          funext k i
                          by_cases hk : k = 8
                          · subst hk
                            show ρ.1 8 i = σ.1 8 i
                            by_cases hi : i < 24
                            · rw [hloρ i hi]; exact h32 i hi
                            · rw [hhiρ i (by omega)]; exact hh8 i (by omega)
                          · rw [← hk8 k hk]
                            unfold co
                            rw [haρ k (by simpa using hk)]
                        · refine v_iload_n G 2 dX8_shut_183 rfl ?_
                          refine v_goto (tgt := 189) G dX8_shut_184 (by decide) ?_
                          refine RET _ _ _ _ _ _ rfl (Nat.le_of_ble_eq_true rfl) (Nat.le_of_ble_eq_true rfl) dX8_shut_189 (fun ws hws => ⟨_, hws, ?_⟩)
                          clear RET G hT hnm
                          have enn : n_ n = nn := by rw [enn_]; exact nI_clamp (by omega)
                          have hc12' : c = 12 := by omega
                          have hy24 : y = 24 := by omega
                          subst hc12' hy24
                          refine ⟨by rw [s_shut, if_pos ⟨g6, g16⟩, enn]; first | rw [if_pos h180] | rw [if_neg h180], ?_⟩
                          funext k i
                          by_cases hk : k = 8
                          · subst hk
                            show ρ.1 8 i = σ.1 8 i
                            by_cases hi : i < 24
                            · rw [hloρ i hi]; exact h32 i hi
                            · rw [hhiρ i (by omega)]; exact hh8 i (by omega)
                          · rw [← hk8 k hk]
                            unfold co
                            rw [haρ k (by simpa using hk)]
                      · have n156 := (not_congr (cmp_le (x := 24) (y := nI y) (a := 24) (b := y) (ix_lit 24 rfl) rfl (by omega) (by omega))).mp h156
                        refine v_aload_n G 5 dX8_shut_159 rfl ?_
                        refine m_get (v := .ref (ad 8)) G 8 (by decide) rfl q1302 rfl dX8_shut_160 ?_
                        refine v_iload G 0 dX8_shut_163 rfl ?_
                        refine v_aload_n G 5 dX8_shut_165 rfl ?_
                        refine m_get (v := .ref (ad 32)) G 32 (by decide) rfl q1326 rfl dX8_shut_166 ?_
                        refine v_iload G 0 dX8_shut_169 rfl ?_
                        refine m_iald G 32 rfl (y) rfl (show y < 24 by first | omega | assumption | decide) dX8_shut_171 ?_
                        refine v_topr (congrArg Value.int (show ρ.1 32 y = μ.1 32 y from (show ρ.1 32 y = μ.1 32 y from ag_at haρ (by decide)))) ?_
                        refine m_iast G 8 rfl (y) rfl (show y < 24 by first | omega | assumption | decide) dX8_shut_172 ?_
                        refine v_iinc (v := nI (y + 1)) (L' := [(5, .int (nI (y + 1))), (4, .int ((s_shutF (co σ) nn c).2)), (3, .int ((s_shutF (co σ) nn c).1)), (2, .int what), (1, .int n), (0, .ref (ad 43))]) G 0 dX8_shut_173 rfl (ix_add rfl (ix_lit 1 rfl)) (by decide) rfl ?_
                        refine v_goto (tgt := 152) G dX8_shut_176 (by decide) ?_
                        refine V_.sub (L' := [(5, .int (nI (y + 1))), (4, .int ((s_shutF (co σ) nn c).2)), (3, .int ((s_shutF (co σ) nn c).1)), (2, .int what), (1, .int n), (0, .ref (ad 43))]) ?_ [0, 1, 2, 3, 4, 5] rfl
                        exact ih152  (y + 1) (mset ρ 8 y (μ.1 32 y)) (by omega) (cpy0_lo hloρ rfl) (cpy0_hi hhiρ) (ag_tr haρ (ag_set (by decide))) (by omega)
                  refine V_.sub (L' := [(5, .int 0), (4, .int ((s_shutF (co σ) nn c).2)), (3, .int ((s_shutF (co σ) nn c).1)), (2, .int what), (1, .int n), (0, .ref (ad 43))]) ?_ [0, 1, 2, 3, 4, 5] rfl
                  refine v_loc (L' := [(5, .int (nI 0)), (4, .int ((s_shutF (co σ) nn c).2)), (3, .int ((s_shutF (co σ) nn c).1)), (2, .int what), (1, .int n), (0, .ref (ad 43))]) (rfl) ?_
                  exact loop152 _ 0 μ (Nat.zero_le _) (fun i hi => absurd hi (Nat.not_lt_zero i)) (fun _ _ => rfl) ag_rf (Nat.lt_succ_self _)
                · have n67 := (not_congr (cmp_le (x := 12) (y := nI c) (a := 12) (b := c) (ix_lit 12 rfl) rfl (by omega) (by omega))).mp h67
                  refine v_iconst (v := 0) G dX8_shut_70 rfl ?_
                  refine v_istore (L' := [(6, .int 0), (5, .int (nI c)), (4, .int ((s_shutF (co σ) nn c).2)), (3, .int ((s_shutF (co σ) nn c).1)), (2, .int what), (1, .int n), (0, .ref (ad 43))]) G dX8_shut_71 (by decide) rfl ?_
                  have loop73 : ∀ (dd : Nat) (z : Nat) (ν : MS), (z ≤ 24) → (∀ i, i < z → ν.1 8 i = (if σ.1 8 i = nI c then nI ((c + 1) % 12) else σ.1 8 i)) → (∀ i, z ≤ i → ν.1 8 i = μ.1 8 i) → (ag [8] μ ν) → 24 - z < dd → V_ pp l ee rmX8_shut ss mm aa bb hh cc 7 (dC, dI) vwCl AA QQ 0 0 (RM ct ad ν) 73 [(6, .int (nI z)), (5, .int (nI c)), (4, .int ((s_shutF (co σ) nn c).2)), (3, .int ((s_shutF (co σ) nn c).1)), (2, .int what), (1, .int n), (0, .ref (ad 43))] [] := by
                    intro dd
                    induction dd with
                    | zero => intro z ν hz hloν hhiν haν hdd; exact absurd hdd (Nat.not_lt_zero _)
                    | succ dd ih73 =>
                      intro z ν hz hloν hhiν haν hdd
                      refine v_iload G 0 dX8_shut_73 rfl ?_
                      refine v_bipush (v := 24) G dX8_shut_75 rfl ?_
                      refine v_icmp_ge (tgt := 122) G dX8_shut_77 (by decide) (fun h77 => ?_) (fun h77 => ?_)
                      · have n77 := (cmp_le (x := 24) (y := nI z) (a := 24) (b := z) (ix_lit 24 rfl) rfl (by omega) (by omega)).mp h77
                        have hz24 : z = 24 := by omega
                        have hsh : co ν = s_shutK (co σ) c := by
                          funext k i
                          by_cases hk : k = 8
                          · subst hk
                            show ν.1 8 i = if (8 : Nat) = 8 ∧ i < 24 ∧ σ.1 8 i = nI c then nI ((c + 1) % 12) else σ.1 8 i
                            by_cases hi : i < 24
                            · rw [hloν i (by omega)]
                              simp only [true_and, hi]
                            · rw [hhiν i (by omega), hh8 i (by omega), if_neg (fun q => hi q.2.1)]
                          · rw [show s_shutK (co σ) c k i = co σ k i by simp [s_shutK, hk], ← hk8 k hk]
                            unfold co
                            rw [haν k (by simpa using hk)]
                        refine v_aload_n G 6 dX8_shut_122 rfl ?_
                        refine v_iload_n G 5 dX8_shut_123 rfl ?_
                        refine v_stk (st' := [.int (nI nn), .ref (ad 43)]) (by first | rfl | (have e0 : n = nI nn := enn_ ; simp only [e0])) ?_
                        refine w_callVi G hK hT (kX8_jarsBehind hK l dC dI ct ad ν nn (by rw [hsh]; exact (ok_shut hO)) (by omega)) (ck_X8_398 G.2.2.2.2.1 ⟨Nat.le_of_ble_eq_true rfl, Nat.le_of_ble_eq_true rfl⟩) m_recv (fun _ h => h) rfl [] rfl (Nat.le_of_ble_eq_true rfl) dX8_shut_124 ⟨Nat.le_of_ble_eq_true rfl, Nat.le_of_ble_eq_true rfl⟩ (k1 := 0) (n1 := 0) rfl rfl ?_
                        rintro r124 σ124 ⟨rfl, h124_c, h124_a⟩
                        refine v_topr (congrArg Value.int (show s_all (s_iter (co ν) nn) 24 = s_all (s_iter (s_shutK (co σ) c) nn) 24 from by rw [hsh])) ?_
                        refine v_istore (L' := [(6, .int (s_all (s_iter (s_shutK (co σ) c) nn) 24)), (5, .int (nI c)), (4, .int ((s_shutF (co σ) nn c).2)), (3, .int ((s_shutF (co σ) nn c).1)), (2, .int what), (1, .int n), (0, .ref (ad 43))]) G dX8_shut_127 (by decide) rfl ?_
                        refine v_iload G 0 dX8_shut_129 rfl ?_
                        refine v_iload G 2 dX8_shut_131 rfl ?_
                        refine v_icmp_le (tgt := 143) G dX8_shut_133 (by decide) (fun h133 => ?_) (fun h133 => ?_)
                        · refine v_iinc (v := nI (c + 1)) (L' := [(5, .int (nI (c + 1))), (6, .int (s_all (s_iter (s_shutK (co σ) c) nn) 24)), (4, .int ((s_shutF (co σ) nn c).2)), (3, .int ((s_shutF (co σ) nn c).1)), (2, .int what), (1, .int n), (0, .ref (ad 43))]) G 1 dX8_shut_143 rfl (ix_add rfl (ix_lit 1 rfl)) (by decide) rfl ?_
                          refine v_goto (tgt := 63) G dX8_shut_146 (by decide) ?_
                          refine V_.sub (L' := [(5, .int (nI (c + 1))), (4, .int ((s_shutF (co σ) nn c).2)), (3, .int ((s_shutF (co σ) nn c).1)), (2, .int what), (1, .int n), (0, .ref (ad 43))]) ?_ [0, 2, 3, 4, 5, 6] rfl
                          refine v_loc (L' := [(5, .int (nI (c + 1))), (4, .int ((s_shutF (co σ) nn (c + 1)).2)), (3, .int ((s_shutF (co σ) nn (c + 1)).1)), (2, .int what), (1, .int n), (0, .ref (ad 43))]) (by rw [s_shutF]; first | (rw [if_pos (by exact Int32.not_le.mp h133)] <;> rfl) | rw [if_neg (by exact Int32.not_lt.mpr h133)]) ?_
                          exact ih63  (c + 1) σ124 (by omega) (fun k hk => by rw [h124_c, hsh]; funext i; simp [s_shutK, hk]) (fun i hi => by rw [show σ124.1 8 i = co σ124 8 i from rfl, h124_c, hsh]; show (if _ then _ else _) = _; rw [if_neg (by omega)]; rfl) (fun i hi => by rw [h124_a 32 (by decide), haν 32 (by decide)]; exact h32 i hi) (by omega)
                        · refine v_iload G 1 dX8_shut_136 rfl ?_
                          refine v_istore_n (L' := [(3, .int (nI c)), (6, .int (s_all (s_iter (s_shutK (co σ) c) nn) 24)), (5, .int (nI c)), (4, .int ((s_shutF (co σ) nn c).2)), (2, .int what), (1, .int n), (0, .ref (ad 43))]) G dX8_shut_138 (by decide) rfl ?_
                          refine v_iload G 1 dX8_shut_139 rfl ?_
                          refine v_istore (L' := [(4, .int (s_all (s_iter (s_shutK (co σ) c) nn) 24)), (3, .int (nI c)), (6, .int (s_all (s_iter (s_shutK (co σ) c) nn) 24)), (5, .int (nI c)), (2, .int what), (1, .int n), (0, .ref (ad 43))]) G dX8_shut_141 (by decide) rfl ?_
                          refine v_iinc (v := nI (c + 1)) (L' := [(5, .int (nI (c + 1))), (4, .int (s_all (s_iter (s_shutK (co σ) c) nn) 24)), (3, .int (nI c)), (6, .int (s_all (s_iter (s_shutK (co σ) c) nn) 24)), (2, .int what), (1, .int n), (0, .ref (ad 43))]) G 3 dX8_shut_143 rfl (ix_add rfl (ix_lit 1 rfl)) (by decide) rfl ?_
                          refine v_goto (tgt := 63) G dX8_shut_146 (by decide) ?_
                          refine V_.sub (L' := [(5, .int (nI (c + 1))), (4, .int (s_all (s_iter (s_shutK (co σ) c) nn) 24)), (3, .int (nI c)), (2, .int what), (1, .int n), (0, .ref (ad 43))]) ?_ [0, 1, 2, 4, 5, 6] rfl
                          refine v_loc (L' := [(5, .int (nI (c + 1))), (4, .int ((s_shutF (co σ) nn (c + 1)).2)), (3, .int ((s_shutF (co σ) nn (c + 1)).1)), (2, .int what), (1, .int n), (0, .ref (ad 43))]) (by rw [s_shutF]; first | (rw [if_pos (by exact Int32.not_le.mp h133)] <;> rfl) | rw [if_neg (by exact Int32.not_lt.mpr h133)]) ?_
                          exact ih63  (c + 1) σ124 (by omega) (fun k hk => by rw [h124_c, hsh]; funext i; simp [s_shutK, hk]) (fun i hi => by rw [show σ124.1 8 i = co σ124 8 i from rfl, h124_c, hsh]; show (if _ then _ else _) = _; rw [if_neg (by omega)]; rfl) (fun i hi => by rw [h124_a 32 (by decide), haν 32 (by decide)]; exact h32 i hi) (by omega)
                      · have n77 := (not_congr (cmp_le (x := 24) (y := nI z) (a := 24) (b := z) (ix_lit 24 rfl) rfl (by omega) (by omega))).mp h77
                        refine v_aload_n G 6 dX8_shut_80 rfl ?_
                        refine m_get (v := .ref (ad 8)) G 8 (by decide) rfl q1302 rfl dX8_shut_81 ?_
                        refine v_iload G 0 dX8_shut_84 rfl ?_
                        refine v_aload_n G 6 dX8_shut_86 rfl ?_
                        refine m_get (v := .ref (ad 32)) G 32 (by decide) rfl q1326 rfl dX8_shut_87 ?_
                        refine v_iload G 0 dX8_shut_90 rfl ?_
                        refine m_iald G 32 rfl (z) rfl (show z < 24 by first | omega | assumption | decide) dX8_shut_92 ?_
                        refine v_topr (congrArg Value.int (show ν.1 32 z = μ.1 32 z from (show ν.1 32 z = μ.1 32 z from ag_at haν (by decide)))) ?_
                        refine v_iload G 1 dX8_shut_93 rfl ?_
                        refine v_icmp_ne (tgt := 108) G dX8_shut_95 (by decide) (fun h95 => ?_) (fun h95 => ?_)
                        · refine v_aload_n G 6 dX8_shut_108 rfl ?_
                          refine m_get (v := .ref (ad 32)) G 32 (by decide) rfl q1326 rfl dX8_shut_109 ?_
                          refine v_iload G 0 dX8_shut_112 rfl ?_
                          refine m_iald G 32 rfl (z) rfl (show z < 24 by first | omega | assumption | decide) dX8_shut_114 ?_
                          refine v_topr (congrArg Value.int (show ν.1 32 z = μ.1 32 z from (show ν.1 32 z = μ.1 32 z from ag_at haν (by decide)))) ?_
                          refine m_iast G 8 rfl (z) rfl (show z < 24 by first | omega | assumption | decide) dX8_shut_115 ?_
                          refine v_iinc (v := nI (z + 1)) (L' := [(6, .int (nI (z + 1))), (5, .int (nI c)), (4, .int ((s_shutF (co σ) nn c).2)), (3, .int ((s_shutF (co σ) nn c).1)), (2, .int what), (1, .int n), (0, .ref (ad 43))]) G 0 dX8_shut_116 rfl (ix_add rfl (ix_lit 1 rfl)) (by decide) rfl ?_
                          refine v_goto (tgt := 73) G dX8_shut_119 (by decide) ?_
                          refine V_.sub (L' := [(6, .int (nI (z + 1))), (5, .int (nI c)), (4, .int ((s_shutF (co σ) nn c).2)), (3, .int ((s_shutF (co σ) nn c).1)), (2, .int what), (1, .int n), (0, .ref (ad 43))]) ?_ [0, 1, 2, 3, 4, 5, 6] rfl
                          exact ih73  (z + 1) (mset ν 8 z (μ.1 32 z)) (by omega) (cpy0_lo hloν (by first | (rw [if_pos (by rw [← h32 z (by omega)]; exact h95)]; exact ix_rem (ix_add rfl (ix_lit 1 rfl)) (ix_lit 12 rfl) (by omega) (by decide) (by decide)) | rw [if_neg (by rw [← h32 z (by omega)]; exact h95)]; exact h32 z (by omega))) (cpy0_hi hhiν) (ag_tr haν (ag_set (by decide))) (by omega)
                        · refine v_iload G 1 dX8_shut_98 rfl ?_
                          refine v_iconst (v := 1) G dX8_shut_100 rfl ?_
                          refine v_iadd G dX8_shut_101 ?_
                          refine v_bipush (v := 12) G dX8_shut_102 rfl ?_
                          refine v_irem G dX8_shut_104 (by decide) ?_
                          refine v_goto (tgt := 115) G dX8_shut_105 (by decide) ?_
                          refine m_iast G 8 rfl (z) rfl (show z < 24 by first | omega | assumption | decide) dX8_shut_115 ?_
                          refine v_iinc (v := nI (z + 1)) (L' := [(6, .int (nI (z + 1))), (5, .int (nI c)), (4, .int ((s_shutF (co σ) nn c).2)), (3, .int ((s_shutF (co σ) nn c).1)), (2, .int what), (1, .int n), (0, .ref (ad 43))]) G 0 dX8_shut_116 rfl (ix_add rfl (ix_lit 1 rfl)) (by decide) rfl ?_
                          refine v_goto (tgt := 73) G dX8_shut_119 (by decide) ?_
                          refine V_.sub (L' := [(6, .int (nI (z + 1))), (5, .int (nI c)), (4, .int ((s_shutF (co σ) nn c).2)), (3, .int ((s_shutF (co σ) nn c).1)), (2, .int what), (1, .int n), (0, .ref (ad 43))]) ?_ [0, 1, 2, 3, 4, 5, 6] rfl
                          exact ih73  (z + 1) (mset ν 8 z (((nI c) + 1) - ((nI c) + 1) / 12 * 12)) (by omega) (cpy0_lo hloν (by first | (rw [if_pos (by rw [← h32 z (by omega)]; exact h95)]; exact ix_rem (ix_add rfl (ix_lit 1 rfl)) (ix_lit 12 rfl) (by omega) (by decide) (by decide)) | rw [if_neg (by rw [← h32 z (by omega)]; exact h95)]; exact h32 z (by omega))) (cpy0_hi hhiν) (ag_tr haν (ag_set (by decide))) (by omega)
                  refine V_.sub (L' := [(6, .int 0), (5, .int (nI c)), (4, .int ((s_shutF (co σ) nn c).2)), (3, .int ((s_shutF (co σ) nn c).1)), (2, .int what), (1, .int n), (0, .ref (ad 43))]) ?_ [0, 1, 2, 3, 4, 5, 6] rfl
                  refine v_loc (L' := [(6, .int (nI 0)), (5, .int (nI c)), (4, .int ((s_shutF (co σ) nn c).2)), (3, .int ((s_shutF (co σ) nn c).1)), (2, .int what), (1, .int n), (0, .ref (ad 43))]) (rfl) ?_
                  exact loop73 _ 0 μ (by omega) (fun i hi => absurd hi (Nat.not_lt_zero i)) (fun _ _ => rfl) ag_rf (Nat.lt_succ_self _)
            refine V_.sub (L' := [(5, .int 0), (4, .int (s_all (s_iter (co σ) nn) 24)), (3, .int (-1)), (2, .int what), (1, .int n), (0, .ref (ad 43))]) ?_ [0, 1, 2, 5, 4, 3] rfl
            refine v_loc (L' := [(5, .int (nI 0)), (4, .int ((s_shutF (co σ) nn 0).2)), (3, .int ((s_shutF (co σ) nn 0).1)), (2, .int what), (1, .int n), (0, .ref (ad 43))]) (rfl) ?_
            exact loop63 _ 0 σ55 (by omega) (fun k _ => by rw [h55_c, ag_co haτ (by decide)]) (fun i hi => by rw [show σ55.1 8 i = co σ55 8 i from rfl, h55_c]; exact ag_at haτ (by decide)) (fun i hi => by rw [h55_a 32 (by decide)]; exact hloτ i (by omega)) (Nat.lt_succ_self _)
          · have n30 := (not_congr (cmp_le (x := 24) (y := nI q) (a := 24) (b := q) (ix_lit 24 rfl) rfl (by omega) (by omega))).mp h30
            refine v_aload_n G 1 dX8_shut_33 rfl ?_
            refine m_get (v := .ref (ad 32)) G 32 (by decide) rfl q1326 rfl dX8_shut_34 ?_
            refine v_iload_n G 0 dX8_shut_37 rfl ?_
            refine v_aload_n G 1 dX8_shut_38 rfl ?_
            refine m_get (v := .ref (ad 8)) G 8 (by decide) rfl q1302 rfl dX8_shut_39 ?_
            refine v_iload_n G 0 dX8_shut_42 rfl ?_
            refine m_iald G 8 rfl (q) rfl (show q < 24 by first | omega | assumption | decide) dX8_shut_43 ?_
            refine v_topr (congrArg Value.int (show τ.1 8 q = σ.1 8 q from (show τ.1 8 q = σ.1 8 q from ag_at haτ (by decide)))) ?_
            refine m_iast G 32 rfl (q) rfl (show q < 24 by first | omega | assumption | decide) dX8_shut_44 ?_
            refine v_iinc (v := nI (q + 1)) (L' := [(3, .int (nI (q + 1))), (0, .ref (ad 43)), (1, .int n), (2, .int what)]) G 0 dX8_shut_45 rfl (ix_add rfl (ix_lit 1 rfl)) (by decide) rfl ?_
            refine v_goto (tgt := 27) G dX8_shut_48 (by decide) ?_
            refine V_.sub (L' := [(3, .int (nI (q + 1))), (0, .ref (ad 43)), (1, .int n), (2, .int what)]) ?_ [0, 1, 2, 3] rfl
            exact ih27  (q + 1) (mset τ 32 q (σ.1 8 q)) (by omega) (cpy0_lo hloτ rfl) (cpy0_hi hhiτ) (ag_tr haτ (ag_set (by decide))) (by omega)
      refine V_.sub (L' := [(3, .int 0), (0, .ref (ad 43)), (1, .int n), (2, .int what)]) ?_ [0, 1, 2, 3] rfl
      refine v_loc (L' := [(3, .int (nI 0)), (0, .ref (ad 43)), (1, .int n), (2, .int what)]) (rfl) ?_
      exact loop27 _ 0 σ (Nat.zero_le _) (fun i hi => absurd hi (Nat.not_lt_zero i)) (fun _ _ => rfl) ag_rf (Nat.lt_succ_self _)
    · have g16 : ¬ rg what 0 1 := fun zz => h16_h ((in_rg (c := what) (lo := 0) (hi := 1) (a := 0) (z := 1) (by decide) (by decide)).mpr zz)
      refine v_if_ne (tgt := 25) G dX8_shut_19 (by decide) (fun h19 => absurd h19 (by decide)) (fun h19 => ?_)
      refine v_bipush (v := (-2)) G dX8_shut_22 rfl ?_
      refine RET _ _ _ _ _ _ rfl (Nat.le_of_ble_eq_true rfl) (Nat.le_of_ble_eq_true rfl) dX8_shut_24 (fun ws hws => ⟨_, hws, ?_⟩)
      clear RET G hT hnm
      exact ⟨by rw [s_shut, if_neg (fun q => by first | exact g6 q.1 | exact g16 q.2)], rfl⟩
  · have g6 : ¬ rg n 0 40 := fun zz => h6_h ((in_rg (c := n) (lo := 0) (hi := 40) (a := 0) (z := 40) (by decide) (by decide)).mpr zz)
    refine v_if_eq (tgt := 22) G dX8_shut_9 (by decide) (fun h9 => ?_) (fun h9 => absurd h9 (by decide))
    refine v_bipush (v := (-2)) G dX8_shut_22 rfl ?_
    refine RET _ _ _ _ _ _ rfl (Nat.le_of_ble_eq_true rfl) (Nat.le_of_ble_eq_true rfl) dX8_shut_24 (fun ws hws => ⟨_, hws, ?_⟩)
    clear RET G hT hnm
    exact ⟨by rw [s_shut, if_neg (fun q => by first | exact g6 q.1 | exact g16 q.2)], rfl⟩
abbrev rmX8_firstOther : Room := { frames := 46, cells := 0, slots := 0, locals := 1026 }
set_option maxHeartbeats 1000000 in
theorem kX8_firstOther {KT : (Nat → Prop) → State → Heap → Prop} (hK : KTok KT) (l : Launch) (dC : Nat → ClassId) (dI : Nat → Nat → Nat) (ct ad : Nat → Nat) (σ : MS) (s : Nat) (p : Nat) (zs : Nat) (hO : Ok (co σ)) (hs : s < 4) (hp : p < 5) (hzs : zs ≤ 40) (ezs : σ.1 41 s = nI zs) : MC KT (dC, dI) vwCl (tysF ct) l yX8_firstOther cX8_firstOther 5 (some .int) rmX8_firstOther [.ref (ad 43), .int (nI s), .int (nI p)] (RM ct ad σ) (QI_ (dC, dI) vwCl (RM ct ad) (fun (r : Int32) (σ' : MS) => (s_fo (co σ) s p) = r ∧ co σ' = co σ ∧ ag jfr σ σ')) := by
  refine MC.ofI (own := RX8) pl_X8 rfl (Nat.le_of_ble_eq_true rfl) ?_
  intro pp ee ss mm aa bb hh cc AA QQ G hT hnm RET
  refine v_loc (L' := [(0, .ref (ad 43)), (1, .int (nI s)), (2, .int (nI p))]) rfl ?_
  have ezs2 : n_ (co σ 41 s) = zs := by rw [cq41, ezs]; exact nI_clamp (by omega)
  refine v_aload_n G 0 dX8_firstOther_0 rfl ?_
  refine w_callVv G hK hT (kX8_laysAside hK l dC dI ct ad σ) (ck_X8_378 G.2.2.2.2.1 ⟨Nat.le_of_ble_eq_true rfl, Nat.le_of_ble_eq_true rfl⟩) m_recv (fun _ h => h) rfl [] rfl (Nat.le_of_ble_eq_true rfl) dX8_firstOther_1 ⟨Nat.le_of_ble_eq_true rfl, Nat.le_of_ble_eq_true rfl⟩ (k1 := 0) (n1 := 0) rfl rfl ?_
  rintro σ1 ⟨h1_w, h1_a⟩
  refine v_iconst (v := (-1)) G dX8_firstOther_4 rfl ?_
  refine v_istore_n (L' := [(3, .int (-1)), (0, .ref (ad 43)), (1, .int (nI s)), (2, .int (nI p))]) G dX8_firstOther_5 (by decide) rfl ?_
  refine v_iconst (v := 0) G dX8_firstOther_6 rfl ?_
  refine v_istore (L' := [(4, .int 0), (3, .int (-1)), (0, .ref (ad 43)), (1, .int (nI s)), (2, .int (nI p))]) G dX8_firstOther_7 (by decide) rfl ?_
  have loop9 : ∀ (dd : Nat) (q : Nat) (τ : MS) (fst : Int32), (q ≤ zs) → (co τ = s_iter (co σ) q) → (aside (co σ) (τ.1 27)) → (ag jfr σ τ) → ((fst = -1 ∧ s_foN (co σ) s p (zs - q) q = s_fo (co σ) s p) ∨ (¬ fst = -1 ∧ fst = s_fo (co σ) s p)) → zs - q < dd → V_ pp l ee rmX8_firstOther ss mm aa bb hh cc 5 (dC, dI) vwCl AA QQ 0 0 (RM ct ad τ) 9 [(4, .int (nI q)), (3, .int fst), (2, .int (nI p)), (1, .int (nI s)), (0, .ref (ad 43))] [] := by
    intro dd
    induction dd with
    | zero => intro q τ fst hq hc hw27 ha hf hdd; exact absurd hdd (Nat.not_lt_zero _)
    | succ dd ih9 =>
      intro q τ fst hq hc hw27 ha hf hdd
      refine v_iload G 0 dX8_firstOther_9 rfl ?_
      refine v_aload_n G 4 dX8_firstOther_11 rfl ?_
      refine m_get (v := .ref (ad 41)) G 41 (by decide) rfl q1335 rfl dX8_firstOther_12 ?_
      refine v_iload_n G 3 dX8_firstOther_15 rfl ?_
      refine m_iald G 41 rfl (s) rfl (show s < 4 by first | omega | assumption | decide) dX8_firstOther_16 ?_
      refine v_topr (congrArg Value.int (show τ.1 41 s = σ.1 41 s from (show τ.1 41 s = σ.1 41 s from ag_at ha (by decide)))) ?_
      refine v_icmp_ge (tgt := 62) G dX8_firstOther_17 (by decide) (fun h17 => ?_) (fun h17 => ?_)
      · have n17 := (cmp_le (x := σ.1 41 s) (y := nI q) (a := zs) (b := q) ezs rfl (by omega) (by omega)).mp h17
        refine v_aload_n G 4 dX8_firstOther_62 rfl ?_
        refine w_callVv G hK hT (kX8_laysBack hK l dC dI ct ad τ (co σ) hw27 (by rw [hc]; exact near_iter hO.1 q)) (ck_X8_381 G.2.2.2.2.1 ⟨Nat.le_of_ble_eq_true rfl, Nat.le_of_ble_eq_true rfl⟩) m_recv (fun _ h => h) rfl [] rfl (Nat.le_of_ble_eq_true rfl) dX8_firstOther_63 ⟨Nat.le_of_ble_eq_true rfl, Nat.le_of_ble_eq_true rfl⟩ (k1 := 0) (n1 := 0) rfl rfl ?_
        rintro σ63 ⟨h63_c, h63_a⟩
        refine v_iload_n G 1 dX8_firstOther_66 rfl ?_
        refine RET _ _ _ _ _ _ rfl (Nat.le_of_ble_eq_true rfl) (Nat.le_of_ble_eq_true rfl) dX8_firstOther_67 (fun ws hws => ⟨_, hws, ?_⟩)
        clear RET G hT hnm
        refine ⟨?_, h63_c, ag_tr ha (ag_mono h63_a (by decide))⟩
        rcases hf with ⟨h1, h2⟩ | ⟨h1, h2⟩
        · first
            | exact absurd h1 h22
            | (rw [← h2, h1, show zs - q = 0 by omega]; rfl)
        · exact h2.symm
      · have n17 := (not_congr (cmp_le (x := σ.1 41 s) (y := nI q) (a := zs) (b := q) ezs rfl (by omega) (by omega))).mp h17
        refine v_iload_n G 1 dX8_firstOther_20 rfl ?_
        refine v_iconst (v := (-1)) G dX8_firstOther_21 rfl ?_
        refine v_icmp_ne (tgt := 62) G dX8_firstOther_22 (by decide) (fun h22 => ?_) (fun h22 => ?_)
        · refine v_aload_n G 4 dX8_firstOther_62 rfl ?_
          refine w_callVv G hK hT (kX8_laysBack hK l dC dI ct ad τ (co σ) hw27 (by rw [hc]; exact near_iter hO.1 q)) (ck_X8_381 G.2.2.2.2.1 ⟨Nat.le_of_ble_eq_true rfl, Nat.le_of_ble_eq_true rfl⟩) m_recv (fun _ h => h) rfl [] rfl (Nat.le_of_ble_eq_true rfl) dX8_firstOther_63 ⟨Nat.le_of_ble_eq_true rfl, Nat.le_of_ble_eq_true rfl⟩ (k1 := 0) (n1 := 0) rfl rfl ?_
          rintro σ63 ⟨h63_c, h63_a⟩
          refine v_iload_n G 1 dX8_firstOther_66 rfl ?_
          refine RET _ _ _ _ _ _ rfl (Nat.le_of_ble_eq_true rfl) (Nat.le_of_ble_eq_true rfl) dX8_firstOther_67 (fun ws hws => ⟨_, hws, ?_⟩)
          clear RET G hT hnm
          refine ⟨?_, h63_c, ag_tr ha (ag_mono h63_a (by decide))⟩
          rcases hf with ⟨h1, h2⟩ | ⟨h1, h2⟩
          · first
              | exact absurd h1 h22
              | (rw [← h2, h1, show zs - q = 0 by omega]; rfl)
          · exact h2.symm
        · refine v_aload_n G 4 dX8_firstOther_25 rfl ?_
          refine w_callVv G hK hT (kX8_passes hK l dC dI ct ad τ (by rw [hc]; exact (ok_iter hO))) (ck_X8_368 G.2.2.2.2.1 ⟨Nat.le_of_ble_eq_true rfl, Nat.le_of_ble_eq_true rfl⟩) m_recv (fun _ h => h) rfl [] rfl (Nat.le_of_ble_eq_true rfl) dX8_firstOther_26 ⟨Nat.le_of_ble_eq_true rfl, Nat.le_of_ble_eq_true rfl⟩ (k1 := 0) (n1 := 0) rfl rfl ?_
          rintro σ26 ⟨h26_c, h26_a⟩
          refine v_aload_n G 4 dX8_firstOther_29 rfl ?_
          refine v_iload_n G 2 dX8_firstOther_30 rfl ?_
          refine w_callVi G hK hT (kX8_atOf hK l dC dI ct ad σ26 p (by first | assumption | omega)) (ck_X8_351 G.2.2.2.2.1 ⟨Nat.le_of_ble_eq_true rfl, Nat.le_of_ble_eq_true rfl⟩) m_recv (fun _ h => h) rfl [] rfl (Nat.le_of_ble_eq_true rfl) dX8_firstOther_31 ⟨Nat.le_of_ble_eq_true rfl, Nat.le_of_ble_eq_true rfl⟩ (k1 := 0) (n1 := 0) rfl rfl ?_
          rintro r31 σ31 ⟨rfl, rfl⟩
          refine v_topr (congrArg Value.int (show σ26.1 10 (5 * p + 1) = (s_pass (s_iter (co σ) q) o0) 10 (5 * p + 1) from (by first | rfl | exact congrFun (congrFun (h26_c.trans (by rw [hc])) 10) (5 * p + 1)))) ?_
          refine v_aload_n G 4 dX8_firstOther_34 rfl ?_
          refine m_get (v := .ref (ad 42)) G 42 (by decide) rfl q1336 rfl dX8_firstOther_35 ?_
          refine v_bipush (v := 40) G dX8_firstOther_38 rfl ?_
          refine v_iload_n G 3 dX8_firstOther_40 rfl ?_
          refine v_imul G dX8_firstOther_41 ?_
          refine v_iload G 0 dX8_firstOther_42 rfl ?_
          refine v_iadd G dX8_firstOther_44 ?_
          refine m_iald G 42 rfl ((40 * s) + q) (ix_add (ix_mul (ix_lit 40 rfl) rfl) rfl) (show (40 * s) + q < 160 by first | omega | assumption | decide) dX8_firstOther_45 ?_
          refine v_topr (congrArg Value.int (show σ26.1 42 ((40 * s) + q) = σ.1 42 ((40 * s) + q) from ((show σ26.1 42 ((40 * s) + q) = τ.1 42 ((40 * s) + q) from ag_at h26_a (by decide)).trans (show τ.1 42 ((40 * s) + q) = σ.1 42 ((40 * s) + q) from ag_at ha (by decide))))) ?_
          refine v_icmp_ne (tgt := 53) G dX8_firstOther_46 (by decide) (fun h46 => ?_) (fun h46 => ?_)
          · have hf2 : (nI q = -1 ∧ s_foN (co σ) s p (zs - (q + 1)) (q + 1) = s_fo (co σ) s p) ∨ (¬ nI q = -1 ∧ nI q = s_fo (co σ) s p) := by
              have hf1 : s_foN (co σ) s p (zs - q) q = s_fo (co σ) s p := by rcases hf with h | h; exact h.2; exact absurd h22 h.1
              rw [show zs - q = (zs - (q + 1)) + 1 by omega, s_foN, if_neg (by exact h46)] at hf1
              exact Or.inr ⟨nI_nm1 (by omega), hf1⟩
            refine v_iload G 0 dX8_firstOther_53 rfl ?_
            refine v_istore_n (L' := [(3, .int (nI q)), (4, .int (nI q)), (2, .int (nI p)), (1, .int (nI s)), (0, .ref (ad 43))]) G dX8_firstOther_55 (by decide) rfl ?_
            refine v_iinc (v := nI (q + 1)) (L' := [(4, .int (nI (q + 1))), (3, .int (nI q)), (2, .int (nI p)), (1, .int (nI s)), (0, .ref (ad 43))]) G 1 dX8_firstOther_56 rfl (ix_add rfl (ix_lit 1 rfl)) (by decide) rfl ?_
            refine v_goto (tgt := 9) G dX8_firstOther_59 (by decide) ?_
            refine V_.sub (L' := [(4, .int (nI (q + 1))), (3, .int (nI q)), (2, .int (nI p)), (1, .int (nI s)), (0, .ref (ad 43))]) ?_ [0, 1, 2, 3, 4] rfl
            exact ih9  (q + 1) σ26 (nI q) (by omega) (show co σ26 = (s_pass (s_iter (co σ) q) o0) from (h26_c.trans (by rw [hc]))) (by rw [h26_a 27 (by decide)]; exact hw27) (ag_tr ha (ag_mono h26_a (by decide))) hf2 (by omega)
          · have hf2 : ((-1 : Int32) = -1 ∧ s_foN (co σ) s p (zs - (q + 1)) (q + 1) = s_fo (co σ) s p) ∨ (¬ (-1 : Int32) = -1 ∧ (-1 : Int32) = s_fo (co σ) s p) := by
              have hf1 : s_foN (co σ) s p (zs - q) q = s_fo (co σ) s p := by rcases hf with h | h; exact h.2; exact absurd h22 h.1
              rw [show zs - q = (zs - (q + 1)) + 1 by omega, s_foN, if_pos (by exact h46)] at hf1
              exact Or.inl ⟨rfl, hf1⟩
            refine v_iconst (v := (-1)) G dX8_firstOther_49 rfl ?_
            refine v_goto (tgt := 55) G dX8_firstOther_50 (by decide) ?_
            refine v_istore_n (L' := [(3, .int (-1)), (4, .int (nI q)), (2, .int (nI p)), (1, .int (nI s)), (0, .ref (ad 43))]) G dX8_firstOther_55 (by decide) rfl ?_
            refine v_iinc (v := nI (q + 1)) (L' := [(4, .int (nI (q + 1))), (3, .int (-1)), (2, .int (nI p)), (1, .int (nI s)), (0, .ref (ad 43))]) G 1 dX8_firstOther_56 rfl (ix_add rfl (ix_lit 1 rfl)) (by decide) rfl ?_
            refine v_goto (tgt := 9) G dX8_firstOther_59 (by decide) ?_
            refine V_.sub (L' := [(4, .int (nI (q + 1))), (3, .int (-1)), (2, .int (nI p)), (1, .int (nI s)), (0, .ref (ad 43))]) ?_ [0, 1, 2, 3, 4] rfl
            exact ih9  (q + 1) σ26 (-1) (by omega) (show co σ26 = (s_pass (s_iter (co σ) q) o0) from (h26_c.trans (by rw [hc]))) (by rw [h26_a 27 (by decide)]; exact hw27) (ag_tr ha (ag_mono h26_a (by decide))) hf2 (by omega)
  refine V_.sub (L' := [(4, .int 0), (3, .int (-1)), (2, .int (nI p)), (1, .int (nI s)), (0, .ref (ad 43))]) ?_ [0, 1, 4, 3, 2] rfl
  refine v_loc (L' := [(4, .int (nI 0)), (3, .int (-1)), (2, .int (nI p)), (1, .int (nI s)), (0, .ref (ad 43))]) (rfl) ?_
  exact loop9 _ 0 σ1 (-1) (by omega) (show co σ1 = co σ from (ag_co h1_a (by decide))) h1_w (ag_mono h1_a (by decide)) (Or.inl ⟨rfl, by rw [s_fo, ezs2]; rfl⟩) (Nat.lt_succ_self _)
abbrev rmX8_likeSet : Room := { frames := 47, cells := 0, slots := 0, locals := 1050 }
set_option maxHeartbeats 1000000 in
theorem kX8_likeSet {KT : (Nat → Prop) → State → Heap → Prop} (hK : KTok KT) (l : Launch) (dC : Nat → ClassId) (dI : Nat → Nat → Nat) (ct ad : Nat → Nat) (σ : MS) (s : Nat) (zs : Nat) (hO : Ok (co σ)) (hs : s < 4) (hzs : zs ≤ 40) (ezs : σ.1 41 s = nI zs) : MC KT (dC, dI) vwCl (tysF ct) l yX8_likeSet cX8_likeSet 4 (some .int) rmX8_likeSet [.ref (ad 43), .int (nI s)] (RM ct ad σ) (QI_ (dC, dI) vwCl (RM ct ad) (fun (r : Int32) (σ' : MS) => (s_ls (co σ) s (s_many (co σ))) = r ∧ co σ' = co σ ∧ ag jfr σ σ')) := by
  refine MC.ofI (own := RX8) pl_X8 rfl (Nat.le_of_ble_eq_true rfl) ?_
  intro pp ee ss mm aa bb hh cc AA QQ G hT hnm RET
  refine v_loc (L' := [(0, .ref (ad 43)), (1, .int (nI s))]) rfl ?_
  obtain ⟨hm5, hm⟩ := many5 hO.1
  have hm : σ.1 11 0 = nI (s_many (co σ)) := hm
  refine v_iconst (v := 0) G dX8_likeSet_0 rfl ?_
  refine v_istore_n (L' := [(2, .int 0), (0, .ref (ad 43)), (1, .int (nI s))]) G dX8_likeSet_1 (by decide) rfl ?_
  refine v_iconst (v := 0) G dX8_likeSet_2 rfl ?_
  refine v_istore_n (L' := [(3, .int 0), (2, .int 0), (0, .ref (ad 43)), (1, .int (nI s))]) G dX8_likeSet_3 (by decide) rfl ?_
  have loop4 : ∀ (dd : Nat) (q : Nat) (τ : MS), (q ≤ s_many (co σ)) → (co τ = co σ) → (ag jfr σ τ) → s_many (co σ) - q < dd → V_ pp l ee rmX8_likeSet ss mm aa bb hh cc 4 (dC, dI) vwCl AA QQ 0 0 (RM ct ad τ) 4 [(3, .int (nI q)), (2, .int (s_ls (co σ) s q)), (1, .int (nI s)), (0, .ref (ad 43))] [] := by
    intro dd
    induction dd with
    | zero => intro q τ hq hc ha hdd; exact absurd hdd (Nat.not_lt_zero _)
    | succ dd ih4 =>
      intro q τ hq hc ha hdd
      refine v_iload_n G 0 dX8_likeSet_4 rfl ?_
      refine v_aload_n G 3 dX8_likeSet_5 rfl ?_
      refine m_get (v := .int (τ.1 11 0)) G 11 (by decide) rfl q1305 rfl dX8_likeSet_6 ?_
      refine v_topr (congrArg Value.int (show τ.1 11 0 = σ.1 11 0 from (show τ.1 11 0 = σ.1 11 0 from ag_at ha (by decide)))) ?_
      refine v_icmp_ge (tgt := 38) G dX8_likeSet_9 (by decide) (fun h9 => ?_) (fun h9 => ?_)
      · have n9 := (cmp_le (x := σ.1 11 0) (y := nI q) (a := s_many (co σ)) (b := q) hm rfl (by omega) (by omega)).mp h9
        refine v_iload_n G 1 dX8_likeSet_38 rfl ?_
        refine RET _ _ _ _ _ _ rfl (Nat.le_of_ble_eq_true rfl) (Nat.le_of_ble_eq_true rfl) dX8_likeSet_39 (fun ws hws => ⟨_, hws, ?_⟩)
        clear RET G hT hnm
        exact ⟨by rw [show q = s_many (co σ) by omega], hc, ha⟩
      · have n9 := (not_congr (cmp_le (x := σ.1 11 0) (y := nI q) (a := s_many (co σ)) (b := q) hm rfl (by omega) (by omega))).mp h9
        refine v_iload_n G 1 dX8_likeSet_12 rfl ?_
        refine v_aload_n G 3 dX8_likeSet_13 rfl ?_
        refine v_iload_n G 2 dX8_likeSet_14 rfl ?_
        refine v_iload_n G 0 dX8_likeSet_15 rfl ?_
        refine w_callVi G hK hT (kX8_firstOther hK l dC dI ct ad τ s q zs (by rw [hc]; exact hO) (by first | assumption | omega) (by omega) (by first | assumption | omega) (by rw [show τ.1 41 s = co τ 41 s from rfl, hc]; exact ezs)) (ck_X8_407 G.2.2.2.2.1 ⟨Nat.le_of_ble_eq_true rfl, Nat.le_of_ble_eq_true rfl⟩) m_recv (fun _ h => h) rfl [.int (s_ls (co σ) s q)] rfl (Nat.le_of_ble_eq_true rfl) dX8_likeSet_16 ⟨Nat.le_of_ble_eq_true rfl, Nat.le_of_ble_eq_true rfl⟩ (k1 := 0) (n1 := 0) rfl rfl ?_
        rintro r16 σ16 ⟨rfl, h16_c, h16_a⟩
        refine v_topr (congrArg Value.int (show s_fo (co τ) s q = s_fo (co σ) s q from by rw [hc])) ?_
        refine v_iconst (v := (-1)) G dX8_likeSet_19 rfl ?_
        refine v_icmp_ne (tgt := 27) G dX8_likeSet_20 (by decide) (fun h20 => ?_) (fun h20 => ?_)
        · refine v_iconst (v := 0) G dX8_likeSet_27 rfl ?_
          refine v_iload_n G 0 dX8_likeSet_28 rfl ?_
          refine v_ishl G dX8_likeSet_29 ?_
          refine v_ior G dX8_likeSet_30 ?_
          refine v_istore_n (L' := [(2, .int ((s_ls (co σ) s q) ||| (0 <<< ((nI q) &&& 31)))), (3, .int (nI q)), (1, .int (nI s)), (0, .ref (ad 43))]) G dX8_likeSet_31 (by decide) rfl ?_
          refine v_iinc (v := nI (q + 1)) (L' := [(3, .int (nI (q + 1))), (2, .int ((s_ls (co σ) s q) ||| (0 <<< ((nI q) &&& 31)))), (1, .int (nI s)), (0, .ref (ad 43))]) G 1 dX8_likeSet_32 rfl (ix_add rfl (ix_lit 1 rfl)) (by decide) rfl ?_
          refine v_goto (tgt := 4) G dX8_likeSet_35 (by decide) ?_
          refine V_.sub (L' := [(3, .int (nI (q + 1))), (2, .int ((s_ls (co σ) s q) ||| (0 <<< ((nI q) &&& 31)))), (1, .int (nI s)), (0, .ref (ad 43))]) ?_ [0, 1, 2, 3] rfl
          refine v_loc (L' := [(3, .int (nI (q + 1))), (2, .int (s_ls (co σ) s (q + 1))), (1, .int (nI s)), (0, .ref (ad 43))]) (by rw [s_ls]; first | rw [if_pos (by exact h20)] | rw [if_neg (by exact h20)]) ?_
          exact ih4  (q + 1) σ16 (by omega) (show co σ16 = (co σ) from (h16_c.trans hc)) (ag_tr ha (ag_mono h16_a (by decide))) (by omega)
        · refine v_iconst (v := 1) G dX8_likeSet_23 rfl ?_
          refine v_goto (tgt := 28) G dX8_likeSet_24 (by decide) ?_
          refine v_iload_n G 0 dX8_likeSet_28 rfl ?_
          refine v_ishl G dX8_likeSet_29 ?_
          refine v_ior G dX8_likeSet_30 ?_
          refine v_istore_n (L' := [(2, .int ((s_ls (co σ) s q) ||| (1 <<< ((nI q) &&& 31)))), (3, .int (nI q)), (1, .int (nI s)), (0, .ref (ad 43))]) G dX8_likeSet_31 (by decide) rfl ?_
          refine v_iinc (v := nI (q + 1)) (L' := [(3, .int (nI (q + 1))), (2, .int ((s_ls (co σ) s q) ||| (1 <<< ((nI q) &&& 31)))), (1, .int (nI s)), (0, .ref (ad 43))]) G 1 dX8_likeSet_32 rfl (ix_add rfl (ix_lit 1 rfl)) (by decide) rfl ?_
          refine v_goto (tgt := 4) G dX8_likeSet_35 (by decide) ?_
          refine V_.sub (L' := [(3, .int (nI (q + 1))), (2, .int ((s_ls (co σ) s q) ||| (1 <<< ((nI q) &&& 31)))), (1, .int (nI s)), (0, .ref (ad 43))]) ?_ [0, 1, 2, 3] rfl
          refine v_loc (L' := [(3, .int (nI (q + 1))), (2, .int (s_ls (co σ) s (q + 1))), (1, .int (nI s)), (0, .ref (ad 43))]) (by rw [s_ls]; first | rw [if_pos (by exact h20)] | rw [if_neg (by exact h20)]) ?_
          exact ih4  (q + 1) σ16 (by omega) (show co σ16 = (co σ) from (h16_c.trans hc)) (ag_tr ha (ag_mono h16_a (by decide))) (by omega)
  refine V_.sub (L' := [(3, .int 0), (2, .int 0), (1, .int (nI s)), (0, .ref (ad 43))]) ?_ [0, 1, 3, 2] rfl
  refine v_loc (L' := [(3, .int (nI 0)), (2, .int (s_ls (co σ) s 0)), (1, .int (nI s)), (0, .ref (ad 43))]) (rfl) ?_
  exact loop4 _ 0 σ (by omega) rfl ag_rf (Nat.lt_succ_self _)
