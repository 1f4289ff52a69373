set_option maxRecDepth 100000
abbrev rmX0_best : Room := { frames := 405, cells := 0, slots := 0, locals := 17072 }
set_option maxHeartbeats 1000000 in
theorem kX0_best {KT : (Nat → Prop) → State → Heap → Prop} (hK : KTx KT) (l : Launch) (dC : Nat → ClassId) (dI : Nat → Nat → Nat) (ct ad : Nat → Nat) (F : List (Nat × va_E)) (σ : MS) (x : Int32) (what : Int32) (hO : Ok (co σ)) : MC KT (dC, dI) vwCl (tysF ct) l yX0_best cX0_best 3 (some .int) rmX0_best [.ref (ad 0), .int x, .int what] (RX ct ad F σ) (QI_ (dC, dI) vwCl (RX ct ad F) (fun (r : Int32) (σ' : MS) => (s_best (co σ) x what) = r ∧ co σ' = co σ)) := by
  refine MC.ofI (own := RX0) pl_X0 rfl (Nat.le_of_ble_eq_true rfl) ?_
  intro pp ee ss mm aa bb hh cc AA QQ G hT hnm RET
  refine v_loc (L' := [(0, .ref (ad 0)), (1, .int x), (2, .int what)]) rfl ?_
  obtain ⟨hm5, hm⟩ := many5 hO.1
  have hm : σ.1 11 0 = nI (s_many (co σ)) := hm
  refine v_aload_n G 0 dX0_best_0 rfl ?_
  refine v_iload_n G 1 dX0_best_1 rfl ?_
  refine w_callVi G hK.1 hT (kX0_isOne hK.1 l dC dI ct ad F σ (s_many (co σ)) x hm5 hm) (ck_X0_64 G.2.2.2.2.1 ⟨Nat.le_of_ble_eq_true rfl, Nat.le_of_ble_eq_true rfl⟩) x_recv (fun _ h => h) rfl [] rfl (Nat.le_of_ble_eq_true rfl) dX0_best_2 ⟨Nat.le_of_ble_eq_true rfl, Nat.le_of_ble_eq_true rfl⟩ (k1 := 0) (n1 := 0) rfl rfl ?_
  rintro r2 σ2 (⟨rfl, rfl, h2_h⟩ | ⟨rfl, rfl, h2_h⟩)
  · refine v_if_eq (tgt := 20) G dX0_best_5 (by decide) (fun h5 => absurd h5 (by decide)) (fun h5 => ?_)
    refine v_iload_n G 2 dX0_best_8 rfl ?_
    refine v_i2l (v := what.toInt64) G dX0_best_9 rfl ?_
    refine v_lconst (v := 0) G dX0_best_10 rfl ?_
    refine v_ldc2 G q958 dX0_best_11 ?_
    refine w_callSi G hK.1 hT (kX0_in hK.1 l dC dI ct ad F σ what.toInt64 0 2) (ck_X0_14 G.2.2.2.2.1 ⟨Nat.le_of_ble_eq_true rfl, Nat.le_of_ble_eq_true rfl⟩) (fun _ h => h) rfl [] rfl (Nat.le_of_ble_eq_true rfl) dX0_best_14 ⟨Nat.le_of_ble_eq_true rfl, Nat.le_of_ble_eq_true rfl⟩ (k1 := 0) (n1 := 0) rfl rfl ?_
    rintro r14 σ14 (⟨rfl, rfl, h14_h⟩ | ⟨rfl, rfl, h14_h⟩)
    · have g14 := (in_rg (c := what) (lo := 0) (hi := 2) (a := 0) (z := 2) (by decide) (by decide)).mp h14_h
      refine v_if_ne (tgt := 24) G dX0_best_17 (by decide) (fun h17 => ?_) (fun h17 => absurd h17 (by decide))
      obtain ⟨p, hpm, ep⟩ := rg_lt h2_h (by omega)
      refine v_iload_n G 2 dX0_best_24 rfl ?_
      refine v_iconst (v := 2) G dX0_best_25 rfl ?_
      refine v_icmp_ne (tgt := 36) G dX0_best_26 (by decide) (fun h26 => ?_) (fun h26 => ?_)
      · refine v_aload_n G 0 dX0_best_36 rfl ?_
        refine v_iload_n G 1 dX0_best_37 rfl ?_
        refine v_iload_n G 2 dX0_best_38 rfl ?_
        refine v_if_ne (tgt := 46) G dX0_best_39 (by decide) (fun h39 => ?_) (fun h39 => ?_)
        · refine v_iconst (v := 0) G dX0_best_46 rfl ?_
          refine v_stk (st' := [.int 0, .int (nI p), .ref (ad 0)]) (by first | rfl | (have e0 : x = nI p := ep ; simp only [e0])) ?_
          refine w_callVi G hK.1 hT (kX0_bestSpoon hK l dC dI ct ad F σ p 0 hO (by omega)) (ck_X0_453 G.2.2.2.2.1 ⟨Nat.le_of_ble_eq_true rfl, Nat.le_of_ble_eq_true rfl⟩) x_recv (fun _ h => h) rfl [] rfl (Nat.le_of_ble_eq_true rfl) dX0_best_47 ⟨Nat.le_of_ble_eq_true rfl, Nat.le_of_ble_eq_true rfl⟩ (k1 := 0) (n1 := 0) rfl rfl ?_
          rintro r47 σ47 ⟨rfl, h47_a⟩
          refine RET _ _ _ _ _ _ rfl (Nat.le_of_ble_eq_true rfl) (Nat.le_of_ble_eq_true rfl) dX0_best_50 (fun ws hws => ⟨_, hws, ?_⟩)
          clear RET G hT hnm
          have epn : n_ x = p := by rw [ep]; exact nI_clamp (by omega)
          refine ⟨?_, ag_co h47_a (by decide)⟩
          rw [s_best, if_pos ⟨h2_h, g14⟩, if_neg h26, epn]
          first
            | (rw [if_pos h39]; rfl)
            | (rw [if_neg h39]; rfl)
        · refine v_iconst (v := 1) G dX0_best_42 rfl ?_
          refine v_goto (tgt := 47) G dX0_best_43 (by decide) ?_
          refine v_stk (st' := [.int 1, .int (nI p), .ref (ad 0)]) (by first | rfl | (have e0 : x = nI p := ep ; simp only [e0])) ?_
          refine w_callVi G hK.1 hT (kX0_bestSpoon hK l dC dI ct ad F σ p 1 hO (by omega)) (ck_X0_453 G.2.2.2.2.1 ⟨Nat.le_of_ble_eq_true rfl, Nat.le_of_ble_eq_true rfl⟩) x_recv (fun _ h => h) rfl [] rfl (Nat.le_of_ble_eq_true rfl) dX0_best_47 ⟨Nat.le_of_ble_eq_true rfl, Nat.le_of_ble_eq_true rfl⟩ (k1 := 0) (n1 := 0) rfl rfl ?_
          rintro r47 σ47 ⟨rfl, h47_a⟩
          refine RET _ _ _ _ _ _ rfl (Nat.le_of_ble_eq_true rfl) (Nat.le_of_ble_eq_true rfl) dX0_best_50 (fun ws hws => ⟨_, hws, ?_⟩)
          clear RET G hT hnm
          have epn : n_ x = p := by rw [ep]; exact nI_clamp (by omega)
          refine ⟨?_, ag_co h47_a (by decide)⟩
          rw [s_best, if_pos ⟨h2_h, g14⟩, if_neg h26, epn]
          first
            | (rw [if_pos h39]; rfl)
            | (rw [if_neg h39]; rfl)
      · refine v_aload_n G 0 dX0_best_29 rfl ?_
        refine w_callVi G hK.1 hT (kX0_shelf hK.1 l dC dI ct ad F σ) (ck_X0_450 G.2.2.2.2.1 ⟨Nat.le_of_ble_eq_true rfl, Nat.le_of_ble_eq_true rfl⟩) x_recv (fun _ h => h) rfl [] rfl (Nat.le_of_ble_eq_true rfl) dX0_best_30 ⟨Nat.le_of_ble_eq_true rfl, Nat.le_of_ble_eq_true rfl⟩ (k1 := 0) (n1 := 0) rfl rfl ?_
        rintro r30 σ30 ⟨rfl, rfl⟩
        refine v_goto (tgt := 50) G dX0_best_33 (by decide) ?_
        refine RET _ _ _ _ _ _ rfl (Nat.le_of_ble_eq_true rfl) (Nat.le_of_ble_eq_true rfl) dX0_best_50 (fun ws hws => ⟨_, hws, ?_⟩)
        clear RET G hT hnm
        exact ⟨by rw [s_best, if_pos ⟨h2_h, g14⟩, if_pos h26], rfl⟩
    · have g14 : ¬ rg what 0 2 := fun zz => h14_h ((in_rg (c := what) (lo := 0) (hi := 2) (a := 0) (z := 2) (by decide) (by decide)).mpr zz)
      refine v_if_ne (tgt := 24) G dX0_best_17 (by decide) (fun h17 => absurd h17 (by decide)) (fun h17 => ?_)
      refine v_sipush (v := (-1000)) G dX0_best_20 rfl ?_
      refine RET _ _ _ _ _ _ rfl (Nat.le_of_ble_eq_true rfl) (Nat.le_of_ble_eq_true rfl) dX0_best_23 (fun ws hws => ⟨_, hws, ?_⟩)
      clear RET G hT hnm
      exact ⟨by rw [s_best, if_neg (fun q => by first | exact h2_h q.1 | exact g14 q.2)], rfl⟩
  · refine v_if_eq (tgt := 20) G dX0_best_5 (by decide) (fun h5 => ?_) (fun h5 => absurd h5 (by decide))
    refine v_sipush (v := (-1000)) G dX0_best_20 rfl ?_
    refine RET _ _ _ _ _ _ rfl (Nat.le_of_ble_eq_true rfl) (Nat.le_of_ble_eq_true rfl) dX0_best_23 (fun ws hws => ⟨_, hws, ?_⟩)
    clear RET G hT hnm
    exact ⟨by rw [s_best, if_neg (fun q => by first | exact h2_h q.1 | exact g14 q.2)], rfl⟩
