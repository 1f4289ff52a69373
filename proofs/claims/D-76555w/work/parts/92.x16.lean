set_option maxRecDepth 100000
abbrev rmX0_count : Room := { frames := 1, cells := 0, slots := 0, locals := 24 }
set_option maxHeartbeats 1000000 in
theorem kX0_count {KT : (Nat → Prop) → State → Heap → Prop} (hK : KTok KT) (l : Launch) (dC : Nat → ClassId) (dI : Nat → Nat → Nat) (ct ad : Nat → Nat) (F : List (Nat × va_E)) (σ : MS) (w : Int32) (hO : Ok (co σ)) : MC KT (dC, dI) vwCl (tysF ct) l yX0_count cX0_count 2 (some .int) rmX0_count [.ref (ad 0), .int w] (RX ct ad F σ) (QI_ (dC, dI) vwCl (RX ct ad F) (fun (r : Int32) (σ' : MS) => (s_count (co σ) w) = r ∧ σ = σ')) := by
  refine MC.ofI (own := RX0) pl_X0 rfl (Nat.le_of_ble_eq_true rfl) ?_
  intro pp ee ss mm aa bb hh cc AA QQ G hT hnm RET
  refine v_loc (L' := [(0, .ref (ad 0)), (1, .int w)]) rfl ?_
  refine v_iload_n G 1 dX0_count_0 rfl ?_
  by_cases g6 : rg w 0 5
  · obtain ⟨k, hk, ek⟩ := rg_nat (n := 5) (x := w) g6 (by decide)
    subst ek
    rcases (show k = 0 ∨ k = 1 ∨ k = 2 ∨ k = 3 ∨ k = 4 ∨ k = 5 by omega) with rfl | rfl | rfl | rfl | rfl | rfl
    · refine v_topr (x2 := .int 0) (congrArg Value.int (show nI 0 = 0 from rfl)) ?_
      refine v_tableIn (tgt := 40) G dX0_count_1 (by decide) (by decide) rfl (by decide) ?_
      refine v_aload_n G 0 dX0_count_40 rfl ?_
      refine x_get (v := .int (σ.1 11 0)) G 1 (by decide) rfl q788 rfl dX0_count_41 ?_
      refine RET _ _ _ _ _ _ rfl (Nat.le_of_ble_eq_true rfl) (Nat.le_of_ble_eq_true rfl) dX0_count_44 (fun ws hws => ⟨_, hws, ?_⟩)
      clear RET G hT hnm
      exact ⟨by rw [s_count, if_pos g6]; show (if nI 0 = 0 then _ else _) = _; first | rfl | (rw [if_pos (by decide)] <;> rfl), rfl⟩
    · refine v_topr (x2 := .int 1) (congrArg Value.int (show nI 1 = 1 from rfl)) ?_
      refine v_tableIn (tgt := 45) G dX0_count_1 (by decide) (by decide) rfl (by decide) ?_
      refine v_aload_n G 0 dX0_count_45 rfl ?_
      refine w_callVi G hK hT (kX0_jarsAll hK l dC dI ct ad F σ) (ck_X0_382 G.2.2.2.2.1 ⟨Nat.le_of_ble_eq_true rfl, Nat.le_of_ble_eq_true rfl⟩) x_recv (fun _ h => h) rfl [] rfl (Nat.le_of_ble_eq_true rfl) dX0_count_46 ⟨Nat.le_of_ble_eq_true rfl, Nat.le_of_ble_eq_true rfl⟩ (k1 := 0) (n1 := 0) rfl rfl ?_
      rintro r46 σ46 ⟨rfl, rfl⟩
      refine RET _ _ _ _ _ _ rfl (Nat.le_of_ble_eq_true rfl) (Nat.le_of_ble_eq_true rfl) dX0_count_49 (fun ws hws => ⟨_, hws, ?_⟩)
      clear RET G hT hnm
      exact ⟨by rw [s_count, if_pos g6]; show (if nI 1 = 0 then _ else _) = _; first | rfl | (rw [if_neg (by decide), if_pos (by decide)] <;> rfl), rfl⟩
    · refine v_topr (x2 := .int 2) (congrArg Value.int (show nI 2 = 2 from rfl)) ?_
      refine v_tableIn (tgt := 50) G dX0_count_1 (by decide) (by decide) rfl (by decide) ?_
      refine v_aload_n G 0 dX0_count_50 rfl ?_
      refine x_get (v := .int (σ.1 7 0)) G 2 (by decide) rfl q790 rfl dX0_count_51 ?_
      refine RET _ _ _ _ _ _ rfl (Nat.le_of_ble_eq_true rfl) (Nat.le_of_ble_eq_true rfl) dX0_count_54 (fun ws hws => ⟨_, hws, ?_⟩)
      clear RET G hT hnm
      exact ⟨by rw [s_count, if_pos g6]; show (if nI 2 = 0 then _ else _) = _; first | rfl | (rw [if_neg (by decide), if_neg (by decide), if_pos (by decide)] <;> rfl), rfl⟩
    · refine v_topr (x2 := .int 3) (congrArg Value.int (show nI 3 = 3 from rfl)) ?_
      refine v_tableIn (tgt := 55) G dX0_count_1 (by decide) (by decide) rfl (by decide) ?_
      refine v_aload_n G 0 dX0_count_55 rfl ?_
      refine x_get (v := .int (σ.1 3 0)) G 9 (by decide) rfl q799 rfl dX0_count_56 ?_
      refine RET _ _ _ _ _ _ rfl (Nat.le_of_ble_eq_true rfl) (Nat.le_of_ble_eq_true rfl) dX0_count_59 (fun ws hws => ⟨_, hws, ?_⟩)
      clear RET G hT hnm
      exact ⟨by rw [s_count, if_pos g6]; show (if nI 3 = 0 then _ else _) = _; first | rfl | (rw [if_neg (by decide), if_neg (by decide), if_neg (by decide), if_pos (by decide)] <;> rfl), rfl⟩
    · refine v_topr (x2 := .int 4) (congrArg Value.int (show nI 4 = 4 from rfl)) ?_
      refine v_tableIn (tgt := 60) G dX0_count_1 (by decide) (by decide) rfl (by decide) ?_
      refine v_aload_n G 0 dX0_count_60 rfl ?_
      refine x_get (v := .int (σ.1 6 0)) G 13 (by decide) rfl q803 rfl dX0_count_61 ?_
      refine RET _ _ _ _ _ _ rfl (Nat.le_of_ble_eq_true rfl) (Nat.le_of_ble_eq_true rfl) dX0_count_64 (fun ws hws => ⟨_, hws, ?_⟩)
      clear RET G hT hnm
      exact ⟨by rw [s_count, if_pos g6]; show (if nI 4 = 0 then _ else _) = _; first | rfl | (rw [if_neg (by decide), if_neg (by decide), if_neg (by decide), if_neg (by decide), if_pos (by decide)] <;> rfl), rfl⟩
    · refine v_topr (x2 := .int 5) (congrArg Value.int (show nI 5 = 5 from rfl)) ?_
      refine v_tableIn (tgt := 65) G dX0_count_1 (by decide) (by decide) rfl (by decide) ?_
      refine v_aload_n G 0 dX0_count_65 rfl ?_
      refine x_get (v := .int (σ.1 4 0)) G 20 (by decide) rfl q810 rfl dX0_count_66 ?_
      refine RET _ _ _ _ _ _ rfl (Nat.le_of_ble_eq_true rfl) (Nat.le_of_ble_eq_true rfl) dX0_count_69 (fun ws hws => ⟨_, hws, ?_⟩)
      clear RET G hT hnm
      exact ⟨by rw [s_count, if_pos g6]; show (if nI 5 = 0 then _ else _) = _; first | rfl | (rw [if_neg (by decide), if_neg (by decide), if_neg (by decide), if_neg (by decide), if_neg (by decide)] <;> rfl), rfl⟩
  · refine v_tableOut (tgt := 70) G dX0_count_1 (by unfold rg at g6; omega) (by decide) ?_
    refine v_bipush (v := (-2)) G dX0_count_70 rfl ?_
    refine RET _ _ _ _ _ _ rfl (Nat.le_of_ble_eq_true rfl) (Nat.le_of_ble_eq_true rfl) dX0_count_72 (fun ws hws => ⟨_, hws, ?_⟩)
    clear RET G hT hnm
    exact ⟨by rw [s_count, if_neg g6], rfl⟩
