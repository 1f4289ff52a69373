set_option maxRecDepth 100000
abbrev rmX0_year : Room := { frames := 405, cells := 0, slots := 0, locals := 17070 }
set_option maxHeartbeats 1000000 in
theorem kX0_year {KT : (Nat → Prop) → State → Heap → Prop} (hK : KTx KT) (l : Launch) (dC : Nat → ClassId) (dI : Nat → Nat → Nat) (ct ad : Nat → Nat) (F : List (Nat × va_E)) (σ : MS)  (hO : Ok (co σ)) : MC KT (dC, dI) vwCl (tysF ct) l yX0_year cX0_year 1 (some .int) rmX0_year [.ref (ad 0)] (RX ct ad F σ) (QI_ (dC, dI) vwCl (RX ct ad F) (fun (r : Int32) (σ' : MS) => ((s_year (co σ)).1) = r ∧ co σ' = (s_year (co σ)).2)) := by
  refine MC.ofI (own := RX0) pl_X0 rfl (Nat.le_of_ble_eq_true rfl) ?_
  intro pp ee ss mm aa bb hh cc AA QQ G hT hnm RET
  refine v_loc (L' := [(0, .ref (ad 0))]) rfl ?_
  refine v_aload_n G 0 dX0_year_0 rfl ?_
  refine x_get (v := .int (σ.1 7 0)) G 2 (by decide) rfl q790 rfl dX0_year_1 ?_
  refine v_sipush (v := 999) G dX0_year_4 rfl ?_
  refine v_icmp_ne (tgt := 13) G dX0_year_7 (by decide) (fun h7 => ?_) (fun h7 => ?_)
  · refine v_aload_n G 0 dX0_year_13 rfl ?_
    refine v_iconst (v := (-1)) G dX0_year_14 rfl ?_
    refine w_callVv G hK.1 hT (kX0_passes hK l dC dI ct ad F σ (-1) o0 hO (fun q hq => by rw [if_neg (fun z => nI_nm1 (by omega) z)]; rfl)) (ck_X0_379 G.2.2.2.2.1 ⟨Nat.le_of_ble_eq_true rfl, Nat.le_of_ble_eq_true rfl⟩) x_recv (fun _ h => h) rfl [] rfl (Nat.le_of_ble_eq_true rfl) dX0_year_15 ⟨Nat.le_of_ble_eq_true rfl, Nat.le_of_ble_eq_true rfl⟩ (k1 := 0) (n1 := 0) rfl rfl ?_
    rintro σ15 ⟨h15_c, h15_a⟩
    refine v_aload_n G 0 dX0_year_18 rfl ?_
    refine w_callVi G hK.1 hT (kX0_jarsAll hK.1 l dC dI ct ad F σ15) (ck_X0_382 G.2.2.2.2.1 ⟨Nat.le_of_ble_eq_true rfl, Nat.le_of_ble_eq_true rfl⟩) x_recv (fun _ h => h) rfl [] rfl (Nat.le_of_ble_eq_true rfl) dX0_year_19 ⟨Nat.le_of_ble_eq_true rfl, Nat.le_of_ble_eq_true rfl⟩ (k1 := 0) (n1 := 0) rfl rfl ?_
    rintro r19 σ19 ⟨rfl, rfl⟩
    refine v_topr (congrArg Value.int (show s_all (co σ15) 24 = s_all (s_pass (co σ) o0) 24 from by rw [h15_c])) ?_
    refine RET _ _ _ _ _ _ rfl (Nat.le_of_ble_eq_true rfl) (Nat.le_of_ble_eq_true rfl) dX0_year_22 (fun ws hws => ⟨_, hws, ?_⟩)
    clear RET G hT hnm
    rw [show s_year (co σ) = (s_all (s_pass (co σ) o0) 24, s_pass (co σ) o0) by rw [s_year, cq7, if_neg h7]]
    exact ⟨rfl, h15_c⟩
  · refine v_bipush (v := (-3)) G dX0_year_10 rfl ?_
    refine RET _ _ _ _ _ _ rfl (Nat.le_of_ble_eq_true rfl) (Nat.le_of_ble_eq_true rfl) dX0_year_12 (fun ws hws => ⟨_, hws, ?_⟩)
    clear RET G hT hnm
    rw [show s_year (co σ) = (-3, co σ) by rw [s_year, cq7, if_pos h7]]
    exact ⟨rfl, rfl⟩
abbrev rmX0_isText : Room := { frames := 1, cells := 0, slots := 0, locals := 25 }
set_option maxHeartbeats 1000000 in
theorem kX0_isText {KT : (Nat → Prop) → State → Heap → Prop} (hK : KTx KT) (l : Launch) (dC : Nat → ClassId) (dI : Nat → Nat → Nat) (ct ad : Nat → Nat) (F : List (Nat × va_E)) (σ : MS) (z : Int32) (hO : Ok (co σ)) : MC KT (dC, dI) vwCl (tysF ct) l yX0_isText cX0_isText 2 (some .boolean) rmX0_isText [.ref (ad 0), .int z] (RX ct ad F σ) (QI_ (dC, dI) vwCl (RX ct ad F) (fun (r : Int32) (σ' : MS) => (1 = r ∧ σ = σ' ∧ rg z 0 ((n_ (co σ 3 0) : Int) - 1)) ∨ (0 = r ∧ σ = σ' ∧ ¬ rg z 0 ((n_ (co σ 3 0) : Int) - 1)))) := by
  refine MC.ofI (own := RX0) pl_X0 rfl (Nat.le_of_ble_eq_true rfl) ?_
  intro pp ee ss mm aa bb hh cc AA QQ G hT hnm RET
  refine v_loc (L' := [(0, .ref (ad 0)), (1, .int z)]) rfl ?_
  obtain ⟨m3, hm3, e3, en3⟩ := texts3 hO
  have e3 : σ.1 3 0 = nI m3 := e3
  refine v_iload_n G 1 dX0_isText_0 rfl ?_
  refine v_i2l (v := z.toInt64) G dX0_isText_1 rfl ?_
  refine v_lconst (v := 0) G dX0_isText_2 rfl ?_
  refine v_aload_n G 0 dX0_isText_3 rfl ?_
  refine x_get (v := .int (σ.1 3 0)) G 9 (by decide) rfl q799 rfl dX0_isText_4 ?_
  refine v_iconst (v := 1) G dX0_isText_7 rfl ?_
  refine v_isub G dX0_isText_8 ?_
  refine v_i2l (v := ((σ.1 3 0) - 1).toInt64) G dX0_isText_9 rfl ?_
  refine w_callSi G hK.1 hT (kX0_in hK.1 l dC dI ct ad F σ z.toInt64 0 (((σ.1 3 0) - 1).toInt64)) (ck_X0_14 G.2.2.2.2.1 ⟨Nat.le_of_ble_eq_true rfl, Nat.le_of_ble_eq_true rfl⟩) (fun _ h => h) rfl [] rfl (Nat.le_of_ble_eq_true rfl) dX0_isText_10 ⟨Nat.le_of_ble_eq_true rfl, Nat.le_of_ble_eq_true rfl⟩ (k1 := 0) (n1 := 0) rfl rfl ?_
  rintro r10 σ10 (⟨rfl, rfl, h10_h⟩ | ⟨rfl, rfl, h10_h⟩)
  · refine RET _ _ _ _ _ _ (by first | rfl | assumption) (Nat.le_of_ble_eq_true rfl) (Nat.le_of_ble_eq_true rfl) dX0_isText_13 (fun ws hws => ⟨_, hws, ?_⟩)
    clear RET G hT hnm
    have e : (σ.1 3 0 - 1).toInt64.toInt = (n_ (co σ 3 0) : Int) - 1 := by rw [i64_toInt, en3, e3]; exact nI_m1 (by omega)
    exact Or.inl ⟨rfl, rfl, (in_rg (by decide) e).mp h10_h⟩
  · refine RET _ _ _ _ _ _ (by first | rfl | assumption) (Nat.le_of_ble_eq_true rfl) (Nat.le_of_ble_eq_true rfl) dX0_isText_13 (fun ws hws => ⟨_, hws, ?_⟩)
    clear RET G hT hnm
    have e : (σ.1 3 0 - 1).toInt64.toInt = (n_ (co σ 3 0) : Int) - 1 := by rw [i64_toInt, en3, e3]; exact nI_m1 (by omega)
    exact Or.inr ⟨rfl, rfl, fun q => h10_h ((in_rg (by decide) e).mpr q)⟩
abbrev rmX0_force : Room := { frames := 2, cells := 0, slots := 0, locals := 46 }
set_option maxHeartbeats 1000000 in
theorem kX0_force {KT : (Nat → Prop) → State → Heap → Prop} (hK : KTx KT) (l : Launch) (dC : Nat → ClassId) (dI : Nat → Nat → Nat) (ct ad : Nat → Nat) (F : List (Nat × va_E)) (σ : MS) (t : Int32) (hO : Ok (co σ)) : MC KT (dC, dI) vwCl (tysF ct) l yX0_force cX0_force 3 (some .int) rmX0_force [.ref (ad 0), .int t] (RX ct ad F σ) (QI_ (dC, dI) vwCl (RX ct ad F) (fun (r : Int32) (σ' : MS) => ((s_force (co σ) t).1) = r ∧ co σ' = (s_force (co σ) t).2)) := by
  refine MC.ofI (own := RX0) pl_X0 rfl (Nat.le_of_ble_eq_true rfl) ?_
  intro pp ee ss mm aa bb hh cc AA QQ G hT hnm RET
  refine v_loc (L' := [(0, .ref (ad 0)), (1, .int t)]) rfl ?_
  refine v_aload_n G 0 dX0_force_0 rfl ?_
  refine v_iload_n G 1 dX0_force_1 rfl ?_
  refine w_callVi G hK.1 hT (kX0_isText hK l dC dI ct ad F σ t hO) (ck_X0_343 G.2.2.2.2.1 ⟨Nat.le_of_ble_eq_true rfl, Nat.le_of_ble_eq_true rfl⟩) x_recv (fun _ h => h) rfl [] rfl (Nat.le_of_ble_eq_true rfl) dX0_force_2 ⟨Nat.le_of_ble_eq_true rfl, Nat.le_of_ble_eq_true rfl⟩ (k1 := 0) (n1 := 0) rfl rfl ?_
  rintro r2 σ2 (⟨rfl, rfl, h2_h⟩ | ⟨rfl, rfl, h2_h⟩)
  · refine v_if_ne (tgt := 11) G dX0_force_5 (by decide) (fun h5 => ?_) (fun h5 => absurd h5 (by decide))
    refine v_aload_n G 0 dX0_force_11 rfl ?_
    refine x_get (v := .int (σ.1 4 0)) G 20 (by decide) rfl q810 rfl dX0_force_12 ?_
    refine v_istore_n (L' := [(2, .int (σ.1 4 0)), (0, .ref (ad 0)), (1, .int t)]) G dX0_force_15 (by decide) rfl ?_
    refine v_aload_n G 1 dX0_force_16 rfl ?_
    refine v_iload_n G 2 dX0_force_17 rfl ?_
    refine x_putI G 20 4 (by decide) (by decide) rfl q810 rfl rfl rfl dX0_force_18 ?_
    refine v_iload_n G 0 dX0_force_21 rfl ?_
    refine RET _ _ _ _ _ _ rfl (Nat.le_of_ble_eq_true rfl) (Nat.le_of_ble_eq_true rfl) dX0_force_22 (fun ws hws => ⟨_, hws, ?_⟩)
    clear RET G hT hnm
    rw [s_force, if_pos h2_h]
    exact ⟨rfl, co_set (by decide)⟩
  · refine v_if_ne (tgt := 11) G dX0_force_5 (by decide) (fun h5 => absurd h5 (by decide)) (fun h5 => ?_)
    refine v_bipush (v := (-2)) G dX0_force_8 rfl ?_
    refine RET _ _ _ _ _ _ rfl (Nat.le_of_ble_eq_true rfl) (Nat.le_of_ble_eq_true rfl) dX0_force_10 (fun ws hws => ⟨_, hws, ?_⟩)
    clear RET G hT hnm
    rw [s_force, if_neg h2_h]
    exact ⟨rfl, rfl⟩
abbrev rmX0_spoon : Room := { frames := 404, cells := 0, slots := 0, locals := 17045 }
set_option maxHeartbeats 1000000 in
theorem kX0_spoon {KT : (Nat → Prop) → State → Heap → Prop} (hK : KTx KT) (l : Launch) (dC : Nat → ClassId) (dI : Nat → Nat → Nat) (ct ad : Nat → Nat) (F : List (Nat × va_E)) (σ : MS) (x : Int32) (y : Int32) (hO : Ok (co σ)) : MC KT (dC, dI) vwCl (tysF ct) l yX0_spoon cX0_spoon 4 (some .int) rmX0_spoon [.ref (ad 0), .int x, .int y] (RX ct ad F σ) (QI_ (dC, dI) vwCl (RX ct ad F) (fun (r : Int32) (σ' : MS) => ((s_spoon (co σ) x y).1) = r ∧ co σ' = (s_spoon (co σ) x y).2)) := by
  refine MC.ofI (own := RX0) pl_X0 rfl (Nat.le_of_ble_eq_true rfl) ?_
  intro pp ee ss mm aa bb hh cc AA QQ G hT hnm RET
  refine v_loc (L' := [(0, .ref (ad 0)), (1, .int x), (2, .int y)]) rfl ?_
  obtain ⟨hm5, hm⟩ := many5 hO.1
  have hm : σ.1 11 0 = nI (s_many (co σ)) := hm
  refine v_aload_n G 0 dX0_spoon_0 rfl ?_
  refine v_iload_n G 1 dX0_spoon_1 rfl ?_
  refine w_callVi G hK.1 hT (kX0_isOne hK.1 l dC dI ct ad F σ (s_many (co σ)) x hm5 hm) (ck_X0_64 G.2.2.2.2.1 ⟨Nat.le_of_ble_eq_true rfl, Nat.le_of_ble_eq_true rfl⟩) x_recv (fun _ h => h) rfl [] rfl (Nat.le_of_ble_eq_true rfl) dX0_spoon_2 ⟨Nat.le_of_ble_eq_true rfl, Nat.le_of_ble_eq_true rfl⟩ (k1 := 0) (n1 := 0) rfl rfl ?_
  rintro r2 σ2 (⟨rfl, rfl, h2_h⟩ | ⟨rfl, rfl, h2_h⟩)
  · refine v_if_eq (tgt := 15) G dX0_spoon_5 (by decide) (fun h5 => absurd h5 (by decide)) (fun h5 => ?_)
    refine v_iload_n G 2 dX0_spoon_8 rfl ?_
    refine w_callSi G hK.1 hT (kX0_isRoad hK.1 l dC dI ct ad F σ y) (ck_X0_61 G.2.2.2.2.1 ⟨Nat.le_of_ble_eq_true rfl, Nat.le_of_ble_eq_true rfl⟩) (fun _ h => h) rfl [] rfl (Nat.le_of_ble_eq_true rfl) dX0_spoon_9 ⟨Nat.le_of_ble_eq_true rfl, Nat.le_of_ble_eq_true rfl⟩ (k1 := 0) (n1 := 0) rfl rfl ?_
    rintro r9 σ9 (⟨rfl, rfl, h9_h⟩ | ⟨rfl, rfl, h9_h⟩)
    · refine v_if_ne (tgt := 19) G dX0_spoon_12 (by decide) (fun h12 => ?_) (fun h12 => absurd h12 (by decide))
      obtain ⟨p, hpm, ep⟩ := rg_lt h2_h (by omega)
      obtain ⟨j, hjj, ej⟩ := rg_nat (n := 23) h9_h (by decide)
      refine v_aload_n G 0 dX0_spoon_19 rfl ?_
      refine x_get (v := .ref (ad 9)) G 4 (by decide) rfl q792 rfl dX0_spoon_20 ?_
      refine v_iload_n G 2 dX0_spoon_23 rfl ?_
      refine x_iald G 9 rfl (j) ej (show j < 24 by first | omega | assumption | decide) dX0_spoon_24 ?_
      refine v_if_ne (tgt := 32) G dX0_spoon_25 (by decide) (fun h25 => ?_) (fun h25 => ?_)
      · refine v_aload_n G 0 dX0_spoon_32 rfl ?_
        refine x_get (v := .ref (ad 100)) G 0 (by decide) rfl q787 rfl dX0_spoon_33 ?_
        refine v_iload_n G 1 dX0_spoon_36 rfl ?_
        refine x_fald G (p) ep (show p < n_ (σ.1 11 0) from (by exact (show p < s_many (co σ) by omega))) (by omega) dX0_spoon_37 ?_
        refine v_astore_n (L' := [(3, .ref (ad (150 + p))), (0, .ref (ad 0)), (1, .int x), (2, .int y)]) G dX0_spoon_38 (by decide) rfl ?_
        refine v_aload_n G 0 dX0_spoon_39 rfl ?_
        refine v_aload_n G 0 dX0_spoon_40 rfl ?_
        refine x_lg (v := σ.1 10 (5 * p + 2)) G 2 p (by decide) (show p < n_ (σ.1 11 0) from (by exact (show p < s_many (co σ) by omega))) (kd_of hO (by omega)) (rfl) q201 dX0_spoon_41 ?_
        refine v_aload_n G 1 dX0_spoon_44 rfl ?_
        refine v_iload_n G 2 dX0_spoon_45 rfl ?_
        refine v_iload_n G 3 dX0_spoon_46 rfl ?_
        refine v_stk (st' := [.int (nI j), .int (nI p), .ref (ad 0), .int (σ.1 10 (5 * p + 2)), .ref (ad (150 + p))]) (by first | rfl | (have e0 : x = nI p := ep ; have e1 : y = nI j := ej ; simp only [e0, e1])) ?_
        refine w_callVi G hK.1 hT (kX0_feelsOf hK l dC dI ct ad F σ p j hO (by first | assumption | omega) (by first | assumption | omega)) (ck_X0_373 G.2.2.2.2.1 ⟨Nat.le_of_ble_eq_true rfl, Nat.le_of_ble_eq_true rfl⟩) x_recv (fun _ h => h) rfl [.int (σ.1 10 (5 * p + 2)), .ref (ad (150 + p))] rfl (Nat.le_of_ble_eq_true rfl) dX0_spoon_47 ⟨Nat.le_of_ble_eq_true rfl, Nat.le_of_ble_eq_true rfl⟩ (k1 := 0) (n1 := 0) rfl rfl ?_
        rintro r47 σ47 ⟨rfl, h47_a⟩
        refine v_iadd G dX0_spoon_50 ?_
        refine v_bipush (v := (-99)) G dX0_spoon_51 rfl ?_
        refine v_bipush (v := 99) G dX0_spoon_53 rfl ?_
        refine w_callSi G hK.1 hT (kX0_held hK.1 l dC dI ct ad F σ47 ((σ.1 10 (5 * p + 2)) + (s_feels (co σ) p j)) (-99) 99 (by decide)) (ck_X0_358 G.2.2.2.2.1 ⟨Nat.le_of_ble_eq_true rfl, Nat.le_of_ble_eq_true rfl⟩) (fun _ h => h) rfl [.ref (ad (150 + p))] rfl (Nat.le_of_ble_eq_true rfl) dX0_spoon_55 ⟨Nat.le_of_ble_eq_true rfl, Nat.le_of_ble_eq_true rfl⟩ (k1 := 0) (n1 := 0) rfl rfl ?_
        rintro r55 σ55 ⟨rfl, rfl⟩
        refine x_lp G 2 p (by decide) (show p < n_ (σ47.1 11 0) from (by rw [show σ47.1 11 0 = σ.1 11 0 from (show σ47.1 11 0 = σ.1 11 0 from ag_at h47_a (by decide))]; exact (show p < s_many (co σ) by omega))) (kd_of (show Ok (co σ47) by rw [show co σ47 = (co σ) from (ag_co h47_a (by decide))]; exact hO) (by omega)) q201 dX0_spoon_58 ?_
        refine v_aload_n G 0 dX0_spoon_61 rfl ?_
        refine v_sipush (v := 999) G dX0_spoon_62 rfl ?_
        refine v_aload_n G 0 dX0_spoon_65 rfl ?_
        refine x_lg (v := σ.1 10 (5 * p + 3)) G 3 p (by decide) (show p < n_ ((mset σ47 10 (5 * p + 2) (s_clamp ((σ.1 10 (5 * p + 2)) + (s_feels (co σ) p j)) (-99) 99)).1 11 0) from (by rw [show (mset σ47 10 (5 * p + 2) (s_clamp ((σ.1 10 (5 * p + 2)) + (s_feels (co σ) p j)) (-99) 99)).1 11 0 = σ.1 11 0 from (show σ47.1 11 0 = σ.1 11 0 from ag_at h47_a (by decide))]; exact (show p < s_many (co σ) by omega))) (kd_set (by decide) (kd_of (show Ok (co σ47) by rw [show co σ47 = (co σ) from (ag_co h47_a (by decide))]; exact hO) (by omega))) (((show (mset σ47 10 (5 * p + 2) (s_clamp ((σ.1 10 (5 * p + 2)) + (s_feels (co σ) p j)) (-99) 99)).1 10 (5 * p + 3) = σ47.1 10 (5 * p + 3) by simp [mset, msetL, upd2]).trans (show σ47.1 10 (5 * p + 3) = σ.1 10 (5 * p + 3) from ag_at h47_a (by decide)))) q206 dX0_spoon_66 ?_
        refine v_iconst (v := 1) G dX0_spoon_69 rfl ?_
        refine v_iadd G dX0_spoon_70 ?_
        refine v_mmin G q360 dX0_spoon_71 (Nat.le_of_ble_eq_true rfl) (Nat.le_of_ble_eq_true rfl) (Nat.le_of_ble_eq_true rfl) (Nat.le_of_ble_eq_true rfl) (Nat.le_of_ble_eq_true rfl) ?_
        refine x_lp G 3 p (by decide) (show p < n_ ((mset σ47 10 (5 * p + 2) (s_clamp ((σ.1 10 (5 * p + 2)) + (s_feels (co σ) p j)) (-99) 99)).1 11 0) from (by rw [show (mset σ47 10 (5 * p + 2) (s_clamp ((σ.1 10 (5 * p + 2)) + (s_feels (co σ) p j)) (-99) 99)).1 11 0 = σ.1 11 0 from (show σ47.1 11 0 = σ.1 11 0 from ag_at h47_a (by decide))]; exact (show p < s_many (co σ) by omega))) (kd_set (by decide) (kd_of (show Ok (co σ47) by rw [show co σ47 = (co σ) from (ag_co h47_a (by decide))]; exact hO) (by omega))) q206 dX0_spoon_74 ?_
        refine v_aload_n G 1 dX0_spoon_77 rfl ?_
        refine x_get (v := .ref (ad 9)) G 4 (by decide) rfl q792 rfl dX0_spoon_78 ?_
        refine v_iload_n G 3 dX0_spoon_81 rfl ?_
        refine v_dup2 G dX0_spoon_82 rfl rfl ?_
        refine x_iald G 9 rfl (j) ej (show j < 24 by first | omega | assumption | decide) dX0_spoon_83 ?_
        refine v_topr (congrArg Value.int (show (mset (mset σ47 10 (5 * p + 2) (s_clamp ((σ.1 10 (5 * p + 2)) + (s_feels (co σ) p j)) (-99) 99)) 10 (5 * p + 3) (if ((σ.1 10 (5 * p + 3)) + 1) < 999 then ((σ.1 10 (5 * p + 3)) + 1) else 999)).1 9 j = σ.1 9 j from (show σ47.1 9 j = σ.1 9 j from ag_at h47_a (by decide)))) ?_
        refine v_iconst (v := 1) G dX0_spoon_84 rfl ?_
        refine v_isub G dX0_spoon_85 ?_
        refine x_iast G 9 rfl rfl (j) ej (show j < 24 by first | omega | assumption | decide) dX0_spoon_86 ?_
        refine v_aload_n G 0 dX0_spoon_87 rfl ?_
        refine x_lg (v := s_clamp ((σ.1 10 (5 * p + 2)) + (s_feels (co σ) p j)) (-99) 99) G 2 p (by decide) (show p < n_ ((mset (mset (mset σ47 10 (5 * p + 2) (s_clamp ((σ.1 10 (5 * p + 2)) + (s_feels (co σ) p j)) (-99) 99)) 10 (5 * p + 3) (if ((σ.1 10 (5 * p + 3)) + 1) < 999 then ((σ.1 10 (5 * p + 3)) + 1) else 999)) 9 j ((σ.1 9 j) - 1)).1 11 0) from (by rw [show (mset (mset (mset σ47 10 (5 * p + 2) (s_clamp ((σ.1 10 (5 * p + 2)) + (s_feels (co σ) p j)) (-99) 99)) 10 (5 * p + 3) (if ((σ.1 10 (5 * p + 3)) + 1) < 999 then ((σ.1 10 (5 * p + 3)) + 1) else 999)) 9 j ((σ.1 9 j) - 1)).1 11 0 = σ.1 11 0 from (show σ47.1 11 0 = σ.1 11 0 from ag_at h47_a (by decide))]; exact (show p < s_many (co σ) by omega))) (kd_ne (by decide) (kd_set (by decide) (kd_set (by decide) (kd_of (show Ok (co σ47) by rw [show co σ47 = (co σ) from (ag_co h47_a (by decide))]; exact hO) (by omega))))) ((by first | rfl | simp [mset, msetL, upd2])) q201 dX0_spoon_88 ?_
        refine RET _ _ _ _ _ _ rfl (Nat.le_of_ble_eq_true rfl) (Nat.le_of_ble_eq_true rfl) dX0_spoon_91 (fun ws hws => ⟨_, hws, ?_⟩)
        clear RET G hT hnm
        have ejn : n_ y = j := by rw [ej]; exact nI_clamp (by omega)
        have epn : n_ x = p := by rw [ep]; exact nI_clamp (by omega)
        have hc0 : co σ47 = co σ := ag_co h47_a (by decide)
        obtain ⟨ve, hve, eve⟩ := (hO.1.2.1 p (by omega)).2.2.2.1
        have hst : s_spoon (co σ) x y = (s_clamp (co σ 10 (5 * p + 2) + s_feels (co σ) p j) (-99) 99, s_spoonK (co σ) p j) := by rw [s_spoon, if_pos ⟨h2_h, h9_h⟩, ejn, epn, if_neg (by rw [cq9]; exact h25)]
        rw [hst]
        have hmn : (if σ.1 10 (5 * p + 3) + 1 < 999 then σ.1 10 (5 * p + 3) + 1 else 999) = s_clamp (co σ 10 (5 * p + 3) + 1) 0 999 := by
          rw [show co σ 10 (5 * p + 3) = σ.1 10 (5 * p + 3) from rfl, show σ.1 10 (5 * p + 3) = nI ve from eve]
          exact min_clamp (v := 1) hve (by omega)
        refine ⟨?_, ?_⟩
        · first | rfl | (simp [mset, upd2]; rfl)
        rw [co_set (by decide), co_set (by decide), co_set (by decide), hc0, hmn]
        rfl
      · refine v_sipush (v := (-1003)) G dX0_spoon_28 rfl ?_
        refine RET _ _ _ _ _ _ rfl (Nat.le_of_ble_eq_true rfl) (Nat.le_of_ble_eq_true rfl) dX0_spoon_31 (fun ws hws => ⟨_, hws, ?_⟩)
        clear RET G hT hnm
        have ejn : n_ y = j := by rw [ej]; exact nI_clamp (by omega)
        have epn : n_ x = p := by rw [ep]; exact nI_clamp (by omega)
        rw [show s_spoon (co σ) x y = (-1003, co σ) by rw [s_spoon, if_pos ⟨h2_h, h9_h⟩, ejn, cq9, if_pos h25]]
        exact ⟨rfl, rfl⟩
    · refine v_if_ne (tgt := 19) G dX0_spoon_12 (by decide) (fun h12 => absurd h12 (by decide)) (fun h12 => ?_)
      refine v_sipush (v := (-1000)) G dX0_spoon_15 rfl ?_
      refine RET _ _ _ _ _ _ rfl (Nat.le_of_ble_eq_true rfl) (Nat.le_of_ble_eq_true rfl) dX0_spoon_18 (fun ws hws => ⟨_, hws, ?_⟩)
      clear RET G hT hnm
      rw [show s_spoon (co σ) x y = (-1000, co σ) by rw [s_spoon, if_neg (fun q => by first | exact h2_h q.1 | exact h9_h q.2)]]
      exact ⟨rfl, rfl⟩
  · refine v_if_eq (tgt := 15) G dX0_spoon_5 (by decide) (fun h5 => ?_) (fun h5 => absurd h5 (by decide))
    refine v_sipush (v := (-1000)) G dX0_spoon_15 rfl ?_
    refine RET _ _ _ _ _ _ rfl (Nat.le_of_ble_eq_true rfl) (Nat.le_of_ble_eq_true rfl) dX0_spoon_18 (fun ws hws => ⟨_, hws, ?_⟩)
    clear RET G hT hnm
    rw [show s_spoon (co σ) x y = (-1000, co σ) by rw [s_spoon, if_neg (fun q => by first | exact h2_h q.1 | exact h9_h q.2)]]
    exact ⟨rfl, rfl⟩
