set_option maxRecDepth 100000
set_option maxHeartbeats 1000000 in
theorem wX5_worth {KT : (Nat → Prop) → State → Heap → Prop} (hK : KTx KT) (l : Launch) (dC : Nat → ClassId) (dI : Nat → Nat → Nat) (ct ad : Nat → Nat) (F : List (Nat × va_E)) (σ : MS) (d : Nat) (a : Nat) (p : Nat) (v : Int32) (hO : Ok (co σ)) (hp1 : σ.1 12 0 = nI p) (hp : p < s_many (co σ)) (hm : ((a, Sum.inr (9, [.int v])) : Nat × va_E) ∈ F) : MC KT (dC, dI) vwCl (tysF ct) l yX5_worth cX5_worth 1 (some .int) (rmW (d + 1)) [.ref a] (RX ct ad F σ) (QI_ (dC, dI) vwCl (RX ct ad F) (fun (r : Int32) (σ' : MS) => v = r ∧ σ = σ')) := by
  refine MC.ofI (own := RX5) pl_X5 rfl (Nat.le_of_ble_eq_true rfl) ?_
  intro pp ee ss mm aa bb hh cc AA QQ G hT hnm RET
  refine v_loc (L' := [(0, .ref a)]) rfl ?_
  refine v_aload_n G 0 dX5_worth_0 rfl ?_
  refine w_get (C := RX5) (T := TX5) (N := 1) (ci := 9) (v := .int v) G 0 (by decide) in_X5 rfl q626 (fun _ h => h) (fun ws h => ⟨_, (h.2.2.2.1 _ hm).1, rfl⟩) dX5_worth_1 ?_
  refine RET _ _ _ _ _ _ rfl (Nat.le_of_ble_eq_true rfl) (Nat.le_of_ble_eq_true rfl) dX5_worth_4 (fun ws hws => ⟨_, hws, ?_⟩)
  clear RET G hT hnm
  exact ⟨rfl, rfl⟩
set_option maxHeartbeats 1000000 in
theorem wX6_worth {KT : (Nat → Prop) → State → Heap → Prop} (hK : KTx KT) (l : Launch) (dC : Nat → ClassId) (dI : Nat → Nat → Nat) (ct ad : Nat → Nat) (F : List (Nat × va_E)) (σ : MS) (d : Nat) (a : Nat) (p : Nat) (w : Nat) (hw_ : w ≤ 5) (hO : Ok (co σ)) (hp1 : σ.1 12 0 = nI p) (hp : p < s_many (co σ)) (hm : ((a, Sum.inr (10, [.int (nI w), .ref (ad 0)])) : Nat × va_E) ∈ F) : MC KT (dC, dI) vwCl (tysF ct) l yX6_worth cX6_worth 1 (some .int) (rmW (d + 1)) [.ref a] (RX ct ad F σ) (QI_ (dC, dI) vwCl (RX ct ad F) (fun (r : Int32) (σ' : MS) => (x_env σ p w) = r ∧ σ = σ')) := by
  refine MC.ofI (own := RX6) pl_X6 rfl (Nat.le_of_ble_eq_true rfl) ?_
  intro pp ee ss mm aa bb hh cc AA QQ G hT hnm RET
  refine v_loc (L' := [(0, .ref a)]) rfl ?_
  obtain ⟨hm5, -⟩ := many5 hO.1
  refine v_aload_n G 0 dX6_worth_0 rfl ?_
  refine w_get (C := RX6) (T := TX6) (N := 2) (ci := 10) (v := .int (nI w)) G 0 (by decide) in_X6 rfl q636 (fun _ h => h) (fun ws h => ⟨_, (h.2.2.2.1 _ hm).1, rfl⟩) dX6_worth_1 ?_
  rcases (show w = 0 ∨ w = 1 ∨ w = 2 ∨ w = 3 ∨ w = 4 ∨ w = 5 by omega) with rfl | rfl | rfl | rfl | rfl | rfl
  · refine v_topr (x2 := .int 0) (congrArg Value.int (show nI 0 = 0 from rfl)) ?_
    refine v_tableIn (tgt := 40) G dX6_worth_4 (by decide) (by decide) rfl (by decide) ?_
    refine v_aload_n G 0 dX6_worth_40 rfl ?_
    refine w_get (C := RX6) (T := TX6) (N := 2) (ci := 10) (v := .ref (ad 0)) G 1 (by decide) in_X6 rfl q637 (fun _ h => h) (fun ws h => ⟨_, (h.2.2.2.1 _ hm).1, rfl⟩) dX6_worth_41 ?_
    refine w_getN (C := RX0) (T := TX0) (N := 34) (ci := 1) (v := .ref (ad 100)) G 0 (by decide) in_X0 rfl (hK.at hT 32 rfl) (fun _ h => h) (fun ws h => ⟨_, RX.obj h, rfl⟩) dX6_worth_44 ?_
    refine v_aload_n G 0 dX6_worth_47 rfl ?_
    refine w_get (C := RX6) (T := TX6) (N := 2) (ci := 10) (v := .ref (ad 0)) G 1 (by decide) in_X6 rfl q637 (fun _ h => h) (fun ws h => ⟨_, (h.2.2.2.1 _ hm).1, rfl⟩) dX6_worth_48 ?_
    refine w_getN (C := RX0) (T := TX0) (N := 34) (ci := 1) (v := .int (σ.1 12 0)) G 6 (by decide) in_X0 rfl (hK.at hT 34 rfl) (fun _ h => h) (fun ws h => ⟨_, RX.obj h, rfl⟩) dX6_worth_51 ?_
    refine x_fald G (p) hp1 (show p < n_ (σ.1 11 0) from (by exact (show p < s_many (co σ) by omega))) (by omega) dX6_worth_54 ?_
    refine x_lg (v := σ.1 10 (5 * p + 1)) G 1 p (by decide) (show p < n_ (σ.1 11 0) from (by exact (show p < s_many (co σ) by omega))) (kd_of hO (by omega)) (rfl) q193 dX6_worth_55 ?_
    refine RET _ _ _ _ _ _ rfl (Nat.le_of_ble_eq_true rfl) (Nat.le_of_ble_eq_true rfl) dX6_worth_58 (fun ws hws => ⟨_, hws, ?_⟩)
    clear RET G hT hnm
    exact ⟨rfl, rfl⟩
  · refine v_topr (x2 := .int 1) (congrArg Value.int (show nI 1 = 1 from rfl)) ?_
    refine v_tableIn (tgt := 59) G dX6_worth_4 (by decide) (by decide) rfl (by decide) ?_
    refine v_aload_n G 0 dX6_worth_59 rfl ?_
    refine w_get (C := RX6) (T := TX6) (N := 2) (ci := 10) (v := .ref (ad 0)) G 1 (by decide) in_X6 rfl q637 (fun _ h => h) (fun ws h => ⟨_, (h.2.2.2.1 _ hm).1, rfl⟩) dX6_worth_60 ?_
    refine w_getN (C := RX0) (T := TX0) (N := 34) (ci := 1) (v := .int (σ.1 13 0)) G 7 (by decide) in_X0 rfl (hK.at hT 35 rfl) (fun _ h => h) (fun ws h => ⟨_, RX.obj h, rfl⟩) dX6_worth_63 ?_
    refine RET _ _ _ _ _ _ rfl (Nat.le_of_ble_eq_true rfl) (Nat.le_of_ble_eq_true rfl) dX6_worth_66 (fun ws hws => ⟨_, hws, ?_⟩)
    clear RET G hT hnm
    exact ⟨rfl, rfl⟩
  · refine v_topr (x2 := .int 2) (congrArg Value.int (show nI 2 = 2 from rfl)) ?_
    refine v_tableIn (tgt := 67) G dX6_worth_4 (by decide) (by decide) rfl (by decide) ?_
    refine v_aload_n G 0 dX6_worth_67 rfl ?_
    refine w_get (C := RX6) (T := TX6) (N := 2) (ci := 10) (v := .ref (ad 0)) G 1 (by decide) in_X6 rfl q637 (fun _ h => h) (fun ws h => ⟨_, (h.2.2.2.1 _ hm).1, rfl⟩) dX6_worth_68 ?_
    refine w_getN (C := RX0) (T := TX0) (N := 34) (ci := 1) (v := .ref (ad 100)) G 0 (by decide) in_X0 rfl (hK.at hT 32 rfl) (fun _ h => h) (fun ws h => ⟨_, RX.obj h, rfl⟩) dX6_worth_71 ?_
    refine v_aload_n G 0 dX6_worth_74 rfl ?_
    refine w_get (C := RX6) (T := TX6) (N := 2) (ci := 10) (v := .ref (ad 0)) G 1 (by decide) in_X6 rfl q637 (fun _ h => h) (fun ws h => ⟨_, (h.2.2.2.1 _ hm).1, rfl⟩) dX6_worth_75 ?_
    refine w_getN (C := RX0) (T := TX0) (N := 34) (ci := 1) (v := .int (σ.1 12 0)) G 6 (by decide) in_X0 rfl (hK.at hT 34 rfl) (fun _ h => h) (fun ws h => ⟨_, RX.obj h, rfl⟩) dX6_worth_78 ?_
    refine x_fald G (p) hp1 (show p < n_ (σ.1 11 0) from (by exact (show p < s_many (co σ) by omega))) (by omega) dX6_worth_81 ?_
    refine x_lg (v := σ.1 10 (5 * p)) G 0 p (by decide) (show p < n_ (σ.1 11 0) from (by exact (show p < s_many (co σ) by omega))) (kd_of hO (by omega)) (rfl) q182 dX6_worth_82 ?_
    refine RET _ _ _ _ _ _ rfl (Nat.le_of_ble_eq_true rfl) (Nat.le_of_ble_eq_true rfl) dX6_worth_85 (fun ws hws => ⟨_, hws, ?_⟩)
    clear RET G hT hnm
    exact ⟨rfl, rfl⟩
  · refine v_topr (x2 := .int 3) (congrArg Value.int (show nI 3 = 3 from rfl)) ?_
    refine v_tableIn (tgt := 86) G dX6_worth_4 (by decide) (by decide) rfl (by decide) ?_
    refine v_aload_n G 0 dX6_worth_86 rfl ?_
    refine w_get (C := RX6) (T := TX6) (N := 2) (ci := 10) (v := .ref (ad 0)) G 1 (by decide) in_X6 rfl q637 (fun _ h => h) (fun ws h => ⟨_, (h.2.2.2.1 _ hm).1, rfl⟩) dX6_worth_87 ?_
    refine w_getN (C := RX0) (T := TX0) (N := 34) (ci := 1) (v := .int (σ.1 7 0)) G 2 (by decide) in_X0 rfl (hK.at hT 33 rfl) (fun _ h => h) (fun ws h => ⟨_, RX.obj h, rfl⟩) dX6_worth_90 ?_
    refine RET _ _ _ _ _ _ rfl (Nat.le_of_ble_eq_true rfl) (Nat.le_of_ble_eq_true rfl) dX6_worth_93 (fun ws hws => ⟨_, hws, ?_⟩)
    clear RET G hT hnm
    exact ⟨rfl, rfl⟩
  · refine v_topr (x2 := .int 4) (congrArg Value.int (show nI 4 = 4 from rfl)) ?_
    refine v_tableIn (tgt := 94) G dX6_worth_4 (by decide) (by decide) rfl (by decide) ?_
    refine v_aload_n G 0 dX6_worth_94 rfl ?_
    refine w_get (C := RX6) (T := TX6) (N := 2) (ci := 10) (v := .ref (ad 0)) G 1 (by decide) in_X6 rfl q637 (fun _ h => h) (fun ws h => ⟨_, (h.2.2.2.1 _ hm).1, rfl⟩) dX6_worth_95 ?_
    refine w_getN (C := RX0) (T := TX0) (N := 34) (ci := 1) (v := .ref (ad 100)) G 0 (by decide) in_X0 rfl (hK.at hT 32 rfl) (fun _ h => h) (fun ws h => ⟨_, RX.obj h, rfl⟩) dX6_worth_98 ?_
    refine v_aload_n G 0 dX6_worth_101 rfl ?_
    refine w_get (C := RX6) (T := TX6) (N := 2) (ci := 10) (v := .ref (ad 0)) G 1 (by decide) in_X6 rfl q637 (fun _ h => h) (fun ws h => ⟨_, (h.2.2.2.1 _ hm).1, rfl⟩) dX6_worth_102 ?_
    refine w_getN (C := RX0) (T := TX0) (N := 34) (ci := 1) (v := .int (σ.1 12 0)) G 6 (by decide) in_X0 rfl (hK.at hT 34 rfl) (fun _ h => h) (fun ws h => ⟨_, RX.obj h, rfl⟩) dX6_worth_105 ?_
    refine x_fald G (p) hp1 (show p < n_ (σ.1 11 0) from (by exact (show p < s_many (co σ) by omega))) (by omega) dX6_worth_108 ?_
    refine x_lg (v := σ.1 10 (5 * p + 2)) G 2 p (by decide) (show p < n_ (σ.1 11 0) from (by exact (show p < s_many (co σ) by omega))) (kd_of hO (by omega)) (rfl) q197 dX6_worth_109 ?_
    refine RET _ _ _ _ _ _ rfl (Nat.le_of_ble_eq_true rfl) (Nat.le_of_ble_eq_true rfl) dX6_worth_112 (fun ws hws => ⟨_, hws, ?_⟩)
    clear RET G hT hnm
    exact ⟨rfl, rfl⟩
  · refine v_topr (x2 := .int 5) (congrArg Value.int (show nI 5 = 5 from rfl)) ?_
    refine v_tableOut (tgt := 113) G dX6_worth_4 (by decide) (by decide) ?_
    refine v_aload_n G 0 dX6_worth_113 rfl ?_
    refine w_get (C := RX6) (T := TX6) (N := 2) (ci := 10) (v := .ref (ad 0)) G 1 (by decide) in_X6 rfl q637 (fun _ h => h) (fun ws h => ⟨_, (h.2.2.2.1 _ hm).1, rfl⟩) dX6_worth_114 ?_
    refine w_getN (C := RX0) (T := TX0) (N := 34) (ci := 1) (v := .ref (ad 100)) G 0 (by decide) in_X0 rfl (hK.at hT 32 rfl) (fun _ h => h) (fun ws h => ⟨_, RX.obj h, rfl⟩) dX6_worth_117 ?_
    refine v_aload_n G 0 dX6_worth_120 rfl ?_
    refine w_get (C := RX6) (T := TX6) (N := 2) (ci := 10) (v := .ref (ad 0)) G 1 (by decide) in_X6 rfl q637 (fun _ h => h) (fun ws h => ⟨_, (h.2.2.2.1 _ hm).1, rfl⟩) dX6_worth_121 ?_
    refine w_getN (C := RX0) (T := TX0) (N := 34) (ci := 1) (v := .int (σ.1 12 0)) G 6 (by decide) in_X0 rfl (hK.at hT 34 rfl) (fun _ h => h) (fun ws h => ⟨_, RX.obj h, rfl⟩) dX6_worth_124 ?_
    refine x_fald G (p) hp1 (show p < n_ (σ.1 11 0) from (by exact (show p < s_many (co σ) by omega))) (by omega) dX6_worth_127 ?_
    refine x_lg (v := σ.1 10 (5 * p + 3)) G 3 p (by decide) (show p < n_ (σ.1 11 0) from (by exact (show p < s_many (co σ) by omega))) (kd_of hO (by omega)) (rfl) q202 dX6_worth_128 ?_
    refine RET _ _ _ _ _ _ rfl (Nat.le_of_ble_eq_true rfl) (Nat.le_of_ble_eq_true rfl) dX6_worth_131 (fun ws hws => ⟨_, hws, ?_⟩)
    clear RET G hT hnm
    exact ⟨rfl, rfl⟩
set_option maxHeartbeats 1000000 in
theorem wX4_minus {KT : (Nat → Prop) → State → Heap → Prop} (hK : KTx KT) (l : Launch) (dC : Nat → ClassId) (dI : Nat → Nat → Nat) (ct ad : Nat → Nat) (F : List (Nat × va_E)) (σ : MS) (d : Nat) (a : Nat) (p : Nat) (b : Nat) (g : SF) (hO : Ok (co σ)) (hp1 : σ.1 12 0 = nI p) (hp : p < s_many (co σ)) (hm : ((a, Sum.inr (11, [.ref b, .int 1])) : Nat × va_E) ∈ F) (hW : WC KT l dC dI ct ad F d b g) : MC KT (dC, dI) vwCl (tysF ct) l yX4_worth cX4_worth 2 (some .int) (rmW (d + 1)) [.ref a] (RX ct ad F σ) (QI_ (dC, dI) vwCl (RX ct ad F) (fun (r : Int32) (σ' : MS) => (- g (x_env σ p)) = r ∧ σ = σ')) := by
  refine MC.ofI (own := RX4) pl_X4 rfl (Nat.le_of_ble_eq_true rfl) ?_
  intro pp ee ss mm aa bb hh cc AA QQ G hT hnm RET
  refine v_loc (L' := [(0, .ref a)]) rfl ?_
  refine v_aload_n G 0 dX4_worth_0 rfl ?_
  refine w_get (C := RX4) (T := TX4) (N := 2) (ci := 11) (v := .ref b) G 0 (by decide) in_X4 rfl q600 (fun _ h => h) (fun ws h => ⟨_, (h.2.2.2.1 _ hm).1, rfl⟩) dX4_worth_1 ?_
  refine x_vworth G hK hT q352 hW hO hp1 hp dX4_worth_4 (Nat.le_of_ble_eq_true rfl) (Nat.le_refl _) (by show 40 * d + 22 ≤ 40 * (d + 1); omega) ⟨Nat.le_of_ble_eq_true rfl, Nat.le_of_ble_eq_true rfl⟩ ?_
  refine v_istore_n (L' := [(1, .int (g (x_env σ p))), (0, .ref a)]) G dX4_worth_7 (by decide) rfl ?_
  refine v_aload_n G 1 dX4_worth_8 rfl ?_
  refine w_get (C := RX4) (T := TX4) (N := 2) (ci := 11) (v := .int 1) G 1 (by decide) in_X4 rfl q601 (fun _ h => h) (fun ws h => ⟨_, (h.2.2.2.1 _ hm).1, rfl⟩) dX4_worth_9 ?_
  refine v_if_eq (tgt := 20) G dX4_worth_12 (by decide) (fun h12 => absurd h12 (by decide)) (fun h12 => ?_)
  refine v_iload_n G 0 dX4_worth_15 rfl ?_
  refine v_ineg G dX4_worth_16 ?_
  refine v_goto (tgt := 29) G dX4_worth_17 (by decide) ?_
  refine RET _ _ _ _ _ _ rfl (Nat.le_of_ble_eq_true rfl) (Nat.le_of_ble_eq_true rfl) dX4_worth_29 (fun ws hws => ⟨_, hws, ?_⟩)
  clear RET G hT hnm
  exact ⟨rfl, rfl⟩
set_option maxHeartbeats 1000000 in
theorem wX4_nots {KT : (Nat → Prop) → State → Heap → Prop} (hK : KTx KT) (l : Launch) (dC : Nat → ClassId) (dI : Nat → Nat → Nat) (ct ad : Nat → Nat) (F : List (Nat × va_E)) (σ : MS) (d : Nat) (a : Nat) (p : Nat) (b : Nat) (g : SF) (hO : Ok (co σ)) (hp1 : σ.1 12 0 = nI p) (hp : p < s_many (co σ)) (hm : ((a, Sum.inr (11, [.ref b, .int 0])) : Nat × va_E) ∈ F) (hW : WC KT l dC dI ct ad F d b g) : MC KT (dC, dI) vwCl (tysF ct) l yX4_worth cX4_worth 2 (some .int) (rmW (d + 1)) [.ref a] (RX ct ad F σ) (QI_ (dC, dI) vwCl (RX ct ad F) (fun (r : Int32) (σ' : MS) => (if g (x_env σ p) = 0 then 1 else 0) = r ∧ σ = σ')) := by
  refine MC.ofI (own := RX4) pl_X4 rfl (Nat.le_of_ble_eq_true rfl) ?_
  intro pp ee ss mm aa bb hh cc AA QQ G hT hnm RET
  refine v_loc (L' := [(0, .ref a)]) rfl ?_
  refine v_aload_n G 0 dX4_worth_0 rfl ?_
  refine w_get (C := RX4) (T := TX4) (N := 2) (ci := 11) (v := .ref b) G 0 (by decide) in_X4 rfl q600 (fun _ h => h) (fun ws h => ⟨_, (h.2.2.2.1 _ hm).1, rfl⟩) dX4_worth_1 ?_
  refine x_vworth G hK hT q352 hW hO hp1 hp dX4_worth_4 (Nat.le_of_ble_eq_true rfl) (Nat.le_refl _) (by show 40 * d + 22 ≤ 40 * (d + 1); omega) ⟨Nat.le_of_ble_eq_true rfl, Nat.le_of_ble_eq_true rfl⟩ ?_
  refine v_istore_n (L' := [(1, .int (g (x_env σ p))), (0, .ref a)]) G dX4_worth_7 (by decide) rfl ?_
  refine v_aload_n G 1 dX4_worth_8 rfl ?_
  refine w_get (C := RX4) (T := TX4) (N := 2) (ci := 11) (v := .int 0) G 1 (by decide) in_X4 rfl q601 (fun _ h => h) (fun ws h => ⟨_, (h.2.2.2.1 _ hm).1, rfl⟩) dX4_worth_9 ?_
  refine v_if_eq (tgt := 20) G dX4_worth_12 (by decide) (fun h12 => ?_) (fun h12 => absurd h12 (by decide))
  refine v_iload_n G 0 dX4_worth_20 rfl ?_
  refine v_if_ne (tgt := 28) G dX4_worth_21 (by decide) (fun h21 => ?_) (fun h21 => ?_)
  · refine v_iconst (v := 0) G dX4_worth_28 rfl ?_
    refine RET _ _ _ _ _ _ rfl (Nat.le_of_ble_eq_true rfl) (Nat.le_of_ble_eq_true rfl) dX4_worth_29 (fun ws hws => ⟨_, hws, ?_⟩)
    clear RET G hT hnm
    exact ⟨by first | (rw [if_pos h21]; done) | (rw [if_neg h21]; done), rfl⟩
  · refine v_iconst (v := 1) G dX4_worth_24 rfl ?_
    refine v_goto (tgt := 29) G dX4_worth_25 (by decide) ?_
    refine RET _ _ _ _ _ _ rfl (Nat.le_of_ble_eq_true rfl) (Nat.le_of_ble_eq_true rfl) dX4_worth_29 (fun ws hws => ⟨_, hws, ?_⟩)
    clear RET G hT hnm
    exact ⟨by first | (rw [if_pos h21]; done) | (rw [if_neg h21]; done), rfl⟩
set_option maxHeartbeats 1000000 in
theorem wX7_worth {KT : (Nat → Prop) → State → Heap → Prop} (hK : KTx KT) (l : Launch) (dC : Nat → ClassId) (dI : Nat → Nat → Nat) (ct ad : Nat → Nat) (F : List (Nat × va_E)) (σ : MS) (d : Nat) (a : Nat) (p : Nat) (s : Int32) (b : Nat) (c : Nat) (g : SF) (h : SF) (hO : Ok (co σ)) (hp1 : σ.1 12 0 = nI p) (hp : p < s_many (co σ)) (hm : ((a, Sum.inr (12, [.int s, .ref b, .ref c])) : Nat × va_E) ∈ F) (hs : s = 43 ∨ s = 45 ∨ s = 42 ∨ s = 60 ∨ s = 61 ∨ s = 38 ∨ s = 124) (hWb : WC KT l dC dI ct ad F d b g) (hWc : WC KT l dC dI ct ad F d c h) : MC KT (dC, dI) vwCl (tysF ct) l yX7_worth cX7_worth 3 (some .int) (rmW (d + 1)) [.ref a] (RX ct ad F σ) (QI_ (dC, dI) vwCl (RX ct ad F) (fun (r : Int32) (σ' : MS) => (opN s g h (x_env σ p)) = r ∧ σ = σ')) := by
  refine MC.ofI (own := RX7) pl_X7 rfl (Nat.le_of_ble_eq_true rfl) ?_
  intro pp ee ss mm aa bb hh cc AA QQ G hT hnm RET
  refine v_loc (L' := [(0, .ref a)]) rfl ?_
  refine v_aload_n G 0 dX7_worth_0 rfl ?_
  refine w_get (C := RX7) (T := TX7) (N := 3) (ci := 12) (v := .ref b) G 1 (by decide) in_X7 rfl q654 (fun _ h => h) (fun ws h => ⟨_, (h.2.2.2.1 _ hm).1, rfl⟩) dX7_worth_1 ?_
  refine x_vworth G hK hT q355 hWb hO hp1 hp dX7_worth_4 (Nat.le_of_ble_eq_true rfl) (Nat.le_refl _) (by show 40 * d + 22 ≤ 40 * (d + 1); omega) ⟨Nat.le_of_ble_eq_true rfl, Nat.le_of_ble_eq_true rfl⟩ ?_
  refine v_istore_n (L' := [(1, .int (g (x_env σ p))), (0, .ref a)]) G dX7_worth_7 (by decide) rfl ?_
  refine v_aload_n G 1 dX7_worth_8 rfl ?_
  refine w_get (C := RX7) (T := TX7) (N := 3) (ci := 12) (v := .ref c) G 2 (by decide) in_X7 rfl q655 (fun _ h => h) (fun ws h => ⟨_, (h.2.2.2.1 _ hm).1, rfl⟩) dX7_worth_9 ?_
  refine x_vworth G hK hT q355 hWc hO hp1 hp dX7_worth_12 (Nat.le_of_ble_eq_true rfl) (Nat.le_refl _) (by show 40 * d + 22 ≤ 40 * (d + 1); omega) ⟨Nat.le_of_ble_eq_true rfl, Nat.le_of_ble_eq_true rfl⟩ ?_
  refine v_istore_n (L' := [(2, .int (h (x_env σ p))), (1, .int (g (x_env σ p))), (0, .ref a)]) G dX7_worth_15 (by decide) rfl ?_
  refine v_aload_n G 2 dX7_worth_16 rfl ?_
  refine w_get (C := RX7) (T := TX7) (N := 3) (ci := 12) (v := .int s) G 0 (by decide) in_X7 rfl q653 (fun _ h => h) (fun ws h => ⟨_, (h.2.2.2.1 _ hm).1, rfl⟩) dX7_worth_17 ?_
  rcases hs with rfl | rfl | rfl | rfl | rfl | rfl | rfl
  · refine v_lookup (tgt := 80) G dX7_worth_20 (by decide) rfl (by decide) ?_
    refine v_iload_n G 1 dX7_worth_80 rfl ?_
    refine v_iload_n G 0 dX7_worth_81 rfl ?_
    refine v_iadd G dX7_worth_82 ?_
    refine RET _ _ _ _ _ _ rfl (Nat.le_of_ble_eq_true rfl) (Nat.le_of_ble_eq_true rfl) dX7_worth_83 (fun ws hws => ⟨_, hws, ?_⟩)
    clear RET G hT hnm
    refine ⟨?_, rfl⟩
    show opN 43 g h (x_env σ p) = _
    unfold opN
    rw [if_pos rfl]
  · refine v_lookup (tgt := 84) G dX7_worth_20 (by decide) rfl (by decide) ?_
    refine v_iload_n G 1 dX7_worth_84 rfl ?_
    refine v_iload_n G 0 dX7_worth_85 rfl ?_
    refine v_isub G dX7_worth_86 ?_
    refine RET _ _ _ _ _ _ rfl (Nat.le_of_ble_eq_true rfl) (Nat.le_of_ble_eq_true rfl) dX7_worth_87 (fun ws hws => ⟨_, hws, ?_⟩)
    clear RET G hT hnm
    refine ⟨?_, rfl⟩
    show opN 45 g h (x_env σ p) = _
    unfold opN
    rw [if_neg (by decide), if_pos rfl]
  · refine v_lookup (tgt := 88) G dX7_worth_20 (by decide) rfl (by decide) ?_
    refine v_iload_n G 1 dX7_worth_88 rfl ?_
    refine v_iload_n G 0 dX7_worth_89 rfl ?_
    refine v_imul G dX7_worth_90 ?_
    refine RET _ _ _ _ _ _ rfl (Nat.le_of_ble_eq_true rfl) (Nat.le_of_ble_eq_true rfl) dX7_worth_91 (fun ws hws => ⟨_, hws, ?_⟩)
    clear RET G hT hnm
    refine ⟨?_, rfl⟩
    show opN 42 g h (x_env σ p) = _
    unfold opN
    rw [if_neg (by decide), if_neg (by decide), if_pos rfl]
  · refine v_lookup (tgt := 92) G dX7_worth_20 (by decide) rfl (by decide) ?_
    refine v_iload_n G 1 dX7_worth_92 rfl ?_
    refine v_iload_n G 0 dX7_worth_93 rfl ?_
    refine v_icmp_ge (tgt := 101) G dX7_worth_94 (by decide) (fun h94 => ?_) (fun h94 => ?_)
    · refine v_iconst (v := 0) G dX7_worth_101 rfl ?_
      refine RET _ _ _ _ _ _ rfl (Nat.le_of_ble_eq_true rfl) (Nat.le_of_ble_eq_true rfl) dX7_worth_102 (fun ws hws => ⟨_, hws, ?_⟩)
      clear RET G hT hnm
      refine ⟨?_, rfl⟩
      show opN 60 g h (x_env σ p) = _
      unfold opN
      rw [if_neg (by decide), if_neg (by decide), if_neg (by decide), if_pos rfl]
      first | (rw [if_pos (by first | exact Int32.not_le.mp h94 | assumption)]; done) | (rw [if_neg (by first | exact Int32.not_lt.mpr h94 | assumption)]; done)
    · refine v_iconst (v := 1) G dX7_worth_97 rfl ?_
      refine v_goto (tgt := 102) G dX7_worth_98 (by decide) ?_
      refine RET _ _ _ _ _ _ rfl (Nat.le_of_ble_eq_true rfl) (Nat.le_of_ble_eq_true rfl) dX7_worth_102 (fun ws hws => ⟨_, hws, ?_⟩)
      clear RET G hT hnm
      refine ⟨?_, rfl⟩
      show opN 60 g h (x_env σ p) = _
      unfold opN
      rw [if_neg (by decide), if_neg (by decide), if_neg (by decide), if_pos rfl]
      first | (rw [if_pos (by first | exact Int32.not_le.mp h94 | assumption)]; done) | (rw [if_neg (by first | exact Int32.not_lt.mpr h94 | assumption)]; done)
  · refine v_lookup (tgt := 103) G dX7_worth_20 (by decide) rfl (by decide) ?_
    refine v_iload_n G 1 dX7_worth_103 rfl ?_
    refine v_iload_n G 0 dX7_worth_104 rfl ?_
    refine v_icmp_ne (tgt := 112) G dX7_worth_105 (by decide) (fun h105 => ?_) (fun h105 => ?_)
    · refine v_iconst (v := 0) G dX7_worth_112 rfl ?_
      refine RET _ _ _ _ _ _ rfl (Nat.le_of_ble_eq_true rfl) (Nat.le_of_ble_eq_true rfl) dX7_worth_113 (fun ws hws => ⟨_, hws, ?_⟩)
      clear RET G hT hnm
      refine ⟨?_, rfl⟩
      show opN 61 g h (x_env σ p) = _
      unfold opN
      rw [if_neg (by decide), if_neg (by decide), if_neg (by decide), if_neg (by decide), if_pos rfl]
      first | (rw [if_pos h105]; done) | (rw [if_neg h105]; done)
    · refine v_iconst (v := 1) G dX7_worth_108 rfl ?_
      refine v_goto (tgt := 113) G dX7_worth_109 (by decide) ?_
      refine RET _ _ _ _ _ _ rfl (Nat.le_of_ble_eq_true rfl) (Nat.le_of_ble_eq_true rfl) dX7_worth_113 (fun ws hws => ⟨_, hws, ?_⟩)
      clear RET G hT hnm
      refine ⟨?_, rfl⟩
      show opN 61 g h (x_env σ p) = _
      unfold opN
      rw [if_neg (by decide), if_neg (by decide), if_neg (by decide), if_neg (by decide), if_pos rfl]
      first | (rw [if_pos h105]; done) | (rw [if_neg h105]; done)
  · refine v_lookup (tgt := 114) G dX7_worth_20 (by decide) rfl (by decide) ?_
    refine v_iload_n G 1 dX7_worth_114 rfl ?_
    refine v_if_eq (tgt := 126) G dX7_worth_115 (by decide) (fun h115 => ?_) (fun h115 => ?_)
    · refine v_iconst (v := 0) G dX7_worth_126 rfl ?_
      refine RET _ _ _ _ _ _ rfl (Nat.le_of_ble_eq_true rfl) (Nat.le_of_ble_eq_true rfl) dX7_worth_127 (fun ws hws => ⟨_, hws, ?_⟩)
      clear RET G hT hnm
      refine ⟨?_, rfl⟩
      show opN 38 g h (x_env σ p) = _
      unfold opN
      rw [if_neg (by decide), if_neg (by decide), if_neg (by decide), if_neg (by decide), if_neg (by decide), if_pos rfl]
      first | (rw [if_pos ⟨h115, h119⟩]; done) | (rw [if_neg (fun z => z.1 h115)]; done) | (rw [if_neg (fun z => z.2 h119)]; done)
    · refine v_iload_n G 0 dX7_worth_118 rfl ?_
      refine v_if_eq (tgt := 126) G dX7_worth_119 (by decide) (fun h119 => ?_) (fun h119 => ?_)
      · refine v_iconst (v := 0) G dX7_worth_126 rfl ?_
        refine RET _ _ _ _ _ _ rfl (Nat.le_of_ble_eq_true rfl) (Nat.le_of_ble_eq_true rfl) dX7_worth_127 (fun ws hws => ⟨_, hws, ?_⟩)
        clear RET G hT hnm
        refine ⟨?_, rfl⟩
        show opN 38 g h (x_env σ p) = _
        unfold opN
        rw [if_neg (by decide), if_neg (by decide), if_neg (by decide), if_neg (by decide), if_neg (by decide), if_pos rfl]
        first | (rw [if_pos ⟨h115, h119⟩]; done) | (rw [if_neg (fun z => z.1 h115)]; done) | (rw [if_neg (fun z => z.2 h119)]; done)
      · refine v_iconst (v := 1) G dX7_worth_122 rfl ?_
        refine v_goto (tgt := 127) G dX7_worth_123 (by decide) ?_
        refine RET _ _ _ _ _ _ rfl (Nat.le_of_ble_eq_true rfl) (Nat.le_of_ble_eq_true rfl) dX7_worth_127 (fun ws hws => ⟨_, hws, ?_⟩)
        clear RET G hT hnm
        refine ⟨?_, rfl⟩
        show opN 38 g h (x_env σ p) = _
        unfold opN
        rw [if_neg (by decide), if_neg (by decide), if_neg (by decide), if_neg (by decide), if_neg (by decide), if_pos rfl]
        first | (rw [if_pos ⟨h115, h119⟩]; done) | (rw [if_neg (fun z => z.1 h115)]; done) | (rw [if_neg (fun z => z.2 h119)]; done)
  · refine v_lookup (tgt := 128) G dX7_worth_20 (by decide) rfl (by decide) ?_
    refine v_iload_n G 1 dX7_worth_128 rfl ?_
    refine v_if_ne (tgt := 136) G dX7_worth_129 (by decide) (fun h129 => ?_) (fun h129 => ?_)
    · refine v_iconst (v := 1) G dX7_worth_136 rfl ?_
      refine v_goto (tgt := 141) G dX7_worth_137 (by decide) ?_
      refine RET _ _ _ _ _ _ rfl (Nat.le_of_ble_eq_true rfl) (Nat.le_of_ble_eq_true rfl) dX7_worth_141 (fun ws hws => ⟨_, hws, ?_⟩)
      clear RET G hT hnm
      refine ⟨?_, rfl⟩
      show opN 124 g h (x_env σ p) = _
      unfold opN
      rw [if_neg (by decide), if_neg (by decide), if_neg (by decide), if_neg (by decide), if_neg (by decide), if_neg (by decide)]
      first | (rw [if_pos (Or.inl h129)]; done) | (rw [if_pos (Or.inr h133)]; done) | (rw [if_neg (by rintro (z | z); exact z h129; exact z h133)]; done)
    · refine v_iload_n G 0 dX7_worth_132 rfl ?_
      refine v_if_eq (tgt := 140) G dX7_worth_133 (by decide) (fun h133 => ?_) (fun h133 => ?_)
      · refine v_iconst (v := 0) G dX7_worth_140 rfl ?_
        refine RET _ _ _ _ _ _ rfl (Nat.le_of_ble_eq_true rfl) (Nat.le_of_ble_eq_true rfl) dX7_worth_141 (fun ws hws => ⟨_, hws, ?_⟩)
        clear RET G hT hnm
        refine ⟨?_, rfl⟩
        show opN 124 g h (x_env σ p) = _
        unfold opN
        rw [if_neg (by decide), if_neg (by decide), if_neg (by decide), if_neg (by decide), if_neg (by decide), if_neg (by decide)]
        first | (rw [if_pos (Or.inl h129)]; done) | (rw [if_pos (Or.inr h133)]; done) | (rw [if_neg (by rintro (z | z); exact z h129; exact z h133)]; done)
      · refine v_iconst (v := 1) G dX7_worth_136 rfl ?_
        refine v_goto (tgt := 141) G dX7_worth_137 (by decide) ?_
        refine RET _ _ _ _ _ _ rfl (Nat.le_of_ble_eq_true rfl) (Nat.le_of_ble_eq_true rfl) dX7_worth_141 (fun ws hws => ⟨_, hws, ?_⟩)
        clear RET G hT hnm
        refine ⟨?_, rfl⟩
        show opN 124 g h (x_env σ p) = _
        unfold opN
        rw [if_neg (by decide), if_neg (by decide), if_neg (by decide), if_neg (by decide), if_neg (by decide), if_neg (by decide)]
        first | (rw [if_pos (Or.inl h129)]; done) | (rw [if_pos (Or.inr h133)]; done) | (rw [if_neg (by rintro (z | z); exact z h129; exact z h133)]; done)
theorem WC_of {KT : (Nat → Prop) → State → Heap → Prop} (hK : KTx KT) (l : Launch) (dC : Nat → ClassId) (dI : Nat → Nat → Nat) (ct ad : Nat → Nat) (F : List (Nat × va_E)) : ∀ (d a : Nat) (f : SF), NR ad F d a f → WC KT l dC dI ct ad F d a f
  | 0, _, _, h => False.elim h
  | d + 1, a, f, h => by
    rcases h with ⟨v, hm, rfl⟩ | ⟨w, hw, hm, rfl⟩ | ⟨b, g, hm, hb, rfl⟩ | ⟨b, g, hm, hb, rfl⟩ | ⟨s, b, c, g, h, hs, hm, hb, hc, rfl⟩
    · exact Or.inl ⟨_, hm, fun σ p hO hp1 hp => wX5_worth hK l dC dI ct ad F σ d a p v hO hp1 hp hm⟩
    · exact Or.inr (Or.inl ⟨_, hm, fun σ p hO hp1 hp => wX6_worth hK l dC dI ct ad F σ d a p w hw hO hp1 hp hm⟩)
    · exact Or.inr (Or.inr (Or.inl ⟨_, hm, fun σ p hO hp1 hp => wX4_minus hK l dC dI ct ad F σ d a p b g hO hp1 hp hm (WC_of hK l dC dI ct ad F d b g hb)⟩))
    · exact Or.inr (Or.inr (Or.inl ⟨_, hm, fun σ p hO hp1 hp => wX4_nots hK l dC dI ct ad F σ d a p b g hO hp1 hp hm (WC_of hK l dC dI ct ad F d b g hb)⟩))
    · exact Or.inr (Or.inr (Or.inr ⟨_, hm, fun σ p hO hp1 hp => wX7_worth hK l dC dI ct ad F σ d a p s b c g h hO hp1 hp hm hs (WC_of hK l dC dI ct ad F d b g hb) (WC_of hK l dC dI ct ad F d c h hc)⟩))
