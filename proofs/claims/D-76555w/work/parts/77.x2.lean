set_option maxRecDepth 100000
abbrev rmX0_mostOf : Room := { frames := 0, cells := 0, slots := 0, locals := 0 }
set_option maxHeartbeats 1000000 in
theorem kX0_mostOf {KT : (Nat → Prop) → State → Heap → Prop} (hK : KTok KT) (l : Launch) (dC : Nat → ClassId) (dI : Nat → Nat → Nat) (ct ad : Nat → Nat) (F : List (Nat × va_E)) (σ : MS) (k : Nat) (hk : k ≤ 6) : MC KT (dC, dI) vwCl (tysF ct) l yX0_mostOf cX0_mostOf 1 (some .int) rmX0_mostOf [.int (nI k)] (RX ct ad F σ) (QI_ (dC, dI) vwCl (RX ct ad F) (fun (r : Int32) (σ' : MS) => (s_most k) = r ∧ σ = σ')) := by
  refine MC.ofI (own := RX0) pl_X0 rfl (Nat.le_of_ble_eq_true rfl) ?_
  intro pp ee ss mm aa bb hh cc AA QQ G hT hnm RET
  refine v_loc (L' := [(0, .int (nI k))]) rfl ?_
  refine v_iload_n G 0 dX0_mostOf_0 rfl ?_
  rcases (show k = 0 ∨ k = 1 ∨ k = 2 ∨ k = 3 ∨ k = 4 ∨ k = 5 ∨ k = 6 by omega) with rfl | rfl | rfl | rfl | rfl | rfl | rfl
  · refine v_topr (x2 := .int 0) (congrArg Value.int (show nI 0 = 0 from rfl)) ?_
    refine v_tableIn (tgt := 40) G dX0_mostOf_1 (by decide) (by decide) rfl (by decide) ?_
    refine v_bipush (v := 11) G dX0_mostOf_40 rfl ?_
    refine RET _ _ _ _ _ _ rfl (Nat.le_of_ble_eq_true rfl) (Nat.le_of_ble_eq_true rfl) dX0_mostOf_42 (fun ws hws => ⟨_, hws, ?_⟩)
    clear RET G hT hnm
    exact ⟨rfl, rfl⟩
  · refine v_topr (x2 := .int 1) (congrArg Value.int (show nI 1 = 1 from rfl)) ?_
    refine v_tableIn (tgt := 49) G dX0_mostOf_1 (by decide) (by decide) rfl (by decide) ?_
    refine v_sipush (v := 999) G dX0_mostOf_49 rfl ?_
    refine RET _ _ _ _ _ _ rfl (Nat.le_of_ble_eq_true rfl) (Nat.le_of_ble_eq_true rfl) dX0_mostOf_52 (fun ws hws => ⟨_, hws, ?_⟩)
    clear RET G hT hnm
    exact ⟨rfl, rfl⟩
  · refine v_topr (x2 := .int 2) (congrArg Value.int (show nI 2 = 2 from rfl)) ?_
    refine v_tableIn (tgt := 49) G dX0_mostOf_1 (by decide) (by decide) rfl (by decide) ?_
    refine v_sipush (v := 999) G dX0_mostOf_49 rfl ?_
    refine RET _ _ _ _ _ _ rfl (Nat.le_of_ble_eq_true rfl) (Nat.le_of_ble_eq_true rfl) dX0_mostOf_52 (fun ws hws => ⟨_, hws, ?_⟩)
    clear RET G hT hnm
    exact ⟨rfl, rfl⟩
  · refine v_topr (x2 := .int 3) (congrArg Value.int (show nI 3 = 3 from rfl)) ?_
    refine v_tableIn (tgt := 43) G dX0_mostOf_1 (by decide) (by decide) rfl (by decide) ?_
    refine v_bipush (v := 9) G dX0_mostOf_43 rfl ?_
    refine RET _ _ _ _ _ _ rfl (Nat.le_of_ble_eq_true rfl) (Nat.le_of_ble_eq_true rfl) dX0_mostOf_45 (fun ws hws => ⟨_, hws, ?_⟩)
    clear RET G hT hnm
    exact ⟨rfl, rfl⟩
  · refine v_topr (x2 := .int 4) (congrArg Value.int (show nI 4 = 4 from rfl)) ?_
    refine v_tableIn (tgt := 40) G dX0_mostOf_1 (by decide) (by decide) rfl (by decide) ?_
    refine v_bipush (v := 11) G dX0_mostOf_40 rfl ?_
    refine RET _ _ _ _ _ _ rfl (Nat.le_of_ble_eq_true rfl) (Nat.le_of_ble_eq_true rfl) dX0_mostOf_42 (fun ws hws => ⟨_, hws, ?_⟩)
    clear RET G hT hnm
    exact ⟨rfl, rfl⟩
  · refine v_topr (x2 := .int 5) (congrArg Value.int (show nI 5 = 5 from rfl)) ?_
    refine v_tableIn (tgt := 46) G dX0_mostOf_1 (by decide) (by decide) rfl (by decide) ?_
    refine v_bipush (v := 99) G dX0_mostOf_46 rfl ?_
    refine RET _ _ _ _ _ _ rfl (Nat.le_of_ble_eq_true rfl) (Nat.le_of_ble_eq_true rfl) dX0_mostOf_48 (fun ws hws => ⟨_, hws, ?_⟩)
    clear RET G hT hnm
    exact ⟨rfl, rfl⟩
  · refine v_topr (x2 := .int 6) (congrArg Value.int (show nI 6 = 6 from rfl)) ?_
    refine v_tableOut (tgt := 49) G dX0_mostOf_1 (by decide) (by decide) ?_
    refine v_sipush (v := 999) G dX0_mostOf_49 rfl ?_
    refine RET _ _ _ _ _ _ rfl (Nat.le_of_ble_eq_true rfl) (Nat.le_of_ble_eq_true rfl) dX0_mostOf_52 (fun ws hws => ⟨_, hws, ?_⟩)
    clear RET G hT hnm
    exact ⟨rfl, rfl⟩
abbrev rmX0_heldBy : Room := { frames := 0, cells := 0, slots := 0, locals := 0 }
set_option maxHeartbeats 1000000 in
theorem kX0_heldBy {KT : (Nat → Prop) → State → Heap → Prop} (hK : KTok KT) (l : Launch) (dC : Nat → ClassId) (dI : Nat → Nat → Nat) (ct ad : Nat → Nat) (F : List (Nat × va_E)) (σ : MS) (k : Nat) (x : Int32) (hO : Ok (co σ)) (hk : k ≤ 6) (hx : s_isOf (co σ) k x) : MC KT (dC, dI) vwCl (tysF ct) l yX0_heldBy cX0_heldBy 3 (some .int) rmX0_heldBy [.ref (ad 0), .int (nI k), .int x] (RX ct ad F σ) (QI_ (dC, dI) vwCl (RX ct ad F) (fun (r : Int32) (σ' : MS) => (s_told1 (co σ) x k) = r ∧ σ = σ')) := by
  refine MC.ofI (own := RX0) pl_X0 rfl (Nat.le_of_ble_eq_true rfl) ?_
  intro pp ee ss mm aa bb hh cc AA QQ G hT hnm RET
  refine v_loc (L' := [(0, .ref (ad 0)), (1, .int (nI k)), (2, .int x)]) rfl ?_
  obtain ⟨hm5, hm⟩ := many5 hO.1
  have hm : σ.1 11 0 = nI (s_many (co σ)) := hm
  refine v_iload_n G 1 dX0_heldBy_0 rfl ?_
  rcases (show k = 0 ∨ k = 1 ∨ k = 2 ∨ k = 3 ∨ k = 4 ∨ k = 5 ∨ k = 6 by omega) with rfl | rfl | rfl | rfl | rfl | rfl | rfl
  · refine v_topr (x2 := .int 0) (congrArg Value.int (show nI 0 = 0 from rfl)) ?_
    refine v_tableIn (tgt := 40) G dX0_heldBy_1 (by decide) (by decide) rfl (by decide) ?_
    obtain ⟨j, hj, ej⟩ := rg_nat (n := 23) (isOf_jar hx (by decide) (by decide)) (by decide)
    have ejn : n_ x = j := by rw [ej]; exact nI_clamp (by omega)
    refine v_aload_n G 0 dX0_heldBy_40 rfl ?_
    refine x_get (v := .ref (ad 8)) G 3 (by decide) rfl q791 rfl dX0_heldBy_41 ?_
    refine v_iload_n G 2 dX0_heldBy_44 rfl ?_
    refine x_iald G 8 rfl (j) ej (show j < 24 by first | omega | assumption | decide) dX0_heldBy_45 ?_
    refine RET _ _ _ _ _ _ rfl (Nat.le_of_ble_eq_true rfl) (Nat.le_of_ble_eq_true rfl) dX0_heldBy_46 (fun ws hws => ⟨_, hws, ?_⟩)
    clear RET G hT hnm
    exact ⟨by show co σ 8 (n_ x) = _; rw [ejn]; rfl, rfl⟩
  · refine v_topr (x2 := .int 1) (congrArg Value.int (show nI 1 = 1 from rfl)) ?_
    refine v_tableIn (tgt := 47) G dX0_heldBy_1 (by decide) (by decide) rfl (by decide) ?_
    obtain ⟨j, hj, ej⟩ := rg_nat (n := 23) (isOf_jar hx (by decide) (by decide)) (by decide)
    have ejn : n_ x = j := by rw [ej]; exact nI_clamp (by omega)
    refine v_aload_n G 0 dX0_heldBy_47 rfl ?_
    refine x_get (v := .ref (ad 9)) G 4 (by decide) rfl q792 rfl dX0_heldBy_48 ?_
    refine v_iload_n G 2 dX0_heldBy_51 rfl ?_
    refine x_iald G 9 rfl (j) ej (show j < 24 by first | omega | assumption | decide) dX0_heldBy_52 ?_
    refine RET _ _ _ _ _ _ rfl (Nat.le_of_ble_eq_true rfl) (Nat.le_of_ble_eq_true rfl) dX0_heldBy_53 (fun ws hws => ⟨_, hws, ?_⟩)
    clear RET G hT hnm
    exact ⟨by show co σ 9 (n_ x) = _; rw [ejn]; rfl, rfl⟩
  · refine v_topr (x2 := .int 2) (congrArg Value.int (show nI 2 = 2 from rfl)) ?_
    refine v_tableIn (tgt := 54) G dX0_heldBy_1 (by decide) (by decide) rfl (by decide) ?_
    refine v_aload_n G 0 dX0_heldBy_54 rfl ?_
    refine x_get (v := .int (σ.1 7 0)) G 2 (by decide) rfl q790 rfl dX0_heldBy_55 ?_
    refine RET _ _ _ _ _ _ rfl (Nat.le_of_ble_eq_true rfl) (Nat.le_of_ble_eq_true rfl) dX0_heldBy_58 (fun ws hws => ⟨_, hws, ?_⟩)
    clear RET G hT hnm
    exact ⟨rfl, rfl⟩
  · refine v_topr (x2 := .int 3) (congrArg Value.int (show nI 3 = 3 from rfl)) ?_
    refine v_tableIn (tgt := 59) G dX0_heldBy_1 (by decide) (by decide) rfl (by decide) ?_
    obtain ⟨j, hj, ej⟩ := rg_lt (isOf_one hx (by decide) (by decide)) (by omega)
    have ejn : n_ x = j := by rw [ej]; exact nI_clamp (by omega)
    refine v_aload_n G 0 dX0_heldBy_59 rfl ?_
    refine x_get (v := .ref (ad 100)) G 0 (by decide) rfl q787 rfl dX0_heldBy_60 ?_
    refine v_iload_n G 2 dX0_heldBy_63 rfl ?_
    refine x_fald G (j) ej (show j < n_ (σ.1 11 0) from (by exact (show j < s_many (co σ) by omega))) (by omega) dX0_heldBy_64 ?_
    refine x_lg (v := σ.1 10 (5 * j)) G 0 j (by decide) (show j < n_ (σ.1 11 0) from (by exact (show j < s_many (co σ) by omega))) (kd_of hO (by omega)) (rfl) q191 dX0_heldBy_65 ?_
    refine RET _ _ _ _ _ _ rfl (Nat.le_of_ble_eq_true rfl) (Nat.le_of_ble_eq_true rfl) dX0_heldBy_68 (fun ws hws => ⟨_, hws, ?_⟩)
    clear RET G hT hnm
    exact ⟨by show co σ 10 (5 * n_ x + 3 - 3) = _; rw [ejn]; rfl, rfl⟩
  · refine v_topr (x2 := .int 4) (congrArg Value.int (show nI 4 = 4 from rfl)) ?_
    refine v_tableIn (tgt := 69) G dX0_heldBy_1 (by decide) (by decide) rfl (by decide) ?_
    obtain ⟨j, hj, ej⟩ := rg_lt (isOf_one hx (by decide) (by decide)) (by omega)
    have ejn : n_ x = j := by rw [ej]; exact nI_clamp (by omega)
    refine v_aload_n G 0 dX0_heldBy_69 rfl ?_
    refine x_get (v := .ref (ad 100)) G 0 (by decide) rfl q787 rfl dX0_heldBy_70 ?_
    refine v_iload_n G 2 dX0_heldBy_73 rfl ?_
    refine x_fald G (j) ej (show j < n_ (σ.1 11 0) from (by exact (show j < s_many (co σ) by omega))) (by omega) dX0_heldBy_74 ?_
    refine x_lg (v := σ.1 10 (5 * j + 1)) G 1 j (by decide) (show j < n_ (σ.1 11 0) from (by exact (show j < s_many (co σ) by omega))) (kd_of hO (by omega)) (rfl) q196 dX0_heldBy_75 ?_
    refine RET _ _ _ _ _ _ rfl (Nat.le_of_ble_eq_true rfl) (Nat.le_of_ble_eq_true rfl) dX0_heldBy_78 (fun ws hws => ⟨_, hws, ?_⟩)
    clear RET G hT hnm
    exact ⟨by show co σ 10 (5 * n_ x + 4 - 3) = _; rw [ejn]; rfl, rfl⟩
  · refine v_topr (x2 := .int 5) (congrArg Value.int (show nI 5 = 5 from rfl)) ?_
    refine v_tableIn (tgt := 79) G dX0_heldBy_1 (by decide) (by decide) rfl (by decide) ?_
    obtain ⟨j, hj, ej⟩ := rg_lt (isOf_one hx (by decide) (by decide)) (by omega)
    have ejn : n_ x = j := by rw [ej]; exact nI_clamp (by omega)
    refine v_aload_n G 0 dX0_heldBy_79 rfl ?_
    refine x_get (v := .ref (ad 100)) G 0 (by decide) rfl q787 rfl dX0_heldBy_80 ?_
    refine v_iload_n G 2 dX0_heldBy_83 rfl ?_
    refine x_fald G (j) ej (show j < n_ (σ.1 11 0) from (by exact (show j < s_many (co σ) by omega))) (by omega) dX0_heldBy_84 ?_
    refine x_lg (v := σ.1 10 (5 * j + 2)) G 2 j (by decide) (show j < n_ (σ.1 11 0) from (by exact (show j < s_many (co σ) by omega))) (kd_of hO (by omega)) (rfl) q201 dX0_heldBy_85 ?_
    refine RET _ _ _ _ _ _ rfl (Nat.le_of_ble_eq_true rfl) (Nat.le_of_ble_eq_true rfl) dX0_heldBy_88 (fun ws hws => ⟨_, hws, ?_⟩)
    clear RET G hT hnm
    exact ⟨by show co σ 10 (5 * n_ x + 5 - 3) = _; rw [ejn]; rfl, rfl⟩
  · refine v_topr (x2 := .int 6) (congrArg Value.int (show nI 6 = 6 from rfl)) ?_
    refine v_tableOut (tgt := 89) G dX0_heldBy_1 (by decide) (by decide) ?_
    obtain ⟨j, hj, ej⟩ := rg_lt (isOf_one hx (by decide) (by decide)) (by omega)
    have ejn : n_ x = j := by rw [ej]; exact nI_clamp (by omega)
    refine v_aload_n G 0 dX0_heldBy_89 rfl ?_
    refine x_get (v := .ref (ad 100)) G 0 (by decide) rfl q787 rfl dX0_heldBy_90 ?_
    refine v_iload_n G 2 dX0_heldBy_93 rfl ?_
    refine x_fald G (j) ej (show j < n_ (σ.1 11 0) from (by exact (show j < s_many (co σ) by omega))) (by omega) dX0_heldBy_94 ?_
    refine x_lg (v := σ.1 10 (5 * j + 3)) G 3 j (by decide) (show j < n_ (σ.1 11 0) from (by exact (show j < s_many (co σ) by omega))) (kd_of hO (by omega)) (rfl) q206 dX0_heldBy_95 ?_
    refine RET _ _ _ _ _ _ rfl (Nat.le_of_ble_eq_true rfl) (Nat.le_of_ble_eq_true rfl) dX0_heldBy_98 (fun ws hws => ⟨_, hws, ?_⟩)
    clear RET G hT hnm
    exact ⟨by show co σ 10 (5 * n_ x + 6 - 3) = _; rw [ejn]; rfl, rfl⟩
abbrev rmX0_becomes : Room := { frames := 0, cells := 0, slots := 0, locals := 0 }
set_option maxHeartbeats 1000000 in
theorem kX0_becomes {KT : (Nat → Prop) → State → Heap → Prop} (hK : KTok KT) (l : Launch) (dC : Nat → ClassId) (dI : Nat → Nat → Nat) (ct ad : Nat → Nat) (F : List (Nat × va_E)) (σ : MS) (k : Nat) (x : Int32) (v : Int32) (hO : Ok (co σ)) (hk : k ≤ 6) (hx : s_isOf (co σ) k x) : MC KT (dC, dI) vwCl (tysF ct) l yX0_becomes cX0_becomes 4 none rmX0_becomes [.ref (ad 0), .int (nI k), .int x, .int v] (RX ct ad F σ) (QV_ (dC, dI) vwCl (RX ct ad F) (fun (σ' : MS) => co σ' = s_lay (co σ) k x v ∧ ag [4, 7, 8, 9, 10] σ σ')) := by
  refine MC.ofV (own := RX0) pl_X0 rfl (Nat.le_of_ble_eq_true rfl) ?_
  intro pp ee ss mm aa bb hh cc AA QQ G hT hnm RET
  refine v_loc (L' := [(0, .ref (ad 0)), (1, .int (nI k)), (2, .int x), (3, .int v)]) rfl ?_
  obtain ⟨hm5, hm⟩ := many5 hO.1
  have hm : σ.1 11 0 = nI (s_many (co σ)) := hm
  refine v_iload_n G 1 dX0_becomes_0 rfl ?_
  rcases (show k = 0 ∨ k = 1 ∨ k = 2 ∨ k = 3 ∨ k = 4 ∨ k = 5 ∨ k = 6 by omega) with rfl | rfl | rfl | rfl | rfl | rfl | rfl
  · refine v_topr (x2 := .int 0) (congrArg Value.int (show nI 0 = 0 from rfl)) ?_
    refine v_tableIn (tgt := 40) G dX0_becomes_1 (by decide) (by decide) rfl (by decide) ?_
    obtain ⟨j, hj, ej⟩ := rg_nat (n := 23) (isOf_jar hx (by decide) (by decide)) (by decide)
    have ejn : n_ x = j := by rw [ej]; exact nI_clamp (by omega)
    refine v_aload_n G 0 dX0_becomes_40 rfl ?_
    refine x_get (v := .ref (ad 8)) G 3 (by decide) rfl q791 rfl dX0_becomes_41 ?_
    refine v_iload_n G 2 dX0_becomes_44 rfl ?_
    refine v_iload_n G 3 dX0_becomes_45 rfl ?_
    refine x_iast G 8 rfl rfl (j) ej (show j < 24 by first | omega | assumption | decide) dX0_becomes_46 ?_
    refine v_goto (tgt := 117) G dX0_becomes_47 (by decide) ?_
    refine RET _ _ _ _ _ (Nat.le_of_ble_eq_true rfl) (Nat.le_of_ble_eq_true rfl) dX0_becomes_117 (fun ws hws => ⟨_, hws, ?_⟩)
    clear RET G hT hnm
    refine ⟨?_, ag_set (by decide)⟩
    rw [co_set (by decide)]
    show _ = upd2 (co σ) 8 (n_ x) v
    rw [ejn]
  · refine v_topr (x2 := .int 1) (congrArg Value.int (show nI 1 = 1 from rfl)) ?_
    refine v_tableIn (tgt := 50) G dX0_becomes_1 (by decide) (by decide) rfl (by decide) ?_
    obtain ⟨j, hj, ej⟩ := rg_nat (n := 23) (isOf_jar hx (by decide) (by decide)) (by decide)
    have ejn : n_ x = j := by rw [ej]; exact nI_clamp (by omega)
    refine v_aload_n G 0 dX0_becomes_50 rfl ?_
    refine x_get (v := .ref (ad 9)) G 4 (by decide) rfl q792 rfl dX0_becomes_51 ?_
    refine v_iload_n G 2 dX0_becomes_54 rfl ?_
    refine v_iload_n G 3 dX0_becomes_55 rfl ?_
    refine x_iast G 9 rfl rfl (j) ej (show j < 24 by first | omega | assumption | decide) dX0_becomes_56 ?_
    refine v_goto (tgt := 117) G dX0_becomes_57 (by decide) ?_
    refine RET _ _ _ _ _ (Nat.le_of_ble_eq_true rfl) (Nat.le_of_ble_eq_true rfl) dX0_becomes_117 (fun ws hws => ⟨_, hws, ?_⟩)
    clear RET G hT hnm
    refine ⟨?_, ag_set (by decide)⟩
    rw [co_set (by decide)]
    show _ = upd2 (co σ) 9 (n_ x) v
    rw [ejn]
  · refine v_topr (x2 := .int 2) (congrArg Value.int (show nI 2 = 2 from rfl)) ?_
    refine v_tableIn (tgt := 60) G dX0_becomes_1 (by decide) (by decide) rfl (by decide) ?_
    refine v_aload_n G 0 dX0_becomes_60 rfl ?_
    refine v_iload_n G 3 dX0_becomes_61 rfl ?_
    refine x_putI G 2 7 (by decide) (by decide) rfl q790 rfl rfl rfl dX0_becomes_62 ?_
    refine v_goto (tgt := 117) G dX0_becomes_65 (by decide) ?_
    refine RET _ _ _ _ _ (Nat.le_of_ble_eq_true rfl) (Nat.le_of_ble_eq_true rfl) dX0_becomes_117 (fun ws hws => ⟨_, hws, ?_⟩)
    clear RET G hT hnm
    refine ⟨?_, ag_set (by decide)⟩
    rw [co_set (by decide)]
    rfl
  · refine v_topr (x2 := .int 3) (congrArg Value.int (show nI 3 = 3 from rfl)) ?_
    refine v_tableIn (tgt := 68) G dX0_becomes_1 (by decide) (by decide) rfl (by decide) ?_
    obtain ⟨j, hj, ej⟩ := rg_lt (isOf_one hx (by decide) (by decide)) (by omega)
    have ejn : n_ x = j := by rw [ej]; exact nI_clamp (by omega)
    refine v_aload_n G 0 dX0_becomes_68 rfl ?_
    refine x_get (v := .ref (ad 100)) G 0 (by decide) rfl q787 rfl dX0_becomes_69 ?_
    refine v_iload_n G 2 dX0_becomes_72 rfl ?_
    refine x_fald G (j) ej (show j < n_ (σ.1 11 0) from (by exact (show j < s_many (co σ) by omega))) (by omega) dX0_becomes_73 ?_
    refine v_iload_n G 3 dX0_becomes_74 rfl ?_
    refine x_lp G 0 j (by decide) (show j < n_ (σ.1 11 0) from (by exact (show j < s_many (co σ) by omega))) (kd_of hO (by omega)) q191 dX0_becomes_75 ?_
    refine v_goto (tgt := 117) G dX0_becomes_78 (by decide) ?_
    refine RET _ _ _ _ _ (Nat.le_of_ble_eq_true rfl) (Nat.le_of_ble_eq_true rfl) dX0_becomes_117 (fun ws hws => ⟨_, hws, ?_⟩)
    clear RET G hT hnm
    refine ⟨?_, ag_set (by decide)⟩
    rw [co_set (by decide)]
    show _ = upd2 (co σ) 10 (5 * n_ x + 3 - 3) v
    rw [ejn]
    rfl
  · refine v_topr (x2 := .int 4) (congrArg Value.int (show nI 4 = 4 from rfl)) ?_
    refine v_tableIn (tgt := 81) G dX0_becomes_1 (by decide) (by decide) rfl (by decide) ?_
    obtain ⟨j, hj, ej⟩ := rg_lt (isOf_one hx (by decide) (by decide)) (by omega)
    have ejn : n_ x = j := by rw [ej]; exact nI_clamp (by omega)
    refine v_aload_n G 0 dX0_becomes_81 rfl ?_
    refine x_get (v := .ref (ad 100)) G 0 (by decide) rfl q787 rfl dX0_becomes_82 ?_
    refine v_iload_n G 2 dX0_becomes_85 rfl ?_
    refine x_fald G (j) ej (show j < n_ (σ.1 11 0) from (by exact (show j < s_many (co σ) by omega))) (by omega) dX0_becomes_86 ?_
    refine v_iload_n G 3 dX0_becomes_87 rfl ?_
    refine x_lp G 1 j (by decide) (show j < n_ (σ.1 11 0) from (by exact (show j < s_many (co σ) by omega))) (kd_of hO (by omega)) q196 dX0_becomes_88 ?_
    refine v_goto (tgt := 117) G dX0_becomes_91 (by decide) ?_
    refine RET _ _ _ _ _ (Nat.le_of_ble_eq_true rfl) (Nat.le_of_ble_eq_true rfl) dX0_becomes_117 (fun ws hws => ⟨_, hws, ?_⟩)
    clear RET G hT hnm
    refine ⟨?_, ag_set (by decide)⟩
    rw [co_set (by decide)]
    show _ = upd2 (co σ) 10 (5 * n_ x + 4 - 3) v
    rw [ejn]
    rfl
  · refine v_topr (x2 := .int 5) (congrArg Value.int (show nI 5 = 5 from rfl)) ?_
    refine v_tableIn (tgt := 94) G dX0_becomes_1 (by decide) (by decide) rfl (by decide) ?_
    obtain ⟨j, hj, ej⟩ := rg_lt (isOf_one hx (by decide) (by decide)) (by omega)
    have ejn : n_ x = j := by rw [ej]; exact nI_clamp (by omega)
    refine v_aload_n G 0 dX0_becomes_94 rfl ?_
    refine x_get (v := .ref (ad 100)) G 0 (by decide) rfl q787 rfl dX0_becomes_95 ?_
    refine v_iload_n G 2 dX0_becomes_98 rfl ?_
    refine x_fald G (j) ej (show j < n_ (σ.1 11 0) from (by exact (show j < s_many (co σ) by omega))) (by omega) dX0_becomes_99 ?_
    refine v_iload_n G 3 dX0_becomes_100 rfl ?_
    refine x_lp G 2 j (by decide) (show j < n_ (σ.1 11 0) from (by exact (show j < s_many (co σ) by omega))) (kd_of hO (by omega)) q201 dX0_becomes_101 ?_
    refine v_goto (tgt := 117) G dX0_becomes_104 (by decide) ?_
    refine RET _ _ _ _ _ (Nat.le_of_ble_eq_true rfl) (Nat.le_of_ble_eq_true rfl) dX0_becomes_117 (fun ws hws => ⟨_, hws, ?_⟩)
    clear RET G hT hnm
    refine ⟨?_, ag_set (by decide)⟩
    rw [co_set (by decide)]
    show _ = upd2 (co σ) 10 (5 * n_ x + 5 - 3) v
    rw [ejn]
    rfl
  · refine v_topr (x2 := .int 6) (congrArg Value.int (show nI 6 = 6 from rfl)) ?_
    refine v_tableOut (tgt := 107) G dX0_becomes_1 (by decide) (by decide) ?_
    obtain ⟨j, hj, ej⟩ := rg_lt (isOf_one hx (by decide) (by decide)) (by omega)
    have ejn : n_ x = j := by rw [ej]; exact nI_clamp (by omega)
    refine v_aload_n G 0 dX0_becomes_107 rfl ?_
    refine x_get (v := .ref (ad 100)) G 0 (by decide) rfl q787 rfl dX0_becomes_108 ?_
    refine v_iload_n G 2 dX0_becomes_111 rfl ?_
    refine x_fald G (j) ej (show j < n_ (σ.1 11 0) from (by exact (show j < s_many (co σ) by omega))) (by omega) dX0_becomes_112 ?_
    refine v_iload_n G 3 dX0_becomes_113 rfl ?_
    refine x_lp G 3 j (by decide) (show j < n_ (σ.1 11 0) from (by exact (show j < s_many (co σ) by omega))) (kd_of hO (by omega)) q206 dX0_becomes_114 ?_
    refine RET _ _ _ _ _ (Nat.le_of_ble_eq_true rfl) (Nat.le_of_ble_eq_true rfl) dX0_becomes_117 (fun ws hws => ⟨_, hws, ?_⟩)
    clear RET G hT hnm
    refine ⟨?_, ag_set (by decide)⟩
    rw [co_set (by decide)]
    show _ = upd2 (co σ) 10 (5 * n_ x + 6 - 3) v
    rw [ejn]
    rfl
abbrev rmX0_whoAt : Room := { frames := 0, cells := 0, slots := 0, locals := 0 }
set_option maxHeartbeats 1000000 in
theorem kX0_whoAt {KT : (Nat → Prop) → State → Heap → Prop} (hK : KTok KT) (l : Launch) (dC : Nat → ClassId) (dI : Nat → Nat → Nat) (ct ad : Nat → Nat) (F : List (Nat × va_E)) (σ : MS) (x : Int32) (hO : Ok (co σ)) : MC KT (dC, dI) vwCl (tysF ct) l yX0_whoAt cX0_whoAt 4 (some .int) rmX0_whoAt [.ref (ad 0), .int x] (RX ct ad F σ) (QI_ (dC, dI) vwCl (RX ct ad F) (fun (r : Int32) (σ' : MS) => (s_who (co σ) x (s_many (co σ))) = r ∧ σ = σ')) := by
  refine MC.ofI (own := RX0) pl_X0 rfl (Nat.le_of_ble_eq_true rfl) ?_
  intro pp ee ss mm aa bb hh cc AA QQ G hT hnm RET
  refine v_loc (L' := [(0, .ref (ad 0)), (1, .int x)]) rfl ?_
  obtain ⟨hm5, hm⟩ := many5 hO.1
  have hm : σ.1 11 0 = nI (s_many (co σ)) := hm
  refine v_iconst (v := 0) G dX0_whoAt_0 rfl ?_
  refine v_istore_n (L' := [(2, .int 0), (0, .ref (ad 0)), (1, .int x)]) G dX0_whoAt_1 (by decide) rfl ?_
  refine v_iconst (v := 0) G dX0_whoAt_2 rfl ?_
  refine v_istore_n (L' := [(3, .int 0), (2, .int 0), (0, .ref (ad 0)), (1, .int x)]) G dX0_whoAt_3 (by decide) rfl ?_
  have loop4 : ∀ (dd : Nat) (q : Nat), (q ≤ s_many (co σ)) → s_many (co σ) - q < dd → V_ pp l ee rmX0_whoAt ss mm aa bb hh cc 4 (dC, dI) vwCl AA QQ 0 0 (RX ct ad F σ) 4 [(3, .int (nI q)), (2, .int (s_who (co σ) x q)), (1, .int x), (0, .ref (ad 0))] [] := by
    intro dd
    induction dd with
    | zero => intro q hq hdd; exact absurd hdd (Nat.not_lt_zero _)
    | succ dd ih4 =>
      intro q hq hdd
      refine v_iload_n G 0 dX0_whoAt_4 rfl ?_
      refine v_aload_n G 3 dX0_whoAt_5 rfl ?_
      refine x_get (v := .int (σ.1 11 0)) G 1 (by decide) rfl q788 rfl dX0_whoAt_6 ?_
      refine v_icmp_ge (tgt := 41) G dX0_whoAt_9 (by decide) (fun h9 => ?_) (fun h9 => ?_)
      · have n9 := (cmp_le (x := σ.1 11 0) (y := nI q) (a := s_many (co σ)) (b := q) hm rfl (by omega) (by omega)).mp h9
        refine v_iload_n G 1 dX0_whoAt_41 rfl ?_
        refine RET _ _ _ _ _ _ rfl (Nat.le_of_ble_eq_true rfl) (Nat.le_of_ble_eq_true rfl) dX0_whoAt_42 (fun ws hws => ⟨_, hws, ?_⟩)
        clear RET G hT hnm
        exact ⟨by rw [show q = s_many (co σ) by omega], rfl⟩
      · have n9 := (not_congr (cmp_le (x := σ.1 11 0) (y := nI q) (a := s_many (co σ)) (b := q) hm rfl (by omega) (by omega))).mp h9
        refine v_iload_n G 1 dX0_whoAt_12 rfl ?_
        refine v_aload_n G 3 dX0_whoAt_13 rfl ?_
        refine x_get (v := .ref (ad 100)) G 0 (by decide) rfl q787 rfl dX0_whoAt_14 ?_
        refine v_iload_n G 0 dX0_whoAt_17 rfl ?_
        refine x_fald G (q) rfl (show q < n_ (σ.1 11 0) from (by exact (show q < s_many (co σ) by omega))) (by omega) dX0_whoAt_18 ?_
        refine x_lg (v := σ.1 10 (5 * q + 1)) G 1 q (by decide) (show q < n_ (σ.1 11 0) from (by exact (show q < s_many (co σ) by omega))) (kd_of hO (by omega)) (rfl) q196 dX0_whoAt_19 ?_
        refine v_iload_n G 2 dX0_whoAt_22 rfl ?_
        refine v_icmp_ne (tgt := 32) G dX0_whoAt_23 (by decide) (fun h23 => ?_) (fun h23 => ?_)
        · refine v_iconst (v := 0) G dX0_whoAt_32 rfl ?_
          refine v_ior G dX0_whoAt_33 ?_
          refine v_istore_n (L' := [(2, .int ((s_who (co σ) x q) ||| 0)), (3, .int (nI q)), (1, .int x), (0, .ref (ad 0))]) G dX0_whoAt_34 (by decide) rfl ?_
          refine v_iinc (v := nI (q + 1)) (L' := [(3, .int (nI (q + 1))), (2, .int ((s_who (co σ) x q) ||| 0)), (1, .int x), (0, .ref (ad 0))]) G 1 dX0_whoAt_35 rfl (ix_add rfl (ix_lit 1 rfl)) (by decide) rfl ?_
          refine v_goto (tgt := 4) G dX0_whoAt_38 (by decide) ?_
          refine V_.sub (L' := [(3, .int (nI (q + 1))), (2, .int ((s_who (co σ) x q) ||| 0)), (1, .int x), (0, .ref (ad 0))]) ?_ [0, 1, 2, 3] rfl
          refine v_loc (L' := [(3, .int (nI (q + 1))), (2, .int (s_who (co σ) x (q + 1))), (1, .int x), (0, .ref (ad 0))]) (by rw [s_who]; first | (rw [if_pos (by exact h23)] <;> rfl) | (rw [if_neg (by exact h23), Int32.zero_shiftLeft] <;> rfl)) ?_
          exact ih4  (q + 1) (by first | assumption | omega) (by omega)
        · refine v_iconst (v := 1) G dX0_whoAt_26 rfl ?_
          refine v_iload_n G 0 dX0_whoAt_27 rfl ?_
          refine v_ishl G dX0_whoAt_28 ?_
          refine v_goto (tgt := 33) G dX0_whoAt_29 (by decide) ?_
          refine v_ior G dX0_whoAt_33 ?_
          refine v_istore_n (L' := [(2, .int ((s_who (co σ) x q) ||| (1 <<< ((nI q) &&& 31)))), (3, .int (nI q)), (1, .int x), (0, .ref (ad 0))]) G dX0_whoAt_34 (by decide) rfl ?_
          refine v_iinc (v := nI (q + 1)) (L' := [(3, .int (nI (q + 1))), (2, .int ((s_who (co σ) x q) ||| (1 <<< ((nI q) &&& 31)))), (1, .int x), (0, .ref (ad 0))]) G 1 dX0_whoAt_35 rfl (ix_add rfl (ix_lit 1 rfl)) (by decide) rfl ?_
          refine v_goto (tgt := 4) G dX0_whoAt_38 (by decide) ?_
          refine V_.sub (L' := [(3, .int (nI (q + 1))), (2, .int ((s_who (co σ) x q) ||| (1 <<< ((nI q) &&& 31)))), (1, .int x), (0, .ref (ad 0))]) ?_ [0, 1, 2, 3] rfl
          refine v_loc (L' := [(3, .int (nI (q + 1))), (2, .int (s_who (co σ) x (q + 1))), (1, .int x), (0, .ref (ad 0))]) (by rw [s_who]; first | (rw [if_pos (by exact h23)] <;> rfl) | (rw [if_neg (by exact h23), Int32.zero_shiftLeft] <;> rfl)) ?_
          exact ih4  (q + 1) (by first | assumption | omega) (by omega)
  refine V_.sub (L' := [(3, .int 0), (2, .int 0), (1, .int x), (0, .ref (ad 0))]) ?_ [0, 1, 3, 2] rfl
  refine v_loc (L' := [(3, .int (nI 0)), (2, .int (s_who (co σ) x 0)), (1, .int x), (0, .ref (ad 0))]) (rfl) ?_
  exact loop4 _ 0 (Nat.zero_le _) (Nat.lt_succ_self _)
abbrev rmX0_set : Room := { frames := 3, cells := 0, slots := 0, locals := 68 }
set_option maxHeartbeats 1000000 in
theorem kX0_set {KT : (Nat → Prop) → State → Heap → Prop} (hK : KTok KT) (l : Launch) (dC : Nat → ClassId) (dI : Nat → Nat → Nat) (ct ad : Nat → Nat) (F : List (Nat × va_E)) (σ : MS) (what : Int32) (x : Int32) (v : Int32) (hO : Ok (co σ)) : MC KT (dC, dI) vwCl (tysF ct) l yX0_set cX0_set 5 (some .int) rmX0_set [.ref (ad 0), .int what, .int x, .int v] (RX ct ad F σ) (QI_ (dC, dI) vwCl (RX ct ad F) (fun (r : Int32) (σ' : MS) => ((s_put (co σ) what x v).1) = r ∧ co σ' = (s_put (co σ) what x v).2)) := by
  refine MC.ofI (own := RX0) pl_X0 rfl (Nat.le_of_ble_eq_true rfl) ?_
  intro pp ee ss mm aa bb hh cc AA QQ G hT hnm RET
  refine v_loc (L' := [(0, .ref (ad 0)), (1, .int what), (2, .int x), (3, .int v)]) rfl ?_
  obtain ⟨hm5, hm⟩ := many5 hO.1
  have hm : σ.1 11 0 = nI (s_many (co σ)) := hm
  refine v_iload_n G 1 dX0_set_0 rfl ?_
  refine v_i2l (v := what.toInt64) G dX0_set_1 rfl ?_
  refine v_lconst (v := 0) G dX0_set_2 rfl ?_
  refine v_ldc2 G q272 dX0_set_3 ?_
  refine w_callSi G hK hT (kX0_in hK l dC dI ct ad F σ what.toInt64 0 6) (ck_X0_14 G.2.2.2.2.1 ⟨Nat.le_of_ble_eq_true rfl, Nat.le_of_ble_eq_true rfl⟩) (fun _ h => h) rfl [] rfl (Nat.le_of_ble_eq_true rfl) dX0_set_6 ⟨Nat.le_of_ble_eq_true rfl, Nat.le_of_ble_eq_true rfl⟩ (k1 := 0) (n1 := 0) rfl rfl ?_
  rintro r6 σ6 (⟨rfl, rfl, h6_h⟩ | ⟨rfl, rfl, h6_h⟩)
  · have g6 := (in_rg (c := what) (lo := 0) (hi := 6) (a := 0) (z := 6) (by decide) (by decide)).mp h6_h
    refine v_if_eq (tgt := 46) G dX0_set_9 (by decide) (fun h9 => absurd h9 (by decide)) (fun h9 => ?_)
    obtain ⟨k, hk, ek⟩ := rg_nat (n := 6) (x := what) g6 (by decide)
    have ekn : n_ what = k := by rw [ek]; exact nI_clamp (by omega)
    refine v_aload_n G 0 dX0_set_12 rfl ?_
    refine v_iload_n G 1 dX0_set_13 rfl ?_
    refine v_iload_n G 2 dX0_set_14 rfl ?_
    refine v_stk (st' := [.int x, .int (nI k), .ref (ad 0)]) (by first | rfl | (have e0 : what = nI k := ek ; simp only [e0])) ?_
    refine w_callVi G hK hT (kX0_isThere hK l dC dI ct ad F σ k x hO (by first | assumption | omega)) (ck_X0_91 G.2.2.2.2.1 ⟨Nat.le_of_ble_eq_true rfl, Nat.le_of_ble_eq_true rfl⟩) x_recv (fun _ h => h) rfl [] rfl (Nat.le_of_ble_eq_true rfl) dX0_set_15 ⟨Nat.le_of_ble_eq_true rfl, Nat.le_of_ble_eq_true rfl⟩ (k1 := 0) (n1 := 0) rfl rfl ?_
    rintro r15 σ15 (⟨rfl, rfl, h15_h⟩ | ⟨rfl, rfl, h15_h⟩)
    · refine v_if_eq (tgt := 46) G dX0_set_18 (by decide) (fun h18 => absurd h18 (by decide)) (fun h18 => ?_)
      refine v_iload_n G 3 dX0_set_21 rfl ?_
      refine v_i2l (v := v.toInt64) G dX0_set_22 rfl ?_
      refine v_iload_n G 1 dX0_set_23 rfl ?_
      refine v_iconst (v := 5) G dX0_set_24 rfl ?_
      refine v_icmp_ne (tgt := 34) G dX0_set_25 (by decide) (fun h25 => ?_) (fun h25 => ?_)
      · have n25 := (not_congr (cmp_eq (x := what) (y := 5) (a := k) (b := 5) ek (ix_lit 5 rfl) (by omega) (by omega))).mp h25
        refine v_lconst (v := 0) G dX0_set_34 rfl ?_
        refine v_iload_n G 1 dX0_set_35 rfl ?_
        refine v_stk (st' := [.int (nI k), .long 0, .long v.toInt64]) (by first | rfl | (have e0 : what = nI k := ek ; simp only [e0])) ?_
        refine w_callSi G hK hT (kX0_mostOf hK l dC dI ct ad F σ k (by first | assumption | omega)) (ck_X0_97 G.2.2.2.2.1 ⟨Nat.le_of_ble_eq_true rfl, Nat.le_of_ble_eq_true rfl⟩) (fun _ h => h) rfl [.long 0, .long v.toInt64] rfl (Nat.le_of_ble_eq_true rfl) dX0_set_36 ⟨Nat.le_of_ble_eq_true rfl, Nat.le_of_ble_eq_true rfl⟩ (k1 := 0) (n1 := 0) rfl rfl ?_
        rintro r36 σ36 ⟨rfl, rfl⟩
        refine v_i2l (v := (s_most k).toInt64) G dX0_set_39 rfl ?_
        refine w_callSi G hK hT (kX0_in hK l dC dI ct ad F σ v.toInt64 0 ((s_most k).toInt64)) (ck_X0_14 G.2.2.2.2.1 ⟨Nat.le_of_ble_eq_true rfl, Nat.le_of_ble_eq_true rfl⟩) (fun _ h => h) rfl [] rfl (Nat.le_of_ble_eq_true rfl) dX0_set_40 ⟨Nat.le_of_ble_eq_true rfl, Nat.le_of_ble_eq_true rfl⟩ (k1 := 0) (n1 := 0) rfl rfl ?_
        rintro r40 σ40 (⟨rfl, rfl, h40_h⟩ | ⟨rfl, rfl, h40_h⟩)
        · have e5 : (if k = 5 then (-99 : Int) else 0) = 0 := if_neg (by omega)
          have hv40 := (in_rg (c := v) (lo := 0) (hi := (s_most k).toInt64) (a := 0) (z := (s_most k).toInt) (by decide) (i64_toInt _)).mp h40_h
          refine v_if_ne (tgt := 50) G dX0_set_43 (by decide) (fun h43 => ?_) (fun h43 => absurd h43 (by decide))
          refine v_aload_n G 0 dX0_set_50 rfl ?_
          refine v_iload_n G 1 dX0_set_51 rfl ?_
          refine v_iload_n G 2 dX0_set_52 rfl ?_
          refine v_stk (st' := [.int x, .int (nI k), .ref (ad 0)]) (by first | rfl | (have e0 : what = nI k := ek ; simp only [e0])) ?_
          refine w_callVi G hK hT (kX0_heldBy hK l dC dI ct ad F σ k x hO (by first | assumption | omega) h15_h) (ck_X0_101 G.2.2.2.2.1 ⟨Nat.le_of_ble_eq_true rfl, Nat.le_of_ble_eq_true rfl⟩) x_recv (fun _ h => h) rfl [] rfl (Nat.le_of_ble_eq_true rfl) dX0_set_53 ⟨Nat.le_of_ble_eq_true rfl, Nat.le_of_ble_eq_true rfl⟩ (k1 := 0) (n1 := 0) rfl rfl ?_
          rintro r53 σ53 ⟨rfl, rfl⟩
          refine v_istore (L' := [(4, .int (s_told1 (co σ) x k)), (0, .ref (ad 0)), (1, .int what), (2, .int x), (3, .int v)]) G dX0_set_56 (by decide) rfl ?_
          refine v_aload_n G 1 dX0_set_58 rfl ?_
          refine v_iload_n G 2 dX0_set_59 rfl ?_
          refine v_iload_n G 3 dX0_set_60 rfl ?_
          refine v_iload_n G 4 dX0_set_61 rfl ?_
          refine v_stk (st' := [.int v, .int x, .int (nI k), .ref (ad 0)]) (by first | rfl | (have e0 : what = nI k := ek ; simp only [e0])) ?_
          refine w_callVv G hK hT (kX0_becomes hK l dC dI ct ad F σ k x v hO (by first | assumption | omega) h15_h) (ck_X0_104 G.2.2.2.2.1 ⟨Nat.le_of_ble_eq_true rfl, Nat.le_of_ble_eq_true rfl⟩) x_recv (fun _ h => h) rfl [] rfl (Nat.le_of_ble_eq_true rfl) dX0_set_62 ⟨Nat.le_of_ble_eq_true rfl, Nat.le_of_ble_eq_true rfl⟩ (k1 := 0) (n1 := 0) rfl rfl ?_
          rintro σ62 ⟨h62_c, h62_a⟩
          refine v_iload G 0 dX0_set_65 rfl ?_
          refine RET _ _ _ _ _ _ rfl (Nat.le_of_ble_eq_true rfl) (Nat.le_of_ble_eq_true rfl) dX0_set_67 (fun ws hws => ⟨_, hws, ?_⟩)
          clear RET G hT hnm
          rw [s_put, if_pos ⟨g6, by rw [ekn]; exact h15_h, by rw [ekn, e5]; exact hv40⟩, ekn]
          exact ⟨by rw [s_told, if_pos ⟨⟨g6.1, by have := g6.2; omega⟩, by rw [ekn]; exact h15_h⟩, ekn], h62_c⟩
        · have e5 : (if k = 5 then (-99 : Int) else 0) = 0 := if_neg (by omega)
          have hv40 : ¬ _ := fun q => h40_h ((in_rg (c := v) (lo := 0) (hi := (s_most k).toInt64) (a := 0) (z := (s_most k).toInt) (by decide) (i64_toInt _)).mpr q)
          refine v_if_ne (tgt := 50) G dX0_set_43 (by decide) (fun h43 => absurd h43 (by decide)) (fun h43 => ?_)
          refine v_sipush (v := (-1000)) G dX0_set_46 rfl ?_
          refine RET _ _ _ _ _ _ rfl (Nat.le_of_ble_eq_true rfl) (Nat.le_of_ble_eq_true rfl) dX0_set_49 (fun ws hws => ⟨_, hws, ?_⟩)
          clear RET G hT hnm
          rw [s_put, if_neg (fun q => by first | exact g6 q.1 | exact h15_h (by rw [← ekn]; exact q.2.1) | (have q := q.2.2; rw [ekn, e5] at q; exact hv40 q))]
          exact ⟨rfl, rfl⟩
      · have n25 := (cmp_eq (x := what) (y := 5) (a := k) (b := 5) ek (ix_lit 5 rfl) (by omega) (by omega)).mp h25
        refine v_ldc2 G q286 dX0_set_28 ?_
        refine v_goto (tgt := 35) G dX0_set_31 (by decide) ?_
        refine v_iload_n G 1 dX0_set_35 rfl ?_
        refine v_stk (st' := [.int (nI k), .long (-99), .long v.toInt64]) (by first | rfl | (have e0 : what = nI k := ek ; simp only [e0])) ?_
        refine w_callSi G hK hT (kX0_mostOf hK l dC dI ct ad F σ k (by first | assumption | omega)) (ck_X0_97 G.2.2.2.2.1 ⟨Nat.le_of_ble_eq_true rfl, Nat.le_of_ble_eq_true rfl⟩) (fun _ h => h) rfl [.long (-99), .long v.toInt64] rfl (Nat.le_of_ble_eq_true rfl) dX0_set_36 ⟨Nat.le_of_ble_eq_true rfl, Nat.le_of_ble_eq_true rfl⟩ (k1 := 0) (n1 := 0) rfl rfl ?_
        rintro r36 σ36 ⟨rfl, rfl⟩
        refine v_i2l (v := (s_most k).toInt64) G dX0_set_39 rfl ?_
        refine w_callSi G hK hT (kX0_in hK l dC dI ct ad F σ v.toInt64 (-99) ((s_most k).toInt64)) (ck_X0_14 G.2.2.2.2.1 ⟨Nat.le_of_ble_eq_true rfl, Nat.le_of_ble_eq_true rfl⟩) (fun _ h => h) rfl [] rfl (Nat.le_of_ble_eq_true rfl) dX0_set_40 ⟨Nat.le_of_ble_eq_true rfl, Nat.le_of_ble_eq_true rfl⟩ (k1 := 0) (n1 := 0) rfl rfl ?_
        rintro r40 σ40 (⟨rfl, rfl, h40_h⟩ | ⟨rfl, rfl, h40_h⟩)
        · have e5 : (if k = 5 then (-99 : Int) else 0) = -99 := if_pos (by omega)
          have hv40 := (in_rg (c := v) (lo := -99) (hi := (s_most k).toInt64) (a := -99) (z := (s_most k).toInt) (by decide) (i64_toInt _)).mp h40_h
          refine v_if_ne (tgt := 50) G dX0_set_43 (by decide) (fun h43 => ?_) (fun h43 => absurd h43 (by decide))
          refine v_aload_n G 0 dX0_set_50 rfl ?_
          refine v_iload_n G 1 dX0_set_51 rfl ?_
          refine v_iload_n G 2 dX0_set_52 rfl ?_
          refine v_stk (st' := [.int x, .int (nI k), .ref (ad 0)]) (by first | rfl | (have e0 : what = nI k := ek ; simp only [e0])) ?_
          refine w_callVi G hK hT (kX0_heldBy hK l dC dI ct ad F σ k x hO (by first | assumption | omega) h15_h) (ck_X0_101 G.2.2.2.2.1 ⟨Nat.le_of_ble_eq_true rfl, Nat.le_of_ble_eq_true rfl⟩) x_recv (fun _ h => h) rfl [] rfl (Nat.le_of_ble_eq_true rfl) dX0_set_53 ⟨Nat.le_of_ble_eq_true rfl, Nat.le_of_ble_eq_true rfl⟩ (k1 := 0) (n1 := 0) rfl rfl ?_
          rintro r53 σ53 ⟨rfl, rfl⟩
          refine v_istore (L' := [(4, .int (s_told1 (co σ) x k)), (0, .ref (ad 0)), (1, .int what), (2, .int x), (3, .int v)]) G dX0_set_56 (by decide) rfl ?_
          refine v_aload_n G 1 dX0_set_58 rfl ?_
          refine v_iload_n G 2 dX0_set_59 rfl ?_
          refine v_iload_n G 3 dX0_set_60 rfl ?_
          refine v_iload_n G 4 dX0_set_61 rfl ?_
          refine v_stk (st' := [.int v, .int x, .int (nI k), .ref (ad 0)]) (by first | rfl | (have e0 : what = nI k := ek ; simp only [e0])) ?_
          refine w_callVv G hK hT (kX0_becomes hK l dC dI ct ad F σ k x v hO (by first | assumption | omega) h15_h) (ck_X0_104 G.2.2.2.2.1 ⟨Nat.le_of_ble_eq_true rfl, Nat.le_of_ble_eq_true rfl⟩) x_recv (fun _ h => h) rfl [] rfl (Nat.le_of_ble_eq_true rfl) dX0_set_62 ⟨Nat.le_of_ble_eq_true rfl, Nat.le_of_ble_eq_true rfl⟩ (k1 := 0) (n1 := 0) rfl rfl ?_
          rintro σ62 ⟨h62_c, h62_a⟩
          refine v_iload G 0 dX0_set_65 rfl ?_
          refine RET _ _ _ _ _ _ rfl (Nat.le_of_ble_eq_true rfl) (Nat.le_of_ble_eq_true rfl) dX0_set_67 (fun ws hws => ⟨_, hws, ?_⟩)
          clear RET G hT hnm
          rw [s_put, if_pos ⟨g6, by rw [ekn]; exact h15_h, by rw [ekn, e5]; exact hv40⟩, ekn]
          exact ⟨by rw [s_told, if_pos ⟨⟨g6.1, by have := g6.2; omega⟩, by rw [ekn]; exact h15_h⟩, ekn], h62_c⟩
        · have e5 : (if k = 5 then (-99 : Int) else 0) = -99 := if_pos (by omega)
          have hv40 : ¬ _ := fun q => h40_h ((in_rg (c := v) (lo := -99) (hi := (s_most k).toInt64) (a := -99) (z := (s_most k).toInt) (by decide) (i64_toInt _)).mpr q)
          refine v_if_ne (tgt := 50) G dX0_set_43 (by decide) (fun h43 => absurd h43 (by decide)) (fun h43 => ?_)
          refine v_sipush (v := (-1000)) G dX0_set_46 rfl ?_
          refine RET _ _ _ _ _ _ rfl (Nat.le_of_ble_eq_true rfl) (Nat.le_of_ble_eq_true rfl) dX0_set_49 (fun ws hws => ⟨_, hws, ?_⟩)
          clear RET G hT hnm
          rw [s_put, if_neg (fun q => by first | exact g6 q.1 | exact h15_h (by rw [← ekn]; exact q.2.1) | (have q := q.2.2; rw [ekn, e5] at q; exact hv40 q))]
          exact ⟨rfl, rfl⟩
    · refine v_if_eq (tgt := 46) G dX0_set_18 (by decide) (fun h18 => ?_) (fun h18 => absurd h18 (by decide))
      refine v_sipush (v := (-1000)) G dX0_set_46 rfl ?_
      refine RET _ _ _ _ _ _ rfl (Nat.le_of_ble_eq_true rfl) (Nat.le_of_ble_eq_true rfl) dX0_set_49 (fun ws hws => ⟨_, hws, ?_⟩)
      clear RET G hT hnm
      rw [s_put, if_neg (fun q => by first | exact g6 q.1 | exact h15_h (by rw [← ekn]; exact q.2.1) | (have q := q.2.2; rw [ekn, e5] at q; exact hv40 q))]
      exact ⟨rfl, rfl⟩
  · have g6 : ¬ rg what 0 6 := fun zz => h6_h ((in_rg (c := what) (lo := 0) (hi := 6) (a := 0) (z := 6) (by decide) (by decide)).mpr zz)
    refine v_if_eq (tgt := 46) G dX0_set_9 (by decide) (fun h9 => ?_) (fun h9 => absurd h9 (by decide))
    refine v_sipush (v := (-1000)) G dX0_set_46 rfl ?_
    refine RET _ _ _ _ _ _ rfl (Nat.le_of_ble_eq_true rfl) (Nat.le_of_ble_eq_true rfl) dX0_set_49 (fun ws hws => ⟨_, hws, ?_⟩)
    clear RET G hT hnm
    rw [s_put, if_neg (fun q => by first | exact g6 q.1 | exact h15_h (by rw [← ekn]; exact q.2.1) | (have q := q.2.2; rw [ekn, e5] at q; exact hv40 q))]
    exact ⟨rfl, rfl⟩
abbrev rmX0_jarsAll : Room := { frames := 0, cells := 0, slots := 0, locals := 0 }
set_option maxHeartbeats 1000000 in
theorem kX0_jarsAll {KT : (Nat → Prop) → State → Heap → Prop} (hK : KTok KT) (l : Launch) (dC : Nat → ClassId) (dI : Nat → Nat → Nat) (ct ad : Nat → Nat) (F : List (Nat × va_E)) (σ : MS)   : MC KT (dC, dI) vwCl (tysF ct) l yX0_jarsAll cX0_jarsAll 3 (some .int) rmX0_jarsAll [.ref (ad 0)] (RX ct ad F σ) (QI_ (dC, dI) vwCl (RX ct ad F) (fun (r : Int32) (σ' : MS) => (s_all (co σ) 24) = r ∧ σ = σ')) := by
  refine MC.ofI (own := RX0) pl_X0 rfl (Nat.le_of_ble_eq_true rfl) ?_
  intro pp ee ss mm aa bb hh cc AA QQ G hT hnm RET
  refine v_loc (L' := [(0, .ref (ad 0))]) rfl ?_
  refine v_iconst (v := 0) G dX0_jarsAll_0 rfl ?_
  refine v_istore_n (L' := [(1, .int 0), (0, .ref (ad 0))]) G dX0_jarsAll_1 (by decide) rfl ?_
  refine v_iconst (v := 0) G dX0_jarsAll_2 rfl ?_
  refine v_istore_n (L' := [(2, .int 0), (1, .int 0), (0, .ref (ad 0))]) G dX0_jarsAll_3 (by decide) rfl ?_
  have loop4 : ∀ (dd : Nat) (q : Nat), (q ≤ 24) → 24 - q < dd → V_ pp l ee rmX0_jarsAll ss mm aa bb hh cc 3 (dC, dI) vwCl AA QQ 0 0 (RX ct ad F σ) 4 [(2, .int (nI q)), (1, .int (s_all (co σ) q)), (0, .ref (ad 0))] [] := by
    intro dd
    induction dd with
    | zero => intro q hq hdd; exact absurd hdd (Nat.not_lt_zero _)
    | succ dd ih4 =>
      intro q hq hdd
      refine v_iload_n G 0 dX0_jarsAll_4 rfl ?_
      refine v_bipush (v := 24) G dX0_jarsAll_5 rfl ?_
      refine v_icmp_ge (tgt := 25) G dX0_jarsAll_7 (by decide) (fun h7 => ?_) (fun h7 => ?_)
      · have n7 := (cmp_le (x := 24) (y := nI q) (a := 24) (b := q) (ix_lit 24 rfl) rfl (by omega) (by omega)).mp h7
        refine v_iload_n G 1 dX0_jarsAll_25 rfl ?_
        refine RET _ _ _ _ _ _ rfl (Nat.le_of_ble_eq_true rfl) (Nat.le_of_ble_eq_true rfl) dX0_jarsAll_26 (fun ws hws => ⟨_, hws, ?_⟩)
        clear RET G hT hnm
        exact ⟨by rw [show q = 24 by omega], rfl⟩
      · have n7 := (not_congr (cmp_le (x := 24) (y := nI q) (a := 24) (b := q) (ix_lit 24 rfl) rfl (by omega) (by omega))).mp h7
        refine v_iload_n G 1 dX0_jarsAll_10 rfl ?_
        refine v_aload_n G 2 dX0_jarsAll_11 rfl ?_
        refine x_get (v := .ref (ad 9)) G 4 (by decide) rfl q792 rfl dX0_jarsAll_12 ?_
        refine v_iload_n G 0 dX0_jarsAll_15 rfl ?_
        refine x_iald G 9 rfl (q) rfl (show q < 24 by first | omega | assumption | decide) dX0_jarsAll_16 ?_
        refine v_iadd G dX0_jarsAll_17 ?_
        refine v_istore_n (L' := [(1, .int ((s_all (co σ) q) + (σ.1 9 q))), (2, .int (nI q)), (0, .ref (ad 0))]) G dX0_jarsAll_18 (by decide) rfl ?_
        refine v_iinc (v := nI (q + 1)) (L' := [(2, .int (nI (q + 1))), (1, .int ((s_all (co σ) q) + (σ.1 9 q))), (0, .ref (ad 0))]) G 1 dX0_jarsAll_19 rfl (ix_add rfl (ix_lit 1 rfl)) (by decide) rfl ?_
        refine v_goto (tgt := 4) G dX0_jarsAll_22 (by decide) ?_
        refine V_.sub (L' := [(2, .int (nI (q + 1))), (1, .int ((s_all (co σ) q) + (σ.1 9 q))), (0, .ref (ad 0))]) ?_ [0, 1, 2] rfl
        refine v_loc (L' := [(2, .int (nI (q + 1))), (1, .int (s_all (co σ) (q + 1))), (0, .ref (ad 0))]) (rfl) ?_
        exact ih4  (q + 1) (by first | assumption | omega) (by omega)
  refine V_.sub (L' := [(2, .int 0), (1, .int 0), (0, .ref (ad 0))]) ?_ [0, 1, 2] rfl
  refine v_loc (L' := [(2, .int (nI 0)), (1, .int (s_all (co σ) 0)), (0, .ref (ad 0))]) (rfl) ?_
  exact loop4 _ 0 (by first | assumption | omega) (Nat.lt_succ_self _)
