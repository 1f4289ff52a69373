set_option maxRecDepth 100000
abbrev rmX8_sheet : Room := { frames := 2, cells := 0, slots := 0, locals := 45 }
set_option maxHeartbeats 1000000 in
theorem kX8_sheet {KT : (Nat → Prop) → State → Heap → Prop} (hK : KTok KT) (l : Launch) (dC : Nat → ClassId) (dI : Nat → Nat → Nat) (ct ad : Nat → Nat) (σ : MS) (x : Int32) (q : Int32) (z : Int32) (hO : Ok (co σ)) : MC KT (dC, dI) vwCl (tysF ct) l yX8_sheet cX8_sheet 5 (some .int) rmX8_sheet [.ref (ad 43), .int x, .int q, .int z] (RM ct ad σ) (QI_ (dC, dI) vwCl (RM ct ad) (fun (r : Int32) (σ' : MS) => ((s_sheet (co σ) x q z).1) = r ∧ co σ' = (s_sheet (co σ) x q z).2)) := by
  refine MC.ofI (own := RX8) pl_X8 rfl (Nat.le_of_ble_eq_true rfl) ?_
  intro pp ee ss mm aa bb hh cc AA QQ G hT hnm RET
  refine v_loc (L' := [(0, .ref (ad 43)), (1, .int x), (2, .int q), (3, .int z)]) rfl ?_
  refine v_iload_n G 1 dX8_sheet_0 rfl ?_
  refine w_callSi G hK hT (kX8_isSheet hK l dC dI ct ad σ x) (ck_X8_410 G.2.2.2.2.1 ⟨Nat.le_of_ble_eq_true rfl, Nat.le_of_ble_eq_true rfl⟩) (fun _ h => h) rfl [] rfl (Nat.le_of_ble_eq_true rfl) dX8_sheet_1 ⟨Nat.le_of_ble_eq_true rfl, Nat.le_of_ble_eq_true rfl⟩ (k1 := 0) (n1 := 0) rfl rfl ?_
  rintro r1 σ1 (⟨rfl, rfl, h1_h⟩ | ⟨rfl, rfl, h1_h⟩)
  · refine v_if_eq (tgt := 31) G dX8_sheet_4 (by decide) (fun h4 => absurd h4 (by decide)) (fun h4 => ?_)
    refine v_iload_n G 2 dX8_sheet_7 rfl ?_
    refine v_i2l (v := q.toInt64) G dX8_sheet_8 rfl ?_
    refine v_ldc2 G q1812 dX8_sheet_9 ?_
    refine v_ldc2 G q1727 dX8_sheet_12 ?_
    refine w_callSi G hK hT (kX8_in hK l dC dI ct ad σ q.toInt64 (-1) 2) (ck_X8_86 G.2.2.2.2.1 ⟨Nat.le_of_ble_eq_true rfl, Nat.le_of_ble_eq_true rfl⟩) (fun _ h => h) rfl [] rfl (Nat.le_of_ble_eq_true rfl) dX8_sheet_15 ⟨Nat.le_of_ble_eq_true rfl, Nat.le_of_ble_eq_true rfl⟩ (k1 := 0) (n1 := 0) rfl rfl ?_
    rintro r15 σ15 (⟨rfl, rfl, h15_h⟩ | ⟨rfl, rfl, h15_h⟩)
    · have g15 := (in_rg (c := q) (lo := (-1)) (hi := 2) (a := (-1)) (z := 2) (by decide) (by decide)).mp h15_h
      refine v_if_eq (tgt := 31) G dX8_sheet_18 (by decide) (fun h18 => absurd h18 (by decide)) (fun h18 => ?_)
      refine v_iload_n G 2 dX8_sheet_21 rfl ?_
      refine v_if_lt (tgt := 34) G dX8_sheet_22 (by decide) (fun h22 => ?_) (fun h22 => ?_)
      · refine v_iload_n G 2 dX8_sheet_34 rfl ?_
        refine v_if_lt (tgt := 45) G dX8_sheet_35 (by decide) (fun h35 => ?_) (fun h35 => ?_)
        · obtain ⟨s, hsj, es⟩ := rg_nat (n := 3) h1_h (by decide)
          have hs4 : s < 4 := by omega
          have esn : n_ x = s := by rw [es]; exact nI_clamp (by omega)
          refine v_aload_n G 0 dX8_sheet_45 rfl ?_
          refine m_get (v := .ref (ad 39)) G 39 (by decide) rfl q1333 rfl dX8_sheet_46 ?_
          refine v_iload_n G 1 dX8_sheet_49 rfl ?_
          refine v_iload_n G 2 dX8_sheet_50 rfl ?_
          refine v_if_lt (tgt := 58) G dX8_sheet_51 (by decide) (fun h51 => ?_) (fun h51 => ?_)
          · refine v_iconst (v := 0) G dX8_sheet_58 rfl ?_
            refine m_zast G (s) es (show s < 4 by first | omega | assumption | decide) rfl dX8_sheet_59 ?_
            refine v_aload_n G 0 dX8_sheet_60 rfl ?_
            refine m_get (v := .ref (ad 40)) G 40 (by decide) rfl q1334 rfl dX8_sheet_61 ?_
            refine v_iload_n G 1 dX8_sheet_64 rfl ?_
            refine v_iload_n G 2 dX8_sheet_65 rfl ?_
            refine m_iast G 40 rfl (s) es (show s < 4 by first | omega | assumption | decide) dX8_sheet_66 ?_
            refine v_aload_n G 0 dX8_sheet_67 rfl ?_
            refine m_get (v := .ref (ad 41)) G 41 (by decide) rfl q1335 rfl dX8_sheet_68 ?_
            refine v_iload_n G 1 dX8_sheet_71 rfl ?_
            refine v_iload_n G 3 dX8_sheet_72 rfl ?_
            refine m_iast G 41 rfl (s) es (show s < 4 by first | omega | assumption | decide) dX8_sheet_73 ?_
            refine v_iconst (v := 0) G dX8_sheet_74 rfl ?_
            refine v_istore (L' := [(4, .int 0), (0, .ref (ad 43)), (1, .int x), (2, .int q), (3, .int z)]) G dX8_sheet_75 (by decide) rfl ?_
            have loop77 : ∀ (dd : Nat) (j : Nat) (τ : MS), (j ≤ 40) → (∀ i, i < j → τ.1 42 (40 * s + i) = 0) → (∀ i, (i < 40 * s ∨ 40 * s + j ≤ i) → τ.1 42 i = σ.1 42 i) → (ag [42] (mset (mset (mset σ 39 s 0) 40 s q) 41 s z) τ) → (q < 0 → j = 0) → (¬ q < 0 → (j : Int) ≤ z.toInt) → 40 - j < dd → V_ pp l ee rmX8_sheet ss mm aa bb hh cc 5 (dC, dI) vwCl AA QQ 0 0 (RM ct ad τ) 77 [(4, .int (nI j)), (3, .int z), (2, .int q), (1, .int x), (0, .ref (ad 43))] [] := by
              intro dd
              induction dd with
              | zero => intro j τ hj hlo hhi haτ hq0 hqz hdd; exact absurd hdd (Nat.not_lt_zero _)
              | succ dd ih77 =>
                intro j τ hj hlo hhi haτ hq0 hqz hdd
                refine v_iload G 0 dX8_sheet_77 rfl ?_
                refine v_iload_n G 1 dX8_sheet_79 rfl ?_
                refine v_icmp_ge (tgt := 106) G dX8_sheet_80 (by decide) (fun h80 => ?_) (fun h80 => ?_)
                · refine v_iconst (v := 1) G dX8_sheet_106 rfl ?_
                  refine RET _ _ _ _ _ _ rfl (Nat.le_of_ble_eq_true rfl) (Nat.le_of_ble_eq_true rfl) dX8_sheet_107 (fun ws hws => ⟨_, hws, ?_⟩)
                  clear RET G hT hnm
                  rw [s_sheet, if_pos ⟨h1_h, g15, by first | exact Or.inl h22 | exact Or.inr h28⟩, if_neg (fun qq => by first | exact qq.1 h35 | exact Int32.not_lt.mpr h39 qq.2), esn]
                  refine ⟨rfl, ?_⟩
                  have hjn : ¬ q < 0 → j = n_ z := fun hq => by
                    have h1 := hqz hq
                    have h2 : z.toInt ≤ (j : Int) := by
                      first
                        | (have := Int32.le_iff_toInt_le.mp h80; rwa [nI_toInt (by omega)] at this)
                        | exact absurd h84 hq
                    have : n_ z = z.toInt.toNat := rfl
                    omega
                  show co τ = s_newK (co σ) s q z
                  funext k i
                  unfold s_newK
                  by_cases h42 : k = 42
                  · subst h42
                    rw [if_neg (by omega), if_neg (by omega), if_neg (by omega)]
                    show τ.1 42 i = _
                    by_cases hq : q < 0
                    · rw [if_neg (fun qq => Int32.not_lt.mpr qq.2.1 hq), hhi i (by have := hq0 hq; omega)]; rfl
                    · by_cases hi : 40 * s ≤ i ∧ i < 40 * s + n_ z
                      · rw [if_pos ⟨rfl, Int32.not_lt.mp hq, hi⟩]
                        have := hlo (i - 40 * s) (by have := hjn hq; omega)
                        rwa [show 40 * s + (i - 40 * s) = i by omega] at this
                      · rw [if_neg (fun qq => hi qq.2.2), hhi i (by have := hjn hq; omega)]; rfl
                  · rw [if_neg (c := k = 42 ∧ _) (fun qq => h42 qq.1)]
                    unfold co
                    rw [haτ k (by simpa using h42)]
                    by_cases h41 : k = 41 ∧ i = s
                    · rw [if_neg (c := k = 39 ∧ _) (by omega), if_neg (c := k = 40 ∧ _) (by omega), if_pos h41, h41.1, h41.2]; simp [mset, upd2, scr]
                    · by_cases h40 : k = 40 ∧ i = s
                      · rw [if_neg (c := k = 39 ∧ _) (by omega), if_pos h40, h40.1, h40.2]; simp [mset, upd2, scr]
                      · by_cases h39' : k = 39 ∧ i = s
                        · rw [if_pos h39', h39'.1, h39'.2]
                          simp [mset, upd2, scr]
                          first
                            | exact h51
                            | exact Int32.not_lt.mp h51
                        · rw [if_neg h39', if_neg h40, if_neg h41]
                          simp only [mset, upd2_at]
                          rw [if_neg h41, if_neg h40, if_neg h39']
                · refine v_iload_n G 2 dX8_sheet_83 rfl ?_
                  refine v_if_lt (tgt := 106) G dX8_sheet_84 (by decide) (fun h84 => ?_) (fun h84 => ?_)
                  · refine v_iconst (v := 1) G dX8_sheet_106 rfl ?_
                    refine RET _ _ _ _ _ _ rfl (Nat.le_of_ble_eq_true rfl) (Nat.le_of_ble_eq_true rfl) dX8_sheet_107 (fun ws hws => ⟨_, hws, ?_⟩)
                    clear RET G hT hnm
                    rw [s_sheet, if_pos ⟨h1_h, g15, by first | exact Or.inl h22 | exact Or.inr h28⟩, if_neg (fun qq => by first | exact qq.1 h35 | exact Int32.not_lt.mpr h39 qq.2), esn]
                    refine ⟨rfl, ?_⟩
                    have hjn : ¬ q < 0 → j = n_ z := fun hq => by
                      have h1 := hqz hq
                      have h2 : z.toInt ≤ (j : Int) := by
                        first
                          | (have := Int32.le_iff_toInt_le.mp h80; rwa [nI_toInt (by omega)] at this)
                          | exact absurd h84 hq
                      have : n_ z = z.toInt.toNat := rfl
                      omega
                    show co τ = s_newK (co σ) s q z
                    funext k i
                    unfold s_newK
                    by_cases h42 : k = 42
                    · subst h42
                      rw [if_neg (by omega), if_neg (by omega), if_neg (by omega)]
                      show τ.1 42 i = _
                      by_cases hq : q < 0
                      · rw [if_neg (fun qq => Int32.not_lt.mpr qq.2.1 hq), hhi i (by have := hq0 hq; omega)]; rfl
                      · by_cases hi : 40 * s ≤ i ∧ i < 40 * s + n_ z
                        · rw [if_pos ⟨rfl, Int32.not_lt.mp hq, hi⟩]
                          have := hlo (i - 40 * s) (by have := hjn hq; omega)
                          rwa [show 40 * s + (i - 40 * s) = i by omega] at this
                        · rw [if_neg (fun qq => hi qq.2.2), hhi i (by have := hjn hq; omega)]; rfl
                    · rw [if_neg (c := k = 42 ∧ _) (fun qq => h42 qq.1)]
                      unfold co
                      rw [haτ k (by simpa using h42)]
                      by_cases h41 : k = 41 ∧ i = s
                      · rw [if_neg (c := k = 39 ∧ _) (by omega), if_neg (c := k = 40 ∧ _) (by omega), if_pos h41, h41.1, h41.2]; simp [mset, upd2, scr]
                      · by_cases h40 : k = 40 ∧ i = s
                        · rw [if_neg (c := k = 39 ∧ _) (by omega), if_pos h40, h40.1, h40.2]; simp [mset, upd2, scr]
                        · by_cases h39' : k = 39 ∧ i = s
                          · rw [if_pos h39', h39'.1, h39'.2]
                            simp [mset, upd2, scr]
                            first
                              | exact h51
                              | exact Int32.not_lt.mp h51
                          · rw [if_neg h39', if_neg h40, if_neg h41]
                            simp only [mset, upd2_at]
                            rw [if_neg h41, if_neg h40, if_neg h39']
                  · have hjz : (j : Int) < z.toInt := by
                      have := Int32.lt_iff_toInt_lt.mp (Int32.not_le.mp h80)
                      rwa [nI_toInt (by omega)] at this
                    have hj40 : j < 40 := by
                      first
                        | exact absurd h22 h84
                        | (have h40 : z.toInt ≤ 40 := Int32.le_iff_toInt_le.mp h28
                           omega)
                    refine v_aload_n G 4 dX8_sheet_87 rfl ?_
                    refine m_get (v := .ref (ad 42)) G 42 (by decide) rfl q1336 rfl dX8_sheet_88 ?_
                    refine v_bipush (v := 40) G dX8_sheet_91 rfl ?_
                    refine v_iload_n G 3 dX8_sheet_93 rfl ?_
                    refine v_imul G dX8_sheet_94 ?_
                    refine v_iload G 0 dX8_sheet_95 rfl ?_
                    refine v_iadd G dX8_sheet_97 ?_
                    refine v_iconst (v := 0) G dX8_sheet_98 rfl ?_
                    refine m_iast G 42 rfl ((40 * s) + j) (ix_add (ix_mul (ix_lit 40 rfl) es) rfl) (show (40 * s) + j < 160 by first | omega | assumption | decide) dX8_sheet_99 ?_
                    refine v_iinc (v := nI (j + 1)) (L' := [(4, .int (nI (j + 1))), (3, .int z), (2, .int q), (1, .int x), (0, .ref (ad 43))]) G 0 dX8_sheet_100 rfl (ix_add rfl (ix_lit 1 rfl)) (by decide) rfl ?_
                    refine v_goto (tgt := 77) G dX8_sheet_103 (by decide) ?_
                    refine V_.sub (L' := [(4, .int (nI (j + 1))), (3, .int z), (2, .int q), (1, .int x), (0, .ref (ad 43))]) ?_ [0, 1, 2, 3, 4] rfl
                    exact ih77  (j + 1) (mset τ 42 ((40 * s) + j) 0) (by omega) (cpy_lo (f := fun _ => 0) hlo rfl) (cpy_hi hhi) (ag_tr haτ (ag_set (by decide))) (fun h => absurd h h84) (fun _ => by omega) (by omega)
            refine V_.sub (L' := [(4, .int 0), (3, .int z), (2, .int q), (1, .int x), (0, .ref (ad 43))]) ?_ [0, 4, 3, 2, 1] rfl
            refine v_loc (L' := [(4, .int (nI 0)), (3, .int z), (2, .int q), (1, .int x), (0, .ref (ad 43))]) (rfl) ?_
            exact loop77 _ 0 (mset (mset (mset σ 39 s 0) 40 s q) 41 s z) (Nat.zero_le _) (fun i hi => absurd hi (Nat.not_lt_zero i)) (fun i _ => by rw [mset_ne_k (by decide), mset_ne_k (by decide), mset_ne_k (by decide)]) ag_rf (fun _ => rfl) (fun hq => by first | exact absurd h35 hq | (have := Int32.le_iff_toInt_le.mp h39; exact this)) (Nat.lt_succ_self _)
          · refine v_iconst (v := 1) G dX8_sheet_54 rfl ?_
            refine v_goto (tgt := 59) G dX8_sheet_55 (by decide) ?_
            refine m_zast G (s) es (show s < 4 by first | omega | assumption | decide) rfl dX8_sheet_59 ?_
            refine v_aload_n G 0 dX8_sheet_60 rfl ?_
            refine m_get (v := .ref (ad 40)) G 40 (by decide) rfl q1334 rfl dX8_sheet_61 ?_
            refine v_iload_n G 1 dX8_sheet_64 rfl ?_
            refine v_iload_n G 2 dX8_sheet_65 rfl ?_
            refine m_iast G 40 rfl (s) es (show s < 4 by first | omega | assumption | decide) dX8_sheet_66 ?_
            refine v_aload_n G 0 dX8_sheet_67 rfl ?_
            refine m_get (v := .ref (ad 41)) G 41 (by decide) rfl q1335 rfl dX8_sheet_68 ?_
            refine v_iload_n G 1 dX8_sheet_71 rfl ?_
            refine v_iload_n G 3 dX8_sheet_72 rfl ?_
            refine m_iast G 41 rfl (s) es (show s < 4 by first | omega | assumption | decide) dX8_sheet_73 ?_
            refine v_iconst (v := 0) G dX8_sheet_74 rfl ?_
            refine v_istore (L' := [(4, .int 0), (0, .ref (ad 43)), (1, .int x), (2, .int q), (3, .int z)]) G dX8_sheet_75 (by decide) rfl ?_
            have loop77 : ∀ (dd : Nat) (j : Nat) (τ : MS), (j ≤ 40) → (∀ i, i < j → τ.1 42 (40 * s + i) = 0) → (∀ i, (i < 40 * s ∨ 40 * s + j ≤ i) → τ.1 42 i = σ.1 42 i) → (ag [42] (mset (mset (mset σ 39 s 1) 40 s q) 41 s z) τ) → (q < 0 → j = 0) → (¬ q < 0 → (j : Int) ≤ z.toInt) → 40 - j < dd → V_ pp l ee rmX8_sheet ss mm aa bb hh cc 5 (dC, dI) vwCl AA QQ 0 0 (RM ct ad τ) 77 [(4, .int (nI j)), (3, .int z), (2, .int q), (1, .int x), (0, .ref (ad 43))] [] := by
              intro dd
              induction dd with
              | zero => intro j τ hj hlo hhi haτ hq0 hqz hdd; exact absurd hdd (Nat.not_lt_zero _)
              | succ dd ih77 =>
                intro j τ hj hlo hhi haτ hq0 hqz hdd
                refine v_iload G 0 dX8_sheet_77 rfl ?_
                refine v_iload_n G 1 dX8_sheet_79 rfl ?_
                refine v_icmp_ge (tgt := 106) G dX8_sheet_80 (by decide) (fun h80 => ?_) (fun h80 => ?_)
                · refine v_iconst (v := 1) G dX8_sheet_106 rfl ?_
                  refine RET _ _ _ _ _ _ rfl (Nat.le_of_ble_eq_true rfl) (Nat.le_of_ble_eq_true rfl) dX8_sheet_107 (fun ws hws => ⟨_, hws, ?_⟩)
                  clear RET G hT hnm
                  rw [s_sheet, if_pos ⟨h1_h, g15, by first | exact Or.inl h22 | exact Or.inr h28⟩, if_neg (fun qq => by first | exact qq.1 h35 | exact Int32.not_lt.mpr h39 qq.2), esn]
                  refine ⟨rfl, ?_⟩
                  have hjn : ¬ q < 0 → j = n_ z := fun hq => by
                    have h1 := hqz hq
                    have h2 : z.toInt ≤ (j : Int) := by
                      first
                        | (have := Int32.le_iff_toInt_le.mp h80; rwa [nI_toInt (by omega)] at this)
                        | exact absurd h84 hq
                    have : n_ z = z.toInt.toNat := rfl
                    omega
                  show co τ = s_newK (co σ) s q z
                  funext k i
                  unfold s_newK
                  by_cases h42 : k = 42
                  · subst h42
                    rw [if_neg (by omega), if_neg (by omega), if_neg (by omega)]
                    show τ.1 42 i = _
                    by_cases hq : q < 0
                    · rw [if_neg (fun qq => Int32.not_lt.mpr qq.2.1 hq), hhi i (by have := hq0 hq; omega)]; rfl
                    · by_cases hi : 40 * s ≤ i ∧ i < 40 * s + n_ z
                      · rw [if_pos ⟨rfl, Int32.not_lt.mp hq, hi⟩]
                        have := hlo (i - 40 * s) (by have := hjn hq; omega)
                        rwa [show 40 * s + (i - 40 * s) = i by omega] at this
                      · rw [if_neg (fun qq => hi qq.2.2), hhi i (by have := hjn hq; omega)]; rfl
                  · rw [if_neg (c := k = 42 ∧ _) (fun qq => h42 qq.1)]
                    unfold co
                    rw [haτ k (by simpa using h42)]
                    by_cases h41 : k = 41 ∧ i = s
                    · rw [if_neg (c := k = 39 ∧ _) (by omega), if_neg (c := k = 40 ∧ _) (by omega), if_pos h41, h41.1, h41.2]; simp [mset, upd2, scr]
                    · by_cases h40 : k = 40 ∧ i = s
                      · rw [if_neg (c := k = 39 ∧ _) (by omega), if_pos h40, h40.1, h40.2]; simp [mset, upd2, scr]
                      · by_cases h39' : k = 39 ∧ i = s
                        · rw [if_pos h39', h39'.1, h39'.2]
                          simp [mset, upd2, scr]
                          first
                            | exact h51
                            | exact Int32.not_lt.mp h51
                        · rw [if_neg h39', if_neg h40, if_neg h41]
                          simp only [mset, upd2_at]
                          rw [if_neg h41, if_neg h40, if_neg h39']
                · refine v_iload_n G 2 dX8_sheet_83 rfl ?_
                  refine v_if_lt (tgt := 106) G dX8_sheet_84 (by decide) (fun h84 => ?_) (fun h84 => ?_)
                  · refine v_iconst (v := 1) G dX8_sheet_106 rfl ?_
                    refine RET _ _ _ _ _ _ rfl (Nat.le_of_ble_eq_true rfl) (Nat.le_of_ble_eq_true rfl) dX8_sheet_107 (fun ws hws => ⟨_, hws, ?_⟩)
                    clear RET G hT hnm
                    rw [s_sheet, if_pos ⟨h1_h, g15, by first | exact Or.inl h22 | exact Or.inr h28⟩, if_neg (fun qq => by first | exact qq.1 h35 | exact Int32.not_lt.mpr h39 qq.2), esn]
                    refine ⟨rfl, ?_⟩
                    have hjn : ¬ q < 0 → j = n_ z := fun hq => by
                      have h1 := hqz hq
                      have h2 : z.toInt ≤ (j : Int) := by
                        first
                          | (have := Int32.le_iff_toInt_le.mp h80; rwa [nI_toInt (by omega)] at this)
                          | exact absurd h84 hq
                      have : n_ z = z.toInt.toNat := rfl
                      omega
                    show co τ = s_newK (co σ) s q z
                    funext k i
                    unfold s_newK
                    by_cases h42 : k = 42
                    · subst h42
                      rw [if_neg (by omega), if_neg (by omega), if_neg (by omega)]
                      show τ.1 42 i = _
                      by_cases hq : q < 0
                      · rw [if_neg (fun qq => Int32.not_lt.mpr qq.2.1 hq), hhi i (by have := hq0 hq; omega)]; rfl
                      · by_cases hi : 40 * s ≤ i ∧ i < 40 * s + n_ z
                        · rw [if_pos ⟨rfl, Int32.not_lt.mp hq, hi⟩]
                          have := hlo (i - 40 * s) (by have := hjn hq; omega)
                          rwa [show 40 * s + (i - 40 * s) = i by omega] at this
                        · rw [if_neg (fun qq => hi qq.2.2), hhi i (by have := hjn hq; omega)]; rfl
                    · rw [if_neg (c := k = 42 ∧ _) (fun qq => h42 qq.1)]
                      unfold co
                      rw [haτ k (by simpa using h42)]
                      by_cases h41 : k = 41 ∧ i = s
                      · rw [if_neg (c := k = 39 ∧ _) (by omega), if_neg (c := k = 40 ∧ _) (by omega), if_pos h41, h41.1, h41.2]; simp [mset, upd2, scr]
                      · by_cases h40 : k = 40 ∧ i = s
                        · rw [if_neg (c := k = 39 ∧ _) (by omega), if_pos h40, h40.1, h40.2]; simp [mset, upd2, scr]
                        · by_cases h39' : k = 39 ∧ i = s
                          · rw [if_pos h39', h39'.1, h39'.2]
                            simp [mset, upd2, scr]
                            first
                              | exact h51
                              | exact Int32.not_lt.mp h51
                          · rw [if_neg h39', if_neg h40, if_neg h41]
                            simp only [mset, upd2_at]
                            rw [if_neg h41, if_neg h40, if_neg h39']
                  · have hjz : (j : Int) < z.toInt := by
                      have := Int32.lt_iff_toInt_lt.mp (Int32.not_le.mp h80)
                      rwa [nI_toInt (by omega)] at this
                    have hj40 : j < 40 := by
                      first
                        | exact absurd h22 h84
                        | (have h40 : z.toInt ≤ 40 := Int32.le_iff_toInt_le.mp h28
                           omega)
                    refine v_aload_n G 4 dX8_sheet_87 rfl ?_
                    refine m_get (v := .ref (ad 42)) G 42 (by decide) rfl q1336 rfl dX8_sheet_88 ?_
                    refine v_bipush (v := 40) G dX8_sheet_91 rfl ?_
                    refine v_iload_n G 3 dX8_sheet_93 rfl ?_
                    refine v_imul G dX8_sheet_94 ?_
                    refine v_iload G 0 dX8_sheet_95 rfl ?_
                    refine v_iadd G dX8_sheet_97 ?_
                    refine v_iconst (v := 0) G dX8_sheet_98 rfl ?_
                    refine m_iast G 42 rfl ((40 * s) + j) (ix_add (ix_mul (ix_lit 40 rfl) es) rfl) (show (40 * s) + j < 160 by first | omega | assumption | decide) dX8_sheet_99 ?_
                    refine v_iinc (v := nI (j + 1)) (L' := [(4, .int (nI (j + 1))), (3, .int z), (2, .int q), (1, .int x), (0, .ref (ad 43))]) G 0 dX8_sheet_100 rfl (ix_add rfl (ix_lit 1 rfl)) (by decide) rfl ?_
                    refine v_goto (tgt := 77) G dX8_sheet_103 (by decide) ?_
                    refine V_.sub (L' := [(4, .int (nI (j + 1))), (3, .int z), (2, .int q), (1, .int x), (0, .ref (ad 43))]) ?_ [0, 1, 2, 3, 4] rfl
                    exact ih77  (j + 1) (mset τ 42 ((40 * s) + j) 0) (by omega) (cpy_lo (f := fun _ => 0) hlo rfl) (cpy_hi hhi) (ag_tr haτ (ag_set (by decide))) (fun h => absurd h h84) (fun _ => by omega) (by omega)
            refine V_.sub (L' := [(4, .int 0), (3, .int z), (2, .int q), (1, .int x), (0, .ref (ad 43))]) ?_ [0, 4, 3, 2, 1] rfl
            refine v_loc (L' := [(4, .int (nI 0)), (3, .int z), (2, .int q), (1, .int x), (0, .ref (ad 43))]) (rfl) ?_
            exact loop77 _ 0 (mset (mset (mset σ 39 s 1) 40 s q) 41 s z) (Nat.zero_le _) (fun i hi => absurd hi (Nat.not_lt_zero i)) (fun i _ => by rw [mset_ne_k (by decide), mset_ne_k (by decide), mset_ne_k (by decide)]) ag_rf (fun _ => rfl) (fun hq => by first | exact absurd h35 hq | (have := Int32.le_iff_toInt_le.mp h39; exact this)) (Nat.lt_succ_self _)
        · refine v_iload_n G 3 dX8_sheet_38 rfl ?_
          refine v_if_ge (tgt := 45) G dX8_sheet_39 (by decide) (fun h39 => ?_) (fun h39 => ?_)
          · obtain ⟨s, hsj, es⟩ := rg_nat (n := 3) h1_h (by decide)
            have hs4 : s < 4 := by omega
            have esn : n_ x = s := by rw [es]; exact nI_clamp (by omega)
            refine v_aload_n G 0 dX8_sheet_45 rfl ?_
            refine m_get (v := .ref (ad 39)) G 39 (by decide) rfl q1333 rfl dX8_sheet_46 ?_
            refine v_iload_n G 1 dX8_sheet_49 rfl ?_
            refine v_iload_n G 2 dX8_sheet_50 rfl ?_
            refine v_if_lt (tgt := 58) G dX8_sheet_51 (by decide) (fun h51 => ?_) (fun h51 => ?_)
            · refine v_iconst (v := 0) G dX8_sheet_58 rfl ?_
              refine m_zast G (s) es (show s < 4 by first | omega | assumption | decide) rfl dX8_sheet_59 ?_
              refine v_aload_n G 0 dX8_sheet_60 rfl ?_
              refine m_get (v := .ref (ad 40)) G 40 (by decide) rfl q1334 rfl dX8_sheet_61 ?_
              refine v_iload_n G 1 dX8_sheet_64 rfl ?_
              refine v_iload_n G 2 dX8_sheet_65 rfl ?_
              refine m_iast G 40 rfl (s) es (show s < 4 by first | omega | assumption | decide) dX8_sheet_66 ?_
              refine v_aload_n G 0 dX8_sheet_67 rfl ?_
              refine m_get (v := .ref (ad 41)) G 41 (by decide) rfl q1335 rfl dX8_sheet_68 ?_
              refine v_iload_n G 1 dX8_sheet_71 rfl ?_
              refine v_iload_n G 3 dX8_sheet_72 rfl ?_
              refine m_iast G 41 rfl (s) es (show s < 4 by first | omega | assumption | decide) dX8_sheet_73 ?_
              refine v_iconst (v := 0) G dX8_sheet_74 rfl ?_
              refine v_istore (L' := [(4, .int 0), (0, .ref (ad 43)), (1, .int x), (2, .int q), (3, .int z)]) G dX8_sheet_75 (by decide) rfl ?_
              have loop77 : ∀ (dd : Nat) (j : Nat) (τ : MS), (j ≤ 40) → (∀ i, i < j → τ.1 42 (40 * s + i) = 0) → (∀ i, (i < 40 * s ∨ 40 * s + j ≤ i) → τ.1 42 i = σ.1 42 i) → (ag [42] (mset (mset (mset σ 39 s 0) 40 s q) 41 s z) τ) → (q < 0 → j = 0) → (¬ q < 0 → (j : Int) ≤ z.toInt) → 40 - j < dd → V_ pp l ee rmX8_sheet ss mm aa bb hh cc 5 (dC, dI) vwCl AA QQ 0 0 (RM ct ad τ) 77 [(4, .int (nI j)), (3, .int z), (2, .int q), (1, .int x), (0, .ref (ad 43))] [] := by
                intro dd
                induction dd with
                | zero => intro j τ hj hlo hhi haτ hq0 hqz hdd; exact absurd hdd (Nat.not_lt_zero _)
                | succ dd ih77 =>
                  intro j τ hj hlo hhi haτ hq0 hqz hdd
                  refine v_iload G 0 dX8_sheet_77 rfl ?_
                  refine v_iload_n G 1 dX8_sheet_79 rfl ?_
                  refine v_icmp_ge (tgt := 106) G dX8_sheet_80 (by decide) (fun h80 => ?_) (fun h80 => ?_)
                  · refine v_iconst (v := 1) G dX8_sheet_106 rfl ?_
                    refine RET _ _ _ _ _ _ rfl (Nat.le_of_ble_eq_true rfl) (Nat.le_of_ble_eq_true rfl) dX8_sheet_107 (fun ws hws => ⟨_, hws, ?_⟩)
                    clear RET G hT hnm
                    rw [s_sheet, if_pos ⟨h1_h, g15, by first | exact Or.inl h22 | exact Or.inr h28⟩, if_neg (fun qq => by first | exact qq.1 h35 | exact Int32.not_lt.mpr h39 qq.2), esn]
                    refine ⟨rfl, ?_⟩
                    have hjn : ¬ q < 0 → j = n_ z := fun hq => by
                      have h1 := hqz hq
                      have h2 : z.toInt ≤ (j : Int) := by
                        first
                          | (have := Int32.le_iff_toInt_le.mp h80; rwa [nI_toInt (by omega)] at this)
                          | exact absurd h84 hq
                      have : n_ z = z.toInt.toNat := rfl
                      omega
                    show co τ = s_newK (co σ) s q z
                    funext k i
                    unfold s_newK
                    by_cases h42 : k = 42
                    · subst h42
                      rw [if_neg (by omega), if_neg (by omega), if_neg (by omega)]
                      show τ.1 42 i = _
                      by_cases hq : q < 0
                      · rw [if_neg (fun qq => Int32.not_lt.mpr qq.2.1 hq), hhi i (by have := hq0 hq; omega)]; rfl
                      · by_cases hi : 40 * s ≤ i ∧ i < 40 * s + n_ z
                        · rw [if_pos ⟨rfl, Int32.not_lt.mp hq, hi⟩]
                          have := hlo (i - 40 * s) (by have := hjn hq; omega)
                          rwa [show 40 * s + (i - 40 * s) = i by omega] at this
                        · rw [if_neg (fun qq => hi qq.2.2), hhi i (by have := hjn hq; omega)]; rfl
                    · rw [if_neg (c := k = 42 ∧ _) (fun qq => h42 qq.1)]
                      unfold co
                      rw [haτ k (by simpa using h42)]
                      by_cases h41 : k = 41 ∧ i = s
                      · rw [if_neg (c := k = 39 ∧ _) (by omega), if_neg (c := k = 40 ∧ _) (by omega), if_pos h41, h41.1, h41.2]; simp [mset, upd2, scr]
                      · by_cases h40 : k = 40 ∧ i = s
                        · rw [if_neg (c := k = 39 ∧ _) (by omega), if_pos h40, h40.1, h40.2]; simp [mset, upd2, scr]
                        · by_cases h39' : k = 39 ∧ i = s
                          · rw [if_pos h39', h39'.1, h39'.2]
                            simp [mset, upd2, scr]
                            first
                              | exact h51
                              | exact Int32.not_lt.mp h51
                          · rw [if_neg h39', if_neg h40, if_neg h41]
                            simp only [mset, upd2_at]
                            rw [if_neg h41, if_neg h40, if_neg h39']
                  · refine v_iload_n G 2 dX8_sheet_83 rfl ?_
                    refine v_if_lt (tgt := 106) G dX8_sheet_84 (by decide) (fun h84 => ?_) (fun h84 => ?_)
                    · refine v_iconst (v := 1) G dX8_sheet_106 rfl ?_
                      refine RET _ _ _ _ _ _ rfl (Nat.le_of_ble_eq_true rfl) (Nat.le_of_ble_eq_true rfl) dX8_sheet_107 (fun ws hws => ⟨_, hws, ?_⟩)
                      clear RET G hT hnm
                      rw [s_sheet, if_pos ⟨h1_h, g15, by first | exact Or.inl h22 | exact Or.inr h28⟩, if_neg (fun qq => by first | exact qq.1 h35 | exact Int32.not_lt.mpr h39 qq.2), esn]
                      refine ⟨rfl, ?_⟩
                      have hjn : ¬ q < 0 → j = n_ z := fun hq => by
                        have h1 := hqz hq
                        have h2 : z.toInt ≤ (j : Int) := by
                          first
                            | (have := Int32.le_iff_toInt_le.mp h80; rwa [nI_toInt (by omega)] at this)
                            | exact absurd h84 hq
                        have : n_ z = z.toInt.toNat := rfl
                        omega
                      show co τ = s_newK (co σ) s q z
                      funext k i
                      unfold s_newK
                      by_cases h42 : k = 42
                      · subst h42
                        rw [if_neg (by omega), if_neg (by omega), if_neg (by omega)]
                        show τ.1 42 i = _
                        by_cases hq : q < 0
                        · rw [if_neg (fun qq => Int32.not_lt.mpr qq.2.1 hq), hhi i (by have := hq0 hq; omega)]; rfl
                        · by_cases hi : 40 * s ≤ i ∧ i < 40 * s + n_ z
                          · rw [if_pos ⟨rfl, Int32.not_lt.mp hq, hi⟩]
                            have := hlo (i - 40 * s) (by have := hjn hq; omega)
                            rwa [show 40 * s + (i - 40 * s) = i by omega] at this
                          · rw [if_neg (fun qq => hi qq.2.2), hhi i (by have := hjn hq; omega)]; rfl
                      · rw [if_neg (c := k = 42 ∧ _) (fun qq => h42 qq.1)]
                        unfold co
                        rw [haτ k (by simpa using h42)]
                        by_cases h41 : k = 41 ∧ i = s
                        · rw [if_neg (c := k = 39 ∧ _) (by omega), if_neg (c := k = 40 ∧ _) (by omega), if_pos h41, h41.1, h41.2]; simp [mset, upd2, scr]
                        · by_cases h40 : k = 40 ∧ i = s
                          · rw [if_neg (c := k = 39 ∧ _) (by omega), if_pos h40, h40.1, h40.2]; simp [mset, upd2, scr]
                          · by_cases h39' : k = 39 ∧ i = s
                            · rw [if_pos h39', h39'.1, h39'.2]
                              simp [mset, upd2, scr]
                              first
                                | exact h51
                                | exact Int32.not_lt.mp h51
                            · rw [if_neg h39', if_neg h40, if_neg h41]
                              simp only [mset, upd2_at]
                              rw [if_neg h41, if_neg h40, if_neg h39']
                    · have hjz : (j : Int) < z.toInt := by
                        have := Int32.lt_iff_toInt_lt.mp (Int32.not_le.mp h80)
                        rwa [nI_toInt (by omega)] at this
                      have hj40 : j < 40 := by
                        first
                          | exact absurd h22 h84
                          | (have h40 : z.toInt ≤ 40 := Int32.le_iff_toInt_le.mp h28
                             omega)
                      refine v_aload_n G 4 dX8_sheet_87 rfl ?_
                      refine m_get (v := .ref (ad 42)) G 42 (by decide) rfl q1336 rfl dX8_sheet_88 ?_
                      refine v_bipush (v := 40) G dX8_sheet_91 rfl ?_
                      refine v_iload_n G 3 dX8_sheet_93 rfl ?_
                      refine v_imul G dX8_sheet_94 ?_
                      refine v_iload G 0 dX8_sheet_95 rfl ?_
                      refine v_iadd G dX8_sheet_97 ?_
                      refine v_iconst (v := 0) G dX8_sheet_98 rfl ?_
                      refine m_iast G 42 rfl ((40 * s) + j) (ix_add (ix_mul (ix_lit 40 rfl) es) rfl) (show (40 * s) + j < 160 by first | omega | assumption | decide) dX8_sheet_99 ?_
                      refine v_iinc (v := nI (j + 1)) (L' := [(4, .int (nI (j + 1))), (3, .int z), (2, .int q), (1, .int x), (0, .ref (ad 43))]) G 0 dX8_sheet_100 rfl (ix_add rfl (ix_lit 1 rfl)) (by decide) rfl ?_
                      refine v_goto (tgt := 77) G dX8_sheet_103 (by decide) ?_
                      refine V_.sub (L' := [(4, .int (nI (j + 1))), (3, .int z), (2, .int q), (1, .int x), (0, .ref (ad 43))]) ?_ [0, 1, 2, 3, 4] rfl
                      exact ih77  (j + 1) (mset τ 42 ((40 * s) + j) 0) (by omega) (cpy_lo (f := fun _ => 0) hlo rfl) (cpy_hi hhi) (ag_tr haτ (ag_set (by decide))) (fun h => absurd h h84) (fun _ => by omega) (by omega)
              refine V_.sub (L' := [(4, .int 0), (3, .int z), (2, .int q), (1, .int x), (0, .ref (ad 43))]) ?_ [0, 4, 3, 2, 1] rfl
              refine v_loc (L' := [(4, .int (nI 0)), (3, .int z), (2, .int q), (1, .int x), (0, .ref (ad 43))]) (rfl) ?_
              exact loop77 _ 0 (mset (mset (mset σ 39 s 0) 40 s q) 41 s z) (Nat.zero_le _) (fun i hi => absurd hi (Nat.not_lt_zero i)) (fun i _ => by rw [mset_ne_k (by decide), mset_ne_k (by decide), mset_ne_k (by decide)]) ag_rf (fun _ => rfl) (fun hq => by first | exact absurd h35 hq | (have := Int32.le_iff_toInt_le.mp h39; exact this)) (Nat.lt_succ_self _)
            · refine v_iconst (v := 1) G dX8_sheet_54 rfl ?_
              refine v_goto (tgt := 59) G dX8_sheet_55 (by decide) ?_
              refine m_zast G (s) es (show s < 4 by first | omega | assumption | decide) rfl dX8_sheet_59 ?_
              refine v_aload_n G 0 dX8_sheet_60 rfl ?_
              refine m_get (v := .ref (ad 40)) G 40 (by decide) rfl q1334 rfl dX8_sheet_61 ?_
              refine v_iload_n G 1 dX8_sheet_64 rfl ?_
              refine v_iload_n G 2 dX8_sheet_65 rfl ?_
              refine m_iast G 40 rfl (s) es (show s < 4 by first | omega | assumption | decide) dX8_sheet_66 ?_
              refine v_aload_n G 0 dX8_sheet_67 rfl ?_
              refine m_get (v := .ref (ad 41)) G 41 (by decide) rfl q1335 rfl dX8_sheet_68 ?_
              refine v_iload_n G 1 dX8_sheet_71 rfl ?_
              refine v_iload_n G 3 dX8_sheet_72 rfl ?_
              refine m_iast G 41 rfl (s) es (show s < 4 by first | omega | assumption | decide) dX8_sheet_73 ?_
              refine v_iconst (v := 0) G dX8_sheet_74 rfl ?_
              refine v_istore (L' := [(4, .int 0), (0, .ref (ad 43)), (1, .int x), (2, .int q), (3, .int z)]) G dX8_sheet_75 (by decide) rfl ?_
              have loop77 : ∀ (dd : Nat) (j : Nat) (τ : MS), (j ≤ 40) → (∀ i, i < j → τ.1 42 (40 * s + i) = 0) → (∀ i, (i < 40 * s ∨ 40 * s + j ≤ i) → τ.1 42 i = σ.1 42 i) → (ag [42] (mset (mset (mset σ 39 s 1) 40 s q) 41 s z) τ) → (q < 0 → j = 0) → (¬ q < 0 → (j : Int) ≤ z.toInt) → 40 - j < dd → V_ pp l ee rmX8_sheet ss mm aa bb hh cc 5 (dC, dI) vwCl AA QQ 0 0 (RM ct ad τ) 77 [(4, .int (nI j)), (3, .int z), (2, .int q), (1, .int x), (0, .ref (ad 43))] [] := by
                intro dd
                induction dd with
                | zero => intro j τ hj hlo hhi haτ hq0 hqz hdd; exact absurd hdd (Nat.not_lt_zero _)
                | succ dd ih77 =>
                  intro j τ hj hlo hhi haτ hq0 hqz hdd
                  refine v_iload G 0 dX8_sheet_77 rfl ?_
                  refine v_iload_n G 1 dX8_sheet_79 rfl ?_
                  refine v_icmp_ge (tgt := 106) G dX8_sheet_80 (by decide) (fun h80 => ?_) (fun h80 => ?_)
                  · refine v_iconst (v := 1) G dX8_sheet_106 rfl ?_
                    refine RET _ _ _ _ _ _ rfl (Nat.le_of_ble_eq_true rfl) (Nat.le_of_ble_eq_true rfl) dX8_sheet_107 (fun ws hws => ⟨_, hws, ?_⟩)
                    clear RET G hT hnm
                    rw [s_sheet, if_pos ⟨h1_h, g15, by first | exact Or.inl h22 | exact Or.inr h28⟩, if_neg (fun qq => by first | exact qq.1 h35 | exact Int32.not_lt.mpr h39 qq.2), esn]
                    refine ⟨rfl, ?_⟩
                    have hjn : ¬ q < 0 → j = n_ z := fun hq => by
                      have h1 := hqz hq
                      have h2 : z.toInt ≤ (j : Int) := by
                        first
                          | (have := Int32.le_iff_toInt_le.mp h80; rwa [nI_toInt (by omega)] at this)
                          | exact absurd h84 hq
                      have : n_ z = z.toInt.toNat := rfl
                      omega
                    show co τ = s_newK (co σ) s q z
                    funext k i
                    unfold s_newK
                    by_cases h42 : k = 42
                    · subst h42
                      rw [if_neg (by omega), if_neg (by omega), if_neg (by omega)]
                      show τ.1 42 i = _
                      by_cases hq : q < 0
                      · rw [if_neg (fun qq => Int32.not_lt.mpr qq.2.1 hq), hhi i (by have := hq0 hq; omega)]; rfl
                      · by_cases hi : 40 * s ≤ i ∧ i < 40 * s + n_ z
                        · rw [if_pos ⟨rfl, Int32.not_lt.mp hq, hi⟩]
                          have := hlo (i - 40 * s) (by have := hjn hq; omega)
                          rwa [show 40 * s + (i - 40 * s) = i by omega] at this
                        · rw [if_neg (fun qq => hi qq.2.2), hhi i (by have := hjn hq; omega)]; rfl
                    · rw [if_neg (c := k = 42 ∧ _) (fun qq => h42 qq.1)]
                      unfold co
                      rw [haτ k (by simpa using h42)]
                      by_cases h41 : k = 41 ∧ i = s
                      · rw [if_neg (c := k = 39 ∧ _) (by omega), if_neg (c := k = 40 ∧ _) (by omega), if_pos h41, h41.1, h41.2]; simp [mset, upd2, scr]
                      · by_cases h40 : k = 40 ∧ i = s
                        · rw [if_neg (c := k = 39 ∧ _) (by omega), if_pos h40, h40.1, h40.2]; simp [mset, upd2, scr]
                        · by_cases h39' : k = 39 ∧ i = s
                          · rw [if_pos h39', h39'.1, h39'.2]
                            simp [mset, upd2, scr]
                            first
                              | exact h51
                              | exact Int32.not_lt.mp h51
                          · rw [if_neg h39', if_neg h40, if_neg h41]
                            simp only [mset, upd2_at]
                            rw [if_neg h41, if_neg h40, if_neg h39']
                  · refine v_iload_n G 2 dX8_sheet_83 rfl ?_
                    refine v_if_lt (tgt := 106) G dX8_sheet_84 (by decide) (fun h84 => ?_) (fun h84 => ?_)
                    · refine v_iconst (v := 1) G dX8_sheet_106 rfl ?_
                      refine RET _ _ _ _ _ _ rfl (Nat.le_of_ble_eq_true rfl) (Nat.le_of_ble_eq_true rfl) dX8_sheet_107 (fun ws hws => ⟨_, hws, ?_⟩)
                      clear RET G hT hnm
                      rw [s_sheet, if_pos ⟨h1_h, g15, by first | exact Or.inl h22 | exact Or.inr h28⟩, if_neg (fun qq => by first | exact qq.1 h35 | exact Int32.not_lt.mpr h39 qq.2), esn]
                      refine ⟨rfl, ?_⟩
                      have hjn : ¬ q < 0 → j = n_ z := fun hq => by
                        have h1 := hqz hq
                        have h2 : z.toInt ≤ (j : Int) := by
                          first
                            | (have := Int32.le_iff_toInt_le.mp h80; rwa [nI_toInt (by omega)] at this)
                            | exact absurd h84 hq
                        have : n_ z = z.toInt.toNat := rfl
                        omega
                      show co τ = s_newK (co σ) s q z
                      funext k i
                      unfold s_newK
                      by_cases h42 : k = 42
                      · subst h42
                        rw [if_neg (by omega), if_neg (by omega), if_neg (by omega)]
                        show τ.1 42 i = _
                        by_cases hq : q < 0
                        · rw [if_neg (fun qq => Int32.not_lt.mpr qq.2.1 hq), hhi i (by have := hq0 hq; omega)]; rfl
                        · by_cases hi : 40 * s ≤ i ∧ i < 40 * s + n_ z
                          · rw [if_pos ⟨rfl, Int32.not_lt.mp hq, hi⟩]
                            have := hlo (i - 40 * s) (by have := hjn hq; omega)
                            rwa [show 40 * s + (i - 40 * s) = i by omega] at this
                          · rw [if_neg (fun qq => hi qq.2.2), hhi i (by have := hjn hq; omega)]; rfl
                      · rw [if_neg (c := k = 42 ∧ _) (fun qq => h42 qq.1)]
                        unfold co
                        rw [haτ k (by simpa using h42)]
                        by_cases h41 : k = 41 ∧ i = s
                        · rw [if_neg (c := k = 39 ∧ _) (by omega), if_neg (c := k = 40 ∧ _) (by omega), if_pos h41, h41.1, h41.2]; simp [mset, upd2, scr]
                        · by_cases h40 : k = 40 ∧ i = s
                          · rw [if_neg (c := k = 39 ∧ _) (by omega), if_pos h40, h40.1, h40.2]; simp [mset, upd2, scr]
                          · by_cases h39' : k = 39 ∧ i = s
                            · rw [if_pos h39', h39'.1, h39'.2]
                              simp [mset, upd2, scr]
                              first
                                | exact h51
                                | exact Int32.not_lt.mp h51
                            · rw [if_neg h39', if_neg h40, if_neg h41]
                              simp only [mset, upd2_at]
                              rw [if_neg h41, if_neg h40, if_neg h39']
                    · have hjz : (j : Int) < z.toInt := by
                        have := Int32.lt_iff_toInt_lt.mp (Int32.not_le.mp h80)
                        rwa [nI_toInt (by omega)] at this
                      have hj40 : j < 40 := by
                        first
                          | exact absurd h22 h84
                          | (have h40 : z.toInt ≤ 40 := Int32.le_iff_toInt_le.mp h28
                             omega)
                      refine v_aload_n G 4 dX8_sheet_87 rfl ?_
                      refine m_get (v := .ref (ad 42)) G 42 (by decide) rfl q1336 rfl dX8_sheet_88 ?_
                      refine v_bipush (v := 40) G dX8_sheet_91 rfl ?_
                      refine v_iload_n G 3 dX8_sheet_93 rfl ?_
                      refine v_imul G dX8_sheet_94 ?_
                      refine v_iload G 0 dX8_sheet_95 rfl ?_
                      refine v_iadd G dX8_sheet_97 ?_
                      refine v_iconst (v := 0) G dX8_sheet_98 rfl ?_
                      refine m_iast G 42 rfl ((40 * s) + j) (ix_add (ix_mul (ix_lit 40 rfl) es) rfl) (show (40 * s) + j < 160 by first | omega | assumption | decide) dX8_sheet_99 ?_
                      refine v_iinc (v := nI (j + 1)) (L' := [(4, .int (nI (j + 1))), (3, .int z), (2, .int q), (1, .int x), (0, .ref (ad 43))]) G 0 dX8_sheet_100 rfl (ix_add rfl (ix_lit 1 rfl)) (by decide) rfl ?_
                      refine v_goto (tgt := 77) G dX8_sheet_103 (by decide) ?_
                      refine V_.sub (L' := [(4, .int (nI (j + 1))), (3, .int z), (2, .int q), (1, .int x), (0, .ref (ad 43))]) ?_ [0, 1, 2, 3, 4] rfl
                      exact ih77  (j + 1) (mset τ 42 ((40 * s) + j) 0) (by omega) (cpy_lo (f := fun _ => 0) hlo rfl) (cpy_hi hhi) (ag_tr haτ (ag_set (by decide))) (fun h => absurd h h84) (fun _ => by omega) (by omega)
              refine V_.sub (L' := [(4, .int 0), (3, .int z), (2, .int q), (1, .int x), (0, .ref (ad 43))]) ?_ [0, 4, 3, 2, 1] rfl
              refine v_loc (L' := [(4, .int (nI 0)), (3, .int z), (2, .int q), (1, .int x), (0, .ref (ad 43))]) (rfl) ?_
              exact loop77 _ 0 (mset (mset (mset σ 39 s 1) 40 s q) 41 s z) (Nat.zero_le _) (fun i hi => absurd hi (Nat.not_lt_zero i)) (fun i _ => by rw [mset_ne_k (by decide), mset_ne_k (by decide), mset_ne_k (by decide)]) ag_rf (fun _ => rfl) (fun hq => by first | exact absurd h35 hq | (have := Int32.le_iff_toInt_le.mp h39; exact this)) (Nat.lt_succ_self _)
          · refine v_bipush (v := (-14)) G dX8_sheet_42 rfl ?_
            refine RET _ _ _ _ _ _ rfl (Nat.le_of_ble_eq_true rfl) (Nat.le_of_ble_eq_true rfl) dX8_sheet_44 (fun ws hws => ⟨_, hws, ?_⟩)
            clear RET G hT hnm
            rw [s_sheet, if_pos ⟨h1_h, g15, by first | exact Or.inl h22 | exact Or.inr h28⟩, if_pos ⟨h35, by first | exact h39 | exact Int32.not_le.mp h39⟩]
            exact ⟨rfl, rfl⟩
      · refine v_iload_n G 3 dX8_sheet_25 rfl ?_
        refine v_bipush (v := 40) G dX8_sheet_26 rfl ?_
        refine v_icmp_le (tgt := 34) G dX8_sheet_28 (by decide) (fun h28 => ?_) (fun h28 => ?_)
        · refine v_iload_n G 2 dX8_sheet_34 rfl ?_
          refine v_if_lt (tgt := 45) G dX8_sheet_35 (by decide) (fun h35 => ?_) (fun h35 => ?_)
          · obtain ⟨s, hsj, es⟩ := rg_nat (n := 3) h1_h (by decide)
            have hs4 : s < 4 := by omega
            have esn : n_ x = s := by rw [es]; exact nI_clamp (by omega)
            refine v_aload_n G 0 dX8_sheet_45 rfl ?_
            refine m_get (v := .ref (ad 39)) G 39 (by decide) rfl q1333 rfl dX8_sheet_46 ?_
            refine v_iload_n G 1 dX8_sheet_49 rfl ?_
            refine v_iload_n G 2 dX8_sheet_50 rfl ?_
            refine v_if_lt (tgt := 58) G dX8_sheet_51 (by decide) (fun h51 => ?_) (fun h51 => ?_)
            · refine v_iconst (v := 0) G dX8_sheet_58 rfl ?_
              refine m_zast G (s) es (show s < 4 by first | omega | assumption | decide) rfl dX8_sheet_59 ?_
              refine v_aload_n G 0 dX8_sheet_60 rfl ?_
              refine m_get (v := .ref (ad 40)) G 40 (by decide) rfl q1334 rfl dX8_sheet_61 ?_
              refine v_iload_n G 1 dX8_sheet_64 rfl ?_
              refine v_iload_n G 2 dX8_sheet_65 rfl ?_
              refine m_iast G 40 rfl (s) es (show s < 4 by first | omega | assumption | decide) dX8_sheet_66 ?_
              refine v_aload_n G 0 dX8_sheet_67 rfl ?_
              refine m_get (v := .ref (ad 41)) G 41 (by decide) rfl q1335 rfl dX8_sheet_68 ?_
              refine v_iload_n G 1 dX8_sheet_71 rfl ?_
              refine v_iload_n G 3 dX8_sheet_72 rfl ?_
              refine m_iast G 41 rfl (s) es (show s < 4 by first | omega | assumption | decide) dX8_sheet_73 ?_
              refine v_iconst (v := 0) G dX8_sheet_74 rfl ?_
              refine v_istore (L' := [(4, .int 0), (0, .ref (ad 43)), (1, .int x), (2, .int q), (3, .int z)]) G dX8_sheet_75 (by decide) rfl ?_
              have loop77 : ∀ (dd : Nat) (j : Nat) (τ : MS), (j ≤ 40) → (∀ i, i < j → τ.1 42 (40 * s + i) = 0) → (∀ i, (i < 40 * s ∨ 40 * s + j ≤ i) → τ.1 42 i = σ.1 42 i) → (ag [42] (mset (mset (mset σ 39 s 0) 40 s q) 41 s z) τ) → (q < 0 → j = 0) → (¬ q < 0 → (j : Int) ≤ z.toInt) → 40 - j < dd → V_ pp l ee rmX8_sheet ss mm aa bb hh cc 5 (dC, dI) vwCl AA QQ 0 0 (RM ct ad τ) 77 [(4, .int (nI j)), (3, .int z), (2, .int q), (1, .int x), (0, .ref (ad 43))] [] := by
                intro dd
                induction dd with
                | zero => intro j τ hj hlo hhi haτ hq0 hqz hdd; exact absurd hdd (Nat.not_lt_zero _)
                | succ dd ih77 =>
                  intro j τ hj hlo hhi haτ hq0 hqz hdd
                  refine v_iload G 0 dX8_sheet_77 rfl ?_
                  refine v_iload_n G 1 dX8_sheet_79 rfl ?_
                  refine v_icmp_ge (tgt := 106) G dX8_sheet_80 (by decide) (fun h80 => ?_) (fun h80 => ?_)
                  · refine v_iconst (v := 1) G dX8_sheet_106 rfl ?_
                    refine RET _ _ _ _ _ _ rfl (Nat.le_of_ble_eq_true rfl) (Nat.le_of_ble_eq_true rfl) dX8_sheet_107 (fun ws hws => ⟨_, hws, ?_⟩)
                    clear RET G hT hnm
                    rw [s_sheet, if_pos ⟨h1_h, g15, by first | exact Or.inl h22 | exact Or.inr h28⟩, if_neg (fun qq => by first | exact qq.1 h35 | exact Int32.not_lt.mpr h39 qq.2), esn]
                    refine ⟨rfl, ?_⟩
                    have hjn : ¬ q < 0 → j = n_ z := fun hq => by
                      have h1 := hqz hq
                      have h2 : z.toInt ≤ (j : Int) := by
                        first
                          | (have := Int32.le_iff_toInt_le.mp h80; rwa [nI_toInt (by omega)] at this)
                          | exact absurd h84 hq
                      have : n_ z = z.toInt.toNat := rfl
                      omega
                    show co τ = s_newK (co σ) s q z
                    funext k i
                    unfold s_newK
                    by_cases h42 : k = 42
                    · subst h42
                      rw [if_neg (by omega), if_neg (by omega), if_neg (by omega)]
                      show τ.1 42 i = _
                      by_cases hq : q < 0
                      · rw [if_neg (fun qq => Int32.not_lt.mpr qq.2.1 hq), hhi i (by have := hq0 hq; omega)]; rfl
                      · by_cases hi : 40 * s ≤ i ∧ i < 40 * s + n_ z
                        · rw [if_pos ⟨rfl, Int32.not_lt.mp hq, hi⟩]
                          have := hlo (i - 40 * s) (by have := hjn hq; omega)
                          rwa [show 40 * s + (i - 40 * s) = i by omega] at this
                        · rw [if_neg (fun qq => hi qq.2.2), hhi i (by have := hjn hq; omega)]; rfl
                    · rw [if_neg (c := k = 42 ∧ _) (fun qq => h42 qq.1)]
                      unfold co
                      rw [haτ k (by simpa using h42)]
                      by_cases h41 : k = 41 ∧ i = s
                      · rw [if_neg (c := k = 39 ∧ _) (by omega), if_neg (c := k = 40 ∧ _) (by omega), if_pos h41, h41.1, h41.2]; simp [mset, upd2, scr]
                      · by_cases h40 : k = 40 ∧ i = s
                        · rw [if_neg (c := k = 39 ∧ _) (by omega), if_pos h40, h40.1, h40.2]; simp [mset, upd2, scr]
                        · by_cases h39' : k = 39 ∧ i = s
                          · rw [if_pos h39', h39'.1, h39'.2]
                            simp [mset, upd2, scr]
                            first
                              | exact h51
                              | exact Int32.not_lt.mp h51
                          · rw [if_neg h39', if_neg h40, if_neg h41]
                            simp only [mset, upd2_at]
                            rw [if_neg h41, if_neg h40, if_neg h39']
                  · refine v_iload_n G 2 dX8_sheet_83 rfl ?_
                    refine v_if_lt (tgt := 106) G dX8_sheet_84 (by decide) (fun h84 => ?_) (fun h84 => ?_)
                    · refine v_iconst (v := 1) G dX8_sheet_106 rfl ?_
                      refine RET _ _ _ _ _ _ rfl (Nat.le_of_ble_eq_true rfl) (Nat.le_of_ble_eq_true rfl) dX8_sheet_107 (fun ws hws => ⟨_, hws, ?_⟩)
                      clear RET G hT hnm
                      rw [s_sheet, if_pos ⟨h1_h, g15, by first | exact Or.inl h22 | exact Or.inr h28⟩, if_neg (fun qq => by first | exact qq.1 h35 | exact Int32.not_lt.mpr h39 qq.2), esn]
                      refine ⟨rfl, ?_⟩
                      have hjn : ¬ q < 0 → j = n_ z := fun hq => by
                        have h1 := hqz hq
                        have h2 : z.toInt ≤ (j : Int) := by
                          first
                            | (have := Int32.le_iff_toInt_le.mp h80; rwa [nI_toInt (by omega)] at this)
                            | exact absurd h84 hq
                        have : n_ z = z.toInt.toNat := rfl
                        omega
                      show co τ = s_newK (co σ) s q z
                      funext k i
                      unfold s_newK
                      by_cases h42 : k = 42
                      · subst h42
                        rw [if_neg (by omega), if_neg (by omega), if_neg (by omega)]
                        show τ.1 42 i = _
                        by_cases hq : q < 0
                        · rw [if_neg (fun qq => Int32.not_lt.mpr qq.2.1 hq), hhi i (by have := hq0 hq; omega)]; rfl
                        · by_cases hi : 40 * s ≤ i ∧ i < 40 * s + n_ z
                          · rw [if_pos ⟨rfl, Int32.not_lt.mp hq, hi⟩]
                            have := hlo (i - 40 * s) (by have := hjn hq; omega)
                            rwa [show 40 * s + (i - 40 * s) = i by omega] at this
                          · rw [if_neg (fun qq => hi qq.2.2), hhi i (by have := hjn hq; omega)]; rfl
                      · rw [if_neg (c := k = 42 ∧ _) (fun qq => h42 qq.1)]
                        unfold co
                        rw [haτ k (by simpa using h42)]
                        by_cases h41 : k = 41 ∧ i = s
                        · rw [if_neg (c := k = 39 ∧ _) (by omega), if_neg (c := k = 40 ∧ _) (by omega), if_pos h41, h41.1, h41.2]; simp [mset, upd2, scr]
                        · by_cases h40 : k = 40 ∧ i = s
                          · rw [if_neg (c := k = 39 ∧ _) (by omega), if_pos h40, h40.1, h40.2]; simp [mset, upd2, scr]
                          · by_cases h39' : k = 39 ∧ i = s
                            · rw [if_pos h39', h39'.1, h39'.2]
                              simp [mset, upd2, scr]
                              first
                                | exact h51
                                | exact Int32.not_lt.mp h51
                            · rw [if_neg h39', if_neg h40, if_neg h41]
                              simp only [mset, upd2_at]
                              rw [if_neg h41, if_neg h40, if_neg h39']
                    · have hjz : (j : Int) < z.toInt := by
                        have := Int32.lt_iff_toInt_lt.mp (Int32.not_le.mp h80)
                        rwa [nI_toInt (by omega)] at this
                      have hj40 : j < 40 := by
                        first
                          | exact absurd h22 h84
                          | (have h40 : z.toInt ≤ 40 := Int32.le_iff_toInt_le.mp h28
                             omega)
                      refine v_aload_n G 4 dX8_sheet_87 rfl ?_
                      refine m_get (v := .ref (ad 42)) G 42 (by decide) rfl q1336 rfl dX8_sheet_88 ?_
                      refine v_bipush (v := 40) G dX8_sheet_91 rfl ?_
                      refine v_iload_n G 3 dX8_sheet_93 rfl ?_
                      refine v_imul G dX8_sheet_94 ?_
                      refine v_iload G 0 dX8_sheet_95 rfl ?_
                      refine v_iadd G dX8_sheet_97 ?_
                      refine v_iconst (v := 0) G dX8_sheet_98 rfl ?_
                      refine m_iast G 42 rfl ((40 * s) + j) (ix_add (ix_mul (ix_lit 40 rfl) es) rfl) (show (40 * s) + j < 160 by first | omega | assumption | decide) dX8_sheet_99 ?_
                      refine v_iinc (v := nI (j + 1)) (L' := [(4, .int (nI (j + 1))), (3, .int z), (2, .int q), (1, .int x), (0, .ref (ad 43))]) G 0 dX8_sheet_100 rfl (ix_add rfl (ix_lit 1 rfl)) (by decide) rfl ?_
                      refine v_goto (tgt := 77) G dX8_sheet_103 (by decide) ?_
                      refine V_.sub (L' := [(4, .int (nI (j + 1))), (3, .int z), (2, .int q), (1, .int x), (0, .ref (ad 43))]) ?_ [0, 1, 2, 3, 4] rfl
                      exact ih77  (j + 1) (mset τ 42 ((40 * s) + j) 0) (by omega) (cpy_lo (f := fun _ => 0) hlo rfl) (cpy_hi hhi) (ag_tr haτ (ag_set (by decide))) (fun h => absurd h h84) (fun _ => by omega) (by omega)
              refine V_.sub (L' := [(4, .int 0), (3, .int z), (2, .int q), (1, .int x), (0, .ref (ad 43))]) ?_ [0, 4, 3, 2, 1] rfl
              refine v_loc (L' := [(4, .int (nI 0)), (3, .int z), (2, .int q), (1, .int x), (0, .ref (ad 43))]) (rfl) ?_
              exact loop77 _ 0 (mset (mset (mset σ 39 s 0) 40 s q) 41 s z) (Nat.zero_le _) (fun i hi => absurd hi (Nat.not_lt_zero i)) (fun i _ => by rw [mset_ne_k (by decide), mset_ne_k (by decide), mset_ne_k (by decide)]) ag_rf (fun _ => rfl) (fun hq => by first | exact absurd h35 hq | (have := Int32.le_iff_toInt_le.mp h39; exact this)) (Nat.lt_succ_self _)
            · refine v_iconst (v := 1) G dX8_sheet_54 rfl ?_
              refine v_goto (tgt := 59) G dX8_sheet_55 (by decide) ?_
              refine m_zast G (s) es (show s < 4 by first | omega | assumption | decide) rfl dX8_sheet_59 ?_
              refine v_aload_n G 0 dX8_sheet_60 rfl ?_
              refine m_get (v := .ref (ad 40)) G 40 (by decide) rfl q1334 rfl dX8_sheet_61 ?_
              refine v_iload_n G 1 dX8_sheet_64 rfl ?_
              refine v_iload_n G 2 dX8_sheet_65 rfl ?_
              refine m_iast G 40 rfl (s) es (show s < 4 by first | omega | assumption | decide) dX8_sheet_66 ?_
              refine v_aload_n G 0 dX8_sheet_67 rfl ?_
              refine m_get (v := .ref (ad 41)) G 41 (by decide) rfl q1335 rfl dX8_sheet_68 ?_
              refine v_iload_n G 1 dX8_sheet_71 rfl ?_
              refine v_iload_n G 3 dX8_sheet_72 rfl ?_
              refine m_iast G 41 rfl (s) es (show s < 4 by first | omega | assumption | decide) dX8_sheet_73 ?_
              refine v_iconst (v := 0) G dX8_sheet_74 rfl ?_
              refine v_istore (L' := [(4, .int 0), (0, .ref (ad 43)), (1, .int x), (2, .int q), (3, .int z)]) G dX8_sheet_75 (by decide) rfl ?_
              have loop77 : ∀ (dd : Nat) (j : Nat) (τ : MS), (j ≤ 40) → (∀ i, i < j → τ.1 42 (40 * s + i) = 0) → (∀ i, (i < 40 * s ∨ 40 * s + j ≤ i) → τ.1 42 i = σ.1 42 i) → (ag [42] (mset (mset (mset σ 39 s 1) 40 s q) 41 s z) τ) → (q < 0 → j = 0) → (¬ q < 0 → (j : Int) ≤ z.toInt) → 40 - j < dd → V_ pp l ee rmX8_sheet ss mm aa bb hh cc 5 (dC, dI) vwCl AA QQ 0 0 (RM ct ad τ) 77 [(4, .int (nI j)), (3, .int z), (2, .int q), (1, .int x), (0, .ref (ad 43))] [] := by
                intro dd
                induction dd with
                | zero => intro j τ hj hlo hhi haτ hq0 hqz hdd; exact absurd hdd (Nat.not_lt_zero _)
                | succ dd ih77 =>
                  intro j τ hj hlo hhi haτ hq0 hqz hdd
                  refine v_iload G 0 dX8_sheet_77 rfl ?_
                  refine v_iload_n G 1 dX8_sheet_79 rfl ?_
                  refine v_icmp_ge (tgt := 106) G dX8_sheet_80 (by decide) (fun h80 => ?_) (fun h80 => ?_)
                  · refine v_iconst (v := 1) G dX8_sheet_106 rfl ?_
                    refine RET _ _ _ _ _ _ rfl (Nat.le_of_ble_eq_true rfl) (Nat.le_of_ble_eq_true rfl) dX8_sheet_107 (fun ws hws => ⟨_, hws, ?_⟩)
                    clear RET G hT hnm
                    rw [s_sheet, if_pos ⟨h1_h, g15, by first | exact Or.inl h22 | exact Or.inr h28⟩, if_neg (fun qq => by first | exact qq.1 h35 | exact Int32.not_lt.mpr h39 qq.2), esn]
                    refine ⟨rfl, ?_⟩
                    have hjn : ¬ q < 0 → j = n_ z := fun hq => by
                      have h1 := hqz hq
                      have h2 : z.toInt ≤ (j : Int) := by
                        first
                          | (have := Int32.le_iff_toInt_le.mp h80; rwa [nI_toInt (by omega)] at this)
                          | exact absurd h84 hq
                      have : n_ z = z.toInt.toNat := rfl
                      omega
                    show co τ = s_newK (co σ) s q z
                    funext k i
                    unfold s_newK
                    by_cases h42 : k = 42
                    · subst h42
                      rw [if_neg (by omega), if_neg (by omega), if_neg (by omega)]
                      show τ.1 42 i = _
                      by_cases hq : q < 0
                      · rw [if_neg (fun qq => Int32.not_lt.mpr qq.2.1 hq), hhi i (by have := hq0 hq; omega)]; rfl
                      · by_cases hi : 40 * s ≤ i ∧ i < 40 * s + n_ z
                        · rw [if_pos ⟨rfl, Int32.not_lt.mp hq, hi⟩]
                          have := hlo (i - 40 * s) (by have := hjn hq; omega)
                          rwa [show 40 * s + (i - 40 * s) = i by omega] at this
                        · rw [if_neg (fun qq => hi qq.2.2), hhi i (by have := hjn hq; omega)]; rfl
                    · rw [if_neg (c := k = 42 ∧ _) (fun qq => h42 qq.1)]
                      unfold co
                      rw [haτ k (by simpa using h42)]
                      by_cases h41 : k = 41 ∧ i = s
                      · rw [if_neg (c := k = 39 ∧ _) (by omega), if_neg (c := k = 40 ∧ _) (by omega), if_pos h41, h41.1, h41.2]; simp [mset, upd2, scr]
                      · by_cases h40 : k = 40 ∧ i = s
                        · rw [if_neg (c := k = 39 ∧ _) (by omega), if_pos h40, h40.1, h40.2]; simp [mset, upd2, scr]
                        · by_cases h39' : k = 39 ∧ i = s
                          · rw [if_pos h39', h39'.1, h39'.2]
                            simp [mset, upd2, scr]
                            first
                              | exact h51
                              | exact Int32.not_lt.mp h51
                          · rw [if_neg h39', if_neg h40, if_neg h41]
                            simp only [mset, upd2_at]
                            rw [if_neg h41, if_neg h40, if_neg h39']
                  · refine v_iload_n G 2 dX8_sheet_83 rfl ?_
                    refine v_if_lt (tgt := 106) G dX8_sheet_84 (by decide) (fun h84 => ?_) (fun h84 => ?_)
                    · refine v_iconst (v := 1) G dX8_sheet_106 rfl ?_
                      refine RET _ _ _ _ _ _ rfl (Nat.le_of_ble_eq_true rfl) (Nat.le_of_ble_eq_true rfl) dX8_sheet_107 (fun ws hws => ⟨_, hws, ?_⟩)
                      clear RET G hT hnm
                      rw [s_sheet, if_pos ⟨h1_h, g15, by first | exact Or.inl h22 | exact Or.inr h28⟩, if_neg (fun qq => by first | exact qq.1 h35 | exact Int32.not_lt.mpr h39 qq.2), esn]
                      refine ⟨rfl, ?_⟩
                      have hjn : ¬ q < 0 → j = n_ z := fun hq => by
                        have h1 := hqz hq
                        have h2 : z.toInt ≤ (j : Int) := by
                          first
                            | (have := Int32.le_iff_toInt_le.mp h80; rwa [nI_toInt (by omega)] at this)
                            | exact absurd h84 hq
                        have : n_ z = z.toInt.toNat := rfl
                        omega
                      show co τ = s_newK (co σ) s q z
                      funext k i
                      unfold s_newK
                      by_cases h42 : k = 42
                      · subst h42
                        rw [if_neg (by omega), if_neg (by omega), if_neg (by omega)]
                        show τ.1 42 i = _
                        by_cases hq : q < 0
                        · rw [if_neg (fun qq => Int32.not_lt.mpr qq.2.1 hq), hhi i (by have := hq0 hq; omega)]; rfl
                        · by_cases hi : 40 * s ≤ i ∧ i < 40 * s + n_ z
                          · rw [if_pos ⟨rfl, Int32.not_lt.mp hq, hi⟩]
                            have := hlo (i - 40 * s) (by have := hjn hq; omega)
                            rwa [show 40 * s + (i - 40 * s) = i by omega] at this
                          · rw [if_neg (fun qq => hi qq.2.2), hhi i (by have := hjn hq; omega)]; rfl
                      · rw [if_neg (c := k = 42 ∧ _) (fun qq => h42 qq.1)]
                        unfold co
                        rw [haτ k (by simpa using h42)]
                        by_cases h41 : k = 41 ∧ i = s
                        · rw [if_neg (c := k = 39 ∧ _) (by omega), if_neg (c := k = 40 ∧ _) (by omega), if_pos h41, h41.1, h41.2]; simp [mset, upd2, scr]
                        · by_cases h40 : k = 40 ∧ i = s
                          · rw [if_neg (c := k = 39 ∧ _) (by omega), if_pos h40, h40.1, h40.2]; simp [mset, upd2, scr]
                          · by_cases h39' : k = 39 ∧ i = s
                            · rw [if_pos h39', h39'.1, h39'.2]
                              simp [mset, upd2, scr]
                              first
                                | exact h51
                                | exact Int32.not_lt.mp h51
                            · rw [if_neg h39', if_neg h40, if_neg h41]
                              simp only [mset, upd2_at]
                              rw [if_neg h41, if_neg h40, if_neg h39']
                    · have hjz : (j : Int) < z.toInt := by
                        have := Int32.lt_iff_toInt_lt.mp (Int32.not_le.mp h80)
                        rwa [nI_toInt (by omega)] at this
                      have hj40 : j < 40 := by
                        first
                          | exact absurd h22 h84
                          | (have h40 : z.toInt ≤ 40 := Int32.le_iff_toInt_le.mp h28
                             omega)
                      refine v_aload_n G 4 dX8_sheet_87 rfl ?_
                      refine m_get (v := .ref (ad 42)) G 42 (by decide) rfl q1336 rfl dX8_sheet_88 ?_
                      refine v_bipush (v := 40) G dX8_sheet_91 rfl ?_
                      refine v_iload_n G 3 dX8_sheet_93 rfl ?_
                      refine v_imul G dX8_sheet_94 ?_
                      refine v_iload G 0 dX8_sheet_95 rfl ?_
                      refine v_iadd G dX8_sheet_97 ?_
                      refine v_iconst (v := 0) G dX8_sheet_98 rfl ?_
                      refine m_iast G 42 rfl ((40 * s) + j) (ix_add (ix_mul (ix_lit 40 rfl) es) rfl) (show (40 * s) + j < 160 by first | omega | assumption | decide) dX8_sheet_99 ?_
                      refine v_iinc (v := nI (j + 1)) (L' := [(4, .int (nI (j + 1))), (3, .int z), (2, .int q), (1, .int x), (0, .ref (ad 43))]) G 0 dX8_sheet_100 rfl (ix_add rfl (ix_lit 1 rfl)) (by decide) rfl ?_
                      refine v_goto (tgt := 77) G dX8_sheet_103 (by decide) ?_
                      refine V_.sub (L' := [(4, .int (nI (j + 1))), (3, .int z), (2, .int q), (1, .int x), (0, .ref (ad 43))]) ?_ [0, 1, 2, 3, 4] rfl
                      exact ih77  (j + 1) (mset τ 42 ((40 * s) + j) 0) (by omega) (cpy_lo (f := fun _ => 0) hlo rfl) (cpy_hi hhi) (ag_tr haτ (ag_set (by decide))) (fun h => absurd h h84) (fun _ => by omega) (by omega)
              refine V_.sub (L' := [(4, .int 0), (3, .int z), (2, .int q), (1, .int x), (0, .ref (ad 43))]) ?_ [0, 4, 3, 2, 1] rfl
              refine v_loc (L' := [(4, .int (nI 0)), (3, .int z), (2, .int q), (1, .int x), (0, .ref (ad 43))]) (rfl) ?_
              exact loop77 _ 0 (mset (mset (mset σ 39 s 1) 40 s q) 41 s z) (Nat.zero_le _) (fun i hi => absurd hi (Nat.not_lt_zero i)) (fun i _ => by rw [mset_ne_k (by decide), mset_ne_k (by decide), mset_ne_k (by decide)]) ag_rf (fun _ => rfl) (fun hq => by first | exact absurd h35 hq | (have := Int32.le_iff_toInt_le.mp h39; exact this)) (Nat.lt_succ_self _)
          · refine v_iload_n G 3 dX8_sheet_38 rfl ?_
            refine v_if_ge (tgt := 45) G dX8_sheet_39 (by decide) (fun h39 => ?_) (fun h39 => ?_)
            · obtain ⟨s, hsj, es⟩ := rg_nat (n := 3) h1_h (by decide)
              have hs4 : s < 4 := by omega
              have esn : n_ x = s := by rw [es]; exact nI_clamp (by omega)
              refine v_aload_n G 0 dX8_sheet_45 rfl ?_
              refine m_get (v := .ref (ad 39)) G 39 (by decide) rfl q1333 rfl dX8_sheet_46 ?_
              refine v_iload_n G 1 dX8_sheet_49 rfl ?_
              refine v_iload_n G 2 dX8_sheet_50 rfl ?_
              refine v_if_lt (tgt := 58) G dX8_sheet_51 (by decide) (fun h51 => ?_) (fun h51 => ?_)
              · refine v_iconst (v := 0) G dX8_sheet_58 rfl ?_
                refine m_zast G (s) es (show s < 4 by first | omega | assumption | decide) rfl dX8_sheet_59 ?_
                refine v_aload_n G 0 dX8_sheet_60 rfl ?_
                refine m_get (v := .ref (ad 40)) G 40 (by decide) rfl q1334 rfl dX8_sheet_61 ?_
                refine v_iload_n G 1 dX8_sheet_64 rfl ?_
                refine v_iload_n G 2 dX8_sheet_65 rfl ?_
                refine m_iast G 40 rfl (s) es (show s < 4 by first | omega | assumption | decide) dX8_sheet_66 ?_
                refine v_aload_n G 0 dX8_sheet_67 rfl ?_
                refine m_get (v := .ref (ad 41)) G 41 (by decide) rfl q1335 rfl dX8_sheet_68 ?_
                refine v_iload_n G 1 dX8_sheet_71 rfl ?_
                refine v_iload_n G 3 dX8_sheet_72 rfl ?_
                refine m_iast G 41 rfl (s) es (show s < 4 by first | omega | assumption | decide) dX8_sheet_73 ?_
                refine v_iconst (v := 0) G dX8_sheet_74 rfl ?_
                refine v_istore (L' := [(4, .int 0), (0, .ref (ad 43)), (1, .int x), (2, .int q), (3, .int z)]) G dX8_sheet_75 (by decide) rfl ?_
                have loop77 : ∀ (dd : Nat) (j : Nat) (τ : MS), (j ≤ 40) → (∀ i, i < j → τ.1 42 (40 * s + i) = 0) → (∀ i, (i < 40 * s ∨ 40 * s + j ≤ i) → τ.1 42 i = σ.1 42 i) → (ag [42] (mset (mset (mset σ 39 s 0) 40 s q) 41 s z) τ) → (q < 0 → j = 0) → (¬ q < 0 → (j : Int) ≤ z.toInt) → 40 - j < dd → V_ pp l ee rmX8_sheet ss mm aa bb hh cc 5 (dC, dI) vwCl AA QQ 0 0 (RM ct ad τ) 77 [(4, .int (nI j)), (3, .int z), (2, .int q), (1, .int x), (0, .ref (ad 43))] [] := by
                  intro dd
                  induction dd with
                  | zero => intro j τ hj hlo hhi haτ hq0 hqz hdd; exact absurd hdd (Nat.not_lt_zero _)
                  | succ dd ih77 =>
                    intro j τ hj hlo hhi haτ hq0 hqz hdd
                    refine v_iload G 0 dX8_sheet_77 rfl ?_
                    refine v_iload_n G 1 dX8_sheet_79 rfl ?_
                    refine v_icmp_ge (tgt := 106) G dX8_sheet_80 (by decide) (fun h80 => ?_) (fun h80 => ?_)
                    · refine v_iconst (v := 1) G dX8_sheet_106 rfl ?_
                      refine RET _ _ _ _ _ _ rfl (Nat.le_of_ble_eq_true rfl) (Nat.le_of_ble_eq_true rfl) dX8_sheet_107 (fun ws hws => ⟨_, hws, ?_⟩)
                      clear RET G hT hnm
                      rw [s_sheet, if_pos ⟨h1_h, g15, by first | exact Or.inl h22 | exact Or.inr h28⟩, if_neg (fun qq => by first | exact qq.1 h35 | exact Int32.not_lt.mpr h39 qq.2), esn]
                      refine ⟨rfl, ?_⟩
                      have hjn : ¬ q < 0 → j = n_ z := fun hq => by
                        have h1 := hqz hq
                        have h2 : z.toInt ≤ (j : Int) := by
                          first
                            | (have := Int32.le_iff_toInt_le.mp h80; rwa [nI_toInt (by omega)] at this)
                            | exact absurd h84 hq
                        have : n_ z = z.toInt.toNat := rfl
                        omega
                      show co τ = s_newK (co σ) s q z
                      funext k i
                      unfold s_newK
                      by_cases h42 : k = 42
                      · subst h42
                        rw [if_neg (by omega), if_neg (by omega), if_neg (by omega)]
                        show τ.1 42 i = _
                        by_cases hq : q < 0
                        · rw [if_neg (fun qq => Int32.not_lt.mpr qq.2.1 hq), hhi i (by have := hq0 hq; omega)]; rfl
                        · by_cases hi : 40 * s ≤ i ∧ i < 40 * s + n_ z
                          · rw [if_pos ⟨rfl, Int32.not_lt.mp hq, hi⟩]
                            have := hlo (i - 40 * s) (by have := hjn hq; omega)
                            rwa [show 40 * s + (i - 40 * s) = i by omega] at this
                          · rw [if_neg (fun qq => hi qq.2.2), hhi i (by have := hjn hq; omega)]; rfl
                      · rw [if_neg (c := k = 42 ∧ _) (fun qq => h42 qq.1)]
                        unfold co
                        rw [haτ k (by simpa using h42)]
                        by_cases h41 : k = 41 ∧ i = s
                        · rw [if_neg (c := k = 39 ∧ _) (by omega), if_neg (c := k = 40 ∧ _) (by omega), if_pos h41, h41.1, h41.2]; simp [mset, upd2, scr]
                        · by_cases h40 : k = 40 ∧ i = s
                          · rw [if_neg (c := k = 39 ∧ _) (by omega), if_pos h40, h40.1, h40.2]; simp [mset, upd2, scr]
                          · by_cases h39' : k = 39 ∧ i = s
                            · rw [if_pos h39', h39'.1, h39'.2]
                              simp [mset, upd2, scr]
                              first
                                | exact h51
                                | exact Int32.not_lt.mp h51
                            · rw [if_neg h39', if_neg h40, if_neg h41]
                              simp only [mset, upd2_at]
                              rw [if_neg h41, if_neg h40, if_neg h39']
                    · refine v_iload_n G 2 dX8_sheet_83 rfl ?_
                      refine v_if_lt (tgt := 106) G dX8_sheet_84 (by decide) (fun h84 => ?_) (fun h84 => ?_)
                      · refine v_iconst (v := 1) G dX8_sheet_106 rfl ?_
                        refine RET _ _ _ _ _ _ rfl (Nat.le_of_ble_eq_true rfl) (Nat.le_of_ble_eq_true rfl) dX8_sheet_107 (fun ws hws => ⟨_, hws, ?_⟩)
                        clear RET G hT hnm
                        rw [s_sheet, if_pos ⟨h1_h, g15, by first | exact Or.inl h22 | exact Or.inr h28⟩, if_neg (fun qq => by first | exact qq.1 h35 | exact Int32.not_lt.mpr h39 qq.2), esn]
                        refine ⟨rfl, ?_⟩
                        have hjn : ¬ q < 0 → j = n_ z := fun hq => by
                          have h1 := hqz hq
                          have h2 : z.toInt ≤ (j : Int) := by
                            first
                              | (have := Int32.le_iff_toInt_le.mp h80; rwa [nI_toInt (by omega)] at this)
                              | exact absurd h84 hq
                          have : n_ z = z.toInt.toNat := rfl
                          omega
                        show co τ = s_newK (co σ) s q z
                        funext k i
                        unfold s_newK
                        by_cases h42 : k = 42
                        · subst h42
                          rw [if_neg (by omega), if_neg (by omega), if_neg (by omega)]
                          show τ.1 42 i = _
                          by_cases hq : q < 0
                          · rw [if_neg (fun qq => Int32.not_lt.mpr qq.2.1 hq), hhi i (by have := hq0 hq; omega)]; rfl
                          · by_cases hi : 40 * s ≤ i ∧ i < 40 * s + n_ z
                            · rw [if_pos ⟨rfl, Int32.not_lt.mp hq, hi⟩]
                              have := hlo (i - 40 * s) (by have := hjn hq; omega)
                              rwa [show 40 * s + (i - 40 * s) = i by omega] at this
                            · rw [if_neg (fun qq => hi qq.2.2), hhi i (by have := hjn hq; omega)]; rfl
                        · rw [if_neg (c := k = 42 ∧ _) (fun qq => h42 qq.1)]
                          unfold co
                          rw [haτ k (by simpa using h42)]
                          by_cases h41 : k = 41 ∧ i = s
                          · rw [if_neg (c := k = 39 ∧ _) (by omega), if_neg (c := k = 40 ∧ _) (by omega), if_pos h41, h41.1, h41.2]; simp [mset, upd2, scr]
                          · by_cases h40 : k = 40 ∧ i = s
                            · rw [if_neg (c := k = 39 ∧ _) (by omega), if_pos h40, h40.1, h40.2]; simp [mset, upd2, scr]
                            · by_cases h39' : k = 39 ∧ i = s
                              · rw [if_pos h39', h39'.1, h39'.2]
                                simp [mset, upd2, scr]
                                first
                                  | exact h51
                                  | exact Int32.not_lt.mp h51
                              · rw [if_neg h39', if_neg h40, if_neg h41]
                                simp only [mset, upd2_at]
                                rw [if_neg h41, if_neg h40, if_neg h39']
                      · have hjz : (j : Int) < z.toInt := by
                          have := Int32.lt_iff_toInt_lt.mp (Int32.not_le.mp h80)
                          rwa [nI_toInt (by omega)] at this
                        have hj40 : j < 40 := by
                          first
                            | exact absurd h22 h84
                            | (have h40 : z.toInt ≤ 40 := Int32.le_iff_toInt_le.mp h28
                               omega)
                        refine v_aload_n G 4 dX8_sheet_87 rfl ?_
                        refine m_get (v := .ref (ad 42)) G 42 (by decide) rfl q1336 rfl dX8_sheet_88 ?_
                        refine v_bipush (v := 40) G dX8_sheet_91 rfl ?_
                        refine v_iload_n G 3 dX8_sheet_93 rfl ?_
                        refine v_imul G dX8_sheet_94 ?_
                        refine v_iload G 0 dX8_sheet_95 rfl ?_
                        refine v_iadd G dX8_sheet_97 ?_
                        refine v_iconst (v := 0) G dX8_sheet_98 rfl ?_
                        refine m_iast G 42 rfl ((40 * s) + j) (ix_add (ix_mul (ix_lit 40 rfl) es) rfl) (show (40 * s) + j < 160 by first | omega | assumption | decide) dX8_sheet_99 ?_
                        refine v_iinc (v := nI (j + 1)) (L' := [(4, .int (nI (j + 1))), (3, .int z), (2, .int q), (1, .int x), (0, .ref (ad 43))]) G 0 dX8_sheet_100 rfl (ix_add rfl (ix_lit 1 rfl)) (by decide) rfl ?_
                        refine v_goto (tgt := 77) G dX8_sheet_103 (by decide) ?_
                        refine V_.sub (L' := [(4, .int (nI (j + 1))), (3, .int z), (2, .int q), (1, .int x), (0, .ref (ad 43))]) ?_ [0, 1, 2, 3, 4] rfl
                        exact ih77  (j + 1) (mset τ 42 ((40 * s) + j) 0) (by omega) (cpy_lo (f := fun _ => 0) hlo rfl) (cpy_hi hhi) (ag_tr haτ (ag_set (by decide))) (fun h => absurd h h84) (fun _ => by omega) (by omega)
                refine V_.sub (L' := [(4, .int 0), (3, .int z), (2, .int q), (1, .int x), (0, .ref (ad 43))]) ?_ [0, 4, 3, 2, 1] rfl
                refine v_loc (L' := [(4, .int (nI 0)), (3, .int z), (2, .int q), (1, .int x), (0, .ref (ad 43))]) (rfl) ?_
                exact loop77 _ 0 (mset (mset (mset σ 39 s 0) 40 s q) 41 s z) (Nat.zero_le _) (fun i hi => absurd hi (Nat.not_lt_zero i)) (fun i _ => by rw [mset_ne_k (by decide), mset_ne_k (by decide), mset_ne_k (by decide)]) ag_rf (fun _ => rfl) (fun hq => by first | exact absurd h35 hq | (have := Int32.le_iff_toInt_le.mp h39; exact this)) (Nat.lt_succ_self _)
              · refine v_iconst (v := 1) G dX8_sheet_54 rfl ?_
                refine v_goto (tgt := 59) G dX8_sheet_55 (by decide) ?_
                refine m_zast G (s) es (show s < 4 by first | omega | assumption | decide) rfl dX8_sheet_59 ?_
                refine v_aload_n G 0 dX8_sheet_60 rfl ?_
                refine m_get (v := .ref (ad 40)) G 40 (by decide) rfl q1334 rfl dX8_sheet_61 ?_
                refine v_iload_n G 1 dX8_sheet_64 rfl ?_
                refine v_iload_n G 2 dX8_sheet_65 rfl ?_
                refine m_iast G 40 rfl (s) es (show s < 4 by first | omega | assumption | decide) dX8_sheet_66 ?_
                refine v_aload_n G 0 dX8_sheet_67 rfl ?_
                refine m_get (v := .ref (ad 41)) G 41 (by decide) rfl q1335 rfl dX8_sheet_68 ?_
                refine v_iload_n G 1 dX8_sheet_71 rfl ?_
                refine v_iload_n G 3 dX8_sheet_72 rfl ?_
                refine m_iast G 41 rfl (s) es (show s < 4 by first | omega | assumption | decide) dX8_sheet_73 ?_
                refine v_iconst (v := 0) G dX8_sheet_74 rfl ?_
                refine v_istore (L' := [(4, .int 0), (0, .ref (ad 43)), (1, .int x), (2, .int q), (3, .int z)]) G dX8_sheet_75 (by decide) rfl ?_
                have loop77 : ∀ (dd : Nat) (j : Nat) (τ : MS), (j ≤ 40) → (∀ i, i < j → τ.1 42 (40 * s + i) = 0) → (∀ i, (i < 40 * s ∨ 40 * s + j ≤ i) → τ.1 42 i = σ.1 42 i) → (ag [42] (mset (mset (mset σ 39 s 1) 40 s q) 41 s z) τ) → (q < 0 → j = 0) → (¬ q < 0 → (j : Int) ≤ z.toInt) → 40 - j < dd → V_ pp l ee rmX8_sheet ss mm aa bb hh cc 5 (dC, dI) vwCl AA QQ 0 0 (RM ct ad τ) 77 [(4, .int (nI j)), (3, .int z), (2, .int q), (1, .int x), (0, .ref (ad 43))] [] := by
                  intro dd
                  induction dd with
                  | zero => intro j τ hj hlo hhi haτ hq0 hqz hdd; exact absurd hdd (Nat.not_lt_zero _)
                  | succ dd ih77 =>
                    intro j τ hj hlo hhi haτ hq0 hqz hdd
                    refine v_iload G 0 dX8_sheet_77 rfl ?_
                    refine v_iload_n G 1 dX8_sheet_79 rfl ?_
                    refine v_icmp_ge (tgt := 106) G dX8_sheet_80 (by decide) (fun h80 => ?_) (fun h80 => ?_)
                    · refine v_iconst (v := 1) G dX8_sheet_106 rfl ?_
                      refine RET _ _ _ _ _ _ rfl (Nat.le_of_ble_eq_true rfl) (Nat.le_of_ble_eq_true rfl) dX8_sheet_107 (fun ws hws => ⟨_, hws, ?_⟩)
                      clear RET G hT hnm
                      rw [s_sheet, if_pos ⟨h1_h, g15, by first | exact Or.inl h22 | exact Or.inr h28⟩, if_neg (fun qq => by first | exact qq.1 h35 | exact Int32.not_lt.mpr h39 qq.2), esn]
                      refine ⟨rfl, ?_⟩
                      have hjn : ¬ q < 0 → j = n_ z := fun hq => by
                        have h1 := hqz hq
                        have h2 : z.toInt ≤ (j : Int) := by
                          first
                            | (have := Int32.le_iff_toInt_le.mp h80; rwa [nI_toInt (by omega)] at this)
                            | exact absurd h84 hq
                        have : n_ z = z.toInt.toNat := rfl
                        omega
                      show co τ = s_newK (co σ) s q z
                      funext k i
                      unfold s_newK
                      by_cases h42 : k = 42
                      · subst h42
                        rw [if_neg (by omega), if_neg (by omega), if_neg (by omega)]
                        show τ.1 42 i = _
                        by_cases hq : q < 0
                        · rw [if_neg (fun qq => Int32.not_lt.mpr qq.2.1 hq), hhi i (by have := hq0 hq; omega)]; rfl
                        · by_cases hi : 40 * s ≤ i ∧ i < 40 * s + n_ z
                          · rw [if_pos ⟨rfl, Int32.not_lt.mp hq, hi⟩]
                            have := hlo (i - 40 * s) (by have := hjn hq; omega)
                            rwa [show 40 * s + (i - 40 * s) = i by omega] at this
                          · rw [if_neg (fun qq => hi qq.2.2), hhi i (by have := hjn hq; omega)]; rfl
                      · rw [if_neg (c := k = 42 ∧ _) (fun qq => h42 qq.1)]
                        unfold co
                        rw [haτ k (by simpa using h42)]
                        by_cases h41 : k = 41 ∧ i = s
                        · rw [if_neg (c := k = 39 ∧ _) (by omega), if_neg (c := k = 40 ∧ _) (by omega), if_pos h41, h41.1, h41.2]; simp [mset, upd2, scr]
                        · by_cases h40 : k = 40 ∧ i = s
                          · rw [if_neg (c := k = 39 ∧ _) (by omega), if_pos h40, h40.1, h40.2]; simp [mset, upd2, scr]
                          · by_cases h39' : k = 39 ∧ i = s
                            · rw [if_pos h39', h39'.1, h39'.2]
                              simp [mset, upd2, scr]
                              first
                                | exact h51
                                | exact Int32.not_lt.mp h51
                            · rw [if_neg h39', if_neg h40, if_neg h41]
                              simp only [mset, upd2_at]
                              rw [if_neg h41, if_neg h40, if_neg h39']
                    · refine v_iload_n G 2 dX8_sheet_83 rfl ?_
                      refine v_if_lt (tgt := 106) G dX8_sheet_84 (by decide) (fun h84 => ?_) (fun h84 => ?_)
                      · refine v_iconst (v := 1) G dX8_sheet_106 rfl ?_
                        refine RET _ _ _ _ _ _ rfl (Nat.le_of_ble_eq_true rfl) (Nat.le_of_ble_eq_true rfl) dX8_sheet_107 (fun ws hws => ⟨_, hws, ?_⟩)
                        clear RET G hT hnm
                        rw [s_sheet, if_pos ⟨h1_h, g15, by first | exact Or.inl h22 | exact Or.inr h28⟩, if_neg (fun qq => by first | exact qq.1 h35 | exact Int32.not_lt.mpr h39 qq.2), esn]
                        refine ⟨rfl, ?_⟩
                        have hjn : ¬ q < 0 → j = n_ z := fun hq => by
                          have h1 := hqz hq
                          have h2 : z.toInt ≤ (j : Int) := by
                            first
                              | (have := Int32.le_iff_toInt_le.mp h80; rwa [nI_toInt (by omega)] at this)
                              | exact absurd h84 hq
                          have : n_ z = z.toInt.toNat := rfl
                          omega
                        show co τ = s_newK (co σ) s q z
                        funext k i
                        unfold s_newK
                        by_cases h42 : k = 42
                        · subst h42
                          rw [if_neg (by omega), if_neg (by omega), if_neg (by omega)]
                          show τ.1 42 i = _
                          by_cases hq : q < 0
                          · rw [if_neg (fun qq => Int32.not_lt.mpr qq.2.1 hq), hhi i (by have := hq0 hq; omega)]; rfl
                          · by_cases hi : 40 * s ≤ i ∧ i < 40 * s + n_ z
                            · rw [if_pos ⟨rfl, Int32.not_lt.mp hq, hi⟩]
                              have := hlo (i - 40 * s) (by have := hjn hq; omega)
                              rwa [show 40 * s + (i - 40 * s) = i by omega] at this
                            · rw [if_neg (fun qq => hi qq.2.2), hhi i (by have := hjn hq; omega)]; rfl
                        · rw [if_neg (c := k = 42 ∧ _) (fun qq => h42 qq.1)]
                          unfold co
                          rw [haτ k (by simpa using h42)]
                          by_cases h41 : k = 41 ∧ i = s
                          · rw [if_neg (c := k = 39 ∧ _) (by omega), if_neg (c := k = 40 ∧ _) (by omega), if_pos h41, h41.1, h41.2]; simp [mset, upd2, scr]
                          · by_cases h40 : k = 40 ∧ i = s
                            · rw [if_neg (c := k = 39 ∧ _) (by omega), if_pos h40, h40.1, h40.2]; simp [mset, upd2, scr]
                            · by_cases h39' : k = 39 ∧ i = s
                              · rw [if_pos h39', h39'.1, h39'.2]
                                simp [mset, upd2, scr]
                                first
                                  | exact h51
                                  | exact Int32.not_lt.mp h51
                              · rw [if_neg h39', if_neg h40, if_neg h41]
                                simp only [mset, upd2_at]
                                rw [if_neg h41, if_neg h40, if_neg h39']
                      · have hjz : (j : Int) < z.toInt := by
                          have := Int32.lt_iff_toInt_lt.mp (Int32.not_le.mp h80)
                          rwa [nI_toInt (by omega)] at this
                        have hj40 : j < 40 := by
                          first
                            | exact absurd h22 h84
                            | (have h40 : z.toInt ≤ 40 := Int32.le_iff_toInt_le.mp h28
                               omega)
                        refine v_aload_n G 4 dX8_sheet_87 rfl ?_
                        refine m_get (v := .ref (ad 42)) G 42 (by decide) rfl q1336 rfl dX8_sheet_88 ?_
                        refine v_bipush (v := 40) G dX8_sheet_91 rfl ?_
                        refine v_iload_n G 3 dX8_sheet_93 rfl ?_
                        refine v_imul G dX8_sheet_94 ?_
                        refine v_iload G 0 dX8_sheet_95 rfl ?_
                        refine v_iadd G dX8_sheet_97 ?_
                        refine v_iconst (v := 0) G dX8_sheet_98 rfl ?_
                        refine m_iast G 42 rfl ((40 * s) + j) (ix_add (ix_mul (ix_lit 40 rfl) es) rfl) (show (40 * s) + j < 160 by first | omega | assumption | decide) dX8_sheet_99 ?_
                        refine v_iinc (v := nI (j + 1)) (L' := [(4, .int (nI (j + 1))), (3, .int z), (2, .int q), (1, .int x), (0, .ref (ad 43))]) G 0 dX8_sheet_100 rfl (ix_add rfl (ix_lit 1 rfl)) (by decide) rfl ?_
                        refine v_goto (tgt := 77) G dX8_sheet_103 (by decide) ?_
                        refine V_.sub (L' := [(4, .int (nI (j + 1))), (3, .int z), (2, .int q), (1, .int x), (0, .ref (ad 43))]) ?_ [0, 1, 2, 3, 4] rfl
                        exact ih77  (j + 1) (mset τ 42 ((40 * s) + j) 0) (by omega) (cpy_lo (f := fun _ => 0) hlo rfl) (cpy_hi hhi) (ag_tr haτ (ag_set (by decide))) (fun h => absurd h h84) (fun _ => by omega) (by omega)
                refine V_.sub (L' := [(4, .int 0), (3, .int z), (2, .int q), (1, .int x), (0, .ref (ad 43))]) ?_ [0, 4, 3, 2, 1] rfl
                refine v_loc (L' := [(4, .int (nI 0)), (3, .int z), (2, .int q), (1, .int x), (0, .ref (ad 43))]) (rfl) ?_
                exact loop77 _ 0 (mset (mset (mset σ 39 s 1) 40 s q) 41 s z) (Nat.zero_le _) (fun i hi => absurd hi (Nat.not_lt_zero i)) (fun i _ => by rw [mset_ne_k (by decide), mset_ne_k (by decide), mset_ne_k (by decide)]) ag_rf (fun _ => rfl) (fun hq => by first | exact absurd h35 hq | (have := Int32.le_iff_toInt_le.mp h39; exact this)) (Nat.lt_succ_self _)
            · refine v_bipush (v := (-14)) G dX8_sheet_42 rfl ?_
              refine RET _ _ _ _ _ _ rfl (Nat.le_of_ble_eq_true rfl) (Nat.le_of_ble_eq_true rfl) dX8_sheet_44 (fun ws hws => ⟨_, hws, ?_⟩)
              clear RET G hT hnm
              rw [s_sheet, if_pos ⟨h1_h, g15, by first | exact Or.inl h22 | exact Or.inr h28⟩, if_pos ⟨h35, by first | exact h39 | exact Int32.not_le.mp h39⟩]
              exact ⟨rfl, rfl⟩
        · refine v_bipush (v := (-2)) G dX8_sheet_31 rfl ?_
          refine RET _ _ _ _ _ _ rfl (Nat.le_of_ble_eq_true rfl) (Nat.le_of_ble_eq_true rfl) dX8_sheet_33 (fun ws hws => ⟨_, hws, ?_⟩)
          clear RET G hT hnm
          rw [s_sheet, if_neg (fun qq => by first | exact h1_h qq.1 | exact g15 qq.2.1 | (rcases qq.2.2 with z1 | z1; exact h22 z1; exact h28 z1))]
          exact ⟨rfl, rfl⟩
    · have g15 : ¬ rg q (-1) 2 := fun zz => h15_h ((in_rg (c := q) (lo := (-1)) (hi := 2) (a := (-1)) (z := 2) (by decide) (by decide)).mpr zz)
      refine v_if_eq (tgt := 31) G dX8_sheet_18 (by decide) (fun h18 => ?_) (fun h18 => absurd h18 (by decide))
      refine v_bipush (v := (-2)) G dX8_sheet_31 rfl ?_
      refine RET _ _ _ _ _ _ rfl (Nat.le_of_ble_eq_true rfl) (Nat.le_of_ble_eq_true rfl) dX8_sheet_33 (fun ws hws => ⟨_, hws, ?_⟩)
      clear RET G hT hnm
      rw [s_sheet, if_neg (fun qq => by first | exact h1_h qq.1 | exact g15 qq.2.1 | (rcases qq.2.2 with z1 | z1; exact h22 z1; exact h28 z1))]
      exact ⟨rfl, rfl⟩
  · refine v_if_eq (tgt := 31) G dX8_sheet_4 (by decide) (fun h4 => ?_) (fun h4 => absurd h4 (by decide))
    refine v_bipush (v := (-2)) G dX8_sheet_31 rfl ?_
    refine RET _ _ _ _ _ _ rfl (Nat.le_of_ble_eq_true rfl) (Nat.le_of_ble_eq_true rfl) dX8_sheet_33 (fun ws hws => ⟨_, hws, ?_⟩)
    clear RET G hT hnm
    rw [s_sheet, if_neg (fun qq => by first | exact h1_h qq.1 | exact g15 qq.2.1 | (rcases qq.2.2 with z1 | z1; exact h22 z1; exact h28 z1))]
    exact ⟨rfl, rfl⟩
abbrev rmX8_cell : Room := { frames := 2, cells := 0, slots := 0, locals := 45 }
set_option maxHeartbeats 1000000 in
theorem kX8_cell {KT : (Nat → Prop) → State → Heap → Prop} (hK : KTok KT) (l : Launch) (dC : Nat → ClassId) (dI : Nat → Nat → Nat) (ct ad : Nat → Nat) (σ : MS) (x : Int32) (y : Int32) (v : Int32) (hO : Ok (co σ)) : MC KT (dC, dI) vwCl (tysF ct) l yX8_cell cX8_cell 4 (some .int) rmX8_cell [.ref (ad 43), .int x, .int y, .int v] (RM ct ad σ) (QI_ (dC, dI) vwCl (RM ct ad) (fun (r : Int32) (σ' : MS) => ((s_cell (co σ) x y v).1) = r ∧ co σ' = (s_cell (co σ) x y v).2)) := by
  refine MC.ofI (own := RX8) pl_X8 rfl (Nat.le_of_ble_eq_true rfl) ?_
  intro pp ee ss mm aa bb hh cc AA QQ G hT hnm RET
  refine v_loc (L' := [(0, .ref (ad 43)), (1, .int x), (2, .int y), (3, .int v)]) rfl ?_
  refine v_iload_n G 1 dX8_cell_0 rfl ?_
  refine w_callSi G hK hT (kX8_isSheet hK l dC dI ct ad σ x) (ck_X8_410 G.2.2.2.2.1 ⟨Nat.le_of_ble_eq_true rfl, Nat.le_of_ble_eq_true rfl⟩) (fun _ h => h) rfl [] rfl (Nat.le_of_ble_eq_true rfl) dX8_cell_1 ⟨Nat.le_of_ble_eq_true rfl, Nat.le_of_ble_eq_true rfl⟩ (k1 := 0) (n1 := 0) rfl rfl ?_
  rintro r1 σ1 (⟨rfl, rfl, h1_h⟩ | ⟨rfl, rfl, h1_h⟩)
  · refine v_if_ne (tgt := 10) G dX8_cell_4 (by decide) (fun h4 => ?_) (fun h4 => absurd h4 (by decide))
    obtain ⟨s, hsj, es⟩ := rg_nat (n := 3) h1_h (by decide)
    have hs4 : s < 4 := by omega
    have esn : n_ x = s := by rw [es]; exact nI_clamp (by omega)
    refine v_aload_n G 0 dX8_cell_10 rfl ?_
    refine m_get (v := .ref (ad 39)) G 39 (by decide) rfl q1333 rfl dX8_cell_11 ?_
    refine v_iload_n G 1 dX8_cell_14 rfl ?_
    refine m_zald G (s) es (show s < 4 by first | omega | assumption | decide) dX8_cell_15 ?_
    refine v_if_ne (tgt := 22) G dX8_cell_16 (by decide) (fun h16 => ?_) (fun h16 => ?_)
    · obtain ⟨qs, hqs, eqs, zs, hzs, ezs⟩ : ∃ qs, qs ≤ 2 ∧ σ.1 40 s = nI qs ∧ ∃ zs, zs ≤ 40 ∧ σ.1 41 s = nI zs := by
        rcases hO.2.2.2.1 s hs4 with h | ⟨-, ⟨a, ha, ea⟩, z, hz, ez⟩
        · exact absurd h (by first | exact h16 | (intro hh; exact h16 hh))
        · exact ⟨a, ha, ea, z, hz, ez⟩
      have ezn : n_ (co σ 41 s) = zs := by rw [show co σ 41 s = σ.1 41 s from rfl, ezs]; exact nI_clamp (by omega)
      refine v_iload_n G 2 dX8_cell_22 rfl ?_
      refine v_i2l (v := y.toInt64) G dX8_cell_23 rfl ?_
      refine v_lconst (v := 0) G dX8_cell_24 rfl ?_
      refine v_aload_n G 0 dX8_cell_25 rfl ?_
      refine m_get (v := .ref (ad 41)) G 41 (by decide) rfl q1335 rfl dX8_cell_26 ?_
      refine v_iload_n G 1 dX8_cell_29 rfl ?_
      refine m_iald G 41 rfl (s) es (show s < 4 by first | omega | assumption | decide) dX8_cell_30 ?_
      refine v_iconst (v := 1) G dX8_cell_31 rfl ?_
      refine v_isub G dX8_cell_32 ?_
      refine v_i2l (v := ((σ.1 41 s) - 1).toInt64) G dX8_cell_33 rfl ?_
      refine w_callSi G hK hT (kX8_in hK l dC dI ct ad σ y.toInt64 0 (((σ.1 41 s) - 1).toInt64)) (ck_X8_86 G.2.2.2.2.1 ⟨Nat.le_of_ble_eq_true rfl, Nat.le_of_ble_eq_true rfl⟩) (fun _ h => h) rfl [] rfl (Nat.le_of_ble_eq_true rfl) dX8_cell_34 ⟨Nat.le_of_ble_eq_true rfl, Nat.le_of_ble_eq_true rfl⟩ (k1 := 0) (n1 := 0) rfl rfl ?_
      rintro r34 σ34 (⟨rfl, rfl, h34_h⟩ | ⟨rfl, rfl, h34_h⟩)
      · have e27 : (σ.1 41 s - 1).toInt64.toInt = (n_ (co σ 41 s) : Int) - 1 := by rw [i64_toInt, ezn, ezs]; exact nI_m1 (by omega)
        have g34 : rg y 0 ((n_ (co σ 41 s) : Int) - 1) := (in_rg (by decide) e27).mp h34_h
        refine v_if_ne (tgt := 43) G dX8_cell_37 (by decide) (fun h37 => ?_) (fun h37 => absurd h37 (by decide))
        obtain ⟨t, ht, et⟩ := rg_lt g34 (by omega)
        have etn : n_ y = t := by rw [et]; exact nI_clamp (by omega)
        have ht40 : t < 40 := by omega
        refine v_aload_n G 0 dX8_cell_43 rfl ?_
        refine m_get (v := .ref (ad 42)) G 42 (by decide) rfl q1336 rfl dX8_cell_44 ?_
        refine v_bipush (v := 40) G dX8_cell_47 rfl ?_
        refine v_iload_n G 1 dX8_cell_49 rfl ?_
        refine v_imul G dX8_cell_50 ?_
        refine v_iload_n G 2 dX8_cell_51 rfl ?_
        refine v_iadd G dX8_cell_52 ?_
        refine v_aload_n G 0 dX8_cell_53 rfl ?_
        refine m_get (v := .ref (ad 40)) G 40 (by decide) rfl q1334 rfl dX8_cell_54 ?_
        refine v_iload_n G 1 dX8_cell_57 rfl ?_
        refine m_iald G 40 rfl (s) es (show s < 4 by first | omega | assumption | decide) dX8_cell_58 ?_
        refine v_if_ne (tgt := 67) G dX8_cell_59 (by decide) (fun h59 => ?_) (fun h59 => ?_)
        · refine v_aload_n G 0 dX8_cell_67 rfl ?_
          refine m_get (v := .ref (ad 40)) G 40 (by decide) rfl q1334 rfl dX8_cell_68 ?_
          refine v_iload_n G 1 dX8_cell_71 rfl ?_
          refine m_iald G 40 rfl (s) es (show s < 4 by first | omega | assumption | decide) dX8_cell_72 ?_
          refine v_iconst (v := 1) G dX8_cell_73 rfl ?_
          refine v_icmp_ne (tgt := 82) G dX8_cell_74 (by decide) (fun h74 => ?_) (fun h74 => ?_)
          · refine v_iload_n G 3 dX8_cell_82 rfl ?_
            refine m_iast G 42 rfl ((40 * s) + t) (ix_add (ix_mul (ix_lit 40 rfl) es) et) (show (40 * s) + t < 160 by first | omega | assumption | decide) dX8_cell_83 ?_
            refine v_iconst (v := 1) G dX8_cell_84 rfl ?_
            refine RET _ _ _ _ _ _ rfl (Nat.le_of_ble_eq_true rfl) (Nat.le_of_ble_eq_true rfl) dX8_cell_85 (fun ws hws => ⟨_, hws, ?_⟩)
            clear RET G hT hnm
            rw [s_cell, if_pos h1_h, esn, if_neg (by exact h16), if_pos g34, etn]
            refine ⟨rfl, ?_⟩
            rw [co_set (by decide), show co σ 40 s = σ.1 40 s from rfl, s_narrow]
            first
              | (rw [if_pos h59]; done)
              | (rw [if_neg h59, if_pos h74]; done)
              | (rw [if_neg h59, if_neg h74]; done)
          · refine v_iload_n G 3 dX8_cell_77 rfl ?_
            refine v_i2s (v := v.toInt16.toInt32) G dX8_cell_78 rfl ?_
            refine v_goto (tgt := 83) G dX8_cell_79 (by decide) ?_
            refine m_iast G 42 rfl ((40 * s) + t) (ix_add (ix_mul (ix_lit 40 rfl) es) et) (show (40 * s) + t < 160 by first | omega | assumption | decide) dX8_cell_83 ?_
            refine v_iconst (v := 1) G dX8_cell_84 rfl ?_
            refine RET _ _ _ _ _ _ rfl (Nat.le_of_ble_eq_true rfl) (Nat.le_of_ble_eq_true rfl) dX8_cell_85 (fun ws hws => ⟨_, hws, ?_⟩)
            clear RET G hT hnm
            rw [s_cell, if_pos h1_h, esn, if_neg (by exact h16), if_pos g34, etn]
            refine ⟨rfl, ?_⟩
            rw [co_set (by decide), show co σ 40 s = σ.1 40 s from rfl, s_narrow]
            first
              | (rw [if_pos h59]; done)
              | (rw [if_neg h59, if_pos h74]; done)
              | (rw [if_neg h59, if_neg h74]; done)
        · refine v_iload_n G 3 dX8_cell_62 rfl ?_
          refine v_i2b (v := v.toInt8.toInt32) G dX8_cell_63 rfl ?_
          refine v_goto (tgt := 83) G dX8_cell_64 (by decide) ?_
          refine m_iast G 42 rfl ((40 * s) + t) (ix_add (ix_mul (ix_lit 40 rfl) es) et) (show (40 * s) + t < 160 by first | omega | assumption | decide) dX8_cell_83 ?_
          refine v_iconst (v := 1) G dX8_cell_84 rfl ?_
          refine RET _ _ _ _ _ _ rfl (Nat.le_of_ble_eq_true rfl) (Nat.le_of_ble_eq_true rfl) dX8_cell_85 (fun ws hws => ⟨_, hws, ?_⟩)
          clear RET G hT hnm
          rw [s_cell, if_pos h1_h, esn, if_neg (by exact h16), if_pos g34, etn]
          refine ⟨rfl, ?_⟩
          rw [co_set (by decide), show co σ 40 s = σ.1 40 s from rfl, s_narrow]
          first
            | (rw [if_pos h59]; done)
            | (rw [if_neg h59, if_pos h74]; done)
            | (rw [if_neg h59, if_neg h74]; done)
      · have e27 : (σ.1 41 s - 1).toInt64.toInt = (n_ (co σ 41 s) : Int) - 1 := by rw [i64_toInt, ezn, ezs]; exact nI_m1 (by omega)
        have g34 : ¬ rg y 0 ((n_ (co σ 41 s) : Int) - 1) := fun q => h34_h ((in_rg (by decide) e27).mpr q)
        refine v_if_ne (tgt := 43) G dX8_cell_37 (by decide) (fun h37 => absurd h37 (by decide)) (fun h37 => ?_)
        refine v_bipush (v := (-12)) G dX8_cell_40 rfl ?_
        refine RET _ _ _ _ _ _ rfl (Nat.le_of_ble_eq_true rfl) (Nat.le_of_ble_eq_true rfl) dX8_cell_42 (fun ws hws => ⟨_, hws, ?_⟩)
        clear RET G hT hnm
        rw [s_cell, if_pos h1_h, esn, if_neg (by exact h16), if_neg g34]
        exact ⟨rfl, rfl⟩
    · refine v_bipush (v := (-11)) G dX8_cell_19 rfl ?_
      refine RET _ _ _ _ _ _ rfl (Nat.le_of_ble_eq_true rfl) (Nat.le_of_ble_eq_true rfl) dX8_cell_21 (fun ws hws => ⟨_, hws, ?_⟩)
      clear RET G hT hnm
      rw [s_cell, if_pos h1_h, esn, if_pos (by exact h16)]
      exact ⟨rfl, rfl⟩
  · refine v_if_ne (tgt := 10) G dX8_cell_4 (by decide) (fun h4 => absurd h4 (by decide)) (fun h4 => ?_)
    refine v_bipush (v := (-2)) G dX8_cell_7 rfl ?_
    refine RET _ _ _ _ _ _ rfl (Nat.le_of_ble_eq_true rfl) (Nat.le_of_ble_eq_true rfl) dX8_cell_9 (fun ws hws => ⟨_, hws, ?_⟩)
    clear RET G hT hnm
    rw [s_cell, if_neg h1_h]
    exact ⟨rfl, rfl⟩
abbrev rmX8_image : Room := { frames := 0, cells := 0, slots := 0, locals := 0 }
set_option maxHeartbeats 1000000 in
theorem kX8_image {KT : (Nat → Prop) → State → Heap → Prop} (hK : KTok KT) (l : Launch) (dC : Nat → ClassId) (dI : Nat → Nat → Nat) (ct ad : Nat → Nat) (σ : MS)  (hO : Ok (co σ)) : MC KT (dC, dI) vwCl (tysF ct) l yX8_image cX8_image 2 (some .int) rmX8_image [.ref (ad 43)] (RM ct ad σ) (QI_ (dC, dI) vwCl (RM ct ad) (fun (r : Int32) (σ' : MS) => (co σ 11 0) = r ∧ co σ' = s_imageK (co σ))) := by
  refine MC.ofI (own := RX8) pl_X8 rfl (Nat.le_of_ble_eq_true rfl) ?_
  intro pp ee ss mm aa bb hh cc AA QQ G hT hnm RET
  refine v_loc (L' := [(0, .ref (ad 43))]) rfl ?_
  refine v_iconst (v := 0) G dX8_image_0 rfl ?_
  refine v_istore_n (L' := [(1, .int 0), (0, .ref (ad 43))]) G dX8_image_1 (by decide) rfl ?_
  have loop2 : ∀ (dd : Nat) (q : Nat) (τ : MS), (q ≤ 24) → (∀ i, i < q → τ.1 33 i = σ.1 8 i) → (∀ i, i < q → τ.1 34 i = σ.1 9 i) → (∀ i, q ≤ i → τ.1 33 i = σ.1 33 i) → (∀ i, q ≤ i → τ.1 34 i = σ.1 34 i) → (ag [33, 34] σ τ) → 24 - q < dd → V_ pp l ee rmX8_image ss mm aa bb hh cc 2 (dC, dI) vwCl AA QQ 0 0 (RM ct ad τ) 2 [(1, .int (nI q)), (0, .ref (ad 43))] [] := by
    intro dd
    induction dd with
    | zero => intro q τ hq hl1 hl2 hg1 hg2 haτ hdd; exact absurd hdd (Nat.not_lt_zero _)
    | succ dd ih2 =>
      intro q τ hq hl1 hl2 hg1 hg2 haτ hdd
      refine v_iload_n G 0 dX8_image_2 rfl ?_
      refine v_bipush (v := 24) G dX8_image_3 rfl ?_
      refine v_icmp_ge (tgt := 38) G dX8_image_5 (by decide) (fun h5 => ?_) (fun h5 => ?_)
      · have n5 := (cmp_le (x := 24) (y := nI q) (a := 24) (b := q) (ix_lit 24 rfl) rfl (by omega) (by omega)).mp h5
        refine v_iconst (v := 0) G dX8_image_38 rfl ?_
        refine v_istore_n (L' := [(1, .int 0), (0, .ref (ad 43))]) G dX8_image_39 (by decide) rfl ?_
        have loop40 : ∀ (dd : Nat) (y : Nat) (μ : MS), (y ≤ 25) → (∀ i, i < y → μ.1 35 i = σ.1 10 i) → (∀ i, y ≤ i → μ.1 35 i = τ.1 35 i) → (ag [35] τ μ) → 25 - y < dd → V_ pp l ee rmX8_image ss mm aa bb hh cc 2 (dC, dI) vwCl AA QQ 0 0 (RM ct ad μ) 40 [(1, .int (nI y)), (0, .ref (ad 43))] [] := by
          intro dd
          induction dd with
          | zero => intro y μ hqμ hloμ hhiμ haμ hdd; exact absurd hdd (Nat.not_lt_zero _)
          | succ dd ih40 =>
            intro y μ hqμ hloμ hhiμ haμ hdd
            refine v_iload_n G 0 dX8_image_40 rfl ?_
            refine v_bipush (v := 25) G dX8_image_41 rfl ?_
            refine v_icmp_ge (tgt := 64) G dX8_image_43 (by decide) (fun h43 => ?_) (fun h43 => ?_)
            · have n43 := (cmp_le (x := 25) (y := nI y) (a := 25) (b := y) (ix_lit 25 rfl) rfl (by omega) (by omega)).mp h43
              refine v_aload_n G 1 dX8_image_64 rfl ?_
              refine v_aload_n G 1 dX8_image_65 rfl ?_
              refine m_get (v := .int (μ.1 11 0)) G 11 (by decide) rfl q1305 rfl dX8_image_66 ?_
              refine v_topr (congrArg Value.int (show μ.1 11 0 = σ.1 11 0 from ((show μ.1 11 0 = τ.1 11 0 from ag_at haμ (by decide)).trans (show τ.1 11 0 = σ.1 11 0 from ag_at haτ (by decide))))) ?_
              refine m_putI G 36 (by decide) q1330 rfl rfl rfl dX8_image_69 ?_
              refine v_aload_n G 1 dX8_image_72 rfl ?_
              refine v_aload_n G 1 dX8_image_73 rfl ?_
              refine m_get (v := .int ((mset μ 36 0 (σ.1 11 0)).1 7 0)) G 7 (by decide) rfl q1301 rfl dX8_image_74 ?_
              refine v_topr (congrArg Value.int (show (mset μ 36 0 (σ.1 11 0)).1 7 0 = σ.1 7 0 from ((show μ.1 7 0 = τ.1 7 0 from ag_at haμ (by decide)).trans (show τ.1 7 0 = σ.1 7 0 from ag_at haτ (by decide))))) ?_
              refine m_putI G 37 (by decide) q1331 rfl rfl rfl dX8_image_77 ?_
              refine v_aload_n G 1 dX8_image_80 rfl ?_
              refine v_aload_n G 1 dX8_image_81 rfl ?_
              refine m_get (v := .int ((mset (mset μ 36 0 (σ.1 11 0)) 37 0 (σ.1 7 0)).1 4 0)) G 4 (by decide) rfl q1298 rfl dX8_image_82 ?_
              refine v_topr (congrArg Value.int (show (mset (mset μ 36 0 (σ.1 11 0)) 37 0 (σ.1 7 0)).1 4 0 = σ.1 4 0 from ((show μ.1 4 0 = τ.1 4 0 from ag_at haμ (by decide)).trans (show τ.1 4 0 = σ.1 4 0 from ag_at haτ (by decide))))) ?_
              refine m_putI G 38 (by decide) q1332 rfl rfl rfl dX8_image_85 ?_
              refine v_aload_n G 1 dX8_image_88 rfl ?_
              refine m_get (v := .int ((mset (mset (mset μ 36 0 (σ.1 11 0)) 37 0 (σ.1 7 0)) 38 0 (σ.1 4 0)).1 11 0)) G 11 (by decide) rfl q1305 rfl dX8_image_89 ?_
              refine v_topr (congrArg Value.int (show (mset (mset (mset μ 36 0 (σ.1 11 0)) 37 0 (σ.1 7 0)) 38 0 (σ.1 4 0)).1 11 0 = σ.1 11 0 from ((show μ.1 11 0 = τ.1 11 0 from ag_at haμ (by decide)).trans (show τ.1 11 0 = σ.1 11 0 from ag_at haτ (by decide))))) ?_
              refine RET _ _ _ _ _ _ rfl (Nat.le_of_ble_eq_true rfl) (Nat.le_of_ble_eq_true rfl) dX8_image_92 (fun ws hws => ⟨_, hws, ?_⟩)
              clear RET G hT hnm
              refine ⟨by rfl, ?_⟩
              have hq24 : q = 24 := by omega
              have hy25 : y = 25 := by omega
              subst hq24 hy25
              funext k i
              unfold s_imageK
              rw [co_set (by decide), co_set (by decide), co_set (by decide)]
              simp only [upd2_at]
              by_cases h1 : k = 33
              · subst h1
                rw [if_neg (by omega), if_neg (by omega), if_neg (by omega)]
                show μ.1 33 i = _
                rw [haμ 33 (by decide)]
                by_cases hi : i < 24
                · rw [if_pos ⟨rfl, hi⟩]; exact hl1 i hi
                · rw [if_neg (by omega), if_neg (by omega), if_neg (by omega), if_neg (by omega), if_neg (by omega), if_neg (by omega)]; exact hg1 i (by omega)
              by_cases h2 : k = 34
              · subst h2
                rw [if_neg (by omega), if_neg (by omega), if_neg (by omega)]
                show μ.1 34 i = _
                rw [haμ 34 (by decide)]
                by_cases hi : i < 24
                · rw [if_neg (by omega), if_pos ⟨rfl, hi⟩]; exact hl2 i hi
                · rw [if_neg (by omega), if_neg (by omega), if_neg (by omega), if_neg (by omega), if_neg (by omega), if_neg (by omega)]; exact hg2 i (by omega)
              by_cases h3 : k = 35
              · subst h3
                rw [if_neg (by omega), if_neg (by omega), if_neg (by omega)]
                show μ.1 35 i = _
                by_cases hi : i < 25
                · rw [if_neg (by omega), if_neg (by omega), if_pos ⟨rfl, hi⟩]; exact hloμ i hi
                · rw [if_neg (by omega), if_neg (by omega), if_neg (by omega), if_neg (by omega), if_neg (by omega), if_neg (by omega), hhiμ i (by omega), haτ 35 (by decide)]; rfl
              rw [if_neg (c := k = 33 ∧ _) (fun z => h1 z.1), if_neg (c := k = 34 ∧ _) (fun z => h2 z.1), if_neg (c := k = 35 ∧ _) (fun z => h3 z.1)]
              by_cases e1 : k = 36 ∧ i = 0
              · rw [if_neg (by omega), if_neg (by omega), if_pos e1, if_pos e1]; rfl
              by_cases e2 : k = 37 ∧ i = 0
              · rw [if_neg (by omega), if_pos e2, if_neg e1, if_pos e2]; rfl
              by_cases e3 : k = 38 ∧ i = 0
              · rw [if_pos e3, if_neg e1, if_neg e2, if_pos e3]; rfl
              rw [if_neg e3, if_neg e2, if_neg e1, if_neg e1, if_neg e2, if_neg e3]
              unfold co
              rw [haμ k (by simpa using h3), haτ k (by simp; exact ⟨h1, h2⟩)]
            · have n43 := (not_congr (cmp_le (x := 25) (y := nI y) (a := 25) (b := y) (ix_lit 25 rfl) rfl (by omega) (by omega))).mp h43
              refine v_aload_n G 1 dX8_image_46 rfl ?_
              refine m_get (v := .ref (ad 35)) G 35 (by decide) rfl q1329 rfl dX8_image_47 ?_
              refine v_iload_n G 0 dX8_image_50 rfl ?_
              refine v_aload_n G 1 dX8_image_51 rfl ?_
              refine m_get (v := .ref (ad 10)) G 10 (by decide) rfl q1304 rfl dX8_image_52 ?_
              refine v_iload_n G 0 dX8_image_55 rfl ?_
              refine m_iald G 10 rfl (y) rfl (show y < 25 by first | omega | assumption | decide) dX8_image_56 ?_
              refine v_topr (congrArg Value.int (show μ.1 10 y = σ.1 10 y from ((show μ.1 10 y = τ.1 10 y from ag_at haμ (by decide)).trans (show τ.1 10 y = σ.1 10 y from ag_at haτ (by decide))))) ?_
              refine m_iast G 35 rfl (y) rfl (show y < 25 by first | omega | assumption | decide) dX8_image_57 ?_
              refine v_iinc (v := nI (y + 1)) (L' := [(1, .int (nI (y + 1))), (0, .ref (ad 43))]) G 0 dX8_image_58 rfl (ix_add rfl (ix_lit 1 rfl)) (by decide) rfl ?_
              refine v_goto (tgt := 40) G dX8_image_61 (by decide) ?_
              refine V_.sub (L' := [(1, .int (nI (y + 1))), (0, .ref (ad 43))]) ?_ [0, 1] rfl
              exact ih40  (y + 1) (mset μ 35 y (σ.1 10 y)) (by omega) (cpy0_lo hloμ rfl) (cpy0_hi hhiμ) (ag_tr haμ (ag_set (by decide))) (by omega)
        refine V_.sub (L' := [(1, .int 0), (0, .ref (ad 43))]) ?_ [0, 1] rfl
        refine v_loc (L' := [(1, .int (nI 0)), (0, .ref (ad 43))]) (rfl) ?_
        exact loop40 _ 0 τ (Nat.zero_le _) (fun i hi => absurd hi (Nat.not_lt_zero i)) (fun _ _ => rfl) ag_rf (Nat.lt_succ_self _)
      · have n5 := (not_congr (cmp_le (x := 24) (y := nI q) (a := 24) (b := q) (ix_lit 24 rfl) rfl (by omega) (by omega))).mp h5
        refine v_aload_n G 1 dX8_image_8 rfl ?_
        refine m_get (v := .ref (ad 33)) G 33 (by decide) rfl q1327 rfl dX8_image_9 ?_
        refine v_iload_n G 0 dX8_image_12 rfl ?_
        refine v_aload_n G 1 dX8_image_13 rfl ?_
        refine m_get (v := .ref (ad 8)) G 8 (by decide) rfl q1302 rfl dX8_image_14 ?_
        refine v_iload_n G 0 dX8_image_17 rfl ?_
        refine m_iald G 8 rfl (q) rfl (show q < 24 by first | omega | assumption | decide) dX8_image_18 ?_
        refine v_topr (congrArg Value.int (show τ.1 8 q = σ.1 8 q from (show τ.1 8 q = σ.1 8 q from ag_at haτ (by decide)))) ?_
        refine m_iast G 33 rfl (q) rfl (show q < 24 by first | omega | assumption | decide) dX8_image_19 ?_
        refine v_aload_n G 1 dX8_image_20 rfl ?_
        refine m_get (v := .ref (ad 34)) G 34 (by decide) rfl q1328 rfl dX8_image_21 ?_
        refine v_iload_n G 0 dX8_image_24 rfl ?_
        refine v_aload_n G 1 dX8_image_25 rfl ?_
        refine m_get (v := .ref (ad 9)) G 9 (by decide) rfl q1303 rfl dX8_image_26 ?_
        refine v_iload_n G 0 dX8_image_29 rfl ?_
        refine m_iald G 9 rfl (q) rfl (show q < 24 by first | omega | assumption | decide) dX8_image_30 ?_
        refine v_topr (congrArg Value.int (show (mset τ 33 q (σ.1 8 q)).1 9 q = σ.1 9 q from (show τ.1 9 q = σ.1 9 q from ag_at haτ (by decide)))) ?_
        refine m_iast G 34 rfl (q) rfl (show q < 24 by first | omega | assumption | decide) dX8_image_31 ?_
        refine v_iinc (v := nI (q + 1)) (L' := [(1, .int (nI (q + 1))), (0, .ref (ad 43))]) G 0 dX8_image_32 rfl (ix_add rfl (ix_lit 1 rfl)) (by decide) rfl ?_
        refine v_goto (tgt := 2) G dX8_image_35 (by decide) ?_
        refine V_.sub (L' := [(1, .int (nI (q + 1))), (0, .ref (ad 43))]) ?_ [0, 1] rfl
        exact ih2  (q + 1) (mset (mset τ 33 q (σ.1 8 q)) 34 q (σ.1 9 q)) (by omega) (fun i hi => (congrFun (mset_ne_k (by decide)) i).trans (cpy0_lo (f := fun i => σ.1 8 i) hl1 rfl i hi)) (cpy0_lo (f := fun i => σ.1 9 i) (fun i hi => (congrFun (mset_ne_k (by decide)) i).trans (hl2 i hi)) rfl) (fun i hi => (congrFun (mset_ne_k (by decide)) i).trans (cpy0_hi hg1 i hi)) (cpy0_hi (fun i hi => (congrFun (mset_ne_k (by decide)) i).trans (hg2 i hi))) (ag_tr haτ (ag_tr (ag_set (by decide)) (ag_set (by decide)))) (by omega)
  refine V_.sub (L' := [(1, .int 0), (0, .ref (ad 43))]) ?_ [0, 1] rfl
  refine v_loc (L' := [(1, .int (nI 0)), (0, .ref (ad 43))]) (rfl) ?_
  exact loop2 _ 0 σ (Nat.zero_le _) (fun i hi => absurd hi (Nat.not_lt_zero i)) (fun i hi => absurd hi (Nat.not_lt_zero i)) (fun _ _ => rfl) (fun _ _ => rfl) ag_rf (Nat.lt_succ_self _)
abbrev rmX8_back : Room := { frames := 0, cells := 0, slots := 0, locals := 0 }
set_option maxHeartbeats 1000000 in
theorem kX8_back {KT : (Nat → Prop) → State → Heap → Prop} (hK : KTok KT) (l : Launch) (dC : Nat → ClassId) (dI : Nat → Nat → Nat) (ct ad : Nat → Nat) (σ : MS)  (hO : Ok (co σ)) : MC KT (dC, dI) vwCl (tysF ct) l yX8_back cX8_back 2 (some .int) rmX8_back [.ref (ad 43)] (RM ct ad σ) (QI_ (dC, dI) vwCl (RM ct ad) (fun (r : Int32) (σ' : MS) => ((s_back (co σ)).1) = r ∧ co σ' = (s_back (co σ)).2)) := by
  refine MC.ofI (own := RX8) pl_X8 rfl (Nat.le_of_ble_eq_true rfl) ?_
  intro pp ee ss mm aa bb hh cc AA QQ G hT hnm RET
  refine v_loc (L' := [(0, .ref (ad 43))]) rfl ?_
  refine v_aload_n G 0 dX8_back_0 rfl ?_
  refine m_get (v := .int (σ.1 36 0)) G 36 (by decide) rfl q1330 rfl dX8_back_1 ?_
  refine v_iconst (v := (-1)) G dX8_back_4 rfl ?_
  refine v_icmp_ne (tgt := 11) G dX8_back_5 (by decide) (fun h5 => ?_) (fun h5 => ?_)
  · refine v_iconst (v := 0) G dX8_back_11 rfl ?_
    refine v_istore_n (L' := [(1, .int 0), (0, .ref (ad 43))]) G dX8_back_12 (by decide) rfl ?_
    have loop13 : ∀ (dd : Nat) (q : Nat) (τ : MS), (q ≤ 24) → (∀ i, i < q → τ.1 8 i = σ.1 33 i) → (∀ i, i < q → τ.1 9 i = σ.1 34 i) → (∀ i, q ≤ i → τ.1 8 i = σ.1 8 i) → (∀ i, q ≤ i → τ.1 9 i = σ.1 9 i) → (ag [8, 9] σ τ) → 24 - q < dd → V_ pp l ee rmX8_back ss mm aa bb hh cc 2 (dC, dI) vwCl AA QQ 0 0 (RM ct ad τ) 13 [(1, .int (nI q)), (0, .ref (ad 43))] [] := by
      intro dd
      induction dd with
      | zero => intro q τ hq hl1 hl2 hg1 hg2 haτ hdd; exact absurd hdd (Nat.not_lt_zero _)
      | succ dd ih13 =>
        intro q τ hq hl1 hl2 hg1 hg2 haτ hdd
        refine v_iload_n G 0 dX8_back_13 rfl ?_
        refine v_bipush (v := 24) G dX8_back_14 rfl ?_
        refine v_icmp_ge (tgt := 49) G dX8_back_16 (by decide) (fun h16 => ?_) (fun h16 => ?_)
        · have n16 := (cmp_le (x := 24) (y := nI q) (a := 24) (b := q) (ix_lit 24 rfl) rfl (by omega) (by omega)).mp h16
          refine v_iconst (v := 0) G dX8_back_49 rfl ?_
          refine v_istore_n (L' := [(1, .int 0), (0, .ref (ad 43))]) G dX8_back_50 (by decide) rfl ?_
          have loop51 : ∀ (dd : Nat) (y : Nat) (μ : MS), (y ≤ 25) → (∀ i, i < y → μ.1 10 i = σ.1 35 i) → (∀ i, y ≤ i → μ.1 10 i = τ.1 10 i) → (ag [10] τ μ) → 25 - y < dd → V_ pp l ee rmX8_back ss mm aa bb hh cc 2 (dC, dI) vwCl AA QQ 0 0 (RM ct ad μ) 51 [(1, .int (nI y)), (0, .ref (ad 43))] [] := by
            intro dd
            induction dd with
            | zero => intro y μ hqμ hloμ hhiμ haμ hdd; exact absurd hdd (Nat.not_lt_zero _)
            | succ dd ih51 =>
              intro y μ hqμ hloμ hhiμ haμ hdd
              refine v_iload_n G 0 dX8_back_51 rfl ?_
              refine v_bipush (v := 25) G dX8_back_52 rfl ?_
              refine v_icmp_ge (tgt := 75) G dX8_back_54 (by decide) (fun h54 => ?_) (fun h54 => ?_)
              · have n54 := (cmp_le (x := 25) (y := nI y) (a := 25) (b := y) (ix_lit 25 rfl) rfl (by omega) (by omega)).mp h54
                refine v_aload_n G 1 dX8_back_75 rfl ?_
                refine v_aload_n G 1 dX8_back_76 rfl ?_
                refine m_get (v := .int (μ.1 36 0)) G 36 (by decide) rfl q1330 rfl dX8_back_77 ?_
                refine v_topr (congrArg Value.int (show μ.1 36 0 = σ.1 36 0 from ((show μ.1 36 0 = τ.1 36 0 from ag_at haμ (by decide)).trans (show τ.1 36 0 = σ.1 36 0 from ag_at haτ (by decide))))) ?_
                refine m_putI G 11 (by decide) q1305 rfl rfl rfl dX8_back_80 ?_
                refine v_aload_n G 1 dX8_back_83 rfl ?_
                refine v_aload_n G 1 dX8_back_84 rfl ?_
                refine m_get (v := .int ((mset μ 11 0 (σ.1 36 0)).1 37 0)) G 37 (by decide) rfl q1331 rfl dX8_back_85 ?_
                refine v_topr (congrArg Value.int (show (mset μ 11 0 (σ.1 36 0)).1 37 0 = σ.1 37 0 from ((show μ.1 37 0 = τ.1 37 0 from ag_at haμ (by decide)).trans (show τ.1 37 0 = σ.1 37 0 from ag_at haτ (by decide))))) ?_
                refine m_putI G 7 (by decide) q1301 rfl rfl rfl dX8_back_88 ?_
                refine v_aload_n G 1 dX8_back_91 rfl ?_
                refine v_aload_n G 1 dX8_back_92 rfl ?_
                refine m_get (v := .int ((mset (mset μ 11 0 (σ.1 36 0)) 7 0 (σ.1 37 0)).1 38 0)) G 38 (by decide) rfl q1332 rfl dX8_back_93 ?_
                refine v_topr (congrArg Value.int (show (mset (mset μ 11 0 (σ.1 36 0)) 7 0 (σ.1 37 0)).1 38 0 = σ.1 38 0 from ((show μ.1 38 0 = τ.1 38 0 from ag_at haμ (by decide)).trans (show τ.1 38 0 = σ.1 38 0 from ag_at haτ (by decide))))) ?_
                refine m_putI G 4 (by decide) q1298 rfl rfl rfl dX8_back_96 ?_
                refine v_aload_n G 1 dX8_back_99 rfl ?_
                refine m_get (v := .int ((mset (mset (mset μ 11 0 (σ.1 36 0)) 7 0 (σ.1 37 0)) 4 0 (σ.1 38 0)).1 11 0)) G 11 (by decide) rfl q1305 rfl dX8_back_100 ?_
                refine v_topr (congrArg Value.int (show (mset (mset (mset μ 11 0 (σ.1 36 0)) 7 0 (σ.1 37 0)) 4 0 (σ.1 38 0)).1 11 0 = σ.1 36 0 from (by first | rfl | simp [mset, msetL, upd2]))) ?_
                refine RET _ _ _ _ _ _ rfl (Nat.le_of_ble_eq_true rfl) (Nat.le_of_ble_eq_true rfl) dX8_back_103 (fun ws hws => ⟨_, hws, ?_⟩)
                clear RET G hT hnm
                rw [s_back, if_neg (by exact h5)]
                refine ⟨by first | rfl | simp [mset, upd2]; rfl, ?_⟩
                have hq24 : q = 24 := by omega
                have hy25 : y = 25 := by omega
                subst hq24 hy25
                funext k i
                unfold s_backK
                rw [co_set (by decide), co_set (by decide), co_set (by decide)]
                simp only [upd2_at]
                by_cases h1 : k = 8
                · subst h1
                  rw [if_neg (by omega), if_neg (by omega), if_neg (by omega)]
                  show μ.1 8 i = _
                  rw [haμ 8 (by decide)]
                  by_cases hi : i < 24
                  · rw [if_pos ⟨rfl, hi⟩]; exact hl1 i hi
                  · rw [if_neg (by omega), if_neg (by omega), if_neg (by omega), if_neg (by omega), if_neg (by omega), if_neg (by omega)]; exact hg1 i (by omega)
                by_cases h2 : k = 9
                · subst h2
                  rw [if_neg (by omega), if_neg (by omega), if_neg (by omega)]
                  show μ.1 9 i = _
                  rw [haμ 9 (by decide)]
                  by_cases hi : i < 24
                  · rw [if_neg (by omega), if_pos ⟨rfl, hi⟩]; exact hl2 i hi
                  · rw [if_neg (by omega), if_neg (by omega), if_neg (by omega), if_neg (by omega), if_neg (by omega), if_neg (by omega)]; exact hg2 i (by omega)
                by_cases h3 : k = 10
                · subst h3
                  rw [if_neg (by omega), if_neg (by omega), if_neg (by omega)]
                  show μ.1 10 i = _
                  by_cases hi : i < 25
                  · rw [if_neg (by omega), if_neg (by omega), if_pos ⟨rfl, hi⟩]; exact hloμ i hi
                  · rw [if_neg (by omega), if_neg (by omega), if_neg (by omega), if_neg (by omega), if_neg (by omega), if_neg (by omega), hhiμ i (by omega), haτ 10 (by decide)]; rfl
                rw [if_neg (c := k = 8 ∧ _) (fun z => h1 z.1), if_neg (c := k = 9 ∧ _) (fun z => h2 z.1), if_neg (c := k = 10 ∧ _) (fun z => h3 z.1)]
                by_cases e1 : k = 11 ∧ i = 0
                · rw [if_neg (by omega), if_neg (by omega), if_pos e1, if_pos e1]; rfl
                by_cases e2 : k = 7 ∧ i = 0
                · rw [if_neg (by omega), if_pos e2, if_neg e1, if_pos e2]; rfl
                by_cases e3 : k = 4 ∧ i = 0
                · rw [if_pos e3, if_neg e1, if_neg e2, if_pos e3]; rfl
                rw [if_neg e3, if_neg e2, if_neg e1, if_neg e1, if_neg e2, if_neg e3]
                unfold co
                rw [haμ k (by simpa using h3), haτ k (by simp; exact ⟨h1, h2⟩)]
              · have n54 := (not_congr (cmp_le (x := 25) (y := nI y) (a := 25) (b := y) (ix_lit 25 rfl) rfl (by omega) (by omega))).mp h54
                refine v_aload_n G 1 dX8_back_57 rfl ?_
                refine m_get (v := .ref (ad 10)) G 10 (by decide) rfl q1304 rfl dX8_back_58 ?_
                refine v_iload_n G 0 dX8_back_61 rfl ?_
                refine v_aload_n G 1 dX8_back_62 rfl ?_
                refine m_get (v := .ref (ad 35)) G 35 (by decide) rfl q1329 rfl dX8_back_63 ?_
                refine v_iload_n G 0 dX8_back_66 rfl ?_
                refine m_iald G 35 rfl (y) rfl (show y < 25 by first | omega | assumption | decide) dX8_back_67 ?_
                refine v_topr (congrArg Value.int (show μ.1 35 y = σ.1 35 y from ((show μ.1 35 y = τ.1 35 y from ag_at haμ (by decide)).trans (show τ.1 35 y = σ.1 35 y from ag_at haτ (by decide))))) ?_
                refine m_iast G 10 rfl (y) rfl (show y < 25 by first | omega | assumption | decide) dX8_back_68 ?_
                refine v_iinc (v := nI (y + 1)) (L' := [(1, .int (nI (y + 1))), (0, .ref (ad 43))]) G 0 dX8_back_69 rfl (ix_add rfl (ix_lit 1 rfl)) (by decide) rfl ?_
                refine v_goto (tgt := 51) G dX8_back_72 (by decide) ?_
                refine V_.sub (L' := [(1, .int (nI (y + 1))), (0, .ref (ad 43))]) ?_ [0, 1] rfl
                exact ih51  (y + 1) (mset μ 10 y (σ.1 35 y)) (by omega) (cpy0_lo hloμ rfl) (cpy0_hi hhiμ) (ag_tr haμ (ag_set (by decide))) (by omega)
          refine V_.sub (L' := [(1, .int 0), (0, .ref (ad 43))]) ?_ [0, 1] rfl
          refine v_loc (L' := [(1, .int (nI 0)), (0, .ref (ad 43))]) (rfl) ?_
          exact loop51 _ 0 τ (Nat.zero_le _) (fun i hi => absurd hi (Nat.not_lt_zero i)) (fun _ _ => rfl) ag_rf (Nat.lt_succ_self _)
        · have n16 := (not_congr (cmp_le (x := 24) (y := nI q) (a := 24) (b := q) (ix_lit 24 rfl) rfl (by omega) (by omega))).mp h16
          refine v_aload_n G 1 dX8_back_19 rfl ?_
          refine m_get (v := .ref (ad 8)) G 8 (by decide) rfl q1302 rfl dX8_back_20 ?_
          refine v_iload_n G 0 dX8_back_23 rfl ?_
          refine v_aload_n G 1 dX8_back_24 rfl ?_
          refine m_get (v := .ref (ad 33)) G 33 (by decide) rfl q1327 rfl dX8_back_25 ?_
          refine v_iload_n G 0 dX8_back_28 rfl ?_
          refine m_iald G 33 rfl (q) rfl (show q < 24 by first | omega | assumption | decide) dX8_back_29 ?_
          refine v_topr (congrArg Value.int (show τ.1 33 q = σ.1 33 q from (show τ.1 33 q = σ.1 33 q from ag_at haτ (by decide)))) ?_
          refine m_iast G 8 rfl (q) rfl (show q < 24 by first | omega | assumption | decide) dX8_back_30 ?_
          refine v_aload_n G 1 dX8_back_31 rfl ?_
          refine m_get (v := .ref (ad 9)) G 9 (by decide) rfl q1303 rfl dX8_back_32 ?_
          refine v_iload_n G 0 dX8_back_35 rfl ?_
          refine v_aload_n G 1 dX8_back_36 rfl ?_
          refine m_get (v := .ref (ad 34)) G 34 (by decide) rfl q1328 rfl dX8_back_37 ?_
          refine v_iload_n G 0 dX8_back_40 rfl ?_
          refine m_iald G 34 rfl (q) rfl (show q < 24 by first | omega | assumption | decide) dX8_back_41 ?_
          refine v_topr (congrArg Value.int (show (mset τ 8 q (σ.1 33 q)).1 34 q = σ.1 34 q from (show τ.1 34 q = σ.1 34 q from ag_at haτ (by decide)))) ?_
          refine m_iast G 9 rfl (q) rfl (show q < 24 by first | omega | assumption | decide) dX8_back_42 ?_
          refine v_iinc (v := nI (q + 1)) (L' := [(1, .int (nI (q + 1))), (0, .ref (ad 43))]) G 0 dX8_back_43 rfl (ix_add rfl (ix_lit 1 rfl)) (by decide) rfl ?_
          refine v_goto (tgt := 13) G dX8_back_46 (by decide) ?_
          refine V_.sub (L' := [(1, .int (nI (q + 1))), (0, .ref (ad 43))]) ?_ [0, 1] rfl
          exact ih13  (q + 1) (mset (mset τ 8 q (σ.1 33 q)) 9 q (σ.1 34 q)) (by omega) (fun i hi => (congrFun (mset_ne_k (by decide)) i).trans (cpy0_lo (f := fun i => σ.1 33 i) hl1 rfl i hi)) (cpy0_lo (f := fun i => σ.1 34 i) (fun i hi => (congrFun (mset_ne_k (by decide)) i).trans (hl2 i hi)) rfl) (fun i hi => (congrFun (mset_ne_k (by decide)) i).trans (cpy0_hi hg1 i hi)) (cpy0_hi (fun i hi => (congrFun (mset_ne_k (by decide)) i).trans (hg2 i hi))) (ag_tr haτ (ag_tr (ag_set (by decide)) (ag_set (by decide)))) (by omega)
    refine V_.sub (L' := [(1, .int 0), (0, .ref (ad 43))]) ?_ [0, 1] rfl
    refine v_loc (L' := [(1, .int (nI 0)), (0, .ref (ad 43))]) (rfl) ?_
    exact loop13 _ 0 σ (Nat.zero_le _) (fun i hi => absurd hi (Nat.not_lt_zero i)) (fun i hi => absurd hi (Nat.not_lt_zero i)) (fun _ _ => rfl) (fun _ _ => rfl) ag_rf (Nat.lt_succ_self _)
  · refine v_bipush (v := (-3)) G dX8_back_8 rfl ?_
    refine RET _ _ _ _ _ _ rfl (Nat.le_of_ble_eq_true rfl) (Nat.le_of_ble_eq_true rfl) dX8_back_10 (fun ws hws => ⟨_, hws, ?_⟩)
    clear RET G hT hnm
    rw [s_back, if_pos (by exact h5)]
    exact ⟨rfl, rfl⟩
