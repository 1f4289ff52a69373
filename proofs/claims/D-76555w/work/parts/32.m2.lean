set_option maxRecDepth 100000
abbrev rmX8_opens : Room := { frames := 2, cells := 0, slots := 0, locals := 47 }
set_option maxHeartbeats 4000000 in
theorem kX8_opens {KT : (Nat → Prop) → State → Heap → Prop} (hK : KTok KT) (l : Launch) (dC : Nat → ClassId) (dI : Nat → Nat → Nat) (ct ad : Nat → Nat) (σ : MS) (F : Nat) (n : Nat) (b : Nat → Int32) (k : Nat) (t : PS) (hS : ST F n b k t σ) (hkd : kd t ≠ 9) (hk5 : k ≤ 5) : MC KT (dC, dI) vwCl (tysF ct) l yX8_opens cX8_opens 1 (some .boolean) rmX8_opens [.ref (ad 43)] (RM ct ad σ) (QI_ (dC, dI) vwCl (RM ct ad) (fun (r : Int32) (σ' : MS) => (1 = r ∧ k < 5 ∧ ST F n b (k + 1) (nxS b n t) σ' ∧ ag pfr σ σ') ∨ (0 = r ∧ k = 5 ∧ ST F n b k (faS t) σ' ∧ ag pfr σ σ'))) := by
  refine MC.ofI (own := RX8) pl_X8 rfl (Nat.le_of_ble_eq_true rfl) ?_
  intro pp ee ss mm aa bb hh cc AA QQ G hT hnm RET
  refine v_loc (L' := [(0, .ref (ad 43))]) rfl ?_
  refine v_aload_n G 0 dX8_opens_0 rfl ?_
  refine m_get (v := .int (σ.1 24 0)) G 24 (by decide) rfl q1318 rfl dX8_opens_1 ?_
  refine v_iconst (v := 5) G dX8_opens_4 rfl ?_
  refine v_icmp_ne (tgt := 14) G dX8_opens_5 (by decide) (fun h5 => ?_) (fun h5 => ?_)
  · have n5 := (not_congr (cmp_eq (x := σ.1 24 0) (y := 5) (a := k) (b := 5) hS.2.2 (ix_lit 5 rfl) (by omega) (by omega))).mp h5
    refine v_aload_n G 0 dX8_opens_14 rfl ?_
    refine v_dup G dX8_opens_15 rfl ?_
    refine m_get (v := .int (σ.1 24 0)) G 24 (by decide) rfl q1318 rfl dX8_opens_16 ?_
    refine v_iconst (v := 1) G dX8_opens_19 rfl ?_
    refine v_iadd G dX8_opens_20 ?_
    refine m_putI G 24 (by decide) q1318 rfl rfl rfl dX8_opens_21 ?_
    refine v_aload_n G 0 dX8_opens_24 rfl ?_
    refine w_callVv G hK hT (kX8_nextS hK l dC dI ct ad (mset σ 24 0 ((σ.1 24 0) + 1)) F n b (k + 1) t (ST_op hS (ix_add hS.2.2 (ix_lit 1 rfl))) hkd) (ck_X8_196 G.2.2.2.2.1 ⟨Nat.le_of_ble_eq_true rfl, Nat.le_of_ble_eq_true rfl⟩) m_recv (fun _ h => h) rfl [] rfl (Nat.le_of_ble_eq_true rfl) dX8_opens_25 ⟨Nat.le_of_ble_eq_true rfl, Nat.le_of_ble_eq_true rfl⟩ (k1 := 0) (n1 := 0) rfl rfl ?_
    rintro σ25 ⟨h25_s, h25_a, h25_b⟩
    refine v_iconst (v := 1) G dX8_opens_28 rfl ?_
    refine RET _ _ _ _ _ _ (by first | rfl | assumption) (Nat.le_of_ble_eq_true rfl) (Nat.le_of_ble_eq_true rfl) dX8_opens_29 (fun ws hw => ⟨_, hw, ?_⟩)
    clear RET G hT hnm
    exact Or.inl ⟨rfl, by omega, h25_s, ag_tr (ag_set (by decide)) h25_a⟩
  · have n5 := (cmp_eq (x := σ.1 24 0) (y := 5) (a := k) (b := 5) hS.2.2 (ix_lit 5 rfl) (by omega) (by omega)).mp h5
    refine v_aload_n G 0 dX8_opens_8 rfl ?_
    refine w_callVv G hK hT (kX8_failS hK l dC dI ct ad σ F n b k t hS) (ck_X8_193 G.2.2.2.2.1 ⟨Nat.le_of_ble_eq_true rfl, Nat.le_of_ble_eq_true rfl⟩) m_recv (fun _ h => h) rfl [] rfl (Nat.le_of_ble_eq_true rfl) dX8_opens_9 ⟨Nat.le_of_ble_eq_true rfl, Nat.le_of_ble_eq_true rfl⟩ (k1 := 0) (n1 := 0) rfl rfl ?_
    rintro σ9 ⟨h9_s, h9_a, h9_b⟩
    refine v_iconst (v := 0) G dX8_opens_12 rfl ?_
    refine RET _ _ _ _ _ _ (by first | rfl | assumption) (Nat.le_of_ble_eq_true rfl) (Nat.le_of_ble_eq_true rfl) dX8_opens_13 (fun ws hw => ⟨_, hw, ?_⟩)
    clear RET G hT hnm
    exact Or.inr ⟨rfl, n5, h9_s, h9_a⟩
abbrev rmX8_name : Room := { frames := 3, cells := 0, slots := 0, locals := 71 }
set_option maxHeartbeats 4000000 in
theorem kX8_name {KT : (Nat → Prop) → State → Heap → Prop} (hK : KTok KT) (l : Launch) (dC : Nat → ClassId) (dI : Nat → Nat → Nat) (ct ad : Nat → Nat) (σ : MS) (F : Nat) (n : Nat) (b : Nat → Int32) (k : Nat) (t : PS) (hS : ST F n b k t σ) : MC KT (dC, dI) vwCl (tysF ct) l yX8_name cX8_name 1 (some .int) rmX8_name [.ref (ad 43)] (RM ct ad σ) (QI_ (dC, dI) vwCl (RM ct ad) (fun (r : Int32) (σ' : MS) => ((envS σ (n_ (vl t))) = r ∧ σ = σ' ∧ kd t = 2) ∨ (0 = r ∧ ST F n b k (faS t) σ' ∧ ag pfr σ σ' ∧ σ'.1 25 0 = 1 ∧ ¬ kd t = 2))) := by
  refine MC.ofI (own := RX8) pl_X8 rfl (Nat.le_of_ble_eq_true rfl) ?_
  intro pp ee ss mm aa bb hh cc AA QQ G hT hnm RET
  refine v_loc (L' := [(0, .ref (ad 43))]) rfl ?_
  refine v_aload_n G 0 dX8_name_0 rfl ?_
  refine v_bipush (v := 99) G dX8_name_1 rfl ?_
  refine v_bipush (v := 114) G dX8_name_3 rfl ?_
  refine v_bipush (v := 111) G dX8_name_5 rfl ?_
  refine v_bipush (v := 115) G dX8_name_7 rfl ?_
  refine v_bipush (v := 115) G dX8_name_9 rfl ?_
  refine v_bipush (v := 105) G dX8_name_11 rfl ?_
  refine v_bipush (v := 110) G dX8_name_13 rfl ?_
  refine v_bipush (v := 103) G dX8_name_15 rfl ?_
  refine w_callVi G hK hT (kX8_isWordS hK l dC dI ct ad σ F n b k t 2 0 99 114 111 115 115 105 110 103 hS (⟨(2, 0, [99, 114, 111, 115, 115, 105, 110, 103]), by decide +kernel, rfl, rfl, rfl⟩)) (ck_X8_199 G.2.2.2.2.1 ⟨Nat.le_of_ble_eq_true rfl, Nat.le_of_ble_eq_true rfl⟩) m_recv (fun _ h => h) rfl [] rfl (Nat.le_of_ble_eq_true rfl) dX8_name_17 ⟨Nat.le_of_ble_eq_true rfl, Nat.le_of_ble_eq_true rfl⟩ (k1 := 0) (n1 := 0) rfl rfl ?_
  rintro r17 σ17 (⟨rfl, rfl, h17_h⟩ | ⟨rfl, rfl, h17_h⟩)
  · refine v_if_eq (tgt := 28) G dX8_name_20 (by decide) (fun h20 => absurd h20 (by decide)) (fun h20 => ?_)
    refine v_aload_n G 0 dX8_name_23 rfl ?_
    refine m_get (v := .int (σ.1 12 0)) G 12 (by decide) rfl q1306 rfl dX8_name_24 ?_
    refine RET _ _ _ _ _ _ rfl (Nat.le_of_ble_eq_true rfl) (Nat.le_of_ble_eq_true rfl) dX8_name_27 (fun ws hw => ⟨_, hw, ?_⟩)
    clear RET G hT hnm
    obtain ⟨k1, k2⟩ := isTk_kd h17_h
    exact Or.inl ⟨by rw [k2]; rfl, rfl, k1⟩
  · refine v_if_eq (tgt := 28) G dX8_name_20 (by decide) (fun h20 => ?_) (fun h20 => absurd h20 (by decide))
    refine v_aload_n G 0 dX8_name_28 rfl ?_
    refine v_bipush (v := 106) G dX8_name_29 rfl ?_
    refine v_bipush (v := 97) G dX8_name_31 rfl ?_
    refine v_bipush (v := 114) G dX8_name_33 rfl ?_
    refine v_iconst (v := 0) G dX8_name_35 rfl ?_
    refine v_iconst (v := 0) G dX8_name_36 rfl ?_
    refine v_iconst (v := 0) G dX8_name_37 rfl ?_
    refine v_iconst (v := 0) G dX8_name_38 rfl ?_
    refine v_iconst (v := 0) G dX8_name_39 rfl ?_
    refine w_callVi G hK hT (kX8_isWordS hK l dC dI ct ad σ F n b k t 2 1 106 97 114 0 0 0 0 0 hS (⟨(2, 1, [106, 97, 114, 0, 0, 0, 0, 0]), by decide +kernel, rfl, rfl, rfl⟩)) (ck_X8_199 G.2.2.2.2.1 ⟨Nat.le_of_ble_eq_true rfl, Nat.le_of_ble_eq_true rfl⟩) m_recv (fun _ h => h) rfl [] rfl (Nat.le_of_ble_eq_true rfl) dX8_name_40 ⟨Nat.le_of_ble_eq_true rfl, Nat.le_of_ble_eq_true rfl⟩ (k1 := 0) (n1 := 0) rfl rfl ?_
    rintro r40 σ40 (⟨rfl, rfl, h40_h⟩ | ⟨rfl, rfl, h40_h⟩)
    · refine v_if_eq (tgt := 51) G dX8_name_43 (by decide) (fun h43 => absurd h43 (by decide)) (fun h43 => ?_)
      refine v_aload_n G 0 dX8_name_46 rfl ?_
      refine m_get (v := .int (σ.1 13 0)) G 13 (by decide) rfl q1307 rfl dX8_name_47 ?_
      refine RET _ _ _ _ _ _ rfl (Nat.le_of_ble_eq_true rfl) (Nat.le_of_ble_eq_true rfl) dX8_name_50 (fun ws hw => ⟨_, hw, ?_⟩)
      clear RET G hT hnm
      obtain ⟨k1, k2⟩ := isTk_kd h40_h
      exact Or.inl ⟨by rw [k2]; rfl, rfl, k1⟩
    · refine v_if_eq (tgt := 51) G dX8_name_43 (by decide) (fun h43 => ?_) (fun h43 => absurd h43 (by decide))
      refine v_aload_n G 0 dX8_name_51 rfl ?_
      refine v_bipush (v := 110) G dX8_name_52 rfl ?_
      refine v_bipush (v := 117) G dX8_name_54 rfl ?_
      refine v_bipush (v := 109) G dX8_name_56 rfl ?_
      refine v_bipush (v := 98) G dX8_name_58 rfl ?_
      refine v_bipush (v := 101) G dX8_name_60 rfl ?_
      refine v_bipush (v := 114) G dX8_name_62 rfl ?_
      refine v_iconst (v := 0) G dX8_name_64 rfl ?_
      refine v_iconst (v := 0) G dX8_name_65 rfl ?_
      refine w_callVi G hK hT (kX8_isWordS hK l dC dI ct ad σ F n b k t 2 2 110 117 109 98 101 114 0 0 hS (⟨(2, 2, [110, 117, 109, 98, 101, 114, 0, 0]), by decide +kernel, rfl, rfl, rfl⟩)) (ck_X8_199 G.2.2.2.2.1 ⟨Nat.le_of_ble_eq_true rfl, Nat.le_of_ble_eq_true rfl⟩) m_recv (fun _ h => h) rfl [] rfl (Nat.le_of_ble_eq_true rfl) dX8_name_66 ⟨Nat.le_of_ble_eq_true rfl, Nat.le_of_ble_eq_true rfl⟩ (k1 := 0) (n1 := 0) rfl rfl ?_
      rintro r66 σ66 (⟨rfl, rfl, h66_h⟩ | ⟨rfl, rfl, h66_h⟩)
      · refine v_if_eq (tgt := 77) G dX8_name_69 (by decide) (fun h69 => absurd h69 (by decide)) (fun h69 => ?_)
        refine v_aload_n G 0 dX8_name_72 rfl ?_
        refine m_get (v := .int (σ.1 14 0)) G 14 (by decide) rfl q1308 rfl dX8_name_73 ?_
        refine RET _ _ _ _ _ _ rfl (Nat.le_of_ble_eq_true rfl) (Nat.le_of_ble_eq_true rfl) dX8_name_76 (fun ws hw => ⟨_, hw, ?_⟩)
        clear RET G hT hnm
        obtain ⟨k1, k2⟩ := isTk_kd h66_h
        exact Or.inl ⟨by rw [k2]; rfl, rfl, k1⟩
      · refine v_if_eq (tgt := 77) G dX8_name_69 (by decide) (fun h69 => ?_) (fun h69 => absurd h69 (by decide))
        refine v_aload_n G 0 dX8_name_77 rfl ?_
        refine v_bipush (v := 121) G dX8_name_78 rfl ?_
        refine v_bipush (v := 101) G dX8_name_80 rfl ?_
        refine v_bipush (v := 97) G dX8_name_82 rfl ?_
        refine v_bipush (v := 114) G dX8_name_84 rfl ?_
        refine v_iconst (v := 0) G dX8_name_86 rfl ?_
        refine v_iconst (v := 0) G dX8_name_87 rfl ?_
        refine v_iconst (v := 0) G dX8_name_88 rfl ?_
        refine v_iconst (v := 0) G dX8_name_89 rfl ?_
        refine w_callVi G hK hT (kX8_isWordS hK l dC dI ct ad σ F n b k t 2 3 121 101 97 114 0 0 0 0 hS (⟨(2, 3, [121, 101, 97, 114, 0, 0, 0, 0]), by decide +kernel, rfl, rfl, rfl⟩)) (ck_X8_199 G.2.2.2.2.1 ⟨Nat.le_of_ble_eq_true rfl, Nat.le_of_ble_eq_true rfl⟩) m_recv (fun _ h => h) rfl [] rfl (Nat.le_of_ble_eq_true rfl) dX8_name_90 ⟨Nat.le_of_ble_eq_true rfl, Nat.le_of_ble_eq_true rfl⟩ (k1 := 0) (n1 := 0) rfl rfl ?_
        rintro r90 σ90 (⟨rfl, rfl, h90_h⟩ | ⟨rfl, rfl, h90_h⟩)
        · refine v_if_eq (tgt := 101) G dX8_name_93 (by decide) (fun h93 => absurd h93 (by decide)) (fun h93 => ?_)
          refine v_aload_n G 0 dX8_name_96 rfl ?_
          refine m_get (v := .int (σ.1 15 0)) G 15 (by decide) rfl q1309 rfl dX8_name_97 ?_
          refine RET _ _ _ _ _ _ rfl (Nat.le_of_ble_eq_true rfl) (Nat.le_of_ble_eq_true rfl) dX8_name_100 (fun ws hw => ⟨_, hw, ?_⟩)
          clear RET G hT hnm
          obtain ⟨k1, k2⟩ := isTk_kd h90_h
          exact Or.inl ⟨by rw [k2]; rfl, rfl, k1⟩
        · refine v_if_eq (tgt := 101) G dX8_name_93 (by decide) (fun h93 => ?_) (fun h93 => absurd h93 (by decide))
          refine v_aload_n G 0 dX8_name_101 rfl ?_
          refine v_bipush (v := 109) G dX8_name_102 rfl ?_
          refine v_bipush (v := 111) G dX8_name_104 rfl ?_
          refine v_bipush (v := 111) G dX8_name_106 rfl ?_
          refine v_bipush (v := 100) G dX8_name_108 rfl ?_
          refine v_iconst (v := 0) G dX8_name_110 rfl ?_
          refine v_iconst (v := 0) G dX8_name_111 rfl ?_
          refine v_iconst (v := 0) G dX8_name_112 rfl ?_
          refine v_iconst (v := 0) G dX8_name_113 rfl ?_
          refine w_callVi G hK hT (kX8_isWordS hK l dC dI ct ad σ F n b k t 2 4 109 111 111 100 0 0 0 0 hS (⟨(2, 4, [109, 111, 111, 100, 0, 0, 0, 0]), by decide +kernel, rfl, rfl, rfl⟩)) (ck_X8_199 G.2.2.2.2.1 ⟨Nat.le_of_ble_eq_true rfl, Nat.le_of_ble_eq_true rfl⟩) m_recv (fun _ h => h) rfl [] rfl (Nat.le_of_ble_eq_true rfl) dX8_name_114 ⟨Nat.le_of_ble_eq_true rfl, Nat.le_of_ble_eq_true rfl⟩ (k1 := 0) (n1 := 0) rfl rfl ?_
          rintro r114 σ114 (⟨rfl, rfl, h114_h⟩ | ⟨rfl, rfl, h114_h⟩)
          · refine v_if_eq (tgt := 125) G dX8_name_117 (by decide) (fun h117 => absurd h117 (by decide)) (fun h117 => ?_)
            refine v_aload_n G 0 dX8_name_120 rfl ?_
            refine m_get (v := .int (σ.1 16 0)) G 16 (by decide) rfl q1310 rfl dX8_name_121 ?_
            refine RET _ _ _ _ _ _ rfl (Nat.le_of_ble_eq_true rfl) (Nat.le_of_ble_eq_true rfl) dX8_name_124 (fun ws hw => ⟨_, hw, ?_⟩)
            clear RET G hT hnm
            obtain ⟨k1, k2⟩ := isTk_kd h114_h
            exact Or.inl ⟨by rw [k2]; rfl, rfl, k1⟩
          · refine v_if_eq (tgt := 125) G dX8_name_117 (by decide) (fun h117 => ?_) (fun h117 => absurd h117 (by decide))
            refine v_aload_n G 0 dX8_name_125 rfl ?_
            refine v_bipush (v := 101) G dX8_name_126 rfl ?_
            refine v_bipush (v := 97) G dX8_name_128 rfl ?_
            refine v_bipush (v := 116) G dX8_name_130 rfl ?_
            refine v_bipush (v := 101) G dX8_name_132 rfl ?_
            refine v_bipush (v := 110) G dX8_name_134 rfl ?_
            refine v_iconst (v := 0) G dX8_name_136 rfl ?_
            refine v_iconst (v := 0) G dX8_name_137 rfl ?_
            refine v_iconst (v := 0) G dX8_name_138 rfl ?_
            refine w_callVi G hK hT (kX8_isWordS hK l dC dI ct ad σ F n b k t 2 5 101 97 116 101 110 0 0 0 hS (⟨(2, 5, [101, 97, 116, 101, 110, 0, 0, 0]), by decide +kernel, rfl, rfl, rfl⟩)) (ck_X8_199 G.2.2.2.2.1 ⟨Nat.le_of_ble_eq_true rfl, Nat.le_of_ble_eq_true rfl⟩) m_recv (fun _ h => h) rfl [] rfl (Nat.le_of_ble_eq_true rfl) dX8_name_139 ⟨Nat.le_of_ble_eq_true rfl, Nat.le_of_ble_eq_true rfl⟩ (k1 := 0) (n1 := 0) rfl rfl ?_
            rintro r139 σ139 (⟨rfl, rfl, h139_h⟩ | ⟨rfl, rfl, h139_h⟩)
            · refine v_if_eq (tgt := 150) G dX8_name_142 (by decide) (fun h142 => absurd h142 (by decide)) (fun h142 => ?_)
              refine v_aload_n G 0 dX8_name_145 rfl ?_
              refine m_get (v := .int (σ.1 17 0)) G 17 (by decide) rfl q1311 rfl dX8_name_146 ?_
              refine RET _ _ _ _ _ _ rfl (Nat.le_of_ble_eq_true rfl) (Nat.le_of_ble_eq_true rfl) dX8_name_149 (fun ws hw => ⟨_, hw, ?_⟩)
              clear RET G hT hnm
              obtain ⟨k1, k2⟩ := isTk_kd h139_h
              exact Or.inl ⟨by rw [k2]; rfl, rfl, k1⟩
            · refine v_if_eq (tgt := 150) G dX8_name_142 (by decide) (fun h142 => ?_) (fun h142 => absurd h142 (by decide))
              refine v_aload_n G 0 dX8_name_150 rfl ?_
              refine w_callVv G hK hT (kX8_failS hK l dC dI ct ad σ F n b k t hS) (ck_X8_193 G.2.2.2.2.1 ⟨Nat.le_of_ble_eq_true rfl, Nat.le_of_ble_eq_true rfl⟩) m_recv (fun _ h => h) rfl [] rfl (Nat.le_of_ble_eq_true rfl) dX8_name_151 ⟨Nat.le_of_ble_eq_true rfl, Nat.le_of_ble_eq_true rfl⟩ (k1 := 0) (n1 := 0) rfl rfl ?_
              rintro σ151 ⟨h151_s, h151_a, h151_b⟩
              refine v_iconst (v := 0) G dX8_name_154 rfl ?_
              refine RET _ _ _ _ _ _ rfl (Nat.le_of_ble_eq_true rfl) (Nat.le_of_ble_eq_true rfl) dX8_name_155 (fun ws hw => ⟨_, hw, ?_⟩)
              clear RET G hT hnm
              refine Or.inr ⟨rfl, h151_s, h151_a, h151_b, fun q => ?_⟩
              obtain ⟨i, hi, -, -, hq⟩ := tk_nm hS.2.1 q
              have hi : i = 0 ∨ i = 1 ∨ i = 2 ∨ i = 3 ∨ i = 4 ∨ i = 5 := by omega
              rcases hi with rfl | rfl | rfl | rfl | rfl | rfl
              · rw [show isTk t 2 (nI 0) = false from h17_h] at hq; cases hq
              · rw [show isTk t 2 (nI 1) = false from h40_h] at hq; cases hq
              · rw [show isTk t 2 (nI 2) = false from h66_h] at hq; cases hq
              · rw [show isTk t 2 (nI 3) = false from h90_h] at hq; cases hq
              · rw [show isTk t 2 (nI 4) = false from h114_h] at hq; cases hq
              · rw [show isTk t 2 (nI 5) = false from h139_h] at hq; cases hq
abbrev rmX8_atom5 : Room := { frames := 4, cells := 0, slots := 0, locals := 91 }
set_option maxHeartbeats 4000000 in
theorem kX8_atom5 {KT : (Nat → Prop) → State → Heap → Prop} (hK : KTok KT) (l : Launch) (dC : Nat → ClassId) (dI : Nat → Nat → Nat) (ct ad : Nat → Nat) (σ : MS) (F : Nat) (n : Nat) (b : Nat → Int32) (t : PS) (hS : ST F n b 5 t σ) : MC KT (dC, dI) vwCl (tysF ct) l yX8_atom5 cX8_atom5 2 (some .int) rmX8_atom5 [.ref (ad 43)] (RM ct ad σ) (QI_ (dC, dI) vwCl (RM ct ad) (fun (r : Int32) (σ' : MS) => ((p_atom b n (p_lev b n 0) t).1 (envS σ)) = r ∧ ST F n b 5 (p_atom b n (p_lev b n 0) t).2 σ' ∧ ag pfr σ σ')) := by
  refine MC.ofI (own := RX8) pl_X8 rfl (Nat.le_of_ble_eq_true rfl) ?_
  intro pp ee ss mm aa bb hh cc AA QQ G hT hnm RET
  refine v_loc (L' := [(0, .ref (ad 43))]) rfl ?_
  refine v_iconst (v := 0) G dX8_atom5_0 rfl ?_
  refine v_istore_n (L' := [(1, .int 0), (0, .ref (ad 43))]) G dX8_atom5_1 (by decide) rfl ?_
  refine v_aload_n G 1 dX8_atom5_2 rfl ?_
  refine v_bipush (v := 45) G dX8_atom5_3 rfl ?_
  refine w_callVi G hK hT (kX8_isSignS hK l dC dI ct ad σ F n b 5 t 45 hS) (ck_X8_221 G.2.2.2.2.1 ⟨Nat.le_of_ble_eq_true rfl, Nat.le_of_ble_eq_true rfl⟩) m_recv (fun _ h => h) rfl [] rfl (Nat.le_of_ble_eq_true rfl) dX8_atom5_5 ⟨Nat.le_of_ble_eq_true rfl, Nat.le_of_ble_eq_true rfl⟩ (k1 := 0) (n1 := 0) rfl rfl ?_
  rintro r5 σ5 (⟨rfl, rfl, h5_h⟩ | ⟨rfl, rfl, h5_h⟩)
  · refine v_if_eq (tgt := 19) G dX8_atom5_8 (by decide) (fun h8 => absurd h8 (by decide)) (fun h8 => ?_)
    refine v_aload_n G 1 dX8_atom5_11 rfl ?_
    refine w_callVi G hK hT (kX8_opens hK l dC dI ct ad σ F n b 5 t hS (kd_tk h5_h (by decide)) (by decide)) (ck_X8_224 G.2.2.2.2.1 ⟨Nat.le_of_ble_eq_true rfl, Nat.le_of_ble_eq_true rfl⟩) m_recv (fun _ h => h) rfl [] rfl (Nat.le_of_ble_eq_true rfl) dX8_atom5_12 ⟨Nat.le_of_ble_eq_true rfl, Nat.le_of_ble_eq_true rfl⟩ (k1 := 0) (n1 := 0) rfl rfl ?_
    rintro r12 σ12 (⟨rfl, h12_k, h12_s, h12_a⟩ | ⟨rfl, h12_k, h12_s, h12_a⟩)
    · exact False.elim (by exact absurd h12_k (by decide))
    · refine v_pop G dX8_atom5_15 rfl ?_
      refine v_goto (tgt := 102) G dX8_atom5_16 (by decide) ?_
      refine v_iload_n G 0 dX8_atom5_102 rfl ?_
      refine RET _ _ _ _ _ _ rfl (Nat.le_of_ble_eq_true rfl) (Nat.le_of_ble_eq_true rfl) dX8_atom5_103 (fun ws hw => ⟨_, hw, ?_⟩)
      clear RET G hT hnm
      rw [show p_atom b n (p_lev b n 0) t = _ from p_atom_m0 h5_h]
      exact ⟨rfl, h12_s, (ag_tr ag_rf h12_a)⟩
  · refine v_if_eq (tgt := 19) G dX8_atom5_8 (by decide) (fun h8 => ?_) (fun h8 => absurd h8 (by decide))
    refine v_aload_n G 1 dX8_atom5_19 rfl ?_
    refine v_bipush (v := 40) G dX8_atom5_20 rfl ?_
    refine w_callVi G hK hT (kX8_isSignS hK l dC dI ct ad σ F n b 5 t 40 hS) (ck_X8_221 G.2.2.2.2.1 ⟨Nat.le_of_ble_eq_true rfl, Nat.le_of_ble_eq_true rfl⟩) m_recv (fun _ h => h) rfl [] rfl (Nat.le_of_ble_eq_true rfl) dX8_atom5_22 ⟨Nat.le_of_ble_eq_true rfl, Nat.le_of_ble_eq_true rfl⟩ (k1 := 0) (n1 := 0) rfl rfl ?_
    rintro r22 σ22 (⟨rfl, rfl, h22_h⟩ | ⟨rfl, rfl, h22_h⟩)
    · refine v_if_eq (tgt := 36) G dX8_atom5_25 (by decide) (fun h25 => absurd h25 (by decide)) (fun h25 => ?_)
      refine v_aload_n G 1 dX8_atom5_28 rfl ?_
      refine w_callVi G hK hT (kX8_opens hK l dC dI ct ad σ F n b 5 t hS (kd_tk h22_h (by decide)) (by decide)) (ck_X8_224 G.2.2.2.2.1 ⟨Nat.le_of_ble_eq_true rfl, Nat.le_of_ble_eq_true rfl⟩) m_recv (fun _ h => h) rfl [] rfl (Nat.le_of_ble_eq_true rfl) dX8_atom5_29 ⟨Nat.le_of_ble_eq_true rfl, Nat.le_of_ble_eq_true rfl⟩ (k1 := 0) (n1 := 0) rfl rfl ?_
      rintro r29 σ29 (⟨rfl, h29_k, h29_s, h29_a⟩ | ⟨rfl, h29_k, h29_s, h29_a⟩)
      · exact False.elim (by exact absurd h29_k (by decide))
      · refine v_pop G dX8_atom5_32 rfl ?_
        refine v_goto (tgt := 102) G dX8_atom5_33 (by decide) ?_
        refine v_iload_n G 0 dX8_atom5_102 rfl ?_
        refine RET _ _ _ _ _ _ rfl (Nat.le_of_ble_eq_true rfl) (Nat.le_of_ble_eq_true rfl) dX8_atom5_103 (fun ws hw => ⟨_, hw, ?_⟩)
        clear RET G hT hnm
        rw [show p_atom b n (p_lev b n 0) t = _ from p_atom_o0 h5_h h22_h]
        exact ⟨rfl, h29_s, (ag_tr ag_rf h29_a)⟩
    · refine v_if_eq (tgt := 36) G dX8_atom5_25 (by decide) (fun h25 => ?_) (fun h25 => absurd h25 (by decide))
      refine v_aload_n G 1 dX8_atom5_36 rfl ?_
      refine m_get (v := .int (σ.1 25 0)) G 25 (by decide) rfl q1319 rfl dX8_atom5_37 ?_
      refine v_if_ne (tgt := 64) G dX8_atom5_40 (by decide) (fun h40 => ?_) (fun h40 => ?_)
      · refine v_aload_n G 1 dX8_atom5_64 rfl ?_
        refine m_get (v := .int (σ.1 25 0)) G 25 (by decide) rfl q1319 rfl dX8_atom5_65 ?_
        refine v_if_ne (tgt := 98) G dX8_atom5_68 (by decide) (fun h68 => ?_) (fun h68 => False.elim (by exact h40 h68))
        refine v_aload_n G 1 dX8_atom5_98 rfl ?_
        refine w_callVv G hK hT (kX8_failS hK l dC dI ct ad σ F n b 5 t hS) (ck_X8_193 G.2.2.2.2.1 ⟨Nat.le_of_ble_eq_true rfl, Nat.le_of_ble_eq_true rfl⟩) m_recv (fun _ h => h) rfl [] rfl (Nat.le_of_ble_eq_true rfl) dX8_atom5_99 ⟨Nat.le_of_ble_eq_true rfl, Nat.le_of_ble_eq_true rfl⟩ (k1 := 0) (n1 := 0) rfl rfl ?_
        rintro σ99 ⟨h99_s, h99_a, h99_b⟩
        refine v_iload_n G 0 dX8_atom5_102 rfl ?_
        refine RET _ _ _ _ _ _ rfl (Nat.le_of_ble_eq_true rfl) (Nat.le_of_ble_eq_true rfl) dX8_atom5_103 (fun ws hw => ⟨_, hw, ?_⟩)
        clear RET G hT hnm
        rw [show p_atom b n (p_lev b n 0) t = _ from p_atom_f h5_h h22_h (tk_nnum hS.2.1 (fun q => by first | exact h40 q.1 | exact h48 q.2)) (tk_nwd hS.2.1 (fun q => by first | exact h40 q.1 | exact h68 q.1 | exact h76 q.2)).1]
        exact ⟨rfl, h99_s, (ag_tr ag_rf h99_a)⟩
      · refine v_aload_n G 1 dX8_atom5_43 rfl ?_
        refine m_get (v := .int (σ.1 21 0)) G 21 (by decide) rfl q1315 rfl dX8_atom5_44 ?_
        refine v_iconst (v := 2) G dX8_atom5_47 rfl ?_
        refine v_icmp_ne (tgt := 64) G dX8_atom5_48 (by decide) (fun h48 => ?_) (fun h48 => ?_)
        · refine v_aload_n G 1 dX8_atom5_64 rfl ?_
          refine m_get (v := .int (σ.1 25 0)) G 25 (by decide) rfl q1319 rfl dX8_atom5_65 ?_
          refine v_if_ne (tgt := 98) G dX8_atom5_68 (by decide) (fun h68 => False.elim (by exact h68 h40)) (fun h68 => ?_)
          refine v_aload_n G 1 dX8_atom5_71 rfl ?_
          refine m_get (v := .int (σ.1 21 0)) G 21 (by decide) rfl q1315 rfl dX8_atom5_72 ?_
          refine v_iconst (v := 1) G dX8_atom5_75 rfl ?_
          refine v_icmp_ne (tgt := 98) G dX8_atom5_76 (by decide) (fun h76 => ?_) (fun h76 => ?_)
          · refine v_aload_n G 1 dX8_atom5_98 rfl ?_
            refine w_callVv G hK hT (kX8_failS hK l dC dI ct ad σ F n b 5 t hS) (ck_X8_193 G.2.2.2.2.1 ⟨Nat.le_of_ble_eq_true rfl, Nat.le_of_ble_eq_true rfl⟩) m_recv (fun _ h => h) rfl [] rfl (Nat.le_of_ble_eq_true rfl) dX8_atom5_99 ⟨Nat.le_of_ble_eq_true rfl, Nat.le_of_ble_eq_true rfl⟩ (k1 := 0) (n1 := 0) rfl rfl ?_
            rintro σ99 ⟨h99_s, h99_a, h99_b⟩
            refine v_iload_n G 0 dX8_atom5_102 rfl ?_
            refine RET _ _ _ _ _ _ rfl (Nat.le_of_ble_eq_true rfl) (Nat.le_of_ble_eq_true rfl) dX8_atom5_103 (fun ws hw => ⟨_, hw, ?_⟩)
            clear RET G hT hnm
            rw [show p_atom b n (p_lev b n 0) t = _ from p_atom_f h5_h h22_h (tk_nnum hS.2.1 (fun q => by first | exact h40 q.1 | exact h48 q.2)) (tk_nwd hS.2.1 (fun q => by first | exact h40 q.1 | exact h68 q.1 | exact h76 q.2)).1]
            exact ⟨rfl, h99_s, (ag_tr ag_rf h99_a)⟩
          · refine v_aload_n G 1 dX8_atom5_79 rfl ?_
            refine w_callVi G hK hT (kX8_name hK l dC dI ct ad σ F n b 5 t hS) (ck_X8_228 G.2.2.2.2.1 ⟨Nat.le_of_ble_eq_true rfl, Nat.le_of_ble_eq_true rfl⟩) m_recv (fun _ h => h) rfl [] rfl (Nat.le_of_ble_eq_true rfl) dX8_atom5_80 ⟨Nat.le_of_ble_eq_true rfl, Nat.le_of_ble_eq_true rfl⟩ (k1 := 0) (n1 := 0) rfl rfl ?_
            rintro r80 σ80 (⟨rfl, rfl, h80_h⟩ | ⟨rfl, h80_s, h80_a, h80_b, h80_h⟩)
            · refine v_topr (congrArg Value.int (show envS σ (n_ (vl t)) = envS σ (n_ (vl t)) by rw [envS_ag ag_rf])) ?_
              refine v_istore_n (L' := [(1, .int (envS σ (n_ (vl t)))), (0, .ref (ad 43))]) G dX8_atom5_83 (by decide) rfl ?_
              refine v_aload_n G 1 dX8_atom5_84 rfl ?_
              refine m_get (v := .int (σ.1 25 0)) G 25 (by decide) rfl q1319 rfl dX8_atom5_85 ?_
              refine v_if_ne (tgt := 102) G dX8_atom5_88 (by decide) (fun h88 => False.elim (by exact h88 (by assumption))) (fun h88 => ?_)
              refine v_aload_n G 1 dX8_atom5_91 rfl ?_
              refine w_callVv G hK hT (kX8_nextS hK l dC dI ct ad σ F n b 5 t hS (by rw [h80_h]; decide)) (ck_X8_196 G.2.2.2.2.1 ⟨Nat.le_of_ble_eq_true rfl, Nat.le_of_ble_eq_true rfl⟩) m_recv (fun _ h => h) rfl [] rfl (Nat.le_of_ble_eq_true rfl) dX8_atom5_92 ⟨Nat.le_of_ble_eq_true rfl, Nat.le_of_ble_eq_true rfl⟩ (k1 := 0) (n1 := 0) rfl rfl ?_
              rintro σ92 ⟨h92_s, h92_a, h92_b⟩
              refine v_goto (tgt := 102) G dX8_atom5_95 (by decide) ?_
              refine v_iload_n G 0 dX8_atom5_102 rfl ?_
              refine RET _ _ _ _ _ _ rfl (Nat.le_of_ble_eq_true rfl) (Nat.le_of_ble_eq_true rfl) dX8_atom5_103 (fun ws hw => ⟨_, hw, ?_⟩)
              clear RET G hT hnm
              rw [show p_atom b n (p_lev b n 0) t = _ from p_atom_2 h5_h h22_h h80_h]
              exact ⟨rfl, h92_s, (ag_tr ag_rf h92_a)⟩
            · refine v_istore_n (L' := [(1, .int 0), (0, .ref (ad 43))]) G dX8_atom5_83 (by decide) rfl ?_
              refine v_aload_n G 1 dX8_atom5_84 rfl ?_
              refine m_get (v := .int (σ80.1 25 0)) G 25 (by decide) rfl q1319 rfl dX8_atom5_85 ?_
              refine v_if_ne (tgt := 102) G dX8_atom5_88 (by decide) (fun h88 => ?_) (fun h88 => False.elim (by rw [h80_b] at h88; exact absurd h88 (by decide)))
              refine v_iload_n G 0 dX8_atom5_102 rfl ?_
              refine RET _ _ _ _ _ _ rfl (Nat.le_of_ble_eq_true rfl) (Nat.le_of_ble_eq_true rfl) dX8_atom5_103 (fun ws hw => ⟨_, hw, ?_⟩)
              clear RET G hT hnm
              rw [show p_atom b n (p_lev b n 0) t = _ from p_atom_f h5_h h22_h (tk_nnum hS.2.1 (fun q => by first | exact h40 q.1 | exact h48 q.2)) h80_h]
              exact ⟨rfl, h80_s, (ag_tr ag_rf h80_a)⟩
        · refine v_aload_n G 1 dX8_atom5_51 rfl ?_
          have hnum := tk_num hS.2.1 h40 h48
          refine m_get (v := .long (σ.2 23 0)) G 23 (by decide) rfl q1317 rfl dX8_atom5_52 ?_
          refine v_l2i (v := (σ.2 23 0).toInt32) G dX8_atom5_55 rfl ?_
          refine v_topr (x2 := .int (vl t)) (congrArg Value.int (show (σ.2 23 0).toInt32 = vl t by rw [hnum.2]; exact lg_l2i_i2l _)) ?_
          refine v_istore_n (L' := [(1, .int (vl t)), (0, .ref (ad 43))]) G dX8_atom5_56 (by decide) rfl ?_
          refine v_aload_n G 1 dX8_atom5_57 rfl ?_
          refine w_callVv G hK hT (kX8_nextS hK l dC dI ct ad σ F n b 5 t hS (by rw [hnum.1]; decide)) (ck_X8_196 G.2.2.2.2.1 ⟨Nat.le_of_ble_eq_true rfl, Nat.le_of_ble_eq_true rfl⟩) m_recv (fun _ h => h) rfl [] rfl (Nat.le_of_ble_eq_true rfl) dX8_atom5_58 ⟨Nat.le_of_ble_eq_true rfl, Nat.le_of_ble_eq_true rfl⟩ (k1 := 0) (n1 := 0) rfl rfl ?_
          rintro σ58 ⟨h58_s, h58_a, h58_b⟩
          refine v_goto (tgt := 102) G dX8_atom5_61 (by decide) ?_
          refine v_iload_n G 0 dX8_atom5_102 rfl ?_
          refine RET _ _ _ _ _ _ rfl (Nat.le_of_ble_eq_true rfl) (Nat.le_of_ble_eq_true rfl) dX8_atom5_103 (fun ws hw => ⟨_, hw, ?_⟩)
          clear RET G hT hnm
          rw [show p_atom b n (p_lev b n 0) t = _ from p_atom_3 h5_h h22_h hnum.1]
          exact ⟨rfl, h58_s, (ag_tr ag_rf h58_a)⟩
abbrev rmX8_term5 : Room := { frames := 5, cells := 0, slots := 0, locals := 112 }
set_option maxHeartbeats 4000000 in
theorem kX8_term5 {KT : (Nat → Prop) → State → Heap → Prop} (hK : KTok KT) (l : Launch) (dC : Nat → ClassId) (dI : Nat → Nat → Nat) (ct ad : Nat → Nat) (σ : MS) (F : Nat) (n : Nat) (b : Nat → Int32) (t : PS) (hS : ST F n b 5 t σ) : MC KT (dC, dI) vwCl (tysF ct) l yX8_term5 cX8_term5 2 (some .int) rmX8_term5 [.ref (ad 43)] (RM ct ad σ) (QI_ (dC, dI) vwCl (RM ct ad) (fun (r : Int32) (σ' : MS) => ((p_term b n (p_atom b n (p_lev b n 0)) t).1 (envS σ)) = r ∧ ST F n b 5 (p_term b n (p_atom b n (p_lev b n 0)) t).2 σ' ∧ ag pfr σ σ')) := by
  refine MC.ofI (own := RX8) pl_X8 rfl (Nat.le_of_ble_eq_true rfl) ?_
  intro pp ee ss mm aa bb hh cc AA QQ G hT hnm RET
  refine v_loc (L' := [(0, .ref (ad 43))]) rfl ?_
  refine v_aload_n G 0 dX8_term5_0 rfl ?_
  refine w_callVi G hK hT (kX8_atom5 hK l dC dI ct ad σ F n b t hS) (ck_X8_232 G.2.2.2.2.1 ⟨Nat.le_of_ble_eq_true rfl, Nat.le_of_ble_eq_true rfl⟩) m_recv (fun _ h => h) rfl [] rfl (Nat.le_of_ble_eq_true rfl) dX8_term5_1 ⟨Nat.le_of_ble_eq_true rfl, Nat.le_of_ble_eq_true rfl⟩ (k1 := 0) (n1 := 0) rfl rfl ?_
  rintro r1 σ1 ⟨rfl, h1_s, h1_a⟩
  refine v_topr (x2 := .int ((p_atom b n (p_lev b n 0) t).1 (envS σ))) (congrArg Value.int (congrArg (p_atom b n (p_lev b n 0) t).1 (envS_ag ag_rf))) ?_
  refine v_istore_n (L' := [(1, .int ((p_atom b n (p_lev b n 0) t).1 (envS σ))), (0, .ref (ad 43))]) G dX8_term5_4 (by decide) rfl ?_
  have loop5 : ∀ (dd : Nat) (f : Nat) (v : SF) (t1 : PS) (τ : MS), (ST F n b 5 t1 τ) → (ag pfr σ τ) → (mu n t1 < f) → (p_termL b n (p_atom b n (p_lev b n 0)) f v t1 = p_term b n (p_atom b n (p_lev b n 0)) t) → f < dd → V_ pp l ee rmX8_term5 ss mm aa bb hh cc 2 (dC, dI) vwCl AA QQ 0 0 (RM ct ad τ) 5 [(1, .int (v (envS σ))), (0, .ref (ad 43))] [] := by
    intro dd
    induction dd with
    | zero => intro f v t1 τ hs ha hm he hdd; exact absurd hdd (Nat.not_lt_zero _)
    | succ dd ih5 =>
      intro f v t1 τ hs ha hm he hdd
      obtain ⟨f, rfl⟩ : ∃ g, f = g + 1 := ⟨f - 1, by omega⟩
      refine v_aload_n G 1 dX8_term5_5 rfl ?_
      refine v_bipush (v := 42) G dX8_term5_6 rfl ?_
      refine w_callVi G hK hT (kX8_isSignS hK l dC dI ct ad τ F n b 5 t1 42 hs) (ck_X8_221 G.2.2.2.2.1 ⟨Nat.le_of_ble_eq_true rfl, Nat.le_of_ble_eq_true rfl⟩) m_recv (fun _ h => h) rfl [] rfl (Nat.le_of_ble_eq_true rfl) dX8_term5_8 ⟨Nat.le_of_ble_eq_true rfl, Nat.le_of_ble_eq_true rfl⟩ (k1 := 0) (n1 := 0) rfl rfl ?_
      rintro r8 σ8 (⟨rfl, rfl, h8_h⟩ | ⟨rfl, rfl, h8_h⟩)
      · refine v_if_eq (tgt := 28) G dX8_term5_11 (by decide) (fun h11 => absurd h11 (by decide)) (fun h11 => ?_)
        refine v_aload_n G 1 dX8_term5_14 rfl ?_
        refine w_callVv G hK hT (kX8_nextS hK l dC dI ct ad τ F n b 5 t1 hs (kd_tk h8_h (by decide))) (ck_X8_196 G.2.2.2.2.1 ⟨Nat.le_of_ble_eq_true rfl, Nat.le_of_ble_eq_true rfl⟩) m_recv (fun _ h => h) rfl [] rfl (Nat.le_of_ble_eq_true rfl) dX8_term5_15 ⟨Nat.le_of_ble_eq_true rfl, Nat.le_of_ble_eq_true rfl⟩ (k1 := 0) (n1 := 0) rfl rfl ?_
        rintro σ15 ⟨h15_s, h15_a, h15_b⟩
        refine v_iload_n G 0 dX8_term5_18 rfl ?_
        refine v_aload_n G 1 dX8_term5_19 rfl ?_
        refine w_callVi G hK hT (kX8_atom5 hK l dC dI ct ad σ15 F n b (nxS b n t1) h15_s) (ck_X8_232 G.2.2.2.2.1 ⟨Nat.le_of_ble_eq_true rfl, Nat.le_of_ble_eq_true rfl⟩) m_recv (fun _ h => h) rfl [.int (v (envS σ))] rfl (Nat.le_of_ble_eq_true rfl) dX8_term5_20 ⟨Nat.le_of_ble_eq_true rfl, Nat.le_of_ble_eq_true rfl⟩ (k1 := 0) (n1 := 0) rfl rfl ?_
        rintro r20 σ20 ⟨rfl, h20_s, h20_a⟩
        refine v_topr (x2 := .int ((p_atom b n (p_lev b n 0) (nxS b n t1)).1 (envS σ))) (congrArg Value.int (congrArg (p_atom b n (p_lev b n 0) (nxS b n t1)).1 (envS_ag (ag_tr ha h15_a)))) ?_
        refine v_imul G dX8_term5_23 ?_
        refine v_istore_n (L' := [(1, .int ((v (envS σ)) * ((p_atom b n (p_lev b n 0) (nxS b n t1)).1 (envS σ)))), (0, .ref (ad 43))]) G dX8_term5_24 (by decide) rfl ?_
        refine v_goto (tgt := 5) G dX8_term5_25 (by decide) ?_
        refine V_.sub (L' := [(1, .int ((v (envS σ)) * ((p_atom b n (p_lev b n 0) (nxS b n t1)).1 (envS σ)))), (0, .ref (ad 43))]) ?_ [0, 1] rfl
        refine v_loc (L' := [(1, .int ((fun e => v e * (p_atom b n (p_lev b n 0) (nxS b n t1)).1 e) (envS σ))), (0, .ref (ad 43))]) (rfl) ?_
        exact ih5  f (fun e => v e * (p_atom b n (p_lev b n 0) (nxS b n t1)).1 e) ((p_atom b n (p_lev b n 0) (nxS b n t1)).2) σ20 h20_s (ag_tr (ag_tr ha h15_a) h20_a) (mu_step (tk_wf hs.2.1) h8_h (by decide) (p_atom_ok (p_lev_ok 0)) hm) (by rw [← he, p_termL, if_pos h8_h]) (by omega)
      · refine v_if_eq (tgt := 28) G dX8_term5_11 (by decide) (fun h11 => ?_) (fun h11 => absurd h11 (by decide))
        refine v_iload_n G 0 dX8_term5_28 rfl ?_
        refine RET _ _ _ _ _ _ rfl (Nat.le_of_ble_eq_true rfl) (Nat.le_of_ble_eq_true rfl) dX8_term5_29 (fun ws hw => ⟨_, hw, ?_⟩)
        clear RET G hT hnm
        rw [show p_term b n (p_atom b n (p_lev b n 0)) t = (v, t1) by rw [← he, p_termL, if_neg (by rw [h8_h]; decide)]]
        exact ⟨rfl, hs, ha⟩
  refine V_.sub (L' := [(1, .int ((p_atom b n (p_lev b n 0) t).1 (envS σ))), (0, .ref (ad 43))]) ?_ [0, 1] rfl
  refine v_loc (L' := [(1, .int (((p_atom b n (p_lev b n 0) t).1) (envS σ))), (0, .ref (ad 43))]) (rfl) ?_
  exact loop5 _ (n + 2) ((p_atom b n (p_lev b n 0) t).1) ((p_atom b n (p_lev b n 0) t).2) σ1 h1_s h1_a (by have := mu_le (n := n) (s := (p_atom b n (p_lev b n 0) t).2); omega) rfl (Nat.lt_succ_self _)
abbrev rmX8_added5 : Room := { frames := 6, cells := 0, slots := 0, locals := 133 }
set_option maxHeartbeats 4000000 in
theorem kX8_added5 {KT : (Nat → Prop) → State → Heap → Prop} (hK : KTok KT) (l : Launch) (dC : Nat → ClassId) (dI : Nat → Nat → Nat) (ct ad : Nat → Nat) (σ : MS) (F : Nat) (n : Nat) (b : Nat → Int32) (t : PS) (hS : ST F n b 5 t σ) : MC KT (dC, dI) vwCl (tysF ct) l yX8_added5 cX8_added5 4 (some .int) rmX8_added5 [.ref (ad 43)] (RM ct ad σ) (QI_ (dC, dI) vwCl (RM ct ad) (fun (r : Int32) (σ' : MS) => ((p_add b n (p_term b n (p_atom b n (p_lev b n 0))) t).1 (envS σ)) = r ∧ ST F n b 5 (p_add b n (p_term b n (p_atom b n (p_lev b n 0))) t).2 σ' ∧ ag pfr σ σ')) := by
  refine MC.ofI (own := RX8) pl_X8 rfl (Nat.le_of_ble_eq_true rfl) ?_
  intro pp ee ss mm aa bb hh cc AA QQ G hT hnm RET
  refine v_loc (L' := [(0, .ref (ad 43))]) rfl ?_
  refine v_aload_n G 0 dX8_added5_0 rfl ?_
  refine w_callVi G hK hT (kX8_term5 hK l dC dI ct ad σ F n b t hS) (ck_X8_235 G.2.2.2.2.1 ⟨Nat.le_of_ble_eq_true rfl, Nat.le_of_ble_eq_true rfl⟩) m_recv (fun _ h => h) rfl [] rfl (Nat.le_of_ble_eq_true rfl) dX8_added5_1 ⟨Nat.le_of_ble_eq_true rfl, Nat.le_of_ble_eq_true rfl⟩ (k1 := 0) (n1 := 0) rfl rfl ?_
  rintro r1 σ1 ⟨rfl, h1_s, h1_a⟩
  refine v_topr (x2 := .int ((p_term b n (p_atom b n (p_lev b n 0)) t).1 (envS σ))) (congrArg Value.int (congrArg (p_term b n (p_atom b n (p_lev b n 0)) t).1 (envS_ag ag_rf))) ?_
  refine v_istore_n (L' := [(1, .int ((p_term b n (p_atom b n (p_lev b n 0)) t).1 (envS σ))), (0, .ref (ad 43))]) G dX8_added5_4 (by decide) rfl ?_
  have loop5 : ∀ (dd : Nat) (f : Nat) (v : SF) (t1 : PS) (τ : MS), (ST F n b 5 t1 τ) → (ag pfr σ τ) → (mu n t1 < f) → (p_addL b n (p_term b n (p_atom b n (p_lev b n 0))) f v t1 = p_add b n (p_term b n (p_atom b n (p_lev b n 0))) t) → f < dd → V_ pp l ee rmX8_added5 ss mm aa bb hh cc 4 (dC, dI) vwCl AA QQ 0 0 (RM ct ad τ) 5 [(1, .int (v (envS σ))), (0, .ref (ad 43))] [] := by
    intro dd
    induction dd with
    | zero => intro f v t1 τ hs ha hm he hdd; exact absurd hdd (Nat.not_lt_zero _)
    | succ dd ih5 =>
      intro f v t1 τ hs ha hm he hdd
      obtain ⟨f, rfl⟩ : ∃ g, f = g + 1 := ⟨f - 1, by omega⟩
      refine v_aload_n G 1 dX8_added5_5 rfl ?_
      refine v_bipush (v := 43) G dX8_added5_6 rfl ?_
      refine w_callVi G hK hT (kX8_isSignS hK l dC dI ct ad τ F n b 5 t1 43 hs) (ck_X8_221 G.2.2.2.2.1 ⟨Nat.le_of_ble_eq_true rfl, Nat.le_of_ble_eq_true rfl⟩) m_recv (fun _ h => h) rfl [] rfl (Nat.le_of_ble_eq_true rfl) dX8_added5_8 ⟨Nat.le_of_ble_eq_true rfl, Nat.le_of_ble_eq_true rfl⟩ (k1 := 0) (n1 := 0) rfl rfl ?_
      rintro r8 σ8 (⟨rfl, rfl, h8_h⟩ | ⟨rfl, rfl, h8_h⟩)
      · refine v_if_ne (tgt := 23) G dX8_added5_11 (by decide) (fun h11 => ?_) (fun h11 => absurd h11 (by decide))
        refine v_aload_n G 1 dX8_added5_23 rfl ?_
        refine m_get (v := .long (τ.2 23 0)) G 23 (by decide) rfl q1317 rfl dX8_added5_24 ?_
        refine v_ldc2 G q1558 dX8_added5_27 ?_
        refine v_lcmp G dX8_added5_30 ?_
        refine v_if_ne (tgt := 38) G dX8_added5_31 (by decide) (fun h31 => False.elim (by exact h31 ((le_of_lcmp _ _).1.mpr (tk_sgv hs.2.1 h8_h)))) (fun h31 => ?_)
        refine v_iconst (v := 1) G dX8_added5_34 rfl ?_
        refine v_goto (tgt := 39) G dX8_added5_35 (by decide) ?_
        refine v_istore_n (L' := [(2, .int 1), (1, .int (v (envS σ))), (0, .ref (ad 43))]) G dX8_added5_39 (by decide) rfl ?_
        refine v_aload_n G 2 dX8_added5_40 rfl ?_
        refine w_callVv G hK hT (kX8_nextS hK l dC dI ct ad τ F n b 5 t1 hs (kd_tk h8_h (by decide))) (ck_X8_196 G.2.2.2.2.1 ⟨Nat.le_of_ble_eq_true rfl, Nat.le_of_ble_eq_true rfl⟩) m_recv (fun _ h => h) rfl [] rfl (Nat.le_of_ble_eq_true rfl) dX8_added5_41 ⟨Nat.le_of_ble_eq_true rfl, Nat.le_of_ble_eq_true rfl⟩ (k1 := 0) (n1 := 0) rfl rfl ?_
        rintro σ41 ⟨h41_s, h41_a, h41_b⟩
        refine v_aload_n G 2 dX8_added5_44 rfl ?_
        refine w_callVi G hK hT (kX8_term5 hK l dC dI ct ad σ41 F n b (nxS b n t1) h41_s) (ck_X8_235 G.2.2.2.2.1 ⟨Nat.le_of_ble_eq_true rfl, Nat.le_of_ble_eq_true rfl⟩) m_recv (fun _ h => h) rfl [] rfl (Nat.le_of_ble_eq_true rfl) dX8_added5_45 ⟨Nat.le_of_ble_eq_true rfl, Nat.le_of_ble_eq_true rfl⟩ (k1 := 0) (n1 := 0) rfl rfl ?_
        rintro r45 σ45 ⟨rfl, h45_s, h45_a⟩
        refine v_topr (x2 := .int ((p_term b n (p_atom b n (p_lev b n 0)) (nxS b n t1)).1 (envS σ))) (congrArg Value.int (congrArg (p_term b n (p_atom b n (p_lev b n 0)) (nxS b n t1)).1 (envS_ag (ag_tr ha h41_a)))) ?_
        refine v_istore_n (L' := [(3, .int ((p_term b n (p_atom b n (p_lev b n 0)) (nxS b n t1)).1 (envS σ))), (2, .int 1), (1, .int (v (envS σ))), (0, .ref (ad 43))]) G dX8_added5_48 (by decide) rfl ?_
        refine v_iload_n G 1 dX8_added5_49 rfl ?_
        refine v_if_eq (tgt := 59) G dX8_added5_50 (by decide) (fun h50 => absurd h50 (by decide)) (fun h50 => ?_)
        refine v_iload_n G 2 dX8_added5_53 rfl ?_
        refine v_iload_n G 0 dX8_added5_54 rfl ?_
        refine v_iadd G dX8_added5_55 ?_
        refine v_goto (tgt := 62) G dX8_added5_56 (by decide) ?_
        refine v_istore_n (L' := [(1, .int ((v (envS σ)) + ((p_term b n (p_atom b n (p_lev b n 0)) (nxS b n t1)).1 (envS σ)))), (3, .int ((p_term b n (p_atom b n (p_lev b n 0)) (nxS b n t1)).1 (envS σ))), (2, .int 1), (0, .ref (ad 43))]) G dX8_added5_62 (by decide) rfl ?_
        refine v_goto (tgt := 5) G dX8_added5_63 (by decide) ?_
        refine V_.sub (L' := [(1, .int ((v (envS σ)) + ((p_term b n (p_atom b n (p_lev b n 0)) (nxS b n t1)).1 (envS σ)))), (0, .ref (ad 43))]) ?_ [0, 3] rfl
        refine v_loc (L' := [(1, .int ((fun e => v e + (p_term b n (p_atom b n (p_lev b n 0)) (nxS b n t1)).1 e) (envS σ))), (0, .ref (ad 43))]) (rfl) ?_
        exact ih5  f (fun e => v e + (p_term b n (p_atom b n (p_lev b n 0)) (nxS b n t1)).1 e) ((p_term b n (p_atom b n (p_lev b n 0)) (nxS b n t1)).2) σ45 h45_s (ag_tr (ag_tr ha h41_a) h45_a) (mu_step (tk_wf hs.2.1) h8_h (by decide) (p_term_ok (p_atom_ok (p_lev_ok 0))) hm) (by rw [← he, p_addL, if_pos h8_h]) (by omega)
      · refine v_if_ne (tgt := 23) G dX8_added5_11 (by decide) (fun h11 => absurd h11 (by decide)) (fun h11 => ?_)
        refine v_aload_n G 1 dX8_added5_14 rfl ?_
        refine v_bipush (v := 45) G dX8_added5_15 rfl ?_
        refine w_callVi G hK hT (kX8_isSignS hK l dC dI ct ad τ F n b 5 t1 45 hs) (ck_X8_221 G.2.2.2.2.1 ⟨Nat.le_of_ble_eq_true rfl, Nat.le_of_ble_eq_true rfl⟩) m_recv (fun _ h => h) rfl [] rfl (Nat.le_of_ble_eq_true rfl) dX8_added5_17 ⟨Nat.le_of_ble_eq_true rfl, Nat.le_of_ble_eq_true rfl⟩ (k1 := 0) (n1 := 0) rfl rfl ?_
        rintro r17 σ17 (⟨rfl, rfl, h17_h⟩ | ⟨rfl, rfl, h17_h⟩)
        · refine v_if_eq (tgt := 66) G dX8_added5_20 (by decide) (fun h20 => absurd h20 (by decide)) (fun h20 => ?_)
          refine v_aload_n G 1 dX8_added5_23 rfl ?_
          refine m_get (v := .long (τ.2 23 0)) G 23 (by decide) rfl q1317 rfl dX8_added5_24 ?_
          refine v_ldc2 G q1558 dX8_added5_27 ?_
          refine v_lcmp G dX8_added5_30 ?_
          refine v_if_ne (tgt := 38) G dX8_added5_31 (by decide) (fun h31 => ?_) (fun h31 => False.elim (by have hz := (le_of_lcmp _ _).1.mp h31; rw [tk_sgv hs.2.1 h17_h] at hz; exact absurd hz (by decide)))
          refine v_iconst (v := 0) G dX8_added5_38 rfl ?_
          refine v_istore_n (L' := [(2, .int 0), (1, .int (v (envS σ))), (0, .ref (ad 43))]) G dX8_added5_39 (by decide) rfl ?_
          refine v_aload_n G 2 dX8_added5_40 rfl ?_
          refine w_callVv G hK hT (kX8_nextS hK l dC dI ct ad τ F n b 5 t1 hs (kd_tk h17_h (by decide))) (ck_X8_196 G.2.2.2.2.1 ⟨Nat.le_of_ble_eq_true rfl, Nat.le_of_ble_eq_true rfl⟩) m_recv (fun _ h => h) rfl [] rfl (Nat.le_of_ble_eq_true rfl) dX8_added5_41 ⟨Nat.le_of_ble_eq_true rfl, Nat.le_of_ble_eq_true rfl⟩ (k1 := 0) (n1 := 0) rfl rfl ?_
          rintro σ41 ⟨h41_s, h41_a, h41_b⟩
          refine v_aload_n G 2 dX8_added5_44 rfl ?_
          refine w_callVi G hK hT (kX8_term5 hK l dC dI ct ad σ41 F n b (nxS b n t1) h41_s) (ck_X8_235 G.2.2.2.2.1 ⟨Nat.le_of_ble_eq_true rfl, Nat.le_of_ble_eq_true rfl⟩) m_recv (fun _ h => h) rfl [] rfl (Nat.le_of_ble_eq_true rfl) dX8_added5_45 ⟨Nat.le_of_ble_eq_true rfl, Nat.le_of_ble_eq_true rfl⟩ (k1 := 0) (n1 := 0) rfl rfl ?_
          rintro r45 σ45 ⟨rfl, h45_s, h45_a⟩
          refine v_topr (x2 := .int ((p_term b n (p_atom b n (p_lev b n 0)) (nxS b n t1)).1 (envS σ))) (congrArg Value.int (congrArg (p_term b n (p_atom b n (p_lev b n 0)) (nxS b n t1)).1 (envS_ag (ag_tr ha h41_a)))) ?_
          refine v_istore_n (L' := [(3, .int ((p_term b n (p_atom b n (p_lev b n 0)) (nxS b n t1)).1 (envS σ))), (2, .int 0), (1, .int (v (envS σ))), (0, .ref (ad 43))]) G dX8_added5_48 (by decide) rfl ?_
          refine v_iload_n G 1 dX8_added5_49 rfl ?_
          refine v_if_eq (tgt := 59) G dX8_added5_50 (by decide) (fun h50 => ?_) (fun h50 => absurd h50 (by decide))
          refine v_iload_n G 2 dX8_added5_59 rfl ?_
          refine v_iload_n G 0 dX8_added5_60 rfl ?_
          refine v_isub G dX8_added5_61 ?_
          refine v_istore_n (L' := [(1, .int ((v (envS σ)) - ((p_term b n (p_atom b n (p_lev b n 0)) (nxS b n t1)).1 (envS σ)))), (3, .int ((p_term b n (p_atom b n (p_lev b n 0)) (nxS b n t1)).1 (envS σ))), (2, .int 0), (0, .ref (ad 43))]) G dX8_added5_62 (by decide) rfl ?_
          refine v_goto (tgt := 5) G dX8_added5_63 (by decide) ?_
          refine V_.sub (L' := [(1, .int ((v (envS σ)) - ((p_term b n (p_atom b n (p_lev b n 0)) (nxS b n t1)).1 (envS σ)))), (0, .ref (ad 43))]) ?_ [0, 3] rfl
          refine v_loc (L' := [(1, .int ((fun e => v e - (p_term b n (p_atom b n (p_lev b n 0)) (nxS b n t1)).1 e) (envS σ))), (0, .ref (ad 43))]) (rfl) ?_
          exact ih5  f (fun e => v e - (p_term b n (p_atom b n (p_lev b n 0)) (nxS b n t1)).1 e) ((p_term b n (p_atom b n (p_lev b n 0)) (nxS b n t1)).2) σ45 h45_s (ag_tr (ag_tr ha h41_a) h45_a) (mu_step (tk_wf hs.2.1) h17_h (by decide) (p_term_ok (p_atom_ok (p_lev_ok 0))) hm) (by rw [← he, p_addL, if_neg (by rw [h8_h]; decide), if_pos h17_h]) (by omega)
        · refine v_if_eq (tgt := 66) G dX8_added5_20 (by decide) (fun h20 => ?_) (fun h20 => absurd h20 (by decide))
          refine v_iload_n G 0 dX8_added5_66 rfl ?_
          refine RET _ _ _ _ _ _ rfl (Nat.le_of_ble_eq_true rfl) (Nat.le_of_ble_eq_true rfl) dX8_added5_67 (fun ws hw => ⟨_, hw, ?_⟩)
          clear RET G hT hnm
          rw [show p_add b n (p_term b n (p_atom b n (p_lev b n 0))) t = (v, t1) by rw [← he, p_addL, if_neg (by rw [h8_h]; decide), if_neg (by rw [h17_h]; decide)]]
          exact ⟨rfl, hs, ha⟩
  refine V_.sub (L' := [(1, .int ((p_term b n (p_atom b n (p_lev b n 0)) t).1 (envS σ))), (0, .ref (ad 43))]) ?_ [0, 1] rfl
  refine v_loc (L' := [(1, .int (((p_term b n (p_atom b n (p_lev b n 0)) t).1) (envS σ))), (0, .ref (ad 43))]) (rfl) ?_
  exact loop5 _ (n + 2) ((p_term b n (p_atom b n (p_lev b n 0)) t).1) ((p_term b n (p_atom b n (p_lev b n 0)) t).2) σ1 h1_s h1_a (by have := mu_le (n := n) (s := (p_term b n (p_atom b n (p_lev b n 0)) t).2); omega) rfl (Nat.lt_succ_self _)
abbrev rmX8_not5 : Room := { frames := 7, cells := 0, slots := 0, locals := 156 }
set_option maxHeartbeats 4000000 in
theorem kX8_not5 {KT : (Nat → Prop) → State → Heap → Prop} (hK : KTok KT) (l : Launch) (dC : Nat → ClassId) (dI : Nat → Nat → Nat) (ct ad : Nat → Nat) (σ : MS) (F : Nat) (n : Nat) (b : Nat → Int32) (t : PS) (hS : ST F n b 5 t σ) : MC KT (dC, dI) vwCl (tysF ct) l yX8_not5 cX8_not5 4 (some .int) rmX8_not5 [.ref (ad 43)] (RM ct ad σ) (QI_ (dC, dI) vwCl (RM ct ad) (fun (r : Int32) (σ' : MS) => ((p_not b n (p_lev b n 0) (p_add b n (p_term b n (p_atom b n (p_lev b n 0)))) t).1 (envS σ)) = r ∧ ST F n b 5 (p_not b n (p_lev b n 0) (p_add b n (p_term b n (p_atom b n (p_lev b n 0)))) t).2 σ' ∧ ag pfr σ σ')) := by
  refine MC.ofI (own := RX8) pl_X8 rfl (Nat.le_of_ble_eq_true rfl) ?_
  intro pp ee ss mm aa bb hh cc AA QQ G hT hnm RET
  refine v_loc (L' := [(0, .ref (ad 43))]) rfl ?_
  refine v_aload_n G 0 dX8_not5_0 rfl ?_
  refine v_bipush (v := 110) G dX8_not5_1 rfl ?_
  refine v_bipush (v := 111) G dX8_not5_3 rfl ?_
  refine v_bipush (v := 116) G dX8_not5_5 rfl ?_
  refine v_iconst (v := 0) G dX8_not5_7 rfl ?_
  refine v_iconst (v := 0) G dX8_not5_8 rfl ?_
  refine v_iconst (v := 0) G dX8_not5_9 rfl ?_
  refine v_iconst (v := 0) G dX8_not5_10 rfl ?_
  refine v_iconst (v := 0) G dX8_not5_11 rfl ?_
  refine w_callVi G hK hT (kX8_isWordS hK l dC dI ct ad σ F n b 5 t 1 5 110 111 116 0 0 0 0 0 hS (⟨(1, 5, [110, 111, 116, 0, 0, 0, 0, 0]), by decide +kernel, rfl, rfl, rfl⟩)) (ck_X8_199 G.2.2.2.2.1 ⟨Nat.le_of_ble_eq_true rfl, Nat.le_of_ble_eq_true rfl⟩) m_recv (fun _ h => h) rfl [] rfl (Nat.le_of_ble_eq_true rfl) dX8_not5_12 ⟨Nat.le_of_ble_eq_true rfl, Nat.le_of_ble_eq_true rfl⟩ (k1 := 0) (n1 := 0) rfl rfl ?_
  rintro r12 σ12 (⟨rfl, rfl, h12_h⟩ | ⟨rfl, rfl, h12_h⟩)
  · refine v_if_eq (tgt := 25) G dX8_not5_15 (by decide) (fun h15 => absurd h15 (by decide)) (fun h15 => ?_)
    refine v_aload_n G 0 dX8_not5_18 rfl ?_
    refine w_callVi G hK hT (kX8_opens hK l dC dI ct ad σ F n b 5 t hS (kd_tk h12_h (by decide)) (by decide)) (ck_X8_224 G.2.2.2.2.1 ⟨Nat.le_of_ble_eq_true rfl, Nat.le_of_ble_eq_true rfl⟩) m_recv (fun _ h => h) rfl [] rfl (Nat.le_of_ble_eq_true rfl) dX8_not5_19 ⟨Nat.le_of_ble_eq_true rfl, Nat.le_of_ble_eq_true rfl⟩ (k1 := 0) (n1 := 0) rfl rfl ?_
    rintro r19 σ19 (⟨rfl, h19_k, h19_s, h19_a⟩ | ⟨rfl, h19_k, h19_s, h19_a⟩)
    · exact False.elim (by exact absurd h19_k (by decide))
    · refine v_pop G dX8_not5_22 rfl ?_
      refine v_iconst (v := 0) G dX8_not5_23 rfl ?_
      refine RET _ _ _ _ _ _ rfl (Nat.le_of_ble_eq_true rfl) (Nat.le_of_ble_eq_true rfl) dX8_not5_24 (fun ws hw => ⟨_, hw, ?_⟩)
      clear RET G hT hnm
      rw [show p_not b n (p_lev b n 0) (p_add b n (p_term b n (p_atom b n (p_lev b n 0)))) t = _ from p_not_0 h12_h]
      exact ⟨rfl, h19_s, (ag_tr ag_rf h19_a)⟩
  · refine v_if_eq (tgt := 25) G dX8_not5_15 (by decide) (fun h15 => ?_) (fun h15 => absurd h15 (by decide))
    refine v_aload_n G 0 dX8_not5_25 rfl ?_
    refine w_callVi G hK hT (kX8_added5 hK l dC dI ct ad σ F n b t hS) (ck_X8_240 G.2.2.2.2.1 ⟨Nat.le_of_ble_eq_true rfl, Nat.le_of_ble_eq_true rfl⟩) m_recv (fun _ h => h) rfl [] rfl (Nat.le_of_ble_eq_true rfl) dX8_not5_26 ⟨Nat.le_of_ble_eq_true rfl, Nat.le_of_ble_eq_true rfl⟩ (k1 := 0) (n1 := 0) rfl rfl ?_
    rintro r26 σ26 ⟨rfl, h26_s, h26_a⟩
    refine v_topr (x2 := .int ((p_add b n (p_term b n (p_atom b n (p_lev b n 0))) t).1 (envS σ))) (congrArg Value.int (congrArg (p_add b n (p_term b n (p_atom b n (p_lev b n 0))) t).1 (envS_ag ag_rf))) ?_
    refine v_istore_n (L' := [(1, .int ((p_add b n (p_term b n (p_atom b n (p_lev b n 0))) t).1 (envS σ))), (0, .ref (ad 43))]) G dX8_not5_29 (by decide) rfl ?_
    refine v_aload_n G 1 dX8_not5_30 rfl ?_
    refine v_bipush (v := 60) G dX8_not5_31 rfl ?_
    refine w_callVi G hK hT (kX8_isSignS hK l dC dI ct ad σ26 F n b 5 ((p_add b n (p_term b n (p_atom b n (p_lev b n 0))) t).2) 60 h26_s) (ck_X8_221 G.2.2.2.2.1 ⟨Nat.le_of_ble_eq_true rfl, Nat.le_of_ble_eq_true rfl⟩) m_recv (fun _ h => h) rfl [] rfl (Nat.le_of_ble_eq_true rfl) dX8_not5_33 ⟨Nat.le_of_ble_eq_true rfl, Nat.le_of_ble_eq_true rfl⟩ (k1 := 0) (n1 := 0) rfl rfl ?_
    rintro r33 σ33 (⟨rfl, rfl, h33_h⟩ | ⟨rfl, rfl, h33_h⟩)
    · refine v_if_ne (tgt := 50) G dX8_not5_36 (by decide) (fun h36 => ?_) (fun h36 => absurd h36 (by decide))
      refine v_aload_n G 1 dX8_not5_50 rfl ?_
      refine m_get (v := .long (σ26.2 23 0)) G 23 (by decide) rfl q1317 rfl dX8_not5_51 ?_
      refine v_ldc2 G q1559 dX8_not5_54 ?_
      refine v_lcmp G dX8_not5_57 ?_
      refine v_if_ne (tgt := 65) G dX8_not5_58 (by decide) (fun h58 => False.elim (by exact h58 ((le_of_lcmp _ _).1.mpr (tk_sgv h26_s.2.1 h33_h)))) (fun h58 => ?_)
      refine v_iconst (v := 1) G dX8_not5_61 rfl ?_
      refine v_goto (tgt := 66) G dX8_not5_62 (by decide) ?_
      refine v_istore_n (L' := [(2, .int 1), (1, .int ((p_add b n (p_term b n (p_atom b n (p_lev b n 0))) t).1 (envS σ))), (0, .ref (ad 43))]) G dX8_not5_66 (by decide) rfl ?_
      refine v_aload_n G 2 dX8_not5_67 rfl ?_
      refine w_callVv G hK hT (kX8_nextS hK l dC dI ct ad σ26 F n b 5 ((p_add b n (p_term b n (p_atom b n (p_lev b n 0))) t).2) h26_s (kd_tk h33_h (by decide))) (ck_X8_196 G.2.2.2.2.1 ⟨Nat.le_of_ble_eq_true rfl, Nat.le_of_ble_eq_true rfl⟩) m_recv (fun _ h => h) rfl [] rfl (Nat.le_of_ble_eq_true rfl) dX8_not5_68 ⟨Nat.le_of_ble_eq_true rfl, Nat.le_of_ble_eq_true rfl⟩ (k1 := 0) (n1 := 0) rfl rfl ?_
      rintro σ68 ⟨h68_s, h68_a, h68_b⟩
      refine v_aload_n G 2 dX8_not5_71 rfl ?_
      refine w_callVi G hK hT (kX8_added5 hK l dC dI ct ad σ68 F n b (nxS b n (p_add b n (p_term b n (p_atom b n (p_lev b n 0))) t).2) h68_s) (ck_X8_240 G.2.2.2.2.1 ⟨Nat.le_of_ble_eq_true rfl, Nat.le_of_ble_eq_true rfl⟩) m_recv (fun _ h => h) rfl [] rfl (Nat.le_of_ble_eq_true rfl) dX8_not5_72 ⟨Nat.le_of_ble_eq_true rfl, Nat.le_of_ble_eq_true rfl⟩ (k1 := 0) (n1 := 0) rfl rfl ?_
      rintro r72 σ72 ⟨rfl, h72_s, h72_a⟩
      refine v_topr (x2 := .int ((p_add b n (p_term b n (p_atom b n (p_lev b n 0))) (nxS b n (p_add b n (p_term b n (p_atom b n (p_lev b n 0))) t).2)).1 (envS σ))) (congrArg Value.int (congrArg (p_add b n (p_term b n (p_atom b n (p_lev b n 0))) (nxS b n (p_add b n (p_term b n (p_atom b n (p_lev b n 0))) t).2)).1 (envS_ag (ag_tr (ag_tr ag_rf h26_a) h68_a)))) ?_
      refine v_istore_n (L' := [(3, .int ((p_add b n (p_term b n (p_atom b n (p_lev b n 0))) (nxS b n (p_add b n (p_term b n (p_atom b n (p_lev b n 0))) t).2)).1 (envS σ))), (2, .int 1), (1, .int ((p_add b n (p_term b n (p_atom b n (p_lev b n 0))) t).1 (envS σ))), (0, .ref (ad 43))]) G dX8_not5_75 (by decide) rfl ?_
      refine v_iload_n G 1 dX8_not5_76 rfl ?_
      refine v_if_eq (tgt := 88) G dX8_not5_77 (by decide) (fun h77 => absurd h77 (by decide)) (fun h77 => ?_)
      refine v_iload_n G 2 dX8_not5_80 rfl ?_
      refine v_iload_n G 0 dX8_not5_81 rfl ?_
      refine v_icmp_ge (tgt := 97) G dX8_not5_82 (by decide) (fun h82 => ?_) (fun h82 => ?_)
      · refine v_iconst (v := 0) G dX8_not5_97 rfl ?_
        refine RET _ _ _ _ _ _ rfl (Nat.le_of_ble_eq_true rfl) (Nat.le_of_ble_eq_true rfl) dX8_not5_98 (fun ws hw => ⟨_, hw, ?_⟩)
        clear RET G hT hnm
        rw [show p_not b n (p_lev b n 0) (p_add b n (p_term b n (p_atom b n (p_lev b n 0)))) t = _ from p_not_l h12_h h33_h]
        exact ⟨(by first | exact if_pos (by first | assumption | exact Int32.not_le.mp h82) | exact if_neg (by first | assumption | exact Int32.not_lt.mpr h82)), h72_s, (ag_tr (ag_tr (ag_tr ag_rf h26_a) h68_a) h72_a)⟩
      · refine v_goto (tgt := 93) G dX8_not5_85 (by decide) ?_
        refine v_iconst (v := 1) G dX8_not5_93 rfl ?_
        refine v_goto (tgt := 98) G dX8_not5_94 (by decide) ?_
        refine RET _ _ _ _ _ _ rfl (Nat.le_of_ble_eq_true rfl) (Nat.le_of_ble_eq_true rfl) dX8_not5_98 (fun ws hw => ⟨_, hw, ?_⟩)
        clear RET G hT hnm
        rw [show p_not b n (p_lev b n 0) (p_add b n (p_term b n (p_atom b n (p_lev b n 0)))) t = _ from p_not_l h12_h h33_h]
        exact ⟨(by first | exact if_pos (by first | assumption | exact Int32.not_le.mp h82) | exact if_neg (by first | assumption | exact Int32.not_lt.mpr h82)), h72_s, (ag_tr (ag_tr (ag_tr ag_rf h26_a) h68_a) h72_a)⟩
    · refine v_if_ne (tgt := 50) G dX8_not5_36 (by decide) (fun h36 => absurd h36 (by decide)) (fun h36 => ?_)
      refine v_aload_n G 1 dX8_not5_39 rfl ?_
      refine v_bipush (v := 61) G dX8_not5_40 rfl ?_
      refine w_callVi G hK hT (kX8_isSignS hK l dC dI ct ad σ26 F n b 5 ((p_add b n (p_term b n (p_atom b n (p_lev b n 0))) t).2) 61 h26_s) (ck_X8_221 G.2.2.2.2.1 ⟨Nat.le_of_ble_eq_true rfl, Nat.le_of_ble_eq_true rfl⟩) m_recv (fun _ h => h) rfl [] rfl (Nat.le_of_ble_eq_true rfl) dX8_not5_42 ⟨Nat.le_of_ble_eq_true rfl, Nat.le_of_ble_eq_true rfl⟩ (k1 := 0) (n1 := 0) rfl rfl ?_
      rintro r42 σ42 (⟨rfl, rfl, h42_h⟩ | ⟨rfl, rfl, h42_h⟩)
      · refine v_if_ne (tgt := 50) G dX8_not5_45 (by decide) (fun h45 => ?_) (fun h45 => absurd h45 (by decide))
        refine v_aload_n G 1 dX8_not5_50 rfl ?_
        refine m_get (v := .long (σ26.2 23 0)) G 23 (by decide) rfl q1317 rfl dX8_not5_51 ?_
        refine v_ldc2 G q1559 dX8_not5_54 ?_
        refine v_lcmp G dX8_not5_57 ?_
        refine v_if_ne (tgt := 65) G dX8_not5_58 (by decide) (fun h58 => ?_) (fun h58 => False.elim (by have hz := (le_of_lcmp _ _).1.mp h58; rw [tk_sgv h26_s.2.1 h42_h] at hz; exact absurd hz (by decide)))
        refine v_iconst (v := 0) G dX8_not5_65 rfl ?_
        refine v_istore_n (L' := [(2, .int 0), (1, .int ((p_add b n (p_term b n (p_atom b n (p_lev b n 0))) t).1 (envS σ))), (0, .ref (ad 43))]) G dX8_not5_66 (by decide) rfl ?_
        refine v_aload_n G 2 dX8_not5_67 rfl ?_
        refine w_callVv G hK hT (kX8_nextS hK l dC dI ct ad σ26 F n b 5 ((p_add b n (p_term b n (p_atom b n (p_lev b n 0))) t).2) h26_s (kd_tk h42_h (by decide))) (ck_X8_196 G.2.2.2.2.1 ⟨Nat.le_of_ble_eq_true rfl, Nat.le_of_ble_eq_true rfl⟩) m_recv (fun _ h => h) rfl [] rfl (Nat.le_of_ble_eq_true rfl) dX8_not5_68 ⟨Nat.le_of_ble_eq_true rfl, Nat.le_of_ble_eq_true rfl⟩ (k1 := 0) (n1 := 0) rfl rfl ?_
        rintro σ68 ⟨h68_s, h68_a, h68_b⟩
        refine v_aload_n G 2 dX8_not5_71 rfl ?_
        refine w_callVi G hK hT (kX8_added5 hK l dC dI ct ad σ68 F n b (nxS b n (p_add b n (p_term b n (p_atom b n (p_lev b n 0))) t).2) h68_s) (ck_X8_240 G.2.2.2.2.1 ⟨Nat.le_of_ble_eq_true rfl, Nat.le_of_ble_eq_true rfl⟩) m_recv (fun _ h => h) rfl [] rfl (Nat.le_of_ble_eq_true rfl) dX8_not5_72 ⟨Nat.le_of_ble_eq_true rfl, Nat.le_of_ble_eq_true rfl⟩ (k1 := 0) (n1 := 0) rfl rfl ?_
        rintro r72 σ72 ⟨rfl, h72_s, h72_a⟩
        refine v_topr (x2 := .int ((p_add b n (p_term b n (p_atom b n (p_lev b n 0))) (nxS b n (p_add b n (p_term b n (p_atom b n (p_lev b n 0))) t).2)).1 (envS σ))) (congrArg Value.int (congrArg (p_add b n (p_term b n (p_atom b n (p_lev b n 0))) (nxS b n (p_add b n (p_term b n (p_atom b n (p_lev b n 0))) t).2)).1 (envS_ag (ag_tr (ag_tr ag_rf h26_a) h68_a)))) ?_
        refine v_istore_n (L' := [(3, .int ((p_add b n (p_term b n (p_atom b n (p_lev b n 0))) (nxS b n (p_add b n (p_term b n (p_atom b n (p_lev b n 0))) t).2)).1 (envS σ))), (2, .int 0), (1, .int ((p_add b n (p_term b n (p_atom b n (p_lev b n 0))) t).1 (envS σ))), (0, .ref (ad 43))]) G dX8_not5_75 (by decide) rfl ?_
        refine v_iload_n G 1 dX8_not5_76 rfl ?_
        refine v_if_eq (tgt := 88) G dX8_not5_77 (by decide) (fun h77 => ?_) (fun h77 => absurd h77 (by decide))
        refine v_iload_n G 2 dX8_not5_88 rfl ?_
        refine v_iload_n G 0 dX8_not5_89 rfl ?_
        refine v_icmp_ne (tgt := 97) G dX8_not5_90 (by decide) (fun h90 => ?_) (fun h90 => ?_)
        · refine v_iconst (v := 0) G dX8_not5_97 rfl ?_
          refine RET _ _ _ _ _ _ rfl (Nat.le_of_ble_eq_true rfl) (Nat.le_of_ble_eq_true rfl) dX8_not5_98 (fun ws hw => ⟨_, hw, ?_⟩)
          clear RET G hT hnm
          rw [show p_not b n (p_lev b n 0) (p_add b n (p_term b n (p_atom b n (p_lev b n 0)))) t = _ from p_not_e h12_h h33_h h42_h]
          exact ⟨(by first | exact if_pos h90 | exact if_neg h90), h72_s, (ag_tr (ag_tr (ag_tr ag_rf h26_a) h68_a) h72_a)⟩
        · refine v_iconst (v := 1) G dX8_not5_93 rfl ?_
          refine v_goto (tgt := 98) G dX8_not5_94 (by decide) ?_
          refine RET _ _ _ _ _ _ rfl (Nat.le_of_ble_eq_true rfl) (Nat.le_of_ble_eq_true rfl) dX8_not5_98 (fun ws hw => ⟨_, hw, ?_⟩)
          clear RET G hT hnm
          rw [show p_not b n (p_lev b n 0) (p_add b n (p_term b n (p_atom b n (p_lev b n 0)))) t = _ from p_not_e h12_h h33_h h42_h]
          exact ⟨(by first | exact if_pos h90 | exact if_neg h90), h72_s, (ag_tr (ag_tr (ag_tr ag_rf h26_a) h68_a) h72_a)⟩
      · refine v_if_ne (tgt := 50) G dX8_not5_45 (by decide) (fun h45 => absurd h45 (by decide)) (fun h45 => ?_)
        refine v_iload_n G 0 dX8_not5_48 rfl ?_
        refine RET _ _ _ _ _ _ rfl (Nat.le_of_ble_eq_true rfl) (Nat.le_of_ble_eq_true rfl) dX8_not5_49 (fun ws hw => ⟨_, hw, ?_⟩)
        clear RET G hT hnm
        rw [show p_not b n (p_lev b n 0) (p_add b n (p_term b n (p_atom b n (p_lev b n 0)))) t = _ from p_not_x h12_h h33_h h42_h]
        exact ⟨rfl, h26_s, (ag_tr ag_rf h26_a)⟩
abbrev rmX8_both5 : Room := { frames := 8, cells := 0, slots := 0, locals := 179 }
set_option maxHeartbeats 4000000 in
theorem kX8_both5 {KT : (Nat → Prop) → State → Heap → Prop} (hK : KTok KT) (l : Launch) (dC : Nat → ClassId) (dI : Nat → Nat → Nat) (ct ad : Nat → Nat) (σ : MS) (F : Nat) (n : Nat) (b : Nat → Int32) (t : PS) (hS : ST F n b 5 t σ) : MC KT (dC, dI) vwCl (tysF ct) l yX8_both5 cX8_both5 3 (some .int) rmX8_both5 [.ref (ad 43)] (RM ct ad σ) (QI_ (dC, dI) vwCl (RM ct ad) (fun (r : Int32) (σ' : MS) => ((p_both b n (p_not b n (p_lev b n 0) (p_add b n (p_term b n (p_atom b n (p_lev b n 0))))) t).1 (envS σ)) = r ∧ ST F n b 5 (p_both b n (p_not b n (p_lev b n 0) (p_add b n (p_term b n (p_atom b n (p_lev b n 0))))) t).2 σ' ∧ ag pfr σ σ')) := by
  refine MC.ofI (own := RX8) pl_X8 rfl (Nat.le_of_ble_eq_true rfl) ?_
  intro pp ee ss mm aa bb hh cc AA QQ G hT hnm RET
  refine v_loc (L' := [(0, .ref (ad 43))]) rfl ?_
  refine v_aload_n G 0 dX8_both5_0 rfl ?_
  refine w_callVi G hK hT (kX8_not5 hK l dC dI ct ad σ F n b t hS) (ck_X8_245 G.2.2.2.2.1 ⟨Nat.le_of_ble_eq_true rfl, Nat.le_of_ble_eq_true rfl⟩) m_recv (fun _ h => h) rfl [] rfl (Nat.le_of_ble_eq_true rfl) dX8_both5_1 ⟨Nat.le_of_ble_eq_true rfl, Nat.le_of_ble_eq_true rfl⟩ (k1 := 0) (n1 := 0) rfl rfl ?_
  rintro r1 σ1 ⟨rfl, h1_s, h1_a⟩
  refine v_topr (x2 := .int ((p_not b n (p_lev b n 0) (p_add b n (p_term b n (p_atom b n (p_lev b n 0)))) t).1 (envS σ))) (congrArg Value.int (congrArg (p_not b n (p_lev b n 0) (p_add b n (p_term b n (p_atom b n (p_lev b n 0)))) t).1 (envS_ag ag_rf))) ?_
  refine v_istore_n (L' := [(1, .int ((p_not b n (p_lev b n 0) (p_add b n (p_term b n (p_atom b n (p_lev b n 0)))) t).1 (envS σ))), (0, .ref (ad 43))]) G dX8_both5_4 (by decide) rfl ?_
  have loop5 : ∀ (dd : Nat) (f : Nat) (v : SF) (t1 : PS) (τ : MS), (ST F n b 5 t1 τ) → (ag pfr σ τ) → (mu n t1 < f) → (p_bothL b n (p_not b n (p_lev b n 0) (p_add b n (p_term b n (p_atom b n (p_lev b n 0))))) f v t1 = p_both b n (p_not b n (p_lev b n 0) (p_add b n (p_term b n (p_atom b n (p_lev b n 0))))) t) → f < dd → V_ pp l ee rmX8_both5 ss mm aa bb hh cc 3 (dC, dI) vwCl AA QQ 0 0 (RM ct ad τ) 5 [(1, .int (v (envS σ))), (0, .ref (ad 43))] [] := by
    intro dd
    induction dd with
    | zero => intro f v t1 τ hs ha hm he hdd; exact absurd hdd (Nat.not_lt_zero _)
    | succ dd ih5 =>
      intro f v t1 τ hs ha hm he hdd
      obtain ⟨f, rfl⟩ : ∃ g, f = g + 1 := ⟨f - 1, by omega⟩
      refine v_aload_n G 1 dX8_both5_5 rfl ?_
      refine v_bipush (v := 97) G dX8_both5_6 rfl ?_
      refine v_bipush (v := 110) G dX8_both5_8 rfl ?_
      refine v_bipush (v := 100) G dX8_both5_10 rfl ?_
      refine v_iconst (v := 0) G dX8_both5_12 rfl ?_
      refine v_iconst (v := 0) G dX8_both5_13 rfl ?_
      refine v_iconst (v := 0) G dX8_both5_14 rfl ?_
      refine v_iconst (v := 0) G dX8_both5_15 rfl ?_
      refine v_iconst (v := 0) G dX8_both5_16 rfl ?_
      refine w_callVi G hK hT (kX8_isWordS hK l dC dI ct ad τ F n b 5 t1 1 4 97 110 100 0 0 0 0 0 hs (⟨(1, 4, [97, 110, 100, 0, 0, 0, 0, 0]), by decide +kernel, rfl, rfl, rfl⟩)) (ck_X8_199 G.2.2.2.2.1 ⟨Nat.le_of_ble_eq_true rfl, Nat.le_of_ble_eq_true rfl⟩) m_recv (fun _ h => h) rfl [] rfl (Nat.le_of_ble_eq_true rfl) dX8_both5_17 ⟨Nat.le_of_ble_eq_true rfl, Nat.le_of_ble_eq_true rfl⟩ (k1 := 0) (n1 := 0) rfl rfl ?_
      rintro r17 σ17 (⟨rfl, rfl, h17_h⟩ | ⟨rfl, rfl, h17_h⟩)
      · refine v_if_eq (tgt := 49) G dX8_both5_20 (by decide) (fun h20 => absurd h20 (by decide)) (fun h20 => ?_)
        refine v_aload_n G 1 dX8_both5_23 rfl ?_
        refine w_callVv G hK hT (kX8_nextS hK l dC dI ct ad τ F n b 5 t1 hs (kd_tk h17_h (by decide))) (ck_X8_196 G.2.2.2.2.1 ⟨Nat.le_of_ble_eq_true rfl, Nat.le_of_ble_eq_true rfl⟩) m_recv (fun _ h => h) rfl [] rfl (Nat.le_of_ble_eq_true rfl) dX8_both5_24 ⟨Nat.le_of_ble_eq_true rfl, Nat.le_of_ble_eq_true rfl⟩ (k1 := 0) (n1 := 0) rfl rfl ?_
        rintro σ24 ⟨h24_s, h24_a, h24_b⟩
        refine v_aload_n G 1 dX8_both5_27 rfl ?_
        refine w_callVi G hK hT (kX8_not5 hK l dC dI ct ad σ24 F n b (nxS b n t1) h24_s) (ck_X8_245 G.2.2.2.2.1 ⟨Nat.le_of_ble_eq_true rfl, Nat.le_of_ble_eq_true rfl⟩) m_recv (fun _ h => h) rfl [] rfl (Nat.le_of_ble_eq_true rfl) dX8_both5_28 ⟨Nat.le_of_ble_eq_true rfl, Nat.le_of_ble_eq_true rfl⟩ (k1 := 0) (n1 := 0) rfl rfl ?_
        rintro r28 σ28 ⟨rfl, h28_s, h28_a⟩
        refine v_topr (x2 := .int ((p_not b n (p_lev b n 0) (p_add b n (p_term b n (p_atom b n (p_lev b n 0)))) (nxS b n t1)).1 (envS σ))) (congrArg Value.int (congrArg (p_not b n (p_lev b n 0) (p_add b n (p_term b n (p_atom b n (p_lev b n 0)))) (nxS b n t1)).1 (envS_ag (ag_tr ha h24_a)))) ?_
        refine v_istore_n (L' := [(2, .int ((p_not b n (p_lev b n 0) (p_add b n (p_term b n (p_atom b n (p_lev b n 0)))) (nxS b n t1)).1 (envS σ))), (1, .int (v (envS σ))), (0, .ref (ad 43))]) G dX8_both5_31 (by decide) rfl ?_
        refine v_iload_n G 1 dX8_both5_32 rfl ?_
        refine v_if_eq (tgt := 44) G dX8_both5_33 (by decide) (fun h33 => ?_) (fun h33 => ?_)
        · refine v_iconst (v := 0) G dX8_both5_44 rfl ?_
          refine v_istore_n (L' := [(1, .int 0), (2, .int ((p_not b n (p_lev b n 0) (p_add b n (p_term b n (p_atom b n (p_lev b n 0)))) (nxS b n t1)).1 (envS σ))), (0, .ref (ad 43))]) G dX8_both5_45 (by decide) rfl ?_
          refine v_goto (tgt := 5) G dX8_both5_46 (by decide) ?_
          refine V_.sub (L' := [(1, .int 0), (0, .ref (ad 43))]) ?_ [0, 2] rfl
          refine v_loc (L' := [(1, .int ((fun e => if v e ≠ 0 ∧ (p_not b n (p_lev b n 0) (p_add b n (p_term b n (p_atom b n (p_lev b n 0)))) (nxS b n t1)).1 e ≠ 0 then 1 else 0) (envS σ))), (0, .ref (ad 43))]) (by dsimp only; first | rw [if_pos (by exact ⟨h33, h37⟩)] | rw [if_neg (by rintro ⟨q1, q2⟩; first | exact q1 h33 | exact q2 h37)]) ?_
          exact ih5  f (fun e => if v e ≠ 0 ∧ (p_not b n (p_lev b n 0) (p_add b n (p_term b n (p_atom b n (p_lev b n 0)))) (nxS b n t1)).1 e ≠ 0 then 1 else 0) ((p_not b n (p_lev b n 0) (p_add b n (p_term b n (p_atom b n (p_lev b n 0)))) (nxS b n t1)).2) σ28 h28_s (ag_tr (ag_tr ha h24_a) h28_a) (mu_step (tk_wf hs.2.1) h17_h (by decide) (p_not_ok (p_lev_ok 0) (p_add_ok (p_term_ok (p_atom_ok (p_lev_ok 0))))) hm) (by rw [← he, p_bothL, if_pos h17_h]) (by omega)
        · refine v_iload_n G 0 dX8_both5_36 rfl ?_
          refine v_if_eq (tgt := 44) G dX8_both5_37 (by decide) (fun h37 => ?_) (fun h37 => ?_)
          · refine v_iconst (v := 0) G dX8_both5_44 rfl ?_
            refine v_istore_n (L' := [(1, .int 0), (2, .int ((p_not b n (p_lev b n 0) (p_add b n (p_term b n (p_atom b n (p_lev b n 0)))) (nxS b n t1)).1 (envS σ))), (0, .ref (ad 43))]) G dX8_both5_45 (by decide) rfl ?_
            refine v_goto (tgt := 5) G dX8_both5_46 (by decide) ?_
            refine V_.sub (L' := [(1, .int 0), (0, .ref (ad 43))]) ?_ [0, 2] rfl
            refine v_loc (L' := [(1, .int ((fun e => if v e ≠ 0 ∧ (p_not b n (p_lev b n 0) (p_add b n (p_term b n (p_atom b n (p_lev b n 0)))) (nxS b n t1)).1 e ≠ 0 then 1 else 0) (envS σ))), (0, .ref (ad 43))]) (by dsimp only; first | rw [if_pos (by exact ⟨h33, h37⟩)] | rw [if_neg (by rintro ⟨q1, q2⟩; first | exact q1 h33 | exact q2 h37)]) ?_
            exact ih5  f (fun e => if v e ≠ 0 ∧ (p_not b n (p_lev b n 0) (p_add b n (p_term b n (p_atom b n (p_lev b n 0)))) (nxS b n t1)).1 e ≠ 0 then 1 else 0) ((p_not b n (p_lev b n 0) (p_add b n (p_term b n (p_atom b n (p_lev b n 0)))) (nxS b n t1)).2) σ28 h28_s (ag_tr (ag_tr ha h24_a) h28_a) (mu_step (tk_wf hs.2.1) h17_h (by decide) (p_not_ok (p_lev_ok 0) (p_add_ok (p_term_ok (p_atom_ok (p_lev_ok 0))))) hm) (by rw [← he, p_bothL, if_pos h17_h]) (by omega)
          · refine v_iconst (v := 1) G dX8_both5_40 rfl ?_
            refine v_goto (tgt := 45) G dX8_both5_41 (by decide) ?_
            refine v_istore_n (L' := [(1, .int 1), (2, .int ((p_not b n (p_lev b n 0) (p_add b n (p_term b n (p_atom b n (p_lev b n 0)))) (nxS b n t1)).1 (envS σ))), (0, .ref (ad 43))]) G dX8_both5_45 (by decide) rfl ?_
            refine v_goto (tgt := 5) G dX8_both5_46 (by decide) ?_
            refine V_.sub (L' := [(1, .int 1), (0, .ref (ad 43))]) ?_ [0, 2] rfl
            refine v_loc (L' := [(1, .int ((fun e => if v e ≠ 0 ∧ (p_not b n (p_lev b n 0) (p_add b n (p_term b n (p_atom b n (p_lev b n 0)))) (nxS b n t1)).1 e ≠ 0 then 1 else 0) (envS σ))), (0, .ref (ad 43))]) (by dsimp only; first | rw [if_pos (by exact ⟨h33, h37⟩)] | rw [if_neg (by rintro ⟨q1, q2⟩; first | exact q1 h33 | exact q2 h37)]) ?_
            exact ih5  f (fun e => if v e ≠ 0 ∧ (p_not b n (p_lev b n 0) (p_add b n (p_term b n (p_atom b n (p_lev b n 0)))) (nxS b n t1)).1 e ≠ 0 then 1 else 0) ((p_not b n (p_lev b n 0) (p_add b n (p_term b n (p_atom b n (p_lev b n 0)))) (nxS b n t1)).2) σ28 h28_s (ag_tr (ag_tr ha h24_a) h28_a) (mu_step (tk_wf hs.2.1) h17_h (by decide) (p_not_ok (p_lev_ok 0) (p_add_ok (p_term_ok (p_atom_ok (p_lev_ok 0))))) hm) (by rw [← he, p_bothL, if_pos h17_h]) (by omega)
      · refine v_if_eq (tgt := 49) G dX8_both5_20 (by decide) (fun h20 => ?_) (fun h20 => absurd h20 (by decide))
        refine v_iload_n G 0 dX8_both5_49 rfl ?_
        refine RET _ _ _ _ _ _ rfl (Nat.le_of_ble_eq_true rfl) (Nat.le_of_ble_eq_true rfl) dX8_both5_50 (fun ws hw => ⟨_, hw, ?_⟩)
        clear RET G hT hnm
        rw [show p_both b n (p_not b n (p_lev b n 0) (p_add b n (p_term b n (p_atom b n (p_lev b n 0))))) t = (v, t1) by rw [← he, p_bothL, if_neg (by rw [h17_h]; decide)]]
        exact ⟨rfl, hs, ha⟩
  refine V_.sub (L' := [(1, .int ((p_not b n (p_lev b n 0) (p_add b n (p_term b n (p_atom b n (p_lev b n 0)))) t).1 (envS σ))), (0, .ref (ad 43))]) ?_ [0, 1] rfl
  refine v_loc (L' := [(1, .int (((p_not b n (p_lev b n 0) (p_add b n (p_term b n (p_atom b n (p_lev b n 0)))) t).1) (envS σ))), (0, .ref (ad 43))]) (rfl) ?_
  exact loop5 _ (n + 2) ((p_not b n (p_lev b n 0) (p_add b n (p_term b n (p_atom b n (p_lev b n 0)))) t).1) ((p_not b n (p_lev b n 0) (p_add b n (p_term b n (p_atom b n (p_lev b n 0)))) t).2) σ1 h1_s h1_a (by have := mu_le (n := n) (s := (p_not b n (p_lev b n 0) (p_add b n (p_term b n (p_atom b n (p_lev b n 0)))) t).2); omega) rfl (Nat.lt_succ_self _)
abbrev rmX8_either5 : Room := { frames := 9, cells := 0, slots := 0, locals := 201 }
set_option maxHeartbeats 4000000 in
theorem kX8_either5 {KT : (Nat → Prop) → State → Heap → Prop} (hK : KTok KT) (l : Launch) (dC : Nat → ClassId) (dI : Nat → Nat → Nat) (ct ad : Nat → Nat) (σ : MS) (F : Nat) (n : Nat) (b : Nat → Int32) (t : PS) (hS : ST F n b 5 t σ) : MC KT (dC, dI) vwCl (tysF ct) l yX8_either5 cX8_either5 3 (some .int) rmX8_either5 [.ref (ad 43)] (RM ct ad σ) (QI_ (dC, dI) vwCl (RM ct ad) (fun (r : Int32) (σ' : MS) => ((p_eith b n (p_both b n (p_not b n (p_lev b n 0) (p_add b n (p_term b n (p_atom b n (p_lev b n 0)))))) t).1 (envS σ)) = r ∧ ST F n b 5 (p_eith b n (p_both b n (p_not b n (p_lev b n 0) (p_add b n (p_term b n (p_atom b n (p_lev b n 0)))))) t).2 σ' ∧ ag pfr σ σ')) := by
  refine MC.ofI (own := RX8) pl_X8 rfl (Nat.le_of_ble_eq_true rfl) ?_
  intro pp ee ss mm aa bb hh cc AA QQ G hT hnm RET
  refine v_loc (L' := [(0, .ref (ad 43))]) rfl ?_
  refine v_aload_n G 0 dX8_either5_0 rfl ?_
  refine w_callVi G hK hT (kX8_both5 hK l dC dI ct ad σ F n b t hS) (ck_X8_248 G.2.2.2.2.1 ⟨Nat.le_of_ble_eq_true rfl, Nat.le_of_ble_eq_true rfl⟩) m_recv (fun _ h => h) rfl [] rfl (Nat.le_of_ble_eq_true rfl) dX8_either5_1 ⟨Nat.le_of_ble_eq_true rfl, Nat.le_of_ble_eq_true rfl⟩ (k1 := 0) (n1 := 0) rfl rfl ?_
  rintro r1 σ1 ⟨rfl, h1_s, h1_a⟩
  refine v_topr (x2 := .int ((p_both b n (p_not b n (p_lev b n 0) (p_add b n (p_term b n (p_atom b n (p_lev b n 0))))) t).1 (envS σ))) (congrArg Value.int (congrArg (p_both b n (p_not b n (p_lev b n 0) (p_add b n (p_term b n (p_atom b n (p_lev b n 0))))) t).1 (envS_ag ag_rf))) ?_
  refine v_istore_n (L' := [(1, .int ((p_both b n (p_not b n (p_lev b n 0) (p_add b n (p_term b n (p_atom b n (p_lev b n 0))))) t).1 (envS σ))), (0, .ref (ad 43))]) G dX8_either5_4 (by decide) rfl ?_
  have loop5 : ∀ (dd : Nat) (f : Nat) (v : SF) (t1 : PS) (τ : MS), (ST F n b 5 t1 τ) → (ag pfr σ τ) → (mu n t1 < f) → (p_eithL b n (p_both b n (p_not b n (p_lev b n 0) (p_add b n (p_term b n (p_atom b n (p_lev b n 0)))))) f v t1 = p_eith b n (p_both b n (p_not b n (p_lev b n 0) (p_add b n (p_term b n (p_atom b n (p_lev b n 0)))))) t) → f < dd → V_ pp l ee rmX8_either5 ss mm aa bb hh cc 3 (dC, dI) vwCl AA QQ 0 0 (RM ct ad τ) 5 [(1, .int (v (envS σ))), (0, .ref (ad 43))] [] := by
    intro dd
    induction dd with
    | zero => intro f v t1 τ hs ha hm he hdd; exact absurd hdd (Nat.not_lt_zero _)
    | succ dd ih5 =>
      intro f v t1 τ hs ha hm he hdd
      obtain ⟨f, rfl⟩ : ∃ g, f = g + 1 := ⟨f - 1, by omega⟩
      refine v_aload_n G 1 dX8_either5_5 rfl ?_
      refine v_bipush (v := 111) G dX8_either5_6 rfl ?_
      refine v_bipush (v := 114) G dX8_either5_8 rfl ?_
      refine v_iconst (v := 0) G dX8_either5_10 rfl ?_
      refine v_iconst (v := 0) G dX8_either5_11 rfl ?_
      refine v_iconst (v := 0) G dX8_either5_12 rfl ?_
      refine v_iconst (v := 0) G dX8_either5_13 rfl ?_
      refine v_iconst (v := 0) G dX8_either5_14 rfl ?_
      refine v_iconst (v := 0) G dX8_either5_15 rfl ?_
      refine w_callVi G hK hT (kX8_isWordS hK l dC dI ct ad τ F n b 5 t1 1 3 111 114 0 0 0 0 0 0 hs (⟨(1, 3, [111, 114, 0, 0, 0, 0, 0, 0]), by decide +kernel, rfl, rfl, rfl⟩)) (ck_X8_199 G.2.2.2.2.1 ⟨Nat.le_of_ble_eq_true rfl, Nat.le_of_ble_eq_true rfl⟩) m_recv (fun _ h => h) rfl [] rfl (Nat.le_of_ble_eq_true rfl) dX8_either5_16 ⟨Nat.le_of_ble_eq_true rfl, Nat.le_of_ble_eq_true rfl⟩ (k1 := 0) (n1 := 0) rfl rfl ?_
      rintro r16 σ16 (⟨rfl, rfl, h16_h⟩ | ⟨rfl, rfl, h16_h⟩)
      · refine v_if_eq (tgt := 48) G dX8_either5_19 (by decide) (fun h19 => absurd h19 (by decide)) (fun h19 => ?_)
        refine v_aload_n G 1 dX8_either5_22 rfl ?_
        refine w_callVv G hK hT (kX8_nextS hK l dC dI ct ad τ F n b 5 t1 hs (kd_tk h16_h (by decide))) (ck_X8_196 G.2.2.2.2.1 ⟨Nat.le_of_ble_eq_true rfl, Nat.le_of_ble_eq_true rfl⟩) m_recv (fun _ h => h) rfl [] rfl (Nat.le_of_ble_eq_true rfl) dX8_either5_23 ⟨Nat.le_of_ble_eq_true rfl, Nat.le_of_ble_eq_true rfl⟩ (k1 := 0) (n1 := 0) rfl rfl ?_
        rintro σ23 ⟨h23_s, h23_a, h23_b⟩
        refine v_aload_n G 1 dX8_either5_26 rfl ?_
        refine w_callVi G hK hT (kX8_both5 hK l dC dI ct ad σ23 F n b (nxS b n t1) h23_s) (ck_X8_248 G.2.2.2.2.1 ⟨Nat.le_of_ble_eq_true rfl, Nat.le_of_ble_eq_true rfl⟩) m_recv (fun _ h => h) rfl [] rfl (Nat.le_of_ble_eq_true rfl) dX8_either5_27 ⟨Nat.le_of_ble_eq_true rfl, Nat.le_of_ble_eq_true rfl⟩ (k1 := 0) (n1 := 0) rfl rfl ?_
        rintro r27 σ27 ⟨rfl, h27_s, h27_a⟩
        refine v_topr (x2 := .int ((p_both b n (p_not b n (p_lev b n 0) (p_add b n (p_term b n (p_atom b n (p_lev b n 0))))) (nxS b n t1)).1 (envS σ))) (congrArg Value.int (congrArg (p_both b n (p_not b n (p_lev b n 0) (p_add b n (p_term b n (p_atom b n (p_lev b n 0))))) (nxS b n t1)).1 (envS_ag (ag_tr ha h23_a)))) ?_
        refine v_istore_n (L' := [(2, .int ((p_both b n (p_not b n (p_lev b n 0) (p_add b n (p_term b n (p_atom b n (p_lev b n 0))))) (nxS b n t1)).1 (envS σ))), (1, .int (v (envS σ))), (0, .ref (ad 43))]) G dX8_either5_30 (by decide) rfl ?_
        refine v_iload_n G 1 dX8_either5_31 rfl ?_
        refine v_if_ne (tgt := 39) G dX8_either5_32 (by decide) (fun h32 => ?_) (fun h32 => ?_)
        · refine v_iconst (v := 1) G dX8_either5_39 rfl ?_
          refine v_goto (tgt := 44) G dX8_either5_40 (by decide) ?_
          refine v_istore_n (L' := [(1, .int 1), (2, .int ((p_both b n (p_not b n (p_lev b n 0) (p_add b n (p_term b n (p_atom b n (p_lev b n 0))))) (nxS b n t1)).1 (envS σ))), (0, .ref (ad 43))]) G dX8_either5_44 (by decide) rfl ?_
          refine v_goto (tgt := 5) G dX8_either5_45 (by decide) ?_
          refine V_.sub (L' := [(1, .int 1), (0, .ref (ad 43))]) ?_ [0, 2] rfl
          refine v_loc (L' := [(1, .int ((fun e => if v e ≠ 0 ∨ (p_both b n (p_not b n (p_lev b n 0) (p_add b n (p_term b n (p_atom b n (p_lev b n 0))))) (nxS b n t1)).1 e ≠ 0 then 1 else 0) (envS σ))), (0, .ref (ad 43))]) (by dsimp only; first | rw [if_pos (by first | exact Or.inl h32 | exact Or.inr h36)] | rw [if_neg (by rintro (q | q) <;> first | exact q h32 | exact q h36)]) ?_
          exact ih5  f (fun e => if v e ≠ 0 ∨ (p_both b n (p_not b n (p_lev b n 0) (p_add b n (p_term b n (p_atom b n (p_lev b n 0))))) (nxS b n t1)).1 e ≠ 0 then 1 else 0) ((p_both b n (p_not b n (p_lev b n 0) (p_add b n (p_term b n (p_atom b n (p_lev b n 0))))) (nxS b n t1)).2) σ27 h27_s (ag_tr (ag_tr ha h23_a) h27_a) (mu_step (tk_wf hs.2.1) h16_h (by decide) (p_both_ok (p_not_ok (p_lev_ok 0) (p_add_ok (p_term_ok (p_atom_ok (p_lev_ok 0)))))) hm) (by rw [← he, p_eithL, if_pos h16_h]) (by omega)
        · refine v_iload_n G 0 dX8_either5_35 rfl ?_
          refine v_if_eq (tgt := 43) G dX8_either5_36 (by decide) (fun h36 => ?_) (fun h36 => ?_)
          · refine v_iconst (v := 0) G dX8_either5_43 rfl ?_
            refine v_istore_n (L' := [(1, .int 0), (2, .int ((p_both b n (p_not b n (p_lev b n 0) (p_add b n (p_term b n (p_atom b n (p_lev b n 0))))) (nxS b n t1)).1 (envS σ))), (0, .ref (ad 43))]) G dX8_either5_44 (by decide) rfl ?_
            refine v_goto (tgt := 5) G dX8_either5_45 (by decide) ?_
            refine V_.sub (L' := [(1, .int 0), (0, .ref (ad 43))]) ?_ [0, 2] rfl
            refine v_loc (L' := [(1, .int ((fun e => if v e ≠ 0 ∨ (p_both b n (p_not b n (p_lev b n 0) (p_add b n (p_term b n (p_atom b n (p_lev b n 0))))) (nxS b n t1)).1 e ≠ 0 then 1 else 0) (envS σ))), (0, .ref (ad 43))]) (by dsimp only; first | rw [if_pos (by first | exact Or.inl h32 | exact Or.inr h36)] | rw [if_neg (by rintro (q | q) <;> first | exact q h32 | exact q h36)]) ?_
            exact ih5  f (fun e => if v e ≠ 0 ∨ (p_both b n (p_not b n (p_lev b n 0) (p_add b n (p_term b n (p_atom b n (p_lev b n 0))))) (nxS b n t1)).1 e ≠ 0 then 1 else 0) ((p_both b n (p_not b n (p_lev b n 0) (p_add b n (p_term b n (p_atom b n (p_lev b n 0))))) (nxS b n t1)).2) σ27 h27_s (ag_tr (ag_tr ha h23_a) h27_a) (mu_step (tk_wf hs.2.1) h16_h (by decide) (p_both_ok (p_not_ok (p_lev_ok 0) (p_add_ok (p_term_ok (p_atom_ok (p_lev_ok 0)))))) hm) (by rw [← he, p_eithL, if_pos h16_h]) (by omega)
          · refine v_iconst (v := 1) G dX8_either5_39 rfl ?_
            refine v_goto (tgt := 44) G dX8_either5_40 (by decide) ?_
            refine v_istore_n (L' := [(1, .int 1), (2, .int ((p_both b n (p_not b n (p_lev b n 0) (p_add b n (p_term b n (p_atom b n (p_lev b n 0))))) (nxS b n t1)).1 (envS σ))), (0, .ref (ad 43))]) G dX8_either5_44 (by decide) rfl ?_
            refine v_goto (tgt := 5) G dX8_either5_45 (by decide) ?_
            refine V_.sub (L' := [(1, .int 1), (0, .ref (ad 43))]) ?_ [0, 2] rfl
            refine v_loc (L' := [(1, .int ((fun e => if v e ≠ 0 ∨ (p_both b n (p_not b n (p_lev b n 0) (p_add b n (p_term b n (p_atom b n (p_lev b n 0))))) (nxS b n t1)).1 e ≠ 0 then 1 else 0) (envS σ))), (0, .ref (ad 43))]) (by dsimp only; first | rw [if_pos (by first | exact Or.inl h32 | exact Or.inr h36)] | rw [if_neg (by rintro (q | q) <;> first | exact q h32 | exact q h36)]) ?_
            exact ih5  f (fun e => if v e ≠ 0 ∨ (p_both b n (p_not b n (p_lev b n 0) (p_add b n (p_term b n (p_atom b n (p_lev b n 0))))) (nxS b n t1)).1 e ≠ 0 then 1 else 0) ((p_both b n (p_not b n (p_lev b n 0) (p_add b n (p_term b n (p_atom b n (p_lev b n 0))))) (nxS b n t1)).2) σ27 h27_s (ag_tr (ag_tr ha h23_a) h27_a) (mu_step (tk_wf hs.2.1) h16_h (by decide) (p_both_ok (p_not_ok (p_lev_ok 0) (p_add_ok (p_term_ok (p_atom_ok (p_lev_ok 0)))))) hm) (by rw [← he, p_eithL, if_pos h16_h]) (by omega)
      · refine v_if_eq (tgt := 48) G dX8_either5_19 (by decide) (fun h19 => ?_) (fun h19 => absurd h19 (by decide))
        refine v_iload_n G 0 dX8_either5_48 rfl ?_
        refine RET _ _ _ _ _ _ rfl (Nat.le_of_ble_eq_true rfl) (Nat.le_of_ble_eq_true rfl) dX8_either5_49 (fun ws hw => ⟨_, hw, ?_⟩)
        clear RET G hT hnm
        rw [show p_eith b n (p_both b n (p_not b n (p_lev b n 0) (p_add b n (p_term b n (p_atom b n (p_lev b n 0)))))) t = (v, t1) by rw [← he, p_eithL, if_neg (by rw [h16_h]; decide)]]
        exact ⟨rfl, hs, ha⟩
  refine V_.sub (L' := [(1, .int ((p_both b n (p_not b n (p_lev b n 0) (p_add b n (p_term b n (p_atom b n (p_lev b n 0))))) t).1 (envS σ))), (0, .ref (ad 43))]) ?_ [0, 1] rfl
  refine v_loc (L' := [(1, .int (((p_both b n (p_not b n (p_lev b n 0) (p_add b n (p_term b n (p_atom b n (p_lev b n 0))))) t).1) (envS σ))), (0, .ref (ad 43))]) (rfl) ?_
  exact loop5 _ (n + 2) ((p_both b n (p_not b n (p_lev b n 0) (p_add b n (p_term b n (p_atom b n (p_lev b n 0))))) t).1) ((p_both b n (p_not b n (p_lev b n 0) (p_add b n (p_term b n (p_atom b n (p_lev b n 0))))) t).2) σ1 h1_s h1_a (by have := mu_le (n := n) (s := (p_both b n (p_not b n (p_lev b n 0) (p_add b n (p_term b n (p_atom b n (p_lev b n 0))))) t).2); omega) rfl (Nat.lt_succ_self _)
abbrev rmX8_atom4 : Room := { frames := 10, cells := 0, slots := 0, locals := 223 }
set_option maxHeartbeats 4000000 in
theorem kX8_atom4 {KT : (Nat → Prop) → State → Heap → Prop} (hK : KTok KT) (l : Launch) (dC : Nat → ClassId) (dI : Nat → Nat → Nat) (ct ad : Nat → Nat) (σ : MS) (F : Nat) (n : Nat) (b : Nat → Int32) (t : PS) (hS : ST F n b 4 t σ) : MC KT (dC, dI) vwCl (tysF ct) l yX8_atom4 cX8_atom4 2 (some .int) rmX8_atom4 [.ref (ad 43)] (RM ct ad σ) (QI_ (dC, dI) vwCl (RM ct ad) (fun (r : Int32) (σ' : MS) => ((p_atom b n (p_lev b n 1) t).1 (envS σ)) = r ∧ ST F n b 4 (p_atom b n (p_lev b n 1) t).2 σ' ∧ ag pfr σ σ')) := by
  refine MC.ofI (own := RX8) pl_X8 rfl (Nat.le_of_ble_eq_true rfl) ?_
  intro pp ee ss mm aa bb hh cc AA QQ G hT hnm RET
  refine v_loc (L' := [(0, .ref (ad 43))]) rfl ?_
  refine v_iconst (v := 0) G dX8_atom4_0 rfl ?_
  refine v_istore_n (L' := [(1, .int 0), (0, .ref (ad 43))]) G dX8_atom4_1 (by decide) rfl ?_
  refine v_aload_n G 1 dX8_atom4_2 rfl ?_
  refine v_bipush (v := 45) G dX8_atom4_3 rfl ?_
  refine w_callVi G hK hT (kX8_isSignS hK l dC dI ct ad σ F n b 4 t 45 hS) (ck_X8_221 G.2.2.2.2.1 ⟨Nat.le_of_ble_eq_true rfl, Nat.le_of_ble_eq_true rfl⟩) m_recv (fun _ h => h) rfl [] rfl (Nat.le_of_ble_eq_true rfl) dX8_atom4_5 ⟨Nat.le_of_ble_eq_true rfl, Nat.le_of_ble_eq_true rfl⟩ (k1 := 0) (n1 := 0) rfl rfl ?_
  rintro r5 σ5 (⟨rfl, rfl, h5_h⟩ | ⟨rfl, rfl, h5_h⟩)
  · refine v_if_eq (tgt := 37) G dX8_atom4_8 (by decide) (fun h8 => absurd h8 (by decide)) (fun h8 => ?_)
    refine v_aload_n G 1 dX8_atom4_11 rfl ?_
    refine w_callVi G hK hT (kX8_opens hK l dC dI ct ad σ F n b 4 t hS (kd_tk h5_h (by decide)) (by decide)) (ck_X8_224 G.2.2.2.2.1 ⟨Nat.le_of_ble_eq_true rfl, Nat.le_of_ble_eq_true rfl⟩) m_recv (fun _ h => h) rfl [] rfl (Nat.le_of_ble_eq_true rfl) dX8_atom4_12 ⟨Nat.le_of_ble_eq_true rfl, Nat.le_of_ble_eq_true rfl⟩ (k1 := 0) (n1 := 0) rfl rfl ?_
    rintro r12 σ12 (⟨rfl, h12_k, h12_s, h12_a⟩ | ⟨rfl, h12_k, h12_s, h12_a⟩)
    · refine v_if_eq (tgt := 161) G dX8_atom4_15 (by decide) (fun h15 => absurd h15 (by decide)) (fun h15 => ?_)
      refine v_aload_n G 1 dX8_atom4_18 rfl ?_
      refine w_callVi G hK hT (kX8_atom5 hK l dC dI ct ad σ12 F n b (nxS b n t) h12_s) (ck_X8_232 G.2.2.2.2.1 ⟨Nat.le_of_ble_eq_true rfl, Nat.le_of_ble_eq_true rfl⟩) m_recv (fun _ h => h) rfl [] rfl (Nat.le_of_ble_eq_true rfl) dX8_atom4_19 ⟨Nat.le_of_ble_eq_true rfl, Nat.le_of_ble_eq_true rfl⟩ (k1 := 0) (n1 := 0) rfl rfl ?_
      rintro r19 σ19 ⟨rfl, h19_s, h19_a⟩
      refine v_topr (x2 := .int ((p_atom b n (p_lev b n 0) (nxS b n t)).1 (envS σ))) (congrArg Value.int (congrArg (p_atom b n (p_lev b n 0) (nxS b n t)).1 (envS_ag (ag_tr ag_rf h12_a)))) ?_
      refine v_ineg G dX8_atom4_22 ?_
      refine v_istore_n (L' := [(1, .int (-((p_atom b n (p_lev b n 0) (nxS b n t)).1 (envS σ)))), (0, .ref (ad 43))]) G dX8_atom4_23 (by decide) rfl ?_
      refine v_aload_n G 1 dX8_atom4_24 rfl ?_
      refine v_dup G dX8_atom4_25 rfl ?_
      refine m_get (v := .int (σ19.1 24 0)) G 24 (by decide) rfl q1318 rfl dX8_atom4_26 ?_
      refine v_iconst (v := 1) G dX8_atom4_29 rfl ?_
      refine v_isub G dX8_atom4_30 ?_
      refine m_putI G 24 (by decide) q1318 rfl rfl rfl dX8_atom4_31 ?_
      have hS34 : ST F n b 4 (p_atom b n (p_lev b n 0) (nxS b n t)).2 (mset σ19 24 0 ((σ19.1 24 0) - 1)) := ST_cl h19_s (ix_sub h19_s.2.2 (ix_lit 1 rfl) (by omega))
      refine v_goto (tgt := 161) G dX8_atom4_34 (by decide) ?_
      refine v_iload_n G 0 dX8_atom4_161 rfl ?_
      refine RET _ _ _ _ _ _ rfl (Nat.le_of_ble_eq_true rfl) (Nat.le_of_ble_eq_true rfl) dX8_atom4_162 (fun ws hw => ⟨_, hw, ?_⟩)
      clear RET G hT hnm
      rw [show p_atom b n (p_lev b n 1) t = _ from p_atom_m h5_h]
      exact ⟨rfl, hS34, (ag_tr (ag_tr (ag_tr ag_rf h12_a) h19_a) (ag_set (by decide)))⟩
    · exact False.elim (by exact absurd h12_k (by decide))
  · refine v_if_eq (tgt := 37) G dX8_atom4_8 (by decide) (fun h8 => ?_) (fun h8 => absurd h8 (by decide))
    refine v_aload_n G 1 dX8_atom4_37 rfl ?_
    refine v_bipush (v := 40) G dX8_atom4_38 rfl ?_
    refine w_callVi G hK hT (kX8_isSignS hK l dC dI ct ad σ F n b 4 t 40 hS) (ck_X8_221 G.2.2.2.2.1 ⟨Nat.le_of_ble_eq_true rfl, Nat.le_of_ble_eq_true rfl⟩) m_recv (fun _ h => h) rfl [] rfl (Nat.le_of_ble_eq_true rfl) dX8_atom4_40 ⟨Nat.le_of_ble_eq_true rfl, Nat.le_of_ble_eq_true rfl⟩ (k1 := 0) (n1 := 0) rfl rfl ?_
    rintro r40 σ40 (⟨rfl, rfl, h40_h⟩ | ⟨rfl, rfl, h40_h⟩)
    · refine v_if_eq (tgt := 95) G dX8_atom4_43 (by decide) (fun h43 => absurd h43 (by decide)) (fun h43 => ?_)
      refine v_aload_n G 1 dX8_atom4_46 rfl ?_
      refine w_callVi G hK hT (kX8_opens hK l dC dI ct ad σ F n b 4 t hS (kd_tk h40_h (by decide)) (by decide)) (ck_X8_224 G.2.2.2.2.1 ⟨Nat.le_of_ble_eq_true rfl, Nat.le_of_ble_eq_true rfl⟩) m_recv (fun _ h => h) rfl [] rfl (Nat.le_of_ble_eq_true rfl) dX8_atom4_47 ⟨Nat.le_of_ble_eq_true rfl, Nat.le_of_ble_eq_true rfl⟩ (k1 := 0) (n1 := 0) rfl rfl ?_
      rintro r47 σ47 (⟨rfl, h47_k, h47_s, h47_a⟩ | ⟨rfl, h47_k, h47_s, h47_a⟩)
      · refine v_if_eq (tgt := 161) G dX8_atom4_50 (by decide) (fun h50 => absurd h50 (by decide)) (fun h50 => ?_)
        refine v_aload_n G 1 dX8_atom4_53 rfl ?_
        refine w_callVi G hK hT (kX8_either5 hK l dC dI ct ad σ47 F n b (nxS b n t) h47_s) (ck_X8_251 G.2.2.2.2.1 ⟨Nat.le_of_ble_eq_true rfl, Nat.le_of_ble_eq_true rfl⟩) m_recv (fun _ h => h) rfl [] rfl (Nat.le_of_ble_eq_true rfl) dX8_atom4_54 ⟨Nat.le_of_ble_eq_true rfl, Nat.le_of_ble_eq_true rfl⟩ (k1 := 0) (n1 := 0) rfl rfl ?_
        rintro r54 σ54 ⟨rfl, h54_s, h54_a⟩
        refine v_topr (x2 := .int ((p_eith b n (p_both b n (p_not b n (p_lev b n 0) (p_add b n (p_term b n (p_atom b n (p_lev b n 0)))))) (nxS b n t)).1 (envS σ))) (congrArg Value.int (congrArg (p_eith b n (p_both b n (p_not b n (p_lev b n 0) (p_add b n (p_term b n (p_atom b n (p_lev b n 0)))))) (nxS b n t)).1 (envS_ag (ag_tr ag_rf h47_a)))) ?_
        refine v_istore_n (L' := [(1, .int ((p_eith b n (p_both b n (p_not b n (p_lev b n 0) (p_add b n (p_term b n (p_atom b n (p_lev b n 0)))))) (nxS b n t)).1 (envS σ))), (0, .ref (ad 43))]) G dX8_atom4_57 (by decide) rfl ?_
        refine v_aload_n G 1 dX8_atom4_58 rfl ?_
        refine v_bipush (v := 41) G dX8_atom4_59 rfl ?_
        refine w_callVi G hK hT (kX8_isSignS hK l dC dI ct ad σ54 F n b 5 ((p_eith b n (p_both b n (p_not b n (p_lev b n 0) (p_add b n (p_term b n (p_atom b n (p_lev b n 0)))))) (nxS b n t)).2) 41 h54_s) (ck_X8_221 G.2.2.2.2.1 ⟨Nat.le_of_ble_eq_true rfl, Nat.le_of_ble_eq_true rfl⟩) m_recv (fun _ h => h) rfl [] rfl (Nat.le_of_ble_eq_true rfl) dX8_atom4_61 ⟨Nat.le_of_ble_eq_true rfl, Nat.le_of_ble_eq_true rfl⟩ (k1 := 0) (n1 := 0) rfl rfl ?_
        rintro r61 σ61 (⟨rfl, rfl, h61_h⟩ | ⟨rfl, rfl, h61_h⟩)
        · refine v_if_ne (tgt := 71) G dX8_atom4_64 (by decide) (fun h64 => ?_) (fun h64 => absurd h64 (by decide))
          refine v_aload_n G 1 dX8_atom4_71 rfl ?_
          refine v_dup G dX8_atom4_72 rfl ?_
          refine m_get (v := .int (σ54.1 24 0)) G 24 (by decide) rfl q1318 rfl dX8_atom4_73 ?_
          refine v_iconst (v := 1) G dX8_atom4_76 rfl ?_
          refine v_isub G dX8_atom4_77 ?_
          refine m_putI G 24 (by decide) q1318 rfl rfl rfl dX8_atom4_78 ?_
          have hS81 : ST F n b 4 (p_eith b n (p_both b n (p_not b n (p_lev b n 0) (p_add b n (p_term b n (p_atom b n (p_lev b n 0)))))) (nxS b n t)).2 (mset σ54 24 0 ((σ54.1 24 0) - 1)) := ST_cl h54_s (ix_sub h54_s.2.2 (ix_lit 1 rfl) (by omega))
          refine v_aload_n G 1 dX8_atom4_81 rfl ?_
          refine m_get (v := .int (σ54.1 25 0)) G 25 (by decide) rfl q1319 rfl dX8_atom4_82 ?_
          refine v_if_ne (tgt := 161) G dX8_atom4_85 (by decide) (fun h85 => False.elim (by exact h85 (ST_bad (σ := (mset σ54 24 0 ((σ54.1 24 0) - 1))) hS81 (kd_tk h61_h (by decide))))) (fun h85 => ?_)
          refine v_aload_n G 1 dX8_atom4_88 rfl ?_
          refine w_callVv G hK hT (kX8_nextS hK l dC dI ct ad (mset σ54 24 0 ((σ54.1 24 0) - 1)) F n b 4 ((p_eith b n (p_both b n (p_not b n (p_lev b n 0) (p_add b n (p_term b n (p_atom b n (p_lev b n 0)))))) (nxS b n t)).2) hS81 (kd_tk h61_h (by decide))) (ck_X8_196 G.2.2.2.2.1 ⟨Nat.le_of_ble_eq_true rfl, Nat.le_of_ble_eq_true rfl⟩) m_recv (fun _ h => h) rfl [] rfl (Nat.le_of_ble_eq_true rfl) dX8_atom4_89 ⟨Nat.le_of_ble_eq_true rfl, Nat.le_of_ble_eq_true rfl⟩ (k1 := 0) (n1 := 0) rfl rfl ?_
          rintro σ89 ⟨h89_s, h89_a, h89_b⟩
          refine v_goto (tgt := 161) G dX8_atom4_92 (by decide) ?_
          refine v_iload_n G 0 dX8_atom4_161 rfl ?_
          refine RET _ _ _ _ _ _ rfl (Nat.le_of_ble_eq_true rfl) (Nat.le_of_ble_eq_true rfl) dX8_atom4_162 (fun ws hw => ⟨_, hw, ?_⟩)
          clear RET G hT hnm
          rw [show p_atom b n (p_lev b n 1) t = _ from p_atom_oy h5_h h40_h h61_h]
          exact ⟨rfl, h89_s, (ag_tr (ag_tr (ag_tr (ag_tr ag_rf h47_a) h54_a) (ag_set (by decide))) h89_a)⟩
        · refine v_if_ne (tgt := 71) G dX8_atom4_64 (by decide) (fun h64 => absurd h64 (by decide)) (fun h64 => ?_)
          refine v_aload_n G 1 dX8_atom4_67 rfl ?_
          refine w_callVv G hK hT (kX8_failS hK l dC dI ct ad σ54 F n b 5 ((p_eith b n (p_both b n (p_not b n (p_lev b n 0) (p_add b n (p_term b n (p_atom b n (p_lev b n 0)))))) (nxS b n t)).2) h54_s) (ck_X8_193 G.2.2.2.2.1 ⟨Nat.le_of_ble_eq_true rfl, Nat.le_of_ble_eq_true rfl⟩) m_recv (fun _ h => h) rfl [] rfl (Nat.le_of_ble_eq_true rfl) dX8_atom4_68 ⟨Nat.le_of_ble_eq_true rfl, Nat.le_of_ble_eq_true rfl⟩ (k1 := 0) (n1 := 0) rfl rfl ?_
          rintro σ68 ⟨h68_s, h68_a, h68_b⟩
          refine v_aload_n G 1 dX8_atom4_71 rfl ?_
          refine v_dup G dX8_atom4_72 rfl ?_
          refine m_get (v := .int (σ68.1 24 0)) G 24 (by decide) rfl q1318 rfl dX8_atom4_73 ?_
          refine v_iconst (v := 1) G dX8_atom4_76 rfl ?_
          refine v_isub G dX8_atom4_77 ?_
          refine m_putI G 24 (by decide) q1318 rfl rfl rfl dX8_atom4_78 ?_
          have hS81 : ST F n b 4 (faS (p_eith b n (p_both b n (p_not b n (p_lev b n 0) (p_add b n (p_term b n (p_atom b n (p_lev b n 0)))))) (nxS b n t)).2) (mset σ68 24 0 ((σ68.1 24 0) - 1)) := ST_cl h68_s (ix_sub h68_s.2.2 (ix_lit 1 rfl) (by omega))
          refine v_aload_n G 1 dX8_atom4_81 rfl ?_
          refine m_get (v := .int (σ68.1 25 0)) G 25 (by decide) rfl q1319 rfl dX8_atom4_82 ?_
          refine v_if_ne (tgt := 161) G dX8_atom4_85 (by decide) (fun h85 => ?_) (fun h85 => False.elim (by rw [h68_b] at h85; exact absurd h85 (by decide)))
          refine v_iload_n G 0 dX8_atom4_161 rfl ?_
          refine RET _ _ _ _ _ _ rfl (Nat.le_of_ble_eq_true rfl) (Nat.le_of_ble_eq_true rfl) dX8_atom4_162 (fun ws hw => ⟨_, hw, ?_⟩)
          clear RET G hT hnm
          rw [show p_atom b n (p_lev b n 1) t = _ from p_atom_on h5_h h40_h h61_h]
          exact ⟨rfl, hS81, (ag_tr (ag_tr (ag_tr (ag_tr ag_rf h47_a) h54_a) h68_a) (ag_set (by decide)))⟩
      · exact False.elim (by exact absurd h47_k (by decide))
    · refine v_if_eq (tgt := 95) G dX8_atom4_43 (by decide) (fun h43 => ?_) (fun h43 => absurd h43 (by decide))
      refine v_aload_n G 1 dX8_atom4_95 rfl ?_
      refine m_get (v := .int (σ.1 25 0)) G 25 (by decide) rfl q1319 rfl dX8_atom4_96 ?_
      refine v_if_ne (tgt := 123) G dX8_atom4_99 (by decide) (fun h99 => ?_) (fun h99 => ?_)
      · refine v_aload_n G 1 dX8_atom4_123 rfl ?_
        refine m_get (v := .int (σ.1 25 0)) G 25 (by decide) rfl q1319 rfl dX8_atom4_124 ?_
        refine v_if_ne (tgt := 157) G dX8_atom4_127 (by decide) (fun h127 => ?_) (fun h127 => False.elim (by exact h99 h127))
        refine v_aload_n G 1 dX8_atom4_157 rfl ?_
        refine w_callVv G hK hT (kX8_failS hK l dC dI ct ad σ F n b 4 t hS) (ck_X8_193 G.2.2.2.2.1 ⟨Nat.le_of_ble_eq_true rfl, Nat.le_of_ble_eq_true rfl⟩) m_recv (fun _ h => h) rfl [] rfl (Nat.le_of_ble_eq_true rfl) dX8_atom4_158 ⟨Nat.le_of_ble_eq_true rfl, Nat.le_of_ble_eq_true rfl⟩ (k1 := 0) (n1 := 0) rfl rfl ?_
        rintro σ158 ⟨h158_s, h158_a, h158_b⟩
        refine v_iload_n G 0 dX8_atom4_161 rfl ?_
        refine RET _ _ _ _ _ _ rfl (Nat.le_of_ble_eq_true rfl) (Nat.le_of_ble_eq_true rfl) dX8_atom4_162 (fun ws hw => ⟨_, hw, ?_⟩)
        clear RET G hT hnm
        rw [show p_atom b n (p_lev b n 1) t = _ from p_atom_f h5_h h40_h (tk_nnum hS.2.1 (fun q => by first | exact h99 q.1 | exact h107 q.2)) (tk_nwd hS.2.1 (fun q => by first | exact h99 q.1 | exact h127 q.1 | exact h135 q.2)).1]
        exact ⟨rfl, h158_s, (ag_tr ag_rf h158_a)⟩
      · refine v_aload_n G 1 dX8_atom4_102 rfl ?_
        refine m_get (v := .int (σ.1 21 0)) G 21 (by decide) rfl q1315 rfl dX8_atom4_103 ?_
        refine v_iconst (v := 2) G dX8_atom4_106 rfl ?_
        refine v_icmp_ne (tgt := 123) G dX8_atom4_107 (by decide) (fun h107 => ?_) (fun h107 => ?_)
        · refine v_aload_n G 1 dX8_atom4_123 rfl ?_
          refine m_get (v := .int (σ.1 25 0)) G 25 (by decide) rfl q1319 rfl dX8_atom4_124 ?_
          refine v_if_ne (tgt := 157) G dX8_atom4_127 (by decide) (fun h127 => False.elim (by exact h127 h99)) (fun h127 => ?_)
          refine v_aload_n G 1 dX8_atom4_130 rfl ?_
          refine m_get (v := .int (σ.1 21 0)) G 21 (by decide) rfl q1315 rfl dX8_atom4_131 ?_
          refine v_iconst (v := 1) G dX8_atom4_134 rfl ?_
          refine v_icmp_ne (tgt := 157) G dX8_atom4_135 (by decide) (fun h135 => ?_) (fun h135 => ?_)
          · refine v_aload_n G 1 dX8_atom4_157 rfl ?_
            refine w_callVv G hK hT (kX8_failS hK l dC dI ct ad σ F n b 4 t hS) (ck_X8_193 G.2.2.2.2.1 ⟨Nat.le_of_ble_eq_true rfl, Nat.le_of_ble_eq_true rfl⟩) m_recv (fun _ h => h) rfl [] rfl (Nat.le_of_ble_eq_true rfl) dX8_atom4_158 ⟨Nat.le_of_ble_eq_true rfl, Nat.le_of_ble_eq_true rfl⟩ (k1 := 0) (n1 := 0) rfl rfl ?_
            rintro σ158 ⟨h158_s, h158_a, h158_b⟩
            refine v_iload_n G 0 dX8_atom4_161 rfl ?_
            refine RET _ _ _ _ _ _ rfl (Nat.le_of_ble_eq_true rfl) (Nat.le_of_ble_eq_true rfl) dX8_atom4_162 (fun ws hw => ⟨_, hw, ?_⟩)
            clear RET G hT hnm
            rw [show p_atom b n (p_lev b n 1) t = _ from p_atom_f h5_h h40_h (tk_nnum hS.2.1 (fun q => by first | exact h99 q.1 | exact h107 q.2)) (tk_nwd hS.2.1 (fun q => by first | exact h99 q.1 | exact h127 q.1 | exact h135 q.2)).1]
            exact ⟨rfl, h158_s, (ag_tr ag_rf h158_a)⟩
          · refine v_aload_n G 1 dX8_atom4_138 rfl ?_
            refine w_callVi G hK hT (kX8_name hK l dC dI ct ad σ F n b 4 t hS) (ck_X8_228 G.2.2.2.2.1 ⟨Nat.le_of_ble_eq_true rfl, Nat.le_of_ble_eq_true rfl⟩) m_recv (fun _ h => h) rfl [] rfl (Nat.le_of_ble_eq_true rfl) dX8_atom4_139 ⟨Nat.le_of_ble_eq_true rfl, Nat.le_of_ble_eq_true rfl⟩ (k1 := 0) (n1 := 0) rfl rfl ?_
            rintro r139 σ139 (⟨rfl, rfl, h139_h⟩ | ⟨rfl, h139_s, h139_a, h139_b, h139_h⟩)
            · refine v_topr (congrArg Value.int (show envS σ (n_ (vl t)) = envS σ (n_ (vl t)) by rw [envS_ag ag_rf])) ?_
              refine v_istore_n (L' := [(1, .int (envS σ (n_ (vl t)))), (0, .ref (ad 43))]) G dX8_atom4_142 (by decide) rfl ?_
              refine v_aload_n G 1 dX8_atom4_143 rfl ?_
              refine m_get (v := .int (σ.1 25 0)) G 25 (by decide) rfl q1319 rfl dX8_atom4_144 ?_
              refine v_if_ne (tgt := 161) G dX8_atom4_147 (by decide) (fun h147 => False.elim (by exact h147 (by assumption))) (fun h147 => ?_)
              refine v_aload_n G 1 dX8_atom4_150 rfl ?_
              refine w_callVv G hK hT (kX8_nextS hK l dC dI ct ad σ F n b 4 t hS (by rw [h139_h]; decide)) (ck_X8_196 G.2.2.2.2.1 ⟨Nat.le_of_ble_eq_true rfl, Nat.le_of_ble_eq_true rfl⟩) m_recv (fun _ h => h) rfl [] rfl (Nat.le_of_ble_eq_true rfl) dX8_atom4_151 ⟨Nat.le_of_ble_eq_true rfl, Nat.le_of_ble_eq_true rfl⟩ (k1 := 0) (n1 := 0) rfl rfl ?_
              rintro σ151 ⟨h151_s, h151_a, h151_b⟩
              refine v_goto (tgt := 161) G dX8_atom4_154 (by decide) ?_
              refine v_iload_n G 0 dX8_atom4_161 rfl ?_
              refine RET _ _ _ _ _ _ rfl (Nat.le_of_ble_eq_true rfl) (Nat.le_of_ble_eq_true rfl) dX8_atom4_162 (fun ws hw => ⟨_, hw, ?_⟩)
              clear RET G hT hnm
              rw [show p_atom b n (p_lev b n 1) t = _ from p_atom_2 h5_h h40_h h139_h]
              exact ⟨rfl, h151_s, (ag_tr ag_rf h151_a)⟩
            · refine v_istore_n (L' := [(1, .int 0), (0, .ref (ad 43))]) G dX8_atom4_142 (by decide) rfl ?_
              refine v_aload_n G 1 dX8_atom4_143 rfl ?_
              refine m_get (v := .int (σ139.1 25 0)) G 25 (by decide) rfl q1319 rfl dX8_atom4_144 ?_
              refine v_if_ne (tgt := 161) G dX8_atom4_147 (by decide) (fun h147 => ?_) (fun h147 => False.elim (by rw [h139_b] at h147; exact absurd h147 (by decide)))
              refine v_iload_n G 0 dX8_atom4_161 rfl ?_
              refine RET _ _ _ _ _ _ rfl (Nat.le_of_ble_eq_true rfl) (Nat.le_of_ble_eq_true rfl) dX8_atom4_162 (fun ws hw => ⟨_, hw, ?_⟩)
              clear RET G hT hnm
              rw [show p_atom b n (p_lev b n 1) t = _ from p_atom_f h5_h h40_h (tk_nnum hS.2.1 (fun q => by first | exact h99 q.1 | exact h107 q.2)) h139_h]
              exact ⟨rfl, h139_s, (ag_tr ag_rf h139_a)⟩
        · refine v_aload_n G 1 dX8_atom4_110 rfl ?_
          have hnum := tk_num hS.2.1 h99 h107
          refine m_get (v := .long (σ.2 23 0)) G 23 (by decide) rfl q1317 rfl dX8_atom4_111 ?_
          refine v_l2i (v := (σ.2 23 0).toInt32) G dX8_atom4_114 rfl ?_
          refine v_topr (x2 := .int (vl t)) (congrArg Value.int (show (σ.2 23 0).toInt32 = vl t by rw [hnum.2]; exact lg_l2i_i2l _)) ?_
          refine v_istore_n (L' := [(1, .int (vl t)), (0, .ref (ad 43))]) G dX8_atom4_115 (by decide) rfl ?_
          refine v_aload_n G 1 dX8_atom4_116 rfl ?_
          refine w_callVv G hK hT (kX8_nextS hK l dC dI ct ad σ F n b 4 t hS (by rw [hnum.1]; decide)) (ck_X8_196 G.2.2.2.2.1 ⟨Nat.le_of_ble_eq_true rfl, Nat.le_of_ble_eq_true rfl⟩) m_recv (fun _ h => h) rfl [] rfl (Nat.le_of_ble_eq_true rfl) dX8_atom4_117 ⟨Nat.le_of_ble_eq_true rfl, Nat.le_of_ble_eq_true rfl⟩ (k1 := 0) (n1 := 0) rfl rfl ?_
          rintro σ117 ⟨h117_s, h117_a, h117_b⟩
          refine v_goto (tgt := 161) G dX8_atom4_120 (by decide) ?_
          refine v_iload_n G 0 dX8_atom4_161 rfl ?_
          refine RET _ _ _ _ _ _ rfl (Nat.le_of_ble_eq_true rfl) (Nat.le_of_ble_eq_true rfl) dX8_atom4_162 (fun ws hw => ⟨_, hw, ?_⟩)
          clear RET G hT hnm
          rw [show p_atom b n (p_lev b n 1) t = _ from p_atom_3 h5_h h40_h hnum.1]
          exact ⟨rfl, h117_s, (ag_tr ag_rf h117_a)⟩
abbrev rmX8_term4 : Room := { frames := 11, cells := 0, slots := 0, locals := 244 }
set_option maxHeartbeats 4000000 in
theorem kX8_term4 {KT : (Nat → Prop) → State → Heap → Prop} (hK : KTok KT) (l : Launch) (dC : Nat → ClassId) (dI : Nat → Nat → Nat) (ct ad : Nat → Nat) (σ : MS) (F : Nat) (n : Nat) (b : Nat → Int32) (t : PS) (hS : ST F n b 4 t σ) : MC KT (dC, dI) vwCl (tysF ct) l yX8_term4 cX8_term4 2 (some .int) rmX8_term4 [.ref (ad 43)] (RM ct ad σ) (QI_ (dC, dI) vwCl (RM ct ad) (fun (r : Int32) (σ' : MS) => ((p_term b n (p_atom b n (p_lev b n 1)) t).1 (envS σ)) = r ∧ ST F n b 4 (p_term b n (p_atom b n (p_lev b n 1)) t).2 σ' ∧ ag pfr σ σ')) := by
  refine MC.ofI (own := RX8) pl_X8 rfl (Nat.le_of_ble_eq_true rfl) ?_
  intro pp ee ss mm aa bb hh cc AA QQ G hT hnm RET
  refine v_loc (L' := [(0, .ref (ad 43))]) rfl ?_
  refine v_aload_n G 0 dX8_term4_0 rfl ?_
  refine w_callVi G hK hT (kX8_atom4 hK l dC dI ct ad σ F n b t hS) (ck_X8_254 G.2.2.2.2.1 ⟨Nat.le_of_ble_eq_true rfl, Nat.le_of_ble_eq_true rfl⟩) m_recv (fun _ h => h) rfl [] rfl (Nat.le_of_ble_eq_true rfl) dX8_term4_1 ⟨Nat.le_of_ble_eq_true rfl, Nat.le_of_ble_eq_true rfl⟩ (k1 := 0) (n1 := 0) rfl rfl ?_
  rintro r1 σ1 ⟨rfl, h1_s, h1_a⟩
  refine v_topr (x2 := .int ((p_atom b n (p_lev b n 1) t).1 (envS σ))) (congrArg Value.int (congrArg (p_atom b n (p_lev b n 1) t).1 (envS_ag ag_rf))) ?_
  refine v_istore_n (L' := [(1, .int ((p_atom b n (p_lev b n 1) t).1 (envS σ))), (0, .ref (ad 43))]) G dX8_term4_4 (by decide) rfl ?_
  have loop5 : ∀ (dd : Nat) (f : Nat) (v : SF) (t1 : PS) (τ : MS), (ST F n b 4 t1 τ) → (ag pfr σ τ) → (mu n t1 < f) → (p_termL b n (p_atom b n (p_lev b n 1)) f v t1 = p_term b n (p_atom b n (p_lev b n 1)) t) → f < dd → V_ pp l ee rmX8_term4 ss mm aa bb hh cc 2 (dC, dI) vwCl AA QQ 0 0 (RM ct ad τ) 5 [(1, .int (v (envS σ))), (0, .ref (ad 43))] [] := by
    intro dd
    induction dd with
    | zero => intro f v t1 τ hs ha hm he hdd; exact absurd hdd (Nat.not_lt_zero _)
    | succ dd ih5 =>
      intro f v t1 τ hs ha hm he hdd
      obtain ⟨f, rfl⟩ : ∃ g, f = g + 1 := ⟨f - 1, by omega⟩
      refine v_aload_n G 1 dX8_term4_5 rfl ?_
      refine v_bipush (v := 42) G dX8_term4_6 rfl ?_
      refine w_callVi G hK hT (kX8_isSignS hK l dC dI ct ad τ F n b 4 t1 42 hs) (ck_X8_221 G.2.2.2.2.1 ⟨Nat.le_of_ble_eq_true rfl, Nat.le_of_ble_eq_true rfl⟩) m_recv (fun _ h => h) rfl [] rfl (Nat.le_of_ble_eq_true rfl) dX8_term4_8 ⟨Nat.le_of_ble_eq_true rfl, Nat.le_of_ble_eq_true rfl⟩ (k1 := 0) (n1 := 0) rfl rfl ?_
      rintro r8 σ8 (⟨rfl, rfl, h8_h⟩ | ⟨rfl, rfl, h8_h⟩)
      · refine v_if_eq (tgt := 28) G dX8_term4_11 (by decide) (fun h11 => absurd h11 (by decide)) (fun h11 => ?_)
        refine v_aload_n G 1 dX8_term4_14 rfl ?_
        refine w_callVv G hK hT (kX8_nextS hK l dC dI ct ad τ F n b 4 t1 hs (kd_tk h8_h (by decide))) (ck_X8_196 G.2.2.2.2.1 ⟨Nat.le_of_ble_eq_true rfl, Nat.le_of_ble_eq_true rfl⟩) m_recv (fun _ h => h) rfl [] rfl (Nat.le_of_ble_eq_true rfl) dX8_term4_15 ⟨Nat.le_of_ble_eq_true rfl, Nat.le_of_ble_eq_true rfl⟩ (k1 := 0) (n1 := 0) rfl rfl ?_
        rintro σ15 ⟨h15_s, h15_a, h15_b⟩
        refine v_iload_n G 0 dX8_term4_18 rfl ?_
        refine v_aload_n G 1 dX8_term4_19 rfl ?_
        refine w_callVi G hK hT (kX8_atom4 hK l dC dI ct ad σ15 F n b (nxS b n t1) h15_s) (ck_X8_254 G.2.2.2.2.1 ⟨Nat.le_of_ble_eq_true rfl, Nat.le_of_ble_eq_true rfl⟩) m_recv (fun _ h => h) rfl [.int (v (envS σ))] rfl (Nat.le_of_ble_eq_true rfl) dX8_term4_20 ⟨Nat.le_of_ble_eq_true rfl, Nat.le_of_ble_eq_true rfl⟩ (k1 := 0) (n1 := 0) rfl rfl ?_
        rintro r20 σ20 ⟨rfl, h20_s, h20_a⟩
        refine v_topr (x2 := .int ((p_atom b n (p_lev b n 1) (nxS b n t1)).1 (envS σ))) (congrArg Value.int (congrArg (p_atom b n (p_lev b n 1) (nxS b n t1)).1 (envS_ag (ag_tr ha h15_a)))) ?_
        refine v_imul G dX8_term4_23 ?_
        refine v_istore_n (L' := [(1, .int ((v (envS σ)) * ((p_atom b n (p_lev b n 1) (nxS b n t1)).1 (envS σ)))), (0, .ref (ad 43))]) G dX8_term4_24 (by decide) rfl ?_
        refine v_goto (tgt := 5) G dX8_term4_25 (by decide) ?_
        refine V_.sub (L' := [(1, .int ((v (envS σ)) * ((p_atom b n (p_lev b n 1) (nxS b n t1)).1 (envS σ)))), (0, .ref (ad 43))]) ?_ [0, 1] rfl
        refine v_loc (L' := [(1, .int ((fun e => v e * (p_atom b n (p_lev b n 1) (nxS b n t1)).1 e) (envS σ))), (0, .ref (ad 43))]) (rfl) ?_
        exact ih5  f (fun e => v e * (p_atom b n (p_lev b n 1) (nxS b n t1)).1 e) ((p_atom b n (p_lev b n 1) (nxS b n t1)).2) σ20 h20_s (ag_tr (ag_tr ha h15_a) h20_a) (mu_step (tk_wf hs.2.1) h8_h (by decide) (p_atom_ok (p_lev_ok 1)) hm) (by rw [← he, p_termL, if_pos h8_h]) (by omega)
      · refine v_if_eq (tgt := 28) G dX8_term4_11 (by decide) (fun h11 => ?_) (fun h11 => absurd h11 (by decide))
        refine v_iload_n G 0 dX8_term4_28 rfl ?_
        refine RET _ _ _ _ _ _ rfl (Nat.le_of_ble_eq_true rfl) (Nat.le_of_ble_eq_true rfl) dX8_term4_29 (fun ws hw => ⟨_, hw, ?_⟩)
        clear RET G hT hnm
        rw [show p_term b n (p_atom b n (p_lev b n 1)) t = (v, t1) by rw [← he, p_termL, if_neg (by rw [h8_h]; decide)]]
        exact ⟨rfl, hs, ha⟩
  refine V_.sub (L' := [(1, .int ((p_atom b n (p_lev b n 1) t).1 (envS σ))), (0, .ref (ad 43))]) ?_ [0, 1] rfl
  refine v_loc (L' := [(1, .int (((p_atom b n (p_lev b n 1) t).1) (envS σ))), (0, .ref (ad 43))]) (rfl) ?_
  exact loop5 _ (n + 2) ((p_atom b n (p_lev b n 1) t).1) ((p_atom b n (p_lev b n 1) t).2) σ1 h1_s h1_a (by have := mu_le (n := n) (s := (p_atom b n (p_lev b n 1) t).2); omega) rfl (Nat.lt_succ_self _)
abbrev rmX8_added4 : Room := { frames := 12, cells := 0, slots := 0, locals := 265 }
set_option maxHeartbeats 4000000 in
theorem kX8_added4 {KT : (Nat → Prop) → State → Heap → Prop} (hK : KTok KT) (l : Launch) (dC : Nat → ClassId) (dI : Nat → Nat → Nat) (ct ad : Nat → Nat) (σ : MS) (F : Nat) (n : Nat) (b : Nat → Int32) (t : PS) (hS : ST F n b 4 t σ) : MC KT (dC, dI) vwCl (tysF ct) l yX8_added4 cX8_added4 4 (some .int) rmX8_added4 [.ref (ad 43)] (RM ct ad σ) (QI_ (dC, dI) vwCl (RM ct ad) (fun (r : Int32) (σ' : MS) => ((p_add b n (p_term b n (p_atom b n (p_lev b n 1))) t).1 (envS σ)) = r ∧ ST F n b 4 (p_add b n (p_term b n (p_atom b n (p_lev b n 1))) t).2 σ' ∧ ag pfr σ σ')) := by
  refine MC.ofI (own := RX8) pl_X8 rfl (Nat.le_of_ble_eq_true rfl) ?_
  intro pp ee ss mm aa bb hh cc AA QQ G hT hnm RET
  refine v_loc (L' := [(0, .ref (ad 43))]) rfl ?_
  refine v_aload_n G 0 dX8_added4_0 rfl ?_
  refine w_callVi G hK hT (kX8_term4 hK l dC dI ct ad σ F n b t hS) (ck_X8_257 G.2.2.2.2.1 ⟨Nat.le_of_ble_eq_true rfl, Nat.le_of_ble_eq_true rfl⟩) m_recv (fun _ h => h) rfl [] rfl (Nat.le_of_ble_eq_true rfl) dX8_added4_1 ⟨Nat.le_of_ble_eq_true rfl, Nat.le_of_ble_eq_true rfl⟩ (k1 := 0) (n1 := 0) rfl rfl ?_
  rintro r1 σ1 ⟨rfl, h1_s, h1_a⟩
  refine v_topr (x2 := .int ((p_term b n (p_atom b n (p_lev b n 1)) t).1 (envS σ))) (congrArg Value.int (congrArg (p_term b n (p_atom b n (p_lev b n 1)) t).1 (envS_ag ag_rf))) ?_
  refine v_istore_n (L' := [(1, .int ((p_term b n (p_atom b n (p_lev b n 1)) t).1 (envS σ))), (0, .ref (ad 43))]) G dX8_added4_4 (by decide) rfl ?_
  have loop5 : ∀ (dd : Nat) (f : Nat) (v : SF) (t1 : PS) (τ : MS), (ST F n b 4 t1 τ) → (ag pfr σ τ) → (mu n t1 < f) → (p_addL b n (p_term b n (p_atom b n (p_lev b n 1))) f v t1 = p_add b n (p_term b n (p_atom b n (p_lev b n 1))) t) → f < dd → V_ pp l ee rmX8_added4 ss mm aa bb hh cc 4 (dC, dI) vwCl AA QQ 0 0 (RM ct ad τ) 5 [(1, .int (v (envS σ))), (0, .ref (ad 43))] [] := by
    intro dd
    induction dd with
    | zero => intro f v t1 τ hs ha hm he hdd; exact absurd hdd (Nat.not_lt_zero _)
    | succ dd ih5 =>
      intro f v t1 τ hs ha hm he hdd
      obtain ⟨f, rfl⟩ : ∃ g, f = g + 1 := ⟨f - 1, by omega⟩
      refine v_aload_n G 1 dX8_added4_5 rfl ?_
      refine v_bipush (v := 43) G dX8_added4_6 rfl ?_
      refine w_callVi G hK hT (kX8_isSignS hK l dC dI ct ad τ F n b 4 t1 43 hs) (ck_X8_221 G.2.2.2.2.1 ⟨Nat.le_of_ble_eq_true rfl, Nat.le_of_ble_eq_true rfl⟩) m_recv (fun _ h => h) rfl [] rfl (Nat.le_of_ble_eq_true rfl) dX8_added4_8 ⟨Nat.le_of_ble_eq_true rfl, Nat.le_of_ble_eq_true rfl⟩ (k1 := 0) (n1 := 0) rfl rfl ?_
      rintro r8 σ8 (⟨rfl, rfl, h8_h⟩ | ⟨rfl, rfl, h8_h⟩)
      · refine v_if_ne (tgt := 23) G dX8_added4_11 (by decide) (fun h11 => ?_) (fun h11 => absurd h11 (by decide))
        refine v_aload_n G 1 dX8_added4_23 rfl ?_
        refine m_get (v := .long (τ.2 23 0)) G 23 (by decide) rfl q1317 rfl dX8_added4_24 ?_
        refine v_ldc2 G q1558 dX8_added4_27 ?_
        refine v_lcmp G dX8_added4_30 ?_
        refine v_if_ne (tgt := 38) G dX8_added4_31 (by decide) (fun h31 => False.elim (by exact h31 ((le_of_lcmp _ _).1.mpr (tk_sgv hs.2.1 h8_h)))) (fun h31 => ?_)
        refine v_iconst (v := 1) G dX8_added4_34 rfl ?_
        refine v_goto (tgt := 39) G dX8_added4_35 (by decide) ?_
        refine v_istore_n (L' := [(2, .int 1), (1, .int (v (envS σ))), (0, .ref (ad 43))]) G dX8_added4_39 (by decide) rfl ?_
        refine v_aload_n G 2 dX8_added4_40 rfl ?_
        refine w_callVv G hK hT (kX8_nextS hK l dC dI ct ad τ F n b 4 t1 hs (kd_tk h8_h (by decide))) (ck_X8_196 G.2.2.2.2.1 ⟨Nat.le_of_ble_eq_true rfl, Nat.le_of_ble_eq_true rfl⟩) m_recv (fun _ h => h) rfl [] rfl (Nat.le_of_ble_eq_true rfl) dX8_added4_41 ⟨Nat.le_of_ble_eq_true rfl, Nat.le_of_ble_eq_true rfl⟩ (k1 := 0) (n1 := 0) rfl rfl ?_
        rintro σ41 ⟨h41_s, h41_a, h41_b⟩
        refine v_aload_n G 2 dX8_added4_44 rfl ?_
        refine w_callVi G hK hT (kX8_term4 hK l dC dI ct ad σ41 F n b (nxS b n t1) h41_s) (ck_X8_257 G.2.2.2.2.1 ⟨Nat.le_of_ble_eq_true rfl, Nat.le_of_ble_eq_true rfl⟩) m_recv (fun _ h => h) rfl [] rfl (Nat.le_of_ble_eq_true rfl) dX8_added4_45 ⟨Nat.le_of_ble_eq_true rfl, Nat.le_of_ble_eq_true rfl⟩ (k1 := 0) (n1 := 0) rfl rfl ?_
        rintro r45 σ45 ⟨rfl, h45_s, h45_a⟩
        refine v_topr (x2 := .int ((p_term b n (p_atom b n (p_lev b n 1)) (nxS b n t1)).1 (envS σ))) (congrArg Value.int (congrArg (p_term b n (p_atom b n (p_lev b n 1)) (nxS b n t1)).1 (envS_ag (ag_tr ha h41_a)))) ?_
        refine v_istore_n (L' := [(3, .int ((p_term b n (p_atom b n (p_lev b n 1)) (nxS b n t1)).1 (envS σ))), (2, .int 1), (1, .int (v (envS σ))), (0, .ref (ad 43))]) G dX8_added4_48 (by decide) rfl ?_
        refine v_iload_n G 1 dX8_added4_49 rfl ?_
        refine v_if_eq (tgt := 59) G dX8_added4_50 (by decide) (fun h50 => absurd h50 (by decide)) (fun h50 => ?_)
        refine v_iload_n G 2 dX8_added4_53 rfl ?_
        refine v_iload_n G 0 dX8_added4_54 rfl ?_
        refine v_iadd G dX8_added4_55 ?_
        refine v_goto (tgt := 62) G dX8_added4_56 (by decide) ?_
        refine v_istore_n (L' := [(1, .int ((v (envS σ)) + ((p_term b n (p_atom b n (p_lev b n 1)) (nxS b n t1)).1 (envS σ)))), (3, .int ((p_term b n (p_atom b n (p_lev b n 1)) (nxS b n t1)).1 (envS σ))), (2, .int 1), (0, .ref (ad 43))]) G dX8_added4_62 (by decide) rfl ?_
        refine v_goto (tgt := 5) G dX8_added4_63 (by decide) ?_
        refine V_.sub (L' := [(1, .int ((v (envS σ)) + ((p_term b n (p_atom b n (p_lev b n 1)) (nxS b n t1)).1 (envS σ)))), (0, .ref (ad 43))]) ?_ [0, 3] rfl
        refine v_loc (L' := [(1, .int ((fun e => v e + (p_term b n (p_atom b n (p_lev b n 1)) (nxS b n t1)).1 e) (envS σ))), (0, .ref (ad 43))]) (rfl) ?_
        exact ih5  f (fun e => v e + (p_term b n (p_atom b n (p_lev b n 1)) (nxS b n t1)).1 e) ((p_term b n (p_atom b n (p_lev b n 1)) (nxS b n t1)).2) σ45 h45_s (ag_tr (ag_tr ha h41_a) h45_a) (mu_step (tk_wf hs.2.1) h8_h (by decide) (p_term_ok (p_atom_ok (p_lev_ok 1))) hm) (by rw [← he, p_addL, if_pos h8_h]) (by omega)
      · refine v_if_ne (tgt := 23) G dX8_added4_11 (by decide) (fun h11 => absurd h11 (by decide)) (fun h11 => ?_)
        refine v_aload_n G 1 dX8_added4_14 rfl ?_
        refine v_bipush (v := 45) G dX8_added4_15 rfl ?_
        refine w_callVi G hK hT (kX8_isSignS hK l dC dI ct ad τ F n b 4 t1 45 hs) (ck_X8_221 G.2.2.2.2.1 ⟨Nat.le_of_ble_eq_true rfl, Nat.le_of_ble_eq_true rfl⟩) m_recv (fun _ h => h) rfl [] rfl (Nat.le_of_ble_eq_true rfl) dX8_added4_17 ⟨Nat.le_of_ble_eq_true rfl, Nat.le_of_ble_eq_true rfl⟩ (k1 := 0) (n1 := 0) rfl rfl ?_
        rintro r17 σ17 (⟨rfl, rfl, h17_h⟩ | ⟨rfl, rfl, h17_h⟩)
        · refine v_if_eq (tgt := 66) G dX8_added4_20 (by decide) (fun h20 => absurd h20 (by decide)) (fun h20 => ?_)
          refine v_aload_n G 1 dX8_added4_23 rfl ?_
          refine m_get (v := .long (τ.2 23 0)) G 23 (by decide) rfl q1317 rfl dX8_added4_24 ?_
          refine v_ldc2 G q1558 dX8_added4_27 ?_
          refine v_lcmp G dX8_added4_30 ?_
          refine v_if_ne (tgt := 38) G dX8_added4_31 (by decide) (fun h31 => ?_) (fun h31 => False.elim (by have hz := (le_of_lcmp _ _).1.mp h31; rw [tk_sgv hs.2.1 h17_h] at hz; exact absurd hz (by decide)))
          refine v_iconst (v := 0) G dX8_added4_38 rfl ?_
          refine v_istore_n (L' := [(2, .int 0), (1, .int (v (envS σ))), (0, .ref (ad 43))]) G dX8_added4_39 (by decide) rfl ?_
          refine v_aload_n G 2 dX8_added4_40 rfl ?_
          refine w_callVv G hK hT (kX8_nextS hK l dC dI ct ad τ F n b 4 t1 hs (kd_tk h17_h (by decide))) (ck_X8_196 G.2.2.2.2.1 ⟨Nat.le_of_ble_eq_true rfl, Nat.le_of_ble_eq_true rfl⟩) m_recv (fun _ h => h) rfl [] rfl (Nat.le_of_ble_eq_true rfl) dX8_added4_41 ⟨Nat.le_of_ble_eq_true rfl, Nat.le_of_ble_eq_true rfl⟩ (k1 := 0) (n1 := 0) rfl rfl ?_
          rintro σ41 ⟨h41_s, h41_a, h41_b⟩
          refine v_aload_n G 2 dX8_added4_44 rfl ?_
          refine w_callVi G hK hT (kX8_term4 hK l dC dI ct ad σ41 F n b (nxS b n t1) h41_s) (ck_X8_257 G.2.2.2.2.1 ⟨Nat.le_of_ble_eq_true rfl, Nat.le_of_ble_eq_true rfl⟩) m_recv (fun _ h => h) rfl [] rfl (Nat.le_of_ble_eq_true rfl) dX8_added4_45 ⟨Nat.le_of_ble_eq_true rfl, Nat.le_of_ble_eq_true rfl⟩ (k1 := 0) (n1 := 0) rfl rfl ?_
          rintro r45 σ45 ⟨rfl, h45_s, h45_a⟩
          refine v_topr (x2 := .int ((p_term b n (p_atom b n (p_lev b n 1)) (nxS b n t1)).1 (envS σ))) (congrArg Value.int (congrArg (p_term b n (p_atom b n (p_lev b n 1)) (nxS b n t1)).1 (envS_ag (ag_tr ha h41_a)))) ?_
          refine v_istore_n (L' := [(3, .int ((p_term b n (p_atom b n (p_lev b n 1)) (nxS b n t1)).1 (envS σ))), (2, .int 0), (1, .int (v (envS σ))), (0, .ref (ad 43))]) G dX8_added4_48 (by decide) rfl ?_
          refine v_iload_n G 1 dX8_added4_49 rfl ?_
          refine v_if_eq (tgt := 59) G dX8_added4_50 (by decide) (fun h50 => ?_) (fun h50 => absurd h50 (by decide))
          refine v_iload_n G 2 dX8_added4_59 rfl ?_
          refine v_iload_n G 0 dX8_added4_60 rfl ?_
          refine v_isub G dX8_added4_61 ?_
          refine v_istore_n (L' := [(1, .int ((v (envS σ)) - ((p_term b n (p_atom b n (p_lev b n 1)) (nxS b n t1)).1 (envS σ)))), (3, .int ((p_term b n (p_atom b n (p_lev b n 1)) (nxS b n t1)).1 (envS σ))), (2, .int 0), (0, .ref (ad 43))]) G dX8_added4_62 (by decide) rfl ?_
          refine v_goto (tgt := 5) G dX8_added4_63 (by decide) ?_
          refine V_.sub (L' := [(1, .int ((v (envS σ)) - ((p_term b n (p_atom b n (p_lev b n 1)) (nxS b n t1)).1 (envS σ)))), (0, .ref (ad 43))]) ?_ [0, 3] rfl
          refine v_loc (L' := [(1, .int ((fun e => v e - (p_term b n (p_atom b n (p_lev b n 1)) (nxS b n t1)).1 e) (envS σ))), (0, .ref (ad 43))]) (rfl) ?_
          exact ih5  f (fun e => v e - (p_term b n (p_atom b n (p_lev b n 1)) (nxS b n t1)).1 e) ((p_term b n (p_atom b n (p_lev b n 1)) (nxS b n t1)).2) σ45 h45_s (ag_tr (ag_tr ha h41_a) h45_a) (mu_step (tk_wf hs.2.1) h17_h (by decide) (p_term_ok (p_atom_ok (p_lev_ok 1))) hm) (by rw [← he, p_addL, if_neg (by rw [h8_h]; decide), if_pos h17_h]) (by omega)
        · refine v_if_eq (tgt := 66) G dX8_added4_20 (by decide) (fun h20 => ?_) (fun h20 => absurd h20 (by decide))
          refine v_iload_n G 0 dX8_added4_66 rfl ?_
          refine RET _ _ _ _ _ _ rfl (Nat.le_of_ble_eq_true rfl) (Nat.le_of_ble_eq_true rfl) dX8_added4_67 (fun ws hw => ⟨_, hw, ?_⟩)
          clear RET G hT hnm
          rw [show p_add b n (p_term b n (p_atom b n (p_lev b n 1))) t = (v, t1) by rw [← he, p_addL, if_neg (by rw [h8_h]; decide), if_neg (by rw [h17_h]; decide)]]
          exact ⟨rfl, hs, ha⟩
  refine V_.sub (L' := [(1, .int ((p_term b n (p_atom b n (p_lev b n 1)) t).1 (envS σ))), (0, .ref (ad 43))]) ?_ [0, 1] rfl
  refine v_loc (L' := [(1, .int (((p_term b n (p_atom b n (p_lev b n 1)) t).1) (envS σ))), (0, .ref (ad 43))]) (rfl) ?_
  exact loop5 _ (n + 2) ((p_term b n (p_atom b n (p_lev b n 1)) t).1) ((p_term b n (p_atom b n (p_lev b n 1)) t).2) σ1 h1_s h1_a (by have := mu_le (n := n) (s := (p_term b n (p_atom b n (p_lev b n 1)) t).2); omega) rfl (Nat.lt_succ_self _)
abbrev rmX8_not4 : Room := { frames := 13, cells := 0, slots := 0, locals := 288 }
set_option maxHeartbeats 4000000 in
theorem kX8_not4 {KT : (Nat → Prop) → State → Heap → Prop} (hK : KTok KT) (l : Launch) (dC : Nat → ClassId) (dI : Nat → Nat → Nat) (ct ad : Nat → Nat) (σ : MS) (F : Nat) (n : Nat) (b : Nat → Int32) (t : PS) (hS : ST F n b 4 t σ) : MC KT (dC, dI) vwCl (tysF ct) l yX8_not4 cX8_not4 4 (some .int) rmX8_not4 [.ref (ad 43)] (RM ct ad σ) (QI_ (dC, dI) vwCl (RM ct ad) (fun (r : Int32) (σ' : MS) => ((p_not b n (p_lev b n 1) (p_add b n (p_term b n (p_atom b n (p_lev b n 1)))) t).1 (envS σ)) = r ∧ ST F n b 4 (p_not b n (p_lev b n 1) (p_add b n (p_term b n (p_atom b n (p_lev b n 1)))) t).2 σ' ∧ ag pfr σ σ')) := by
  refine MC.ofI (own := RX8) pl_X8 rfl (Nat.le_of_ble_eq_true rfl) ?_
  intro pp ee ss mm aa bb hh cc AA QQ G hT hnm RET
  refine v_loc (L' := [(0, .ref (ad 43))]) rfl ?_
  refine v_aload_n G 0 dX8_not4_0 rfl ?_
  refine v_bipush (v := 110) G dX8_not4_1 rfl ?_
  refine v_bipush (v := 111) G dX8_not4_3 rfl ?_
  refine v_bipush (v := 116) G dX8_not4_5 rfl ?_
  refine v_iconst (v := 0) G dX8_not4_7 rfl ?_
  refine v_iconst (v := 0) G dX8_not4_8 rfl ?_
  refine v_iconst (v := 0) G dX8_not4_9 rfl ?_
  refine v_iconst (v := 0) G dX8_not4_10 rfl ?_
  refine v_iconst (v := 0) G dX8_not4_11 rfl ?_
  refine w_callVi G hK hT (kX8_isWordS hK l dC dI ct ad σ F n b 4 t 1 5 110 111 116 0 0 0 0 0 hS (⟨(1, 5, [110, 111, 116, 0, 0, 0, 0, 0]), by decide +kernel, rfl, rfl, rfl⟩)) (ck_X8_199 G.2.2.2.2.1 ⟨Nat.le_of_ble_eq_true rfl, Nat.le_of_ble_eq_true rfl⟩) m_recv (fun _ h => h) rfl [] rfl (Nat.le_of_ble_eq_true rfl) dX8_not4_12 ⟨Nat.le_of_ble_eq_true rfl, Nat.le_of_ble_eq_true rfl⟩ (k1 := 0) (n1 := 0) rfl rfl ?_
  rintro r12 σ12 (⟨rfl, rfl, h12_h⟩ | ⟨rfl, rfl, h12_h⟩)
  · refine v_if_eq (tgt := 52) G dX8_not4_15 (by decide) (fun h15 => absurd h15 (by decide)) (fun h15 => ?_)
    refine v_aload_n G 0 dX8_not4_18 rfl ?_
    refine w_callVi G hK hT (kX8_opens hK l dC dI ct ad σ F n b 4 t hS (kd_tk h12_h (by decide)) (by decide)) (ck_X8_224 G.2.2.2.2.1 ⟨Nat.le_of_ble_eq_true rfl, Nat.le_of_ble_eq_true rfl⟩) m_recv (fun _ h => h) rfl [] rfl (Nat.le_of_ble_eq_true rfl) dX8_not4_19 ⟨Nat.le_of_ble_eq_true rfl, Nat.le_of_ble_eq_true rfl⟩ (k1 := 0) (n1 := 0) rfl rfl ?_
    rintro r19 σ19 (⟨rfl, h19_k, h19_s, h19_a⟩ | ⟨rfl, h19_k, h19_s, h19_a⟩)
    · refine v_if_ne (tgt := 27) G dX8_not4_22 (by decide) (fun h22 => ?_) (fun h22 => absurd h22 (by decide))
      refine v_aload_n G 0 dX8_not4_27 rfl ?_
      refine w_callVi G hK hT (kX8_not5 hK l dC dI ct ad σ19 F n b (nxS b n t) h19_s) (ck_X8_245 G.2.2.2.2.1 ⟨Nat.le_of_ble_eq_true rfl, Nat.le_of_ble_eq_true rfl⟩) m_recv (fun _ h => h) rfl [] rfl (Nat.le_of_ble_eq_true rfl) dX8_not4_28 ⟨Nat.le_of_ble_eq_true rfl, Nat.le_of_ble_eq_true rfl⟩ (k1 := 0) (n1 := 0) rfl rfl ?_
      rintro r28 σ28 ⟨rfl, h28_s, h28_a⟩
      refine v_topr (x2 := .int ((p_not b n (p_lev b n 0) (p_add b n (p_term b n (p_atom b n (p_lev b n 0)))) (nxS b n t)).1 (envS σ))) (congrArg Value.int (congrArg (p_not b n (p_lev b n 0) (p_add b n (p_term b n (p_atom b n (p_lev b n 0)))) (nxS b n t)).1 (envS_ag (ag_tr ag_rf h19_a)))) ?_
      refine v_istore_n (L' := [(1, .int ((p_not b n (p_lev b n 0) (p_add b n (p_term b n (p_atom b n (p_lev b n 0)))) (nxS b n t)).1 (envS σ))), (0, .ref (ad 43))]) G dX8_not4_31 (by decide) rfl ?_
      refine v_aload_n G 1 dX8_not4_32 rfl ?_
      refine v_dup G dX8_not4_33 rfl ?_
      refine m_get (v := .int (σ28.1 24 0)) G 24 (by decide) rfl q1318 rfl dX8_not4_34 ?_
      refine v_iconst (v := 1) G dX8_not4_37 rfl ?_
      refine v_isub G dX8_not4_38 ?_
      refine m_putI G 24 (by decide) q1318 rfl rfl rfl dX8_not4_39 ?_
      have hS42 : ST F n b 4 (p_not b n (p_lev b n 0) (p_add b n (p_term b n (p_atom b n (p_lev b n 0)))) (nxS b n t)).2 (mset σ28 24 0 ((σ28.1 24 0) - 1)) := ST_cl h28_s (ix_sub h28_s.2.2 (ix_lit 1 rfl) (by omega))
      refine v_iload_n G 0 dX8_not4_42 rfl ?_
      refine v_if_ne (tgt := 50) G dX8_not4_43 (by decide) (fun h43 => ?_) (fun h43 => ?_)
      · refine v_iconst (v := 0) G dX8_not4_50 rfl ?_
        refine RET _ _ _ _ _ _ rfl (Nat.le_of_ble_eq_true rfl) (Nat.le_of_ble_eq_true rfl) dX8_not4_51 (fun ws hw => ⟨_, hw, ?_⟩)
        clear RET G hT hnm
        rw [show p_not b n (p_lev b n 1) (p_add b n (p_term b n (p_atom b n (p_lev b n 1)))) t = _ from p_not_1 h12_h]
        exact ⟨by first | exact if_pos h43 | exact if_neg h43, hS42, (ag_tr (ag_tr (ag_tr ag_rf h19_a) h28_a) (ag_set (by decide)))⟩
      · refine v_iconst (v := 1) G dX8_not4_46 rfl ?_
        refine v_goto (tgt := 51) G dX8_not4_47 (by decide) ?_
        refine RET _ _ _ _ _ _ rfl (Nat.le_of_ble_eq_true rfl) (Nat.le_of_ble_eq_true rfl) dX8_not4_51 (fun ws hw => ⟨_, hw, ?_⟩)
        clear RET G hT hnm
        rw [show p_not b n (p_lev b n 1) (p_add b n (p_term b n (p_atom b n (p_lev b n 1)))) t = _ from p_not_1 h12_h]
        exact ⟨by first | exact if_pos h43 | exact if_neg h43, hS42, (ag_tr (ag_tr (ag_tr ag_rf h19_a) h28_a) (ag_set (by decide)))⟩
    · exact False.elim (by exact absurd h19_k (by decide))
  · refine v_if_eq (tgt := 52) G dX8_not4_15 (by decide) (fun h15 => ?_) (fun h15 => absurd h15 (by decide))
    refine v_aload_n G 0 dX8_not4_52 rfl ?_
    refine w_callVi G hK hT (kX8_added4 hK l dC dI ct ad σ F n b t hS) (ck_X8_260 G.2.2.2.2.1 ⟨Nat.le_of_ble_eq_true rfl, Nat.le_of_ble_eq_true rfl⟩) m_recv (fun _ h => h) rfl [] rfl (Nat.le_of_ble_eq_true rfl) dX8_not4_53 ⟨Nat.le_of_ble_eq_true rfl, Nat.le_of_ble_eq_true rfl⟩ (k1 := 0) (n1 := 0) rfl rfl ?_
    rintro r53 σ53 ⟨rfl, h53_s, h53_a⟩
    refine v_topr (x2 := .int ((p_add b n (p_term b n (p_atom b n (p_lev b n 1))) t).1 (envS σ))) (congrArg Value.int (congrArg (p_add b n (p_term b n (p_atom b n (p_lev b n 1))) t).1 (envS_ag ag_rf))) ?_
    refine v_istore_n (L' := [(1, .int ((p_add b n (p_term b n (p_atom b n (p_lev b n 1))) t).1 (envS σ))), (0, .ref (ad 43))]) G dX8_not4_56 (by decide) rfl ?_
    refine v_aload_n G 1 dX8_not4_57 rfl ?_
    refine v_bipush (v := 60) G dX8_not4_58 rfl ?_
    refine w_callVi G hK hT (kX8_isSignS hK l dC dI ct ad σ53 F n b 4 ((p_add b n (p_term b n (p_atom b n (p_lev b n 1))) t).2) 60 h53_s) (ck_X8_221 G.2.2.2.2.1 ⟨Nat.le_of_ble_eq_true rfl, Nat.le_of_ble_eq_true rfl⟩) m_recv (fun _ h => h) rfl [] rfl (Nat.le_of_ble_eq_true rfl) dX8_not4_60 ⟨Nat.le_of_ble_eq_true rfl, Nat.le_of_ble_eq_true rfl⟩ (k1 := 0) (n1 := 0) rfl rfl ?_
    rintro r60 σ60 (⟨rfl, rfl, h60_h⟩ | ⟨rfl, rfl, h60_h⟩)
    · refine v_if_ne (tgt := 77) G dX8_not4_63 (by decide) (fun h63 => ?_) (fun h63 => absurd h63 (by decide))
      refine v_aload_n G 1 dX8_not4_77 rfl ?_
      refine m_get (v := .long (σ53.2 23 0)) G 23 (by decide) rfl q1317 rfl dX8_not4_78 ?_
      refine v_ldc2 G q1559 dX8_not4_81 ?_
      refine v_lcmp G dX8_not4_84 ?_
      refine v_if_ne (tgt := 92) G dX8_not4_85 (by decide) (fun h85 => False.elim (by exact h85 ((le_of_lcmp _ _).1.mpr (tk_sgv h53_s.2.1 h60_h)))) (fun h85 => ?_)
      refine v_iconst (v := 1) G dX8_not4_88 rfl ?_
      refine v_goto (tgt := 93) G dX8_not4_89 (by decide) ?_
      refine v_istore_n (L' := [(2, .int 1), (1, .int ((p_add b n (p_term b n (p_atom b n (p_lev b n 1))) t).1 (envS σ))), (0, .ref (ad 43))]) G dX8_not4_93 (by decide) rfl ?_
      refine v_aload_n G 2 dX8_not4_94 rfl ?_
      refine w_callVv G hK hT (kX8_nextS hK l dC dI ct ad σ53 F n b 4 ((p_add b n (p_term b n (p_atom b n (p_lev b n 1))) t).2) h53_s (kd_tk h60_h (by decide))) (ck_X8_196 G.2.2.2.2.1 ⟨Nat.le_of_ble_eq_true rfl, Nat.le_of_ble_eq_true rfl⟩) m_recv (fun _ h => h) rfl [] rfl (Nat.le_of_ble_eq_true rfl) dX8_not4_95 ⟨Nat.le_of_ble_eq_true rfl, Nat.le_of_ble_eq_true rfl⟩ (k1 := 0) (n1 := 0) rfl rfl ?_
      rintro σ95 ⟨h95_s, h95_a, h95_b⟩
      refine v_aload_n G 2 dX8_not4_98 rfl ?_
      refine w_callVi G hK hT (kX8_added4 hK l dC dI ct ad σ95 F n b (nxS b n (p_add b n (p_term b n (p_atom b n (p_lev b n 1))) t).2) h95_s) (ck_X8_260 G.2.2.2.2.1 ⟨Nat.le_of_ble_eq_true rfl, Nat.le_of_ble_eq_true rfl⟩) m_recv (fun _ h => h) rfl [] rfl (Nat.le_of_ble_eq_true rfl) dX8_not4_99 ⟨Nat.le_of_ble_eq_true rfl, Nat.le_of_ble_eq_true rfl⟩ (k1 := 0) (n1 := 0) rfl rfl ?_
      rintro r99 σ99 ⟨rfl, h99_s, h99_a⟩
      refine v_topr (x2 := .int ((p_add b n (p_term b n (p_atom b n (p_lev b n 1))) (nxS b n (p_add b n (p_term b n (p_atom b n (p_lev b n 1))) t).2)).1 (envS σ))) (congrArg Value.int (congrArg (p_add b n (p_term b n (p_atom b n (p_lev b n 1))) (nxS b n (p_add b n (p_term b n (p_atom b n (p_lev b n 1))) t).2)).1 (envS_ag (ag_tr (ag_tr ag_rf h53_a) h95_a)))) ?_
      refine v_istore_n (L' := [(3, .int ((p_add b n (p_term b n (p_atom b n (p_lev b n 1))) (nxS b n (p_add b n (p_term b n (p_atom b n (p_lev b n 1))) t).2)).1 (envS σ))), (2, .int 1), (1, .int ((p_add b n (p_term b n (p_atom b n (p_lev b n 1))) t).1 (envS σ))), (0, .ref (ad 43))]) G dX8_not4_102 (by decide) rfl ?_
      refine v_iload_n G 1 dX8_not4_103 rfl ?_
      refine v_if_eq (tgt := 115) G dX8_not4_104 (by decide) (fun h104 => absurd h104 (by decide)) (fun h104 => ?_)
      refine v_iload_n G 2 dX8_not4_107 rfl ?_
      refine v_iload_n G 0 dX8_not4_108 rfl ?_
      refine v_icmp_ge (tgt := 124) G dX8_not4_109 (by decide) (fun h109 => ?_) (fun h109 => ?_)
      · refine v_iconst (v := 0) G dX8_not4_124 rfl ?_
        refine RET _ _ _ _ _ _ rfl (Nat.le_of_ble_eq_true rfl) (Nat.le_of_ble_eq_true rfl) dX8_not4_125 (fun ws hw => ⟨_, hw, ?_⟩)
        clear RET G hT hnm
        rw [show p_not b n (p_lev b n 1) (p_add b n (p_term b n (p_atom b n (p_lev b n 1)))) t = _ from p_not_l h12_h h60_h]
        exact ⟨(by first | exact if_pos (by first | assumption | exact Int32.not_le.mp h109) | exact if_neg (by first | assumption | exact Int32.not_lt.mpr h109)), h99_s, (ag_tr (ag_tr (ag_tr ag_rf h53_a) h95_a) h99_a)⟩
      · refine v_goto (tgt := 120) G dX8_not4_112 (by decide) ?_
        refine v_iconst (v := 1) G dX8_not4_120 rfl ?_
        refine v_goto (tgt := 125) G dX8_not4_121 (by decide) ?_
        refine RET _ _ _ _ _ _ rfl (Nat.le_of_ble_eq_true rfl) (Nat.le_of_ble_eq_true rfl) dX8_not4_125 (fun ws hw => ⟨_, hw, ?_⟩)
        clear RET G hT hnm
        rw [show p_not b n (p_lev b n 1) (p_add b n (p_term b n (p_atom b n (p_lev b n 1)))) t = _ from p_not_l h12_h h60_h]
        exact ⟨(by first | exact if_pos (by first | assumption | exact Int32.not_le.mp h109) | exact if_neg (by first | assumption | exact Int32.not_lt.mpr h109)), h99_s, (ag_tr (ag_tr (ag_tr ag_rf h53_a) h95_a) h99_a)⟩
    · refine v_if_ne (tgt := 77) G dX8_not4_63 (by decide) (fun h63 => absurd h63 (by decide)) (fun h63 => ?_)
      refine v_aload_n G 1 dX8_not4_66 rfl ?_
      refine v_bipush (v := 61) G dX8_not4_67 rfl ?_
      refine w_callVi G hK hT (kX8_isSignS hK l dC dI ct ad σ53 F n b 4 ((p_add b n (p_term b n (p_atom b n (p_lev b n 1))) t).2) 61 h53_s) (ck_X8_221 G.2.2.2.2.1 ⟨Nat.le_of_ble_eq_true rfl, Nat.le_of_ble_eq_true rfl⟩) m_recv (fun _ h => h) rfl [] rfl (Nat.le_of_ble_eq_true rfl) dX8_not4_69 ⟨Nat.le_of_ble_eq_true rfl, Nat.le_of_ble_eq_true rfl⟩ (k1 := 0) (n1 := 0) rfl rfl ?_
      rintro r69 σ69 (⟨rfl, rfl, h69_h⟩ | ⟨rfl, rfl, h69_h⟩)
      · refine v_if_ne (tgt := 77) G dX8_not4_72 (by decide) (fun h72 => ?_) (fun h72 => absurd h72 (by decide))
        refine v_aload_n G 1 dX8_not4_77 rfl ?_
        refine m_get (v := .long (σ53.2 23 0)) G 23 (by decide) rfl q1317 rfl dX8_not4_78 ?_
        refine v_ldc2 G q1559 dX8_not4_81 ?_
        refine v_lcmp G dX8_not4_84 ?_
        refine v_if_ne (tgt := 92) G dX8_not4_85 (by decide) (fun h85 => ?_) (fun h85 => False.elim (by have hz := (le_of_lcmp _ _).1.mp h85; rw [tk_sgv h53_s.2.1 h69_h] at hz; exact absurd hz (by decide)))
        refine v_iconst (v := 0) G dX8_not4_92 rfl ?_
        refine v_istore_n (L' := [(2, .int 0), (1, .int ((p_add b n (p_term b n (p_atom b n (p_lev b n 1))) t).1 (envS σ))), (0, .ref (ad 43))]) G dX8_not4_93 (by decide) rfl ?_
        refine v_aload_n G 2 dX8_not4_94 rfl ?_
        refine w_callVv G hK hT (kX8_nextS hK l dC dI ct ad σ53 F n b 4 ((p_add b n (p_term b n (p_atom b n (p_lev b n 1))) t).2) h53_s (kd_tk h69_h (by decide))) (ck_X8_196 G.2.2.2.2.1 ⟨Nat.le_of_ble_eq_true rfl, Nat.le_of_ble_eq_true rfl⟩) m_recv (fun _ h => h) rfl [] rfl (Nat.le_of_ble_eq_true rfl) dX8_not4_95 ⟨Nat.le_of_ble_eq_true rfl, Nat.le_of_ble_eq_true rfl⟩ (k1 := 0) (n1 := 0) rfl rfl ?_
        rintro σ95 ⟨h95_s, h95_a, h95_b⟩
        refine v_aload_n G 2 dX8_not4_98 rfl ?_
        refine w_callVi G hK hT (kX8_added4 hK l dC dI ct ad σ95 F n b (nxS b n (p_add b n (p_term b n (p_atom b n (p_lev b n 1))) t).2) h95_s) (ck_X8_260 G.2.2.2.2.1 ⟨Nat.le_of_ble_eq_true rfl, Nat.le_of_ble_eq_true rfl⟩) m_recv (fun _ h => h) rfl [] rfl (Nat.le_of_ble_eq_true rfl) dX8_not4_99 ⟨Nat.le_of_ble_eq_true rfl, Nat.le_of_ble_eq_true rfl⟩ (k1 := 0) (n1 := 0) rfl rfl ?_
        rintro r99 σ99 ⟨rfl, h99_s, h99_a⟩
        refine v_topr (x2 := .int ((p_add b n (p_term b n (p_atom b n (p_lev b n 1))) (nxS b n (p_add b n (p_term b n (p_atom b n (p_lev b n 1))) t).2)).1 (envS σ))) (congrArg Value.int (congrArg (p_add b n (p_term b n (p_atom b n (p_lev b n 1))) (nxS b n (p_add b n (p_term b n (p_atom b n (p_lev b n 1))) t).2)).1 (envS_ag (ag_tr (ag_tr ag_rf h53_a) h95_a)))) ?_
        refine v_istore_n (L' := [(3, .int ((p_add b n (p_term b n (p_atom b n (p_lev b n 1))) (nxS b n (p_add b n (p_term b n (p_atom b n (p_lev b n 1))) t).2)).1 (envS σ))), (2, .int 0), (1, .int ((p_add b n (p_term b n (p_atom b n (p_lev b n 1))) t).1 (envS σ))), (0, .ref (ad 43))]) G dX8_not4_102 (by decide) rfl ?_
        refine v_iload_n G 1 dX8_not4_103 rfl ?_
        refine v_if_eq (tgt := 115) G dX8_not4_104 (by decide) (fun h104 => ?_) (fun h104 => absurd h104 (by decide))
        refine v_iload_n G 2 dX8_not4_115 rfl ?_
        refine v_iload_n G 0 dX8_not4_116 rfl ?_
        refine v_icmp_ne (tgt := 124) G dX8_not4_117 (by decide) (fun h117 => ?_) (fun h117 => ?_)
        · refine v_iconst (v := 0) G dX8_not4_124 rfl ?_
          refine RET _ _ _ _ _ _ rfl (Nat.le_of_ble_eq_true rfl) (Nat.le_of_ble_eq_true rfl) dX8_not4_125 (fun ws hw => ⟨_, hw, ?_⟩)
          clear RET G hT hnm
          rw [show p_not b n (p_lev b n 1) (p_add b n (p_term b n (p_atom b n (p_lev b n 1)))) t = _ from p_not_e h12_h h60_h h69_h]
          exact ⟨(by first | exact if_pos h117 | exact if_neg h117), h99_s, (ag_tr (ag_tr (ag_tr ag_rf h53_a) h95_a) h99_a)⟩
        · refine v_iconst (v := 1) G dX8_not4_120 rfl ?_
          refine v_goto (tgt := 125) G dX8_not4_121 (by decide) ?_
          refine RET _ _ _ _ _ _ rfl (Nat.le_of_ble_eq_true rfl) (Nat.le_of_ble_eq_true rfl) dX8_not4_125 (fun ws hw => ⟨_, hw, ?_⟩)
          clear RET G hT hnm
          rw [show p_not b n (p_lev b n 1) (p_add b n (p_term b n (p_atom b n (p_lev b n 1)))) t = _ from p_not_e h12_h h60_h h69_h]
          exact ⟨(by first | exact if_pos h117 | exact if_neg h117), h99_s, (ag_tr (ag_tr (ag_tr ag_rf h53_a) h95_a) h99_a)⟩
      · refine v_if_ne (tgt := 77) G dX8_not4_72 (by decide) (fun h72 => absurd h72 (by decide)) (fun h72 => ?_)
        refine v_iload_n G 0 dX8_not4_75 rfl ?_
        refine RET _ _ _ _ _ _ rfl (Nat.le_of_ble_eq_true rfl) (Nat.le_of_ble_eq_true rfl) dX8_not4_76 (fun ws hw => ⟨_, hw, ?_⟩)
        clear RET G hT hnm
        rw [show p_not b n (p_lev b n 1) (p_add b n (p_term b n (p_atom b n (p_lev b n 1)))) t = _ from p_not_x h12_h h60_h h69_h]
        exact ⟨rfl, h53_s, (ag_tr ag_rf h53_a)⟩
abbrev rmX8_both4 : Room := { frames := 14, cells := 0, slots := 0, locals := 311 }
set_option maxHeartbeats 4000000 in
theorem kX8_both4 {KT : (Nat → Prop) → State → Heap → Prop} (hK : KTok KT) (l : Launch) (dC : Nat → ClassId) (dI : Nat → Nat → Nat) (ct ad : Nat → Nat) (σ : MS) (F : Nat) (n : Nat) (b : Nat → Int32) (t : PS) (hS : ST F n b 4 t σ) : MC KT (dC, dI) vwCl (tysF ct) l yX8_both4 cX8_both4 3 (some .int) rmX8_both4 [.ref (ad 43)] (RM ct ad σ) (QI_ (dC, dI) vwCl (RM ct ad) (fun (r : Int32) (σ' : MS) => ((p_both b n (p_not b n (p_lev b n 1) (p_add b n (p_term b n (p_atom b n (p_lev b n 1))))) t).1 (envS σ)) = r ∧ ST F n b 4 (p_both b n (p_not b n (p_lev b n 1) (p_add b n (p_term b n (p_atom b n (p_lev b n 1))))) t).2 σ' ∧ ag pfr σ σ')) := by
  refine MC.ofI (own := RX8) pl_X8 rfl (Nat.le_of_ble_eq_true rfl) ?_
  intro pp ee ss mm aa bb hh cc AA QQ G hT hnm RET
  refine v_loc (L' := [(0, .ref (ad 43))]) rfl ?_
  refine v_aload_n G 0 dX8_both4_0 rfl ?_
  refine w_callVi G hK hT (kX8_not4 hK l dC dI ct ad σ F n b t hS) (ck_X8_263 G.2.2.2.2.1 ⟨Nat.le_of_ble_eq_true rfl, Nat.le_of_ble_eq_true rfl⟩) m_recv (fun _ h => h) rfl [] rfl (Nat.le_of_ble_eq_true rfl) dX8_both4_1 ⟨Nat.le_of_ble_eq_true rfl, Nat.le_of_ble_eq_true rfl⟩ (k1 := 0) (n1 := 0) rfl rfl ?_
  rintro r1 σ1 ⟨rfl, h1_s, h1_a⟩
  refine v_topr (x2 := .int ((p_not b n (p_lev b n 1) (p_add b n (p_term b n (p_atom b n (p_lev b n 1)))) t).1 (envS σ))) (congrArg Value.int (congrArg (p_not b n (p_lev b n 1) (p_add b n (p_term b n (p_atom b n (p_lev b n 1)))) t).1 (envS_ag ag_rf))) ?_
  refine v_istore_n (L' := [(1, .int ((p_not b n (p_lev b n 1) (p_add b n (p_term b n (p_atom b n (p_lev b n 1)))) t).1 (envS σ))), (0, .ref (ad 43))]) G dX8_both4_4 (by decide) rfl ?_
  have loop5 : ∀ (dd : Nat) (f : Nat) (v : SF) (t1 : PS) (τ : MS), (ST F n b 4 t1 τ) → (ag pfr σ τ) → (mu n t1 < f) → (p_bothL b n (p_not b n (p_lev b n 1) (p_add b n (p_term b n (p_atom b n (p_lev b n 1))))) f v t1 = p_both b n (p_not b n (p_lev b n 1) (p_add b n (p_term b n (p_atom b n (p_lev b n 1))))) t) → f < dd → V_ pp l ee rmX8_both4 ss mm aa bb hh cc 3 (dC, dI) vwCl AA QQ 0 0 (RM ct ad τ) 5 [(1, .int (v (envS σ))), (0, .ref (ad 43))] [] := by
    intro dd
    induction dd with
    | zero => intro f v t1 τ hs ha hm he hdd; exact absurd hdd (Nat.not_lt_zero _)
    | succ dd ih5 =>
      intro f v t1 τ hs ha hm he hdd
      obtain ⟨f, rfl⟩ : ∃ g, f = g + 1 := ⟨f - 1, by omega⟩
      refine v_aload_n G 1 dX8_both4_5 rfl ?_
      refine v_bipush (v := 97) G dX8_both4_6 rfl ?_
      refine v_bipush (v := 110) G dX8_both4_8 rfl ?_
      refine v_bipush (v := 100) G dX8_both4_10 rfl ?_
      refine v_iconst (v := 0) G dX8_both4_12 rfl ?_
      refine v_iconst (v := 0) G dX8_both4_13 rfl ?_
      refine v_iconst (v := 0) G dX8_both4_14 rfl ?_
      refine v_iconst (v := 0) G dX8_both4_15 rfl ?_
      refine v_iconst (v := 0) G dX8_both4_16 rfl ?_
      refine w_callVi G hK hT (kX8_isWordS hK l dC dI ct ad τ F n b 4 t1 1 4 97 110 100 0 0 0 0 0 hs (⟨(1, 4, [97, 110, 100, 0, 0, 0, 0, 0]), by decide +kernel, rfl, rfl, rfl⟩)) (ck_X8_199 G.2.2.2.2.1 ⟨Nat.le_of_ble_eq_true rfl, Nat.le_of_ble_eq_true rfl⟩) m_recv (fun _ h => h) rfl [] rfl (Nat.le_of_ble_eq_true rfl) dX8_both4_17 ⟨Nat.le_of_ble_eq_true rfl, Nat.le_of_ble_eq_true rfl⟩ (k1 := 0) (n1 := 0) rfl rfl ?_
      rintro r17 σ17 (⟨rfl, rfl, h17_h⟩ | ⟨rfl, rfl, h17_h⟩)
      · refine v_if_eq (tgt := 49) G dX8_both4_20 (by decide) (fun h20 => absurd h20 (by decide)) (fun h20 => ?_)
        refine v_aload_n G 1 dX8_both4_23 rfl ?_
        refine w_callVv G hK hT (kX8_nextS hK l dC dI ct ad τ F n b 4 t1 hs (kd_tk h17_h (by decide))) (ck_X8_196 G.2.2.2.2.1 ⟨Nat.le_of_ble_eq_true rfl, Nat.le_of_ble_eq_true rfl⟩) m_recv (fun _ h => h) rfl [] rfl (Nat.le_of_ble_eq_true rfl) dX8_both4_24 ⟨Nat.le_of_ble_eq_true rfl, Nat.le_of_ble_eq_true rfl⟩ (k1 := 0) (n1 := 0) rfl rfl ?_
        rintro σ24 ⟨h24_s, h24_a, h24_b⟩
        refine v_aload_n G 1 dX8_both4_27 rfl ?_
        refine w_callVi G hK hT (kX8_not4 hK l dC dI ct ad σ24 F n b (nxS b n t1) h24_s) (ck_X8_263 G.2.2.2.2.1 ⟨Nat.le_of_ble_eq_true rfl, Nat.le_of_ble_eq_true rfl⟩) m_recv (fun _ h => h) rfl [] rfl (Nat.le_of_ble_eq_true rfl) dX8_both4_28 ⟨Nat.le_of_ble_eq_true rfl, Nat.le_of_ble_eq_true rfl⟩ (k1 := 0) (n1 := 0) rfl rfl ?_
        rintro r28 σ28 ⟨rfl, h28_s, h28_a⟩
        refine v_topr (x2 := .int ((p_not b n (p_lev b n 1) (p_add b n (p_term b n (p_atom b n (p_lev b n 1)))) (nxS b n t1)).1 (envS σ))) (congrArg Value.int (congrArg (p_not b n (p_lev b n 1) (p_add b n (p_term b n (p_atom b n (p_lev b n 1)))) (nxS b n t1)).1 (envS_ag (ag_tr ha h24_a)))) ?_
        refine v_istore_n (L' := [(2, .int ((p_not b n (p_lev b n 1) (p_add b n (p_term b n (p_atom b n (p_lev b n 1)))) (nxS b n t1)).1 (envS σ))), (1, .int (v (envS σ))), (0, .ref (ad 43))]) G dX8_both4_31 (by decide) rfl ?_
        refine v_iload_n G 1 dX8_both4_32 rfl ?_
        refine v_if_eq (tgt := 44) G dX8_both4_33 (by decide) (fun h33 => ?_) (fun h33 => ?_)
        · refine v_iconst (v := 0) G dX8_both4_44 rfl ?_
          refine v_istore_n (L' := [(1, .int 0), (2, .int ((p_not b n (p_lev b n 1) (p_add b n (p_term b n (p_atom b n (p_lev b n 1)))) (nxS b n t1)).1 (envS σ))), (0, .ref (ad 43))]) G dX8_both4_45 (by decide) rfl ?_
          refine v_goto (tgt := 5) G dX8_both4_46 (by decide) ?_
          refine V_.sub (L' := [(1, .int 0), (0, .ref (ad 43))]) ?_ [0, 2] rfl
          refine v_loc (L' := [(1, .int ((fun e => if v e ≠ 0 ∧ (p_not b n (p_lev b n 1) (p_add b n (p_term b n (p_atom b n (p_lev b n 1)))) (nxS b n t1)).1 e ≠ 0 then 1 else 0) (envS σ))), (0, .ref (ad 43))]) (by dsimp only; first | rw [if_pos (by exact ⟨h33, h37⟩)] | rw [if_neg (by rintro ⟨q1, q2⟩; first | exact q1 h33 | exact q2 h37)]) ?_
          exact ih5  f (fun e => if v e ≠ 0 ∧ (p_not b n (p_lev b n 1) (p_add b n (p_term b n (p_atom b n (p_lev b n 1)))) (nxS b n t1)).1 e ≠ 0 then 1 else 0) ((p_not b n (p_lev b n 1) (p_add b n (p_term b n (p_atom b n (p_lev b n 1)))) (nxS b n t1)).2) σ28 h28_s (ag_tr (ag_tr ha h24_a) h28_a) (mu_step (tk_wf hs.2.1) h17_h (by decide) (p_not_ok (p_lev_ok 1) (p_add_ok (p_term_ok (p_atom_ok (p_lev_ok 1))))) hm) (by rw [← he, p_bothL, if_pos h17_h]) (by omega)
        · refine v_iload_n G 0 dX8_both4_36 rfl ?_
          refine v_if_eq (tgt := 44) G dX8_both4_37 (by decide) (fun h37 => ?_) (fun h37 => ?_)
          · refine v_iconst (v := 0) G dX8_both4_44 rfl ?_
            refine v_istore_n (L' := [(1, .int 0), (2, .int ((p_not b n (p_lev b n 1) (p_add b n (p_term b n (p_atom b n (p_lev b n 1)))) (nxS b n t1)).1 (envS σ))), (0, .ref (ad 43))]) G dX8_both4_45 (by decide) rfl ?_
            refine v_goto (tgt := 5) G dX8_both4_46 (by decide) ?_
            refine V_.sub (L' := [(1, .int 0), (0, .ref (ad 43))]) ?_ [0, 2] rfl
            refine v_loc (L' := [(1, .int ((fun e => if v e ≠ 0 ∧ (p_not b n (p_lev b n 1) (p_add b n (p_term b n (p_atom b n (p_lev b n 1)))) (nxS b n t1)).1 e ≠ 0 then 1 else 0) (envS σ))), (0, .ref (ad 43))]) (by dsimp only; first | rw [if_pos (by exact ⟨h33, h37⟩)] | rw [if_neg (by rintro ⟨q1, q2⟩; first | exact q1 h33 | exact q2 h37)]) ?_
            exact ih5  f (fun e => if v e ≠ 0 ∧ (p_not b n (p_lev b n 1) (p_add b n (p_term b n (p_atom b n (p_lev b n 1)))) (nxS b n t1)).1 e ≠ 0 then 1 else 0) ((p_not b n (p_lev b n 1) (p_add b n (p_term b n (p_atom b n (p_lev b n 1)))) (nxS b n t1)).2) σ28 h28_s (ag_tr (ag_tr ha h24_a) h28_a) (mu_step (tk_wf hs.2.1) h17_h (by decide) (p_not_ok (p_lev_ok 1) (p_add_ok (p_term_ok (p_atom_ok (p_lev_ok 1))))) hm) (by rw [← he, p_bothL, if_pos h17_h]) (by omega)
          · refine v_iconst (v := 1) G dX8_both4_40 rfl ?_
            refine v_goto (tgt := 45) G dX8_both4_41 (by decide) ?_
            refine v_istore_n (L' := [(1, .int 1), (2, .int ((p_not b n (p_lev b n 1) (p_add b n (p_term b n (p_atom b n (p_lev b n 1)))) (nxS b n t1)).1 (envS σ))), (0, .ref (ad 43))]) G dX8_both4_45 (by decide) rfl ?_
            refine v_goto (tgt := 5) G dX8_both4_46 (by decide) ?_
            refine V_.sub (L' := [(1, .int 1), (0, .ref (ad 43))]) ?_ [0, 2] rfl
            refine v_loc (L' := [(1, .int ((fun e => if v e ≠ 0 ∧ (p_not b n (p_lev b n 1) (p_add b n (p_term b n (p_atom b n (p_lev b n 1)))) (nxS b n t1)).1 e ≠ 0 then 1 else 0) (envS σ))), (0, .ref (ad 43))]) (by dsimp only; first | rw [if_pos (by exact ⟨h33, h37⟩)] | rw [if_neg (by rintro ⟨q1, q2⟩; first | exact q1 h33 | exact q2 h37)]) ?_
            exact ih5  f (fun e => if v e ≠ 0 ∧ (p_not b n (p_lev b n 1) (p_add b n (p_term b n (p_atom b n (p_lev b n 1)))) (nxS b n t1)).1 e ≠ 0 then 1 else 0) ((p_not b n (p_lev b n 1) (p_add b n (p_term b n (p_atom b n (p_lev b n 1)))) (nxS b n t1)).2) σ28 h28_s (ag_tr (ag_tr ha h24_a) h28_a) (mu_step (tk_wf hs.2.1) h17_h (by decide) (p_not_ok (p_lev_ok 1) (p_add_ok (p_term_ok (p_atom_ok (p_lev_ok 1))))) hm) (by rw [← he, p_bothL, if_pos h17_h]) (by omega)
      · refine v_if_eq (tgt := 49) G dX8_both4_20 (by decide) (fun h20 => ?_) (fun h20 => absurd h20 (by decide))
        refine v_iload_n G 0 dX8_both4_49 rfl ?_
        refine RET _ _ _ _ _ _ rfl (Nat.le_of_ble_eq_true rfl) (Nat.le_of_ble_eq_true rfl) dX8_both4_50 (fun ws hw => ⟨_, hw, ?_⟩)
        clear RET G hT hnm
        rw [show p_both b n (p_not b n (p_lev b n 1) (p_add b n (p_term b n (p_atom b n (p_lev b n 1))))) t = (v, t1) by rw [← he, p_bothL, if_neg (by rw [h17_h]; decide)]]
        exact ⟨rfl, hs, ha⟩
  refine V_.sub (L' := [(1, .int ((p_not b n (p_lev b n 1) (p_add b n (p_term b n (p_atom b n (p_lev b n 1)))) t).1 (envS σ))), (0, .ref (ad 43))]) ?_ [0, 1] rfl
  refine v_loc (L' := [(1, .int (((p_not b n (p_lev b n 1) (p_add b n (p_term b n (p_atom b n (p_lev b n 1)))) t).1) (envS σ))), (0, .ref (ad 43))]) (rfl) ?_
  exact loop5 _ (n + 2) ((p_not b n (p_lev b n 1) (p_add b n (p_term b n (p_atom b n (p_lev b n 1)))) t).1) ((p_not b n (p_lev b n 1) (p_add b n (p_term b n (p_atom b n (p_lev b n 1)))) t).2) σ1 h1_s h1_a (by have := mu_le (n := n) (s := (p_not b n (p_lev b n 1) (p_add b n (p_term b n (p_atom b n (p_lev b n 1)))) t).2); omega) rfl (Nat.lt_succ_self _)
abbrev rmX8_either4 : Room := { frames := 15, cells := 0, slots := 0, locals := 333 }
set_option maxHeartbeats 4000000 in
theorem kX8_either4 {KT : (Nat → Prop) → State → Heap → Prop} (hK : KTok KT) (l : Launch) (dC : Nat → ClassId) (dI : Nat → Nat → Nat) (ct ad : Nat → Nat) (σ : MS) (F : Nat) (n : Nat) (b : Nat → Int32) (t : PS) (hS : ST F n b 4 t σ) : MC KT (dC, dI) vwCl (tysF ct) l yX8_either4 cX8_either4 3 (some .int) rmX8_either4 [.ref (ad 43)] (RM ct ad σ) (QI_ (dC, dI) vwCl (RM ct ad) (fun (r : Int32) (σ' : MS) => ((p_eith b n (p_both b n (p_not b n (p_lev b n 1) (p_add b n (p_term b n (p_atom b n (p_lev b n 1)))))) t).1 (envS σ)) = r ∧ ST F n b 4 (p_eith b n (p_both b n (p_not b n (p_lev b n 1) (p_add b n (p_term b n (p_atom b n (p_lev b n 1)))))) t).2 σ' ∧ ag pfr σ σ')) := by
  refine MC.ofI (own := RX8) pl_X8 rfl (Nat.le_of_ble_eq_true rfl) ?_
  intro pp ee ss mm aa bb hh cc AA QQ G hT hnm RET
  refine v_loc (L' := [(0, .ref (ad 43))]) rfl ?_
  refine v_aload_n G 0 dX8_either4_0 rfl ?_
  refine w_callVi G hK hT (kX8_both4 hK l dC dI ct ad σ F n b t hS) (ck_X8_266 G.2.2.2.2.1 ⟨Nat.le_of_ble_eq_true rfl, Nat.le_of_ble_eq_true rfl⟩) m_recv (fun _ h => h) rfl [] rfl (Nat.le_of_ble_eq_true rfl) dX8_either4_1 ⟨Nat.le_of_ble_eq_true rfl, Nat.le_of_ble_eq_true rfl⟩ (k1 := 0) (n1 := 0) rfl rfl ?_
  rintro r1 σ1 ⟨rfl, h1_s, h1_a⟩
  refine v_topr (x2 := .int ((p_both b n (p_not b n (p_lev b n 1) (p_add b n (p_term b n (p_atom b n (p_lev b n 1))))) t).1 (envS σ))) (congrArg Value.int (congrArg (p_both b n (p_not b n (p_lev b n 1) (p_add b n (p_term b n (p_atom b n (p_lev b n 1))))) t).1 (envS_ag ag_rf))) ?_
  refine v_istore_n (L' := [(1, .int ((p_both b n (p_not b n (p_lev b n 1) (p_add b n (p_term b n (p_atom b n (p_lev b n 1))))) t).1 (envS σ))), (0, .ref (ad 43))]) G dX8_either4_4 (by decide) rfl ?_
  have loop5 : ∀ (dd : Nat) (f : Nat) (v : SF) (t1 : PS) (τ : MS), (ST F n b 4 t1 τ) → (ag pfr σ τ) → (mu n t1 < f) → (p_eithL b n (p_both b n (p_not b n (p_lev b n 1) (p_add b n (p_term b n (p_atom b n (p_lev b n 1)))))) f v t1 = p_eith b n (p_both b n (p_not b n (p_lev b n 1) (p_add b n (p_term b n (p_atom b n (p_lev b n 1)))))) t) → f < dd → V_ pp l ee rmX8_either4 ss mm aa bb hh cc 3 (dC, dI) vwCl AA QQ 0 0 (RM ct ad τ) 5 [(1, .int (v (envS σ))), (0, .ref (ad 43))] [] := by
    intro dd
    induction dd with
    | zero => intro f v t1 τ hs ha hm he hdd; exact absurd hdd (Nat.not_lt_zero _)
    | succ dd ih5 =>
      intro f v t1 τ hs ha hm he hdd
      obtain ⟨f, rfl⟩ : ∃ g, f = g + 1 := ⟨f - 1, by omega⟩
      refine v_aload_n G 1 dX8_either4_5 rfl ?_
      refine v_bipush (v := 111) G dX8_either4_6 rfl ?_
      refine v_bipush (v := 114) G dX8_either4_8 rfl ?_
      refine v_iconst (v := 0) G dX8_either4_10 rfl ?_
      refine v_iconst (v := 0) G dX8_either4_11 rfl ?_
      refine v_iconst (v := 0) G dX8_either4_12 rfl ?_
      refine v_iconst (v := 0) G dX8_either4_13 rfl ?_
      refine v_iconst (v := 0) G dX8_either4_14 rfl ?_
      refine v_iconst (v := 0) G dX8_either4_15 rfl ?_
      refine w_callVi G hK hT (kX8_isWordS hK l dC dI ct ad τ F n b 4 t1 1 3 111 114 0 0 0 0 0 0 hs (⟨(1, 3, [111, 114, 0, 0, 0, 0, 0, 0]), by decide +kernel, rfl, rfl, rfl⟩)) (ck_X8_199 G.2.2.2.2.1 ⟨Nat.le_of_ble_eq_true rfl, Nat.le_of_ble_eq_true rfl⟩) m_recv (fun _ h => h) rfl [] rfl (Nat.le_of_ble_eq_true rfl) dX8_either4_16 ⟨Nat.le_of_ble_eq_true rfl, Nat.le_of_ble_eq_true rfl⟩ (k1 := 0) (n1 := 0) rfl rfl ?_
      rintro r16 σ16 (⟨rfl, rfl, h16_h⟩ | ⟨rfl, rfl, h16_h⟩)
      · refine v_if_eq (tgt := 48) G dX8_either4_19 (by decide) (fun h19 => absurd h19 (by decide)) (fun h19 => ?_)
        refine v_aload_n G 1 dX8_either4_22 rfl ?_
        refine w_callVv G hK hT (kX8_nextS hK l dC dI ct ad τ F n b 4 t1 hs (kd_tk h16_h (by decide))) (ck_X8_196 G.2.2.2.2.1 ⟨Nat.le_of_ble_eq_true rfl, Nat.le_of_ble_eq_true rfl⟩) m_recv (fun _ h => h) rfl [] rfl (Nat.le_of_ble_eq_true rfl) dX8_either4_23 ⟨Nat.le_of_ble_eq_true rfl, Nat.le_of_ble_eq_true rfl⟩ (k1 := 0) (n1 := 0) rfl rfl ?_
        rintro σ23 ⟨h23_s, h23_a, h23_b⟩
        refine v_aload_n G 1 dX8_either4_26 rfl ?_
        refine w_callVi G hK hT (kX8_both4 hK l dC dI ct ad σ23 F n b (nxS b n t1) h23_s) (ck_X8_266 G.2.2.2.2.1 ⟨Nat.le_of_ble_eq_true rfl, Nat.le_of_ble_eq_true rfl⟩) m_recv (fun _ h => h) rfl [] rfl (Nat.le_of_ble_eq_true rfl) dX8_either4_27 ⟨Nat.le_of_ble_eq_true rfl, Nat.le_of_ble_eq_true rfl⟩ (k1 := 0) (n1 := 0) rfl rfl ?_
        rintro r27 σ27 ⟨rfl, h27_s, h27_a⟩
        refine v_topr (x2 := .int ((p_both b n (p_not b n (p_lev b n 1) (p_add b n (p_term b n (p_atom b n (p_lev b n 1))))) (nxS b n t1)).1 (envS σ))) (congrArg Value.int (congrArg (p_both b n (p_not b n (p_lev b n 1) (p_add b n (p_term b n (p_atom b n (p_lev b n 1))))) (nxS b n t1)).1 (envS_ag (ag_tr ha h23_a)))) ?_
        refine v_istore_n (L' := [(2, .int ((p_both b n (p_not b n (p_lev b n 1) (p_add b n (p_term b n (p_atom b n (p_lev b n 1))))) (nxS b n t1)).1 (envS σ))), (1, .int (v (envS σ))), (0, .ref (ad 43))]) G dX8_either4_30 (by decide) rfl ?_
        refine v_iload_n G 1 dX8_either4_31 rfl ?_
        refine v_if_ne (tgt := 39) G dX8_either4_32 (by decide) (fun h32 => ?_) (fun h32 => ?_)
        · refine v_iconst (v := 1) G dX8_either4_39 rfl ?_
          refine v_goto (tgt := 44) G dX8_either4_40 (by decide) ?_
          refine v_istore_n (L' := [(1, .int 1), (2, .int ((p_both b n (p_not b n (p_lev b n 1) (p_add b n (p_term b n (p_atom b n (p_lev b n 1))))) (nxS b n t1)).1 (envS σ))), (0, .ref (ad 43))]) G dX8_either4_44 (by decide) rfl ?_
          refine v_goto (tgt := 5) G dX8_either4_45 (by decide) ?_
          refine V_.sub (L' := [(1, .int 1), (0, .ref (ad 43))]) ?_ [0, 2] rfl
          refine v_loc (L' := [(1, .int ((fun e => if v e ≠ 0 ∨ (p_both b n (p_not b n (p_lev b n 1) (p_add b n (p_term b n (p_atom b n (p_lev b n 1))))) (nxS b n t1)).1 e ≠ 0 then 1 else 0) (envS σ))), (0, .ref (ad 43))]) (by dsimp only; first | rw [if_pos (by first | exact Or.inl h32 | exact Or.inr h36)] | rw [if_neg (by rintro (q | q) <;> first | exact q h32 | exact q h36)]) ?_
          exact ih5  f (fun e => if v e ≠ 0 ∨ (p_both b n (p_not b n (p_lev b n 1) (p_add b n (p_term b n (p_atom b n (p_lev b n 1))))) (nxS b n t1)).1 e ≠ 0 then 1 else 0) ((p_both b n (p_not b n (p_lev b n 1) (p_add b n (p_term b n (p_atom b n (p_lev b n 1))))) (nxS b n t1)).2) σ27 h27_s (ag_tr (ag_tr ha h23_a) h27_a) (mu_step (tk_wf hs.2.1) h16_h (by decide) (p_both_ok (p_not_ok (p_lev_ok 1) (p_add_ok (p_term_ok (p_atom_ok (p_lev_ok 1)))))) hm) (by rw [← he, p_eithL, if_pos h16_h]) (by omega)
        · refine v_iload_n G 0 dX8_either4_35 rfl ?_
          refine v_if_eq (tgt := 43) G dX8_either4_36 (by decide) (fun h36 => ?_) (fun h36 => ?_)
          · refine v_iconst (v := 0) G dX8_either4_43 rfl ?_
            refine v_istore_n (L' := [(1, .int 0), (2, .int ((p_both b n (p_not b n (p_lev b n 1) (p_add b n (p_term b n (p_atom b n (p_lev b n 1))))) (nxS b n t1)).1 (envS σ))), (0, .ref (ad 43))]) G dX8_either4_44 (by decide) rfl ?_
            refine v_goto (tgt := 5) G dX8_either4_45 (by decide) ?_
            refine V_.sub (L' := [(1, .int 0), (0, .ref (ad 43))]) ?_ [0, 2] rfl
            refine v_loc (L' := [(1, .int ((fun e => if v e ≠ 0 ∨ (p_both b n (p_not b n (p_lev b n 1) (p_add b n (p_term b n (p_atom b n (p_lev b n 1))))) (nxS b n t1)).1 e ≠ 0 then 1 else 0) (envS σ))), (0, .ref (ad 43))]) (by dsimp only; first | rw [if_pos (by first | exact Or.inl h32 | exact Or.inr h36)] | rw [if_neg (by rintro (q | q) <;> first | exact q h32 | exact q h36)]) ?_
            exact ih5  f (fun e => if v e ≠ 0 ∨ (p_both b n (p_not b n (p_lev b n 1) (p_add b n (p_term b n (p_atom b n (p_lev b n 1))))) (nxS b n t1)).1 e ≠ 0 then 1 else 0) ((p_both b n (p_not b n (p_lev b n 1) (p_add b n (p_term b n (p_atom b n (p_lev b n 1))))) (nxS b n t1)).2) σ27 h27_s (ag_tr (ag_tr ha h23_a) h27_a) (mu_step (tk_wf hs.2.1) h16_h (by decide) (p_both_ok (p_not_ok (p_lev_ok 1) (p_add_ok (p_term_ok (p_atom_ok (p_lev_ok 1)))))) hm) (by rw [← he, p_eithL, if_pos h16_h]) (by omega)
          · refine v_iconst (v := 1) G dX8_either4_39 rfl ?_
            refine v_goto (tgt := 44) G dX8_either4_40 (by decide) ?_
            refine v_istore_n (L' := [(1, .int 1), (2, .int ((p_both b n (p_not b n (p_lev b n 1) (p_add b n (p_term b n (p_atom b n (p_lev b n 1))))) (nxS b n t1)).1 (envS σ))), (0, .ref (ad 43))]) G dX8_either4_44 (by decide) rfl ?_
            refine v_goto (tgt := 5) G dX8_either4_45 (by decide) ?_
            refine V_.sub (L' := [(1, .int 1), (0, .ref (ad 43))]) ?_ [0, 2] rfl
            refine v_loc (L' := [(1, .int ((fun e => if v e ≠ 0 ∨ (p_both b n (p_not b n (p_lev b n 1) (p_add b n (p_term b n (p_atom b n (p_lev b n 1))))) (nxS b n t1)).1 e ≠ 0 then 1 else 0) (envS σ))), (0, .ref (ad 43))]) (by dsimp only; first | rw [if_pos (by first | exact Or.inl h32 | exact Or.inr h36)] | rw [if_neg (by rintro (q | q) <;> first | exact q h32 | exact q h36)]) ?_
            exact ih5  f (fun e => if v e ≠ 0 ∨ (p_both b n (p_not b n (p_lev b n 1) (p_add b n (p_term b n (p_atom b n (p_lev b n 1))))) (nxS b n t1)).1 e ≠ 0 then 1 else 0) ((p_both b n (p_not b n (p_lev b n 1) (p_add b n (p_term b n (p_atom b n (p_lev b n 1))))) (nxS b n t1)).2) σ27 h27_s (ag_tr (ag_tr ha h23_a) h27_a) (mu_step (tk_wf hs.2.1) h16_h (by decide) (p_both_ok (p_not_ok (p_lev_ok 1) (p_add_ok (p_term_ok (p_atom_ok (p_lev_ok 1)))))) hm) (by rw [← he, p_eithL, if_pos h16_h]) (by omega)
      · refine v_if_eq (tgt := 48) G dX8_either4_19 (by decide) (fun h19 => ?_) (fun h19 => absurd h19 (by decide))
        refine v_iload_n G 0 dX8_either4_48 rfl ?_
        refine RET _ _ _ _ _ _ rfl (Nat.le_of_ble_eq_true rfl) (Nat.le_of_ble_eq_true rfl) dX8_either4_49 (fun ws hw => ⟨_, hw, ?_⟩)
        clear RET G hT hnm
        rw [show p_eith b n (p_both b n (p_not b n (p_lev b n 1) (p_add b n (p_term b n (p_atom b n (p_lev b n 1)))))) t = (v, t1) by rw [← he, p_eithL, if_neg (by rw [h16_h]; decide)]]
        exact ⟨rfl, hs, ha⟩
  refine V_.sub (L' := [(1, .int ((p_both b n (p_not b n (p_lev b n 1) (p_add b n (p_term b n (p_atom b n (p_lev b n 1))))) t).1 (envS σ))), (0, .ref (ad 43))]) ?_ [0, 1] rfl
  refine v_loc (L' := [(1, .int (((p_both b n (p_not b n (p_lev b n 1) (p_add b n (p_term b n (p_atom b n (p_lev b n 1))))) t).1) (envS σ))), (0, .ref (ad 43))]) (rfl) ?_
  exact loop5 _ (n + 2) ((p_both b n (p_not b n (p_lev b n 1) (p_add b n (p_term b n (p_atom b n (p_lev b n 1))))) t).1) ((p_both b n (p_not b n (p_lev b n 1) (p_add b n (p_term b n (p_atom b n (p_lev b n 1))))) t).2) σ1 h1_s h1_a (by have := mu_le (n := n) (s := (p_both b n (p_not b n (p_lev b n 1) (p_add b n (p_term b n (p_atom b n (p_lev b n 1))))) t).2); omega) rfl (Nat.lt_succ_self _)
