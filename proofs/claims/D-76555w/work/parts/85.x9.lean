set_option maxRecDepth 100000
abbrev rmX0_tastes : Room := { frames := 404, cells := 0, slots := 0, locals := 17045 }
set_option maxHeartbeats 1000000 in
theorem kX0_tastes {KT : (Nat → Prop) → State → Heap → Prop} (hK : KTx KT) (l : Launch) (dC : Nat → ClassId) (dI : Nat → Nat → Nat) (ct ad : Nat → Nat) (F : List (Nat × va_E)) (σ : MS) (x : Int32) (y : Int32) (hO : Ok (co σ)) : MC KT (dC, dI) vwCl (tysF ct) l yX0_tastes cX0_tastes 3 (some .int) rmX0_tastes [.ref (ad 0), .int x, .int y] (RX ct ad F σ) (QI_ (dC, dI) vwCl (RX ct ad F) (fun (r : Int32) (σ' : MS) => (s_tastes (co σ) x y) = r ∧ ag sfr σ σ')) := by
  refine MC.ofI (own := RX0) pl_X0 rfl (Nat.le_of_ble_eq_true rfl) ?_
  intro pp ee ss mm aa bb hh cc AA QQ G hT hnm RET
  refine v_loc (L' := [(0, .ref (ad 0)), (1, .int x), (2, .int y)]) rfl ?_
  obtain ⟨hm5, hm⟩ := many5 hO.1
  have hm : σ.1 11 0 = nI (s_many (co σ)) := hm
  refine v_aload_n G 0 dX0_tastes_0 rfl ?_
  refine v_iload_n G 1 dX0_tastes_1 rfl ?_
  refine w_callVi G hK.1 hT (kX0_isOne hK.1 l dC dI ct ad F σ (s_many (co σ)) x hm5 hm) (ck_X0_64 G.2.2.2.2.1 ⟨Nat.le_of_ble_eq_true rfl, Nat.le_of_ble_eq_true rfl⟩) x_recv (fun _ h => h) rfl [] rfl (Nat.le_of_ble_eq_true rfl) dX0_tastes_2 ⟨Nat.le_of_ble_eq_true rfl, Nat.le_of_ble_eq_true rfl⟩ (k1 := 0) (n1 := 0) rfl rfl ?_
  rintro r2 σ2 (⟨rfl, rfl, h2_h⟩ | ⟨rfl, rfl, h2_h⟩)
  · refine v_if_eq (tgt := 24) G dX0_tastes_5 (by decide) (fun h5 => absurd h5 (by decide)) (fun h5 => ?_)
    refine v_iload_n G 2 dX0_tastes_8 rfl ?_
    refine w_callSi G hK.1 hT (kX0_isRoad hK.1 l dC dI ct ad F σ y) (ck_X0_61 G.2.2.2.2.1 ⟨Nat.le_of_ble_eq_true rfl, Nat.le_of_ble_eq_true rfl⟩) (fun _ h => h) rfl [] rfl (Nat.le_of_ble_eq_true rfl) dX0_tastes_9 ⟨Nat.le_of_ble_eq_true rfl, Nat.le_of_ble_eq_true rfl⟩ (k1 := 0) (n1 := 0) rfl rfl ?_
    rintro r9 σ9 (⟨rfl, rfl, h9_h⟩ | ⟨rfl, rfl, h9_h⟩)
    · refine v_if_eq (tgt := 24) G dX0_tastes_12 (by decide) (fun h12 => absurd h12 (by decide)) (fun h12 => ?_)
      obtain ⟨p, hpm, ep⟩ := rg_lt h2_h (by omega)
      obtain ⟨j, hjj, ej⟩ := rg_nat (n := 23) h9_h (by decide)
      refine v_aload_n G 0 dX0_tastes_15 rfl ?_
      refine v_iload_n G 1 dX0_tastes_16 rfl ?_
      refine v_iload_n G 2 dX0_tastes_17 rfl ?_
      refine v_stk (st' := [.int (nI j), .int (nI p), .ref (ad 0)]) (by first | rfl | (have e0 : x = nI p := ep ; have e1 : y = nI j := ej ; simp only [e0, e1])) ?_
      refine w_callVi G hK.1 hT (kX0_feelsOf hK l dC dI ct ad F σ p j hO (by first | assumption | omega) (by first | assumption | omega)) (ck_X0_373 G.2.2.2.2.1 ⟨Nat.le_of_ble_eq_true rfl, Nat.le_of_ble_eq_true rfl⟩) x_recv (fun _ h => h) rfl [] rfl (Nat.le_of_ble_eq_true rfl) dX0_tastes_18 ⟨Nat.le_of_ble_eq_true rfl, Nat.le_of_ble_eq_true rfl⟩ (k1 := 0) (n1 := 0) rfl rfl ?_
      rintro r18 σ18 ⟨rfl, h18_a⟩
      refine v_goto (tgt := 27) G dX0_tastes_21 (by decide) ?_
      refine RET _ _ _ _ _ _ rfl (Nat.le_of_ble_eq_true rfl) (Nat.le_of_ble_eq_true rfl) dX0_tastes_27 (fun ws hws => ⟨_, hws, ?_⟩)
      clear RET G hT hnm
      exact ⟨by rw [s_tastes, if_pos ⟨h2_h, h9_h⟩, ep, ej]; rw [n_, n_, nI_clamp (by omega), nI_clamp (by omega)], h18_a⟩
    · refine v_if_eq (tgt := 24) G dX0_tastes_12 (by decide) (fun h12 => ?_) (fun h12 => absurd h12 (by decide))
      refine v_sipush (v := (-1000)) G dX0_tastes_24 rfl ?_
      refine RET _ _ _ _ _ _ rfl (Nat.le_of_ble_eq_true rfl) (Nat.le_of_ble_eq_true rfl) dX0_tastes_27 (fun ws hws => ⟨_, hws, ?_⟩)
      clear RET G hT hnm
      exact ⟨by rw [s_tastes, if_neg (fun q => by first | exact h2_h q.1 | exact h9_h q.2)], ag_rf⟩
  · refine v_if_eq (tgt := 24) G dX0_tastes_5 (by decide) (fun h5 => ?_) (fun h5 => absurd h5 (by decide))
    refine v_sipush (v := (-1000)) G dX0_tastes_24 rfl ?_
    refine RET _ _ _ _ _ _ rfl (Nat.le_of_ble_eq_true rfl) (Nat.le_of_ble_eq_true rfl) dX0_tastes_27 (fun ws hws => ⟨_, hws, ?_⟩)
    clear RET G hT hnm
    exact ⟨by rw [s_tastes, if_neg (fun q => by first | exact h2_h q.1 | exact h9_h q.2)], ag_rf⟩
abbrev rmX0_told : Room := { frames := 404, cells := 0, slots := 0, locals := 17046 }
set_option maxHeartbeats 1000000 in
theorem kX0_told {KT : (Nat → Prop) → State → Heap → Prop} (hK : KTx KT) (l : Launch) (dC : Nat → ClassId) (dI : Nat → Nat → Nat) (ct ad : Nat → Nat) (F : List (Nat × va_E)) (σ : MS) (x : Int32) (what : Int32) (hO : Ok (co σ)) : MC KT (dC, dI) vwCl (tysF ct) l yX0_told cX0_told 3 (some .int) rmX0_told [.ref (ad 0), .int x, .int what] (RX ct ad F σ) (QI_ (dC, dI) vwCl (RX ct ad F) (fun (r : Int32) (σ' : MS) => (s_told (co σ) x what) = r ∧ co σ' = co σ ∧ ag sfr σ σ')) := by
  refine MC.ofI (own := RX0) pl_X0 rfl (Nat.le_of_ble_eq_true rfl) ?_
  intro pp ee ss mm aa bb hh cc AA QQ G hT hnm RET
  refine v_loc (L' := [(0, .ref (ad 0)), (1, .int x), (2, .int what)]) rfl ?_
  obtain ⟨hm5, hm⟩ := many5 hO.1
  have hm : σ.1 11 0 = nI (s_many (co σ)) := hm
  refine v_iload_n G 2 dX0_told_0 rfl ?_
  refine v_i2l (v := what.toInt64) G dX0_told_1 rfl ?_
  refine v_lconst (v := 0) G dX0_told_2 rfl ?_
  refine v_ldc2 G q272 dX0_told_3 ?_
  refine w_callSi G hK.1 hT (kX0_in hK.1 l dC dI ct ad F σ what.toInt64 0 6) (ck_X0_14 G.2.2.2.2.1 ⟨Nat.le_of_ble_eq_true rfl, Nat.le_of_ble_eq_true rfl⟩) (fun _ h => h) rfl [] rfl (Nat.le_of_ble_eq_true rfl) dX0_told_6 ⟨Nat.le_of_ble_eq_true rfl, Nat.le_of_ble_eq_true rfl⟩ (k1 := 0) (n1 := 0) rfl rfl ?_
  rintro r6 σ6 (⟨rfl, rfl, h6_h⟩ | ⟨rfl, rfl, h6_h⟩)
  · have g6 := (in_rg (c := what) (lo := 0) (hi := 6) (a := 0) (z := 6) (by decide) (by decide)).mp h6_h
    refine v_if_eq (tgt := 34) G dX0_told_9 (by decide) (fun h9 => absurd h9 (by decide)) (fun h9 => ?_)
    obtain ⟨k, hk, ek⟩ := rg_nat (n := 6) (x := what) g6 (by decide)
    have ekn : n_ what = k := by rw [ek]; exact nI_clamp (by omega)
    refine v_aload_n G 0 dX0_told_12 rfl ?_
    refine v_iload_n G 2 dX0_told_13 rfl ?_
    refine v_iload_n G 1 dX0_told_14 rfl ?_
    refine v_stk (st' := [.int x, .int (nI k), .ref (ad 0)]) (by first | rfl | (have e0 : what = nI k := ek ; simp only [e0])) ?_
    refine w_callVi G hK.1 hT (kX0_isThere hK.1 l dC dI ct ad F σ k x hO (by first | assumption | omega)) (ck_X0_91 G.2.2.2.2.1 ⟨Nat.le_of_ble_eq_true rfl, Nat.le_of_ble_eq_true rfl⟩) x_recv (fun _ h => h) rfl [] rfl (Nat.le_of_ble_eq_true rfl) dX0_told_15 ⟨Nat.le_of_ble_eq_true rfl, Nat.le_of_ble_eq_true rfl⟩ (k1 := 0) (n1 := 0) rfl rfl ?_
    rintro r15 σ15 (⟨rfl, rfl, h15_h⟩ | ⟨rfl, rfl, h15_h⟩)
    · refine v_if_eq (tgt := 30) G dX0_told_18 (by decide) (fun h18 => absurd h18 (by decide)) (fun h18 => ?_)
      refine v_aload_n G 0 dX0_told_21 rfl ?_
      refine v_iload_n G 2 dX0_told_22 rfl ?_
      refine v_iload_n G 1 dX0_told_23 rfl ?_
      refine v_stk (st' := [.int x, .int (nI k), .ref (ad 0)]) (by first | rfl | (have e0 : what = nI k := ek ; simp only [e0])) ?_
      refine w_callVi G hK.1 hT (kX0_heldBy hK.1 l dC dI ct ad F σ k x hO (by first | assumption | omega) h15_h) (ck_X0_101 G.2.2.2.2.1 ⟨Nat.le_of_ble_eq_true rfl, Nat.le_of_ble_eq_true rfl⟩) x_recv (fun _ h => h) rfl [] rfl (Nat.le_of_ble_eq_true rfl) dX0_told_24 ⟨Nat.le_of_ble_eq_true rfl, Nat.le_of_ble_eq_true rfl⟩ (k1 := 0) (n1 := 0) rfl rfl ?_
      rintro r24 σ24 ⟨rfl, rfl⟩
      refine v_goto (tgt := 33) G dX0_told_27 (by decide) ?_
      refine RET _ _ _ _ _ _ rfl (Nat.le_of_ble_eq_true rfl) (Nat.le_of_ble_eq_true rfl) dX0_told_33 (fun ws hws => ⟨_, hws, ?_⟩)
      clear RET G hT hnm
      exact ⟨by rw [s_told, if_pos ⟨⟨g6.1, by have := g6.2; omega⟩, by rw [ekn]; exact h15_h⟩, ekn], rfl, ag_rf⟩
    · refine v_if_eq (tgt := 30) G dX0_told_18 (by decide) (fun h18 => ?_) (fun h18 => absurd h18 (by decide))
      refine v_sipush (v := (-1000)) G dX0_told_30 rfl ?_
      refine RET _ _ _ _ _ _ rfl (Nat.le_of_ble_eq_true rfl) (Nat.le_of_ble_eq_true rfl) dX0_told_33 (fun ws hws => ⟨_, hws, ?_⟩)
      clear RET G hT hnm
      exact ⟨by rw [s_told, if_neg (fun q => h15_h (by rw [← ekn]; exact q.2))], rfl, ag_rf⟩
  · have g6 : ¬ rg what 0 6 := fun zz => h6_h ((in_rg (c := what) (lo := 0) (hi := 6) (a := 0) (z := 6) (by decide) (by decide)).mpr zz)
    refine v_if_eq (tgt := 34) G dX0_told_9 (by decide) (fun h9 => ?_) (fun h9 => absurd h9 (by decide))
    refine v_iload_n G 2 dX0_told_34 rfl ?_
    refine v_bipush (v := 10) G dX0_told_35 rfl ?_
    refine v_icmp_ne (tgt := 59) G dX0_told_37 (by decide) (fun h37 => ?_) (fun h37 => ?_)
    · refine v_iload_n G 2 dX0_told_59 rfl ?_
      refine v_i2l (v := what.toInt64) G dX0_told_60 rfl ?_
      refine v_ldc2 G q306 dX0_told_61 ?_
      refine v_ldc2 G q162 dX0_told_64 ?_
      refine w_callSi G hK.1 hT (kX0_in hK.1 l dC dI ct ad F σ what.toInt64 7 9) (ck_X0_14 G.2.2.2.2.1 ⟨Nat.le_of_ble_eq_true rfl, Nat.le_of_ble_eq_true rfl⟩) (fun _ h => h) rfl [] rfl (Nat.le_of_ble_eq_true rfl) dX0_told_67 ⟨Nat.le_of_ble_eq_true rfl, Nat.le_of_ble_eq_true rfl⟩ (k1 := 0) (n1 := 0) rfl rfl ?_
      rintro r67 σ67 (⟨rfl, rfl, h67_h⟩ | ⟨rfl, rfl, h67_h⟩)
      · have g67 := (in_rg (c := what) (lo := 7) (hi := 9) (a := 7) (z := 9) (by decide) (by decide)).mp h67_h
        refine v_if_eq (tgt := 81) G dX0_told_70 (by decide) (fun h70 => absurd h70 (by decide)) (fun h70 => ?_)
        refine v_aload_n G 0 dX0_told_73 rfl ?_
        refine v_iload_n G 1 dX0_told_74 rfl ?_
        refine w_callVi G hK.1 hT (kX0_isOne hK.1 l dC dI ct ad F σ (s_many (co σ)) x hm5 hm) (ck_X0_64 G.2.2.2.2.1 ⟨Nat.le_of_ble_eq_true rfl, Nat.le_of_ble_eq_true rfl⟩) x_recv (fun _ h => h) rfl [] rfl (Nat.le_of_ble_eq_true rfl) dX0_told_75 ⟨Nat.le_of_ble_eq_true rfl, Nat.le_of_ble_eq_true rfl⟩ (k1 := 0) (n1 := 0) rfl rfl ?_
        rintro r75 σ75 (⟨rfl, rfl, h75_h⟩ | ⟨rfl, rfl, h75_h⟩)
        · refine v_if_ne (tgt := 85) G dX0_told_78 (by decide) (fun h78 => ?_) (fun h78 => absurd h78 (by decide))
          obtain ⟨j, hj, ej⟩ := rg_lt h75_h (by omega)
          have ejn : n_ x = j := by rw [ej]; exact nI_clamp (by omega)
          have hw9 : what = 7 ∨ what = 8 ∨ what = 9 := by
            obtain ⟨k, hk, ek⟩ := rg_nat (n := 9) (x := what) ⟨by have := g67.1; omega, g67.2⟩ (by decide)
            have h7 : 7 ≤ k := by have := g67.1; rw [ek, nI_toInt (by omega)] at this; omega
            have h3 : k = 7 ∨ k = 8 ∨ k = 9 := by omega
            rcases h3 with rfl | rfl | rfl
            · exact Or.inl ek
            · exact Or.inr (Or.inl ek)
            · exact Or.inr (Or.inr ek)
          refine v_iload_n G 2 dX0_told_85 rfl ?_
          refine v_bipush (v := 7) G dX0_told_86 rfl ?_
          refine v_icmp_ne (tgt := 103) G dX0_told_88 (by decide) (fun h88 => ?_) (fun h88 => ?_)
          · refine v_iload_n G 2 dX0_told_103 rfl ?_
            refine v_bipush (v := 8) G dX0_told_104 rfl ?_
            refine v_icmp_ne (tgt := 117) G dX0_told_106 (by decide) (fun h106 => ?_) (fun h106 => ?_)
            · refine v_aload_n G 0 dX0_told_117 rfl ?_
              refine v_iload_n G 1 dX0_told_118 rfl ?_
              refine v_stk (st' := [.int (nI j), .ref (ad 0)]) (by first | rfl | (have e0 : x = nI j := ej ; simp only [e0])) ?_
              refine w_callVi G hK.1 hT (kX0_putsOf hK l dC dI ct ad F σ j hO (by first | assumption | omega)) (ck_X0_120 G.2.2.2.2.1 ⟨Nat.le_of_ble_eq_true rfl, Nat.le_of_ble_eq_true rfl⟩) x_recv (fun _ h => h) rfl [] rfl (Nat.le_of_ble_eq_true rfl) dX0_told_119 ⟨Nat.le_of_ble_eq_true rfl, Nat.le_of_ble_eq_true rfl⟩ (k1 := 0) (n1 := 0) rfl rfl ?_
              rintro r119 σ119 ⟨rfl, h119_a⟩
              refine RET _ _ _ _ _ _ rfl (Nat.le_of_ble_eq_true rfl) (Nat.le_of_ble_eq_true rfl) dX0_told_122 (fun ws hws => ⟨_, hws, ?_⟩)
              clear RET G hT hnm
              have hw : what = 9 := by rcases hw9 with h | h | h; exact absurd h h88; exact absurd h h106; exact h
              subst hw
              exact ⟨by rw [s_told, if_pos ⟨by decide, h75_h⟩]; show s_puts (co σ) (n_ x) = _; rw [ejn], ag_co h119_a (by decide), h119_a⟩
            · refine v_aload_n G 0 dX0_told_109 rfl ?_
              refine v_iload_n G 1 dX0_told_110 rfl ?_
              refine v_stk (st' := [.int (nI j), .ref (ad 0)]) (by first | rfl | (have e0 : x = nI j := ej ; simp only [e0])) ?_
              refine w_callVi G hK.1 hT (kX0_takesOf hK l dC dI ct ad F σ j hO (by first | assumption | omega)) (ck_X0_117 G.2.2.2.2.1 ⟨Nat.le_of_ble_eq_true rfl, Nat.le_of_ble_eq_true rfl⟩) x_recv (fun _ h => h) rfl [] rfl (Nat.le_of_ble_eq_true rfl) dX0_told_111 ⟨Nat.le_of_ble_eq_true rfl, Nat.le_of_ble_eq_true rfl⟩ (k1 := 0) (n1 := 0) rfl rfl ?_
              rintro r111 σ111 ⟨rfl, h111_a⟩
              refine v_goto (tgt := 122) G dX0_told_114 (by decide) ?_
              refine RET _ _ _ _ _ _ rfl (Nat.le_of_ble_eq_true rfl) (Nat.le_of_ble_eq_true rfl) dX0_told_122 (fun ws hws => ⟨_, hws, ?_⟩)
              clear RET G hT hnm
              have hw : what = 8 := h106
              subst hw
              exact ⟨by rw [s_told, if_pos ⟨by decide, h75_h⟩]; show s_road (co σ) (n_ x) = _; rw [ejn], ag_co h111_a (by decide), h111_a⟩
          · refine v_aload_n G 0 dX0_told_91 rfl ?_
            refine x_get (v := .ref (ad 100)) G 0 (by decide) rfl q787 rfl dX0_told_92 ?_
            refine v_iload_n G 1 dX0_told_95 rfl ?_
            refine x_fald G (j) ej (show j < n_ (σ.1 11 0) from (by exact (show j < s_many (co σ) by omega))) (by omega) dX0_told_96 ?_
            refine x_vkind G hK.1 hT j (show j < n_ (σ.1 11 0) from (by exact (show j < s_many (co σ) by omega))) (kd_of hO (by omega)) (Nat.le_of_ble_eq_true rfl) dX0_told_97 (Nat.le_of_ble_eq_true rfl) (Nat.le_of_ble_eq_true rfl) ⟨Nat.le_of_ble_eq_true rfl, Nat.le_of_ble_eq_true rfl⟩ ?_
            refine v_goto (tgt := 122) G dX0_told_100 (by decide) ?_
            refine RET _ _ _ _ _ _ rfl (Nat.le_of_ble_eq_true rfl) (Nat.le_of_ble_eq_true rfl) dX0_told_122 (fun ws hws => ⟨_, hws, ?_⟩)
            clear RET G hT hnm
            have hw : what = 7 := h88
            subst hw
            exact ⟨by rw [s_told, if_pos ⟨by decide, h75_h⟩]; show co σ 10 (5 * n_ x + 7 - 3) = _; rw [ejn]; rfl, rfl, ag_rf⟩
        · refine v_if_ne (tgt := 85) G dX0_told_78 (by decide) (fun h78 => absurd h78 (by decide)) (fun h78 => ?_)
          refine v_sipush (v := (-1000)) G dX0_told_81 rfl ?_
          refine RET _ _ _ _ _ _ rfl (Nat.le_of_ble_eq_true rfl) (Nat.le_of_ble_eq_true rfl) dX0_told_84 (fun ws hws => ⟨_, hws, ?_⟩)
          clear RET G hT hnm
          refine ⟨?_, rfl, ag_rf⟩
          rw [s_told, if_neg]
          rintro ⟨q1, q2⟩
          obtain ⟨k, hk, ek⟩ := rg_nat (n := 10) (x := what) q1 (by decide)
          have ekn : n_ what = k := by rw [ek]; exact nI_clamp (by omega)
          rw [ekn] at q2
          have h6 : ¬ k ≤ 6 := fun z => g6 (by rw [ek]; exact (nI_rg (by omega)).mpr (by omega))
          have h10 : k ≠ 10 := fun z => h37 (by rw [ek, z]; rfl)
          first
            | exact g67 (by rw [ek]; exact (nI_rg (by omega)).mpr (by omega))
            | exact h75_h (isOf_one q2 (by omega) h10)
      · have g67 : ¬ rg what 7 9 := fun zz => h67_h ((in_rg (c := what) (lo := 7) (hi := 9) (a := 7) (z := 9) (by decide) (by decide)).mpr zz)
        refine v_if_eq (tgt := 81) G dX0_told_70 (by decide) (fun h70 => ?_) (fun h70 => absurd h70 (by decide))
        refine v_sipush (v := (-1000)) G dX0_told_81 rfl ?_
        refine RET _ _ _ _ _ _ rfl (Nat.le_of_ble_eq_true rfl) (Nat.le_of_ble_eq_true rfl) dX0_told_84 (fun ws hws => ⟨_, hws, ?_⟩)
        clear RET G hT hnm
        refine ⟨?_, rfl, ag_rf⟩
        rw [s_told, if_neg]
        rintro ⟨q1, q2⟩
        obtain ⟨k, hk, ek⟩ := rg_nat (n := 10) (x := what) q1 (by decide)
        have ekn : n_ what = k := by rw [ek]; exact nI_clamp (by omega)
        rw [ekn] at q2
        have h6 : ¬ k ≤ 6 := fun z => g6 (by rw [ek]; exact (nI_rg (by omega)).mpr (by omega))
        have h10 : k ≠ 10 := fun z => h37 (by rw [ek, z]; rfl)
        first
          | exact g67 (by rw [ek]; exact (nI_rg (by omega)).mpr (by omega))
          | exact h75_h (isOf_one q2 (by omega) h10)
    · refine v_iload_n G 1 dX0_told_40 rfl ?_
      refine w_callSi G hK.1 hT (kX0_isCrossing hK.1 l dC dI ct ad F σ x) (ck_X0_49 G.2.2.2.2.1 ⟨Nat.le_of_ble_eq_true rfl, Nat.le_of_ble_eq_true rfl⟩) (fun _ h => h) rfl [] rfl (Nat.le_of_ble_eq_true rfl) dX0_told_41 ⟨Nat.le_of_ble_eq_true rfl, Nat.le_of_ble_eq_true rfl⟩ (k1 := 0) (n1 := 0) rfl rfl ?_
      rintro r41 σ41 (⟨rfl, rfl, h41_h⟩ | ⟨rfl, rfl, h41_h⟩)
      · refine v_if_eq (tgt := 55) G dX0_told_44 (by decide) (fun h44 => absurd h44 (by decide)) (fun h44 => ?_)
        refine v_aload_n G 0 dX0_told_47 rfl ?_
        refine v_iload_n G 1 dX0_told_48 rfl ?_
        refine w_callVi G hK.1 hT (kX0_whoAt hK.1 l dC dI ct ad F σ x hO) (ck_X0_108 G.2.2.2.2.1 ⟨Nat.le_of_ble_eq_true rfl, Nat.le_of_ble_eq_true rfl⟩) x_recv (fun _ h => h) rfl [] rfl (Nat.le_of_ble_eq_true rfl) dX0_told_49 ⟨Nat.le_of_ble_eq_true rfl, Nat.le_of_ble_eq_true rfl⟩ (k1 := 0) (n1 := 0) rfl rfl ?_
        rintro r49 σ49 ⟨rfl, rfl⟩
        refine v_goto (tgt := 58) G dX0_told_52 (by decide) ?_
        refine RET _ _ _ _ _ _ rfl (Nat.le_of_ble_eq_true rfl) (Nat.le_of_ble_eq_true rfl) dX0_told_58 (fun ws hws => ⟨_, hws, ?_⟩)
        clear RET G hT hnm
        subst h37
        exact ⟨by rw [s_told, if_pos ⟨by decide, h41_h⟩]; rfl, rfl, ag_rf⟩
      · refine v_if_eq (tgt := 55) G dX0_told_44 (by decide) (fun h44 => ?_) (fun h44 => absurd h44 (by decide))
        refine v_sipush (v := (-1000)) G dX0_told_55 rfl ?_
        refine RET _ _ _ _ _ _ rfl (Nat.le_of_ble_eq_true rfl) (Nat.le_of_ble_eq_true rfl) dX0_told_58 (fun ws hws => ⟨_, hws, ?_⟩)
        clear RET G hT hnm
        subst h37
        exact ⟨by rw [s_told, if_neg (fun q => h41_h q.2)], rfl, ag_rf⟩
