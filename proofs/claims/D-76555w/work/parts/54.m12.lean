set_option maxRecDepth 100000
abbrev rmX8_text : Room := { frames := 42, cells := 0, slots := 0, locals := 930 }
set_option maxHeartbeats 1000000 in
theorem kX8_text {KT : (Nat → Prop) → State → Heap → Prop} (hK : KTok KT) (l : Launch) (dC : Nat → ClassId) (dI : Nat → Nat → Nat) (ct ad : Nat → Nat) (σ : MS)  (hO : Ok (co σ)) : MC KT (dC, dI) vwCl (tysF ct) l yX8_text cX8_text 2 (some .int) rmX8_text [.ref (ad 43)] (RM ct ad σ) (QI_ (dC, dI) vwCl (RM ct ad) (fun (r : Int32) (σ' : MS) => ((s_text (co σ)).1) = r ∧ co σ' = (s_text (co σ)).2)) := by
  refine MC.ofI (own := RX8) pl_X8 rfl (Nat.le_of_ble_eq_true rfl) ?_
  intro pp ee ss mm aa bb hh cc AA QQ G hT hnm RET
  refine v_loc (L' := [(0, .ref (ad 43))]) rfl ?_
  obtain ⟨tz, hn6, e6, en6⟩ := tape6 hO
  have e6 : σ.1 6 0 = nI tz := e6
  obtain ⟨m3, hm3, e3, en3⟩ := texts3 hO
  have e3 : σ.1 3 0 = nI m3 := e3
  refine v_aload_n G 0 dX8_text_0 rfl ?_
  refine m_get (v := .int (σ.1 3 0)) G 3 (by decide) rfl q1297 rfl dX8_text_1 ?_
  refine v_bipush (v := 6) G dX8_text_4 rfl ?_
  refine v_icmp_ne (tgt := 12) G dX8_text_6 (by decide) (fun h6 => ?_) (fun h6 => ?_)
  · have n6 := (not_congr (cmp_eq (x := σ.1 3 0) (y := 6) (a := m3) (b := 6) e3 (ix_lit 6 rfl) (by omega) (by omega))).mp h6
    have hm6 : m3 < 6 := by omega
    refine v_iconst (v := 0) G dX8_text_12 rfl ?_
    refine v_istore_n (L' := [(1, .int 0), (0, .ref (ad 43))]) G dX8_text_13 (by decide) rfl ?_
    have loop14 : ∀ (dd : Nat) (q : Nat) (τ : MS), (q ≤ tz) → (∀ i, i < q → τ.1 1 (160 * m3 + i) = σ.1 5 i) → (∀ i, (i < 160 * m3 ∨ 160 * m3 + q ≤ i) → τ.1 1 i = σ.1 1 i) → (ag [1] σ τ) → tz - q < dd → V_ pp l ee rmX8_text ss mm aa bb hh cc 2 (dC, dI) vwCl AA QQ 0 0 (RM ct ad τ) 14 [(1, .int (nI q)), (0, .ref (ad 43))] [] := by
      intro dd
      induction dd with
      | zero => intro q τ hqτ hloτ hhiτ haτ hdd; exact absurd hdd (Nat.not_lt_zero _)
      | succ dd ih14 =>
        intro q τ hqτ hloτ hhiτ haτ hdd
        refine v_iload_n G 0 dX8_text_14 rfl ?_
        refine v_aload_n G 1 dX8_text_15 rfl ?_
        refine m_get (v := .int (τ.1 6 0)) G 6 (by decide) rfl q1300 rfl dX8_text_16 ?_
        refine v_topr (congrArg Value.int (show τ.1 6 0 = σ.1 6 0 from (show τ.1 6 0 = σ.1 6 0 from ag_at haτ (by decide)))) ?_
        refine v_icmp_ge (tgt := 49) G dX8_text_19 (by decide) (fun h19 => ?_) (fun h19 => ?_)
        · have n19 := (cmp_le (x := σ.1 6 0) (y := nI q) (a := tz) (b := q) e6 rfl (by omega) (by omega)).mp h19
          refine v_aload_n G 1 dX8_text_49 rfl ?_
          refine m_get (v := .ref (ad 2)) G 2 (by decide) rfl q1296 rfl dX8_text_50 ?_
          refine v_aload_n G 1 dX8_text_53 rfl ?_
          refine m_get (v := .int (τ.1 3 0)) G 3 (by decide) rfl q1297 rfl dX8_text_54 ?_
          refine v_topr (congrArg Value.int (show τ.1 3 0 = σ.1 3 0 from (show τ.1 3 0 = σ.1 3 0 from ag_at haτ (by decide)))) ?_
          refine v_aload_n G 1 dX8_text_57 rfl ?_
          refine m_get (v := .int (τ.1 6 0)) G 6 (by decide) rfl q1300 rfl dX8_text_58 ?_
          refine v_topr (congrArg Value.int (show τ.1 6 0 = σ.1 6 0 from (show τ.1 6 0 = σ.1 6 0 from ag_at haτ (by decide)))) ?_
          refine m_iast G 2 rfl (m3) e3 (show m3 < 6 by first | omega | assumption | decide) dX8_text_61 ?_
          refine v_aload_n G 1 dX8_text_62 rfl ?_
          refine v_iconst (v := 0) G dX8_text_63 rfl ?_
          refine m_putI G 6 (by decide) q1300 rfl rfl rfl dX8_text_64 ?_
          have hzq : q = tz := by omega
          subst hzq
          have hcm : co (mset (mset τ 2 m3 (σ.1 6 0)) 6 0 0) = s_copyT (co σ) m3 q := by
            funext k i
            rw [co_set (by decide), co_set (by decide), upd2_at, upd2_at]
            unfold s_copyT
            by_cases h6 : k = 6 ∧ i = 0
            · rw [if_pos h6, if_neg (by omega), if_neg (by omega), if_pos h6]
            · rw [if_neg h6]
              by_cases h2 : k = 2 ∧ i = m3
              · rw [if_pos h2, if_neg (by omega), if_pos h2]; exact e6
              · rw [if_neg h2, if_neg h2, if_neg h6]
                by_cases h1 : k = 1
                · subst h1
                  by_cases hi : 160 * m3 ≤ i ∧ i < 160 * m3 + q
                  · rw [if_pos ⟨rfl, hi⟩]
                    have := hloτ (i - 160 * m3) (by omega)
                    rw [show 160 * m3 + (i - 160 * m3) = i by omega] at this
                    exact this
                  · rw [if_neg (fun z => hi z.2)]
                    exact hhiτ i (by omega)
                · rw [if_neg (fun z => h1 z.1)]
                  show (if _ then _ else _) = (if _ then _ else _)
                  rw [haτ k (by simpa using h1)]
          have hby67 : ∀ i, i < q → rg ((mset (mset τ 2 m3 (σ.1 6 0)) 6 0 0).1 1 (160 * m3 + i)) 0 255 := fun i hi => by
            rw [show (mset (mset τ 2 m3 (σ.1 6 0)) 6 0 0).1 1 (160 * m3 + i) = τ.1 1 (160 * m3 + i) by simp [mset, upd2], hloτ i hi]
            exact hO.2.2.1.2 i
          have htx : s_tx (co σ) = p_text (fun i => (mset (mset τ 2 m3 (σ.1 6 0)) 6 0 0).1 1 (160 * m3 + i)) q := by
            unfold s_tx
            rw [en6, en3, ← hcm]
            rfl
          refine v_aload_n G 1 dX8_text_67 rfl ?_
          refine v_aload_n G 1 dX8_text_68 rfl ?_
          refine m_get (v := .int ((mset (mset τ 2 m3 (σ.1 6 0)) 6 0 0).1 3 0)) G 3 (by decide) rfl q1297 rfl dX8_text_69 ?_
          refine v_topr (congrArg Value.int (show (mset (mset τ 2 m3 (σ.1 6 0)) 6 0 0).1 3 0 = σ.1 3 0 from (show τ.1 3 0 = σ.1 3 0 from ag_at haτ (by decide)))) ?_
          refine v_iconst (v := 0) G dX8_text_72 rfl ?_
          refine v_stk (st' := [.int (nI 0), .int (nI m3), .ref (ad 43)]) (by first | rfl | (have e0 : (σ.1 3 0) = nI m3 := e3 ; have e1 : 0 = nI 0 := (ix_lit 0 rfl) ; simp only [e0, e1])) ?_
          refine w_callVi G hK hT (kX8_read hK l dC dI ct ad (mset (mset τ 2 m3 (σ.1 6 0)) 6 0 0) m3 0 q (by omega) (by omega) (by simp [mset, upd2]; exact e6) hn6 hby67) (ck_X8_348 G.2.2.2.2.1 ⟨Nat.le_of_ble_eq_true rfl, Nat.le_of_ble_eq_true rfl⟩) m_recv (fun _ h => h) rfl [] rfl (Nat.le_of_ble_eq_true rfl) dX8_text_73 ⟨Nat.le_of_ble_eq_true rfl, Nat.le_of_ble_eq_true rfl⟩ (k1 := 0) (n1 := 0) rfl rfl ?_
          rintro r73 σ73 ⟨h73_v, h73_e, h73_a⟩
          refine v_istore_n (L' := [(1, .int r73), (0, .ref (ad 43))]) G dX8_text_76 (by decide) rfl ?_
          refine v_aload_n G 1 dX8_text_77 rfl ?_
          refine m_get (v := .int (σ73.1 25 0)) G 25 (by decide) rfl q1319 rfl dX8_text_78 ?_
          refine v_if_eq (tgt := 92) G dX8_text_81 (by decide) (fun h81 => ?_) (fun h81 => ?_)
          · refine v_aload_n G 1 dX8_text_92 rfl ?_
            refine v_dup G dX8_text_93 rfl ?_
            refine m_get (v := .int (σ73.1 3 0)) G 3 (by decide) rfl q1297 rfl dX8_text_94 ?_
            refine v_iconst (v := 1) G dX8_text_97 rfl ?_
            refine v_iadd G dX8_text_98 ?_
            refine m_putI G 3 (by decide) q1297 rfl rfl rfl dX8_text_99 ?_
            refine v_aload_n G 1 dX8_text_102 rfl ?_
            refine m_get (v := .int ((mset σ73 3 0 ((σ73.1 3 0) + 1)).1 3 0)) G 3 (by decide) rfl q1297 rfl dX8_text_103 ?_
            refine v_topr (congrArg Value.int (show (mset σ73 3 0 ((σ73.1 3 0) + 1)).1 3 0 = (σ73.1 3 0) + 1 from (by first | rfl | simp [mset, msetL, upd2]))) ?_
            refine v_iconst (v := 1) G dX8_text_106 rfl ?_
            refine v_isub G dX8_text_107 ?_
            refine RET _ _ _ _ _ _ rfl (Nat.le_of_ble_eq_true rfl) (Nat.le_of_ble_eq_true rfl) dX8_text_108 (fun ws hws => ⟨_, hws, ?_⟩)
            clear RET G hT hnm
            rw [← htx] at h73_v h73_e
            have hc73 : co σ73 = s_copyT (co σ) m3 q := (ag_co h73_a (by decide)).trans hcm
            have htt : ∃ t, s_tx (co σ) = .inr t := by
              cases hx : s_tx (co σ) with
              | inl e => exact absurd h81 (by rw [(h73_e e hx).1]; decide)
              | inr t => exact ⟨t, rfl⟩
            obtain ⟨t, htt⟩ := htt
            have hst : s_text (co σ) = (co σ 3 0, upd2 (s_copyT (co σ) (n_ (co σ 3 0)) (n_ (co σ 6 0))) 3 0 (co σ 3 0 + 1)) := by rw [s_text, cq3, if_neg h6, htt]
            rw [hst]
            have e73 : σ73.1 3 0 = nI m3 := by rw [show σ73.1 3 0 = co σ73 3 0 from rfl, hc73]; exact e3
            refine ⟨by simp [mset, upd2]; rw [e73]; exact e3, ?_⟩
            rw [co_set (by decide), hc73, en3, en6, e73, show co σ 3 0 = nI m3 from e3]
          · refine v_bipush (v := (-100)) G dX8_text_84 rfl ?_
            refine v_aload_n G 1 dX8_text_86 rfl ?_
            refine m_get (v := .int (σ73.1 26 0)) G 26 (by decide) rfl q1320 rfl dX8_text_87 ?_
            refine v_isub G dX8_text_90 ?_
            refine RET _ _ _ _ _ _ rfl (Nat.le_of_ble_eq_true rfl) (Nat.le_of_ble_eq_true rfl) dX8_text_91 (fun ws hws => ⟨_, hws, ?_⟩)
            clear RET G hT hnm
            rw [← htx] at h73_v h73_e
            have hc73 : co σ73 = s_copyT (co σ) m3 q := (ag_co h73_a (by decide)).trans hcm
            have htt : ∃ e, s_tx (co σ) = .inl e := by
              cases hx : s_tx (co σ) with
              | inl e => exact ⟨e, rfl⟩
              | inr t => exact absurd (h73_v t hx).2 h81
            obtain ⟨e, htt⟩ := htt
            have hst : s_text (co σ) = (-100 - nI e, s_copyT (co σ) (n_ (co σ 3 0)) (n_ (co σ 6 0))) := by rw [s_text, cq3, if_neg h6, htt]
            rw [hst]
            exact ⟨by rw [(h73_e e htt).2.1], by rw [hc73, en3, en6]⟩
        · have n19 := (not_congr (cmp_le (x := σ.1 6 0) (y := nI q) (a := tz) (b := q) e6 rfl (by omega) (by omega))).mp h19
          refine v_aload_n G 1 dX8_text_22 rfl ?_
          refine m_get (v := .ref (ad 1)) G 1 (by decide) rfl q1295 rfl dX8_text_23 ?_
          refine v_sipush (v := 160) G dX8_text_26 rfl ?_
          refine v_aload_n G 1 dX8_text_29 rfl ?_
          refine m_get (v := .int (τ.1 3 0)) G 3 (by decide) rfl q1297 rfl dX8_text_30 ?_
          refine v_topr (congrArg Value.int (show τ.1 3 0 = σ.1 3 0 from (show τ.1 3 0 = σ.1 3 0 from ag_at haτ (by decide)))) ?_
          refine v_imul G dX8_text_33 ?_
          refine v_iload_n G 0 dX8_text_34 rfl ?_
          refine v_iadd G dX8_text_35 ?_
          refine v_aload_n G 1 dX8_text_36 rfl ?_
          refine m_get (v := .ref (ad 5)) G 5 (by decide) rfl q1299 rfl dX8_text_37 ?_
          refine v_iload_n G 0 dX8_text_40 rfl ?_
          refine m_iald G 5 rfl (q) rfl (show q < 160 by first | omega | assumption | decide) dX8_text_41 ?_
          refine v_topr (congrArg Value.int (show τ.1 5 q = σ.1 5 q from (show τ.1 5 q = σ.1 5 q from ag_at haτ (by decide)))) ?_
          refine m_iast G 1 rfl ((160 * m3) + q) (ix_add (ix_mul (ix_lit 160 rfl) e3) rfl) (show (160 * m3) + q < 960 by first | omega | assumption | decide) dX8_text_42 ?_
          refine v_iinc (v := nI (q + 1)) (L' := [(1, .int (nI (q + 1))), (0, .ref (ad 43))]) G 0 dX8_text_43 rfl (ix_add rfl (ix_lit 1 rfl)) (by decide) rfl ?_
          refine v_goto (tgt := 14) G dX8_text_46 (by decide) ?_
          refine V_.sub (L' := [(1, .int (nI (q + 1))), (0, .ref (ad 43))]) ?_ [0, 1] rfl
          exact ih14  (q + 1) (mset τ 1 ((160 * m3) + q) (σ.1 5 q)) (by omega) (cpy_lo hloτ rfl) (cpy_hi hhiτ) (ag_tr haτ (ag_set (by decide))) (by omega)
    refine V_.sub (L' := [(1, .int 0), (0, .ref (ad 43))]) ?_ [0, 1] rfl
    refine v_loc (L' := [(1, .int (nI 0)), (0, .ref (ad 43))]) (rfl) ?_
    exact loop14 _ 0 σ (Nat.zero_le _) (fun i hi => absurd hi (Nat.not_lt_zero i)) (fun _ _ => rfl) ag_rf (Nat.lt_succ_self _)
  · have n6 := (cmp_eq (x := σ.1 3 0) (y := 6) (a := m3) (b := 6) e3 (ix_lit 6 rfl) (by omega) (by omega)).mp h6
    refine v_bipush (v := (-4)) G dX8_text_9 rfl ?_
    refine RET _ _ _ _ _ _ rfl (Nat.le_of_ble_eq_true rfl) (Nat.le_of_ble_eq_true rfl) dX8_text_11 (fun ws hws => ⟨_, hws, ?_⟩)
    clear RET G hT hnm
    rw [s_text, cq3, if_pos h6]
    exact ⟨rfl, rfl⟩
