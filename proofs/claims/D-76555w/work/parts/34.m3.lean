set_option maxRecDepth 100000
abbrev rmX8_part : Room := { frames := 40, cells := 0, slots := 0, locals := 883 }
set_option maxHeartbeats 4000000 in
theorem kX8_part {KT : (Nat → Prop) → State → Heap → Prop} (hK : KTok KT) (l : Launch) (dC : Nat → ClassId) (dI : Nat → Nat → Nat) (ct ad : Nat → Nat) (σ : MS) (F : Nat) (n : Nat) (b : Nat → Int32) (t : PS) (kk : Int32) (z : Int32) (hS : ST F n b 0 t σ) (hz : (z = 1 ∧ isTk t 1 kk = true) ∨ (z = 0 ∧ isTk t 1 kk = false)) : MC KT (dC, dI) vwCl (tysF ct) l yX8_part cX8_part 3 (some .int) rmX8_part [.ref (ad 43), .int z] (RM ct ad σ) (QI_ (dC, dI) vwCl (RM ct ad) (fun (r : Int32) (σ' : MS) => ((p_part b n kk t).1 (envS σ)) = r ∧ ST F n b 0 (p_part b n kk t).2 σ' ∧ ag pfr σ σ')) := by
  refine MC.ofI (own := RX8) pl_X8 rfl (Nat.le_of_ble_eq_true rfl) ?_
  intro pp ee ss mm aa bb hh cc AA QQ G hT hnm RET
  refine v_loc (L' := [(0, .ref (ad 43)), (1, .int z)]) rfl ?_
  refine v_iload_n G 1 dX8_part_0 rfl ?_
  refine v_if_ne (tgt := 8) G dX8_part_1 (by decide) (fun h1 => ?_) (fun h1 => ?_)
  · have hk : isTk t 1 kk = true := by rcases hz with h | h; exact h.2; exact absurd h.1 h1
    refine v_aload_n G 0 dX8_part_8 rfl ?_
    refine m_get (v := .int (σ.1 25 0)) G 25 (by decide) rfl q1319 rfl dX8_part_9 ?_
    refine v_if_ne (tgt := 19) G dX8_part_12 (by decide) (fun h12 => False.elim (by exact h12 (ST_bad hS (kd_tk hk (by decide))))) (fun h12 => ?_)
    refine v_aload_n G 0 dX8_part_15 rfl ?_
    refine w_callVv G hK hT (kX8_nextS hK l dC dI ct ad σ F n b 0 t hS (kd_tk hk (by decide))) (ck_X8_196 G.2.2.2.2.1 ⟨Nat.le_of_ble_eq_true rfl, Nat.le_of_ble_eq_true rfl⟩) m_recv (fun _ h => h) rfl [] rfl (Nat.le_of_ble_eq_true rfl) dX8_part_16 ⟨Nat.le_of_ble_eq_true rfl, Nat.le_of_ble_eq_true rfl⟩ (k1 := 0) (n1 := 0) rfl rfl ?_
    rintro σ16 ⟨h16_s, h16_a, h16_b⟩
    refine v_aload_n G 0 dX8_part_19 rfl ?_
    refine m_get (v := .int (σ16.1 25 0)) G 25 (by decide) rfl q1319 rfl dX8_part_20 ?_
    refine v_if_eq (tgt := 30) G dX8_part_23 (by decide) (fun h23 => ?_) (fun h23 => False.elim (by exact h23 h16_b))
    refine v_aload_n G 0 dX8_part_30 rfl ?_
    refine w_callVi G hK hT (kX8_either0 hK l dC dI ct ad σ16 F n b (nxS b n t) h16_s) (ck_X8_341 G.2.2.2.2.1 ⟨Nat.le_of_ble_eq_true rfl, Nat.le_of_ble_eq_true rfl⟩) m_recv (fun _ h => h) rfl [] rfl (Nat.le_of_ble_eq_true rfl) dX8_part_31 ⟨Nat.le_of_ble_eq_true rfl, Nat.le_of_ble_eq_true rfl⟩ (k1 := 0) (n1 := 0) rfl rfl ?_
    rintro r31 σ31 ⟨rfl, h31_s, h31_a⟩
    refine v_topr (x2 := .int ((p_eith b n (p_both b n (p_not b n (p_lev b n 5) (p_add b n (p_term b n (p_atom b n (p_lev b n 5)))))) (nxS b n t)).1 (envS σ))) (congrArg Value.int (congrArg (p_eith b n (p_both b n (p_not b n (p_lev b n 5) (p_add b n (p_term b n (p_atom b n (p_lev b n 5)))))) (nxS b n t)).1 (envS_ag (ag_tr ag_rf h16_a)))) ?_
    refine v_istore_n (L' := [(2, .int ((p_eith b n (p_both b n (p_not b n (p_lev b n 5) (p_add b n (p_term b n (p_atom b n (p_lev b n 5)))))) (nxS b n t)).1 (envS σ))), (0, .ref (ad 43)), (1, .int z)]) G dX8_part_34 (by decide) rfl ?_
    refine v_aload_n G 1 dX8_part_35 rfl ?_
    refine v_bipush (v := 59) G dX8_part_36 rfl ?_
    refine w_callVi G hK hT (kX8_isSignS hK l dC dI ct ad σ31 F n b 0 ((p_eith b n (p_both b n (p_not b n (p_lev b n 5) (p_add b n (p_term b n (p_atom b n (p_lev b n 5)))))) (nxS b n t)).2) 59 h31_s) (ck_X8_221 G.2.2.2.2.1 ⟨Nat.le_of_ble_eq_true rfl, Nat.le_of_ble_eq_true rfl⟩) m_recv (fun _ h => h) rfl [] rfl (Nat.le_of_ble_eq_true rfl) dX8_part_38 ⟨Nat.le_of_ble_eq_true rfl, Nat.le_of_ble_eq_true rfl⟩ (k1 := 0) (n1 := 0) rfl rfl ?_
    rintro r38 σ38 (⟨rfl, rfl, h38_h⟩ | ⟨rfl, rfl, h38_h⟩)
    · refine v_if_ne (tgt := 48) G dX8_part_41 (by decide) (fun h41 => ?_) (fun h41 => absurd h41 (by decide))
      refine v_aload_n G 1 dX8_part_48 rfl ?_
      refine m_get (v := .int (σ31.1 25 0)) G 25 (by decide) rfl q1319 rfl dX8_part_49 ?_
      refine v_if_ne (tgt := 59) G dX8_part_52 (by decide) (fun h52 => False.elim (by exact h52 (ST_bad (σ := σ31) h31_s (kd_tk h38_h (by decide))))) (fun h52 => ?_)
      refine v_aload_n G 1 dX8_part_55 rfl ?_
      refine w_callVv G hK hT (kX8_nextS hK l dC dI ct ad σ31 F n b 0 ((p_eith b n (p_both b n (p_not b n (p_lev b n 5) (p_add b n (p_term b n (p_atom b n (p_lev b n 5)))))) (nxS b n t)).2) h31_s (kd_tk h38_h (by decide))) (ck_X8_196 G.2.2.2.2.1 ⟨Nat.le_of_ble_eq_true rfl, Nat.le_of_ble_eq_true rfl⟩) m_recv (fun _ h => h) rfl [] rfl (Nat.le_of_ble_eq_true rfl) dX8_part_56 ⟨Nat.le_of_ble_eq_true rfl, Nat.le_of_ble_eq_true rfl⟩ (k1 := 0) (n1 := 0) rfl rfl ?_
      rintro σ56 ⟨h56_s, h56_a, h56_b⟩
      refine v_iload_n G 0 dX8_part_59 rfl ?_
      refine RET _ _ _ _ _ _ rfl (Nat.le_of_ble_eq_true rfl) (Nat.le_of_ble_eq_true rfl) dX8_part_60 (fun ws hw => ⟨_, hw, ?_⟩)
      clear RET G hT hnm
      rw [show p_part b n kk t = ((p_E b n (p_lev b n 5) (nxS b n t)).1, nxS b n (p_E b n (p_lev b n 5) (nxS b n t)).2) by rw [p_part, if_pos hk, if_pos (show isTk (p_E b n (p_lev b n 5) (nxS b n t)).2 4 59 = true from h38_h)]]
      exact ⟨rfl, h56_s, (ag_tr (ag_tr (ag_tr ag_rf h16_a) h31_a) h56_a)⟩
    · refine v_if_ne (tgt := 48) G dX8_part_41 (by decide) (fun h41 => absurd h41 (by decide)) (fun h41 => ?_)
      refine v_aload_n G 1 dX8_part_44 rfl ?_
      refine w_callVv G hK hT (kX8_failS hK l dC dI ct ad σ31 F n b 0 ((p_eith b n (p_both b n (p_not b n (p_lev b n 5) (p_add b n (p_term b n (p_atom b n (p_lev b n 5)))))) (nxS b n t)).2) h31_s) (ck_X8_193 G.2.2.2.2.1 ⟨Nat.le_of_ble_eq_true rfl, Nat.le_of_ble_eq_true rfl⟩) m_recv (fun _ h => h) rfl [] rfl (Nat.le_of_ble_eq_true rfl) dX8_part_45 ⟨Nat.le_of_ble_eq_true rfl, Nat.le_of_ble_eq_true rfl⟩ (k1 := 0) (n1 := 0) rfl rfl ?_
      rintro σ45 ⟨h45_s, h45_a, h45_b⟩
      refine v_aload_n G 1 dX8_part_48 rfl ?_
      refine m_get (v := .int (σ45.1 25 0)) G 25 (by decide) rfl q1319 rfl dX8_part_49 ?_
      refine v_if_ne (tgt := 59) G dX8_part_52 (by decide) (fun h52 => ?_) (fun h52 => False.elim (by rw [h45_b] at h52; exact absurd h52 (by decide)))
      refine v_iload_n G 0 dX8_part_59 rfl ?_
      refine RET _ _ _ _ _ _ rfl (Nat.le_of_ble_eq_true rfl) (Nat.le_of_ble_eq_true rfl) dX8_part_60 (fun ws hw => ⟨_, hw, ?_⟩)
      clear RET G hT hnm
      rw [show p_part b n kk t = ((p_E b n (p_lev b n 5) (nxS b n t)).1, faS (p_E b n (p_lev b n 5) (nxS b n t)).2) by rw [p_part, if_pos hk, if_neg (by rw [show isTk (p_E b n (p_lev b n 5) (nxS b n t)).2 4 59 = false from h38_h]; decide)]]
      exact ⟨rfl, h45_s, (ag_tr (ag_tr (ag_tr ag_rf h16_a) h31_a) h45_a)⟩
  · have hk : isTk t 1 kk = false := by rcases hz with h | h; exact absurd (h.1.symm.trans h1) (by decide); exact h.2
    refine v_aload_n G 0 dX8_part_4 rfl ?_
    refine w_callVv G hK hT (kX8_failS hK l dC dI ct ad σ F n b 0 t hS) (ck_X8_193 G.2.2.2.2.1 ⟨Nat.le_of_ble_eq_true rfl, Nat.le_of_ble_eq_true rfl⟩) m_recv (fun _ h => h) rfl [] rfl (Nat.le_of_ble_eq_true rfl) dX8_part_5 ⟨Nat.le_of_ble_eq_true rfl, Nat.le_of_ble_eq_true rfl⟩ (k1 := 0) (n1 := 0) rfl rfl ?_
    rintro σ5 ⟨h5_s, h5_a, h5_b⟩
    refine v_aload_n G 0 dX8_part_8 rfl ?_
    refine m_get (v := .int (σ5.1 25 0)) G 25 (by decide) rfl q1319 rfl dX8_part_9 ?_
    refine v_if_ne (tgt := 19) G dX8_part_12 (by decide) (fun h12 => ?_) (fun h12 => False.elim (by rw [h5_b] at h12; exact absurd h12 (by decide)))
    refine v_aload_n G 0 dX8_part_19 rfl ?_
    refine m_get (v := .int (σ5.1 25 0)) G 25 (by decide) rfl q1319 rfl dX8_part_20 ?_
    refine v_if_eq (tgt := 30) G dX8_part_23 (by decide) (fun h23 => False.elim (by rw [h5_b] at h23; exact absurd h23 (by decide))) (fun h23 => ?_)
    refine v_iconst (v := 0) G dX8_part_26 rfl ?_
    refine v_goto (tgt := 34) G dX8_part_27 (by decide) ?_
    refine v_istore_n (L' := [(2, .int 0), (0, .ref (ad 43)), (1, .int z)]) G dX8_part_34 (by decide) rfl ?_
    refine v_aload_n G 1 dX8_part_35 rfl ?_
    refine v_bipush (v := 59) G dX8_part_36 rfl ?_
    refine w_callVi G hK hT (kX8_isSignS hK l dC dI ct ad σ5 F n b 0 (faS t) 59 h5_s) (ck_X8_221 G.2.2.2.2.1 ⟨Nat.le_of_ble_eq_true rfl, Nat.le_of_ble_eq_true rfl⟩) m_recv (fun _ h => h) rfl [] rfl (Nat.le_of_ble_eq_true rfl) dX8_part_38 ⟨Nat.le_of_ble_eq_true rfl, Nat.le_of_ble_eq_true rfl⟩ (k1 := 0) (n1 := 0) rfl rfl ?_
    rintro r38 σ38 (⟨rfl, rfl, h38_h⟩ | ⟨rfl, rfl, h38_h⟩)
    · exact False.elim (by rw [faS_no] at h38_h; cases h38_h)
    · refine v_if_ne (tgt := 48) G dX8_part_41 (by decide) (fun h41 => absurd h41 (by decide)) (fun h41 => ?_)
      refine v_aload_n G 1 dX8_part_44 rfl ?_
      refine w_callVv G hK hT (kX8_failS hK l dC dI ct ad σ5 F n b 0 (faS t) h5_s) (ck_X8_193 G.2.2.2.2.1 ⟨Nat.le_of_ble_eq_true rfl, Nat.le_of_ble_eq_true rfl⟩) m_recv (fun _ h => h) rfl [] rfl (Nat.le_of_ble_eq_true rfl) dX8_part_45 ⟨Nat.le_of_ble_eq_true rfl, Nat.le_of_ble_eq_true rfl⟩ (k1 := 0) (n1 := 0) rfl rfl ?_
      rintro σ45 ⟨h45_s, h45_a, h45_b⟩
      refine v_aload_n G 1 dX8_part_48 rfl ?_
      refine m_get (v := .int (σ45.1 25 0)) G 25 (by decide) rfl q1319 rfl dX8_part_49 ?_
      refine v_if_ne (tgt := 59) G dX8_part_52 (by decide) (fun h52 => ?_) (fun h52 => False.elim (by rw [h45_b] at h52; exact absurd h52 (by decide)))
      refine v_iload_n G 0 dX8_part_59 rfl ?_
      refine RET _ _ _ _ _ _ rfl (Nat.le_of_ble_eq_true rfl) (Nat.le_of_ble_eq_true rfl) dX8_part_60 (fun ws hw => ⟨_, hw, ?_⟩)
      clear RET G hT hnm
      have hz2 := h45_s
      rw [faS_faS] at hz2
      rw [show p_part b n kk t = (fun _ => 0, faS t) by rw [p_part, if_neg (by rw [hk]; decide)]]
      exact ⟨rfl, hz2, (ag_tr (ag_tr ag_rf h5_a) h45_a)⟩
abbrev rmX8_read : Room := { frames := 41, cells := 0, slots := 0, locals := 905 }
set_option maxHeartbeats 4000000 in
theorem kX8_read {KT : (Nat → Prop) → State → Heap → Prop} (hK : KTok KT) (l : Launch) (dC : Nat → ClassId) (dI : Nat → Nat → Nat) (ct ad : Nat → Nat) (σ : MS) (tn : Nat) (w : Nat) (n : Nat) (htn : tn < 6) (hw : w ≤ 2) (hsz : σ.1 2 tn = nI n) (hn : n ≤ 160) (hby : ∀ i, i < n → rg (σ.1 1 (160 * tn + i)) 0 255) : MC KT (dC, dI) vwCl (tysF ct) l yX8_read cX8_read 6 (some .int) rmX8_read [.ref (ad 43), .int (nI tn), .int (nI w)] (RM ct ad σ) (QI_ (dC, dI) vwCl (RM ct ad) (fun (r : Int32) (σ' : MS) => (∀ t, p_text (fun i => σ.1 1 (160 * tn + i)) n = .inr t → r = p_sem (fun i => σ.1 1 (160 * tn + i)) n w (envS σ) ∧ σ'.1 25 0 = 0) ∧ (∀ e, p_text (fun i => σ.1 1 (160 * tn + i)) n = .inl e → σ'.1 25 0 = 1 ∧ σ'.1 26 0 = nI e ∧ e ≤ n) ∧ ag rfr σ σ')) := by
  refine MC.ofI (own := RX8) pl_X8 rfl (Nat.le_of_ble_eq_true rfl) ?_
  intro pp ee ss mm aa bb hh cc AA QQ G hT hnm RET
  refine v_loc (L' := [(0, .ref (ad 43)), (1, .int (nI tn)), (2, .int (nI w))]) rfl ?_
  obtain ⟨b, hbdef⟩ : ∃ b : Nat → Int32, b = (fun i => σ.1 1 (160 * tn + i)) := ⟨_, rfl⟩
  have hbr : ∀ i, i < n → rg (b i) 0 255 := fun i hi => by rw [hbdef]; exact hby i hi
  refine v_aload_n G 0 dX8_read_0 rfl ?_
  refine v_sipush (v := 160) G dX8_read_1 rfl ?_
  refine v_iload_n G 1 dX8_read_4 rfl ?_
  refine v_imul G dX8_read_5 ?_
  refine m_putI G 18 (by decide) q1312 rfl rfl rfl dX8_read_6 ?_
  refine v_aload_n G 0 dX8_read_9 rfl ?_
  refine v_aload_n G 0 dX8_read_10 rfl ?_
  refine m_get (v := .ref (ad 2)) G 2 (by decide) rfl q1296 rfl dX8_read_11 ?_
  refine v_iload_n G 1 dX8_read_14 rfl ?_
  refine m_iald G 2 rfl (tn) rfl (show tn < 6 by first | omega | assumption | decide) dX8_read_15 ?_
  refine v_stk (st' := [.int (σ.1 2 tn), .ref (ad 43)]) (by first | rfl | simp [mset, upd2]) ?_
  refine m_putI G 19 (by decide) q1313 rfl rfl rfl dX8_read_16 ?_
  refine v_aload_n G 0 dX8_read_19 rfl ?_
  refine v_iconst (v := 0) G dX8_read_20 rfl ?_
  refine m_putI G 20 (by decide) q1314 rfl rfl rfl dX8_read_21 ?_
  refine v_aload_n G 0 dX8_read_24 rfl ?_
  refine v_iconst (v := 0) G dX8_read_25 rfl ?_
  refine m_putI G 24 (by decide) q1318 rfl rfl rfl dX8_read_26 ?_
  refine v_aload_n G 0 dX8_read_29 rfl ?_
  refine v_iconst (v := 0) G dX8_read_30 rfl ?_
  refine m_putZ G 25 (by decide) q1319 rfl rfl rfl rfl rfl dX8_read_31 ?_
  refine v_aload_n G 0 dX8_read_34 rfl ?_
  have hX0 : TX (160 * tn) n b (mset (mset (mset (mset (mset σ 18 0 (160 * (nI tn))) 19 0 (σ.1 2 tn)) 20 0 0) 24 0 0) 25 0 0) := ⟨(by simp [mset, upd2]; exact ix_mul (ix_lit 160 rfl) rfl), (by simp [mset, upd2]; exact hsz), (by omega), hn, (fun i hi => by simp [mset, upd2, hbdef]), hbr⟩
  have hA0 : ag rfr σ (mset (mset (mset (mset (mset σ 18 0 (160 * (nI tn))) 19 0 (σ.1 2 tn)) 20 0 0) 24 0 0) 25 0 0) := by refine ag_tr (ag_tr (ag_tr (ag_tr (ag_set ?_) (ag_set ?_)) (ag_set ?_)) (ag_set ?_)) (ag_set ?_) <;> decide
  refine w_callVv G hK hT (kX8_next hK l dC dI ct ad (mset (mset (mset (mset (mset σ 18 0 (160 * (nI tn))) 19 0 (σ.1 2 tn)) 20 0 0) 24 0 0) 25 0 0) (160 * tn) n b 0 hX0 (by simp [mset, upd2]) (by simp [mset, upd2]; rfl) (Nat.zero_le _)) (ck_X8_196 G.2.2.2.2.1 ⟨Nat.le_of_ble_eq_true rfl, Nat.le_of_ble_eq_true rfl⟩) m_recv (fun _ h => h) rfl [] rfl (Nat.le_of_ble_eq_true rfl) dX8_read_35 ⟨Nat.le_of_ble_eq_true rfl, Nat.le_of_ble_eq_true rfl⟩ (k1 := 0) (n1 := 0) rfl rfl ?_
  rintro σ35 ⟨h35_t, h35_a⟩
  have hS0 : ST (160 * tn) n b 0 (nx b n 0) σ35 := ⟨TX_ag (ag_mono h35_a (by decide)) hX0, h35_t, (ag_at h35_a (by decide)).trans (by simp [mset, upd2]; rfl)⟩
  refine v_aload_n G 0 dX8_read_38 rfl ?_
  refine v_aload_n G 0 dX8_read_39 rfl ?_
  refine v_bipush (v := 116) G dX8_read_40 rfl ?_
  refine v_bipush (v := 97) G dX8_read_42 rfl ?_
  refine v_bipush (v := 107) G dX8_read_44 rfl ?_
  refine v_bipush (v := 101) G dX8_read_46 rfl ?_
  refine v_bipush (v := 115) G dX8_read_48 rfl ?_
  refine v_iconst (v := 0) G dX8_read_50 rfl ?_
  refine v_iconst (v := 0) G dX8_read_51 rfl ?_
  refine v_iconst (v := 0) G dX8_read_52 rfl ?_
  refine w_callVi G hK hT (kX8_isWordV hK l dC dI ct ad σ35 (160 * tn) n b 0 (nx b n 0) 1 0 116 97 107 101 115 0 0 0 hS0 (⟨(1, 0, [116, 97, 107, 101, 115, 0, 0, 0]), by decide +kernel, rfl, rfl, rfl⟩)) (ck_X8_199 G.2.2.2.2.1 ⟨Nat.le_of_ble_eq_true rfl, Nat.le_of_ble_eq_true rfl⟩) m_recv (fun _ h => h) rfl [.ref (ad 43)] rfl (Nat.le_of_ble_eq_true rfl) dX8_read_53 ⟨Nat.le_of_ble_eq_true rfl, Nat.le_of_ble_eq_true rfl⟩ (k1 := 0) (n1 := 0) rfl rfl ?_
  rintro r53 σ53 ⟨rfl, rfl⟩
  refine w_callVi G hK hT (kX8_part hK l dC dI ct ad σ35 (160 * tn) n b (nx b n 0) 0 (if isTk (nx b n 0) 1 0 = true then 1 else 0) hS0 (by by_cases hq : isTk (nx b n 0) 1 0 = true; exact Or.inl ⟨if_pos hq, hq⟩; exact Or.inr ⟨if_neg hq, Bool.eq_false_iff.mpr hq⟩)) (ck_X8_344 G.2.2.2.2.1 ⟨Nat.le_of_ble_eq_true rfl, Nat.le_of_ble_eq_true rfl⟩) m_recv (fun _ h => h) rfl [] rfl (Nat.le_of_ble_eq_true rfl) dX8_read_56 ⟨Nat.le_of_ble_eq_true rfl, Nat.le_of_ble_eq_true rfl⟩ (k1 := 0) (n1 := 0) rfl rfl ?_
  rintro r56 σ56 ⟨rfl, h56_s, h56_a⟩
  refine v_topr (x2 := .int ((p_part b n 0 (nx b n 0)).1 (envS σ))) (congrArg Value.int (congrArg (p_part b n 0 (nx b n 0)).1 (envS_agr (ag_tr hA0 (ag_mono h35_a (by decide)))))) ?_
  have h56_s : ST (160 * tn) n b 0 (p_s1 b n) σ56 := h56_s
  refine v_istore_n (L' := [(3, .int ((p_part b n 0 (nx b n 0)).1 (envS σ))), (0, .ref (ad 43)), (1, .int (nI tn)), (2, .int (nI w))]) G dX8_read_59 (by decide) rfl ?_
  refine v_aload_n G 1 dX8_read_60 rfl ?_
  refine m_get (v := .int (σ56.1 25 0)) G 25 (by decide) rfl q1319 rfl dX8_read_61 ?_
  refine v_if_eq (tgt := 71) G dX8_read_64 (by decide) (fun h64 => ?_) (fun h64 => ?_)
  · refine v_aload_n G 1 dX8_read_71 rfl ?_
    refine v_aload_n G 1 dX8_read_72 rfl ?_
    refine v_bipush (v := 112) G dX8_read_73 rfl ?_
    refine v_bipush (v := 117) G dX8_read_75 rfl ?_
    refine v_bipush (v := 116) G dX8_read_77 rfl ?_
    refine v_bipush (v := 115) G dX8_read_79 rfl ?_
    refine v_iconst (v := 0) G dX8_read_81 rfl ?_
    refine v_iconst (v := 0) G dX8_read_82 rfl ?_
    refine v_iconst (v := 0) G dX8_read_83 rfl ?_
    refine v_iconst (v := 0) G dX8_read_84 rfl ?_
    refine w_callVi G hK hT (kX8_isWordV hK l dC dI ct ad σ56 (160 * tn) n b 0 (p_s1 b n) 1 1 112 117 116 115 0 0 0 0 h56_s (⟨(1, 1, [112, 117, 116, 115, 0, 0, 0, 0]), by decide +kernel, rfl, rfl, rfl⟩)) (ck_X8_199 G.2.2.2.2.1 ⟨Nat.le_of_ble_eq_true rfl, Nat.le_of_ble_eq_true rfl⟩) m_recv (fun _ h => h) rfl [.ref (ad 43)] rfl (Nat.le_of_ble_eq_true rfl) dX8_read_85 ⟨Nat.le_of_ble_eq_true rfl, Nat.le_of_ble_eq_true rfl⟩ (k1 := 0) (n1 := 0) rfl rfl ?_
    rintro r85 σ85 ⟨rfl, rfl⟩
    refine w_callVi G hK hT (kX8_part hK l dC dI ct ad σ56 (160 * tn) n b (p_s1 b n) 1 (if isTk (p_s1 b n) 1 1 = true then 1 else 0) h56_s (by by_cases hq : isTk (p_s1 b n) 1 1 = true; exact Or.inl ⟨if_pos hq, hq⟩; exact Or.inr ⟨if_neg hq, Bool.eq_false_iff.mpr hq⟩)) (ck_X8_344 G.2.2.2.2.1 ⟨Nat.le_of_ble_eq_true rfl, Nat.le_of_ble_eq_true rfl⟩) m_recv (fun _ h => h) rfl [] rfl (Nat.le_of_ble_eq_true rfl) dX8_read_88 ⟨Nat.le_of_ble_eq_true rfl, Nat.le_of_ble_eq_true rfl⟩ (k1 := 0) (n1 := 0) rfl rfl ?_
    rintro r88 σ88 ⟨rfl, h88_s, h88_a⟩
    refine v_topr (x2 := .int ((p_part b n 1 (p_s1 b n)).1 (envS σ))) (congrArg Value.int (congrArg (p_part b n 1 (p_s1 b n)).1 (envS_agr (ag_tr (ag_tr hA0 (ag_mono h35_a (by decide))) (ag_mono h56_a (by decide)))))) ?_
    have h88_s : ST (160 * tn) n b 0 (p_s2 b n) σ88 := h88_s
    refine v_istore (L' := [(4, .int ((p_part b n 1 (p_s1 b n)).1 (envS σ))), (3, .int ((p_part b n 0 (nx b n 0)).1 (envS σ))), (0, .ref (ad 43)), (1, .int (nI tn)), (2, .int (nI w))]) G dX8_read_91 (by decide) rfl ?_
    refine v_aload_n G 2 dX8_read_93 rfl ?_
    refine m_get (v := .int (σ88.1 25 0)) G 25 (by decide) rfl q1319 rfl dX8_read_94 ?_
    refine v_if_eq (tgt := 104) G dX8_read_97 (by decide) (fun h97 => ?_) (fun h97 => ?_)
    · refine v_aload_n G 2 dX8_read_104 rfl ?_
      refine v_aload_n G 2 dX8_read_105 rfl ?_
      refine v_bipush (v := 102) G dX8_read_106 rfl ?_
      refine v_bipush (v := 101) G dX8_read_108 rfl ?_
      refine v_bipush (v := 101) G dX8_read_110 rfl ?_
      refine v_bipush (v := 108) G dX8_read_112 rfl ?_
      refine v_bipush (v := 115) G dX8_read_114 rfl ?_
      refine v_iconst (v := 0) G dX8_read_116 rfl ?_
      refine v_iconst (v := 0) G dX8_read_117 rfl ?_
      refine v_iconst (v := 0) G dX8_read_118 rfl ?_
      refine w_callVi G hK hT (kX8_isWordV hK l dC dI ct ad σ88 (160 * tn) n b 0 (p_s2 b n) 1 2 102 101 101 108 115 0 0 0 h88_s (⟨(1, 2, [102, 101, 101, 108, 115, 0, 0, 0]), by decide +kernel, rfl, rfl, rfl⟩)) (ck_X8_199 G.2.2.2.2.1 ⟨Nat.le_of_ble_eq_true rfl, Nat.le_of_ble_eq_true rfl⟩) m_recv (fun _ h => h) rfl [.ref (ad 43)] rfl (Nat.le_of_ble_eq_true rfl) dX8_read_119 ⟨Nat.le_of_ble_eq_true rfl, Nat.le_of_ble_eq_true rfl⟩ (k1 := 0) (n1 := 0) rfl rfl ?_
      rintro r119 σ119 ⟨rfl, rfl⟩
      refine w_callVi G hK hT (kX8_part hK l dC dI ct ad σ88 (160 * tn) n b (p_s2 b n) 2 (if isTk (p_s2 b n) 1 2 = true then 1 else 0) h88_s (by by_cases hq : isTk (p_s2 b n) 1 2 = true; exact Or.inl ⟨if_pos hq, hq⟩; exact Or.inr ⟨if_neg hq, Bool.eq_false_iff.mpr hq⟩)) (ck_X8_344 G.2.2.2.2.1 ⟨Nat.le_of_ble_eq_true rfl, Nat.le_of_ble_eq_true rfl⟩) m_recv (fun _ h => h) rfl [] rfl (Nat.le_of_ble_eq_true rfl) dX8_read_122 ⟨Nat.le_of_ble_eq_true rfl, Nat.le_of_ble_eq_true rfl⟩ (k1 := 0) (n1 := 0) rfl rfl ?_
      rintro r122 σ122 ⟨rfl, h122_s, h122_a⟩
      refine v_topr (x2 := .int ((p_part b n 2 (p_s2 b n)).1 (envS σ))) (congrArg Value.int (congrArg (p_part b n 2 (p_s2 b n)).1 (envS_agr (ag_tr (ag_tr (ag_tr hA0 (ag_mono h35_a (by decide))) (ag_mono h56_a (by decide))) (ag_mono h88_a (by decide)))))) ?_
      have h122_s : ST (160 * tn) n b 0 (p_s3 b n) σ122 := h122_s
      refine v_istore (L' := [(5, .int ((p_part b n 2 (p_s2 b n)).1 (envS σ))), (4, .int ((p_part b n 1 (p_s1 b n)).1 (envS σ))), (3, .int ((p_part b n 0 (nx b n 0)).1 (envS σ))), (0, .ref (ad 43)), (1, .int (nI tn)), (2, .int (nI w))]) G dX8_read_125 (by decide) rfl ?_
      refine v_aload_n G 3 dX8_read_127 rfl ?_
      refine m_get (v := .int (σ122.1 25 0)) G 25 (by decide) rfl q1319 rfl dX8_read_128 ?_
      refine v_if_ne (tgt := 145) G dX8_read_131 (by decide) (fun h131 => ?_) (fun h131 => ?_)
      · refine v_iload_n G 5 dX8_read_145 rfl ?_
        refine v_if_ne (tgt := 153) G dX8_read_146 (by decide) (fun h146 => ?_) (fun h146 => ?_)
        · have n146 := (not_congr (cmp_eq (x := nI w) (y := 0) (a := w) (b := 0) rfl (ix_lit 0 rfl) (by omega) (by omega))).mp h146
          refine v_iload_n G 5 dX8_read_153 rfl ?_
          refine v_iconst (v := 1) G dX8_read_154 rfl ?_
          refine v_icmp_ne (tgt := 163) G dX8_read_155 (by decide) (fun h155 => ?_) (fun h155 => ?_)
          · have n155 := (not_congr (cmp_eq (x := nI w) (y := 1) (a := w) (b := 1) rfl (ix_lit 1 rfl) (by omega) (by omega))).mp h155
            refine v_iload G 0 dX8_read_163 rfl ?_
            refine RET _ _ _ _ _ _ rfl (Nat.le_of_ble_eq_true rfl) (Nat.le_of_ble_eq_true rfl) dX8_read_165 (fun ws hw => ⟨_, hw, ?_⟩)
            clear RET G hT hnm
            obtain ⟨e, he1, he2, he3, he4⟩ := tk_bad h122_s.2.1 h131
            have hp := p_text_3 he1
            subst hbdef
            exact ⟨fun t ht => (by rw [hp] at ht; cases ht), fun e he => (by rw [hp] at he; cases he; exact ⟨he3, he4, he2⟩), (ag_tr (ag_tr (ag_tr (ag_tr hA0 (ag_mono h35_a (by decide))) (ag_mono h56_a (by decide))) (ag_mono h88_a (by decide))) (ag_mono h122_a (by decide)))⟩
          · have n155 := (cmp_eq (x := nI w) (y := 1) (a := w) (b := 1) rfl (ix_lit 1 rfl) (by omega) (by omega)).mp h155
            refine v_iload G 1 dX8_read_158 rfl ?_
            refine v_goto (tgt := 165) G dX8_read_160 (by decide) ?_
            refine RET _ _ _ _ _ _ rfl (Nat.le_of_ble_eq_true rfl) (Nat.le_of_ble_eq_true rfl) dX8_read_165 (fun ws hw => ⟨_, hw, ?_⟩)
            clear RET G hT hnm
            obtain ⟨e, he1, he2, he3, he4⟩ := tk_bad h122_s.2.1 h131
            have hp := p_text_3 he1
            subst hbdef
            exact ⟨fun t ht => (by rw [hp] at ht; cases ht), fun e he => (by rw [hp] at he; cases he; exact ⟨he3, he4, he2⟩), (ag_tr (ag_tr (ag_tr (ag_tr hA0 (ag_mono h35_a (by decide))) (ag_mono h56_a (by decide))) (ag_mono h88_a (by decide))) (ag_mono h122_a (by decide)))⟩
        · have n146 := (cmp_eq (x := nI w) (y := 0) (a := w) (b := 0) rfl (ix_lit 0 rfl) (by omega) (by omega)).mp h146
          refine v_iload_n G 2 dX8_read_149 rfl ?_
          refine v_goto (tgt := 165) G dX8_read_150 (by decide) ?_
          refine RET _ _ _ _ _ _ rfl (Nat.le_of_ble_eq_true rfl) (Nat.le_of_ble_eq_true rfl) dX8_read_165 (fun ws hw => ⟨_, hw, ?_⟩)
          clear RET G hT hnm
          obtain ⟨e, he1, he2, he3, he4⟩ := tk_bad h122_s.2.1 h131
          have hp := p_text_3 he1
          subst hbdef
          exact ⟨fun t ht => (by rw [hp] at ht; cases ht), fun e he => (by rw [hp] at he; cases he; exact ⟨he3, he4, he2⟩), (ag_tr (ag_tr (ag_tr (ag_tr hA0 (ag_mono h35_a (by decide))) (ag_mono h56_a (by decide))) (ag_mono h88_a (by decide))) (ag_mono h122_a (by decide)))⟩
      · refine v_aload_n G 3 dX8_read_134 rfl ?_
        refine m_get (v := .int (σ122.1 21 0)) G 21 (by decide) rfl q1315 rfl dX8_read_135 ?_
        refine v_if_eq (tgt := 145) G dX8_read_138 (by decide) (fun h138 => ?_) (fun h138 => ?_)
        · refine v_iload_n G 5 dX8_read_145 rfl ?_
          refine v_if_ne (tgt := 153) G dX8_read_146 (by decide) (fun h146 => ?_) (fun h146 => ?_)
          · have n146 := (not_congr (cmp_eq (x := nI w) (y := 0) (a := w) (b := 0) rfl (ix_lit 0 rfl) (by omega) (by omega))).mp h146
            refine v_iload_n G 5 dX8_read_153 rfl ?_
            refine v_iconst (v := 1) G dX8_read_154 rfl ?_
            refine v_icmp_ne (tgt := 163) G dX8_read_155 (by decide) (fun h155 => ?_) (fun h155 => ?_)
            · have n155 := (not_congr (cmp_eq (x := nI w) (y := 1) (a := w) (b := 1) rfl (ix_lit 1 rfl) (by omega) (by omega))).mp h155
              refine v_iload G 0 dX8_read_163 rfl ?_
              refine RET _ _ _ _ _ _ rfl (Nat.le_of_ble_eq_true rfl) (Nat.le_of_ble_eq_true rfl) dX8_read_165 (fun ws hw => ⟨_, hw, ?_⟩)
              clear RET G hT hnm
              obtain ⟨hp, t0, ht0⟩ := p_text_5 ((tk_end h122_s.2.1 h131).mpr h138)
              subst hbdef
              refine ⟨fun t ht => ⟨?_, h131⟩, fun e he => (by rw [hp, ht0] at he; cases he), (ag_tr (ag_tr (ag_tr (ag_tr hA0 (ag_mono h35_a (by decide))) (ag_mono h56_a (by decide))) (ag_mono h88_a (by decide))) (ag_mono h122_a (by decide)))⟩
              first
                | (subst n146; rfl)
                | (subst n155; rfl)
                | (rw [p_sem, if_neg n146, if_neg n155] <;> rfl)
            · have n155 := (cmp_eq (x := nI w) (y := 1) (a := w) (b := 1) rfl (ix_lit 1 rfl) (by omega) (by omega)).mp h155
              refine v_iload G 1 dX8_read_158 rfl ?_
              refine v_goto (tgt := 165) G dX8_read_160 (by decide) ?_
              refine RET _ _ _ _ _ _ rfl (Nat.le_of_ble_eq_true rfl) (Nat.le_of_ble_eq_true rfl) dX8_read_165 (fun ws hw => ⟨_, hw, ?_⟩)
              clear RET G hT hnm
              obtain ⟨hp, t0, ht0⟩ := p_text_5 ((tk_end h122_s.2.1 h131).mpr h138)
              subst hbdef
              refine ⟨fun t ht => ⟨?_, h131⟩, fun e he => (by rw [hp, ht0] at he; cases he), (ag_tr (ag_tr (ag_tr (ag_tr hA0 (ag_mono h35_a (by decide))) (ag_mono h56_a (by decide))) (ag_mono h88_a (by decide))) (ag_mono h122_a (by decide)))⟩
              first
                | (subst n146; rfl)
                | (subst n155; rfl)
                | (rw [p_sem, if_neg n146, if_neg n155] <;> rfl)
          · have n146 := (cmp_eq (x := nI w) (y := 0) (a := w) (b := 0) rfl (ix_lit 0 rfl) (by omega) (by omega)).mp h146
            refine v_iload_n G 2 dX8_read_149 rfl ?_
            refine v_goto (tgt := 165) G dX8_read_150 (by decide) ?_
            refine RET _ _ _ _ _ _ rfl (Nat.le_of_ble_eq_true rfl) (Nat.le_of_ble_eq_true rfl) dX8_read_165 (fun ws hw => ⟨_, hw, ?_⟩)
            clear RET G hT hnm
            obtain ⟨hp, t0, ht0⟩ := p_text_5 ((tk_end h122_s.2.1 h131).mpr h138)
            subst hbdef
            refine ⟨fun t ht => ⟨?_, h131⟩, fun e he => (by rw [hp, ht0] at he; cases he), (ag_tr (ag_tr (ag_tr (ag_tr hA0 (ag_mono h35_a (by decide))) (ag_mono h56_a (by decide))) (ag_mono h88_a (by decide))) (ag_mono h122_a (by decide)))⟩
            first
              | (subst n146; rfl)
              | (subst n155; rfl)
              | (rw [p_sem, if_neg n146, if_neg n155] <;> rfl)
        · refine v_aload_n G 3 dX8_read_141 rfl ?_
          refine w_callVv G hK hT (kX8_failS hK l dC dI ct ad σ122 (160 * tn) n b 0 (p_s3 b n) h122_s) (ck_X8_193 G.2.2.2.2.1 ⟨Nat.le_of_ble_eq_true rfl, Nat.le_of_ble_eq_true rfl⟩) m_recv (fun _ h => h) rfl [] rfl (Nat.le_of_ble_eq_true rfl) dX8_read_142 ⟨Nat.le_of_ble_eq_true rfl, Nat.le_of_ble_eq_true rfl⟩ (k1 := 0) (n1 := 0) rfl rfl ?_
          rintro σ142 ⟨h142_s, h142_a, h142_b⟩
          refine v_iload_n G 5 dX8_read_145 rfl ?_
          refine v_if_ne (tgt := 153) G dX8_read_146 (by decide) (fun h146 => ?_) (fun h146 => ?_)
          · have n146 := (not_congr (cmp_eq (x := nI w) (y := 0) (a := w) (b := 0) rfl (ix_lit 0 rfl) (by omega) (by omega))).mp h146
            refine v_iload_n G 5 dX8_read_153 rfl ?_
            refine v_iconst (v := 1) G dX8_read_154 rfl ?_
            refine v_icmp_ne (tgt := 163) G dX8_read_155 (by decide) (fun h155 => ?_) (fun h155 => ?_)
            · have n155 := (not_congr (cmp_eq (x := nI w) (y := 1) (a := w) (b := 1) rfl (ix_lit 1 rfl) (by omega) (by omega))).mp h155
              refine v_iload G 0 dX8_read_163 rfl ?_
              refine RET _ _ _ _ _ _ rfl (Nat.le_of_ble_eq_true rfl) (Nat.le_of_ble_eq_true rfl) dX8_read_165 (fun ws hw => ⟨_, hw, ?_⟩)
              clear RET G hT hnm
              obtain ⟨a, ha, ea, ef⟩ := tk_at h122_s.2.1 h131
              have hp := p_text_4 (fun q => h138 ((tk_end h122_s.2.1 h131).mp q))
              rw [ef] at hp
              have hf := h142_s.2.1
              rw [ef] at hf
              obtain ⟨e, he1, he2, he3, he4⟩ := tk_bad hf (by rw [h142_b]; decide)
              cases he1
              subst hbdef
              exact ⟨fun t ht => (by rw [hp] at ht; cases ht), fun e he => (by rw [hp] at he; cases he; exact ⟨he3, he4, he2⟩), (ag_tr (ag_tr (ag_tr (ag_tr (ag_tr hA0 (ag_mono h35_a (by decide))) (ag_mono h56_a (by decide))) (ag_mono h88_a (by decide))) (ag_mono h122_a (by decide))) (ag_mono h142_a (by decide)))⟩
            · have n155 := (cmp_eq (x := nI w) (y := 1) (a := w) (b := 1) rfl (ix_lit 1 rfl) (by omega) (by omega)).mp h155
              refine v_iload G 1 dX8_read_158 rfl ?_
              refine v_goto (tgt := 165) G dX8_read_160 (by decide) ?_
              refine RET _ _ _ _ _ _ rfl (Nat.le_of_ble_eq_true rfl) (Nat.le_of_ble_eq_true rfl) dX8_read_165 (fun ws hw => ⟨_, hw, ?_⟩)
              clear RET G hT hnm
              obtain ⟨a, ha, ea, ef⟩ := tk_at h122_s.2.1 h131
              have hp := p_text_4 (fun q => h138 ((tk_end h122_s.2.1 h131).mp q))
              rw [ef] at hp
              have hf := h142_s.2.1
              rw [ef] at hf
              obtain ⟨e, he1, he2, he3, he4⟩ := tk_bad hf (by rw [h142_b]; decide)
              cases he1
              subst hbdef
              exact ⟨fun t ht => (by rw [hp] at ht; cases ht), fun e he => (by rw [hp] at he; cases he; exact ⟨he3, he4, he2⟩), (ag_tr (ag_tr (ag_tr (ag_tr (ag_tr hA0 (ag_mono h35_a (by decide))) (ag_mono h56_a (by decide))) (ag_mono h88_a (by decide))) (ag_mono h122_a (by decide))) (ag_mono h142_a (by decide)))⟩
          · have n146 := (cmp_eq (x := nI w) (y := 0) (a := w) (b := 0) rfl (ix_lit 0 rfl) (by omega) (by omega)).mp h146
            refine v_iload_n G 2 dX8_read_149 rfl ?_
            refine v_goto (tgt := 165) G dX8_read_150 (by decide) ?_
            refine RET _ _ _ _ _ _ rfl (Nat.le_of_ble_eq_true rfl) (Nat.le_of_ble_eq_true rfl) dX8_read_165 (fun ws hw => ⟨_, hw, ?_⟩)
            clear RET G hT hnm
            obtain ⟨a, ha, ea, ef⟩ := tk_at h122_s.2.1 h131
            have hp := p_text_4 (fun q => h138 ((tk_end h122_s.2.1 h131).mp q))
            rw [ef] at hp
            have hf := h142_s.2.1
            rw [ef] at hf
            obtain ⟨e, he1, he2, he3, he4⟩ := tk_bad hf (by rw [h142_b]; decide)
            cases he1
            subst hbdef
            exact ⟨fun t ht => (by rw [hp] at ht; cases ht), fun e he => (by rw [hp] at he; cases he; exact ⟨he3, he4, he2⟩), (ag_tr (ag_tr (ag_tr (ag_tr (ag_tr hA0 (ag_mono h35_a (by decide))) (ag_mono h56_a (by decide))) (ag_mono h88_a (by decide))) (ag_mono h122_a (by decide))) (ag_mono h142_a (by decide)))⟩
    · refine v_iconst (v := 0) G dX8_read_100 rfl ?_
      refine v_goto (tgt := 125) G dX8_read_101 (by decide) ?_
      refine v_istore (L' := [(5, .int 0), (4, .int ((p_part b n 1 (p_s1 b n)).1 (envS σ))), (3, .int ((p_part b n 0 (nx b n 0)).1 (envS σ))), (0, .ref (ad 43)), (1, .int (nI tn)), (2, .int (nI w))]) G dX8_read_125 (by decide) rfl ?_
      refine v_aload_n G 3 dX8_read_127 rfl ?_
      refine m_get (v := .int (σ88.1 25 0)) G 25 (by decide) rfl q1319 rfl dX8_read_128 ?_
      refine v_if_ne (tgt := 145) G dX8_read_131 (by decide) (fun h131 => ?_) (fun h131 => False.elim (by exact h97 h131))
      refine v_iload_n G 5 dX8_read_145 rfl ?_
      refine v_if_ne (tgt := 153) G dX8_read_146 (by decide) (fun h146 => ?_) (fun h146 => ?_)
      · have n146 := (not_congr (cmp_eq (x := nI w) (y := 0) (a := w) (b := 0) rfl (ix_lit 0 rfl) (by omega) (by omega))).mp h146
        refine v_iload_n G 5 dX8_read_153 rfl ?_
        refine v_iconst (v := 1) G dX8_read_154 rfl ?_
        refine v_icmp_ne (tgt := 163) G dX8_read_155 (by decide) (fun h155 => ?_) (fun h155 => ?_)
        · have n155 := (not_congr (cmp_eq (x := nI w) (y := 1) (a := w) (b := 1) rfl (ix_lit 1 rfl) (by omega) (by omega))).mp h155
          refine v_iload G 0 dX8_read_163 rfl ?_
          refine RET _ _ _ _ _ _ rfl (Nat.le_of_ble_eq_true rfl) (Nat.le_of_ble_eq_true rfl) dX8_read_165 (fun ws hw => ⟨_, hw, ?_⟩)
          clear RET G hT hnm
          obtain ⟨e, he1, he2, he3, he4⟩ := tk_bad h88_s.2.1 h97
          have hp := p_text_2 he1
          subst hbdef
          exact ⟨fun t ht => (by rw [hp] at ht; cases ht), fun e he => (by rw [hp] at he; cases he; exact ⟨he3, he4, he2⟩), (ag_tr (ag_tr (ag_tr hA0 (ag_mono h35_a (by decide))) (ag_mono h56_a (by decide))) (ag_mono h88_a (by decide)))⟩
        · have n155 := (cmp_eq (x := nI w) (y := 1) (a := w) (b := 1) rfl (ix_lit 1 rfl) (by omega) (by omega)).mp h155
          refine v_iload G 1 dX8_read_158 rfl ?_
          refine v_goto (tgt := 165) G dX8_read_160 (by decide) ?_
          refine RET _ _ _ _ _ _ rfl (Nat.le_of_ble_eq_true rfl) (Nat.le_of_ble_eq_true rfl) dX8_read_165 (fun ws hw => ⟨_, hw, ?_⟩)
          clear RET G hT hnm
          obtain ⟨e, he1, he2, he3, he4⟩ := tk_bad h88_s.2.1 h97
          have hp := p_text_2 he1
          subst hbdef
          exact ⟨fun t ht => (by rw [hp] at ht; cases ht), fun e he => (by rw [hp] at he; cases he; exact ⟨he3, he4, he2⟩), (ag_tr (ag_tr (ag_tr hA0 (ag_mono h35_a (by decide))) (ag_mono h56_a (by decide))) (ag_mono h88_a (by decide)))⟩
      · have n146 := (cmp_eq (x := nI w) (y := 0) (a := w) (b := 0) rfl (ix_lit 0 rfl) (by omega) (by omega)).mp h146
        refine v_iload_n G 2 dX8_read_149 rfl ?_
        refine v_goto (tgt := 165) G dX8_read_150 (by decide) ?_
        refine RET _ _ _ _ _ _ rfl (Nat.le_of_ble_eq_true rfl) (Nat.le_of_ble_eq_true rfl) dX8_read_165 (fun ws hw => ⟨_, hw, ?_⟩)
        clear RET G hT hnm
        obtain ⟨e, he1, he2, he3, he4⟩ := tk_bad h88_s.2.1 h97
        have hp := p_text_2 he1
        subst hbdef
        exact ⟨fun t ht => (by rw [hp] at ht; cases ht), fun e he => (by rw [hp] at he; cases he; exact ⟨he3, he4, he2⟩), (ag_tr (ag_tr (ag_tr hA0 (ag_mono h35_a (by decide))) (ag_mono h56_a (by decide))) (ag_mono h88_a (by decide)))⟩
  · refine v_iconst (v := 0) G dX8_read_67 rfl ?_
    refine v_goto (tgt := 91) G dX8_read_68 (by decide) ?_
    refine v_istore (L' := [(4, .int 0), (3, .int ((p_part b n 0 (nx b n 0)).1 (envS σ))), (0, .ref (ad 43)), (1, .int (nI tn)), (2, .int (nI w))]) G dX8_read_91 (by decide) rfl ?_
    refine v_aload_n G 2 dX8_read_93 rfl ?_
    refine m_get (v := .int (σ56.1 25 0)) G 25 (by decide) rfl q1319 rfl dX8_read_94 ?_
    refine v_if_eq (tgt := 104) G dX8_read_97 (by decide) (fun h97 => False.elim (by exact h64 h97)) (fun h97 => ?_)
    refine v_iconst (v := 0) G dX8_read_100 rfl ?_
    refine v_goto (tgt := 125) G dX8_read_101 (by decide) ?_
    refine v_istore (L' := [(5, .int 0), (4, .int 0), (3, .int ((p_part b n 0 (nx b n 0)).1 (envS σ))), (0, .ref (ad 43)), (1, .int (nI tn)), (2, .int (nI w))]) G dX8_read_125 (by decide) rfl ?_
    refine v_aload_n G 3 dX8_read_127 rfl ?_
    refine m_get (v := .int (σ56.1 25 0)) G 25 (by decide) rfl q1319 rfl dX8_read_128 ?_
    refine v_if_ne (tgt := 145) G dX8_read_131 (by decide) (fun h131 => ?_) (fun h131 => False.elim (by exact h64 h131))
    refine v_iload_n G 5 dX8_read_145 rfl ?_
    refine v_if_ne (tgt := 153) G dX8_read_146 (by decide) (fun h146 => ?_) (fun h146 => ?_)
    · have n146 := (not_congr (cmp_eq (x := nI w) (y := 0) (a := w) (b := 0) rfl (ix_lit 0 rfl) (by omega) (by omega))).mp h146
      refine v_iload_n G 5 dX8_read_153 rfl ?_
      refine v_iconst (v := 1) G dX8_read_154 rfl ?_
      refine v_icmp_ne (tgt := 163) G dX8_read_155 (by decide) (fun h155 => ?_) (fun h155 => ?_)
      · have n155 := (not_congr (cmp_eq (x := nI w) (y := 1) (a := w) (b := 1) rfl (ix_lit 1 rfl) (by omega) (by omega))).mp h155
        refine v_iload G 0 dX8_read_163 rfl ?_
        refine RET _ _ _ _ _ _ rfl (Nat.le_of_ble_eq_true rfl) (Nat.le_of_ble_eq_true rfl) dX8_read_165 (fun ws hw => ⟨_, hw, ?_⟩)
        clear RET G hT hnm
        obtain ⟨e, he1, he2, he3, he4⟩ := tk_bad h56_s.2.1 h64
        have hp := p_text_1 he1
        subst hbdef
        exact ⟨fun t ht => (by rw [hp] at ht; cases ht), fun e he => (by rw [hp] at he; cases he; exact ⟨he3, he4, he2⟩), (ag_tr (ag_tr hA0 (ag_mono h35_a (by decide))) (ag_mono h56_a (by decide)))⟩
      · have n155 := (cmp_eq (x := nI w) (y := 1) (a := w) (b := 1) rfl (ix_lit 1 rfl) (by omega) (by omega)).mp h155
        refine v_iload G 1 dX8_read_158 rfl ?_
        refine v_goto (tgt := 165) G dX8_read_160 (by decide) ?_
        refine RET _ _ _ _ _ _ rfl (Nat.le_of_ble_eq_true rfl) (Nat.le_of_ble_eq_true rfl) dX8_read_165 (fun ws hw => ⟨_, hw, ?_⟩)
        clear RET G hT hnm
        obtain ⟨e, he1, he2, he3, he4⟩ := tk_bad h56_s.2.1 h64
        have hp := p_text_1 he1
        subst hbdef
        exact ⟨fun t ht => (by rw [hp] at ht; cases ht), fun e he => (by rw [hp] at he; cases he; exact ⟨he3, he4, he2⟩), (ag_tr (ag_tr hA0 (ag_mono h35_a (by decide))) (ag_mono h56_a (by decide)))⟩
    · have n146 := (cmp_eq (x := nI w) (y := 0) (a := w) (b := 0) rfl (ix_lit 0 rfl) (by omega) (by omega)).mp h146
      refine v_iload_n G 2 dX8_read_149 rfl ?_
      refine v_goto (tgt := 165) G dX8_read_150 (by decide) ?_
      refine RET _ _ _ _ _ _ rfl (Nat.le_of_ble_eq_true rfl) (Nat.le_of_ble_eq_true rfl) dX8_read_165 (fun ws hw => ⟨_, hw, ?_⟩)
      clear RET G hT hnm
      obtain ⟨e, he1, he2, he3, he4⟩ := tk_bad h56_s.2.1 h64
      have hp := p_text_1 he1
      subst hbdef
      exact ⟨fun t ht => (by rw [hp] at ht; cases ht), fun e he => (by rw [hp] at he; cases he; exact ⟨he3, he4, he2⟩), (ag_tr (ag_tr hA0 (ag_mono h35_a (by decide))) (ag_mono h56_a (by decide)))⟩
