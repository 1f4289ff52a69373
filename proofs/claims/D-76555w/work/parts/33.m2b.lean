set_option maxRecDepth 100000
abbrev rmX8_atom3 : Room := { frames := 16, cells := 0, slots := 0, locals := 355 }
set_option maxHeartbeats 4000000 in
theorem kX8_atom3 {KT : (Nat → Prop) → State → Heap → Prop} (hK : KTok KT) (l : Launch) (dC : Nat → ClassId) (dI : Nat → Nat → Nat) (ct ad : Nat → Nat) (σ : MS) (F : Nat) (n : Nat) (b : Nat → Int32) (t : PS) (hS : ST F n b 3 t σ) : MC KT (dC, dI) vwCl (tysF ct) l yX8_atom3 cX8_atom3 2 (some .int) rmX8_atom3 [.ref (ad 43)] (RM ct ad σ) (QI_ (dC, dI) vwCl (RM ct ad) (fun (r : Int32) (σ' : MS) => ((p_atom b n (p_lev b n 2) t).1 (envS σ)) = r ∧ ST F n b 3 (p_atom b n (p_lev b n 2) t).2 σ' ∧ ag pfr σ σ')) := by
  refine MC.ofI (own := RX8) pl_X8 rfl (Nat.le_of_ble_eq_true rfl) ?_
  intro pp ee ss mm aa bb hh cc AA QQ G hT hnm RET
  refine v_loc (L' := [(0, .ref (ad 43))]) rfl ?_
  refine v_iconst (v := 0) G dX8_atom3_0 rfl ?_
  refine v_istore_n (L' := [(1, .int 0), (0, .ref (ad 43))]) G dX8_atom3_1 (by decide) rfl ?_
  refine v_aload_n G 1 dX8_atom3_2 rfl ?_
  refine v_bipush (v := 45) G dX8_atom3_3 rfl ?_
  refine w_callVi G hK hT (kX8_isSignS hK l dC dI ct ad σ F n b 3 t 45 hS) (ck_X8_221 G.2.2.2.2.1 ⟨Nat.le_of_ble_eq_true rfl, Nat.le_of_ble_eq_true rfl⟩) m_recv (fun _ h => h) rfl [] rfl (Nat.le_of_ble_eq_true rfl) dX8_atom3_5 ⟨Nat.le_of_ble_eq_true rfl, Nat.le_of_ble_eq_true rfl⟩ (k1 := 0) (n1 := 0) rfl rfl ?_
  rintro r5 σ5 (⟨rfl, rfl, h5_h⟩ | ⟨rfl, rfl, h5_h⟩)
  · refine v_if_eq (tgt := 37) G dX8_atom3_8 (by decide) (fun h8 => absurd h8 (by decide)) (fun h8 => ?_)
    refine v_aload_n G 1 dX8_atom3_11 rfl ?_
    refine w_callVi G hK hT (kX8_opens hK l dC dI ct ad σ F n b 3 t hS (kd_tk h5_h (by decide)) (by decide)) (ck_X8_224 G.2.2.2.2.1 ⟨Nat.le_of_ble_eq_true rfl, Nat.le_of_ble_eq_true rfl⟩) m_recv (fun _ h => h) rfl [] rfl (Nat.le_of_ble_eq_true rfl) dX8_atom3_12 ⟨Nat.le_of_ble_eq_true rfl, Nat.le_of_ble_eq_true rfl⟩ (k1 := 0) (n1 := 0) rfl rfl ?_
    rintro r12 σ12 (⟨rfl, h12_k, h12_s, h12_a⟩ | ⟨rfl, h12_k, h12_s, h12_a⟩)
    · refine v_if_eq (tgt := 161) G dX8_atom3_15 (by decide) (fun h15 => absurd h15 (by decide)) (fun h15 => ?_)
      refine v_aload_n G 1 dX8_atom3_18 rfl ?_
      refine w_callVi G hK hT (kX8_atom4 hK l dC dI ct ad σ12 F n b (nxS b n t) h12_s) (ck_X8_254 G.2.2.2.2.1 ⟨Nat.le_of_ble_eq_true rfl, Nat.le_of_ble_eq_true rfl⟩) m_recv (fun _ h => h) rfl [] rfl (Nat.le_of_ble_eq_true rfl) dX8_atom3_19 ⟨Nat.le_of_ble_eq_true rfl, Nat.le_of_ble_eq_true rfl⟩ (k1 := 0) (n1 := 0) rfl rfl ?_
      rintro r19 σ19 ⟨rfl, h19_s, h19_a⟩
      refine v_topr (x2 := .int ((p_atom b n (p_lev b n 1) (nxS b n t)).1 (envS σ))) (congrArg Value.int (congrArg (p_atom b n (p_lev b n 1) (nxS b n t)).1 (envS_ag (ag_tr ag_rf h12_a)))) ?_
      refine v_ineg G dX8_atom3_22 ?_
      refine v_istore_n (L' := [(1, .int (-((p_atom b n (p_lev b n 1) (nxS b n t)).1 (envS σ)))), (0, .ref (ad 43))]) G dX8_atom3_23 (by decide) rfl ?_
      refine v_aload_n G 1 dX8_atom3_24 rfl ?_
      refine v_dup G dX8_atom3_25 rfl ?_
      refine m_get (v := .int (σ19.1 24 0)) G 24 (by decide) rfl q1318 rfl dX8_atom3_26 ?_
      refine v_iconst (v := 1) G dX8_atom3_29 rfl ?_
      refine v_isub G dX8_atom3_30 ?_
      refine m_putI G 24 (by decide) q1318 rfl rfl rfl dX8_atom3_31 ?_
      have hS34 : ST F n b 3 (p_atom b n (p_lev b n 1) (nxS b n t)).2 (mset σ19 24 0 ((σ19.1 24 0) - 1)) := ST_cl h19_s (ix_sub h19_s.2.2 (ix_lit 1 rfl) (by omega))
      refine v_goto (tgt := 161) G dX8_atom3_34 (by decide) ?_
      refine v_iload_n G 0 dX8_atom3_161 rfl ?_
      refine RET _ _ _ _ _ _ rfl (Nat.le_of_ble_eq_true rfl) (Nat.le_of_ble_eq_true rfl) dX8_atom3_162 (fun ws hw => ⟨_, hw, ?_⟩)
      clear RET G hT hnm
      rw [show p_atom b n (p_lev b n 2) t = _ from p_atom_m h5_h]
      exact ⟨rfl, hS34, (ag_tr (ag_tr (ag_tr ag_rf h12_a) h19_a) (ag_set (by decide)))⟩
    · exact False.elim (by exact absurd h12_k (by decide))
  · refine v_if_eq (tgt := 37) G dX8_atom3_8 (by decide) (fun h8 => ?_) (fun h8 => absurd h8 (by decide))
    refine v_aload_n G 1 dX8_atom3_37 rfl ?_
    refine v_bipush (v := 40) G dX8_atom3_38 rfl ?_
    refine w_callVi G hK hT (kX8_isSignS hK l dC dI ct ad σ F n b 3 t 40 hS) (ck_X8_221 G.2.2.2.2.1 ⟨Nat.le_of_ble_eq_true rfl, Nat.le_of_ble_eq_true rfl⟩) m_recv (fun _ h => h) rfl [] rfl (Nat.le_of_ble_eq_true rfl) dX8_atom3_40 ⟨Nat.le_of_ble_eq_true rfl, Nat.le_of_ble_eq_true rfl⟩ (k1 := 0) (n1 := 0) rfl rfl ?_
    rintro r40 σ40 (⟨rfl, rfl, h40_h⟩ | ⟨rfl, rfl, h40_h⟩)
    · refine v_if_eq (tgt := 95) G dX8_atom3_43 (by decide) (fun h43 => absurd h43 (by decide)) (fun h43 => ?_)
      refine v_aload_n G 1 dX8_atom3_46 rfl ?_
      refine w_callVi G hK hT (kX8_opens hK l dC dI ct ad σ F n b 3 t hS (kd_tk h40_h (by decide)) (by decide)) (ck_X8_224 G.2.2.2.2.1 ⟨Nat.le_of_ble_eq_true rfl, Nat.le_of_ble_eq_true rfl⟩) m_recv (fun _ h => h) rfl [] rfl (Nat.le_of_ble_eq_true rfl) dX8_atom3_47 ⟨Nat.le_of_ble_eq_true rfl, Nat.le_of_ble_eq_true rfl⟩ (k1 := 0) (n1 := 0) rfl rfl ?_
      rintro r47 σ47 (⟨rfl, h47_k, h47_s, h47_a⟩ | ⟨rfl, h47_k, h47_s, h47_a⟩)
      · refine v_if_eq (tgt := 161) G dX8_atom3_50 (by decide) (fun h50 => absurd h50 (by decide)) (fun h50 => ?_)
        refine v_aload_n G 1 dX8_atom3_53 rfl ?_
        refine w_callVi G hK hT (kX8_either4 hK l dC dI ct ad σ47 F n b (nxS b n t) h47_s) (ck_X8_269 G.2.2.2.2.1 ⟨Nat.le_of_ble_eq_true rfl, Nat.le_of_ble_eq_true rfl⟩) m_recv (fun _ h => h) rfl [] rfl (Nat.le_of_ble_eq_true rfl) dX8_atom3_54 ⟨Nat.le_of_ble_eq_true rfl, Nat.le_of_ble_eq_true rfl⟩ (k1 := 0) (n1 := 0) rfl rfl ?_
        rintro r54 σ54 ⟨rfl, h54_s, h54_a⟩
        refine v_topr (x2 := .int ((p_eith b n (p_both b n (p_not b n (p_lev b n 1) (p_add b n (p_term b n (p_atom b n (p_lev b n 1)))))) (nxS b n t)).1 (envS σ))) (congrArg Value.int (congrArg (p_eith b n (p_both b n (p_not b n (p_lev b n 1) (p_add b n (p_term b n (p_atom b n (p_lev b n 1)))))) (nxS b n t)).1 (envS_ag (ag_tr ag_rf h47_a)))) ?_
        refine v_istore_n (L' := [(1, .int ((p_eith b n (p_both b n (p_not b n (p_lev b n 1) (p_add b n (p_term b n (p_atom b n (p_lev b n 1)))))) (nxS b n t)).1 (envS σ))), (0, .ref (ad 43))]) G dX8_atom3_57 (by decide) rfl ?_
        refine v_aload_n G 1 dX8_atom3_58 rfl ?_
        refine v_bipush (v := 41) G dX8_atom3_59 rfl ?_
        refine w_callVi G hK hT (kX8_isSignS hK l dC dI ct ad σ54 F n b 4 ((p_eith b n (p_both b n (p_not b n (p_lev b n 1) (p_add b n (p_term b n (p_atom b n (p_lev b n 1)))))) (nxS b n t)).2) 41 h54_s) (ck_X8_221 G.2.2.2.2.1 ⟨Nat.le_of_ble_eq_true rfl, Nat.le_of_ble_eq_true rfl⟩) m_recv (fun _ h => h) rfl [] rfl (Nat.le_of_ble_eq_true rfl) dX8_atom3_61 ⟨Nat.le_of_ble_eq_true rfl, Nat.le_of_ble_eq_true rfl⟩ (k1 := 0) (n1 := 0) rfl rfl ?_
        rintro r61 σ61 (⟨rfl, rfl, h61_h⟩ | ⟨rfl, rfl, h61_h⟩)
        · refine v_if_ne (tgt := 71) G dX8_atom3_64 (by decide) (fun h64 => ?_) (fun h64 => absurd h64 (by decide))
          refine v_aload_n G 1 dX8_atom3_71 rfl ?_
          refine v_dup G dX8_atom3_72 rfl ?_
          refine m_get (v := .int (σ54.1 24 0)) G 24 (by decide) rfl q1318 rfl dX8_atom3_73 ?_
          refine v_iconst (v := 1) G dX8_atom3_76 rfl ?_
          refine v_isub G dX8_atom3_77 ?_
          refine m_putI G 24 (by decide) q1318 rfl rfl rfl dX8_atom3_78 ?_
          have hS81 : ST F n b 3 (p_eith b n (p_both b n (p_not b n (p_lev b n 1) (p_add b n (p_term b n (p_atom b n (p_lev b n 1)))))) (nxS b n t)).2 (mset σ54 24 0 ((σ54.1 24 0) - 1)) := ST_cl h54_s (ix_sub h54_s.2.2 (ix_lit 1 rfl) (by omega))
          refine v_aload_n G 1 dX8_atom3_81 rfl ?_
          refine m_get (v := .int (σ54.1 25 0)) G 25 (by decide) rfl q1319 rfl dX8_atom3_82 ?_
          refine v_if_ne (tgt := 161) G dX8_atom3_85 (by decide) (fun h85 => False.elim (by exact h85 (ST_bad (σ := (mset σ54 24 0 ((σ54.1 24 0) - 1))) hS81 (kd_tk h61_h (by decide))))) (fun h85 => ?_)
          refine v_aload_n G 1 dX8_atom3_88 rfl ?_
          refine w_callVv G hK hT (kX8_nextS hK l dC dI ct ad (mset σ54 24 0 ((σ54.1 24 0) - 1)) F n b 3 ((p_eith b n (p_both b n (p_not b n (p_lev b n 1) (p_add b n (p_term b n (p_atom b n (p_lev b n 1)))))) (nxS b n t)).2) hS81 (kd_tk h61_h (by decide))) (ck_X8_196 G.2.2.2.2.1 ⟨Nat.le_of_ble_eq_true rfl, Nat.le_of_ble_eq_true rfl⟩) m_recv (fun _ h => h) rfl [] rfl (Nat.le_of_ble_eq_true rfl) dX8_atom3_89 ⟨Nat.le_of_ble_eq_true rfl, Nat.le_of_ble_eq_true rfl⟩ (k1 := 0) (n1 := 0) rfl rfl ?_
          rintro σ89 ⟨h89_s, h89_a, h89_b⟩
          refine v_goto (tgt := 161) G dX8_atom3_92 (by decide) ?_
          refine v_iload_n G 0 dX8_atom3_161 rfl ?_
          refine RET _ _ _ _ _ _ rfl (Nat.le_of_ble_eq_true rfl) (Nat.le_of_ble_eq_true rfl) dX8_atom3_162 (fun ws hw => ⟨_, hw, ?_⟩)
          clear RET G hT hnm
          rw [show p_atom b n (p_lev b n 2) t = _ from p_atom_oy h5_h h40_h h61_h]
          exact ⟨rfl, h89_s, (ag_tr (ag_tr (ag_tr (ag_tr ag_rf h47_a) h54_a) (ag_set (by decide))) h89_a)⟩
        · refine v_if_ne (tgt := 71) G dX8_atom3_64 (by decide) (fun h64 => absurd h64 (by decide)) (fun h64 => ?_)
          refine v_aload_n G 1 dX8_atom3_67 rfl ?_
          refine w_callVv G hK hT (kX8_failS hK l dC dI ct ad σ54 F n b 4 ((p_eith b n (p_both b n (p_not b n (p_lev b n 1) (p_add b n (p_term b n (p_atom b n (p_lev b n 1)))))) (nxS b n t)).2) h54_s) (ck_X8_193 G.2.2.2.2.1 ⟨Nat.le_of_ble_eq_true rfl, Nat.le_of_ble_eq_true rfl⟩) m_recv (fun _ h => h) rfl [] rfl (Nat.le_of_ble_eq_true rfl) dX8_atom3_68 ⟨Nat.le_of_ble_eq_true rfl, Nat.le_of_ble_eq_true rfl⟩ (k1 := 0) (n1 := 0) rfl rfl ?_
          rintro σ68 ⟨h68_s, h68_a, h68_b⟩
          refine v_aload_n G 1 dX8_atom3_71 rfl ?_
          refine v_dup G dX8_atom3_72 rfl ?_
          refine m_get (v := .int (σ68.1 24 0)) G 24 (by decide) rfl q1318 rfl dX8_atom3_73 ?_
          refine v_iconst (v := 1) G dX8_atom3_76 rfl ?_
          refine v_isub G dX8_atom3_77 ?_
          refine m_putI G 24 (by decide) q1318 rfl rfl rfl dX8_atom3_78 ?_
          have hS81 : ST F n b 3 (faS (p_eith b n (p_both b n (p_not b n (p_lev b n 1) (p_add b n (p_term b n (p_atom b n (p_lev b n 1)))))) (nxS b n t)).2) (mset σ68 24 0 ((σ68.1 24 0) - 1)) := ST_cl h68_s (ix_sub h68_s.2.2 (ix_lit 1 rfl) (by omega))
          refine v_aload_n G 1 dX8_atom3_81 rfl ?_
          refine m_get (v := .int (σ68.1 25 0)) G 25 (by decide) rfl q1319 rfl dX8_atom3_82 ?_
          refine v_if_ne (tgt := 161) G dX8_atom3_85 (by decide) (fun h85 => ?_) (fun h85 => False.elim (by rw [h68_b] at h85; exact absurd h85 (by decide)))
          refine v_iload_n G 0 dX8_atom3_161 rfl ?_
          refine RET _ _ _ _ _ _ rfl (Nat.le_of_ble_eq_true rfl) (Nat.le_of_ble_eq_true rfl) dX8_atom3_162 (fun ws hw => ⟨_, hw, ?_⟩)
          clear RET G hT hnm
          rw [show p_atom b n (p_lev b n 2) t = _ from p_atom_on h5_h h40_h h61_h]
          exact ⟨rfl, hS81, (ag_tr (ag_tr (ag_tr (ag_tr ag_rf h47_a) h54_a) h68_a) (ag_set (by decide)))⟩
      · exact False.elim (by exact absurd h47_k (by decide))
    · refine v_if_eq (tgt := 95) G dX8_atom3_43 (by decide) (fun h43 => ?_) (fun h43 => absurd h43 (by decide))
      refine v_aload_n G 1 dX8_atom3_95 rfl ?_
      refine m_get (v := .int (σ.1 25 0)) G 25 (by decide) rfl q1319 rfl dX8_atom3_96 ?_
      refine v_if_ne (tgt := 123) G dX8_atom3_99 (by decide) (fun h99 => ?_) (fun h99 => ?_)
      · refine v_aload_n G 1 dX8_atom3_123 rfl ?_
        refine m_get (v := .int (σ.1 25 0)) G 25 (by decide) rfl q1319 rfl dX8_atom3_124 ?_
        refine v_if_ne (tgt := 157) G dX8_atom3_127 (by decide) (fun h127 => ?_) (fun h127 => False.elim (by exact h99 h127))
        refine v_aload_n G 1 dX8_atom3_157 rfl ?_
        refine w_callVv G hK hT (kX8_failS hK l dC dI ct ad σ F n b 3 t hS) (ck_X8_193 G.2.2.2.2.1 ⟨Nat.le_of_ble_eq_true rfl, Nat.le_of_ble_eq_true rfl⟩) m_recv (fun _ h => h) rfl [] rfl (Nat.le_of_ble_eq_true rfl) dX8_atom3_158 ⟨Nat.le_of_ble_eq_true rfl, Nat.le_of_ble_eq_true rfl⟩ (k1 := 0) (n1 := 0) rfl rfl ?_
        rintro σ158 ⟨h158_s, h158_a, h158_b⟩
        refine v_iload_n G 0 dX8_atom3_161 rfl ?_
        refine RET _ _ _ _ _ _ rfl (Nat.le_of_ble_eq_true rfl) (Nat.le_of_ble_eq_true rfl) dX8_atom3_162 (fun ws hw => ⟨_, hw, ?_⟩)
        clear RET G hT hnm
        rw [show p_atom b n (p_lev b n 2) t = _ from p_atom_f h5_h h40_h (tk_nnum hS.2.1 (fun q => by first | exact h99 q.1 | exact h107 q.2)) (tk_nwd hS.2.1 (fun q => by first | exact h99 q.1 | exact h127 q.1 | exact h135 q.2)).1]
        exact ⟨rfl, h158_s, (ag_tr ag_rf h158_a)⟩
      · refine v_aload_n G 1 dX8_atom3_102 rfl ?_
        refine m_get (v := .int (σ.1 21 0)) G 21 (by decide) rfl q1315 rfl dX8_atom3_103 ?_
        refine v_iconst (v := 2) G dX8_atom3_106 rfl ?_
        refine v_icmp_ne (tgt := 123) G dX8_atom3_107 (by decide) (fun h107 => ?_) (fun h107 => ?_)
        · refine v_aload_n G 1 dX8_atom3_123 rfl ?_
          refine m_get (v := .int (σ.1 25 0)) G 25 (by decide) rfl q1319 rfl dX8_atom3_124 ?_
          refine v_if_ne (tgt := 157) G dX8_atom3_127 (by decide) (fun h127 => False.elim (by exact h127 h99)) (fun h127 => ?_)
          refine v_aload_n G 1 dX8_atom3_130 rfl ?_
          refine m_get (v := .int (σ.1 21 0)) G 21 (by decide) rfl q1315 rfl dX8_atom3_131 ?_
          refine v_iconst (v := 1) G dX8_atom3_134 rfl ?_
          refine v_icmp_ne (tgt := 157) G dX8_atom3_135 (by decide) (fun h135 => ?_) (fun h135 => ?_)
          · refine v_aload_n G 1 dX8_atom3_157 rfl ?_
            refine w_callVv G hK hT (kX8_failS hK l dC dI ct ad σ F n b 3 t hS) (ck_X8_193 G.2.2.2.2.1 ⟨Nat.le_of_ble_eq_true rfl, Nat.le_of_ble_eq_true rfl⟩) m_recv (fun _ h => h) rfl [] rfl (Nat.le_of_ble_eq_true rfl) dX8_atom3_158 ⟨Nat.le_of_ble_eq_true rfl, Nat.le_of_ble_eq_true rfl⟩ (k1 := 0) (n1 := 0) rfl rfl ?_
            rintro σ158 ⟨h158_s, h158_a, h158_b⟩
            refine v_iload_n G 0 dX8_atom3_161 rfl ?_
            refine RET _ _ _ _ _ _ rfl (Nat.le_of_ble_eq_true rfl) (Nat.le_of_ble_eq_true rfl) dX8_atom3_162 (fun ws hw => ⟨_, hw, ?_⟩)
            clear RET G hT hnm
            rw [show p_atom b n (p_lev b n 2) t = _ from p_atom_f h5_h h40_h (tk_nnum hS.2.1 (fun q => by first | exact h99 q.1 | exact h107 q.2)) (tk_nwd hS.2.1 (fun q => by first | exact h99 q.1 | exact h127 q.1 | exact h135 q.2)).1]
            exact ⟨rfl, h158_s, (ag_tr ag_rf h158_a)⟩
          · refine v_aload_n G 1 dX8_atom3_138 rfl ?_
            refine w_callVi G hK hT (kX8_name hK l dC dI ct ad σ F n b 3 t hS) (ck_X8_228 G.2.2.2.2.1 ⟨Nat.le_of_ble_eq_true rfl, Nat.le_of_ble_eq_true rfl⟩) m_recv (fun _ h => h) rfl [] rfl (Nat.le_of_ble_eq_true rfl) dX8_atom3_139 ⟨Nat.le_of_ble_eq_true rfl, Nat.le_of_ble_eq_true rfl⟩ (k1 := 0) (n1 := 0) rfl rfl ?_
            rintro r139 σ139 (⟨rfl, rfl, h139_h⟩ | ⟨rfl, h139_s, h139_a, h139_b, h139_h⟩)
            · refine v_topr (congrArg Value.int (show envS σ (n_ (vl t)) = envS σ (n_ (vl t)) by rw [envS_ag ag_rf])) ?_
              refine v_istore_n (L' := [(1, .int (envS σ (n_ (vl t)))), (0, .ref (ad 43))]) G dX8_atom3_142 (by decide) rfl ?_
              refine v_aload_n G 1 dX8_atom3_143 rfl ?_
              refine m_get (v := .int (σ.1 25 0)) G 25 (by decide) rfl q1319 rfl dX8_atom3_144 ?_
              refine v_if_ne (tgt := 161) G dX8_atom3_147 (by decide) (fun h147 => False.elim (by exact h147 (by assumption))) (fun h147 => ?_)
              refine v_aload_n G 1 dX8_atom3_150 rfl ?_
              refine w_callVv G hK hT (kX8_nextS hK l dC dI ct ad σ F n b 3 t hS (by rw [h139_h]; decide)) (ck_X8_196 G.2.2.2.2.1 ⟨Nat.le_of_ble_eq_true rfl, Nat.le_of_ble_eq_true rfl⟩) m_recv (fun _ h => h) rfl [] rfl (Nat.le_of_ble_eq_true rfl) dX8_atom3_151 ⟨Nat.le_of_ble_eq_true rfl, Nat.le_of_ble_eq_true rfl⟩ (k1 := 0) (n1 := 0) rfl rfl ?_
              rintro σ151 ⟨h151_s, h151_a, h151_b⟩
              refine v_goto (tgt := 161) G dX8_atom3_154 (by decide) ?_
              refine v_iload_n G 0 dX8_atom3_161 rfl ?_
              refine RET _ _ _ _ _ _ rfl (Nat.le_of_ble_eq_true rfl) (Nat.le_of_ble_eq_true rfl) dX8_atom3_162 (fun ws hw => ⟨_, hw, ?_⟩)
              clear RET G hT hnm
              rw [show p_atom b n (p_lev b n 2) t = _ from p_atom_2 h5_h h40_h h139_h]
              exact ⟨rfl, h151_s, (ag_tr ag_rf h151_a)⟩
            · refine v_istore_n (L' := [(1, .int 0), (0, .ref (ad 43))]) G dX8_atom3_142 (by decide) rfl ?_
              refine v_aload_n G 1 dX8_atom3_143 rfl ?_
              refine m_get (v := .int (σ139.1 25 0)) G 25 (by decide) rfl q1319 rfl dX8_atom3_144 ?_
              refine v_if_ne (tgt := 161) G dX8_atom3_147 (by decide) (fun h147 => ?_) (fun h147 => False.elim (by rw [h139_b] at h147; exact absurd h147 (by decide)))
              refine v_iload_n G 0 dX8_atom3_161 rfl ?_
              refine RET _ _ _ _ _ _ rfl (Nat.le_of_ble_eq_true rfl) (Nat.le_of_ble_eq_true rfl) dX8_atom3_162 (fun ws hw => ⟨_, hw, ?_⟩)
              clear RET G hT hnm
              rw [show p_atom b n (p_lev b n 2) t = _ from p_atom_f h5_h h40_h (tk_nnum hS.2.1 (fun q => by first | exact h99 q.1 | exact h107 q.2)) h139_h]
              exact ⟨rfl, h139_s, (ag_tr ag_rf h139_a)⟩
        · refine v_aload_n G 1 dX8_atom3_110 rfl ?_
          have hnum := tk_num hS.2.1 h99 h107
          refine m_get (v := .long (σ.2 23 0)) G 23 (by decide) rfl q1317 rfl dX8_atom3_111 ?_
          refine v_l2i (v := (σ.2 23 0).toInt32) G dX8_atom3_114 rfl ?_
          refine v_topr (x2 := .int (vl t)) (congrArg Value.int (show (σ.2 23 0).toInt32 = vl t by rw [hnum.2]; exact lg_l2i_i2l _)) ?_
          refine v_istore_n (L' := [(1, .int (vl t)), (0, .ref (ad 43))]) G dX8_atom3_115 (by decide) rfl ?_
          refine v_aload_n G 1 dX8_atom3_116 rfl ?_
          refine w_callVv G hK hT (kX8_nextS hK l dC dI ct ad σ F n b 3 t hS (by rw [hnum.1]; decide)) (ck_X8_196 G.2.2.2.2.1 ⟨Nat.le_of_ble_eq_true rfl, Nat.le_of_ble_eq_true rfl⟩) m_recv (fun _ h => h) rfl [] rfl (Nat.le_of_ble_eq_true rfl) dX8_atom3_117 ⟨Nat.le_of_ble_eq_true rfl, Nat.le_of_ble_eq_true rfl⟩ (k1 := 0) (n1 := 0) rfl rfl ?_
          rintro σ117 ⟨h117_s, h117_a, h117_b⟩
          refine v_goto (tgt := 161) G dX8_atom3_120 (by decide) ?_
          refine v_iload_n G 0 dX8_atom3_161 rfl ?_
          refine RET _ _ _ _ _ _ rfl (Nat.le_of_ble_eq_true rfl) (Nat.le_of_ble_eq_true rfl) dX8_atom3_162 (fun ws hw => ⟨_, hw, ?_⟩)
          clear RET G hT hnm
          rw [show p_atom b n (p_lev b n 2) t = _ from p_atom_3 h5_h h40_h hnum.1]
          exact ⟨rfl, h117_s, (ag_tr ag_rf h117_a)⟩
abbrev rmX8_term3 : Room := { frames := 17, cells := 0, slots := 0, locals := 376 }
set_option maxHeartbeats 4000000 in
theorem kX8_term3 {KT : (Nat → Prop) → State → Heap → Prop} (hK : KTok KT) (l : Launch) (dC : Nat → ClassId) (dI : Nat → Nat → Nat) (ct ad : Nat → Nat) (σ : MS) (F : Nat) (n : Nat) (b : Nat → Int32) (t : PS) (hS : ST F n b 3 t σ) : MC KT (dC, dI) vwCl (tysF ct) l yX8_term3 cX8_term3 2 (some .int) rmX8_term3 [.ref (ad 43)] (RM ct ad σ) (QI_ (dC, dI) vwCl (RM ct ad) (fun (r : Int32) (σ' : MS) => ((p_term b n (p_atom b n (p_lev b n 2)) t).1 (envS σ)) = r ∧ ST F n b 3 (p_term b n (p_atom b n (p_lev b n 2)) t).2 σ' ∧ ag pfr σ σ')) := by
  refine MC.ofI (own := RX8) pl_X8 rfl (Nat.le_of_ble_eq_true rfl) ?_
  intro pp ee ss mm aa bb hh cc AA QQ G hT hnm RET
  refine v_loc (L' := [(0, .ref (ad 43))]) rfl ?_
  refine v_aload_n G 0 dX8_term3_0 rfl ?_
  refine w_callVi G hK hT (kX8_atom3 hK l dC dI ct ad σ F n b t hS) (ck_X8_272 G.2.2.2.2.1 ⟨Nat.le_of_ble_eq_true rfl, Nat.le_of_ble_eq_true rfl⟩) m_recv (fun _ h => h) rfl [] rfl (Nat.le_of_ble_eq_true rfl) dX8_term3_1 ⟨Nat.le_of_ble_eq_true rfl, Nat.le_of_ble_eq_true rfl⟩ (k1 := 0) (n1 := 0) rfl rfl ?_
  rintro r1 σ1 ⟨rfl, h1_s, h1_a⟩
  refine v_topr (x2 := .int ((p_atom b n (p_lev b n 2) t).1 (envS σ))) (congrArg Value.int (congrArg (p_atom b n (p_lev b n 2) t).1 (envS_ag ag_rf))) ?_
  refine v_istore_n (L' := [(1, .int ((p_atom b n (p_lev b n 2) t).1 (envS σ))), (0, .ref (ad 43))]) G dX8_term3_4 (by decide) rfl ?_
  have loop5 : ∀ (dd : Nat) (f : Nat) (v : SF) (t1 : PS) (τ : MS), (ST F n b 3 t1 τ) → (ag pfr σ τ) → (mu n t1 < f) → (p_termL b n (p_atom b n (p_lev b n 2)) f v t1 = p_term b n (p_atom b n (p_lev b n 2)) t) → f < dd → V_ pp l ee rmX8_term3 ss mm aa bb hh cc 2 (dC, dI) vwCl AA QQ 0 0 (RM ct ad τ) 5 [(1, .int (v (envS σ))), (0, .ref (ad 43))] [] := by
    intro dd
    induction dd with
    | zero => intro f v t1 τ hs ha hm he hdd; exact absurd hdd (Nat.not_lt_zero _)
    | succ dd ih5 =>
      intro f v t1 τ hs ha hm he hdd
      obtain ⟨f, rfl⟩ : ∃ g, f = g + 1 := ⟨f - 1, by omega⟩
      refine v_aload_n G 1 dX8_term3_5 rfl ?_
      refine v_bipush (v := 42) G dX8_term3_6 rfl ?_
      refine w_callVi G hK hT (kX8_isSignS hK l dC dI ct ad τ F n b 3 t1 42 hs) (ck_X8_221 G.2.2.2.2.1 ⟨Nat.le_of_ble_eq_true rfl, Nat.le_of_ble_eq_true rfl⟩) m_recv (fun _ h => h) rfl [] rfl (Nat.le_of_ble_eq_true rfl) dX8_term3_8 ⟨Nat.le_of_ble_eq_true rfl, Nat.le_of_ble_eq_true rfl⟩ (k1 := 0) (n1 := 0) rfl rfl ?_
      rintro r8 σ8 (⟨rfl, rfl, h8_h⟩ | ⟨rfl, rfl, h8_h⟩)
      · refine v_if_eq (tgt := 28) G dX8_term3_11 (by decide) (fun h11 => absurd h11 (by decide)) (fun h11 => ?_)
        refine v_aload_n G 1 dX8_term3_14 rfl ?_
        refine w_callVv G hK hT (kX8_nextS hK l dC dI ct ad τ F n b 3 t1 hs (kd_tk h8_h (by decide))) (ck_X8_196 G.2.2.2.2.1 ⟨Nat.le_of_ble_eq_true rfl, Nat.le_of_ble_eq_true rfl⟩) m_recv (fun _ h => h) rfl [] rfl (Nat.le_of_ble_eq_true rfl) dX8_term3_15 ⟨Nat.le_of_ble_eq_true rfl, Nat.le_of_ble_eq_true rfl⟩ (k1 := 0) (n1 := 0) rfl rfl ?_
        rintro σ15 ⟨h15_s, h15_a, h15_b⟩
        refine v_iload_n G 0 dX8_term3_18 rfl ?_
        refine v_aload_n G 1 dX8_term3_19 rfl ?_
        refine w_callVi G hK hT (kX8_atom3 hK l dC dI ct ad σ15 F n b (nxS b n t1) h15_s) (ck_X8_272 G.2.2.2.2.1 ⟨Nat.le_of_ble_eq_true rfl, Nat.le_of_ble_eq_true rfl⟩) m_recv (fun _ h => h) rfl [.int (v (envS σ))] rfl (Nat.le_of_ble_eq_true rfl) dX8_term3_20 ⟨Nat.le_of_ble_eq_true rfl, Nat.le_of_ble_eq_true rfl⟩ (k1 := 0) (n1 := 0) rfl rfl ?_
        rintro r20 σ20 ⟨rfl, h20_s, h20_a⟩
        refine v_topr (x2 := .int ((p_atom b n (p_lev b n 2) (nxS b n t1)).1 (envS σ))) (congrArg Value.int (congrArg (p_atom b n (p_lev b n 2) (nxS b n t1)).1 (envS_ag (ag_tr ha h15_a)))) ?_
        refine v_imul G dX8_term3_23 ?_
        refine v_istore_n (L' := [(1, .int ((v (envS σ)) * ((p_atom b n (p_lev b n 2) (nxS b n t1)).1 (envS σ)))), (0, .ref (ad 43))]) G dX8_term3_24 (by decide) rfl ?_
        refine v_goto (tgt := 5) G dX8_term3_25 (by decide) ?_
        refine V_.sub (L' := [(1, .int ((v (envS σ)) * ((p_atom b n (p_lev b n 2) (nxS b n t1)).1 (envS σ)))), (0, .ref (ad 43))]) ?_ [0, 1] rfl
        refine v_loc (L' := [(1, .int ((fun e => v e * (p_atom b n (p_lev b n 2) (nxS b n t1)).1 e) (envS σ))), (0, .ref (ad 43))]) (rfl) ?_
        exact ih5  f (fun e => v e * (p_atom b n (p_lev b n 2) (nxS b n t1)).1 e) ((p_atom b n (p_lev b n 2) (nxS b n t1)).2) σ20 h20_s (ag_tr (ag_tr ha h15_a) h20_a) (mu_step (tk_wf hs.2.1) h8_h (by decide) (p_atom_ok (p_lev_ok 2)) hm) (by rw [← he, p_termL, if_pos h8_h]) (by omega)
      · refine v_if_eq (tgt := 28) G dX8_term3_11 (by decide) (fun h11 => ?_) (fun h11 => absurd h11 (by decide))
        refine v_iload_n G 0 dX8_term3_28 rfl ?_
        refine RET _ _ _ _ _ _ rfl (Nat.le_of_ble_eq_true rfl) (Nat.le_of_ble_eq_true rfl) dX8_term3_29 (fun ws hw => ⟨_, hw, ?_⟩)
        clear RET G hT hnm
        rw [show p_term b n (p_atom b n (p_lev b n 2)) t = (v, t1) by rw [← he, p_termL, if_neg (by rw [h8_h]; decide)]]
        exact ⟨rfl, hs, ha⟩
  refine V_.sub (L' := [(1, .int ((p_atom b n (p_lev b n 2) t).1 (envS σ))), (0, .ref (ad 43))]) ?_ [0, 1] rfl
  refine v_loc (L' := [(1, .int (((p_atom b n (p_lev b n 2) t).1) (envS σ))), (0, .ref (ad 43))]) (rfl) ?_
  exact loop5 _ (n + 2) ((p_atom b n (p_lev b n 2) t).1) ((p_atom b n (p_lev b n 2) t).2) σ1 h1_s h1_a (by have := mu_le (n := n) (s := (p_atom b n (p_lev b n 2) t).2); omega) rfl (Nat.lt_succ_self _)
abbrev rmX8_added3 : Room := { frames := 18, cells := 0, slots := 0, locals := 397 }
set_option maxHeartbeats 4000000 in
theorem kX8_added3 {KT : (Nat → Prop) → State → Heap → Prop} (hK : KTok KT) (l : Launch) (dC : Nat → ClassId) (dI : Nat → Nat → Nat) (ct ad : Nat → Nat) (σ : MS) (F : Nat) (n : Nat) (b : Nat → Int32) (t : PS) (hS : ST F n b 3 t σ) : MC KT (dC, dI) vwCl (tysF ct) l yX8_added3 cX8_added3 4 (some .int) rmX8_added3 [.ref (ad 43)] (RM ct ad σ) (QI_ (dC, dI) vwCl (RM ct ad) (fun (r : Int32) (σ' : MS) => ((p_add b n (p_term b n (p_atom b n (p_lev b n 2))) t).1 (envS σ)) = r ∧ ST F n b 3 (p_add b n (p_term b n (p_atom b n (p_lev b n 2))) t).2 σ' ∧ ag pfr σ σ')) := by
  refine MC.ofI (own := RX8) pl_X8 rfl (Nat.le_of_ble_eq_true rfl) ?_
  intro pp ee ss mm aa bb hh cc AA QQ G hT hnm RET
  refine v_loc (L' := [(0, .ref (ad 43))]) rfl ?_
  refine v_aload_n G 0 dX8_added3_0 rfl ?_
  refine w_callVi G hK hT (kX8_term3 hK l dC dI ct ad σ F n b t hS) (ck_X8_275 G.2.2.2.2.1 ⟨Nat.le_of_ble_eq_true rfl, Nat.le_of_ble_eq_true rfl⟩) m_recv (fun _ h => h) rfl [] rfl (Nat.le_of_ble_eq_true rfl) dX8_added3_1 ⟨Nat.le_of_ble_eq_true rfl, Nat.le_of_ble_eq_true rfl⟩ (k1 := 0) (n1 := 0) rfl rfl ?_
  rintro r1 σ1 ⟨rfl, h1_s, h1_a⟩
  refine v_topr (x2 := .int ((p_term b n (p_atom b n (p_lev b n 2)) t).1 (envS σ))) (congrArg Value.int (congrArg (p_term b n (p_atom b n (p_lev b n 2)) t).1 (envS_ag ag_rf))) ?_
  refine v_istore_n (L' := [(1, .int ((p_term b n (p_atom b n (p_lev b n 2)) t).1 (envS σ))), (0, .ref (ad 43))]) G dX8_added3_4 (by decide) rfl ?_
  have loop5 : ∀ (dd : Nat) (f : Nat) (v : SF) (t1 : PS) (τ : MS), (ST F n b 3 t1 τ) → (ag pfr σ τ) → (mu n t1 < f) → (p_addL b n (p_term b n (p_atom b n (p_lev b n 2))) f v t1 = p_add b n (p_term b n (p_atom b n (p_lev b n 2))) t) → f < dd → V_ pp l ee rmX8_added3 ss mm aa bb hh cc 4 (dC, dI) vwCl AA QQ 0 0 (RM ct ad τ) 5 [(1, .int (v (envS σ))), (0, .ref (ad 43))] [] := by
    intro dd
    induction dd with
    | zero => intro f v t1 τ hs ha hm he hdd; exact absurd hdd (Nat.not_lt_zero _)
    | succ dd ih5 =>
      intro f v t1 τ hs ha hm he hdd
      obtain ⟨f, rfl⟩ : ∃ g, f = g + 1 := ⟨f - 1, by omega⟩
      refine v_aload_n G 1 dX8_added3_5 rfl ?_
      refine v_bipush (v := 43) G dX8_added3_6 rfl ?_
      refine w_callVi G hK hT (kX8_isSignS hK l dC dI ct ad τ F n b 3 t1 43 hs) (ck_X8_221 G.2.2.2.2.1 ⟨Nat.le_of_ble_eq_true rfl, Nat.le_of_ble_eq_true rfl⟩) m_recv (fun _ h => h) rfl [] rfl (Nat.le_of_ble_eq_true rfl) dX8_added3_8 ⟨Nat.le_of_ble_eq_true rfl, Nat.le_of_ble_eq_true rfl⟩ (k1 := 0) (n1 := 0) rfl rfl ?_
      rintro r8 σ8 (⟨rfl, rfl, h8_h⟩ | ⟨rfl, rfl, h8_h⟩)
      · refine v_if_ne (tgt := 23) G dX8_added3_11 (by decide) (fun h11 => ?_) (fun h11 => absurd h11 (by decide))
        refine v_aload_n G 1 dX8_added3_23 rfl ?_
        refine m_get (v := .long (τ.2 23 0)) G 23 (by decide) rfl q1317 rfl dX8_added3_24 ?_
        refine v_ldc2 G q1558 dX8_added3_27 ?_
        refine v_lcmp G dX8_added3_30 ?_
        refine v_if_ne (tgt := 38) G dX8_added3_31 (by decide) (fun h31 => False.elim (by exact h31 ((le_of_lcmp _ _).1.mpr (tk_sgv hs.2.1 h8_h)))) (fun h31 => ?_)
        refine v_iconst (v := 1) G dX8_added3_34 rfl ?_
        refine v_goto (tgt := 39) G dX8_added3_35 (by decide) ?_
        refine v_istore_n (L' := [(2, .int 1), (1, .int (v (envS σ))), (0, .ref (ad 43))]) G dX8_added3_39 (by decide) rfl ?_
        refine v_aload_n G 2 dX8_added3_40 rfl ?_
        refine w_callVv G hK hT (kX8_nextS hK l dC dI ct ad τ F n b 3 t1 hs (kd_tk h8_h (by decide))) (ck_X8_196 G.2.2.2.2.1 ⟨Nat.le_of_ble_eq_true rfl, Nat.le_of_ble_eq_true rfl⟩) m_recv (fun _ h => h) rfl [] rfl (Nat.le_of_ble_eq_true rfl) dX8_added3_41 ⟨Nat.le_of_ble_eq_true rfl, Nat.le_of_ble_eq_true rfl⟩ (k1 := 0) (n1 := 0) rfl rfl ?_
        rintro σ41 ⟨h41_s, h41_a, h41_b⟩
        refine v_aload_n G 2 dX8_added3_44 rfl ?_
        refine w_callVi G hK hT (kX8_term3 hK l dC dI ct ad σ41 F n b (nxS b n t1) h41_s) (ck_X8_275 G.2.2.2.2.1 ⟨Nat.le_of_ble_eq_true rfl, Nat.le_of_ble_eq_true rfl⟩) m_recv (fun _ h => h) rfl [] rfl (Nat.le_of_ble_eq_true rfl) dX8_added3_45 ⟨Nat.le_of_ble_eq_true rfl, Nat.le_of_ble_eq_true rfl⟩ (k1 := 0) (n1 := 0) rfl rfl ?_
        rintro r45 σ45 ⟨rfl, h45_s, h45_a⟩
        refine v_topr (x2 := .int ((p_term b n (p_atom b n (p_lev b n 2)) (nxS b n t1)).1 (envS σ))) (congrArg Value.int (congrArg (p_term b n (p_atom b n (p_lev b n 2)) (nxS b n t1)).1 (envS_ag (ag_tr ha h41_a)))) ?_
        refine v_istore_n (L' := [(3, .int ((p_term b n (p_atom b n (p_lev b n 2)) (nxS b n t1)).1 (envS σ))), (2, .int 1), (1, .int (v (envS σ))), (0, .ref (ad 43))]) G dX8_added3_48 (by decide) rfl ?_
        refine v_iload_n G 1 dX8_added3_49 rfl ?_
        refine v_if_eq (tgt := 59) G dX8_added3_50 (by decide) (fun h50 => absurd h50 (by decide)) (fun h50 => ?_)
        refine v_iload_n G 2 dX8_added3_53 rfl ?_
        refine v_iload_n G 0 dX8_added3_54 rfl ?_
        refine v_iadd G dX8_added3_55 ?_
        refine v_goto (tgt := 62) G dX8_added3_56 (by decide) ?_
        refine v_istore_n (L' := [(1, .int ((v (envS σ)) + ((p_term b n (p_atom b n (p_lev b n 2)) (nxS b n t1)).1 (envS σ)))), (3, .int ((p_term b n (p_atom b n (p_lev b n 2)) (nxS b n t1)).1 (envS σ))), (2, .int 1), (0, .ref (ad 43))]) G dX8_added3_62 (by decide) rfl ?_
        refine v_goto (tgt := 5) G dX8_added3_63 (by decide) ?_
        refine V_.sub (L' := [(1, .int ((v (envS σ)) + ((p_term b n (p_atom b n (p_lev b n 2)) (nxS b n t1)).1 (envS σ)))), (0, .ref (ad 43))]) ?_ [0, 3] rfl
        refine v_loc (L' := [(1, .int ((fun e => v e + (p_term b n (p_atom b n (p_lev b n 2)) (nxS b n t1)).1 e) (envS σ))), (0, .ref (ad 43))]) (rfl) ?_
        exact ih5  f (fun e => v e + (p_term b n (p_atom b n (p_lev b n 2)) (nxS b n t1)).1 e) ((p_term b n (p_atom b n (p_lev b n 2)) (nxS b n t1)).2) σ45 h45_s (ag_tr (ag_tr ha h41_a) h45_a) (mu_step (tk_wf hs.2.1) h8_h (by decide) (p_term_ok (p_atom_ok (p_lev_ok 2))) hm) (by rw [← he, p_addL, if_pos h8_h]) (by omega)
      · refine v_if_ne (tgt := 23) G dX8_added3_11 (by decide) (fun h11 => absurd h11 (by decide)) (fun h11 => ?_)
        refine v_aload_n G 1 dX8_added3_14 rfl ?_
        refine v_bipush (v := 45) G dX8_added3_15 rfl ?_
        refine w_callVi G hK hT (kX8_isSignS hK l dC dI ct ad τ F n b 3 t1 45 hs) (ck_X8_221 G.2.2.2.2.1 ⟨Nat.le_of_ble_eq_true rfl, Nat.le_of_ble_eq_true rfl⟩) m_recv (fun _ h => h) rfl [] rfl (Nat.le_of_ble_eq_true rfl) dX8_added3_17 ⟨Nat.le_of_ble_eq_true rfl, Nat.le_of_ble_eq_true rfl⟩ (k1 := 0) (n1 := 0) rfl rfl ?_
        rintro r17 σ17 (⟨rfl, rfl, h17_h⟩ | ⟨rfl, rfl, h17_h⟩)
        · refine v_if_eq (tgt := 66) G dX8_added3_20 (by decide) (fun h20 => absurd h20 (by decide)) (fun h20 => ?_)
          refine v_aload_n G 1 dX8_added3_23 rfl ?_
          refine m_get (v := .long (τ.2 23 0)) G 23 (by decide) rfl q1317 rfl dX8_added3_24 ?_
          refine v_ldc2 G q1558 dX8_added3_27 ?_
          refine v_lcmp G dX8_added3_30 ?_
          refine v_if_ne (tgt := 38) G dX8_added3_31 (by decide) (fun h31 => ?_) (fun h31 => False.elim (by have hz := (le_of_lcmp _ _).1.mp h31; rw [tk_sgv hs.2.1 h17_h] at hz; exact absurd hz (by decide)))
          refine v_iconst (v := 0) G dX8_added3_38 rfl ?_
          refine v_istore_n (L' := [(2, .int 0), (1, .int (v (envS σ))), (0, .ref (ad 43))]) G dX8_added3_39 (by decide) rfl ?_
          refine v_aload_n G 2 dX8_added3_40 rfl ?_
          refine w_callVv G hK hT (kX8_nextS hK l dC dI ct ad τ F n b 3 t1 hs (kd_tk h17_h (by decide))) (ck_X8_196 G.2.2.2.2.1 ⟨Nat.le_of_ble_eq_true rfl, Nat.le_of_ble_eq_true rfl⟩) m_recv (fun _ h => h) rfl [] rfl (Nat.le_of_ble_eq_true rfl) dX8_added3_41 ⟨Nat.le_of_ble_eq_true rfl, Nat.le_of_ble_eq_true rfl⟩ (k1 := 0) (n1 := 0) rfl rfl ?_
          rintro σ41 ⟨h41_s, h41_a, h41_b⟩
          refine v_aload_n G 2 dX8_added3_44 rfl ?_
          refine w_callVi G hK hT (kX8_term3 hK l dC dI ct ad σ41 F n b (nxS b n t1) h41_s) (ck_X8_275 G.2.2.2.2.1 ⟨Nat.le_of_ble_eq_true rfl, Nat.le_of_ble_eq_true rfl⟩) m_recv (fun _ h => h) rfl [] rfl (Nat.le_of_ble_eq_true rfl) dX8_added3_45 ⟨Nat.le_of_ble_eq_true rfl, Nat.le_of_ble_eq_true rfl⟩ (k1 := 0) (n1 := 0) rfl rfl ?_
          rintro r45 σ45 ⟨rfl, h45_s, h45_a⟩
          refine v_topr (x2 := .int ((p_term b n (p_atom b n (p_lev b n 2)) (nxS b n t1)).1 (envS σ))) (congrArg Value.int (congrArg (p_term b n (p_atom b n (p_lev b n 2)) (nxS b n t1)).1 (envS_ag (ag_tr ha h41_a)))) ?_
          refine v_istore_n (L' := [(3, .int ((p_term b n (p_atom b n (p_lev b n 2)) (nxS b n t1)).1 (envS σ))), (2, .int 0), (1, .int (v (envS σ))), (0, .ref (ad 43))]) G dX8_added3_48 (by decide) rfl ?_
          refine v_iload_n G 1 dX8_added3_49 rfl ?_
          refine v_if_eq (tgt := 59) G dX8_added3_50 (by decide) (fun h50 => ?_) (fun h50 => absurd h50 (by decide))
          refine v_iload_n G 2 dX8_added3_59 rfl ?_
          refine v_iload_n G 0 dX8_added3_60 rfl ?_
          refine v_isub G dX8_added3_61 ?_
          refine v_istore_n (L' := [(1, .int ((v (envS σ)) - ((p_term b n (p_atom b n (p_lev b n 2)) (nxS b n t1)).1 (envS σ)))), (3, .int ((p_term b n (p_atom b n (p_lev b n 2)) (nxS b n t1)).1 (envS σ))), (2, .int 0), (0, .ref (ad 43))]) G dX8_added3_62 (by decide) rfl ?_
          refine v_goto (tgt := 5) G dX8_added3_63 (by decide) ?_
          refine V_.sub (L' := [(1, .int ((v (envS σ)) - ((p_term b n (p_atom b n (p_lev b n 2)) (nxS b n t1)).1 (envS σ)))), (0, .ref (ad 43))]) ?_ [0, 3] rfl
          refine v_loc (L' := [(1, .int ((fun e => v e - (p_term b n (p_atom b n (p_lev b n 2)) (nxS b n t1)).1 e) (envS σ))), (0, .ref (ad 43))]) (rfl) ?_
          exact ih5  f (fun e => v e - (p_term b n (p_atom b n (p_lev b n 2)) (nxS b n t1)).1 e) ((p_term b n (p_atom b n (p_lev b n 2)) (nxS b n t1)).2) σ45 h45_s (ag_tr (ag_tr ha h41_a) h45_a) (mu_step (tk_wf hs.2.1) h17_h (by decide) (p_term_ok (p_atom_ok (p_lev_ok 2))) hm) (by rw [← he, p_addL, if_neg (by rw [h8_h]; decide), if_pos h17_h]) (by omega)
        · refine v_if_eq (tgt := 66) G dX8_added3_20 (by decide) (fun h20 => ?_) (fun h20 => absurd h20 (by decide))
          refine v_iload_n G 0 dX8_added3_66 rfl ?_
          refine RET _ _ _ _ _ _ rfl (Nat.le_of_ble_eq_true rfl) (Nat.le_of_ble_eq_true rfl) dX8_added3_67 (fun ws hw => ⟨_, hw, ?_⟩)
          clear RET G hT hnm
          rw [show p_add b n (p_term b n (p_atom b n (p_lev b n 2))) t = (v, t1) by rw [← he, p_addL, if_neg (by rw [h8_h]; decide), if_neg (by rw [h17_h]; decide)]]
          exact ⟨rfl, hs, ha⟩
  refine V_.sub (L' := [(1, .int ((p_term b n (p_atom b n (p_lev b n 2)) t).1 (envS σ))), (0, .ref (ad 43))]) ?_ [0, 1] rfl
  refine v_loc (L' := [(1, .int (((p_term b n (p_atom b n (p_lev b n 2)) t).1) (envS σ))), (0, .ref (ad 43))]) (rfl) ?_
  exact loop5 _ (n + 2) ((p_term b n (p_atom b n (p_lev b n 2)) t).1) ((p_term b n (p_atom b n (p_lev b n 2)) t).2) σ1 h1_s h1_a (by have := mu_le (n := n) (s := (p_term b n (p_atom b n (p_lev b n 2)) t).2); omega) rfl (Nat.lt_succ_self _)
abbrev rmX8_not3 : Room := { frames := 19, cells := 0, slots := 0, locals := 420 }
set_option maxHeartbeats 4000000 in
theorem kX8_not3 {KT : (Nat → Prop) → State → Heap → Prop} (hK : KTok KT) (l : Launch) (dC : Nat → ClassId) (dI : Nat → Nat → Nat) (ct ad : Nat → Nat) (σ : MS) (F : Nat) (n : Nat) (b : Nat → Int32) (t : PS) (hS : ST F n b 3 t σ) : MC KT (dC, dI) vwCl (tysF ct) l yX8_not3 cX8_not3 4 (some .int) rmX8_not3 [.ref (ad 43)] (RM ct ad σ) (QI_ (dC, dI) vwCl (RM ct ad) (fun (r : Int32) (σ' : MS) => ((p_not b n (p_lev b n 2) (p_add b n (p_term b n (p_atom b n (p_lev b n 2)))) t).1 (envS σ)) = r ∧ ST F n b 3 (p_not b n (p_lev b n 2) (p_add b n (p_term b n (p_atom b n (p_lev b n 2)))) t).2 σ' ∧ ag pfr σ σ')) := by
  refine MC.ofI (own := RX8) pl_X8 rfl (Nat.le_of_ble_eq_true rfl) ?_
  intro pp ee ss mm aa bb hh cc AA QQ G hT hnm RET
  refine v_loc (L' := [(0, .ref (ad 43))]) rfl ?_
  refine v_aload_n G 0 dX8_not3_0 rfl ?_
  refine v_bipush (v := 110) G dX8_not3_1 rfl ?_
  refine v_bipush (v := 111) G dX8_not3_3 rfl ?_
  refine v_bipush (v := 116) G dX8_not3_5 rfl ?_
  refine v_iconst (v := 0) G dX8_not3_7 rfl ?_
  refine v_iconst (v := 0) G dX8_not3_8 rfl ?_
  refine v_iconst (v := 0) G dX8_not3_9 rfl ?_
  refine v_iconst (v := 0) G dX8_not3_10 rfl ?_
  refine v_iconst (v := 0) G dX8_not3_11 rfl ?_
  refine w_callVi G hK hT (kX8_isWordS hK l dC dI ct ad σ F n b 3 t 1 5 110 111 116 0 0 0 0 0 hS (⟨(1, 5, [110, 111, 116, 0, 0, 0, 0, 0]), by decide +kernel, rfl, rfl, rfl⟩)) (ck_X8_199 G.2.2.2.2.1 ⟨Nat.le_of_ble_eq_true rfl, Nat.le_of_ble_eq_true rfl⟩) m_recv (fun _ h => h) rfl [] rfl (Nat.le_of_ble_eq_true rfl) dX8_not3_12 ⟨Nat.le_of_ble_eq_true rfl, Nat.le_of_ble_eq_true rfl⟩ (k1 := 0) (n1 := 0) rfl rfl ?_
  rintro r12 σ12 (⟨rfl, rfl, h12_h⟩ | ⟨rfl, rfl, h12_h⟩)
  · refine v_if_eq (tgt := 52) G dX8_not3_15 (by decide) (fun h15 => absurd h15 (by decide)) (fun h15 => ?_)
    refine v_aload_n G 0 dX8_not3_18 rfl ?_
    refine w_callVi G hK hT (kX8_opens hK l dC dI ct ad σ F n b 3 t hS (kd_tk h12_h (by decide)) (by decide)) (ck_X8_224 G.2.2.2.2.1 ⟨Nat.le_of_ble_eq_true rfl, Nat.le_of_ble_eq_true rfl⟩) m_recv (fun _ h => h) rfl [] rfl (Nat.le_of_ble_eq_true rfl) dX8_not3_19 ⟨Nat.le_of_ble_eq_true rfl, Nat.le_of_ble_eq_true rfl⟩ (k1 := 0) (n1 := 0) rfl rfl ?_
    rintro r19 σ19 (⟨rfl, h19_k, h19_s, h19_a⟩ | ⟨rfl, h19_k, h19_s, h19_a⟩)
    · refine v_if_ne (tgt := 27) G dX8_not3_22 (by decide) (fun h22 => ?_) (fun h22 => absurd h22 (by decide))
      refine v_aload_n G 0 dX8_not3_27 rfl ?_
      refine w_callVi G hK hT (kX8_not4 hK l dC dI ct ad σ19 F n b (nxS b n t) h19_s) (ck_X8_263 G.2.2.2.2.1 ⟨Nat.le_of_ble_eq_true rfl, Nat.le_of_ble_eq_true rfl⟩) m_recv (fun _ h => h) rfl [] rfl (Nat.le_of_ble_eq_true rfl) dX8_not3_28 ⟨Nat.le_of_ble_eq_true rfl, Nat.le_of_ble_eq_true rfl⟩ (k1 := 0) (n1 := 0) rfl rfl ?_
      rintro r28 σ28 ⟨rfl, h28_s, h28_a⟩
      refine v_topr (x2 := .int ((p_not b n (p_lev b n 1) (p_add b n (p_term b n (p_atom b n (p_lev b n 1)))) (nxS b n t)).1 (envS σ))) (congrArg Value.int (congrArg (p_not b n (p_lev b n 1) (p_add b n (p_term b n (p_atom b n (p_lev b n 1)))) (nxS b n t)).1 (envS_ag (ag_tr ag_rf h19_a)))) ?_
      refine v_istore_n (L' := [(1, .int ((p_not b n (p_lev b n 1) (p_add b n (p_term b n (p_atom b n (p_lev b n 1)))) (nxS b n t)).1 (envS σ))), (0, .ref (ad 43))]) G dX8_not3_31 (by decide) rfl ?_
      refine v_aload_n G 1 dX8_not3_32 rfl ?_
      refine v_dup G dX8_not3_33 rfl ?_
      refine m_get (v := .int (σ28.1 24 0)) G 24 (by decide) rfl q1318 rfl dX8_not3_34 ?_
      refine v_iconst (v := 1) G dX8_not3_37 rfl ?_
      refine v_isub G dX8_not3_38 ?_
      refine m_putI G 24 (by decide) q1318 rfl rfl rfl dX8_not3_39 ?_
      have hS42 : ST F n b 3 (p_not b n (p_lev b n 1) (p_add b n (p_term b n (p_atom b n (p_lev b n 1)))) (nxS b n t)).2 (mset σ28 24 0 ((σ28.1 24 0) - 1)) := ST_cl h28_s (ix_sub h28_s.2.2 (ix_lit 1 rfl) (by omega))
      refine v_iload_n G 0 dX8_not3_42 rfl ?_
      refine v_if_ne (tgt := 50) G dX8_not3_43 (by decide) (fun h43 => ?_) (fun h43 => ?_)
      · refine v_iconst (v := 0) G dX8_not3_50 rfl ?_
        refine RET _ _ _ _ _ _ rfl (Nat.le_of_ble_eq_true rfl) (Nat.le_of_ble_eq_true rfl) dX8_not3_51 (fun ws hw => ⟨_, hw, ?_⟩)
        clear RET G hT hnm
        rw [show p_not b n (p_lev b n 2) (p_add b n (p_term b n (p_atom b n (p_lev b n 2)))) t = _ from p_not_1 h12_h]
        exact ⟨by first | exact if_pos h43 | exact if_neg h43, hS42, (ag_tr (ag_tr (ag_tr ag_rf h19_a) h28_a) (ag_set (by decide)))⟩
      · refine v_iconst (v := 1) G dX8_not3_46 rfl ?_
        refine v_goto (tgt := 51) G dX8_not3_47 (by decide) ?_
        refine RET _ _ _ _ _ _ rfl (Nat.le_of_ble_eq_true rfl) (Nat.le_of_ble_eq_true rfl) dX8_not3_51 (fun ws hw => ⟨_, hw, ?_⟩)
        clear RET G hT hnm
        rw [show p_not b n (p_lev b n 2) (p_add b n (p_term b n (p_atom b n (p_lev b n 2)))) t = _ from p_not_1 h12_h]
        exact ⟨by first | exact if_pos h43 | exact if_neg h43, hS42, (ag_tr (ag_tr (ag_tr ag_rf h19_a) h28_a) (ag_set (by decide)))⟩
    · exact False.elim (by exact absurd h19_k (by decide))
  · refine v_if_eq (tgt := 52) G dX8_not3_15 (by decide) (fun h15 => ?_) (fun h15 => absurd h15 (by decide))
    refine v_aload_n G 0 dX8_not3_52 rfl ?_
    refine w_callVi G hK hT (kX8_added3 hK l dC dI ct ad σ F n b t hS) (ck_X8_278 G.2.2.2.2.1 ⟨Nat.le_of_ble_eq_true rfl, Nat.le_of_ble_eq_true rfl⟩) m_recv (fun _ h => h) rfl [] rfl (Nat.le_of_ble_eq_true rfl) dX8_not3_53 ⟨Nat.le_of_ble_eq_true rfl, Nat.le_of_ble_eq_true rfl⟩ (k1 := 0) (n1 := 0) rfl rfl ?_
    rintro r53 σ53 ⟨rfl, h53_s, h53_a⟩
    refine v_topr (x2 := .int ((p_add b n (p_term b n (p_atom b n (p_lev b n 2))) t).1 (envS σ))) (congrArg Value.int (congrArg (p_add b n (p_term b n (p_atom b n (p_lev b n 2))) t).1 (envS_ag ag_rf))) ?_
    refine v_istore_n (L' := [(1, .int ((p_add b n (p_term b n (p_atom b n (p_lev b n 2))) t).1 (envS σ))), (0, .ref (ad 43))]) G dX8_not3_56 (by decide) rfl ?_
    refine v_aload_n G 1 dX8_not3_57 rfl ?_
    refine v_bipush (v := 60) G dX8_not3_58 rfl ?_
    refine w_callVi G hK hT (kX8_isSignS hK l dC dI ct ad σ53 F n b 3 ((p_add b n (p_term b n (p_atom b n (p_lev b n 2))) t).2) 60 h53_s) (ck_X8_221 G.2.2.2.2.1 ⟨Nat.le_of_ble_eq_true rfl, Nat.le_of_ble_eq_true rfl⟩) m_recv (fun _ h => h) rfl [] rfl (Nat.le_of_ble_eq_true rfl) dX8_not3_60 ⟨Nat.le_of_ble_eq_true rfl, Nat.le_of_ble_eq_true rfl⟩ (k1 := 0) (n1 := 0) rfl rfl ?_
    rintro r60 σ60 (⟨rfl, rfl, h60_h⟩ | ⟨rfl, rfl, h60_h⟩)
    · refine v_if_ne (tgt := 77) G dX8_not3_63 (by decide) (fun h63 => ?_) (fun h63 => absurd h63 (by decide))
      refine v_aload_n G 1 dX8_not3_77 rfl ?_
      refine m_get (v := .long (σ53.2 23 0)) G 23 (by decide) rfl q1317 rfl dX8_not3_78 ?_
      refine v_ldc2 G q1559 dX8_not3_81 ?_
      refine v_lcmp G dX8_not3_84 ?_
      refine v_if_ne (tgt := 92) G dX8_not3_85 (by decide) (fun h85 => False.elim (by exact h85 ((le_of_lcmp _ _).1.mpr (tk_sgv h53_s.2.1 h60_h)))) (fun h85 => ?_)
      refine v_iconst (v := 1) G dX8_not3_88 rfl ?_
      refine v_goto (tgt := 93) G dX8_not3_89 (by decide) ?_
      refine v_istore_n (L' := [(2, .int 1), (1, .int ((p_add b n (p_term b n (p_atom b n (p_lev b n 2))) t).1 (envS σ))), (0, .ref (ad 43))]) G dX8_not3_93 (by decide) rfl ?_
      refine v_aload_n G 2 dX8_not3_94 rfl ?_
      refine w_callVv G hK hT (kX8_nextS hK l dC dI ct ad σ53 F n b 3 ((p_add b n (p_term b n (p_atom b n (p_lev b n 2))) t).2) h53_s (kd_tk h60_h (by decide))) (ck_X8_196 G.2.2.2.2.1 ⟨Nat.le_of_ble_eq_true rfl, Nat.le_of_ble_eq_true rfl⟩) m_recv (fun _ h => h) rfl [] rfl (Nat.le_of_ble_eq_true rfl) dX8_not3_95 ⟨Nat.le_of_ble_eq_true rfl, Nat.le_of_ble_eq_true rfl⟩ (k1 := 0) (n1 := 0) rfl rfl ?_
      rintro σ95 ⟨h95_s, h95_a, h95_b⟩
      refine v_aload_n G 2 dX8_not3_98 rfl ?_
      refine w_callVi G hK hT (kX8_added3 hK l dC dI ct ad σ95 F n b (nxS b n (p_add b n (p_term b n (p_atom b n (p_lev b n 2))) t).2) h95_s) (ck_X8_278 G.2.2.2.2.1 ⟨Nat.le_of_ble_eq_true rfl, Nat.le_of_ble_eq_true rfl⟩) m_recv (fun _ h => h) rfl [] rfl (Nat.le_of_ble_eq_true rfl) dX8_not3_99 ⟨Nat.le_of_ble_eq_true rfl, Nat.le_of_ble_eq_true rfl⟩ (k1 := 0) (n1 := 0) rfl rfl ?_
      rintro r99 σ99 ⟨rfl, h99_s, h99_a⟩
      refine v_topr (x2 := .int ((p_add b n (p_term b n (p_atom b n (p_lev b n 2))) (nxS b n (p_add b n (p_term b n (p_atom b n (p_lev b n 2))) t).2)).1 (envS σ))) (congrArg Value.int (congrArg (p_add b n (p_term b n (p_atom b n (p_lev b n 2))) (nxS b n (p_add b n (p_term b n (p_atom b n (p_lev b n 2))) t).2)).1 (envS_ag (ag_tr (ag_tr ag_rf h53_a) h95_a)))) ?_
      refine v_istore_n (L' := [(3, .int ((p_add b n (p_term b n (p_atom b n (p_lev b n 2))) (nxS b n (p_add b n (p_term b n (p_atom b n (p_lev b n 2))) t).2)).1 (envS σ))), (2, .int 1), (1, .int ((p_add b n (p_term b n (p_atom b n (p_lev b n 2))) t).1 (envS σ))), (0, .ref (ad 43))]) G dX8_not3_102 (by decide) rfl ?_
      refine v_iload_n G 1 dX8_not3_103 rfl ?_
      refine v_if_eq (tgt := 115) G dX8_not3_104 (by decide) (fun h104 => absurd h104 (by decide)) (fun h104 => ?_)
      refine v_iload_n G 2 dX8_not3_107 rfl ?_
      refine v_iload_n G 0 dX8_not3_108 rfl ?_
      refine v_icmp_ge (tgt := 124) G dX8_not3_109 (by decide) (fun h109 => ?_) (fun h109 => ?_)
      · refine v_iconst (v := 0) G dX8_not3_124 rfl ?_
        refine RET _ _ _ _ _ _ rfl (Nat.le_of_ble_eq_true rfl) (Nat.le_of_ble_eq_true rfl) dX8_not3_125 (fun ws hw => ⟨_, hw, ?_⟩)
        clear RET G hT hnm
        rw [show p_not b n (p_lev b n 2) (p_add b n (p_term b n (p_atom b n (p_lev b n 2)))) t = _ from p_not_l h12_h h60_h]
        exact ⟨(by first | exact if_pos (by first | assumption | exact Int32.not_le.mp h109) | exact if_neg (by first | assumption | exact Int32.not_lt.mpr h109)), h99_s, (ag_tr (ag_tr (ag_tr ag_rf h53_a) h95_a) h99_a)⟩
      · refine v_goto (tgt := 120) G dX8_not3_112 (by decide) ?_
        refine v_iconst (v := 1) G dX8_not3_120 rfl ?_
        refine v_goto (tgt := 125) G dX8_not3_121 (by decide) ?_
        refine RET _ _ _ _ _ _ rfl (Nat.le_of_ble_eq_true rfl) (Nat.le_of_ble_eq_true rfl) dX8_not3_125 (fun ws hw => ⟨_, hw, ?_⟩)
        clear RET G hT hnm
        rw [show p_not b n (p_lev b n 2) (p_add b n (p_term b n (p_atom b n (p_lev b n 2)))) t = _ from p_not_l h12_h h60_h]
        exact ⟨(by first | exact if_pos (by first | assumption | exact Int32.not_le.mp h109) | exact if_neg (by first | assumption | exact Int32.not_lt.mpr h109)), h99_s, (ag_tr (ag_tr (ag_tr ag_rf h53_a) h95_a) h99_a)⟩
    · refine v_if_ne (tgt := 77) G dX8_not3_63 (by decide) (fun h63 => absurd h63 (by decide)) (fun h63 => ?_)
      refine v_aload_n G 1 dX8_not3_66 rfl ?_
      refine v_bipush (v := 61) G dX8_not3_67 rfl ?_
      refine w_callVi G hK hT (kX8_isSignS hK l dC dI ct ad σ53 F n b 3 ((p_add b n (p_term b n (p_atom b n (p_lev b n 2))) t).2) 61 h53_s) (ck_X8_221 G.2.2.2.2.1 ⟨Nat.le_of_ble_eq_true rfl, Nat.le_of_ble_eq_true rfl⟩) m_recv (fun _ h => h) rfl [] rfl (Nat.le_of_ble_eq_true rfl) dX8_not3_69 ⟨Nat.le_of_ble_eq_true rfl, Nat.le_of_ble_eq_true rfl⟩ (k1 := 0) (n1 := 0) rfl rfl ?_
      rintro r69 σ69 (⟨rfl, rfl, h69_h⟩ | ⟨rfl, rfl, h69_h⟩)
      · refine v_if_ne (tgt := 77) G dX8_not3_72 (by decide) (fun h72 => ?_) (fun h72 => absurd h72 (by decide))
        refine v_aload_n G 1 dX8_not3_77 rfl ?_
        refine m_get (v := .long (σ53.2 23 0)) G 23 (by decide) rfl q1317 rfl dX8_not3_78 ?_
        refine v_ldc2 G q1559 dX8_not3_81 ?_
        refine v_lcmp G dX8_not3_84 ?_
        refine v_if_ne (tgt := 92) G dX8_not3_85 (by decide) (fun h85 => ?_) (fun h85 => False.elim (by have hz := (le_of_lcmp _ _).1.mp h85; rw [tk_sgv h53_s.2.1 h69_h] at hz; exact absurd hz (by decide)))
        refine v_iconst (v := 0) G dX8_not3_92 rfl ?_
        refine v_istore_n (L' := [(2, .int 0), (1, .int ((p_add b n (p_term b n (p_atom b n (p_lev b n 2))) t).1 (envS σ))), (0, .ref (ad 43))]) G dX8_not3_93 (by decide) rfl ?_
        refine v_aload_n G 2 dX8_not3_94 rfl ?_
        refine w_callVv G hK hT (kX8_nextS hK l dC dI ct ad σ53 F n b 3 ((p_add b n (p_term b n (p_atom b n (p_lev b n 2))) t).2) h53_s (kd_tk h69_h (by decide))) (ck_X8_196 G.2.2.2.2.1 ⟨Nat.le_of_ble_eq_true rfl, Nat.le_of_ble_eq_true rfl⟩) m_recv (fun _ h => h) rfl [] rfl (Nat.le_of_ble_eq_true rfl) dX8_not3_95 ⟨Nat.le_of_ble_eq_true rfl, Nat.le_of_ble_eq_true rfl⟩ (k1 := 0) (n1 := 0) rfl rfl ?_
        rintro σ95 ⟨h95_s, h95_a, h95_b⟩
        refine v_aload_n G 2 dX8_not3_98 rfl ?_
        refine w_callVi G hK hT (kX8_added3 hK l dC dI ct ad σ95 F n b (nxS b n (p_add b n (p_term b n (p_atom b n (p_lev b n 2))) t).2) h95_s) (ck_X8_278 G.2.2.2.2.1 ⟨Nat.le_of_ble_eq_true rfl, Nat.le_of_ble_eq_true rfl⟩) m_recv (fun _ h => h) rfl [] rfl (Nat.le_of_ble_eq_true rfl) dX8_not3_99 ⟨Nat.le_of_ble_eq_true rfl, Nat.le_of_ble_eq_true rfl⟩ (k1 := 0) (n1 := 0) rfl rfl ?_
        rintro r99 σ99 ⟨rfl, h99_s, h99_a⟩
        refine v_topr (x2 := .int ((p_add b n (p_term b n (p_atom b n (p_lev b n 2))) (nxS b n (p_add b n (p_term b n (p_atom b n (p_lev b n 2))) t).2)).1 (envS σ))) (congrArg Value.int (congrArg (p_add b n (p_term b n (p_atom b n (p_lev b n 2))) (nxS b n (p_add b n (p_term b n (p_atom b n (p_lev b n 2))) t).2)).1 (envS_ag (ag_tr (ag_tr ag_rf h53_a) h95_a)))) ?_
        refine v_istore_n (L' := [(3, .int ((p_add b n (p_term b n (p_atom b n (p_lev b n 2))) (nxS b n (p_add b n (p_term b n (p_atom b n (p_lev b n 2))) t).2)).1 (envS σ))), (2, .int 0), (1, .int ((p_add b n (p_term b n (p_atom b n (p_lev b n 2))) t).1 (envS σ))), (0, .ref (ad 43))]) G dX8_not3_102 (by decide) rfl ?_
        refine v_iload_n G 1 dX8_not3_103 rfl ?_
        refine v_if_eq (tgt := 115) G dX8_not3_104 (by decide) (fun h104 => ?_) (fun h104 => absurd h104 (by decide))
        refine v_iload_n G 2 dX8_not3_115 rfl ?_
        refine v_iload_n G 0 dX8_not3_116 rfl ?_
        refine v_icmp_ne (tgt := 124) G dX8_not3_117 (by decide) (fun h117 => ?_) (fun h117 => ?_)
        · refine v_iconst (v := 0) G dX8_not3_124 rfl ?_
          refine RET _ _ _ _ _ _ rfl (Nat.le_of_ble_eq_true rfl) (Nat.le_of_ble_eq_true rfl) dX8_not3_125 (fun ws hw => ⟨_, hw, ?_⟩)
          clear RET G hT hnm
          rw [show p_not b n (p_lev b n 2) (p_add b n (p_term b n (p_atom b n (p_lev b n 2)))) t = _ from p_not_e h12_h h60_h h69_h]
          exact ⟨(by first | exact if_pos h117 | exact if_neg h117), h99_s, (ag_tr (ag_tr (ag_tr ag_rf h53_a) h95_a) h99_a)⟩
        · refine v_iconst (v := 1) G dX8_not3_120 rfl ?_
          refine v_goto (tgt := 125) G dX8_not3_121 (by decide) ?_
          refine RET _ _ _ _ _ _ rfl (Nat.le_of_ble_eq_true rfl) (Nat.le_of_ble_eq_true rfl) dX8_not3_125 (fun ws hw => ⟨_, hw, ?_⟩)
          clear RET G hT hnm
          rw [show p_not b n (p_lev b n 2) (p_add b n (p_term b n (p_atom b n (p_lev b n 2)))) t = _ from p_not_e h12_h h60_h h69_h]
          exact ⟨(by first | exact if_pos h117 | exact if_neg h117), h99_s, (ag_tr (ag_tr (ag_tr ag_rf h53_a) h95_a) h99_a)⟩
      · refine v_if_ne (tgt := 77) G dX8_not3_72 (by decide) (fun h72 => absurd h72 (by decide)) (fun h72 => ?_)
        refine v_iload_n G 0 dX8_not3_75 rfl ?_
        refine RET _ _ _ _ _ _ rfl (Nat.le_of_ble_eq_true rfl) (Nat.le_of_ble_eq_true rfl) dX8_not3_76 (fun ws hw => ⟨_, hw, ?_⟩)
        clear RET G hT hnm
        rw [show p_not b n (p_lev b n 2) (p_add b n (p_term b n (p_atom b n (p_lev b n 2)))) t = _ from p_not_x h12_h h60_h h69_h]
        exact ⟨rfl, h53_s, (ag_tr ag_rf h53_a)⟩
abbrev rmX8_both3 : Room := { frames := 20, cells := 0, slots := 0, locals := 443 }
set_option maxHeartbeats 4000000 in
theorem kX8_both3 {KT : (Nat → Prop) → State → Heap → Prop} (hK : KTok KT) (l : Launch) (dC : Nat → ClassId) (dI : Nat → Nat → Nat) (ct ad : Nat → Nat) (σ : MS) (F : Nat) (n : Nat) (b : Nat → Int32) (t : PS) (hS : ST F n b 3 t σ) : MC KT (dC, dI) vwCl (tysF ct) l yX8_both3 cX8_both3 3 (some .int) rmX8_both3 [.ref (ad 43)] (RM ct ad σ) (QI_ (dC, dI) vwCl (RM ct ad) (fun (r : Int32) (σ' : MS) => ((p_both b n (p_not b n (p_lev b n 2) (p_add b n (p_term b n (p_atom b n (p_lev b n 2))))) t).1 (envS σ)) = r ∧ ST F n b 3 (p_both b n (p_not b n (p_lev b n 2) (p_add b n (p_term b n (p_atom b n (p_lev b n 2))))) t).2 σ' ∧ ag pfr σ σ')) := by
  refine MC.ofI (own := RX8) pl_X8 rfl (Nat.le_of_ble_eq_true rfl) ?_
  intro pp ee ss mm aa bb hh cc AA QQ G hT hnm RET
  refine v_loc (L' := [(0, .ref (ad 43))]) rfl ?_
  refine v_aload_n G 0 dX8_both3_0 rfl ?_
  refine w_callVi G hK hT (kX8_not3 hK l dC dI ct ad σ F n b t hS) (ck_X8_281 G.2.2.2.2.1 ⟨Nat.le_of_ble_eq_true rfl, Nat.le_of_ble_eq_true rfl⟩) m_recv (fun _ h => h) rfl [] rfl (Nat.le_of_ble_eq_true rfl) dX8_both3_1 ⟨Nat.le_of_ble_eq_true rfl, Nat.le_of_ble_eq_true rfl⟩ (k1 := 0) (n1 := 0) rfl rfl ?_
  rintro r1 σ1 ⟨rfl, h1_s, h1_a⟩
  refine v_topr (x2 := .int ((p_not b n (p_lev b n 2) (p_add b n (p_term b n (p_atom b n (p_lev b n 2)))) t).1 (envS σ))) (congrArg Value.int (congrArg (p_not b n (p_lev b n 2) (p_add b n (p_term b n (p_atom b n (p_lev b n 2)))) t).1 (envS_ag ag_rf))) ?_
  refine v_istore_n (L' := [(1, .int ((p_not b n (p_lev b n 2) (p_add b n (p_term b n (p_atom b n (p_lev b n 2)))) t).1 (envS σ))), (0, .ref (ad 43))]) G dX8_both3_4 (by decide) rfl ?_
  have loop5 : ∀ (dd : Nat) (f : Nat) (v : SF) (t1 : PS) (τ : MS), (ST F n b 3 t1 τ) → (ag pfr σ τ) → (mu n t1 < f) → (p_bothL b n (p_not b n (p_lev b n 2) (p_add b n (p_term b n (p_atom b n (p_lev b n 2))))) f v t1 = p_both b n (p_not b n (p_lev b n 2) (p_add b n (p_term b n (p_atom b n (p_lev b n 2))))) t) → f < dd → V_ pp l ee rmX8_both3 ss mm aa bb hh cc 3 (dC, dI) vwCl AA QQ 0 0 (RM ct ad τ) 5 [(1, .int (v (envS σ))), (0, .ref (ad 43))] [] := by
    intro dd
    induction dd with
    | zero => intro f v t1 τ hs ha hm he hdd; exact absurd hdd (Nat.not_lt_zero _)
    | succ dd ih5 =>
      intro f v t1 τ hs ha hm he hdd
      obtain ⟨f, rfl⟩ : ∃ g, f = g + 1 := ⟨f - 1, by omega⟩
      refine v_aload_n G 1 dX8_both3_5 rfl ?_
      refine v_bipush (v := 97) G dX8_both3_6 rfl ?_
      refine v_bipush (v := 110) G dX8_both3_8 rfl ?_
      refine v_bipush (v := 100) G dX8_both3_10 rfl ?_
      refine v_iconst (v := 0) G dX8_both3_12 rfl ?_
      refine v_iconst (v := 0) G dX8_both3_13 rfl ?_
      refine v_iconst (v := 0) G dX8_both3_14 rfl ?_
      refine v_iconst (v := 0) G dX8_both3_15 rfl ?_
      refine v_iconst (v := 0) G dX8_both3_16 rfl ?_
      refine w_callVi G hK hT (kX8_isWordS hK l dC dI ct ad τ F n b 3 t1 1 4 97 110 100 0 0 0 0 0 hs (⟨(1, 4, [97, 110, 100, 0, 0, 0, 0, 0]), by decide +kernel, rfl, rfl, rfl⟩)) (ck_X8_199 G.2.2.2.2.1 ⟨Nat.le_of_ble_eq_true rfl, Nat.le_of_ble_eq_true rfl⟩) m_recv (fun _ h => h) rfl [] rfl (Nat.le_of_ble_eq_true rfl) dX8_both3_17 ⟨Nat.le_of_ble_eq_true rfl, Nat.le_of_ble_eq_true rfl⟩ (k1 := 0) (n1 := 0) rfl rfl ?_
      rintro r17 σ17 (⟨rfl, rfl, h17_h⟩ | ⟨rfl, rfl, h17_h⟩)
      · refine v_if_eq (tgt := 49) G dX8_both3_20 (by decide) (fun h20 => absurd h20 (by decide)) (fun h20 => ?_)
        refine v_aload_n G 1 dX8_both3_23 rfl ?_
        refine w_callVv G hK hT (kX8_nextS hK l dC dI ct ad τ F n b 3 t1 hs (kd_tk h17_h (by decide))) (ck_X8_196 G.2.2.2.2.1 ⟨Nat.le_of_ble_eq_true rfl, Nat.le_of_ble_eq_true rfl⟩) m_recv (fun _ h => h) rfl [] rfl (Nat.le_of_ble_eq_true rfl) dX8_both3_24 ⟨Nat.le_of_ble_eq_true rfl, Nat.le_of_ble_eq_true rfl⟩ (k1 := 0) (n1 := 0) rfl rfl ?_
        rintro σ24 ⟨h24_s, h24_a, h24_b⟩
        refine v_aload_n G 1 dX8_both3_27 rfl ?_
        refine w_callVi G hK hT (kX8_not3 hK l dC dI ct ad σ24 F n b (nxS b n t1) h24_s) (ck_X8_281 G.2.2.2.2.1 ⟨Nat.le_of_ble_eq_true rfl, Nat.le_of_ble_eq_true rfl⟩) m_recv (fun _ h => h) rfl [] rfl (Nat.le_of_ble_eq_true rfl) dX8_both3_28 ⟨Nat.le_of_ble_eq_true rfl, Nat.le_of_ble_eq_true rfl⟩ (k1 := 0) (n1 := 0) rfl rfl ?_
        rintro r28 σ28 ⟨rfl, h28_s, h28_a⟩
        refine v_topr (x2 := .int ((p_not b n (p_lev b n 2) (p_add b n (p_term b n (p_atom b n (p_lev b n 2)))) (nxS b n t1)).1 (envS σ))) (congrArg Value.int (congrArg (p_not b n (p_lev b n 2) (p_add b n (p_term b n (p_atom b n (p_lev b n 2)))) (nxS b n t1)).1 (envS_ag (ag_tr ha h24_a)))) ?_
        refine v_istore_n (L' := [(2, .int ((p_not b n (p_lev b n 2) (p_add b n (p_term b n (p_atom b n (p_lev b n 2)))) (nxS b n t1)).1 (envS σ))), (1, .int (v (envS σ))), (0, .ref (ad 43))]) G dX8_both3_31 (by decide) rfl ?_
        refine v_iload_n G 1 dX8_both3_32 rfl ?_
        refine v_if_eq (tgt := 44) G dX8_both3_33 (by decide) (fun h33 => ?_) (fun h33 => ?_)
        · refine v_iconst (v := 0) G dX8_both3_44 rfl ?_
          refine v_istore_n (L' := [(1, .int 0), (2, .int ((p_not b n (p_lev b n 2) (p_add b n (p_term b n (p_atom b n (p_lev b n 2)))) (nxS b n t1)).1 (envS σ))), (0, .ref (ad 43))]) G dX8_both3_45 (by decide) rfl ?_
          refine v_goto (tgt := 5) G dX8_both3_46 (by decide) ?_
          refine V_.sub (L' := [(1, .int 0), (0, .ref (ad 43))]) ?_ [0, 2] rfl
          refine v_loc (L' := [(1, .int ((fun e => if v e ≠ 0 ∧ (p_not b n (p_lev b n 2) (p_add b n (p_term b n (p_atom b n (p_lev b n 2)))) (nxS b n t1)).1 e ≠ 0 then 1 else 0) (envS σ))), (0, .ref (ad 43))]) (by dsimp only; first | rw [if_pos (by exact ⟨h33, h37⟩)] | rw [if_neg (by rintro ⟨q1, q2⟩; first | exact q1 h33 | exact q2 h37)]) ?_
          exact ih5  f (fun e => if v e ≠ 0 ∧ (p_not b n (p_lev b n 2) (p_add b n (p_term b n (p_atom b n (p_lev b n 2)))) (nxS b n t1)).1 e ≠ 0 then 1 else 0) ((p_not b n (p_lev b n 2) (p_add b n (p_term b n (p_atom b n (p_lev b n 2)))) (nxS b n t1)).2) σ28 h28_s (ag_tr (ag_tr ha h24_a) h28_a) (mu_step (tk_wf hs.2.1) h17_h (by decide) (p_not_ok (p_lev_ok 2) (p_add_ok (p_term_ok (p_atom_ok (p_lev_ok 2))))) hm) (by rw [← he, p_bothL, if_pos h17_h]) (by omega)
        · refine v_iload_n G 0 dX8_both3_36 rfl ?_
          refine v_if_eq (tgt := 44) G dX8_both3_37 (by decide) (fun h37 => ?_) (fun h37 => ?_)
          · refine v_iconst (v := 0) G dX8_both3_44 rfl ?_
            refine v_istore_n (L' := [(1, .int 0), (2, .int ((p_not b n (p_lev b n 2) (p_add b n (p_term b n (p_atom b n (p_lev b n 2)))) (nxS b n t1)).1 (envS σ))), (0, .ref (ad 43))]) G dX8_both3_45 (by decide) rfl ?_
            refine v_goto (tgt := 5) G dX8_both3_46 (by decide) ?_
            refine V_.sub (L' := [(1, .int 0), (0, .ref (ad 43))]) ?_ [0, 2] rfl
            refine v_loc (L' := [(1, .int ((fun e => if v e ≠ 0 ∧ (p_not b n (p_lev b n 2) (p_add b n (p_term b n (p_atom b n (p_lev b n 2)))) (nxS b n t1)).1 e ≠ 0 then 1 else 0) (envS σ))), (0, .ref (ad 43))]) (by dsimp only; first | rw [if_pos (by exact ⟨h33, h37⟩)] | rw [if_neg (by rintro ⟨q1, q2⟩; first | exact q1 h33 | exact q2 h37)]) ?_
            exact ih5  f (fun e => if v e ≠ 0 ∧ (p_not b n (p_lev b n 2) (p_add b n (p_term b n (p_atom b n (p_lev b n 2)))) (nxS b n t1)).1 e ≠ 0 then 1 else 0) ((p_not b n (p_lev b n 2) (p_add b n (p_term b n (p_atom b n (p_lev b n 2)))) (nxS b n t1)).2) σ28 h28_s (ag_tr (ag_tr ha h24_a) h28_a) (mu_step (tk_wf hs.2.1) h17_h (by decide) (p_not_ok (p_lev_ok 2) (p_add_ok (p_term_ok (p_atom_ok (p_lev_ok 2))))) hm) (by rw [← he, p_bothL, if_pos h17_h]) (by omega)
          · refine v_iconst (v := 1) G dX8_both3_40 rfl ?_
            refine v_goto (tgt := 45) G dX8_both3_41 (by decide) ?_
            refine v_istore_n (L' := [(1, .int 1), (2, .int ((p_not b n (p_lev b n 2) (p_add b n (p_term b n (p_atom b n (p_lev b n 2)))) (nxS b n t1)).1 (envS σ))), (0, .ref (ad 43))]) G dX8_both3_45 (by decide) rfl ?_
            refine v_goto (tgt := 5) G dX8_both3_46 (by decide) ?_
            refine V_.sub (L' := [(1, .int 1), (0, .ref (ad 43))]) ?_ [0, 2] rfl
            refine v_loc (L' := [(1, .int ((fun e => if v e ≠ 0 ∧ (p_not b n (p_lev b n 2) (p_add b n (p_term b n (p_atom b n (p_lev b n 2)))) (nxS b n t1)).1 e ≠ 0 then 1 else 0) (envS σ))), (0, .ref (ad 43))]) (by dsimp only; first | rw [if_pos (by exact ⟨h33, h37⟩)] | rw [if_neg (by rintro ⟨q1, q2⟩; first | exact q1 h33 | exact q2 h37)]) ?_
            exact ih5  f (fun e => if v e ≠ 0 ∧ (p_not b n (p_lev b n 2) (p_add b n (p_term b n (p_atom b n (p_lev b n 2)))) (nxS b n t1)).1 e ≠ 0 then 1 else 0) ((p_not b n (p_lev b n 2) (p_add b n (p_term b n (p_atom b n (p_lev b n 2)))) (nxS b n t1)).2) σ28 h28_s (ag_tr (ag_tr ha h24_a) h28_a) (mu_step (tk_wf hs.2.1) h17_h (by decide) (p_not_ok (p_lev_ok 2) (p_add_ok (p_term_ok (p_atom_ok (p_lev_ok 2))))) hm) (by rw [← he, p_bothL, if_pos h17_h]) (by omega)
      · refine v_if_eq (tgt := 49) G dX8_both3_20 (by decide) (fun h20 => ?_) (fun h20 => absurd h20 (by decide))
        refine v_iload_n G 0 dX8_both3_49 rfl ?_
        refine RET _ _ _ _ _ _ rfl (Nat.le_of_ble_eq_true rfl) (Nat.le_of_ble_eq_true rfl) dX8_both3_50 (fun ws hw => ⟨_, hw, ?_⟩)
        clear RET G hT hnm
        rw [show p_both b n (p_not b n (p_lev b n 2) (p_add b n (p_term b n (p_atom b n (p_lev b n 2))))) t = (v, t1) by rw [← he, p_bothL, if_neg (by rw [h17_h]; decide)]]
        exact ⟨rfl, hs, ha⟩
  refine V_.sub (L' := [(1, .int ((p_not b n (p_lev b n 2) (p_add b n (p_term b n (p_atom b n (p_lev b n 2)))) t).1 (envS σ))), (0, .ref (ad 43))]) ?_ [0, 1] rfl
  refine v_loc (L' := [(1, .int (((p_not b n (p_lev b n 2) (p_add b n (p_term b n (p_atom b n (p_lev b n 2)))) t).1) (envS σ))), (0, .ref (ad 43))]) (rfl) ?_
  exact loop5 _ (n + 2) ((p_not b n (p_lev b n 2) (p_add b n (p_term b n (p_atom b n (p_lev b n 2)))) t).1) ((p_not b n (p_lev b n 2) (p_add b n (p_term b n (p_atom b n (p_lev b n 2)))) t).2) σ1 h1_s h1_a (by have := mu_le (n := n) (s := (p_not b n (p_lev b n 2) (p_add b n (p_term b n (p_atom b n (p_lev b n 2)))) t).2); omega) rfl (Nat.lt_succ_self _)
abbrev rmX8_either3 : Room := { frames := 21, cells := 0, slots := 0, locals := 465 }
set_option maxHeartbeats 4000000 in
theorem kX8_either3 {KT : (Nat → Prop) → State → Heap → Prop} (hK : KTok KT) (l : Launch) (dC : Nat → ClassId) (dI : Nat → Nat → Nat) (ct ad : Nat → Nat) (σ : MS) (F : Nat) (n : Nat) (b : Nat → Int32) (t : PS) (hS : ST F n b 3 t σ) : MC KT (dC, dI) vwCl (tysF ct) l yX8_either3 cX8_either3 3 (some .int) rmX8_either3 [.ref (ad 43)] (RM ct ad σ) (QI_ (dC, dI) vwCl (RM ct ad) (fun (r : Int32) (σ' : MS) => ((p_eith b n (p_both b n (p_not b n (p_lev b n 2) (p_add b n (p_term b n (p_atom b n (p_lev b n 2)))))) t).1 (envS σ)) = r ∧ ST F n b 3 (p_eith b n (p_both b n (p_not b n (p_lev b n 2) (p_add b n (p_term b n (p_atom b n (p_lev b n 2)))))) t).2 σ' ∧ ag pfr σ σ')) := by
  refine MC.ofI (own := RX8) pl_X8 rfl (Nat.le_of_ble_eq_true rfl) ?_
  intro pp ee ss mm aa bb hh cc AA QQ G hT hnm RET
  refine v_loc (L' := [(0, .ref (ad 43))]) rfl ?_
  refine v_aload_n G 0 dX8_either3_0 rfl ?_
  refine w_callVi G hK hT (kX8_both3 hK l dC dI ct ad σ F n b t hS) (ck_X8_284 G.2.2.2.2.1 ⟨Nat.le_of_ble_eq_true rfl, Nat.le_of_ble_eq_true rfl⟩) m_recv (fun _ h => h) rfl [] rfl (Nat.le_of_ble_eq_true rfl) dX8_either3_1 ⟨Nat.le_of_ble_eq_true rfl, Nat.le_of_ble_eq_true rfl⟩ (k1 := 0) (n1 := 0) rfl rfl ?_
  rintro r1 σ1 ⟨rfl, h1_s, h1_a⟩
  refine v_topr (x2 := .int ((p_both b n (p_not b n (p_lev b n 2) (p_add b n (p_term b n (p_atom b n (p_lev b n 2))))) t).1 (envS σ))) (congrArg Value.int (congrArg (p_both b n (p_not b n (p_lev b n 2) (p_add b n (p_term b n (p_atom b n (p_lev b n 2))))) t).1 (envS_ag ag_rf))) ?_
  refine v_istore_n (L' := [(1, .int ((p_both b n (p_not b n (p_lev b n 2) (p_add b n (p_term b n (p_atom b n (p_lev b n 2))))) t).1 (envS σ))), (0, .ref (ad 43))]) G dX8_either3_4 (by decide) rfl ?_
  have loop5 : ∀ (dd : Nat) (f : Nat) (v : SF) (t1 : PS) (τ : MS), (ST F n b 3 t1 τ) → (ag pfr σ τ) → (mu n t1 < f) → (p_eithL b n (p_both b n (p_not b n (p_lev b n 2) (p_add b n (p_term b n (p_atom b n (p_lev b n 2)))))) f v t1 = p_eith b n (p_both b n (p_not b n (p_lev b n 2) (p_add b n (p_term b n (p_atom b n (p_lev b n 2)))))) t) → f < dd → V_ pp l ee rmX8_either3 ss mm aa bb hh cc 3 (dC, dI) vwCl AA QQ 0 0 (RM ct ad τ) 5 [(1, .int (v (envS σ))), (0, .ref (ad 43))] [] := by
    intro dd
    induction dd with
    | zero => intro f v t1 τ hs ha hm he hdd; exact absurd hdd (Nat.not_lt_zero _)
    | succ dd ih5 =>
      intro f v t1 τ hs ha hm he hdd
      obtain ⟨f, rfl⟩ : ∃ g, f = g + 1 := ⟨f - 1, by omega⟩
      refine v_aload_n G 1 dX8_either3_5 rfl ?_
      refine v_bipush (v := 111) G dX8_either3_6 rfl ?_
      refine v_bipush (v := 114) G dX8_either3_8 rfl ?_
      refine v_iconst (v := 0) G dX8_either3_10 rfl ?_
      refine v_iconst (v := 0) G dX8_either3_11 rfl ?_
      refine v_iconst (v := 0) G dX8_either3_12 rfl ?_
      refine v_iconst (v := 0) G dX8_either3_13 rfl ?_
      refine v_iconst (v := 0) G dX8_either3_14 rfl ?_
      refine v_iconst (v := 0) G dX8_either3_15 rfl ?_
      refine w_callVi G hK hT (kX8_isWordS hK l dC dI ct ad τ F n b 3 t1 1 3 111 114 0 0 0 0 0 0 hs (⟨(1, 3, [111, 114, 0, 0, 0, 0, 0, 0]), by decide +kernel, rfl, rfl, rfl⟩)) (ck_X8_199 G.2.2.2.2.1 ⟨Nat.le_of_ble_eq_true rfl, Nat.le_of_ble_eq_true rfl⟩) m_recv (fun _ h => h) rfl [] rfl (Nat.le_of_ble_eq_true rfl) dX8_either3_16 ⟨Nat.le_of_ble_eq_true rfl, Nat.le_of_ble_eq_true rfl⟩ (k1 := 0) (n1 := 0) rfl rfl ?_
      rintro r16 σ16 (⟨rfl, rfl, h16_h⟩ | ⟨rfl, rfl, h16_h⟩)
      · refine v_if_eq (tgt := 48) G dX8_either3_19 (by decide) (fun h19 => absurd h19 (by decide)) (fun h19 => ?_)
        refine v_aload_n G 1 dX8_either3_22 rfl ?_
        refine w_callVv G hK hT (kX8_nextS hK l dC dI ct ad τ F n b 3 t1 hs (kd_tk h16_h (by decide))) (ck_X8_196 G.2.2.2.2.1 ⟨Nat.le_of_ble_eq_true rfl, Nat.le_of_ble_eq_true rfl⟩) m_recv (fun _ h => h) rfl [] rfl (Nat.le_of_ble_eq_true rfl) dX8_either3_23 ⟨Nat.le_of_ble_eq_true rfl, Nat.le_of_ble_eq_true rfl⟩ (k1 := 0) (n1 := 0) rfl rfl ?_
        rintro σ23 ⟨h23_s, h23_a, h23_b⟩
        refine v_aload_n G 1 dX8_either3_26 rfl ?_
        refine w_callVi G hK hT (kX8_both3 hK l dC dI ct ad σ23 F n b (nxS b n t1) h23_s) (ck_X8_284 G.2.2.2.2.1 ⟨Nat.le_of_ble_eq_true rfl, Nat.le_of_ble_eq_true rfl⟩) m_recv (fun _ h => h) rfl [] rfl (Nat.le_of_ble_eq_true rfl) dX8_either3_27 ⟨Nat.le_of_ble_eq_true rfl, Nat.le_of_ble_eq_true rfl⟩ (k1 := 0) (n1 := 0) rfl rfl ?_
        rintro r27 σ27 ⟨rfl, h27_s, h27_a⟩
        refine v_topr (x2 := .int ((p_both b n (p_not b n (p_lev b n 2) (p_add b n (p_term b n (p_atom b n (p_lev b n 2))))) (nxS b n t1)).1 (envS σ))) (congrArg Value.int (congrArg (p_both b n (p_not b n (p_lev b n 2) (p_add b n (p_term b n (p_atom b n (p_lev b n 2))))) (nxS b n t1)).1 (envS_ag (ag_tr ha h23_a)))) ?_
        refine v_istore_n (L' := [(2, .int ((p_both b n (p_not b n (p_lev b n 2) (p_add b n (p_term b n (p_atom b n (p_lev b n 2))))) (nxS b n t1)).1 (envS σ))), (1, .int (v (envS σ))), (0, .ref (ad 43))]) G dX8_either3_30 (by decide) rfl ?_
        refine v_iload_n G 1 dX8_either3_31 rfl ?_
        refine v_if_ne (tgt := 39) G dX8_either3_32 (by decide) (fun h32 => ?_) (fun h32 => ?_)
        · refine v_iconst (v := 1) G dX8_either3_39 rfl ?_
          refine v_goto (tgt := 44) G dX8_either3_40 (by decide) ?_
          refine v_istore_n (L' := [(1, .int 1), (2, .int ((p_both b n (p_not b n (p_lev b n 2) (p_add b n (p_term b n (p_atom b n (p_lev b n 2))))) (nxS b n t1)).1 (envS σ))), (0, .ref (ad 43))]) G dX8_either3_44 (by decide) rfl ?_
          refine v_goto (tgt := 5) G dX8_either3_45 (by decide) ?_
          refine V_.sub (L' := [(1, .int 1), (0, .ref (ad 43))]) ?_ [0, 2] rfl
          refine v_loc (L' := [(1, .int ((fun e => if v e ≠ 0 ∨ (p_both b n (p_not b n (p_lev b n 2) (p_add b n (p_term b n (p_atom b n (p_lev b n 2))))) (nxS b n t1)).1 e ≠ 0 then 1 else 0) (envS σ))), (0, .ref (ad 43))]) (by dsimp only; first | rw [if_pos (by first | exact Or.inl h32 | exact Or.inr h36)] | rw [if_neg (by rintro (q | q) <;> first | exact q h32 | exact q h36)]) ?_
          exact ih5  f (fun e => if v e ≠ 0 ∨ (p_both b n (p_not b n (p_lev b n 2) (p_add b n (p_term b n (p_atom b n (p_lev b n 2))))) (nxS b n t1)).1 e ≠ 0 then 1 else 0) ((p_both b n (p_not b n (p_lev b n 2) (p_add b n (p_term b n (p_atom b n (p_lev b n 2))))) (nxS b n t1)).2) σ27 h27_s (ag_tr (ag_tr ha h23_a) h27_a) (mu_step (tk_wf hs.2.1) h16_h (by decide) (p_both_ok (p_not_ok (p_lev_ok 2) (p_add_ok (p_term_ok (p_atom_ok (p_lev_ok 2)))))) hm) (by rw [← he, p_eithL, if_pos h16_h]) (by omega)
        · refine v_iload_n G 0 dX8_either3_35 rfl ?_
          refine v_if_eq (tgt := 43) G dX8_either3_36 (by decide) (fun h36 => ?_) (fun h36 => ?_)
          · refine v_iconst (v := 0) G dX8_either3_43 rfl ?_
            refine v_istore_n (L' := [(1, .int 0), (2, .int ((p_both b n (p_not b n (p_lev b n 2) (p_add b n (p_term b n (p_atom b n (p_lev b n 2))))) (nxS b n t1)).1 (envS σ))), (0, .ref (ad 43))]) G dX8_either3_44 (by decide) rfl ?_
            refine v_goto (tgt := 5) G dX8_either3_45 (by decide) ?_
            refine V_.sub (L' := [(1, .int 0), (0, .ref (ad 43))]) ?_ [0, 2] rfl
            refine v_loc (L' := [(1, .int ((fun e => if v e ≠ 0 ∨ (p_both b n (p_not b n (p_lev b n 2) (p_add b n (p_term b n (p_atom b n (p_lev b n 2))))) (nxS b n t1)).1 e ≠ 0 then 1 else 0) (envS σ))), (0, .ref (ad 43))]) (by dsimp only; first | rw [if_pos (by first | exact Or.inl h32 | exact Or.inr h36)] | rw [if_neg (by rintro (q | q) <;> first | exact q h32 | exact q h36)]) ?_
            exact ih5  f (fun e => if v e ≠ 0 ∨ (p_both b n (p_not b n (p_lev b n 2) (p_add b n (p_term b n (p_atom b n (p_lev b n 2))))) (nxS b n t1)).1 e ≠ 0 then 1 else 0) ((p_both b n (p_not b n (p_lev b n 2) (p_add b n (p_term b n (p_atom b n (p_lev b n 2))))) (nxS b n t1)).2) σ27 h27_s (ag_tr (ag_tr ha h23_a) h27_a) (mu_step (tk_wf hs.2.1) h16_h (by decide) (p_both_ok (p_not_ok (p_lev_ok 2) (p_add_ok (p_term_ok (p_atom_ok (p_lev_ok 2)))))) hm) (by rw [← he, p_eithL, if_pos h16_h]) (by omega)
          · refine v_iconst (v := 1) G dX8_either3_39 rfl ?_
            refine v_goto (tgt := 44) G dX8_either3_40 (by decide) ?_
            refine v_istore_n (L' := [(1, .int 1), (2, .int ((p_both b n (p_not b n (p_lev b n 2) (p_add b n (p_term b n (p_atom b n (p_lev b n 2))))) (nxS b n t1)).1 (envS σ))), (0, .ref (ad 43))]) G dX8_either3_44 (by decide) rfl ?_
            refine v_goto (tgt := 5) G dX8_either3_45 (by decide) ?_
            refine V_.sub (L' := [(1, .int 1), (0, .ref (ad 43))]) ?_ [0, 2] rfl
            refine v_loc (L' := [(1, .int ((fun e => if v e ≠ 0 ∨ (p_both b n (p_not b n (p_lev b n 2) (p_add b n (p_term b n (p_atom b n (p_lev b n 2))))) (nxS b n t1)).1 e ≠ 0 then 1 else 0) (envS σ))), (0, .ref (ad 43))]) (by dsimp only; first | rw [if_pos (by first | exact Or.inl h32 | exact Or.inr h36)] | rw [if_neg (by rintro (q | q) <;> first | exact q h32 | exact q h36)]) ?_
            exact ih5  f (fun e => if v e ≠ 0 ∨ (p_both b n (p_not b n (p_lev b n 2) (p_add b n (p_term b n (p_atom b n (p_lev b n 2))))) (nxS b n t1)).1 e ≠ 0 then 1 else 0) ((p_both b n (p_not b n (p_lev b n 2) (p_add b n (p_term b n (p_atom b n (p_lev b n 2))))) (nxS b n t1)).2) σ27 h27_s (ag_tr (ag_tr ha h23_a) h27_a) (mu_step (tk_wf hs.2.1) h16_h (by decide) (p_both_ok (p_not_ok (p_lev_ok 2) (p_add_ok (p_term_ok (p_atom_ok (p_lev_ok 2)))))) hm) (by rw [← he, p_eithL, if_pos h16_h]) (by omega)
      · refine v_if_eq (tgt := 48) G dX8_either3_19 (by decide) (fun h19 => ?_) (fun h19 => absurd h19 (by decide))
        refine v_iload_n G 0 dX8_either3_48 rfl ?_
        refine RET _ _ _ _ _ _ rfl (Nat.le_of_ble_eq_true rfl) (Nat.le_of_ble_eq_true rfl) dX8_either3_49 (fun ws hw => ⟨_, hw, ?_⟩)
        clear RET G hT hnm
        rw [show p_eith b n (p_both b n (p_not b n (p_lev b n 2) (p_add b n (p_term b n (p_atom b n (p_lev b n 2)))))) t = (v, t1) by rw [← he, p_eithL, if_neg (by rw [h16_h]; decide)]]
        exact ⟨rfl, hs, ha⟩
  refine V_.sub (L' := [(1, .int ((p_both b n (p_not b n (p_lev b n 2) (p_add b n (p_term b n (p_atom b n (p_lev b n 2))))) t).1 (envS σ))), (0, .ref (ad 43))]) ?_ [0, 1] rfl
  refine v_loc (L' := [(1, .int (((p_both b n (p_not b n (p_lev b n 2) (p_add b n (p_term b n (p_atom b n (p_lev b n 2))))) t).1) (envS σ))), (0, .ref (ad 43))]) (rfl) ?_
  exact loop5 _ (n + 2) ((p_both b n (p_not b n (p_lev b n 2) (p_add b n (p_term b n (p_atom b n (p_lev b n 2))))) t).1) ((p_both b n (p_not b n (p_lev b n 2) (p_add b n (p_term b n (p_atom b n (p_lev b n 2))))) t).2) σ1 h1_s h1_a (by have := mu_le (n := n) (s := (p_both b n (p_not b n (p_lev b n 2) (p_add b n (p_term b n (p_atom b n (p_lev b n 2))))) t).2); omega) rfl (Nat.lt_succ_self _)
abbrev rmX8_atom2 : Room := { frames := 22, cells := 0, slots := 0, locals := 487 }
set_option maxHeartbeats 4000000 in
theorem kX8_atom2 {KT : (Nat → Prop) → State → Heap → Prop} (hK : KTok KT) (l : Launch) (dC : Nat → ClassId) (dI : Nat → Nat → Nat) (ct ad : Nat → Nat) (σ : MS) (F : Nat) (n : Nat) (b : Nat → Int32) (t : PS) (hS : ST F n b 2 t σ) : MC KT (dC, dI) vwCl (tysF ct) l yX8_atom2 cX8_atom2 2 (some .int) rmX8_atom2 [.ref (ad 43)] (RM ct ad σ) (QI_ (dC, dI) vwCl (RM ct ad) (fun (r : Int32) (σ' : MS) => ((p_atom b n (p_lev b n 3) t).1 (envS σ)) = r ∧ ST F n b 2 (p_atom b n (p_lev b n 3) t).2 σ' ∧ ag pfr σ σ')) := by
  refine MC.ofI (own := RX8) pl_X8 rfl (Nat.le_of_ble_eq_true rfl) ?_
  intro pp ee ss mm aa bb hh cc AA QQ G hT hnm RET
  refine v_loc (L' := [(0, .ref (ad 43))]) rfl ?_
  refine v_iconst (v := 0) G dX8_atom2_0 rfl ?_
  refine v_istore_n (L' := [(1, .int 0), (0, .ref (ad 43))]) G dX8_atom2_1 (by decide) rfl ?_
  refine v_aload_n G 1 dX8_atom2_2 rfl ?_
  refine v_bipush (v := 45) G dX8_atom2_3 rfl ?_
  refine w_callVi G hK hT (kX8_isSignS hK l dC dI ct ad σ F n b 2 t 45 hS) (ck_X8_221 G.2.2.2.2.1 ⟨Nat.le_of_ble_eq_true rfl, Nat.le_of_ble_eq_true rfl⟩) m_recv (fun _ h => h) rfl [] rfl (Nat.le_of_ble_eq_true rfl) dX8_atom2_5 ⟨Nat.le_of_ble_eq_true rfl, Nat.le_of_ble_eq_true rfl⟩ (k1 := 0) (n1 := 0) rfl rfl ?_
  rintro r5 σ5 (⟨rfl, rfl, h5_h⟩ | ⟨rfl, rfl, h5_h⟩)
  · refine v_if_eq (tgt := 37) G dX8_atom2_8 (by decide) (fun h8 => absurd h8 (by decide)) (fun h8 => ?_)
    refine v_aload_n G 1 dX8_atom2_11 rfl ?_
    refine w_callVi G hK hT (kX8_opens hK l dC dI ct ad σ F n b 2 t hS (kd_tk h5_h (by decide)) (by decide)) (ck_X8_224 G.2.2.2.2.1 ⟨Nat.le_of_ble_eq_true rfl, Nat.le_of_ble_eq_true rfl⟩) m_recv (fun _ h => h) rfl [] rfl (Nat.le_of_ble_eq_true rfl) dX8_atom2_12 ⟨Nat.le_of_ble_eq_true rfl, Nat.le_of_ble_eq_true rfl⟩ (k1 := 0) (n1 := 0) rfl rfl ?_
    rintro r12 σ12 (⟨rfl, h12_k, h12_s, h12_a⟩ | ⟨rfl, h12_k, h12_s, h12_a⟩)
    · refine v_if_eq (tgt := 161) G dX8_atom2_15 (by decide) (fun h15 => absurd h15 (by decide)) (fun h15 => ?_)
      refine v_aload_n G 1 dX8_atom2_18 rfl ?_
      refine w_callVi G hK hT (kX8_atom3 hK l dC dI ct ad σ12 F n b (nxS b n t) h12_s) (ck_X8_272 G.2.2.2.2.1 ⟨Nat.le_of_ble_eq_true rfl, Nat.le_of_ble_eq_true rfl⟩) m_recv (fun _ h => h) rfl [] rfl (Nat.le_of_ble_eq_true rfl) dX8_atom2_19 ⟨Nat.le_of_ble_eq_true rfl, Nat.le_of_ble_eq_true rfl⟩ (k1 := 0) (n1 := 0) rfl rfl ?_
      rintro r19 σ19 ⟨rfl, h19_s, h19_a⟩
      refine v_topr (x2 := .int ((p_atom b n (p_lev b n 2) (nxS b n t)).1 (envS σ))) (congrArg Value.int (congrArg (p_atom b n (p_lev b n 2) (nxS b n t)).1 (envS_ag (ag_tr ag_rf h12_a)))) ?_
      refine v_ineg G dX8_atom2_22 ?_
      refine v_istore_n (L' := [(1, .int (-((p_atom b n (p_lev b n 2) (nxS b n t)).1 (envS σ)))), (0, .ref (ad 43))]) G dX8_atom2_23 (by decide) rfl ?_
      refine v_aload_n G 1 dX8_atom2_24 rfl ?_
      refine v_dup G dX8_atom2_25 rfl ?_
      refine m_get (v := .int (σ19.1 24 0)) G 24 (by decide) rfl q1318 rfl dX8_atom2_26 ?_
      refine v_iconst (v := 1) G dX8_atom2_29 rfl ?_
      refine v_isub G dX8_atom2_30 ?_
      refine m_putI G 24 (by decide) q1318 rfl rfl rfl dX8_atom2_31 ?_
      have hS34 : ST F n b 2 (p_atom b n (p_lev b n 2) (nxS b n t)).2 (mset σ19 24 0 ((σ19.1 24 0) - 1)) := ST_cl h19_s (ix_sub h19_s.2.2 (ix_lit 1 rfl) (by omega))
      refine v_goto (tgt := 161) G dX8_atom2_34 (by decide) ?_
      refine v_iload_n G 0 dX8_atom2_161 rfl ?_
      refine RET _ _ _ _ _ _ rfl (Nat.le_of_ble_eq_true rfl) (Nat.le_of_ble_eq_true rfl) dX8_atom2_162 (fun ws hw => ⟨_, hw, ?_⟩)
      clear RET G hT hnm
      rw [show p_atom b n (p_lev b n 3) t = _ from p_atom_m h5_h]
      exact ⟨rfl, hS34, (ag_tr (ag_tr (ag_tr ag_rf h12_a) h19_a) (ag_set (by decide)))⟩
    · exact False.elim (by exact absurd h12_k (by decide))
  · refine v_if_eq (tgt := 37) G dX8_atom2_8 (by decide) (fun h8 => ?_) (fun h8 => absurd h8 (by decide))
    refine v_aload_n G 1 dX8_atom2_37 rfl ?_
    refine v_bipush (v := 40) G dX8_atom2_38 rfl ?_
    refine w_callVi G hK hT (kX8_isSignS hK l dC dI ct ad σ F n b 2 t 40 hS) (ck_X8_221 G.2.2.2.2.1 ⟨Nat.le_of_ble_eq_true rfl, Nat.le_of_ble_eq_true rfl⟩) m_recv (fun _ h => h) rfl [] rfl (Nat.le_of_ble_eq_true rfl) dX8_atom2_40 ⟨Nat.le_of_ble_eq_true rfl, Nat.le_of_ble_eq_true rfl⟩ (k1 := 0) (n1 := 0) rfl rfl ?_
    rintro r40 σ40 (⟨rfl, rfl, h40_h⟩ | ⟨rfl, rfl, h40_h⟩)
    · refine v_if_eq (tgt := 95) G dX8_atom2_43 (by decide) (fun h43 => absurd h43 (by decide)) (fun h43 => ?_)
      refine v_aload_n G 1 dX8_atom2_46 rfl ?_
      refine w_callVi G hK hT (kX8_opens hK l dC dI ct ad σ F n b 2 t hS (kd_tk h40_h (by decide)) (by decide)) (ck_X8_224 G.2.2.2.2.1 ⟨Nat.le_of_ble_eq_true rfl, Nat.le_of_ble_eq_true rfl⟩) m_recv (fun _ h => h) rfl [] rfl (Nat.le_of_ble_eq_true rfl) dX8_atom2_47 ⟨Nat.le_of_ble_eq_true rfl, Nat.le_of_ble_eq_true rfl⟩ (k1 := 0) (n1 := 0) rfl rfl ?_
      rintro r47 σ47 (⟨rfl, h47_k, h47_s, h47_a⟩ | ⟨rfl, h47_k, h47_s, h47_a⟩)
      · refine v_if_eq (tgt := 161) G dX8_atom2_50 (by decide) (fun h50 => absurd h50 (by decide)) (fun h50 => ?_)
        refine v_aload_n G 1 dX8_atom2_53 rfl ?_
        refine w_callVi G hK hT (kX8_either3 hK l dC dI ct ad σ47 F n b (nxS b n t) h47_s) (ck_X8_287 G.2.2.2.2.1 ⟨Nat.le_of_ble_eq_true rfl, Nat.le_of_ble_eq_true rfl⟩) m_recv (fun _ h => h) rfl [] rfl (Nat.le_of_ble_eq_true rfl) dX8_atom2_54 ⟨Nat.le_of_ble_eq_true rfl, Nat.le_of_ble_eq_true rfl⟩ (k1 := 0) (n1 := 0) rfl rfl ?_
        rintro r54 σ54 ⟨rfl, h54_s, h54_a⟩
        refine v_topr (x2 := .int ((p_eith b n (p_both b n (p_not b n (p_lev b n 2) (p_add b n (p_term b n (p_atom b n (p_lev b n 2)))))) (nxS b n t)).1 (envS σ))) (congrArg Value.int (congrArg (p_eith b n (p_both b n (p_not b n (p_lev b n 2) (p_add b n (p_term b n (p_atom b n (p_lev b n 2)))))) (nxS b n t)).1 (envS_ag (ag_tr ag_rf h47_a)))) ?_
        refine v_istore_n (L' := [(1, .int ((p_eith b n (p_both b n (p_not b n (p_lev b n 2) (p_add b n (p_term b n (p_atom b n (p_lev b n 2)))))) (nxS b n t)).1 (envS σ))), (0, .ref (ad 43))]) G dX8_atom2_57 (by decide) rfl ?_
        refine v_aload_n G 1 dX8_atom2_58 rfl ?_
        refine v_bipush (v := 41) G dX8_atom2_59 rfl ?_
        refine w_callVi G hK hT (kX8_isSignS hK l dC dI ct ad σ54 F n b 3 ((p_eith b n (p_both b n (p_not b n (p_lev b n 2) (p_add b n (p_term b n (p_atom b n (p_lev b n 2)))))) (nxS b n t)).2) 41 h54_s) (ck_X8_221 G.2.2.2.2.1 ⟨Nat.le_of_ble_eq_true rfl, Nat.le_of_ble_eq_true rfl⟩) m_recv (fun _ h => h) rfl [] rfl (Nat.le_of_ble_eq_true rfl) dX8_atom2_61 ⟨Nat.le_of_ble_eq_true rfl, Nat.le_of_ble_eq_true rfl⟩ (k1 := 0) (n1 := 0) rfl rfl ?_
        rintro r61 σ61 (⟨rfl, rfl, h61_h⟩ | ⟨rfl, rfl, h61_h⟩)
        · refine v_if_ne (tgt := 71) G dX8_atom2_64 (by decide) (fun h64 => ?_) (fun h64 => absurd h64 (by decide))
          refine v_aload_n G 1 dX8_atom2_71 rfl ?_
          refine v_dup G dX8_atom2_72 rfl ?_
          refine m_get (v := .int (σ54.1 24 0)) G 24 (by decide) rfl q1318 rfl dX8_atom2_73 ?_
          refine v_iconst (v := 1) G dX8_atom2_76 rfl ?_
          refine v_isub G dX8_atom2_77 ?_
          refine m_putI G 24 (by decide) q1318 rfl rfl rfl dX8_atom2_78 ?_
          have hS81 : ST F n b 2 (p_eith b n (p_both b n (p_not b n (p_lev b n 2) (p_add b n (p_term b n (p_atom b n (p_lev b n 2)))))) (nxS b n t)).2 (mset σ54 24 0 ((σ54.1 24 0) - 1)) := ST_cl h54_s (ix_sub h54_s.2.2 (ix_lit 1 rfl) (by omega))
          refine v_aload_n G 1 dX8_atom2_81 rfl ?_
          refine m_get (v := .int (σ54.1 25 0)) G 25 (by decide) rfl q1319 rfl dX8_atom2_82 ?_
          refine v_if_ne (tgt := 161) G dX8_atom2_85 (by decide) (fun h85 => False.elim (by exact h85 (ST_bad (σ := (mset σ54 24 0 ((σ54.1 24 0) - 1))) hS81 (kd_tk h61_h (by decide))))) (fun h85 => ?_)
          refine v_aload_n G 1 dX8_atom2_88 rfl ?_
          refine w_callVv G hK hT (kX8_nextS hK l dC dI ct ad (mset σ54 24 0 ((σ54.1 24 0) - 1)) F n b 2 ((p_eith b n (p_both b n (p_not b n (p_lev b n 2) (p_add b n (p_term b n (p_atom b n (p_lev b n 2)))))) (nxS b n t)).2) hS81 (kd_tk h61_h (by decide))) (ck_X8_196 G.2.2.2.2.1 ⟨Nat.le_of_ble_eq_true rfl, Nat.le_of_ble_eq_true rfl⟩) m_recv (fun _ h => h) rfl [] rfl (Nat.le_of_ble_eq_true rfl) dX8_atom2_89 ⟨Nat.le_of_ble_eq_true rfl, Nat.le_of_ble_eq_true rfl⟩ (k1 := 0) (n1 := 0) rfl rfl ?_
          rintro σ89 ⟨h89_s, h89_a, h89_b⟩
          refine v_goto (tgt := 161) G dX8_atom2_92 (by decide) ?_
          refine v_iload_n G 0 dX8_atom2_161 rfl ?_
          refine RET _ _ _ _ _ _ rfl (Nat.le_of_ble_eq_true rfl) (Nat.le_of_ble_eq_true rfl) dX8_atom2_162 (fun ws hw => ⟨_, hw, ?_⟩)
          clear RET G hT hnm
          rw [show p_atom b n (p_lev b n 3) t = _ from p_atom_oy h5_h h40_h h61_h]
          exact ⟨rfl, h89_s, (ag_tr (ag_tr (ag_tr (ag_tr ag_rf h47_a) h54_a) (ag_set (by decide))) h89_a)⟩
        · refine v_if_ne (tgt := 71) G dX8_atom2_64 (by decide) (fun h64 => absurd h64 (by decide)) (fun h64 => ?_)
          refine v_aload_n G 1 dX8_atom2_67 rfl ?_
          refine w_callVv G hK hT (kX8_failS hK l dC dI ct ad σ54 F n b 3 ((p_eith b n (p_both b n (p_not b n (p_lev b n 2) (p_add b n (p_term b n (p_atom b n (p_lev b n 2)))))) (nxS b n t)).2) h54_s) (ck_X8_193 G.2.2.2.2.1 ⟨Nat.le_of_ble_eq_true rfl, Nat.le_of_ble_eq_true rfl⟩) m_recv (fun _ h => h) rfl [] rfl (Nat.le_of_ble_eq_true rfl) dX8_atom2_68 ⟨Nat.le_of_ble_eq_true rfl, Nat.le_of_ble_eq_true rfl⟩ (k1 := 0) (n1 := 0) rfl rfl ?_
          rintro σ68 ⟨h68_s, h68_a, h68_b⟩
          refine v_aload_n G 1 dX8_atom2_71 rfl ?_
          refine v_dup G dX8_atom2_72 rfl ?_
          refine m_get (v := .int (σ68.1 24 0)) G 24 (by decide) rfl q1318 rfl dX8_atom2_73 ?_
          refine v_iconst (v := 1) G dX8_atom2_76 rfl ?_
          refine v_isub G dX8_atom2_77 ?_
          refine m_putI G 24 (by decide) q1318 rfl rfl rfl dX8_atom2_78 ?_
          have hS81 : ST F n b 2 (faS (p_eith b n (p_both b n (p_not b n (p_lev b n 2) (p_add b n (p_term b n (p_atom b n (p_lev b n 2)))))) (nxS b n t)).2) (mset σ68 24 0 ((σ68.1 24 0) - 1)) := ST_cl h68_s (ix_sub h68_s.2.2 (ix_lit 1 rfl) (by omega))
          refine v_aload_n G 1 dX8_atom2_81 rfl ?_
          refine m_get (v := .int (σ68.1 25 0)) G 25 (by decide) rfl q1319 rfl dX8_atom2_82 ?_
          refine v_if_ne (tgt := 161) G dX8_atom2_85 (by decide) (fun h85 => ?_) (fun h85 => False.elim (by rw [h68_b] at h85; exact absurd h85 (by decide)))
          refine v_iload_n G 0 dX8_atom2_161 rfl ?_
          refine RET _ _ _ _ _ _ rfl (Nat.le_of_ble_eq_true rfl) (Nat.le_of_ble_eq_true rfl) dX8_atom2_162 (fun ws hw => ⟨_, hw, ?_⟩)
          clear RET G hT hnm
          rw [show p_atom b n (p_lev b n 3) t = _ from p_atom_on h5_h h40_h h61_h]
          exact ⟨rfl, hS81, (ag_tr (ag_tr (ag_tr (ag_tr ag_rf h47_a) h54_a) h68_a) (ag_set (by decide)))⟩
      · exact False.elim (by exact absurd h47_k (by decide))
    · refine v_if_eq (tgt := 95) G dX8_atom2_43 (by decide) (fun h43 => ?_) (fun h43 => absurd h43 (by decide))
      refine v_aload_n G 1 dX8_atom2_95 rfl ?_
      refine m_get (v := .int (σ.1 25 0)) G 25 (by decide) rfl q1319 rfl dX8_atom2_96 ?_
      refine v_if_ne (tgt := 123) G dX8_atom2_99 (by decide) (fun h99 => ?_) (fun h99 => ?_)
      · refine v_aload_n G 1 dX8_atom2_123 rfl ?_
        refine m_get (v := .int (σ.1 25 0)) G 25 (by decide) rfl q1319 rfl dX8_atom2_124 ?_
        refine v_if_ne (tgt := 157) G dX8_atom2_127 (by decide) (fun h127 => ?_) (fun h127 => False.elim (by exact h99 h127))
        refine v_aload_n G 1 dX8_atom2_157 rfl ?_
        refine w_callVv G hK hT (kX8_failS hK l dC dI ct ad σ F n b 2 t hS) (ck_X8_193 G.2.2.2.2.1 ⟨Nat.le_of_ble_eq_true rfl, Nat.le_of_ble_eq_true rfl⟩) m_recv (fun _ h => h) rfl [] rfl (Nat.le_of_ble_eq_true rfl) dX8_atom2_158 ⟨Nat.le_of_ble_eq_true rfl, Nat.le_of_ble_eq_true rfl⟩ (k1 := 0) (n1 := 0) rfl rfl ?_
        rintro σ158 ⟨h158_s, h158_a, h158_b⟩
        refine v_iload_n G 0 dX8_atom2_161 rfl ?_
        refine RET _ _ _ _ _ _ rfl (Nat.le_of_ble_eq_true rfl) (Nat.le_of_ble_eq_true rfl) dX8_atom2_162 (fun ws hw => ⟨_, hw, ?_⟩)
        clear RET G hT hnm
        rw [show p_atom b n (p_lev b n 3) t = _ from p_atom_f h5_h h40_h (tk_nnum hS.2.1 (fun q => by first | exact h99 q.1 | exact h107 q.2)) (tk_nwd hS.2.1 (fun q => by first | exact h99 q.1 | exact h127 q.1 | exact h135 q.2)).1]
        exact ⟨rfl, h158_s, (ag_tr ag_rf h158_a)⟩
      · refine v_aload_n G 1 dX8_atom2_102 rfl ?_
        refine m_get (v := .int (σ.1 21 0)) G 21 (by decide) rfl q1315 rfl dX8_atom2_103 ?_
        refine v_iconst (v := 2) G dX8_atom2_106 rfl ?_
        refine v_icmp_ne (tgt := 123) G dX8_atom2_107 (by decide) (fun h107 => ?_) (fun h107 => ?_)
        · refine v_aload_n G 1 dX8_atom2_123 rfl ?_
          refine m_get (v := .int (σ.1 25 0)) G 25 (by decide) rfl q1319 rfl dX8_atom2_124 ?_
          refine v_if_ne (tgt := 157) G dX8_atom2_127 (by decide) (fun h127 => False.elim (by exact h127 h99)) (fun h127 => ?_)
          refine v_aload_n G 1 dX8_atom2_130 rfl ?_
          refine m_get (v := .int (σ.1 21 0)) G 21 (by decide) rfl q1315 rfl dX8_atom2_131 ?_
          refine v_iconst (v := 1) G dX8_atom2_134 rfl ?_
          refine v_icmp_ne (tgt := 157) G dX8_atom2_135 (by decide) (fun h135 => ?_) (fun h135 => ?_)
          · refine v_aload_n G 1 dX8_atom2_157 rfl ?_
            refine w_callVv G hK hT (kX8_failS hK l dC dI ct ad σ F n b 2 t hS) (ck_X8_193 G.2.2.2.2.1 ⟨Nat.le_of_ble_eq_true rfl, Nat.le_of_ble_eq_true rfl⟩) m_recv (fun _ h => h) rfl [] rfl (Nat.le_of_ble_eq_true rfl) dX8_atom2_158 ⟨Nat.le_of_ble_eq_true rfl, Nat.le_of_ble_eq_true rfl⟩ (k1 := 0) (n1 := 0) rfl rfl ?_
            rintro σ158 ⟨h158_s, h158_a, h158_b⟩
            refine v_iload_n G 0 dX8_atom2_161 rfl ?_
            refine RET _ _ _ _ _ _ rfl (Nat.le_of_ble_eq_true rfl) (Nat.le_of_ble_eq_true rfl) dX8_atom2_162 (fun ws hw => ⟨_, hw, ?_⟩)
            clear RET G hT hnm
            rw [show p_atom b n (p_lev b n 3) t = _ from p_atom_f h5_h h40_h (tk_nnum hS.2.1 (fun q => by first | exact h99 q.1 | exact h107 q.2)) (tk_nwd hS.2.1 (fun q => by first | exact h99 q.1 | exact h127 q.1 | exact h135 q.2)).1]
            exact ⟨rfl, h158_s, (ag_tr ag_rf h158_a)⟩
          · refine v_aload_n G 1 dX8_atom2_138 rfl ?_
            refine w_callVi G hK hT (kX8_name hK l dC dI ct ad σ F n b 2 t hS) (ck_X8_228 G.2.2.2.2.1 ⟨Nat.le_of_ble_eq_true rfl, Nat.le_of_ble_eq_true rfl⟩) m_recv (fun _ h => h) rfl [] rfl (Nat.le_of_ble_eq_true rfl) dX8_atom2_139 ⟨Nat.le_of_ble_eq_true rfl, Nat.le_of_ble_eq_true rfl⟩ (k1 := 0) (n1 := 0) rfl rfl ?_
            rintro r139 σ139 (⟨rfl, rfl, h139_h⟩ | ⟨rfl, h139_s, h139_a, h139_b, h139_h⟩)
            · refine v_topr (congrArg Value.int (show envS σ (n_ (vl t)) = envS σ (n_ (vl t)) by rw [envS_ag ag_rf])) ?_
              refine v_istore_n (L' := [(1, .int (envS σ (n_ (vl t)))), (0, .ref (ad 43))]) G dX8_atom2_142 (by decide) rfl ?_
              refine v_aload_n G 1 dX8_atom2_143 rfl ?_
              refine m_get (v := .int (σ.1 25 0)) G 25 (by decide) rfl q1319 rfl dX8_atom2_144 ?_
              refine v_if_ne (tgt := 161) G dX8_atom2_147 (by decide) (fun h147 => False.elim (by exact h147 (by assumption))) (fun h147 => ?_)
              refine v_aload_n G 1 dX8_atom2_150 rfl ?_
              refine w_callVv G hK hT (kX8_nextS hK l dC dI ct ad σ F n b 2 t hS (by rw [h139_h]; decide)) (ck_X8_196 G.2.2.2.2.1 ⟨Nat.le_of_ble_eq_true rfl, Nat.le_of_ble_eq_true rfl⟩) m_recv (fun _ h => h) rfl [] rfl (Nat.le_of_ble_eq_true rfl) dX8_atom2_151 ⟨Nat.le_of_ble_eq_true rfl, Nat.le_of_ble_eq_true rfl⟩ (k1 := 0) (n1 := 0) rfl rfl ?_
              rintro σ151 ⟨h151_s, h151_a, h151_b⟩
              refine v_goto (tgt := 161) G dX8_atom2_154 (by decide) ?_
              refine v_iload_n G 0 dX8_atom2_161 rfl ?_
              refine RET _ _ _ _ _ _ rfl (Nat.le_of_ble_eq_true rfl) (Nat.le_of_ble_eq_true rfl) dX8_atom2_162 (fun ws hw => ⟨_, hw, ?_⟩)
              clear RET G hT hnm
              rw [show p_atom b n (p_lev b n 3) t = _ from p_atom_2 h5_h h40_h h139_h]
              exact ⟨rfl, h151_s, (ag_tr ag_rf h151_a)⟩
            · refine v_istore_n (L' := [(1, .int 0), (0, .ref (ad 43))]) G dX8_atom2_142 (by decide) rfl ?_
              refine v_aload_n G 1 dX8_atom2_143 rfl ?_
              refine m_get (v := .int (σ139.1 25 0)) G 25 (by decide) rfl q1319 rfl dX8_atom2_144 ?_
              refine v_if_ne (tgt := 161) G dX8_atom2_147 (by decide) (fun h147 => ?_) (fun h147 => False.elim (by rw [h139_b] at h147; exact absurd h147 (by decide)))
              refine v_iload_n G 0 dX8_atom2_161 rfl ?_
              refine RET _ _ _ _ _ _ rfl (Nat.le_of_ble_eq_true rfl) (Nat.le_of_ble_eq_true rfl) dX8_atom2_162 (fun ws hw => ⟨_, hw, ?_⟩)
              clear RET G hT hnm
              rw [show p_atom b n (p_lev b n 3) t = _ from p_atom_f h5_h h40_h (tk_nnum hS.2.1 (fun q => by first | exact h99 q.1 | exact h107 q.2)) h139_h]
              exact ⟨rfl, h139_s, (ag_tr ag_rf h139_a)⟩
        · refine v_aload_n G 1 dX8_atom2_110 rfl ?_
          have hnum := tk_num hS.2.1 h99 h107
          refine m_get (v := .long (σ.2 23 0)) G 23 (by decide) rfl q1317 rfl dX8_atom2_111 ?_
          refine v_l2i (v := (σ.2 23 0).toInt32) G dX8_atom2_114 rfl ?_
          refine v_topr (x2 := .int (vl t)) (congrArg Value.int (show (σ.2 23 0).toInt32 = vl t by rw [hnum.2]; exact lg_l2i_i2l _)) ?_
          refine v_istore_n (L' := [(1, .int (vl t)), (0, .ref (ad 43))]) G dX8_atom2_115 (by decide) rfl ?_
          refine v_aload_n G 1 dX8_atom2_116 rfl ?_
          refine w_callVv G hK hT (kX8_nextS hK l dC dI ct ad σ F n b 2 t hS (by rw [hnum.1]; decide)) (ck_X8_196 G.2.2.2.2.1 ⟨Nat.le_of_ble_eq_true rfl, Nat.le_of_ble_eq_true rfl⟩) m_recv (fun _ h => h) rfl [] rfl (Nat.le_of_ble_eq_true rfl) dX8_atom2_117 ⟨Nat.le_of_ble_eq_true rfl, Nat.le_of_ble_eq_true rfl⟩ (k1 := 0) (n1 := 0) rfl rfl ?_
          rintro σ117 ⟨h117_s, h117_a, h117_b⟩
          refine v_goto (tgt := 161) G dX8_atom2_120 (by decide) ?_
          refine v_iload_n G 0 dX8_atom2_161 rfl ?_
          refine RET _ _ _ _ _ _ rfl (Nat.le_of_ble_eq_true rfl) (Nat.le_of_ble_eq_true rfl) dX8_atom2_162 (fun ws hw => ⟨_, hw, ?_⟩)
          clear RET G hT hnm
          rw [show p_atom b n (p_lev b n 3) t = _ from p_atom_3 h5_h h40_h hnum.1]
          exact ⟨rfl, h117_s, (ag_tr ag_rf h117_a)⟩
abbrev rmX8_term2 : Room := { frames := 23, cells := 0, slots := 0, locals := 508 }
set_option maxHeartbeats 4000000 in
theorem kX8_term2 {KT : (Nat → Prop) → State → Heap → Prop} (hK : KTok KT) (l : Launch) (dC : Nat → ClassId) (dI : Nat → Nat → Nat) (ct ad : Nat → Nat) (σ : MS) (F : Nat) (n : Nat) (b : Nat → Int32) (t : PS) (hS : ST F n b 2 t σ) : MC KT (dC, dI) vwCl (tysF ct) l yX8_term2 cX8_term2 2 (some .int) rmX8_term2 [.ref (ad 43)] (RM ct ad σ) (QI_ (dC, dI) vwCl (RM ct ad) (fun (r : Int32) (σ' : MS) => ((p_term b n (p_atom b n (p_lev b n 3)) t).1 (envS σ)) = r ∧ ST F n b 2 (p_term b n (p_atom b n (p_lev b n 3)) t).2 σ' ∧ ag pfr σ σ')) := by
  refine MC.ofI (own := RX8) pl_X8 rfl (Nat.le_of_ble_eq_true rfl) ?_
  intro pp ee ss mm aa bb hh cc AA QQ G hT hnm RET
  refine v_loc (L' := [(0, .ref (ad 43))]) rfl ?_
  refine v_aload_n G 0 dX8_term2_0 rfl ?_
  refine w_callVi G hK hT (kX8_atom2 hK l dC dI ct ad σ F n b t hS) (ck_X8_290 G.2.2.2.2.1 ⟨Nat.le_of_ble_eq_true rfl, Nat.le_of_ble_eq_true rfl⟩) m_recv (fun _ h => h) rfl [] rfl (Nat.le_of_ble_eq_true rfl) dX8_term2_1 ⟨Nat.le_of_ble_eq_true rfl, Nat.le_of_ble_eq_true rfl⟩ (k1 := 0) (n1 := 0) rfl rfl ?_
  rintro r1 σ1 ⟨rfl, h1_s, h1_a⟩
  refine v_topr (x2 := .int ((p_atom b n (p_lev b n 3) t).1 (envS σ))) (congrArg Value.int (congrArg (p_atom b n (p_lev b n 3) t).1 (envS_ag ag_rf))) ?_
  refine v_istore_n (L' := [(1, .int ((p_atom b n (p_lev b n 3) t).1 (envS σ))), (0, .ref (ad 43))]) G dX8_term2_4 (by decide) rfl ?_
  have loop5 : ∀ (dd : Nat) (f : Nat) (v : SF) (t1 : PS) (τ : MS), (ST F n b 2 t1 τ) → (ag pfr σ τ) → (mu n t1 < f) → (p_termL b n (p_atom b n (p_lev b n 3)) f v t1 = p_term b n (p_atom b n (p_lev b n 3)) t) → f < dd → V_ pp l ee rmX8_term2 ss mm aa bb hh cc 2 (dC, dI) vwCl AA QQ 0 0 (RM ct ad τ) 5 [(1, .int (v (envS σ))), (0, .ref (ad 43))] [] := by
    intro dd
    induction dd with
    | zero => intro f v t1 τ hs ha hm he hdd; exact absurd hdd (Nat.not_lt_zero _)
    | succ dd ih5 =>
      intro f v t1 τ hs ha hm he hdd
      obtain ⟨f, rfl⟩ : ∃ g, f = g + 1 := ⟨f - 1, by omega⟩
      refine v_aload_n G 1 dX8_term2_5 rfl ?_
      refine v_bipush (v := 42) G dX8_term2_6 rfl ?_
      refine w_callVi G hK hT (kX8_isSignS hK l dC dI ct ad τ F n b 2 t1 42 hs) (ck_X8_221 G.2.2.2.2.1 ⟨Nat.le_of_ble_eq_true rfl, Nat.le_of_ble_eq_true rfl⟩) m_recv (fun _ h => h) rfl [] rfl (Nat.le_of_ble_eq_true rfl) dX8_term2_8 ⟨Nat.le_of_ble_eq_true rfl, Nat.le_of_ble_eq_true rfl⟩ (k1 := 0) (n1 := 0) rfl rfl ?_
      rintro r8 σ8 (⟨rfl, rfl, h8_h⟩ | ⟨rfl, rfl, h8_h⟩)
      · refine v_if_eq (tgt := 28) G dX8_term2_11 (by decide) (fun h11 => absurd h11 (by decide)) (fun h11 => ?_)
        refine v_aload_n G 1 dX8_term2_14 rfl ?_
        refine w_callVv G hK hT (kX8_nextS hK l dC dI ct ad τ F n b 2 t1 hs (kd_tk h8_h (by decide))) (ck_X8_196 G.2.2.2.2.1 ⟨Nat.le_of_ble_eq_true rfl, Nat.le_of_ble_eq_true rfl⟩) m_recv (fun _ h => h) rfl [] rfl (Nat.le_of_ble_eq_true rfl) dX8_term2_15 ⟨Nat.le_of_ble_eq_true rfl, Nat.le_of_ble_eq_true rfl⟩ (k1 := 0) (n1 := 0) rfl rfl ?_
        rintro σ15 ⟨h15_s, h15_a, h15_b⟩
        refine v_iload_n G 0 dX8_term2_18 rfl ?_
        refine v_aload_n G 1 dX8_term2_19 rfl ?_
        refine w_callVi G hK hT (kX8_atom2 hK l dC dI ct ad σ15 F n b (nxS b n t1) h15_s) (ck_X8_290 G.2.2.2.2.1 ⟨Nat.le_of_ble_eq_true rfl, Nat.le_of_ble_eq_true rfl⟩) m_recv (fun _ h => h) rfl [.int (v (envS σ))] rfl (Nat.le_of_ble_eq_true rfl) dX8_term2_20 ⟨Nat.le_of_ble_eq_true rfl, Nat.le_of_ble_eq_true rfl⟩ (k1 := 0) (n1 := 0) rfl rfl ?_
        rintro r20 σ20 ⟨rfl, h20_s, h20_a⟩
        refine v_topr (x2 := .int ((p_atom b n (p_lev b n 3) (nxS b n t1)).1 (envS σ))) (congrArg Value.int (congrArg (p_atom b n (p_lev b n 3) (nxS b n t1)).1 (envS_ag (ag_tr ha h15_a)))) ?_
        refine v_imul G dX8_term2_23 ?_
        refine v_istore_n (L' := [(1, .int ((v (envS σ)) * ((p_atom b n (p_lev b n 3) (nxS b n t1)).1 (envS σ)))), (0, .ref (ad 43))]) G dX8_term2_24 (by decide) rfl ?_
        refine v_goto (tgt := 5) G dX8_term2_25 (by decide) ?_
        refine V_.sub (L' := [(1, .int ((v (envS σ)) * ((p_atom b n (p_lev b n 3) (nxS b n t1)).1 (envS σ)))), (0, .ref (ad 43))]) ?_ [0, 1] rfl
        refine v_loc (L' := [(1, .int ((fun e => v e * (p_atom b n (p_lev b n 3) (nxS b n t1)).1 e) (envS σ))), (0, .ref (ad 43))]) (rfl) ?_
        exact ih5  f (fun e => v e * (p_atom b n (p_lev b n 3) (nxS b n t1)).1 e) ((p_atom b n (p_lev b n 3) (nxS b n t1)).2) σ20 h20_s (ag_tr (ag_tr ha h15_a) h20_a) (mu_step (tk_wf hs.2.1) h8_h (by decide) (p_atom_ok (p_lev_ok 3)) hm) (by rw [← he, p_termL, if_pos h8_h]) (by omega)
      · refine v_if_eq (tgt := 28) G dX8_term2_11 (by decide) (fun h11 => ?_) (fun h11 => absurd h11 (by decide))
        refine v_iload_n G 0 dX8_term2_28 rfl ?_
        refine RET _ _ _ _ _ _ rfl (Nat.le_of_ble_eq_true rfl) (Nat.le_of_ble_eq_true rfl) dX8_term2_29 (fun ws hw => ⟨_, hw, ?_⟩)
        clear RET G hT hnm
        rw [show p_term b n (p_atom b n (p_lev b n 3)) t = (v, t1) by rw [← he, p_termL, if_neg (by rw [h8_h]; decide)]]
        exact ⟨rfl, hs, ha⟩
  refine V_.sub (L' := [(1, .int ((p_atom b n (p_lev b n 3) t).1 (envS σ))), (0, .ref (ad 43))]) ?_ [0, 1] rfl
  refine v_loc (L' := [(1, .int (((p_atom b n (p_lev b n 3) t).1) (envS σ))), (0, .ref (ad 43))]) (rfl) ?_
  exact loop5 _ (n + 2) ((p_atom b n (p_lev b n 3) t).1) ((p_atom b n (p_lev b n 3) t).2) σ1 h1_s h1_a (by have := mu_le (n := n) (s := (p_atom b n (p_lev b n 3) t).2); omega) rfl (Nat.lt_succ_self _)
abbrev rmX8_added2 : Room := { frames := 24, cells := 0, slots := 0, locals := 529 }
set_option maxHeartbeats 4000000 in
theorem kX8_added2 {KT : (Nat → Prop) → State → Heap → Prop} (hK : KTok KT) (l : Launch) (dC : Nat → ClassId) (dI : Nat → Nat → Nat) (ct ad : Nat → Nat) (σ : MS) (F : Nat) (n : Nat) (b : Nat → Int32) (t : PS) (hS : ST F n b 2 t σ) : MC KT (dC, dI) vwCl (tysF ct) l yX8_added2 cX8_added2 4 (some .int) rmX8_added2 [.ref (ad 43)] (RM ct ad σ) (QI_ (dC, dI) vwCl (RM ct ad) (fun (r : Int32) (σ' : MS) => ((p_add b n (p_term b n (p_atom b n (p_lev b n 3))) t).1 (envS σ)) = r ∧ ST F n b 2 (p_add b n (p_term b n (p_atom b n (p_lev b n 3))) t).2 σ' ∧ ag pfr σ σ')) := by
  refine MC.ofI (own := RX8) pl_X8 rfl (Nat.le_of_ble_eq_true rfl) ?_
  intro pp ee ss mm aa bb hh cc AA QQ G hT hnm RET
  refine v_loc (L' := [(0, .ref (ad 43))]) rfl ?_
  refine v_aload_n G 0 dX8_added2_0 rfl ?_
  refine w_callVi G hK hT (kX8_term2 hK l dC dI ct ad σ F n b t hS) (ck_X8_293 G.2.2.2.2.1 ⟨Nat.le_of_ble_eq_true rfl, Nat.le_of_ble_eq_true rfl⟩) m_recv (fun _ h => h) rfl [] rfl (Nat.le_of_ble_eq_true rfl) dX8_added2_1 ⟨Nat.le_of_ble_eq_true rfl, Nat.le_of_ble_eq_true rfl⟩ (k1 := 0) (n1 := 0) rfl rfl ?_
  rintro r1 σ1 ⟨rfl, h1_s, h1_a⟩
  refine v_topr (x2 := .int ((p_term b n (p_atom b n (p_lev b n 3)) t).1 (envS σ))) (congrArg Value.int (congrArg (p_term b n (p_atom b n (p_lev b n 3)) t).1 (envS_ag ag_rf))) ?_
  refine v_istore_n (L' := [(1, .int ((p_term b n (p_atom b n (p_lev b n 3)) t).1 (envS σ))), (0, .ref (ad 43))]) G dX8_added2_4 (by decide) rfl ?_
  have loop5 : ∀ (dd : Nat) (f : Nat) (v : SF) (t1 : PS) (τ : MS), (ST F n b 2 t1 τ) → (ag pfr σ τ) → (mu n t1 < f) → (p_addL b n (p_term b n (p_atom b n (p_lev b n 3))) f v t1 = p_add b n (p_term b n (p_atom b n (p_lev b n 3))) t) → f < dd → V_ pp l ee rmX8_added2 ss mm aa bb hh cc 4 (dC, dI) vwCl AA QQ 0 0 (RM ct ad τ) 5 [(1, .int (v (envS σ))), (0, .ref (ad 43))] [] := by
    intro dd
    induction dd with
    | zero => intro f v t1 τ hs ha hm he hdd; exact absurd hdd (Nat.not_lt_zero _)
    | succ dd ih5 =>
      intro f v t1 τ hs ha hm he hdd
      obtain ⟨f, rfl⟩ : ∃ g, f = g + 1 := ⟨f - 1, by omega⟩
      refine v_aload_n G 1 dX8_added2_5 rfl ?_
      refine v_bipush (v := 43) G dX8_added2_6 rfl ?_
      refine w_callVi G hK hT (kX8_isSignS hK l dC dI ct ad τ F n b 2 t1 43 hs) (ck_X8_221 G.2.2.2.2.1 ⟨Nat.le_of_ble_eq_true rfl, Nat.le_of_ble_eq_true rfl⟩) m_recv (fun _ h => h) rfl [] rfl (Nat.le_of_ble_eq_true rfl) dX8_added2_8 ⟨Nat.le_of_ble_eq_true rfl, Nat.le_of_ble_eq_true rfl⟩ (k1 := 0) (n1 := 0) rfl rfl ?_
      rintro r8 σ8 (⟨rfl, rfl, h8_h⟩ | ⟨rfl, rfl, h8_h⟩)
      · refine v_if_ne (tgt := 23) G dX8_added2_11 (by decide) (fun h11 => ?_) (fun h11 => absurd h11 (by decide))
        refine v_aload_n G 1 dX8_added2_23 rfl ?_
        refine m_get (v := .long (τ.2 23 0)) G 23 (by decide) rfl q1317 rfl dX8_added2_24 ?_
        refine v_ldc2 G q1558 dX8_added2_27 ?_
        refine v_lcmp G dX8_added2_30 ?_
        refine v_if_ne (tgt := 38) G dX8_added2_31 (by decide) (fun h31 => False.elim (by exact h31 ((le_of_lcmp _ _).1.mpr (tk_sgv hs.2.1 h8_h)))) (fun h31 => ?_)
        refine v_iconst (v := 1) G dX8_added2_34 rfl ?_
        refine v_goto (tgt := 39) G dX8_added2_35 (by decide) ?_
        refine v_istore_n (L' := [(2, .int 1), (1, .int (v (envS σ))), (0, .ref (ad 43))]) G dX8_added2_39 (by decide) rfl ?_
        refine v_aload_n G 2 dX8_added2_40 rfl ?_
        refine w_callVv G hK hT (kX8_nextS hK l dC dI ct ad τ F n b 2 t1 hs (kd_tk h8_h (by decide))) (ck_X8_196 G.2.2.2.2.1 ⟨Nat.le_of_ble_eq_true rfl, Nat.le_of_ble_eq_true rfl⟩) m_recv (fun _ h => h) rfl [] rfl (Nat.le_of_ble_eq_true rfl) dX8_added2_41 ⟨Nat.le_of_ble_eq_true rfl, Nat.le_of_ble_eq_true rfl⟩ (k1 := 0) (n1 := 0) rfl rfl ?_
        rintro σ41 ⟨h41_s, h41_a, h41_b⟩
        refine v_aload_n G 2 dX8_added2_44 rfl ?_
        refine w_callVi G hK hT (kX8_term2 hK l dC dI ct ad σ41 F n b (nxS b n t1) h41_s) (ck_X8_293 G.2.2.2.2.1 ⟨Nat.le_of_ble_eq_true rfl, Nat.le_of_ble_eq_true rfl⟩) m_recv (fun _ h => h) rfl [] rfl (Nat.le_of_ble_eq_true rfl) dX8_added2_45 ⟨Nat.le_of_ble_eq_true rfl, Nat.le_of_ble_eq_true rfl⟩ (k1 := 0) (n1 := 0) rfl rfl ?_
        rintro r45 σ45 ⟨rfl, h45_s, h45_a⟩
        refine v_topr (x2 := .int ((p_term b n (p_atom b n (p_lev b n 3)) (nxS b n t1)).1 (envS σ))) (congrArg Value.int (congrArg (p_term b n (p_atom b n (p_lev b n 3)) (nxS b n t1)).1 (envS_ag (ag_tr ha h41_a)))) ?_
        refine v_istore_n (L' := [(3, .int ((p_term b n (p_atom b n (p_lev b n 3)) (nxS b n t1)).1 (envS σ))), (2, .int 1), (1, .int (v (envS σ))), (0, .ref (ad 43))]) G dX8_added2_48 (by decide) rfl ?_
        refine v_iload_n G 1 dX8_added2_49 rfl ?_
        refine v_if_eq (tgt := 59) G dX8_added2_50 (by decide) (fun h50 => absurd h50 (by decide)) (fun h50 => ?_)
        refine v_iload_n G 2 dX8_added2_53 rfl ?_
        refine v_iload_n G 0 dX8_added2_54 rfl ?_
        refine v_iadd G dX8_added2_55 ?_
        refine v_goto (tgt := 62) G dX8_added2_56 (by decide) ?_
        refine v_istore_n (L' := [(1, .int ((v (envS σ)) + ((p_term b n (p_atom b n (p_lev b n 3)) (nxS b n t1)).1 (envS σ)))), (3, .int ((p_term b n (p_atom b n (p_lev b n 3)) (nxS b n t1)).1 (envS σ))), (2, .int 1), (0, .ref (ad 43))]) G dX8_added2_62 (by decide) rfl ?_
        refine v_goto (tgt := 5) G dX8_added2_63 (by decide) ?_
        refine V_.sub (L' := [(1, .int ((v (envS σ)) + ((p_term b n (p_atom b n (p_lev b n 3)) (nxS b n t1)).1 (envS σ)))), (0, .ref (ad 43))]) ?_ [0, 3] rfl
        refine v_loc (L' := [(1, .int ((fun e => v e + (p_term b n (p_atom b n (p_lev b n 3)) (nxS b n t1)).1 e) (envS σ))), (0, .ref (ad 43))]) (rfl) ?_
        exact ih5  f (fun e => v e + (p_term b n (p_atom b n (p_lev b n 3)) (nxS b n t1)).1 e) ((p_term b n (p_atom b n (p_lev b n 3)) (nxS b n t1)).2) σ45 h45_s (ag_tr (ag_tr ha h41_a) h45_a) (mu_step (tk_wf hs.2.1) h8_h (by decide) (p_term_ok (p_atom_ok (p_lev_ok 3))) hm) (by rw [← he, p_addL, if_pos h8_h]) (by omega)
      · refine v_if_ne (tgt := 23) G dX8_added2_11 (by decide) (fun h11 => absurd h11 (by decide)) (fun h11 => ?_)
        refine v_aload_n G 1 dX8_added2_14 rfl ?_
        refine v_bipush (v := 45) G dX8_added2_15 rfl ?_
        refine w_callVi G hK hT (kX8_isSignS hK l dC dI ct ad τ F n b 2 t1 45 hs) (ck_X8_221 G.2.2.2.2.1 ⟨Nat.le_of_ble_eq_true rfl, Nat.le_of_ble_eq_true rfl⟩) m_recv (fun _ h => h) rfl [] rfl (Nat.le_of_ble_eq_true rfl) dX8_added2_17 ⟨Nat.le_of_ble_eq_true rfl, Nat.le_of_ble_eq_true rfl⟩ (k1 := 0) (n1 := 0) rfl rfl ?_
        rintro r17 σ17 (⟨rfl, rfl, h17_h⟩ | ⟨rfl, rfl, h17_h⟩)
        · refine v_if_eq (tgt := 66) G dX8_added2_20 (by decide) (fun h20 => absurd h20 (by decide)) (fun h20 => ?_)
          refine v_aload_n G 1 dX8_added2_23 rfl ?_
          refine m_get (v := .long (τ.2 23 0)) G 23 (by decide) rfl q1317 rfl dX8_added2_24 ?_
          refine v_ldc2 G q1558 dX8_added2_27 ?_
          refine v_lcmp G dX8_added2_30 ?_
          refine v_if_ne (tgt := 38) G dX8_added2_31 (by decide) (fun h31 => ?_) (fun h31 => False.elim (by have hz := (le_of_lcmp _ _).1.mp h31; rw [tk_sgv hs.2.1 h17_h] at hz; exact absurd hz (by decide)))
          refine v_iconst (v := 0) G dX8_added2_38 rfl ?_
          refine v_istore_n (L' := [(2, .int 0), (1, .int (v (envS σ))), (0, .ref (ad 43))]) G dX8_added2_39 (by decide) rfl ?_
          refine v_aload_n G 2 dX8_added2_40 rfl ?_
          refine w_callVv G hK hT (kX8_nextS hK l dC dI ct ad τ F n b 2 t1 hs (kd_tk h17_h (by decide))) (ck_X8_196 G.2.2.2.2.1 ⟨Nat.le_of_ble_eq_true rfl, Nat.le_of_ble_eq_true rfl⟩) m_recv (fun _ h => h) rfl [] rfl (Nat.le_of_ble_eq_true rfl) dX8_added2_41 ⟨Nat.le_of_ble_eq_true rfl, Nat.le_of_ble_eq_true rfl⟩ (k1 := 0) (n1 := 0) rfl rfl ?_
          rintro σ41 ⟨h41_s, h41_a, h41_b⟩
          refine v_aload_n G 2 dX8_added2_44 rfl ?_
          refine w_callVi G hK hT (kX8_term2 hK l dC dI ct ad σ41 F n b (nxS b n t1) h41_s) (ck_X8_293 G.2.2.2.2.1 ⟨Nat.le_of_ble_eq_true rfl, Nat.le_of_ble_eq_true rfl⟩) m_recv (fun _ h => h) rfl [] rfl (Nat.le_of_ble_eq_true rfl) dX8_added2_45 ⟨Nat.le_of_ble_eq_true rfl, Nat.le_of_ble_eq_true rfl⟩ (k1 := 0) (n1 := 0) rfl rfl ?_
          rintro r45 σ45 ⟨rfl, h45_s, h45_a⟩
          refine v_topr (x2 := .int ((p_term b n (p_atom b n (p_lev b n 3)) (nxS b n t1)).1 (envS σ))) (congrArg Value.int (congrArg (p_term b n (p_atom b n (p_lev b n 3)) (nxS b n t1)).1 (envS_ag (ag_tr ha h41_a)))) ?_
          refine v_istore_n (L' := [(3, .int ((p_term b n (p_atom b n (p_lev b n 3)) (nxS b n t1)).1 (envS σ))), (2, .int 0), (1, .int (v (envS σ))), (0, .ref (ad 43))]) G dX8_added2_48 (by decide) rfl ?_
          refine v_iload_n G 1 dX8_added2_49 rfl ?_
          refine v_if_eq (tgt := 59) G dX8_added2_50 (by decide) (fun h50 => ?_) (fun h50 => absurd h50 (by decide))
          refine v_iload_n G 2 dX8_added2_59 rfl ?_
          refine v_iload_n G 0 dX8_added2_60 rfl ?_
          refine v_isub G dX8_added2_61 ?_
          refine v_istore_n (L' := [(1, .int ((v (envS σ)) - ((p_term b n (p_atom b n (p_lev b n 3)) (nxS b n t1)).1 (envS σ)))), (3, .int ((p_term b n (p_atom b n (p_lev b n 3)) (nxS b n t1)).1 (envS σ))), (2, .int 0), (0, .ref (ad 43))]) G dX8_added2_62 (by decide) rfl ?_
          refine v_goto (tgt := 5) G dX8_added2_63 (by decide) ?_
          refine V_.sub (L' := [(1, .int ((v (envS σ)) - ((p_term b n (p_atom b n (p_lev b n 3)) (nxS b n t1)).1 (envS σ)))), (0, .ref (ad 43))]) ?_ [0, 3] rfl
          refine v_loc (L' := [(1, .int ((fun e => v e - (p_term b n (p_atom b n (p_lev b n 3)) (nxS b n t1)).1 e) (envS σ))), (0, .ref (ad 43))]) (rfl) ?_
          exact ih5  f (fun e => v e - (p_term b n (p_atom b n (p_lev b n 3)) (nxS b n t1)).1 e) ((p_term b n (p_atom b n (p_lev b n 3)) (nxS b n t1)).2) σ45 h45_s (ag_tr (ag_tr ha h41_a) h45_a) (mu_step (tk_wf hs.2.1) h17_h (by decide) (p_term_ok (p_atom_ok (p_lev_ok 3))) hm) (by rw [← he, p_addL, if_neg (by rw [h8_h]; decide), if_pos h17_h]) (by omega)
        · refine v_if_eq (tgt := 66) G dX8_added2_20 (by decide) (fun h20 => ?_) (fun h20 => absurd h20 (by decide))
          refine v_iload_n G 0 dX8_added2_66 rfl ?_
          refine RET _ _ _ _ _ _ rfl (Nat.le_of_ble_eq_true rfl) (Nat.le_of_ble_eq_true rfl) dX8_added2_67 (fun ws hw => ⟨_, hw, ?_⟩)
          clear RET G hT hnm
          rw [show p_add b n (p_term b n (p_atom b n (p_lev b n 3))) t = (v, t1) by rw [← he, p_addL, if_neg (by rw [h8_h]; decide), if_neg (by rw [h17_h]; decide)]]
          exact ⟨rfl, hs, ha⟩
  refine V_.sub (L' := [(1, .int ((p_term b n (p_atom b n (p_lev b n 3)) t).1 (envS σ))), (0, .ref (ad 43))]) ?_ [0, 1] rfl
  refine v_loc (L' := [(1, .int (((p_term b n (p_atom b n (p_lev b n 3)) t).1) (envS σ))), (0, .ref (ad 43))]) (rfl) ?_
  exact loop5 _ (n + 2) ((p_term b n (p_atom b n (p_lev b n 3)) t).1) ((p_term b n (p_atom b n (p_lev b n 3)) t).2) σ1 h1_s h1_a (by have := mu_le (n := n) (s := (p_term b n (p_atom b n (p_lev b n 3)) t).2); omega) rfl (Nat.lt_succ_self _)
abbrev rmX8_not2 : Room := { frames := 25, cells := 0, slots := 0, locals := 552 }
set_option maxHeartbeats 4000000 in
theorem kX8_not2 {KT : (Nat → Prop) → State → Heap → Prop} (hK : KTok KT) (l : Launch) (dC : Nat → ClassId) (dI : Nat → Nat → Nat) (ct ad : Nat → Nat) (σ : MS) (F : Nat) (n : Nat) (b : Nat → Int32) (t : PS) (hS : ST F n b 2 t σ) : MC KT (dC, dI) vwCl (tysF ct) l yX8_not2 cX8_not2 4 (some .int) rmX8_not2 [.ref (ad 43)] (RM ct ad σ) (QI_ (dC, dI) vwCl (RM ct ad) (fun (r : Int32) (σ' : MS) => ((p_not b n (p_lev b n 3) (p_add b n (p_term b n (p_atom b n (p_lev b n 3)))) t).1 (envS σ)) = r ∧ ST F n b 2 (p_not b n (p_lev b n 3) (p_add b n (p_term b n (p_atom b n (p_lev b n 3)))) t).2 σ' ∧ ag pfr σ σ')) := by
  refine MC.ofI (own := RX8) pl_X8 rfl (Nat.le_of_ble_eq_true rfl) ?_
  intro pp ee ss mm aa bb hh cc AA QQ G hT hnm RET
  refine v_loc (L' := [(0, .ref (ad 43))]) rfl ?_
  refine v_aload_n G 0 dX8_not2_0 rfl ?_
  refine v_bipush (v := 110) G dX8_not2_1 rfl ?_
  refine v_bipush (v := 111) G dX8_not2_3 rfl ?_
  refine v_bipush (v := 116) G dX8_not2_5 rfl ?_
  refine v_iconst (v := 0) G dX8_not2_7 rfl ?_
  refine v_iconst (v := 0) G dX8_not2_8 rfl ?_
  refine v_iconst (v := 0) G dX8_not2_9 rfl ?_
  refine v_iconst (v := 0) G dX8_not2_10 rfl ?_
  refine v_iconst (v := 0) G dX8_not2_11 rfl ?_
  refine w_callVi G hK hT (kX8_isWordS hK l dC dI ct ad σ F n b 2 t 1 5 110 111 116 0 0 0 0 0 hS (⟨(1, 5, [110, 111, 116, 0, 0, 0, 0, 0]), by decide +kernel, rfl, rfl, rfl⟩)) (ck_X8_199 G.2.2.2.2.1 ⟨Nat.le_of_ble_eq_true rfl, Nat.le_of_ble_eq_true rfl⟩) m_recv (fun _ h => h) rfl [] rfl (Nat.le_of_ble_eq_true rfl) dX8_not2_12 ⟨Nat.le_of_ble_eq_true rfl, Nat.le_of_ble_eq_true rfl⟩ (k1 := 0) (n1 := 0) rfl rfl ?_
  rintro r12 σ12 (⟨rfl, rfl, h12_h⟩ | ⟨rfl, rfl, h12_h⟩)
  · refine v_if_eq (tgt := 52) G dX8_not2_15 (by decide) (fun h15 => absurd h15 (by decide)) (fun h15 => ?_)
    refine v_aload_n G 0 dX8_not2_18 rfl ?_
    refine w_callVi G hK hT (kX8_opens hK l dC dI ct ad σ F n b 2 t hS (kd_tk h12_h (by decide)) (by decide)) (ck_X8_224 G.2.2.2.2.1 ⟨Nat.le_of_ble_eq_true rfl, Nat.le_of_ble_eq_true rfl⟩) m_recv (fun _ h => h) rfl [] rfl (Nat.le_of_ble_eq_true rfl) dX8_not2_19 ⟨Nat.le_of_ble_eq_true rfl, Nat.le_of_ble_eq_true rfl⟩ (k1 := 0) (n1 := 0) rfl rfl ?_
    rintro r19 σ19 (⟨rfl, h19_k, h19_s, h19_a⟩ | ⟨rfl, h19_k, h19_s, h19_a⟩)
    · refine v_if_ne (tgt := 27) G dX8_not2_22 (by decide) (fun h22 => ?_) (fun h22 => absurd h22 (by decide))
      refine v_aload_n G 0 dX8_not2_27 rfl ?_
      refine w_callVi G hK hT (kX8_not3 hK l dC dI ct ad σ19 F n b (nxS b n t) h19_s) (ck_X8_281 G.2.2.2.2.1 ⟨Nat.le_of_ble_eq_true rfl, Nat.le_of_ble_eq_true rfl⟩) m_recv (fun _ h => h) rfl [] rfl (Nat.le_of_ble_eq_true rfl) dX8_not2_28 ⟨Nat.le_of_ble_eq_true rfl, Nat.le_of_ble_eq_true rfl⟩ (k1 := 0) (n1 := 0) rfl rfl ?_
      rintro r28 σ28 ⟨rfl, h28_s, h28_a⟩
      refine v_topr (x2 := .int ((p_not b n (p_lev b n 2) (p_add b n (p_term b n (p_atom b n (p_lev b n 2)))) (nxS b n t)).1 (envS σ))) (congrArg Value.int (congrArg (p_not b n (p_lev b n 2) (p_add b n (p_term b n (p_atom b n (p_lev b n 2)))) (nxS b n t)).1 (envS_ag (ag_tr ag_rf h19_a)))) ?_
      refine v_istore_n (L' := [(1, .int ((p_not b n (p_lev b n 2) (p_add b n (p_term b n (p_atom b n (p_lev b n 2)))) (nxS b n t)).1 (envS σ))), (0, .ref (ad 43))]) G dX8_not2_31 (by decide) rfl ?_
      refine v_aload_n G 1 dX8_not2_32 rfl ?_
      refine v_dup G dX8_not2_33 rfl ?_
      refine m_get (v := .int (σ28.1 24 0)) G 24 (by decide) rfl q1318 rfl dX8_not2_34 ?_
      refine v_iconst (v := 1) G dX8_not2_37 rfl ?_
      refine v_isub G dX8_not2_38 ?_
      refine m_putI G 24 (by decide) q1318 rfl rfl rfl dX8_not2_39 ?_
      have hS42 : ST F n b 2 (p_not b n (p_lev b n 2) (p_add b n (p_term b n (p_atom b n (p_lev b n 2)))) (nxS b n t)).2 (mset σ28 24 0 ((σ28.1 24 0) - 1)) := ST_cl h28_s (ix_sub h28_s.2.2 (ix_lit 1 rfl) (by omega))
      refine v_iload_n G 0 dX8_not2_42 rfl ?_
      refine v_if_ne (tgt := 50) G dX8_not2_43 (by decide) (fun h43 => ?_) (fun h43 => ?_)
      · refine v_iconst (v := 0) G dX8_not2_50 rfl ?_
        refine RET _ _ _ _ _ _ rfl (Nat.le_of_ble_eq_true rfl) (Nat.le_of_ble_eq_true rfl) dX8_not2_51 (fun ws hw => ⟨_, hw, ?_⟩)
        clear RET G hT hnm
        rw [show p_not b n (p_lev b n 3) (p_add b n (p_term b n (p_atom b n (p_lev b n 3)))) t = _ from p_not_1 h12_h]
        exact ⟨by first | exact if_pos h43 | exact if_neg h43, hS42, (ag_tr (ag_tr (ag_tr ag_rf h19_a) h28_a) (ag_set (by decide)))⟩
      · refine v_iconst (v := 1) G dX8_not2_46 rfl ?_
        refine v_goto (tgt := 51) G dX8_not2_47 (by decide) ?_
        refine RET _ _ _ _ _ _ rfl (Nat.le_of_ble_eq_true rfl) (Nat.le_of_ble_eq_true rfl) dX8_not2_51 (fun ws hw => ⟨_, hw, ?_⟩)
        clear RET G hT hnm
        rw [show p_not b n (p_lev b n 3) (p_add b n (p_term b n (p_atom b n (p_lev b n 3)))) t = _ from p_not_1 h12_h]
        exact ⟨by first | exact if_pos h43 | exact if_neg h43, hS42, (ag_tr (ag_tr (ag_tr ag_rf h19_a) h28_a) (ag_set (by decide)))⟩
    · exact False.elim (by exact absurd h19_k (by decide))
  · refine v_if_eq (tgt := 52) G dX8_not2_15 (by decide) (fun h15 => ?_) (fun h15 => absurd h15 (by decide))
    refine v_aload_n G 0 dX8_not2_52 rfl ?_
    refine w_callVi G hK hT (kX8_added2 hK l dC dI ct ad σ F n b t hS) (ck_X8_296 G.2.2.2.2.1 ⟨Nat.le_of_ble_eq_true rfl, Nat.le_of_ble_eq_true rfl⟩) m_recv (fun _ h => h) rfl [] rfl (Nat.le_of_ble_eq_true rfl) dX8_not2_53 ⟨Nat.le_of_ble_eq_true rfl, Nat.le_of_ble_eq_true rfl⟩ (k1 := 0) (n1 := 0) rfl rfl ?_
    rintro r53 σ53 ⟨rfl, h53_s, h53_a⟩
    refine v_topr (x2 := .int ((p_add b n (p_term b n (p_atom b n (p_lev b n 3))) t).1 (envS σ))) (congrArg Value.int (congrArg (p_add b n (p_term b n (p_atom b n (p_lev b n 3))) t).1 (envS_ag ag_rf))) ?_
    refine v_istore_n (L' := [(1, .int ((p_add b n (p_term b n (p_atom b n (p_lev b n 3))) t).1 (envS σ))), (0, .ref (ad 43))]) G dX8_not2_56 (by decide) rfl ?_
    refine v_aload_n G 1 dX8_not2_57 rfl ?_
    refine v_bipush (v := 60) G dX8_not2_58 rfl ?_
    refine w_callVi G hK hT (kX8_isSignS hK l dC dI ct ad σ53 F n b 2 ((p_add b n (p_term b n (p_atom b n (p_lev b n 3))) t).2) 60 h53_s) (ck_X8_221 G.2.2.2.2.1 ⟨Nat.le_of_ble_eq_true rfl, Nat.le_of_ble_eq_true rfl⟩) m_recv (fun _ h => h) rfl [] rfl (Nat.le_of_ble_eq_true rfl) dX8_not2_60 ⟨Nat.le_of_ble_eq_true rfl, Nat.le_of_ble_eq_true rfl⟩ (k1 := 0) (n1 := 0) rfl rfl ?_
    rintro r60 σ60 (⟨rfl, rfl, h60_h⟩ | ⟨rfl, rfl, h60_h⟩)
    · refine v_if_ne (tgt := 77) G dX8_not2_63 (by decide) (fun h63 => ?_) (fun h63 => absurd h63 (by decide))
      refine v_aload_n G 1 dX8_not2_77 rfl ?_
      refine m_get (v := .long (σ53.2 23 0)) G 23 (by decide) rfl q1317 rfl dX8_not2_78 ?_
      refine v_ldc2 G q1559 dX8_not2_81 ?_
      refine v_lcmp G dX8_not2_84 ?_
      refine v_if_ne (tgt := 92) G dX8_not2_85 (by decide) (fun h85 => False.elim (by exact h85 ((le_of_lcmp _ _).1.mpr (tk_sgv h53_s.2.1 h60_h)))) (fun h85 => ?_)
      refine v_iconst (v := 1) G dX8_not2_88 rfl ?_
      refine v_goto (tgt := 93) G dX8_not2_89 (by decide) ?_
      refine v_istore_n (L' := [(2, .int 1), (1, .int ((p_add b n (p_term b n (p_atom b n (p_lev b n 3))) t).1 (envS σ))), (0, .ref (ad 43))]) G dX8_not2_93 (by decide) rfl ?_
      refine v_aload_n G 2 dX8_not2_94 rfl ?_
      refine w_callVv G hK hT (kX8_nextS hK l dC dI ct ad σ53 F n b 2 ((p_add b n (p_term b n (p_atom b n (p_lev b n 3))) t).2) h53_s (kd_tk h60_h (by decide))) (ck_X8_196 G.2.2.2.2.1 ⟨Nat.le_of_ble_eq_true rfl, Nat.le_of_ble_eq_true rfl⟩) m_recv (fun _ h => h) rfl [] rfl (Nat.le_of_ble_eq_true rfl) dX8_not2_95 ⟨Nat.le_of_ble_eq_true rfl, Nat.le_of_ble_eq_true rfl⟩ (k1 := 0) (n1 := 0) rfl rfl ?_
      rintro σ95 ⟨h95_s, h95_a, h95_b⟩
      refine v_aload_n G 2 dX8_not2_98 rfl ?_
      refine w_callVi G hK hT (kX8_added2 hK l dC dI ct ad σ95 F n b (nxS b n (p_add b n (p_term b n (p_atom b n (p_lev b n 3))) t).2) h95_s) (ck_X8_296 G.2.2.2.2.1 ⟨Nat.le_of_ble_eq_true rfl, Nat.le_of_ble_eq_true rfl⟩) m_recv (fun _ h => h) rfl [] rfl (Nat.le_of_ble_eq_true rfl) dX8_not2_99 ⟨Nat.le_of_ble_eq_true rfl, Nat.le_of_ble_eq_true rfl⟩ (k1 := 0) (n1 := 0) rfl rfl ?_
      rintro r99 σ99 ⟨rfl, h99_s, h99_a⟩
      refine v_topr (x2 := .int ((p_add b n (p_term b n (p_atom b n (p_lev b n 3))) (nxS b n (p_add b n (p_term b n (p_atom b n (p_lev b n 3))) t).2)).1 (envS σ))) (congrArg Value.int (congrArg (p_add b n (p_term b n (p_atom b n (p_lev b n 3))) (nxS b n (p_add b n (p_term b n (p_atom b n (p_lev b n 3))) t).2)).1 (envS_ag (ag_tr (ag_tr ag_rf h53_a) h95_a)))) ?_
      refine v_istore_n (L' := [(3, .int ((p_add b n (p_term b n (p_atom b n (p_lev b n 3))) (nxS b n (p_add b n (p_term b n (p_atom b n (p_lev b n 3))) t).2)).1 (envS σ))), (2, .int 1), (1, .int ((p_add b n (p_term b n (p_atom b n (p_lev b n 3))) t).1 (envS σ))), (0, .ref (ad 43))]) G dX8_not2_102 (by decide) rfl ?_
      refine v_iload_n G 1 dX8_not2_103 rfl ?_
      refine v_if_eq (tgt := 115) G dX8_not2_104 (by decide) (fun h104 => absurd h104 (by decide)) (fun h104 => ?_)
      refine v_iload_n G 2 dX8_not2_107 rfl ?_
      refine v_iload_n G 0 dX8_not2_108 rfl ?_
      refine v_icmp_ge (tgt := 124) G dX8_not2_109 (by decide) (fun h109 => ?_) (fun h109 => ?_)
      · refine v_iconst (v := 0) G dX8_not2_124 rfl ?_
        refine RET _ _ _ _ _ _ rfl (Nat.le_of_ble_eq_true rfl) (Nat.le_of_ble_eq_true rfl) dX8_not2_125 (fun ws hw => ⟨_, hw, ?_⟩)
        clear RET G hT hnm
        rw [show p_not b n (p_lev b n 3) (p_add b n (p_term b n (p_atom b n (p_lev b n 3)))) t = _ from p_not_l h12_h h60_h]
        exact ⟨(by first | exact if_pos (by first | assumption | exact Int32.not_le.mp h109) | exact if_neg (by first | assumption | exact Int32.not_lt.mpr h109)), h99_s, (ag_tr (ag_tr (ag_tr ag_rf h53_a) h95_a) h99_a)⟩
      · refine v_goto (tgt := 120) G dX8_not2_112 (by decide) ?_
        refine v_iconst (v := 1) G dX8_not2_120 rfl ?_
        refine v_goto (tgt := 125) G dX8_not2_121 (by decide) ?_
        refine RET _ _ _ _ _ _ rfl (Nat.le_of_ble_eq_true rfl) (Nat.le_of_ble_eq_true rfl) dX8_not2_125 (fun ws hw => ⟨_, hw, ?_⟩)
        clear RET G hT hnm
        rw [show p_not b n (p_lev b n 3) (p_add b n (p_term b n (p_atom b n (p_lev b n 3)))) t = _ from p_not_l h12_h h60_h]
        exact ⟨(by first | exact if_pos (by first | assumption | exact Int32.not_le.mp h109) | exact if_neg (by first | assumption | exact Int32.not_lt.mpr h109)), h99_s, (ag_tr (ag_tr (ag_tr ag_rf h53_a) h95_a) h99_a)⟩
    · refine v_if_ne (tgt := 77) G dX8_not2_63 (by decide) (fun h63 => absurd h63 (by decide)) (fun h63 => ?_)
      refine v_aload_n G 1 dX8_not2_66 rfl ?_
      refine v_bipush (v := 61) G dX8_not2_67 rfl ?_
      refine w_callVi G hK hT (kX8_isSignS hK l dC dI ct ad σ53 F n b 2 ((p_add b n (p_term b n (p_atom b n (p_lev b n 3))) t).2) 61 h53_s) (ck_X8_221 G.2.2.2.2.1 ⟨Nat.le_of_ble_eq_true rfl, Nat.le_of_ble_eq_true rfl⟩) m_recv (fun _ h => h) rfl [] rfl (Nat.le_of_ble_eq_true rfl) dX8_not2_69 ⟨Nat.le_of_ble_eq_true rfl, Nat.le_of_ble_eq_true rfl⟩ (k1 := 0) (n1 := 0) rfl rfl ?_
      rintro r69 σ69 (⟨rfl, rfl, h69_h⟩ | ⟨rfl, rfl, h69_h⟩)
      · refine v_if_ne (tgt := 77) G dX8_not2_72 (by decide) (fun h72 => ?_) (fun h72 => absurd h72 (by decide))
        refine v_aload_n G 1 dX8_not2_77 rfl ?_
        refine m_get (v := .long (σ53.2 23 0)) G 23 (by decide) rfl q1317 rfl dX8_not2_78 ?_
        refine v_ldc2 G q1559 dX8_not2_81 ?_
        refine v_lcmp G dX8_not2_84 ?_
        refine v_if_ne (tgt := 92) G dX8_not2_85 (by decide) (fun h85 => ?_) (fun h85 => False.elim (by have hz := (le_of_lcmp _ _).1.mp h85; rw [tk_sgv h53_s.2.1 h69_h] at hz; exact absurd hz (by decide)))
        refine v_iconst (v := 0) G dX8_not2_92 rfl ?_
        refine v_istore_n (L' := [(2, .int 0), (1, .int ((p_add b n (p_term b n (p_atom b n (p_lev b n 3))) t).1 (envS σ))), (0, .ref (ad 43))]) G dX8_not2_93 (by decide) rfl ?_
        refine v_aload_n G 2 dX8_not2_94 rfl ?_
        refine w_callVv G hK hT (kX8_nextS hK l dC dI ct ad σ53 F n b 2 ((p_add b n (p_term b n (p_atom b n (p_lev b n 3))) t).2) h53_s (kd_tk h69_h (by decide))) (ck_X8_196 G.2.2.2.2.1 ⟨Nat.le_of_ble_eq_true rfl, Nat.le_of_ble_eq_true rfl⟩) m_recv (fun _ h => h) rfl [] rfl (Nat.le_of_ble_eq_true rfl) dX8_not2_95 ⟨Nat.le_of_ble_eq_true rfl, Nat.le_of_ble_eq_true rfl⟩ (k1 := 0) (n1 := 0) rfl rfl ?_
        rintro σ95 ⟨h95_s, h95_a, h95_b⟩
        refine v_aload_n G 2 dX8_not2_98 rfl ?_
        refine w_callVi G hK hT (kX8_added2 hK l dC dI ct ad σ95 F n b (nxS b n (p_add b n (p_term b n (p_atom b n (p_lev b n 3))) t).2) h95_s) (ck_X8_296 G.2.2.2.2.1 ⟨Nat.le_of_ble_eq_true rfl, Nat.le_of_ble_eq_true rfl⟩) m_recv (fun _ h => h) rfl [] rfl (Nat.le_of_ble_eq_true rfl) dX8_not2_99 ⟨Nat.le_of_ble_eq_true rfl, Nat.le_of_ble_eq_true rfl⟩ (k1 := 0) (n1 := 0) rfl rfl ?_
        rintro r99 σ99 ⟨rfl, h99_s, h99_a⟩
        refine v_topr (x2 := .int ((p_add b n (p_term b n (p_atom b n (p_lev b n 3))) (nxS b n (p_add b n (p_term b n (p_atom b n (p_lev b n 3))) t).2)).1 (envS σ))) (congrArg Value.int (congrArg (p_add b n (p_term b n (p_atom b n (p_lev b n 3))) (nxS b n (p_add b n (p_term b n (p_atom b n (p_lev b n 3))) t).2)).1 (envS_ag (ag_tr (ag_tr ag_rf h53_a) h95_a)))) ?_
        refine v_istore_n (L' := [(3, .int ((p_add b n (p_term b n (p_atom b n (p_lev b n 3))) (nxS b n (p_add b n (p_term b n (p_atom b n (p_lev b n 3))) t).2)).1 (envS σ))), (2, .int 0), (1, .int ((p_add b n (p_term b n (p_atom b n (p_lev b n 3))) t).1 (envS σ))), (0, .ref (ad 43))]) G dX8_not2_102 (by decide) rfl ?_
        refine v_iload_n G 1 dX8_not2_103 rfl ?_
        refine v_if_eq (tgt := 115) G dX8_not2_104 (by decide) (fun h104 => ?_) (fun h104 => absurd h104 (by decide))
        refine v_iload_n G 2 dX8_not2_115 rfl ?_
        refine v_iload_n G 0 dX8_not2_116 rfl ?_
        refine v_icmp_ne (tgt := 124) G dX8_not2_117 (by decide) (fun h117 => ?_) (fun h117 => ?_)
        · refine v_iconst (v := 0) G dX8_not2_124 rfl ?_
          refine RET _ _ _ _ _ _ rfl (Nat.le_of_ble_eq_true rfl) (Nat.le_of_ble_eq_true rfl) dX8_not2_125 (fun ws hw => ⟨_, hw, ?_⟩)
          clear RET G hT hnm
          rw [show p_not b n (p_lev b n 3) (p_add b n (p_term b n (p_atom b n (p_lev b n 3)))) t = _ from p_not_e h12_h h60_h h69_h]
          exact ⟨(by first | exact if_pos h117 | exact if_neg h117), h99_s, (ag_tr (ag_tr (ag_tr ag_rf h53_a) h95_a) h99_a)⟩
        · refine v_iconst (v := 1) G dX8_not2_120 rfl ?_
          refine v_goto (tgt := 125) G dX8_not2_121 (by decide) ?_
          refine RET _ _ _ _ _ _ rfl (Nat.le_of_ble_eq_true rfl) (Nat.le_of_ble_eq_true rfl) dX8_not2_125 (fun ws hw => ⟨_, hw, ?_⟩)
          clear RET G hT hnm
          rw [show p_not b n (p_lev b n 3) (p_add b n (p_term b n (p_atom b n (p_lev b n 3)))) t = _ from p_not_e h12_h h60_h h69_h]
          exact ⟨(by first | exact if_pos h117 | exact if_neg h117), h99_s, (ag_tr (ag_tr (ag_tr ag_rf h53_a) h95_a) h99_a)⟩
      · refine v_if_ne (tgt := 77) G dX8_not2_72 (by decide) (fun h72 => absurd h72 (by decide)) (fun h72 => ?_)
        refine v_iload_n G 0 dX8_not2_75 rfl ?_
        refine RET _ _ _ _ _ _ rfl (Nat.le_of_ble_eq_true rfl) (Nat.le_of_ble_eq_true rfl) dX8_not2_76 (fun ws hw => ⟨_, hw, ?_⟩)
        clear RET G hT hnm
        rw [show p_not b n (p_lev b n 3) (p_add b n (p_term b n (p_atom b n (p_lev b n 3)))) t = _ from p_not_x h12_h h60_h h69_h]
        exact ⟨rfl, h53_s, (ag_tr ag_rf h53_a)⟩
abbrev rmX8_both2 : Room := { frames := 26, cells := 0, slots := 0, locals := 575 }
set_option maxHeartbeats 4000000 in
theorem kX8_both2 {KT : (Nat → Prop) → State → Heap → Prop} (hK : KTok KT) (l : Launch) (dC : Nat → ClassId) (dI : Nat → Nat → Nat) (ct ad : Nat → Nat) (σ : MS) (F : Nat) (n : Nat) (b : Nat → Int32) (t : PS) (hS : ST F n b 2 t σ) : MC KT (dC, dI) vwCl (tysF ct) l yX8_both2 cX8_both2 3 (some .int) rmX8_both2 [.ref (ad 43)] (RM ct ad σ) (QI_ (dC, dI) vwCl (RM ct ad) (fun (r : Int32) (σ' : MS) => ((p_both b n (p_not b n (p_lev b n 3) (p_add b n (p_term b n (p_atom b n (p_lev b n 3))))) t).1 (envS σ)) = r ∧ ST F n b 2 (p_both b n (p_not b n (p_lev b n 3) (p_add b n (p_term b n (p_atom b n (p_lev b n 3))))) t).2 σ' ∧ ag pfr σ σ')) := by
  refine MC.ofI (own := RX8) pl_X8 rfl (Nat.le_of_ble_eq_true rfl) ?_
  intro pp ee ss mm aa bb hh cc AA QQ G hT hnm RET
  refine v_loc (L' := [(0, .ref (ad 43))]) rfl ?_
  refine v_aload_n G 0 dX8_both2_0 rfl ?_
  refine w_callVi G hK hT (kX8_not2 hK l dC dI ct ad σ F n b t hS) (ck_X8_299 G.2.2.2.2.1 ⟨Nat.le_of_ble_eq_true rfl, Nat.le_of_ble_eq_true rfl⟩) m_recv (fun _ h => h) rfl [] rfl (Nat.le_of_ble_eq_true rfl) dX8_both2_1 ⟨Nat.le_of_ble_eq_true rfl, Nat.le_of_ble_eq_true rfl⟩ (k1 := 0) (n1 := 0) rfl rfl ?_
  rintro r1 σ1 ⟨rfl, h1_s, h1_a⟩
  refine v_topr (x2 := .int ((p_not b n (p_lev b n 3) (p_add b n (p_term b n (p_atom b n (p_lev b n 3)))) t).1 (envS σ))) (congrArg Value.int (congrArg (p_not b n (p_lev b n 3) (p_add b n (p_term b n (p_atom b n (p_lev b n 3)))) t).1 (envS_ag ag_rf))) ?_
  refine v_istore_n (L' := [(1, .int ((p_not b n (p_lev b n 3) (p_add b n (p_term b n (p_atom b n (p_lev b n 3)))) t).1 (envS σ))), (0, .ref (ad 43))]) G dX8_both2_4 (by decide) rfl ?_
  have loop5 : ∀ (dd : Nat) (f : Nat) (v : SF) (t1 : PS) (τ : MS), (ST F n b 2 t1 τ) → (ag pfr σ τ) → (mu n t1 < f) → (p_bothL b n (p_not b n (p_lev b n 3) (p_add b n (p_term b n (p_atom b n (p_lev b n 3))))) f v t1 = p_both b n (p_not b n (p_lev b n 3) (p_add b n (p_term b n (p_atom b n (p_lev b n 3))))) t) → f < dd → V_ pp l ee rmX8_both2 ss mm aa bb hh cc 3 (dC, dI) vwCl AA QQ 0 0 (RM ct ad τ) 5 [(1, .int (v (envS σ))), (0, .ref (ad 43))] [] := by
    intro dd
    induction dd with
    | zero => intro f v t1 τ hs ha hm he hdd; exact absurd hdd (Nat.not_lt_zero _)
    | succ dd ih5 =>
      intro f v t1 τ hs ha hm he hdd
      obtain ⟨f, rfl⟩ : ∃ g, f = g + 1 := ⟨f - 1, by omega⟩
      refine v_aload_n G 1 dX8_both2_5 rfl ?_
      refine v_bipush (v := 97) G dX8_both2_6 rfl ?_
      refine v_bipush (v := 110) G dX8_both2_8 rfl ?_
      refine v_bipush (v := 100) G dX8_both2_10 rfl ?_
      refine v_iconst (v := 0) G dX8_both2_12 rfl ?_
      refine v_iconst (v := 0) G dX8_both2_13 rfl ?_
      refine v_iconst (v := 0) G dX8_both2_14 rfl ?_
      refine v_iconst (v := 0) G dX8_both2_15 rfl ?_
      refine v_iconst (v := 0) G dX8_both2_16 rfl ?_
      refine w_callVi G hK hT (kX8_isWordS hK l dC dI ct ad τ F n b 2 t1 1 4 97 110 100 0 0 0 0 0 hs (⟨(1, 4, [97, 110, 100, 0, 0, 0, 0, 0]), by decide +kernel, rfl, rfl, rfl⟩)) (ck_X8_199 G.2.2.2.2.1 ⟨Nat.le_of_ble_eq_true rfl, Nat.le_of_ble_eq_true rfl⟩) m_recv (fun _ h => h) rfl [] rfl (Nat.le_of_ble_eq_true rfl) dX8_both2_17 ⟨Nat.le_of_ble_eq_true rfl, Nat.le_of_ble_eq_true rfl⟩ (k1 := 0) (n1 := 0) rfl rfl ?_
      rintro r17 σ17 (⟨rfl, rfl, h17_h⟩ | ⟨rfl, rfl, h17_h⟩)
      · refine v_if_eq (tgt := 49) G dX8_both2_20 (by decide) (fun h20 => absurd h20 (by decide)) (fun h20 => ?_)
        refine v_aload_n G 1 dX8_both2_23 rfl ?_
        refine w_callVv G hK hT (kX8_nextS hK l dC dI ct ad τ F n b 2 t1 hs (kd_tk h17_h (by decide))) (ck_X8_196 G.2.2.2.2.1 ⟨Nat.le_of_ble_eq_true rfl, Nat.le_of_ble_eq_true rfl⟩) m_recv (fun _ h => h) rfl [] rfl (Nat.le_of_ble_eq_true rfl) dX8_both2_24 ⟨Nat.le_of_ble_eq_true rfl, Nat.le_of_ble_eq_true rfl⟩ (k1 := 0) (n1 := 0) rfl rfl ?_
        rintro σ24 ⟨h24_s, h24_a, h24_b⟩
        refine v_aload_n G 1 dX8_both2_27 rfl ?_
        refine w_callVi G hK hT (kX8_not2 hK l dC dI ct ad σ24 F n b (nxS b n t1) h24_s) (ck_X8_299 G.2.2.2.2.1 ⟨Nat.le_of_ble_eq_true rfl, Nat.le_of_ble_eq_true rfl⟩) m_recv (fun _ h => h) rfl [] rfl (Nat.le_of_ble_eq_true rfl) dX8_both2_28 ⟨Nat.le_of_ble_eq_true rfl, Nat.le_of_ble_eq_true rfl⟩ (k1 := 0) (n1 := 0) rfl rfl ?_
        rintro r28 σ28 ⟨rfl, h28_s, h28_a⟩
        refine v_topr (x2 := .int ((p_not b n (p_lev b n 3) (p_add b n (p_term b n (p_atom b n (p_lev b n 3)))) (nxS b n t1)).1 (envS σ))) (congrArg Value.int (congrArg (p_not b n (p_lev b n 3) (p_add b n (p_term b n (p_atom b n (p_lev b n 3)))) (nxS b n t1)).1 (envS_ag (ag_tr ha h24_a)))) ?_
        refine v_istore_n (L' := [(2, .int ((p_not b n (p_lev b n 3) (p_add b n (p_term b n (p_atom b n (p_lev b n 3)))) (nxS b n t1)).1 (envS σ))), (1, .int (v (envS σ))), (0, .ref (ad 43))]) G dX8_both2_31 (by decide) rfl ?_
        refine v_iload_n G 1 dX8_both2_32 rfl ?_
        refine v_if_eq (tgt := 44) G dX8_both2_33 (by decide) (fun h33 => ?_) (fun h33 => ?_)
        · refine v_iconst (v := 0) G dX8_both2_44 rfl ?_
          refine v_istore_n (L' := [(1, .int 0), (2, .int ((p_not b n (p_lev b n 3) (p_add b n (p_term b n (p_atom b n (p_lev b n 3)))) (nxS b n t1)).1 (envS σ))), (0, .ref (ad 43))]) G dX8_both2_45 (by decide) rfl ?_
          refine v_goto (tgt := 5) G dX8_both2_46 (by decide) ?_
          refine V_.sub (L' := [(1, .int 0), (0, .ref (ad 43))]) ?_ [0, 2] rfl
          refine v_loc (L' := [(1, .int ((fun e => if v e ≠ 0 ∧ (p_not b n (p_lev b n 3) (p_add b n (p_term b n (p_atom b n (p_lev b n 3)))) (nxS b n t1)).1 e ≠ 0 then 1 else 0) (envS σ))), (0, .ref (ad 43))]) (by dsimp only; first | rw [if_pos (by exact ⟨h33, h37⟩)] | rw [if_neg (by rintro ⟨q1, q2⟩; first | exact q1 h33 | exact q2 h37)]) ?_
          exact ih5  f (fun e => if v e ≠ 0 ∧ (p_not b n (p_lev b n 3) (p_add b n (p_term b n (p_atom b n (p_lev b n 3)))) (nxS b n t1)).1 e ≠ 0 then 1 else 0) ((p_not b n (p_lev b n 3) (p_add b n (p_term b n (p_atom b n (p_lev b n 3)))) (nxS b n t1)).2) σ28 h28_s (ag_tr (ag_tr ha h24_a) h28_a) (mu_step (tk_wf hs.2.1) h17_h (by decide) (p_not_ok (p_lev_ok 3) (p_add_ok (p_term_ok (p_atom_ok (p_lev_ok 3))))) hm) (by rw [← he, p_bothL, if_pos h17_h]) (by omega)
        · refine v_iload_n G 0 dX8_both2_36 rfl ?_
          refine v_if_eq (tgt := 44) G dX8_both2_37 (by decide) (fun h37 => ?_) (fun h37 => ?_)
          · refine v_iconst (v := 0) G dX8_both2_44 rfl ?_
            refine v_istore_n (L' := [(1, .int 0), (2, .int ((p_not b n (p_lev b n 3) (p_add b n (p_term b n (p_atom b n (p_lev b n 3)))) (nxS b n t1)).1 (envS σ))), (0, .ref (ad 43))]) G dX8_both2_45 (by decide) rfl ?_
            refine v_goto (tgt := 5) G dX8_both2_46 (by decide) ?_
            refine V_.sub (L' := [(1, .int 0), (0, .ref (ad 43))]) ?_ [0, 2] rfl
            refine v_loc (L' := [(1, .int ((fun e => if v e ≠ 0 ∧ (p_not b n (p_lev b n 3) (p_add b n (p_term b n (p_atom b n (p_lev b n 3)))) (nxS b n t1)).1 e ≠ 0 then 1 else 0) (envS σ))), (0, .ref (ad 43))]) (by dsimp only; first | rw [if_pos (by exact ⟨h33, h37⟩)] | rw [if_neg (by rintro ⟨q1, q2⟩; first | exact q1 h33 | exact q2 h37)]) ?_
            exact ih5  f (fun e => if v e ≠ 0 ∧ (p_not b n (p_lev b n 3) (p_add b n (p_term b n (p_atom b n (p_lev b n 3)))) (nxS b n t1)).1 e ≠ 0 then 1 else 0) ((p_not b n (p_lev b n 3) (p_add b n (p_term b n (p_atom b n (p_lev b n 3)))) (nxS b n t1)).2) σ28 h28_s (ag_tr (ag_tr ha h24_a) h28_a) (mu_step (tk_wf hs.2.1) h17_h (by decide) (p_not_ok (p_lev_ok 3) (p_add_ok (p_term_ok (p_atom_ok (p_lev_ok 3))))) hm) (by rw [← he, p_bothL, if_pos h17_h]) (by omega)
          · refine v_iconst (v := 1) G dX8_both2_40 rfl ?_
            refine v_goto (tgt := 45) G dX8_both2_41 (by decide) ?_
            refine v_istore_n (L' := [(1, .int 1), (2, .int ((p_not b n (p_lev b n 3) (p_add b n (p_term b n (p_atom b n (p_lev b n 3)))) (nxS b n t1)).1 (envS σ))), (0, .ref (ad 43))]) G dX8_both2_45 (by decide) rfl ?_
            refine v_goto (tgt := 5) G dX8_both2_46 (by decide) ?_
            refine V_.sub (L' := [(1, .int 1), (0, .ref (ad 43))]) ?_ [0, 2] rfl
            refine v_loc (L' := [(1, .int ((fun e => if v e ≠ 0 ∧ (p_not b n (p_lev b n 3) (p_add b n (p_term b n (p_atom b n (p_lev b n 3)))) (nxS b n t1)).1 e ≠ 0 then 1 else 0) (envS σ))), (0, .ref (ad 43))]) (by dsimp only; first | rw [if_pos (by exact ⟨h33, h37⟩)] | rw [if_neg (by rintro ⟨q1, q2⟩; first | exact q1 h33 | exact q2 h37)]) ?_
            exact ih5  f (fun e => if v e ≠ 0 ∧ (p_not b n (p_lev b n 3) (p_add b n (p_term b n (p_atom b n (p_lev b n 3)))) (nxS b n t1)).1 e ≠ 0 then 1 else 0) ((p_not b n (p_lev b n 3) (p_add b n (p_term b n (p_atom b n (p_lev b n 3)))) (nxS b n t1)).2) σ28 h28_s (ag_tr (ag_tr ha h24_a) h28_a) (mu_step (tk_wf hs.2.1) h17_h (by decide) (p_not_ok (p_lev_ok 3) (p_add_ok (p_term_ok (p_atom_ok (p_lev_ok 3))))) hm) (by rw [← he, p_bothL, if_pos h17_h]) (by omega)
      · refine v_if_eq (tgt := 49) G dX8_both2_20 (by decide) (fun h20 => ?_) (fun h20 => absurd h20 (by decide))
        refine v_iload_n G 0 dX8_both2_49 rfl ?_
        refine RET _ _ _ _ _ _ rfl (Nat.le_of_ble_eq_true rfl) (Nat.le_of_ble_eq_true rfl) dX8_both2_50 (fun ws hw => ⟨_, hw, ?_⟩)
        clear RET G hT hnm
        rw [show p_both b n (p_not b n (p_lev b n 3) (p_add b n (p_term b n (p_atom b n (p_lev b n 3))))) t = (v, t1) by rw [← he, p_bothL, if_neg (by rw [h17_h]; decide)]]
        exact ⟨rfl, hs, ha⟩
  refine V_.sub (L' := [(1, .int ((p_not b n (p_lev b n 3) (p_add b n (p_term b n (p_atom b n (p_lev b n 3)))) t).1 (envS σ))), (0, .ref (ad 43))]) ?_ [0, 1] rfl
  refine v_loc (L' := [(1, .int (((p_not b n (p_lev b n 3) (p_add b n (p_term b n (p_atom b n (p_lev b n 3)))) t).1) (envS σ))), (0, .ref (ad 43))]) (rfl) ?_
  exact loop5 _ (n + 2) ((p_not b n (p_lev b n 3) (p_add b n (p_term b n (p_atom b n (p_lev b n 3)))) t).1) ((p_not b n (p_lev b n 3) (p_add b n (p_term b n (p_atom b n (p_lev b n 3)))) t).2) σ1 h1_s h1_a (by have := mu_le (n := n) (s := (p_not b n (p_lev b n 3) (p_add b n (p_term b n (p_atom b n (p_lev b n 3)))) t).2); omega) rfl (Nat.lt_succ_self _)
abbrev rmX8_either2 : Room := { frames := 27, cells := 0, slots := 0, locals := 597 }
set_option maxHeartbeats 4000000 in
theorem kX8_either2 {KT : (Nat → Prop) → State → Heap → Prop} (hK : KTok KT) (l : Launch) (dC : Nat → ClassId) (dI : Nat → Nat → Nat) (ct ad : Nat → Nat) (σ : MS) (F : Nat) (n : Nat) (b : Nat → Int32) (t : PS) (hS : ST F n b 2 t σ) : MC KT (dC, dI) vwCl (tysF ct) l yX8_either2 cX8_either2 3 (some .int) rmX8_either2 [.ref (ad 43)] (RM ct ad σ) (QI_ (dC, dI) vwCl (RM ct ad) (fun (r : Int32) (σ' : MS) => ((p_eith b n (p_both b n (p_not b n (p_lev b n 3) (p_add b n (p_term b n (p_atom b n (p_lev b n 3)))))) t).1 (envS σ)) = r ∧ ST F n b 2 (p_eith b n (p_both b n (p_not b n (p_lev b n 3) (p_add b n (p_term b n (p_atom b n (p_lev b n 3)))))) t).2 σ' ∧ ag pfr σ σ')) := by
  refine MC.ofI (own := RX8) pl_X8 rfl (Nat.le_of_ble_eq_true rfl) ?_
  intro pp ee ss mm aa bb hh cc AA QQ G hT hnm RET
  refine v_loc (L' := [(0, .ref (ad 43))]) rfl ?_
  refine v_aload_n G 0 dX8_either2_0 rfl ?_
  refine w_callVi G hK hT (kX8_both2 hK l dC dI ct ad σ F n b t hS) (ck_X8_302 G.2.2.2.2.1 ⟨Nat.le_of_ble_eq_true rfl, Nat.le_of_ble_eq_true rfl⟩) m_recv (fun _ h => h) rfl [] rfl (Nat.le_of_ble_eq_true rfl) dX8_either2_1 ⟨Nat.le_of_ble_eq_true rfl, Nat.le_of_ble_eq_true rfl⟩ (k1 := 0) (n1 := 0) rfl rfl ?_
  rintro r1 σ1 ⟨rfl, h1_s, h1_a⟩
  refine v_topr (x2 := .int ((p_both b n (p_not b n (p_lev b n 3) (p_add b n (p_term b n (p_atom b n (p_lev b n 3))))) t).1 (envS σ))) (congrArg Value.int (congrArg (p_both b n (p_not b n (p_lev b n 3) (p_add b n (p_term b n (p_atom b n (p_lev b n 3))))) t).1 (envS_ag ag_rf))) ?_
  refine v_istore_n (L' := [(1, .int ((p_both b n (p_not b n (p_lev b n 3) (p_add b n (p_term b n (p_atom b n (p_lev b n 3))))) t).1 (envS σ))), (0, .ref (ad 43))]) G dX8_either2_4 (by decide) rfl ?_
  have loop5 : ∀ (dd : Nat) (f : Nat) (v : SF) (t1 : PS) (τ : MS), (ST F n b 2 t1 τ) → (ag pfr σ τ) → (mu n t1 < f) → (p_eithL b n (p_both b n (p_not b n (p_lev b n 3) (p_add b n (p_term b n (p_atom b n (p_lev b n 3)))))) f v t1 = p_eith b n (p_both b n (p_not b n (p_lev b n 3) (p_add b n (p_term b n (p_atom b n (p_lev b n 3)))))) t) → f < dd → V_ pp l ee rmX8_either2 ss mm aa bb hh cc 3 (dC, dI) vwCl AA QQ 0 0 (RM ct ad τ) 5 [(1, .int (v (envS σ))), (0, .ref (ad 43))] [] := by
    intro dd
    induction dd with
    | zero => intro f v t1 τ hs ha hm he hdd; exact absurd hdd (Nat.not_lt_zero _)
    | succ dd ih5 =>
      intro f v t1 τ hs ha hm he hdd
      obtain ⟨f, rfl⟩ : ∃ g, f = g + 1 := ⟨f - 1, by omega⟩
      refine v_aload_n G 1 dX8_either2_5 rfl ?_
      refine v_bipush (v := 111) G dX8_either2_6 rfl ?_
      refine v_bipush (v := 114) G dX8_either2_8 rfl ?_
      refine v_iconst (v := 0) G dX8_either2_10 rfl ?_
      refine v_iconst (v := 0) G dX8_either2_11 rfl ?_
      refine v_iconst (v := 0) G dX8_either2_12 rfl ?_
      refine v_iconst (v := 0) G dX8_either2_13 rfl ?_
      refine v_iconst (v := 0) G dX8_either2_14 rfl ?_
      refine v_iconst (v := 0) G dX8_either2_15 rfl ?_
      refine w_callVi G hK hT (kX8_isWordS hK l dC dI ct ad τ F n b 2 t1 1 3 111 114 0 0 0 0 0 0 hs (⟨(1, 3, [111, 114, 0, 0, 0, 0, 0, 0]), by decide +kernel, rfl, rfl, rfl⟩)) (ck_X8_199 G.2.2.2.2.1 ⟨Nat.le_of_ble_eq_true rfl, Nat.le_of_ble_eq_true rfl⟩) m_recv (fun _ h => h) rfl [] rfl (Nat.le_of_ble_eq_true rfl) dX8_either2_16 ⟨Nat.le_of_ble_eq_true rfl, Nat.le_of_ble_eq_true rfl⟩ (k1 := 0) (n1 := 0) rfl rfl ?_
      rintro r16 σ16 (⟨rfl, rfl, h16_h⟩ | ⟨rfl, rfl, h16_h⟩)
      · refine v_if_eq (tgt := 48) G dX8_either2_19 (by decide) (fun h19 => absurd h19 (by decide)) (fun h19 => ?_)
        refine v_aload_n G 1 dX8_either2_22 rfl ?_
        refine w_callVv G hK hT (kX8_nextS hK l dC dI ct ad τ F n b 2 t1 hs (kd_tk h16_h (by decide))) (ck_X8_196 G.2.2.2.2.1 ⟨Nat.le_of_ble_eq_true rfl, Nat.le_of_ble_eq_true rfl⟩) m_recv (fun _ h => h) rfl [] rfl (Nat.le_of_ble_eq_true rfl) dX8_either2_23 ⟨Nat.le_of_ble_eq_true rfl, Nat.le_of_ble_eq_true rfl⟩ (k1 := 0) (n1 := 0) rfl rfl ?_
        rintro σ23 ⟨h23_s, h23_a, h23_b⟩
        refine v_aload_n G 1 dX8_either2_26 rfl ?_
        refine w_callVi G hK hT (kX8_both2 hK l dC dI ct ad σ23 F n b (nxS b n t1) h23_s) (ck_X8_302 G.2.2.2.2.1 ⟨Nat.le_of_ble_eq_true rfl, Nat.le_of_ble_eq_true rfl⟩) m_recv (fun _ h => h) rfl [] rfl (Nat.le_of_ble_eq_true rfl) dX8_either2_27 ⟨Nat.le_of_ble_eq_true rfl, Nat.le_of_ble_eq_true rfl⟩ (k1 := 0) (n1 := 0) rfl rfl ?_
        rintro r27 σ27 ⟨rfl, h27_s, h27_a⟩
        refine v_topr (x2 := .int ((p_both b n (p_not b n (p_lev b n 3) (p_add b n (p_term b n (p_atom b n (p_lev b n 3))))) (nxS b n t1)).1 (envS σ))) (congrArg Value.int (congrArg (p_both b n (p_not b n (p_lev b n 3) (p_add b n (p_term b n (p_atom b n (p_lev b n 3))))) (nxS b n t1)).1 (envS_ag (ag_tr ha h23_a)))) ?_
        refine v_istore_n (L' := [(2, .int ((p_both b n (p_not b n (p_lev b n 3) (p_add b n (p_term b n (p_atom b n (p_lev b n 3))))) (nxS b n t1)).1 (envS σ))), (1, .int (v (envS σ))), (0, .ref (ad 43))]) G dX8_either2_30 (by decide) rfl ?_
        refine v_iload_n G 1 dX8_either2_31 rfl ?_
        refine v_if_ne (tgt := 39) G dX8_either2_32 (by decide) (fun h32 => ?_) (fun h32 => ?_)
        · refine v_iconst (v := 1) G dX8_either2_39 rfl ?_
          refine v_goto (tgt := 44) G dX8_either2_40 (by decide) ?_
          refine v_istore_n (L' := [(1, .int 1), (2, .int ((p_both b n (p_not b n (p_lev b n 3) (p_add b n (p_term b n (p_atom b n (p_lev b n 3))))) (nxS b n t1)).1 (envS σ))), (0, .ref (ad 43))]) G dX8_either2_44 (by decide) rfl ?_
          refine v_goto (tgt := 5) G dX8_either2_45 (by decide) ?_
          refine V_.sub (L' := [(1, .int 1), (0, .ref (ad 43))]) ?_ [0, 2] rfl
          refine v_loc (L' := [(1, .int ((fun e => if v e ≠ 0 ∨ (p_both b n (p_not b n (p_lev b n 3) (p_add b n (p_term b n (p_atom b n (p_lev b n 3))))) (nxS b n t1)).1 e ≠ 0 then 1 else 0) (envS σ))), (0, .ref (ad 43))]) (by dsimp only; first | rw [if_pos (by first | exact Or.inl h32 | exact Or.inr h36)] | rw [if_neg (by rintro (q | q) <;> first | exact q h32 | exact q h36)]) ?_
          exact ih5  f (fun e => if v e ≠ 0 ∨ (p_both b n (p_not b n (p_lev b n 3) (p_add b n (p_term b n (p_atom b n (p_lev b n 3))))) (nxS b n t1)).1 e ≠ 0 then 1 else 0) ((p_both b n (p_not b n (p_lev b n 3) (p_add b n (p_term b n (p_atom b n (p_lev b n 3))))) (nxS b n t1)).2) σ27 h27_s (ag_tr (ag_tr ha h23_a) h27_a) (mu_step (tk_wf hs.2.1) h16_h (by decide) (p_both_ok (p_not_ok (p_lev_ok 3) (p_add_ok (p_term_ok (p_atom_ok (p_lev_ok 3)))))) hm) (by rw [← he, p_eithL, if_pos h16_h]) (by omega)
        · refine v_iload_n G 0 dX8_either2_35 rfl ?_
          refine v_if_eq (tgt := 43) G dX8_either2_36 (by decide) (fun h36 => ?_) (fun h36 => ?_)
          · refine v_iconst (v := 0) G dX8_either2_43 rfl ?_
            refine v_istore_n (L' := [(1, .int 0), (2, .int ((p_both b n (p_not b n (p_lev b n 3) (p_add b n (p_term b n (p_atom b n (p_lev b n 3))))) (nxS b n t1)).1 (envS σ))), (0, .ref (ad 43))]) G dX8_either2_44 (by decide) rfl ?_
            refine v_goto (tgt := 5) G dX8_either2_45 (by decide) ?_
            refine V_.sub (L' := [(1, .int 0), (0, .ref (ad 43))]) ?_ [0, 2] rfl
            refine v_loc (L' := [(1, .int ((fun e => if v e ≠ 0 ∨ (p_both b n (p_not b n (p_lev b n 3) (p_add b n (p_term b n (p_atom b n (p_lev b n 3))))) (nxS b n t1)).1 e ≠ 0 then 1 else 0) (envS σ))), (0, .ref (ad 43))]) (by dsimp only; first | rw [if_pos (by first | exact Or.inl h32 | exact Or.inr h36)] | rw [if_neg (by rintro (q | q) <;> first | exact q h32 | exact q h36)]) ?_
            exact ih5  f (fun e => if v e ≠ 0 ∨ (p_both b n (p_not b n (p_lev b n 3) (p_add b n (p_term b n (p_atom b n (p_lev b n 3))))) (nxS b n t1)).1 e ≠ 0 then 1 else 0) ((p_both b n (p_not b n (p_lev b n 3) (p_add b n (p_term b n (p_atom b n (p_lev b n 3))))) (nxS b n t1)).2) σ27 h27_s (ag_tr (ag_tr ha h23_a) h27_a) (mu_step (tk_wf hs.2.1) h16_h (by decide) (p_both_ok (p_not_ok (p_lev_ok 3) (p_add_ok (p_term_ok (p_atom_ok (p_lev_ok 3)))))) hm) (by rw [← he, p_eithL, if_pos h16_h]) (by omega)
          · refine v_iconst (v := 1) G dX8_either2_39 rfl ?_
            refine v_goto (tgt := 44) G dX8_either2_40 (by decide) ?_
            refine v_istore_n (L' := [(1, .int 1), (2, .int ((p_both b n (p_not b n (p_lev b n 3) (p_add b n (p_term b n (p_atom b n (p_lev b n 3))))) (nxS b n t1)).1 (envS σ))), (0, .ref (ad 43))]) G dX8_either2_44 (by decide) rfl ?_
            refine v_goto (tgt := 5) G dX8_either2_45 (by decide) ?_
            refine V_.sub (L' := [(1, .int 1), (0, .ref (ad 43))]) ?_ [0, 2] rfl
            refine v_loc (L' := [(1, .int ((fun e => if v e ≠ 0 ∨ (p_both b n (p_not b n (p_lev b n 3) (p_add b n (p_term b n (p_atom b n (p_lev b n 3))))) (nxS b n t1)).1 e ≠ 0 then 1 else 0) (envS σ))), (0, .ref (ad 43))]) (by dsimp only; first | rw [if_pos (by first | exact Or.inl h32 | exact Or.inr h36)] | rw [if_neg (by rintro (q | q) <;> first | exact q h32 | exact q h36)]) ?_
            exact ih5  f (fun e => if v e ≠ 0 ∨ (p_both b n (p_not b n (p_lev b n 3) (p_add b n (p_term b n (p_atom b n (p_lev b n 3))))) (nxS b n t1)).1 e ≠ 0 then 1 else 0) ((p_both b n (p_not b n (p_lev b n 3) (p_add b n (p_term b n (p_atom b n (p_lev b n 3))))) (nxS b n t1)).2) σ27 h27_s (ag_tr (ag_tr ha h23_a) h27_a) (mu_step (tk_wf hs.2.1) h16_h (by decide) (p_both_ok (p_not_ok (p_lev_ok 3) (p_add_ok (p_term_ok (p_atom_ok (p_lev_ok 3)))))) hm) (by rw [← he, p_eithL, if_pos h16_h]) (by omega)
      · refine v_if_eq (tgt := 48) G dX8_either2_19 (by decide) (fun h19 => ?_) (fun h19 => absurd h19 (by decide))
        refine v_iload_n G 0 dX8_either2_48 rfl ?_
        refine RET _ _ _ _ _ _ rfl (Nat.le_of_ble_eq_true rfl) (Nat.le_of_ble_eq_true rfl) dX8_either2_49 (fun ws hw => ⟨_, hw, ?_⟩)
        clear RET G hT hnm
        rw [show p_eith b n (p_both b n (p_not b n (p_lev b n 3) (p_add b n (p_term b n (p_atom b n (p_lev b n 3)))))) t = (v, t1) by rw [← he, p_eithL, if_neg (by rw [h16_h]; decide)]]
        exact ⟨rfl, hs, ha⟩
  refine V_.sub (L' := [(1, .int ((p_both b n (p_not b n (p_lev b n 3) (p_add b n (p_term b n (p_atom b n (p_lev b n 3))))) t).1 (envS σ))), (0, .ref (ad 43))]) ?_ [0, 1] rfl
  refine v_loc (L' := [(1, .int (((p_both b n (p_not b n (p_lev b n 3) (p_add b n (p_term b n (p_atom b n (p_lev b n 3))))) t).1) (envS σ))), (0, .ref (ad 43))]) (rfl) ?_
  exact loop5 _ (n + 2) ((p_both b n (p_not b n (p_lev b n 3) (p_add b n (p_term b n (p_atom b n (p_lev b n 3))))) t).1) ((p_both b n (p_not b n (p_lev b n 3) (p_add b n (p_term b n (p_atom b n (p_lev b n 3))))) t).2) σ1 h1_s h1_a (by have := mu_le (n := n) (s := (p_both b n (p_not b n (p_lev b n 3) (p_add b n (p_term b n (p_atom b n (p_lev b n 3))))) t).2); omega) rfl (Nat.lt_succ_self _)
abbrev rmX8_atom1 : Room := { frames := 28, cells := 0, slots := 0, locals := 619 }
set_option maxHeartbeats 4000000 in
theorem kX8_atom1 {KT : (Nat → Prop) → State → Heap → Prop} (hK : KTok KT) (l : Launch) (dC : Nat → ClassId) (dI : Nat → Nat → Nat) (ct ad : Nat → Nat) (σ : MS) (F : Nat) (n : Nat) (b : Nat → Int32) (t : PS) (hS : ST F n b 1 t σ) : MC KT (dC, dI) vwCl (tysF ct) l yX8_atom1 cX8_atom1 2 (some .int) rmX8_atom1 [.ref (ad 43)] (RM ct ad σ) (QI_ (dC, dI) vwCl (RM ct ad) (fun (r : Int32) (σ' : MS) => ((p_atom b n (p_lev b n 4) t).1 (envS σ)) = r ∧ ST F n b 1 (p_atom b n (p_lev b n 4) t).2 σ' ∧ ag pfr σ σ')) := by
  refine MC.ofI (own := RX8) pl_X8 rfl (Nat.le_of_ble_eq_true rfl) ?_
  intro pp ee ss mm aa bb hh cc AA QQ G hT hnm RET
  refine v_loc (L' := [(0, .ref (ad 43))]) rfl ?_
  refine v_iconst (v := 0) G dX8_atom1_0 rfl ?_
  refine v_istore_n (L' := [(1, .int 0), (0, .ref (ad 43))]) G dX8_atom1_1 (by decide) rfl ?_
  refine v_aload_n G 1 dX8_atom1_2 rfl ?_
  refine v_bipush (v := 45) G dX8_atom1_3 rfl ?_
  refine w_callVi G hK hT (kX8_isSignS hK l dC dI ct ad σ F n b 1 t 45 hS) (ck_X8_221 G.2.2.2.2.1 ⟨Nat.le_of_ble_eq_true rfl, Nat.le_of_ble_eq_true rfl⟩) m_recv (fun _ h => h) rfl [] rfl (Nat.le_of_ble_eq_true rfl) dX8_atom1_5 ⟨Nat.le_of_ble_eq_true rfl, Nat.le_of_ble_eq_true rfl⟩ (k1 := 0) (n1 := 0) rfl rfl ?_
  rintro r5 σ5 (⟨rfl, rfl, h5_h⟩ | ⟨rfl, rfl, h5_h⟩)
  · refine v_if_eq (tgt := 37) G dX8_atom1_8 (by decide) (fun h8 => absurd h8 (by decide)) (fun h8 => ?_)
    refine v_aload_n G 1 dX8_atom1_11 rfl ?_
    refine w_callVi G hK hT (kX8_opens hK l dC dI ct ad σ F n b 1 t hS (kd_tk h5_h (by decide)) (by decide)) (ck_X8_224 G.2.2.2.2.1 ⟨Nat.le_of_ble_eq_true rfl, Nat.le_of_ble_eq_true rfl⟩) m_recv (fun _ h => h) rfl [] rfl (Nat.le_of_ble_eq_true rfl) dX8_atom1_12 ⟨Nat.le_of_ble_eq_true rfl, Nat.le_of_ble_eq_true rfl⟩ (k1 := 0) (n1 := 0) rfl rfl ?_
    rintro r12 σ12 (⟨rfl, h12_k, h12_s, h12_a⟩ | ⟨rfl, h12_k, h12_s, h12_a⟩)
    · refine v_if_eq (tgt := 161) G dX8_atom1_15 (by decide) (fun h15 => absurd h15 (by decide)) (fun h15 => ?_)
      refine v_aload_n G 1 dX8_atom1_18 rfl ?_
      refine w_callVi G hK hT (kX8_atom2 hK l dC dI ct ad σ12 F n b (nxS b n t) h12_s) (ck_X8_290 G.2.2.2.2.1 ⟨Nat.le_of_ble_eq_true rfl, Nat.le_of_ble_eq_true rfl⟩) m_recv (fun _ h => h) rfl [] rfl (Nat.le_of_ble_eq_true rfl) dX8_atom1_19 ⟨Nat.le_of_ble_eq_true rfl, Nat.le_of_ble_eq_true rfl⟩ (k1 := 0) (n1 := 0) rfl rfl ?_
      rintro r19 σ19 ⟨rfl, h19_s, h19_a⟩
      refine v_topr (x2 := .int ((p_atom b n (p_lev b n 3) (nxS b n t)).1 (envS σ))) (congrArg Value.int (congrArg (p_atom b n (p_lev b n 3) (nxS b n t)).1 (envS_ag (ag_tr ag_rf h12_a)))) ?_
      refine v_ineg G dX8_atom1_22 ?_
      refine v_istore_n (L' := [(1, .int (-((p_atom b n (p_lev b n 3) (nxS b n t)).1 (envS σ)))), (0, .ref (ad 43))]) G dX8_atom1_23 (by decide) rfl ?_
      refine v_aload_n G 1 dX8_atom1_24 rfl ?_
      refine v_dup G dX8_atom1_25 rfl ?_
      refine m_get (v := .int (σ19.1 24 0)) G 24 (by decide) rfl q1318 rfl dX8_atom1_26 ?_
      refine v_iconst (v := 1) G dX8_atom1_29 rfl ?_
      refine v_isub G dX8_atom1_30 ?_
      refine m_putI G 24 (by decide) q1318 rfl rfl rfl dX8_atom1_31 ?_
      have hS34 : ST F n b 1 (p_atom b n (p_lev b n 3) (nxS b n t)).2 (mset σ19 24 0 ((σ19.1 24 0) - 1)) := ST_cl h19_s (ix_sub h19_s.2.2 (ix_lit 1 rfl) (by omega))
      refine v_goto (tgt := 161) G dX8_atom1_34 (by decide) ?_
      refine v_iload_n G 0 dX8_atom1_161 rfl ?_
      refine RET _ _ _ _ _ _ rfl (Nat.le_of_ble_eq_true rfl) (Nat.le_of_ble_eq_true rfl) dX8_atom1_162 (fun ws hw => ⟨_, hw, ?_⟩)
      clear RET G hT hnm
      rw [show p_atom b n (p_lev b n 4) t = _ from p_atom_m h5_h]
      exact ⟨rfl, hS34, (ag_tr (ag_tr (ag_tr ag_rf h12_a) h19_a) (ag_set (by decide)))⟩
    · exact False.elim (by exact absurd h12_k (by decide))
  · refine v_if_eq (tgt := 37) G dX8_atom1_8 (by decide) (fun h8 => ?_) (fun h8 => absurd h8 (by decide))
    refine v_aload_n G 1 dX8_atom1_37 rfl ?_
    refine v_bipush (v := 40) G dX8_atom1_38 rfl ?_
    refine w_callVi G hK hT (kX8_isSignS hK l dC dI ct ad σ F n b 1 t 40 hS) (ck_X8_221 G.2.2.2.2.1 ⟨Nat.le_of_ble_eq_true rfl, Nat.le_of_ble_eq_true rfl⟩) m_recv (fun _ h => h) rfl [] rfl (Nat.le_of_ble_eq_true rfl) dX8_atom1_40 ⟨Nat.le_of_ble_eq_true rfl, Nat.le_of_ble_eq_true rfl⟩ (k1 := 0) (n1 := 0) rfl rfl ?_
    rintro r40 σ40 (⟨rfl, rfl, h40_h⟩ | ⟨rfl, rfl, h40_h⟩)
    · refine v_if_eq (tgt := 95) G dX8_atom1_43 (by decide) (fun h43 => absurd h43 (by decide)) (fun h43 => ?_)
      refine v_aload_n G 1 dX8_atom1_46 rfl ?_
      refine w_callVi G hK hT (kX8_opens hK l dC dI ct ad σ F n b 1 t hS (kd_tk h40_h (by decide)) (by decide)) (ck_X8_224 G.2.2.2.2.1 ⟨Nat.le_of_ble_eq_true rfl, Nat.le_of_ble_eq_true rfl⟩) m_recv (fun _ h => h) rfl [] rfl (Nat.le_of_ble_eq_true rfl) dX8_atom1_47 ⟨Nat.le_of_ble_eq_true rfl, Nat.le_of_ble_eq_true rfl⟩ (k1 := 0) (n1 := 0) rfl rfl ?_
      rintro r47 σ47 (⟨rfl, h47_k, h47_s, h47_a⟩ | ⟨rfl, h47_k, h47_s, h47_a⟩)
      · refine v_if_eq (tgt := 161) G dX8_atom1_50 (by decide) (fun h50 => absurd h50 (by decide)) (fun h50 => ?_)
        refine v_aload_n G 1 dX8_atom1_53 rfl ?_
        refine w_callVi G hK hT (kX8_either2 hK l dC dI ct ad σ47 F n b (nxS b n t) h47_s) (ck_X8_305 G.2.2.2.2.1 ⟨Nat.le_of_ble_eq_true rfl, Nat.le_of_ble_eq_true rfl⟩) m_recv (fun _ h => h) rfl [] rfl (Nat.le_of_ble_eq_true rfl) dX8_atom1_54 ⟨Nat.le_of_ble_eq_true rfl, Nat.le_of_ble_eq_true rfl⟩ (k1 := 0) (n1 := 0) rfl rfl ?_
        rintro r54 σ54 ⟨rfl, h54_s, h54_a⟩
        refine v_topr (x2 := .int ((p_eith b n (p_both b n (p_not b n (p_lev b n 3) (p_add b n (p_term b n (p_atom b n (p_lev b n 3)))))) (nxS b n t)).1 (envS σ))) (congrArg Value.int (congrArg (p_eith b n (p_both b n (p_not b n (p_lev b n 3) (p_add b n (p_term b n (p_atom b n (p_lev b n 3)))))) (nxS b n t)).1 (envS_ag (ag_tr ag_rf h47_a)))) ?_
        refine v_istore_n (L' := [(1, .int ((p_eith b n (p_both b n (p_not b n (p_lev b n 3) (p_add b n (p_term b n (p_atom b n (p_lev b n 3)))))) (nxS b n t)).1 (envS σ))), (0, .ref (ad 43))]) G dX8_atom1_57 (by decide) rfl ?_
        refine v_aload_n G 1 dX8_atom1_58 rfl ?_
        refine v_bipush (v := 41) G dX8_atom1_59 rfl ?_
        refine w_callVi G hK hT (kX8_isSignS hK l dC dI ct ad σ54 F n b 2 ((p_eith b n (p_both b n (p_not b n (p_lev b n 3) (p_add b n (p_term b n (p_atom b n (p_lev b n 3)))))) (nxS b n t)).2) 41 h54_s) (ck_X8_221 G.2.2.2.2.1 ⟨Nat.le_of_ble_eq_true rfl, Nat.le_of_ble_eq_true rfl⟩) m_recv (fun _ h => h) rfl [] rfl (Nat.le_of_ble_eq_true rfl) dX8_atom1_61 ⟨Nat.le_of_ble_eq_true rfl, Nat.le_of_ble_eq_true rfl⟩ (k1 := 0) (n1 := 0) rfl rfl ?_
        rintro r61 σ61 (⟨rfl, rfl, h61_h⟩ | ⟨rfl, rfl, h61_h⟩)
        · refine v_if_ne (tgt := 71) G dX8_atom1_64 (by decide) (fun h64 => ?_) (fun h64 => absurd h64 (by decide))
          refine v_aload_n G 1 dX8_atom1_71 rfl ?_
          refine v_dup G dX8_atom1_72 rfl ?_
          refine m_get (v := .int (σ54.1 24 0)) G 24 (by decide) rfl q1318 rfl dX8_atom1_73 ?_
          refine v_iconst (v := 1) G dX8_atom1_76 rfl ?_
          refine v_isub G dX8_atom1_77 ?_
          refine m_putI G 24 (by decide) q1318 rfl rfl rfl dX8_atom1_78 ?_
          have hS81 : ST F n b 1 (p_eith b n (p_both b n (p_not b n (p_lev b n 3) (p_add b n (p_term b n (p_atom b n (p_lev b n 3)))))) (nxS b n t)).2 (mset σ54 24 0 ((σ54.1 24 0) - 1)) := ST_cl h54_s (ix_sub h54_s.2.2 (ix_lit 1 rfl) (by omega))
          refine v_aload_n G 1 dX8_atom1_81 rfl ?_
          refine m_get (v := .int (σ54.1 25 0)) G 25 (by decide) rfl q1319 rfl dX8_atom1_82 ?_
          refine v_if_ne (tgt := 161) G dX8_atom1_85 (by decide) (fun h85 => False.elim (by exact h85 (ST_bad (σ := (mset σ54 24 0 ((σ54.1 24 0) - 1))) hS81 (kd_tk h61_h (by decide))))) (fun h85 => ?_)
          refine v_aload_n G 1 dX8_atom1_88 rfl ?_
          refine w_callVv G hK hT (kX8_nextS hK l dC dI ct ad (mset σ54 24 0 ((σ54.1 24 0) - 1)) F n b 1 ((p_eith b n (p_both b n (p_not b n (p_lev b n 3) (p_add b n (p_term b n (p_atom b n (p_lev b n 3)))))) (nxS b n t)).2) hS81 (kd_tk h61_h (by decide))) (ck_X8_196 G.2.2.2.2.1 ⟨Nat.le_of_ble_eq_true rfl, Nat.le_of_ble_eq_true rfl⟩) m_recv (fun _ h => h) rfl [] rfl (Nat.le_of_ble_eq_true rfl) dX8_atom1_89 ⟨Nat.le_of_ble_eq_true rfl, Nat.le_of_ble_eq_true rfl⟩ (k1 := 0) (n1 := 0) rfl rfl ?_
          rintro σ89 ⟨h89_s, h89_a, h89_b⟩
          refine v_goto (tgt := 161) G dX8_atom1_92 (by decide) ?_
          refine v_iload_n G 0 dX8_atom1_161 rfl ?_
          refine RET _ _ _ _ _ _ rfl (Nat.le_of_ble_eq_true rfl) (Nat.le_of_ble_eq_true rfl) dX8_atom1_162 (fun ws hw => ⟨_, hw, ?_⟩)
          clear RET G hT hnm
          rw [show p_atom b n (p_lev b n 4) t = _ from p_atom_oy h5_h h40_h h61_h]
          exact ⟨rfl, h89_s, (ag_tr (ag_tr (ag_tr (ag_tr ag_rf h47_a) h54_a) (ag_set (by decide))) h89_a)⟩
        · refine v_if_ne (tgt := 71) G dX8_atom1_64 (by decide) (fun h64 => absurd h64 (by decide)) (fun h64 => ?_)
          refine v_aload_n G 1 dX8_atom1_67 rfl ?_
          refine w_callVv G hK hT (kX8_failS hK l dC dI ct ad σ54 F n b 2 ((p_eith b n (p_both b n (p_not b n (p_lev b n 3) (p_add b n (p_term b n (p_atom b n (p_lev b n 3)))))) (nxS b n t)).2) h54_s) (ck_X8_193 G.2.2.2.2.1 ⟨Nat.le_of_ble_eq_true rfl, Nat.le_of_ble_eq_true rfl⟩) m_recv (fun _ h => h) rfl [] rfl (Nat.le_of_ble_eq_true rfl) dX8_atom1_68 ⟨Nat.le_of_ble_eq_true rfl, Nat.le_of_ble_eq_true rfl⟩ (k1 := 0) (n1 := 0) rfl rfl ?_
          rintro σ68 ⟨h68_s, h68_a, h68_b⟩
          refine v_aload_n G 1 dX8_atom1_71 rfl ?_
          refine v_dup G dX8_atom1_72 rfl ?_
          refine m_get (v := .int (σ68.1 24 0)) G 24 (by decide) rfl q1318 rfl dX8_atom1_73 ?_
          refine v_iconst (v := 1) G dX8_atom1_76 rfl ?_
          refine v_isub G dX8_atom1_77 ?_
          refine m_putI G 24 (by decide) q1318 rfl rfl rfl dX8_atom1_78 ?_
          have hS81 : ST F n b 1 (faS (p_eith b n (p_both b n (p_not b n (p_lev b n 3) (p_add b n (p_term b n (p_atom b n (p_lev b n 3)))))) (nxS b n t)).2) (mset σ68 24 0 ((σ68.1 24 0) - 1)) := ST_cl h68_s (ix_sub h68_s.2.2 (ix_lit 1 rfl) (by omega))
          refine v_aload_n G 1 dX8_atom1_81 rfl ?_
          refine m_get (v := .int (σ68.1 25 0)) G 25 (by decide) rfl q1319 rfl dX8_atom1_82 ?_
          refine v_if_ne (tgt := 161) G dX8_atom1_85 (by decide) (fun h85 => ?_) (fun h85 => False.elim (by rw [h68_b] at h85; exact absurd h85 (by decide)))
          refine v_iload_n G 0 dX8_atom1_161 rfl ?_
          refine RET _ _ _ _ _ _ rfl (Nat.le_of_ble_eq_true rfl) (Nat.le_of_ble_eq_true rfl) dX8_atom1_162 (fun ws hw => ⟨_, hw, ?_⟩)
          clear RET G hT hnm
          rw [show p_atom b n (p_lev b n 4) t = _ from p_atom_on h5_h h40_h h61_h]
          exact ⟨rfl, hS81, (ag_tr (ag_tr (ag_tr (ag_tr ag_rf h47_a) h54_a) h68_a) (ag_set (by decide)))⟩
      · exact False.elim (by exact absurd h47_k (by decide))
    · refine v_if_eq (tgt := 95) G dX8_atom1_43 (by decide) (fun h43 => ?_) (fun h43 => absurd h43 (by decide))
      refine v_aload_n G 1 dX8_atom1_95 rfl ?_
      refine m_get (v := .int (σ.1 25 0)) G 25 (by decide) rfl q1319 rfl dX8_atom1_96 ?_
      refine v_if_ne (tgt := 123) G dX8_atom1_99 (by decide) (fun h99 => ?_) (fun h99 => ?_)
      · refine v_aload_n G 1 dX8_atom1_123 rfl ?_
        refine m_get (v := .int (σ.1 25 0)) G 25 (by decide) rfl q1319 rfl dX8_atom1_124 ?_
        refine v_if_ne (tgt := 157) G dX8_atom1_127 (by decide) (fun h127 => ?_) (fun h127 => False.elim (by exact h99 h127))
        refine v_aload_n G 1 dX8_atom1_157 rfl ?_
        refine w_callVv G hK hT (kX8_failS hK l dC dI ct ad σ F n b 1 t hS) (ck_X8_193 G.2.2.2.2.1 ⟨Nat.le_of_ble_eq_true rfl, Nat.le_of_ble_eq_true rfl⟩) m_recv (fun _ h => h) rfl [] rfl (Nat.le_of_ble_eq_true rfl) dX8_atom1_158 ⟨Nat.le_of_ble_eq_true rfl, Nat.le_of_ble_eq_true rfl⟩ (k1 := 0) (n1 := 0) rfl rfl ?_
        rintro σ158 ⟨h158_s, h158_a, h158_b⟩
        refine v_iload_n G 0 dX8_atom1_161 rfl ?_
        refine RET _ _ _ _ _ _ rfl (Nat.le_of_ble_eq_true rfl) (Nat.le_of_ble_eq_true rfl) dX8_atom1_162 (fun ws hw => ⟨_, hw, ?_⟩)
        clear RET G hT hnm
        rw [show p_atom b n (p_lev b n 4) t = _ from p_atom_f h5_h h40_h (tk_nnum hS.2.1 (fun q => by first | exact h99 q.1 | exact h107 q.2)) (tk_nwd hS.2.1 (fun q => by first | exact h99 q.1 | exact h127 q.1 | exact h135 q.2)).1]
        exact ⟨rfl, h158_s, (ag_tr ag_rf h158_a)⟩
      · refine v_aload_n G 1 dX8_atom1_102 rfl ?_
        refine m_get (v := .int (σ.1 21 0)) G 21 (by decide) rfl q1315 rfl dX8_atom1_103 ?_
        refine v_iconst (v := 2) G dX8_atom1_106 rfl ?_
        refine v_icmp_ne (tgt := 123) G dX8_atom1_107 (by decide) (fun h107 => ?_) (fun h107 => ?_)
        · refine v_aload_n G 1 dX8_atom1_123 rfl ?_
          refine m_get (v := .int (σ.1 25 0)) G 25 (by decide) rfl q1319 rfl dX8_atom1_124 ?_
          refine v_if_ne (tgt := 157) G dX8_atom1_127 (by decide) (fun h127 => False.elim (by exact h127 h99)) (fun h127 => ?_)
          refine v_aload_n G 1 dX8_atom1_130 rfl ?_
          refine m_get (v := .int (σ.1 21 0)) G 21 (by decide) rfl q1315 rfl dX8_atom1_131 ?_
          refine v_iconst (v := 1) G dX8_atom1_134 rfl ?_
          refine v_icmp_ne (tgt := 157) G dX8_atom1_135 (by decide) (fun h135 => ?_) (fun h135 => ?_)
          · refine v_aload_n G 1 dX8_atom1_157 rfl ?_
            refine w_callVv G hK hT (kX8_failS hK l dC dI ct ad σ F n b 1 t hS) (ck_X8_193 G.2.2.2.2.1 ⟨Nat.le_of_ble_eq_true rfl, Nat.le_of_ble_eq_true rfl⟩) m_recv (fun _ h => h) rfl [] rfl (Nat.le_of_ble_eq_true rfl) dX8_atom1_158 ⟨Nat.le_of_ble_eq_true rfl, Nat.le_of_ble_eq_true rfl⟩ (k1 := 0) (n1 := 0) rfl rfl ?_
            rintro σ158 ⟨h158_s, h158_a, h158_b⟩
            refine v_iload_n G 0 dX8_atom1_161 rfl ?_
            refine RET _ _ _ _ _ _ rfl (Nat.le_of_ble_eq_true rfl) (Nat.le_of_ble_eq_true rfl) dX8_atom1_162 (fun ws hw => ⟨_, hw, ?_⟩)
            clear RET G hT hnm
            rw [show p_atom b n (p_lev b n 4) t = _ from p_atom_f h5_h h40_h (tk_nnum hS.2.1 (fun q => by first | exact h99 q.1 | exact h107 q.2)) (tk_nwd hS.2.1 (fun q => by first | exact h99 q.1 | exact h127 q.1 | exact h135 q.2)).1]
            exact ⟨rfl, h158_s, (ag_tr ag_rf h158_a)⟩
          · refine v_aload_n G 1 dX8_atom1_138 rfl ?_
            refine w_callVi G hK hT (kX8_name hK l dC dI ct ad σ F n b 1 t hS) (ck_X8_228 G.2.2.2.2.1 ⟨Nat.le_of_ble_eq_true rfl, Nat.le_of_ble_eq_true rfl⟩) m_recv (fun _ h => h) rfl [] rfl (Nat.le_of_ble_eq_true rfl) dX8_atom1_139 ⟨Nat.le_of_ble_eq_true rfl, Nat.le_of_ble_eq_true rfl⟩ (k1 := 0) (n1 := 0) rfl rfl ?_
            rintro r139 σ139 (⟨rfl, rfl, h139_h⟩ | ⟨rfl, h139_s, h139_a, h139_b, h139_h⟩)
            · refine v_topr (congrArg Value.int (show envS σ (n_ (vl t)) = envS σ (n_ (vl t)) by rw [envS_ag ag_rf])) ?_
              refine v_istore_n (L' := [(1, .int (envS σ (n_ (vl t)))), (0, .ref (ad 43))]) G dX8_atom1_142 (by decide) rfl ?_
              refine v_aload_n G 1 dX8_atom1_143 rfl ?_
              refine m_get (v := .int (σ.1 25 0)) G 25 (by decide) rfl q1319 rfl dX8_atom1_144 ?_
              refine v_if_ne (tgt := 161) G dX8_atom1_147 (by decide) (fun h147 => False.elim (by exact h147 (by assumption))) (fun h147 => ?_)
              refine v_aload_n G 1 dX8_atom1_150 rfl ?_
              refine w_callVv G hK hT (kX8_nextS hK l dC dI ct ad σ F n b 1 t hS (by rw [h139_h]; decide)) (ck_X8_196 G.2.2.2.2.1 ⟨Nat.le_of_ble_eq_true rfl, Nat.le_of_ble_eq_true rfl⟩) m_recv (fun _ h => h) rfl [] rfl (Nat.le_of_ble_eq_true rfl) dX8_atom1_151 ⟨Nat.le_of_ble_eq_true rfl, Nat.le_of_ble_eq_true rfl⟩ (k1 := 0) (n1 := 0) rfl rfl ?_
              rintro σ151 ⟨h151_s, h151_a, h151_b⟩
              refine v_goto (tgt := 161) G dX8_atom1_154 (by decide) ?_
              refine v_iload_n G 0 dX8_atom1_161 rfl ?_
              refine RET _ _ _ _ _ _ rfl (Nat.le_of_ble_eq_true rfl) (Nat.le_of_ble_eq_true rfl) dX8_atom1_162 (fun ws hw => ⟨_, hw, ?_⟩)
              clear RET G hT hnm
              rw [show p_atom b n (p_lev b n 4) t = _ from p_atom_2 h5_h h40_h h139_h]
              exact ⟨rfl, h151_s, (ag_tr ag_rf h151_a)⟩
            · refine v_istore_n (L' := [(1, .int 0), (0, .ref (ad 43))]) G dX8_atom1_142 (by decide) rfl ?_
              refine v_aload_n G 1 dX8_atom1_143 rfl ?_
              refine m_get (v := .int (σ139.1 25 0)) G 25 (by decide) rfl q1319 rfl dX8_atom1_144 ?_
              refine v_if_ne (tgt := 161) G dX8_atom1_147 (by decide) (fun h147 => ?_) (fun h147 => False.elim (by rw [h139_b] at h147; exact absurd h147 (by decide)))
              refine v_iload_n G 0 dX8_atom1_161 rfl ?_
              refine RET _ _ _ _ _ _ rfl (Nat.le_of_ble_eq_true rfl) (Nat.le_of_ble_eq_true rfl) dX8_atom1_162 (fun ws hw => ⟨_, hw, ?_⟩)
              clear RET G hT hnm
              rw [show p_atom b n (p_lev b n 4) t = _ from p_atom_f h5_h h40_h (tk_nnum hS.2.1 (fun q => by first | exact h99 q.1 | exact h107 q.2)) h139_h]
              exact ⟨rfl, h139_s, (ag_tr ag_rf h139_a)⟩
        · refine v_aload_n G 1 dX8_atom1_110 rfl ?_
          have hnum := tk_num hS.2.1 h99 h107
          refine m_get (v := .long (σ.2 23 0)) G 23 (by decide) rfl q1317 rfl dX8_atom1_111 ?_
          refine v_l2i (v := (σ.2 23 0).toInt32) G dX8_atom1_114 rfl ?_
          refine v_topr (x2 := .int (vl t)) (congrArg Value.int (show (σ.2 23 0).toInt32 = vl t by rw [hnum.2]; exact lg_l2i_i2l _)) ?_
          refine v_istore_n (L' := [(1, .int (vl t)), (0, .ref (ad 43))]) G dX8_atom1_115 (by decide) rfl ?_
          refine v_aload_n G 1 dX8_atom1_116 rfl ?_
          refine w_callVv G hK hT (kX8_nextS hK l dC dI ct ad σ F n b 1 t hS (by rw [hnum.1]; decide)) (ck_X8_196 G.2.2.2.2.1 ⟨Nat.le_of_ble_eq_true rfl, Nat.le_of_ble_eq_true rfl⟩) m_recv (fun _ h => h) rfl [] rfl (Nat.le_of_ble_eq_true rfl) dX8_atom1_117 ⟨Nat.le_of_ble_eq_true rfl, Nat.le_of_ble_eq_true rfl⟩ (k1 := 0) (n1 := 0) rfl rfl ?_
          rintro σ117 ⟨h117_s, h117_a, h117_b⟩
          refine v_goto (tgt := 161) G dX8_atom1_120 (by decide) ?_
          refine v_iload_n G 0 dX8_atom1_161 rfl ?_
          refine RET _ _ _ _ _ _ rfl (Nat.le_of_ble_eq_true rfl) (Nat.le_of_ble_eq_true rfl) dX8_atom1_162 (fun ws hw => ⟨_, hw, ?_⟩)
          clear RET G hT hnm
          rw [show p_atom b n (p_lev b n 4) t = _ from p_atom_3 h5_h h40_h hnum.1]
          exact ⟨rfl, h117_s, (ag_tr ag_rf h117_a)⟩
abbrev rmX8_term1 : Room := { frames := 29, cells := 0, slots := 0, locals := 640 }
set_option maxHeartbeats 4000000 in
theorem kX8_term1 {KT : (Nat → Prop) → State → Heap → Prop} (hK : KTok KT) (l : Launch) (dC : Nat → ClassId) (dI : Nat → Nat → Nat) (ct ad : Nat → Nat) (σ : MS) (F : Nat) (n : Nat) (b : Nat → Int32) (t : PS) (hS : ST F n b 1 t σ) : MC KT (dC, dI) vwCl (tysF ct) l yX8_term1 cX8_term1 2 (some .int) rmX8_term1 [.ref (ad 43)] (RM ct ad σ) (QI_ (dC, dI) vwCl (RM ct ad) (fun (r : Int32) (σ' : MS) => ((p_term b n (p_atom b n (p_lev b n 4)) t).1 (envS σ)) = r ∧ ST F n b 1 (p_term b n (p_atom b n (p_lev b n 4)) t).2 σ' ∧ ag pfr σ σ')) := by
  refine MC.ofI (own := RX8) pl_X8 rfl (Nat.le_of_ble_eq_true rfl) ?_
  intro pp ee ss mm aa bb hh cc AA QQ G hT hnm RET
  refine v_loc (L' := [(0, .ref (ad 43))]) rfl ?_
  refine v_aload_n G 0 dX8_term1_0 rfl ?_
  refine w_callVi G hK hT (kX8_atom1 hK l dC dI ct ad σ F n b t hS) (ck_X8_308 G.2.2.2.2.1 ⟨Nat.le_of_ble_eq_true rfl, Nat.le_of_ble_eq_true rfl⟩) m_recv (fun _ h => h) rfl [] rfl (Nat.le_of_ble_eq_true rfl) dX8_term1_1 ⟨Nat.le_of_ble_eq_true rfl, Nat.le_of_ble_eq_true rfl⟩ (k1 := 0) (n1 := 0) rfl rfl ?_
  rintro r1 σ1 ⟨rfl, h1_s, h1_a⟩
  refine v_topr (x2 := .int ((p_atom b n (p_lev b n 4) t).1 (envS σ))) (congrArg Value.int (congrArg (p_atom b n (p_lev b n 4) t).1 (envS_ag ag_rf))) ?_
  refine v_istore_n (L' := [(1, .int ((p_atom b n (p_lev b n 4) t).1 (envS σ))), (0, .ref (ad 43))]) G dX8_term1_4 (by decide) rfl ?_
  have loop5 : ∀ (dd : Nat) (f : Nat) (v : SF) (t1 : PS) (τ : MS), (ST F n b 1 t1 τ) → (ag pfr σ τ) → (mu n t1 < f) → (p_termL b n (p_atom b n (p_lev b n 4)) f v t1 = p_term b n (p_atom b n (p_lev b n 4)) t) → f < dd → V_ pp l ee rmX8_term1 ss mm aa bb hh cc 2 (dC, dI) vwCl AA QQ 0 0 (RM ct ad τ) 5 [(1, .int (v (envS σ))), (0, .ref (ad 43))] [] := by
    intro dd
    induction dd with
    | zero => intro f v t1 τ hs ha hm he hdd; exact absurd hdd (Nat.not_lt_zero _)
    | succ dd ih5 =>
      intro f v t1 τ hs ha hm he hdd
      obtain ⟨f, rfl⟩ : ∃ g, f = g + 1 := ⟨f - 1, by omega⟩
      refine v_aload_n G 1 dX8_term1_5 rfl ?_
      refine v_bipush (v := 42) G dX8_term1_6 rfl ?_
      refine w_callVi G hK hT (kX8_isSignS hK l dC dI ct ad τ F n b 1 t1 42 hs) (ck_X8_221 G.2.2.2.2.1 ⟨Nat.le_of_ble_eq_true rfl, Nat.le_of_ble_eq_true rfl⟩) m_recv (fun _ h => h) rfl [] rfl (Nat.le_of_ble_eq_true rfl) dX8_term1_8 ⟨Nat.le_of_ble_eq_true rfl, Nat.le_of_ble_eq_true rfl⟩ (k1 := 0) (n1 := 0) rfl rfl ?_
      rintro r8 σ8 (⟨rfl, rfl, h8_h⟩ | ⟨rfl, rfl, h8_h⟩)
      · refine v_if_eq (tgt := 28) G dX8_term1_11 (by decide) (fun h11 => absurd h11 (by decide)) (fun h11 => ?_)
        refine v_aload_n G 1 dX8_term1_14 rfl ?_
        refine w_callVv G hK hT (kX8_nextS hK l dC dI ct ad τ F n b 1 t1 hs (kd_tk h8_h (by decide))) (ck_X8_196 G.2.2.2.2.1 ⟨Nat.le_of_ble_eq_true rfl, Nat.le_of_ble_eq_true rfl⟩) m_recv (fun _ h => h) rfl [] rfl (Nat.le_of_ble_eq_true rfl) dX8_term1_15 ⟨Nat.le_of_ble_eq_true rfl, Nat.le_of_ble_eq_true rfl⟩ (k1 := 0) (n1 := 0) rfl rfl ?_
        rintro σ15 ⟨h15_s, h15_a, h15_b⟩
        refine v_iload_n G 0 dX8_term1_18 rfl ?_
        refine v_aload_n G 1 dX8_term1_19 rfl ?_
        refine w_callVi G hK hT (kX8_atom1 hK l dC dI ct ad σ15 F n b (nxS b n t1) h15_s) (ck_X8_308 G.2.2.2.2.1 ⟨Nat.le_of_ble_eq_true rfl, Nat.le_of_ble_eq_true rfl⟩) m_recv (fun _ h => h) rfl [.int (v (envS σ))] rfl (Nat.le_of_ble_eq_true rfl) dX8_term1_20 ⟨Nat.le_of_ble_eq_true rfl, Nat.le_of_ble_eq_true rfl⟩ (k1 := 0) (n1 := 0) rfl rfl ?_
        rintro r20 σ20 ⟨rfl, h20_s, h20_a⟩
        refine v_topr (x2 := .int ((p_atom b n (p_lev b n 4) (nxS b n t1)).1 (envS σ))) (congrArg Value.int (congrArg (p_atom b n (p_lev b n 4) (nxS b n t1)).1 (envS_ag (ag_tr ha h15_a)))) ?_
        refine v_imul G dX8_term1_23 ?_
        refine v_istore_n (L' := [(1, .int ((v (envS σ)) * ((p_atom b n (p_lev b n 4) (nxS b n t1)).1 (envS σ)))), (0, .ref (ad 43))]) G dX8_term1_24 (by decide) rfl ?_
        refine v_goto (tgt := 5) G dX8_term1_25 (by decide) ?_
        refine V_.sub (L' := [(1, .int ((v (envS σ)) * ((p_atom b n (p_lev b n 4) (nxS b n t1)).1 (envS σ)))), (0, .ref (ad 43))]) ?_ [0, 1] rfl
        refine v_loc (L' := [(1, .int ((fun e => v e * (p_atom b n (p_lev b n 4) (nxS b n t1)).1 e) (envS σ))), (0, .ref (ad 43))]) (rfl) ?_
        exact ih5  f (fun e => v e * (p_atom b n (p_lev b n 4) (nxS b n t1)).1 e) ((p_atom b n (p_lev b n 4) (nxS b n t1)).2) σ20 h20_s (ag_tr (ag_tr ha h15_a) h20_a) (mu_step (tk_wf hs.2.1) h8_h (by decide) (p_atom_ok (p_lev_ok 4)) hm) (by rw [← he, p_termL, if_pos h8_h]) (by omega)
      · refine v_if_eq (tgt := 28) G dX8_term1_11 (by decide) (fun h11 => ?_) (fun h11 => absurd h11 (by decide))
        refine v_iload_n G 0 dX8_term1_28 rfl ?_
        refine RET _ _ _ _ _ _ rfl (Nat.le_of_ble_eq_true rfl) (Nat.le_of_ble_eq_true rfl) dX8_term1_29 (fun ws hw => ⟨_, hw, ?_⟩)
        clear RET G hT hnm
        rw [show p_term b n (p_atom b n (p_lev b n 4)) t = (v, t1) by rw [← he, p_termL, if_neg (by rw [h8_h]; decide)]]
        exact ⟨rfl, hs, ha⟩
  refine V_.sub (L' := [(1, .int ((p_atom b n (p_lev b n 4) t).1 (envS σ))), (0, .ref (ad 43))]) ?_ [0, 1] rfl
  refine v_loc (L' := [(1, .int (((p_atom b n (p_lev b n 4) t).1) (envS σ))), (0, .ref (ad 43))]) (rfl) ?_
  exact loop5 _ (n + 2) ((p_atom b n (p_lev b n 4) t).1) ((p_atom b n (p_lev b n 4) t).2) σ1 h1_s h1_a (by have := mu_le (n := n) (s := (p_atom b n (p_lev b n 4) t).2); omega) rfl (Nat.lt_succ_self _)
abbrev rmX8_added1 : Room := { frames := 30, cells := 0, slots := 0, locals := 661 }
set_option maxHeartbeats 4000000 in
theorem kX8_added1 {KT : (Nat → Prop) → State → Heap → Prop} (hK : KTok KT) (l : Launch) (dC : Nat → ClassId) (dI : Nat → Nat → Nat) (ct ad : Nat → Nat) (σ : MS) (F : Nat) (n : Nat) (b : Nat → Int32) (t : PS) (hS : ST F n b 1 t σ) : MC KT (dC, dI) vwCl (tysF ct) l yX8_added1 cX8_added1 4 (some .int) rmX8_added1 [.ref (ad 43)] (RM ct ad σ) (QI_ (dC, dI) vwCl (RM ct ad) (fun (r : Int32) (σ' : MS) => ((p_add b n (p_term b n (p_atom b n (p_lev b n 4))) t).1 (envS σ)) = r ∧ ST F n b 1 (p_add b n (p_term b n (p_atom b n (p_lev b n 4))) t).2 σ' ∧ ag pfr σ σ')) := by
  refine MC.ofI (own := RX8) pl_X8 rfl (Nat.le_of_ble_eq_true rfl) ?_
  intro pp ee ss mm aa bb hh cc AA QQ G hT hnm RET
  refine v_loc (L' := [(0, .ref (ad 43))]) rfl ?_
  refine v_aload_n G 0 dX8_added1_0 rfl ?_
  refine w_callVi G hK hT (kX8_term1 hK l dC dI ct ad σ F n b t hS) (ck_X8_311 G.2.2.2.2.1 ⟨Nat.le_of_ble_eq_true rfl, Nat.le_of_ble_eq_true rfl⟩) m_recv (fun _ h => h) rfl [] rfl (Nat.le_of_ble_eq_true rfl) dX8_added1_1 ⟨Nat.le_of_ble_eq_true rfl, Nat.le_of_ble_eq_true rfl⟩ (k1 := 0) (n1 := 0) rfl rfl ?_
  rintro r1 σ1 ⟨rfl, h1_s, h1_a⟩
  refine v_topr (x2 := .int ((p_term b n (p_atom b n (p_lev b n 4)) t).1 (envS σ))) (congrArg Value.int (congrArg (p_term b n (p_atom b n (p_lev b n 4)) t).1 (envS_ag ag_rf))) ?_
  refine v_istore_n (L' := [(1, .int ((p_term b n (p_atom b n (p_lev b n 4)) t).1 (envS σ))), (0, .ref (ad 43))]) G dX8_added1_4 (by decide) rfl ?_
  have loop5 : ∀ (dd : Nat) (f : Nat) (v : SF) (t1 : PS) (τ : MS), (ST F n b 1 t1 τ) → (ag pfr σ τ) → (mu n t1 < f) → (p_addL b n (p_term b n (p_atom b n (p_lev b n 4))) f v t1 = p_add b n (p_term b n (p_atom b n (p_lev b n 4))) t) → f < dd → V_ pp l ee rmX8_added1 ss mm aa bb hh cc 4 (dC, dI) vwCl AA QQ 0 0 (RM ct ad τ) 5 [(1, .int (v (envS σ))), (0, .ref (ad 43))] [] := by
    intro dd
    induction dd with
    | zero => intro f v t1 τ hs ha hm he hdd; exact absurd hdd (Nat.not_lt_zero _)
    | succ dd ih5 =>
      intro f v t1 τ hs ha hm he hdd
      obtain ⟨f, rfl⟩ : ∃ g, f = g + 1 := ⟨f - 1, by omega⟩
      refine v_aload_n G 1 dX8_added1_5 rfl ?_
      refine v_bipush (v := 43) G dX8_added1_6 rfl ?_
      refine w_callVi G hK hT (kX8_isSignS hK l dC dI ct ad τ F n b 1 t1 43 hs) (ck_X8_221 G.2.2.2.2.1 ⟨Nat.le_of_ble_eq_true rfl, Nat.le_of_ble_eq_true rfl⟩) m_recv (fun _ h => h) rfl [] rfl (Nat.le_of_ble_eq_true rfl) dX8_added1_8 ⟨Nat.le_of_ble_eq_true rfl, Nat.le_of_ble_eq_true rfl⟩ (k1 := 0) (n1 := 0) rfl rfl ?_
      rintro r8 σ8 (⟨rfl, rfl, h8_h⟩ | ⟨rfl, rfl, h8_h⟩)
      · refine v_if_ne (tgt := 23) G dX8_added1_11 (by decide) (fun h11 => ?_) (fun h11 => absurd h11 (by decide))
        refine v_aload_n G 1 dX8_added1_23 rfl ?_
        refine m_get (v := .long (τ.2 23 0)) G 23 (by decide) rfl q1317 rfl dX8_added1_24 ?_
        refine v_ldc2 G q1558 dX8_added1_27 ?_
        refine v_lcmp G dX8_added1_30 ?_
        refine v_if_ne (tgt := 38) G dX8_added1_31 (by decide) (fun h31 => False.elim (by exact h31 ((le_of_lcmp _ _).1.mpr (tk_sgv hs.2.1 h8_h)))) (fun h31 => ?_)
        refine v_iconst (v := 1) G dX8_added1_34 rfl ?_
        refine v_goto (tgt := 39) G dX8_added1_35 (by decide) ?_
        refine v_istore_n (L' := [(2, .int 1), (1, .int (v (envS σ))), (0, .ref (ad 43))]) G dX8_added1_39 (by decide) rfl ?_
        refine v_aload_n G 2 dX8_added1_40 rfl ?_
        refine w_callVv G hK hT (kX8_nextS hK l dC dI ct ad τ F n b 1 t1 hs (kd_tk h8_h (by decide))) (ck_X8_196 G.2.2.2.2.1 ⟨Nat.le_of_ble_eq_true rfl, Nat.le_of_ble_eq_true rfl⟩) m_recv (fun _ h => h) rfl [] rfl (Nat.le_of_ble_eq_true rfl) dX8_added1_41 ⟨Nat.le_of_ble_eq_true rfl, Nat.le_of_ble_eq_true rfl⟩ (k1 := 0) (n1 := 0) rfl rfl ?_
        rintro σ41 ⟨h41_s, h41_a, h41_b⟩
        refine v_aload_n G 2 dX8_added1_44 rfl ?_
        refine w_callVi G hK hT (kX8_term1 hK l dC dI ct ad σ41 F n b (nxS b n t1) h41_s) (ck_X8_311 G.2.2.2.2.1 ⟨Nat.le_of_ble_eq_true rfl, Nat.le_of_ble_eq_true rfl⟩) m_recv (fun _ h => h) rfl [] rfl (Nat.le_of_ble_eq_true rfl) dX8_added1_45 ⟨Nat.le_of_ble_eq_true rfl, Nat.le_of_ble_eq_true rfl⟩ (k1 := 0) (n1 := 0) rfl rfl ?_
        rintro r45 σ45 ⟨rfl, h45_s, h45_a⟩
        refine v_topr (x2 := .int ((p_term b n (p_atom b n (p_lev b n 4)) (nxS b n t1)).1 (envS σ))) (congrArg Value.int (congrArg (p_term b n (p_atom b n (p_lev b n 4)) (nxS b n t1)).1 (envS_ag (ag_tr ha h41_a)))) ?_
        refine v_istore_n (L' := [(3, .int ((p_term b n (p_atom b n (p_lev b n 4)) (nxS b n t1)).1 (envS σ))), (2, .int 1), (1, .int (v (envS σ))), (0, .ref (ad 43))]) G dX8_added1_48 (by decide) rfl ?_
        refine v_iload_n G 1 dX8_added1_49 rfl ?_
        refine v_if_eq (tgt := 59) G dX8_added1_50 (by decide) (fun h50 => absurd h50 (by decide)) (fun h50 => ?_)
        refine v_iload_n G 2 dX8_added1_53 rfl ?_
        refine v_iload_n G 0 dX8_added1_54 rfl ?_
        refine v_iadd G dX8_added1_55 ?_
        refine v_goto (tgt := 62) G dX8_added1_56 (by decide) ?_
        refine v_istore_n (L' := [(1, .int ((v (envS σ)) + ((p_term b n (p_atom b n (p_lev b n 4)) (nxS b n t1)).1 (envS σ)))), (3, .int ((p_term b n (p_atom b n (p_lev b n 4)) (nxS b n t1)).1 (envS σ))), (2, .int 1), (0, .ref (ad 43))]) G dX8_added1_62 (by decide) rfl ?_
        refine v_goto (tgt := 5) G dX8_added1_63 (by decide) ?_
        refine V_.sub (L' := [(1, .int ((v (envS σ)) + ((p_term b n (p_atom b n (p_lev b n 4)) (nxS b n t1)).1 (envS σ)))), (0, .ref (ad 43))]) ?_ [0, 3] rfl
        refine v_loc (L' := [(1, .int ((fun e => v e + (p_term b n (p_atom b n (p_lev b n 4)) (nxS b n t1)).1 e) (envS σ))), (0, .ref (ad 43))]) (rfl) ?_
        exact ih5  f (fun e => v e + (p_term b n (p_atom b n (p_lev b n 4)) (nxS b n t1)).1 e) ((p_term b n (p_atom b n (p_lev b n 4)) (nxS b n t1)).2) σ45 h45_s (ag_tr (ag_tr ha h41_a) h45_a) (mu_step (tk_wf hs.2.1) h8_h (by decide) (p_term_ok (p_atom_ok (p_lev_ok 4))) hm) (by rw [← he, p_addL, if_pos h8_h]) (by omega)
      · refine v_if_ne (tgt := 23) G dX8_added1_11 (by decide) (fun h11 => absurd h11 (by decide)) (fun h11 => ?_)
        refine v_aload_n G 1 dX8_added1_14 rfl ?_
        refine v_bipush (v := 45) G dX8_added1_15 rfl ?_
        refine w_callVi G hK hT (kX8_isSignS hK l dC dI ct ad τ F n b 1 t1 45 hs) (ck_X8_221 G.2.2.2.2.1 ⟨Nat.le_of_ble_eq_true rfl, Nat.le_of_ble_eq_true rfl⟩) m_recv (fun _ h => h) rfl [] rfl (Nat.le_of_ble_eq_true rfl) dX8_added1_17 ⟨Nat.le_of_ble_eq_true rfl, Nat.le_of_ble_eq_true rfl⟩ (k1 := 0) (n1 := 0) rfl rfl ?_
        rintro r17 σ17 (⟨rfl, rfl, h17_h⟩ | ⟨rfl, rfl, h17_h⟩)
        · refine v_if_eq (tgt := 66) G dX8_added1_20 (by decide) (fun h20 => absurd h20 (by decide)) (fun h20 => ?_)
          refine v_aload_n G 1 dX8_added1_23 rfl ?_
          refine m_get (v := .long (τ.2 23 0)) G 23 (by decide) rfl q1317 rfl dX8_added1_24 ?_
          refine v_ldc2 G q1558 dX8_added1_27 ?_
          refine v_lcmp G dX8_added1_30 ?_
          refine v_if_ne (tgt := 38) G dX8_added1_31 (by decide) (fun h31 => ?_) (fun h31 => False.elim (by have hz := (le_of_lcmp _ _).1.mp h31; rw [tk_sgv hs.2.1 h17_h] at hz; exact absurd hz (by decide)))
          refine v_iconst (v := 0) G dX8_added1_38 rfl ?_
          refine v_istore_n (L' := [(2, .int 0), (1, .int (v (envS σ))), (0, .ref (ad 43))]) G dX8_added1_39 (by decide) rfl ?_
          refine v_aload_n G 2 dX8_added1_40 rfl ?_
          refine w_callVv G hK hT (kX8_nextS hK l dC dI ct ad τ F n b 1 t1 hs (kd_tk h17_h (by decide))) (ck_X8_196 G.2.2.2.2.1 ⟨Nat.le_of_ble_eq_true rfl, Nat.le_of_ble_eq_true rfl⟩) m_recv (fun _ h => h) rfl [] rfl (Nat.le_of_ble_eq_true rfl) dX8_added1_41 ⟨Nat.le_of_ble_eq_true rfl, Nat.le_of_ble_eq_true rfl⟩ (k1 := 0) (n1 := 0) rfl rfl ?_
          rintro σ41 ⟨h41_s, h41_a, h41_b⟩
          refine v_aload_n G 2 dX8_added1_44 rfl ?_
          refine w_callVi G hK hT (kX8_term1 hK l dC dI ct ad σ41 F n b (nxS b n t1) h41_s) (ck_X8_311 G.2.2.2.2.1 ⟨Nat.le_of_ble_eq_true rfl, Nat.le_of_ble_eq_true rfl⟩) m_recv (fun _ h => h) rfl [] rfl (Nat.le_of_ble_eq_true rfl) dX8_added1_45 ⟨Nat.le_of_ble_eq_true rfl, Nat.le_of_ble_eq_true rfl⟩ (k1 := 0) (n1 := 0) rfl rfl ?_
          rintro r45 σ45 ⟨rfl, h45_s, h45_a⟩
          refine v_topr (x2 := .int ((p_term b n (p_atom b n (p_lev b n 4)) (nxS b n t1)).1 (envS σ))) (congrArg Value.int (congrArg (p_term b n (p_atom b n (p_lev b n 4)) (nxS b n t1)).1 (envS_ag (ag_tr ha h41_a)))) ?_
          refine v_istore_n (L' := [(3, .int ((p_term b n (p_atom b n (p_lev b n 4)) (nxS b n t1)).1 (envS σ))), (2, .int 0), (1, .int (v (envS σ))), (0, .ref (ad 43))]) G dX8_added1_48 (by decide) rfl ?_
          refine v_iload_n G 1 dX8_added1_49 rfl ?_
          refine v_if_eq (tgt := 59) G dX8_added1_50 (by decide) (fun h50 => ?_) (fun h50 => absurd h50 (by decide))
          refine v_iload_n G 2 dX8_added1_59 rfl ?_
          refine v_iload_n G 0 dX8_added1_60 rfl ?_
          refine v_isub G dX8_added1_61 ?_
          refine v_istore_n (L' := [(1, .int ((v (envS σ)) - ((p_term b n (p_atom b n (p_lev b n 4)) (nxS b n t1)).1 (envS σ)))), (3, .int ((p_term b n (p_atom b n (p_lev b n 4)) (nxS b n t1)).1 (envS σ))), (2, .int 0), (0, .ref (ad 43))]) G dX8_added1_62 (by decide) rfl ?_
          refine v_goto (tgt := 5) G dX8_added1_63 (by decide) ?_
          refine V_.sub (L' := [(1, .int ((v (envS σ)) - ((p_term b n (p_atom b n (p_lev b n 4)) (nxS b n t1)).1 (envS σ)))), (0, .ref (ad 43))]) ?_ [0, 3] rfl
          refine v_loc (L' := [(1, .int ((fun e => v e - (p_term b n (p_atom b n (p_lev b n 4)) (nxS b n t1)).1 e) (envS σ))), (0, .ref (ad 43))]) (rfl) ?_
          exact ih5  f (fun e => v e - (p_term b n (p_atom b n (p_lev b n 4)) (nxS b n t1)).1 e) ((p_term b n (p_atom b n (p_lev b n 4)) (nxS b n t1)).2) σ45 h45_s (ag_tr (ag_tr ha h41_a) h45_a) (mu_step (tk_wf hs.2.1) h17_h (by decide) (p_term_ok (p_atom_ok (p_lev_ok 4))) hm) (by rw [← he, p_addL, if_neg (by rw [h8_h]; decide), if_pos h17_h]) (by omega)
        · refine v_if_eq (tgt := 66) G dX8_added1_20 (by decide) (fun h20 => ?_) (fun h20 => absurd h20 (by decide))
          refine v_iload_n G 0 dX8_added1_66 rfl ?_
          refine RET _ _ _ _ _ _ rfl (Nat.le_of_ble_eq_true rfl) (Nat.le_of_ble_eq_true rfl) dX8_added1_67 (fun ws hw => ⟨_, hw, ?_⟩)
          clear RET G hT hnm
          rw [show p_add b n (p_term b n (p_atom b n (p_lev b n 4))) t = (v, t1) by rw [← he, p_addL, if_neg (by rw [h8_h]; decide), if_neg (by rw [h17_h]; decide)]]
          exact ⟨rfl, hs, ha⟩
  refine V_.sub (L' := [(1, .int ((p_term b n (p_atom b n (p_lev b n 4)) t).1 (envS σ))), (0, .ref (ad 43))]) ?_ [0, 1] rfl
  refine v_loc (L' := [(1, .int (((p_term b n (p_atom b n (p_lev b n 4)) t).1) (envS σ))), (0, .ref (ad 43))]) (rfl) ?_
  exact loop5 _ (n + 2) ((p_term b n (p_atom b n (p_lev b n 4)) t).1) ((p_term b n (p_atom b n (p_lev b n 4)) t).2) σ1 h1_s h1_a (by have := mu_le (n := n) (s := (p_term b n (p_atom b n (p_lev b n 4)) t).2); omega) rfl (Nat.lt_succ_self _)
abbrev rmX8_not1 : Room := { frames := 31, cells := 0, slots := 0, locals := 684 }
set_option maxHeartbeats 4000000 in
theorem kX8_not1 {KT : (Nat → Prop) → State → Heap → Prop} (hK : KTok KT) (l : Launch) (dC : Nat → ClassId) (dI : Nat → Nat → Nat) (ct ad : Nat → Nat) (σ : MS) (F : Nat) (n : Nat) (b : Nat → Int32) (t : PS) (hS : ST F n b 1 t σ) : MC KT (dC, dI) vwCl (tysF ct) l yX8_not1 cX8_not1 4 (some .int) rmX8_not1 [.ref (ad 43)] (RM ct ad σ) (QI_ (dC, dI) vwCl (RM ct ad) (fun (r : Int32) (σ' : MS) => ((p_not b n (p_lev b n 4) (p_add b n (p_term b n (p_atom b n (p_lev b n 4)))) t).1 (envS σ)) = r ∧ ST F n b 1 (p_not b n (p_lev b n 4) (p_add b n (p_term b n (p_atom b n (p_lev b n 4)))) t).2 σ' ∧ ag pfr σ σ')) := by
  refine MC.ofI (own := RX8) pl_X8 rfl (Nat.le_of_ble_eq_true rfl) ?_
  intro pp ee ss mm aa bb hh cc AA QQ G hT hnm RET
  refine v_loc (L' := [(0, .ref (ad 43))]) rfl ?_
  refine v_aload_n G 0 dX8_not1_0 rfl ?_
  refine v_bipush (v := 110) G dX8_not1_1 rfl ?_
  refine v_bipush (v := 111) G dX8_not1_3 rfl ?_
  refine v_bipush (v := 116) G dX8_not1_5 rfl ?_
  refine v_iconst (v := 0) G dX8_not1_7 rfl ?_
  refine v_iconst (v := 0) G dX8_not1_8 rfl ?_
  refine v_iconst (v := 0) G dX8_not1_9 rfl ?_
  refine v_iconst (v := 0) G dX8_not1_10 rfl ?_
  refine v_iconst (v := 0) G dX8_not1_11 rfl ?_
  refine w_callVi G hK hT (kX8_isWordS hK l dC dI ct ad σ F n b 1 t 1 5 110 111 116 0 0 0 0 0 hS (⟨(1, 5, [110, 111, 116, 0, 0, 0, 0, 0]), by decide +kernel, rfl, rfl, rfl⟩)) (ck_X8_199 G.2.2.2.2.1 ⟨Nat.le_of_ble_eq_true rfl, Nat.le_of_ble_eq_true rfl⟩) m_recv (fun _ h => h) rfl [] rfl (Nat.le_of_ble_eq_true rfl) dX8_not1_12 ⟨Nat.le_of_ble_eq_true rfl, Nat.le_of_ble_eq_true rfl⟩ (k1 := 0) (n1 := 0) rfl rfl ?_
  rintro r12 σ12 (⟨rfl, rfl, h12_h⟩ | ⟨rfl, rfl, h12_h⟩)
  · refine v_if_eq (tgt := 52) G dX8_not1_15 (by decide) (fun h15 => absurd h15 (by decide)) (fun h15 => ?_)
    refine v_aload_n G 0 dX8_not1_18 rfl ?_
    refine w_callVi G hK hT (kX8_opens hK l dC dI ct ad σ F n b 1 t hS (kd_tk h12_h (by decide)) (by decide)) (ck_X8_224 G.2.2.2.2.1 ⟨Nat.le_of_ble_eq_true rfl, Nat.le_of_ble_eq_true rfl⟩) m_recv (fun _ h => h) rfl [] rfl (Nat.le_of_ble_eq_true rfl) dX8_not1_19 ⟨Nat.le_of_ble_eq_true rfl, Nat.le_of_ble_eq_true rfl⟩ (k1 := 0) (n1 := 0) rfl rfl ?_
    rintro r19 σ19 (⟨rfl, h19_k, h19_s, h19_a⟩ | ⟨rfl, h19_k, h19_s, h19_a⟩)
    · refine v_if_ne (tgt := 27) G dX8_not1_22 (by decide) (fun h22 => ?_) (fun h22 => absurd h22 (by decide))
      refine v_aload_n G 0 dX8_not1_27 rfl ?_
      refine w_callVi G hK hT (kX8_not2 hK l dC dI ct ad σ19 F n b (nxS b n t) h19_s) (ck_X8_299 G.2.2.2.2.1 ⟨Nat.le_of_ble_eq_true rfl, Nat.le_of_ble_eq_true rfl⟩) m_recv (fun _ h => h) rfl [] rfl (Nat.le_of_ble_eq_true rfl) dX8_not1_28 ⟨Nat.le_of_ble_eq_true rfl, Nat.le_of_ble_eq_true rfl⟩ (k1 := 0) (n1 := 0) rfl rfl ?_
      rintro r28 σ28 ⟨rfl, h28_s, h28_a⟩
      refine v_topr (x2 := .int ((p_not b n (p_lev b n 3) (p_add b n (p_term b n (p_atom b n (p_lev b n 3)))) (nxS b n t)).1 (envS σ))) (congrArg Value.int (congrArg (p_not b n (p_lev b n 3) (p_add b n (p_term b n (p_atom b n (p_lev b n 3)))) (nxS b n t)).1 (envS_ag (ag_tr ag_rf h19_a)))) ?_
      refine v_istore_n (L' := [(1, .int ((p_not b n (p_lev b n 3) (p_add b n (p_term b n (p_atom b n (p_lev b n 3)))) (nxS b n t)).1 (envS σ))), (0, .ref (ad 43))]) G dX8_not1_31 (by decide) rfl ?_
      refine v_aload_n G 1 dX8_not1_32 rfl ?_
      refine v_dup G dX8_not1_33 rfl ?_
      refine m_get (v := .int (σ28.1 24 0)) G 24 (by decide) rfl q1318 rfl dX8_not1_34 ?_
      refine v_iconst (v := 1) G dX8_not1_37 rfl ?_
      refine v_isub G dX8_not1_38 ?_
      refine m_putI G 24 (by decide) q1318 rfl rfl rfl dX8_not1_39 ?_
      have hS42 : ST F n b 1 (p_not b n (p_lev b n 3) (p_add b n (p_term b n (p_atom b n (p_lev b n 3)))) (nxS b n t)).2 (mset σ28 24 0 ((σ28.1 24 0) - 1)) := ST_cl h28_s (ix_sub h28_s.2.2 (ix_lit 1 rfl) (by omega))
      refine v_iload_n G 0 dX8_not1_42 rfl ?_
      refine v_if_ne (tgt := 50) G dX8_not1_43 (by decide) (fun h43 => ?_) (fun h43 => ?_)
      · refine v_iconst (v := 0) G dX8_not1_50 rfl ?_
        refine RET _ _ _ _ _ _ rfl (Nat.le_of_ble_eq_true rfl) (Nat.le_of_ble_eq_true rfl) dX8_not1_51 (fun ws hw => ⟨_, hw, ?_⟩)
        clear RET G hT hnm
        rw [show p_not b n (p_lev b n 4) (p_add b n (p_term b n (p_atom b n (p_lev b n 4)))) t = _ from p_not_1 h12_h]
        exact ⟨by first | exact if_pos h43 | exact if_neg h43, hS42, (ag_tr (ag_tr (ag_tr ag_rf h19_a) h28_a) (ag_set (by decide)))⟩
      · refine v_iconst (v := 1) G dX8_not1_46 rfl ?_
        refine v_goto (tgt := 51) G dX8_not1_47 (by decide) ?_
        refine RET _ _ _ _ _ _ rfl (Nat.le_of_ble_eq_true rfl) (Nat.le_of_ble_eq_true rfl) dX8_not1_51 (fun ws hw => ⟨_, hw, ?_⟩)
        clear RET G hT hnm
        rw [show p_not b n (p_lev b n 4) (p_add b n (p_term b n (p_atom b n (p_lev b n 4)))) t = _ from p_not_1 h12_h]
        exact ⟨by first | exact if_pos h43 | exact if_neg h43, hS42, (ag_tr (ag_tr (ag_tr ag_rf h19_a) h28_a) (ag_set (by decide)))⟩
    · exact False.elim (by exact absurd h19_k (by decide))
  · refine v_if_eq (tgt := 52) G dX8_not1_15 (by decide) (fun h15 => ?_) (fun h15 => absurd h15 (by decide))
    refine v_aload_n G 0 dX8_not1_52 rfl ?_
    refine w_callVi G hK hT (kX8_added1 hK l dC dI ct ad σ F n b t hS) (ck_X8_314 G.2.2.2.2.1 ⟨Nat.le_of_ble_eq_true rfl, Nat.le_of_ble_eq_true rfl⟩) m_recv (fun _ h => h) rfl [] rfl (Nat.le_of_ble_eq_true rfl) dX8_not1_53 ⟨Nat.le_of_ble_eq_true rfl, Nat.le_of_ble_eq_true rfl⟩ (k1 := 0) (n1 := 0) rfl rfl ?_
    rintro r53 σ53 ⟨rfl, h53_s, h53_a⟩
    refine v_topr (x2 := .int ((p_add b n (p_term b n (p_atom b n (p_lev b n 4))) t).1 (envS σ))) (congrArg Value.int (congrArg (p_add b n (p_term b n (p_atom b n (p_lev b n 4))) t).1 (envS_ag ag_rf))) ?_
    refine v_istore_n (L' := [(1, .int ((p_add b n (p_term b n (p_atom b n (p_lev b n 4))) t).1 (envS σ))), (0, .ref (ad 43))]) G dX8_not1_56 (by decide) rfl ?_
    refine v_aload_n G 1 dX8_not1_57 rfl ?_
    refine v_bipush (v := 60) G dX8_not1_58 rfl ?_
    refine w_callVi G hK hT (kX8_isSignS hK l dC dI ct ad σ53 F n b 1 ((p_add b n (p_term b n (p_atom b n (p_lev b n 4))) t).2) 60 h53_s) (ck_X8_221 G.2.2.2.2.1 ⟨Nat.le_of_ble_eq_true rfl, Nat.le_of_ble_eq_true rfl⟩) m_recv (fun _ h => h) rfl [] rfl (Nat.le_of_ble_eq_true rfl) dX8_not1_60 ⟨Nat.le_of_ble_eq_true rfl, Nat.le_of_ble_eq_true rfl⟩ (k1 := 0) (n1 := 0) rfl rfl ?_
    rintro r60 σ60 (⟨rfl, rfl, h60_h⟩ | ⟨rfl, rfl, h60_h⟩)
    · refine v_if_ne (tgt := 77) G dX8_not1_63 (by decide) (fun h63 => ?_) (fun h63 => absurd h63 (by decide))
      refine v_aload_n G 1 dX8_not1_77 rfl ?_
      refine m_get (v := .long (σ53.2 23 0)) G 23 (by decide) rfl q1317 rfl dX8_not1_78 ?_
      refine v_ldc2 G q1559 dX8_not1_81 ?_
      refine v_lcmp G dX8_not1_84 ?_
      refine v_if_ne (tgt := 92) G dX8_not1_85 (by decide) (fun h85 => False.elim (by exact h85 ((le_of_lcmp _ _).1.mpr (tk_sgv h53_s.2.1 h60_h)))) (fun h85 => ?_)
      refine v_iconst (v := 1) G dX8_not1_88 rfl ?_
      refine v_goto (tgt := 93) G dX8_not1_89 (by decide) ?_
      refine v_istore_n (L' := [(2, .int 1), (1, .int ((p_add b n (p_term b n (p_atom b n (p_lev b n 4))) t).1 (envS σ))), (0, .ref (ad 43))]) G dX8_not1_93 (by decide) rfl ?_
      refine v_aload_n G 2 dX8_not1_94 rfl ?_
      refine w_callVv G hK hT (kX8_nextS hK l dC dI ct ad σ53 F n b 1 ((p_add b n (p_term b n (p_atom b n (p_lev b n 4))) t).2) h53_s (kd_tk h60_h (by decide))) (ck_X8_196 G.2.2.2.2.1 ⟨Nat.le_of_ble_eq_true rfl, Nat.le_of_ble_eq_true rfl⟩) m_recv (fun _ h => h) rfl [] rfl (Nat.le_of_ble_eq_true rfl) dX8_not1_95 ⟨Nat.le_of_ble_eq_true rfl, Nat.le_of_ble_eq_true rfl⟩ (k1 := 0) (n1 := 0) rfl rfl ?_
      rintro σ95 ⟨h95_s, h95_a, h95_b⟩
      refine v_aload_n G 2 dX8_not1_98 rfl ?_
      refine w_callVi G hK hT (kX8_added1 hK l dC dI ct ad σ95 F n b (nxS b n (p_add b n (p_term b n (p_atom b n (p_lev b n 4))) t).2) h95_s) (ck_X8_314 G.2.2.2.2.1 ⟨Nat.le_of_ble_eq_true rfl, Nat.le_of_ble_eq_true rfl⟩) m_recv (fun _ h => h) rfl [] rfl (Nat.le_of_ble_eq_true rfl) dX8_not1_99 ⟨Nat.le_of_ble_eq_true rfl, Nat.le_of_ble_eq_true rfl⟩ (k1 := 0) (n1 := 0) rfl rfl ?_
      rintro r99 σ99 ⟨rfl, h99_s, h99_a⟩
      refine v_topr (x2 := .int ((p_add b n (p_term b n (p_atom b n (p_lev b n 4))) (nxS b n (p_add b n (p_term b n (p_atom b n (p_lev b n 4))) t).2)).1 (envS σ))) (congrArg Value.int (congrArg (p_add b n (p_term b n (p_atom b n (p_lev b n 4))) (nxS b n (p_add b n (p_term b n (p_atom b n (p_lev b n 4))) t).2)).1 (envS_ag (ag_tr (ag_tr ag_rf h53_a) h95_a)))) ?_
      refine v_istore_n (L' := [(3, .int ((p_add b n (p_term b n (p_atom b n (p_lev b n 4))) (nxS b n (p_add b n (p_term b n (p_atom b n (p_lev b n 4))) t).2)).1 (envS σ))), (2, .int 1), (1, .int ((p_add b n (p_term b n (p_atom b n (p_lev b n 4))) t).1 (envS σ))), (0, .ref (ad 43))]) G dX8_not1_102 (by decide) rfl ?_
      refine v_iload_n G 1 dX8_not1_103 rfl ?_
      refine v_if_eq (tgt := 115) G dX8_not1_104 (by decide) (fun h104 => absurd h104 (by decide)) (fun h104 => ?_)
      refine v_iload_n G 2 dX8_not1_107 rfl ?_
      refine v_iload_n G 0 dX8_not1_108 rfl ?_
      refine v_icmp_ge (tgt := 124) G dX8_not1_109 (by decide) (fun h109 => ?_) (fun h109 => ?_)
      · refine v_iconst (v := 0) G dX8_not1_124 rfl ?_
        refine RET _ _ _ _ _ _ rfl (Nat.le_of_ble_eq_true rfl) (Nat.le_of_ble_eq_true rfl) dX8_not1_125 (fun ws hw => ⟨_, hw, ?_⟩)
        clear RET G hT hnm
        rw [show p_not b n (p_lev b n 4) (p_add b n (p_term b n (p_atom b n (p_lev b n 4)))) t = _ from p_not_l h12_h h60_h]
        exact ⟨(by first | exact if_pos (by first | assumption | exact Int32.not_le.mp h109) | exact if_neg (by first | assumption | exact Int32.not_lt.mpr h109)), h99_s, (ag_tr (ag_tr (ag_tr ag_rf h53_a) h95_a) h99_a)⟩
      · refine v_goto (tgt := 120) G dX8_not1_112 (by decide) ?_
        refine v_iconst (v := 1) G dX8_not1_120 rfl ?_
        refine v_goto (tgt := 125) G dX8_not1_121 (by decide) ?_
        refine RET _ _ _ _ _ _ rfl (Nat.le_of_ble_eq_true rfl) (Nat.le_of_ble_eq_true rfl) dX8_not1_125 (fun ws hw => ⟨_, hw, ?_⟩)
        clear RET G hT hnm
        rw [show p_not b n (p_lev b n 4) (p_add b n (p_term b n (p_atom b n (p_lev b n 4)))) t = _ from p_not_l h12_h h60_h]
        exact ⟨(by first | exact if_pos (by first | assumption | exact Int32.not_le.mp h109) | exact if_neg (by first | assumption | exact Int32.not_lt.mpr h109)), h99_s, (ag_tr (ag_tr (ag_tr ag_rf h53_a) h95_a) h99_a)⟩
    · refine v_if_ne (tgt := 77) G dX8_not1_63 (by decide) (fun h63 => absurd h63 (by decide)) (fun h63 => ?_)
      refine v_aload_n G 1 dX8_not1_66 rfl ?_
      refine v_bipush (v := 61) G dX8_not1_67 rfl ?_
      refine w_callVi G hK hT (kX8_isSignS hK l dC dI ct ad σ53 F n b 1 ((p_add b n (p_term b n (p_atom b n (p_lev b n 4))) t).2) 61 h53_s) (ck_X8_221 G.2.2.2.2.1 ⟨Nat.le_of_ble_eq_true rfl, Nat.le_of_ble_eq_true rfl⟩) m_recv (fun _ h => h) rfl [] rfl (Nat.le_of_ble_eq_true rfl) dX8_not1_69 ⟨Nat.le_of_ble_eq_true rfl, Nat.le_of_ble_eq_true rfl⟩ (k1 := 0) (n1 := 0) rfl rfl ?_
      rintro r69 σ69 (⟨rfl, rfl, h69_h⟩ | ⟨rfl, rfl, h69_h⟩)
      · refine v_if_ne (tgt := 77) G dX8_not1_72 (by decide) (fun h72 => ?_) (fun h72 => absurd h72 (by decide))
        refine v_aload_n G 1 dX8_not1_77 rfl ?_
        refine m_get (v := .long (σ53.2 23 0)) G 23 (by decide) rfl q1317 rfl dX8_not1_78 ?_
        refine v_ldc2 G q1559 dX8_not1_81 ?_
        refine v_lcmp G dX8_not1_84 ?_
        refine v_if_ne (tgt := 92) G dX8_not1_85 (by decide) (fun h85 => ?_) (fun h85 => False.elim (by have hz := (le_of_lcmp _ _).1.mp h85; rw [tk_sgv h53_s.2.1 h69_h] at hz; exact absurd hz (by decide)))
        refine v_iconst (v := 0) G dX8_not1_92 rfl ?_
        refine v_istore_n (L' := [(2, .int 0), (1, .int ((p_add b n (p_term b n (p_atom b n (p_lev b n 4))) t).1 (envS σ))), (0, .ref (ad 43))]) G dX8_not1_93 (by decide) rfl ?_
        refine v_aload_n G 2 dX8_not1_94 rfl ?_
        refine w_callVv G hK hT (kX8_nextS hK l dC dI ct ad σ53 F n b 1 ((p_add b n (p_term b n (p_atom b n (p_lev b n 4))) t).2) h53_s (kd_tk h69_h (by decide))) (ck_X8_196 G.2.2.2.2.1 ⟨Nat.le_of_ble_eq_true rfl, Nat.le_of_ble_eq_true rfl⟩) m_recv (fun _ h => h) rfl [] rfl (Nat.le_of_ble_eq_true rfl) dX8_not1_95 ⟨Nat.le_of_ble_eq_true rfl, Nat.le_of_ble_eq_true rfl⟩ (k1 := 0) (n1 := 0) rfl rfl ?_
        rintro σ95 ⟨h95_s, h95_a, h95_b⟩
        refine v_aload_n G 2 dX8_not1_98 rfl ?_
        refine w_callVi G hK hT (kX8_added1 hK l dC dI ct ad σ95 F n b (nxS b n (p_add b n (p_term b n (p_atom b n (p_lev b n 4))) t).2) h95_s) (ck_X8_314 G.2.2.2.2.1 ⟨Nat.le_of_ble_eq_true rfl, Nat.le_of_ble_eq_true rfl⟩) m_recv (fun _ h => h) rfl [] rfl (Nat.le_of_ble_eq_true rfl) dX8_not1_99 ⟨Nat.le_of_ble_eq_true rfl, Nat.le_of_ble_eq_true rfl⟩ (k1 := 0) (n1 := 0) rfl rfl ?_
        rintro r99 σ99 ⟨rfl, h99_s, h99_a⟩
        refine v_topr (x2 := .int ((p_add b n (p_term b n (p_atom b n (p_lev b n 4))) (nxS b n (p_add b n (p_term b n (p_atom b n (p_lev b n 4))) t).2)).1 (envS σ))) (congrArg Value.int (congrArg (p_add b n (p_term b n (p_atom b n (p_lev b n 4))) (nxS b n (p_add b n (p_term b n (p_atom b n (p_lev b n 4))) t).2)).1 (envS_ag (ag_tr (ag_tr ag_rf h53_a) h95_a)))) ?_
        refine v_istore_n (L' := [(3, .int ((p_add b n (p_term b n (p_atom b n (p_lev b n 4))) (nxS b n (p_add b n (p_term b n (p_atom b n (p_lev b n 4))) t).2)).1 (envS σ))), (2, .int 0), (1, .int ((p_add b n (p_term b n (p_atom b n (p_lev b n 4))) t).1 (envS σ))), (0, .ref (ad 43))]) G dX8_not1_102 (by decide) rfl ?_
        refine v_iload_n G 1 dX8_not1_103 rfl ?_
        refine v_if_eq (tgt := 115) G dX8_not1_104 (by decide) (fun h104 => ?_) (fun h104 => absurd h104 (by decide))
        refine v_iload_n G 2 dX8_not1_115 rfl ?_
        refine v_iload_n G 0 dX8_not1_116 rfl ?_
        refine v_icmp_ne (tgt := 124) G dX8_not1_117 (by decide) (fun h117 => ?_) (fun h117 => ?_)
        · refine v_iconst (v := 0) G dX8_not1_124 rfl ?_
          refine RET _ _ _ _ _ _ rfl (Nat.le_of_ble_eq_true rfl) (Nat.le_of_ble_eq_true rfl) dX8_not1_125 (fun ws hw => ⟨_, hw, ?_⟩)
          clear RET G hT hnm
          rw [show p_not b n (p_lev b n 4) (p_add b n (p_term b n (p_atom b n (p_lev b n 4)))) t = _ from p_not_e h12_h h60_h h69_h]
          exact ⟨(by first | exact if_pos h117 | exact if_neg h117), h99_s, (ag_tr (ag_tr (ag_tr ag_rf h53_a) h95_a) h99_a)⟩
        · refine v_iconst (v := 1) G dX8_not1_120 rfl ?_
          refine v_goto (tgt := 125) G dX8_not1_121 (by decide) ?_
          refine RET _ _ _ _ _ _ rfl (Nat.le_of_ble_eq_true rfl) (Nat.le_of_ble_eq_true rfl) dX8_not1_125 (fun ws hw => ⟨_, hw, ?_⟩)
          clear RET G hT hnm
          rw [show p_not b n (p_lev b n 4) (p_add b n (p_term b n (p_atom b n (p_lev b n 4)))) t = _ from p_not_e h12_h h60_h h69_h]
          exact ⟨(by first | exact if_pos h117 | exact if_neg h117), h99_s, (ag_tr (ag_tr (ag_tr ag_rf h53_a) h95_a) h99_a)⟩
      · refine v_if_ne (tgt := 77) G dX8_not1_72 (by decide) (fun h72 => absurd h72 (by decide)) (fun h72 => ?_)
        refine v_iload_n G 0 dX8_not1_75 rfl ?_
        refine RET _ _ _ _ _ _ rfl (Nat.le_of_ble_eq_true rfl) (Nat.le_of_ble_eq_true rfl) dX8_not1_76 (fun ws hw => ⟨_, hw, ?_⟩)
        clear RET G hT hnm
        rw [show p_not b n (p_lev b n 4) (p_add b n (p_term b n (p_atom b n (p_lev b n 4)))) t = _ from p_not_x h12_h h60_h h69_h]
        exact ⟨rfl, h53_s, (ag_tr ag_rf h53_a)⟩
abbrev rmX8_both1 : Room := { frames := 32, cells := 0, slots := 0, locals := 707 }
set_option maxHeartbeats 4000000 in
theorem kX8_both1 {KT : (Nat → Prop) → State → Heap → Prop} (hK : KTok KT) (l : Launch) (dC : Nat → ClassId) (dI : Nat → Nat → Nat) (ct ad : Nat → Nat) (σ : MS) (F : Nat) (n : Nat) (b : Nat → Int32) (t : PS) (hS : ST F n b 1 t σ) : MC KT (dC, dI) vwCl (tysF ct) l yX8_both1 cX8_both1 3 (some .int) rmX8_both1 [.ref (ad 43)] (RM ct ad σ) (QI_ (dC, dI) vwCl (RM ct ad) (fun (r : Int32) (σ' : MS) => ((p_both b n (p_not b n (p_lev b n 4) (p_add b n (p_term b n (p_atom b n (p_lev b n 4))))) t).1 (envS σ)) = r ∧ ST F n b 1 (p_both b n (p_not b n (p_lev b n 4) (p_add b n (p_term b n (p_atom b n (p_lev b n 4))))) t).2 σ' ∧ ag pfr σ σ')) := by
  refine MC.ofI (own := RX8) pl_X8 rfl (Nat.le_of_ble_eq_true rfl) ?_
  intro pp ee ss mm aa bb hh cc AA QQ G hT hnm RET
  refine v_loc (L' := [(0, .ref (ad 43))]) rfl ?_
  refine v_aload_n G 0 dX8_both1_0 rfl ?_
  refine w_callVi G hK hT (kX8_not1 hK l dC dI ct ad σ F n b t hS) (ck_X8_317 G.2.2.2.2.1 ⟨Nat.le_of_ble_eq_true rfl, Nat.le_of_ble_eq_true rfl⟩) m_recv (fun _ h => h) rfl [] rfl (Nat.le_of_ble_eq_true rfl) dX8_both1_1 ⟨Nat.le_of_ble_eq_true rfl, Nat.le_of_ble_eq_true rfl⟩ (k1 := 0) (n1 := 0) rfl rfl ?_
  rintro r1 σ1 ⟨rfl, h1_s, h1_a⟩
  refine v_topr (x2 := .int ((p_not b n (p_lev b n 4) (p_add b n (p_term b n (p_atom b n (p_lev b n 4)))) t).1 (envS σ))) (congrArg Value.int (congrArg (p_not b n (p_lev b n 4) (p_add b n (p_term b n (p_atom b n (p_lev b n 4)))) t).1 (envS_ag ag_rf))) ?_
  refine v_istore_n (L' := [(1, .int ((p_not b n (p_lev b n 4) (p_add b n (p_term b n (p_atom b n (p_lev b n 4)))) t).1 (envS σ))), (0, .ref (ad 43))]) G dX8_both1_4 (by decide) rfl ?_
  have loop5 : ∀ (dd : Nat) (f : Nat) (v : SF) (t1 : PS) (τ : MS), (ST F n b 1 t1 τ) → (ag pfr σ τ) → (mu n t1 < f) → (p_bothL b n (p_not b n (p_lev b n 4) (p_add b n (p_term b n (p_atom b n (p_lev b n 4))))) f v t1 = p_both b n (p_not b n (p_lev b n 4) (p_add b n (p_term b n (p_atom b n (p_lev b n 4))))) t) → f < dd → V_ pp l ee rmX8_both1 ss mm aa bb hh cc 3 (dC, dI) vwCl AA QQ 0 0 (RM ct ad τ) 5 [(1, .int (v (envS σ))), (0, .ref (ad 43))] [] := by
    intro dd
    induction dd with
    | zero => intro f v t1 τ hs ha hm he hdd; exact absurd hdd (Nat.not_lt_zero _)
    | succ dd ih5 =>
      intro f v t1 τ hs ha hm he hdd
      obtain ⟨f, rfl⟩ : ∃ g, f = g + 1 := ⟨f - 1, by omega⟩
      refine v_aload_n G 1 dX8_both1_5 rfl ?_
      refine v_bipush (v := 97) G dX8_both1_6 rfl ?_
      refine v_bipush (v := 110) G dX8_both1_8 rfl ?_
      refine v_bipush (v := 100) G dX8_both1_10 rfl ?_
      refine v_iconst (v := 0) G dX8_both1_12 rfl ?_
      refine v_iconst (v := 0) G dX8_both1_13 rfl ?_
      refine v_iconst (v := 0) G dX8_both1_14 rfl ?_
      refine v_iconst (v := 0) G dX8_both1_15 rfl ?_
      refine v_iconst (v := 0) G dX8_both1_16 rfl ?_
      refine w_callVi G hK hT (kX8_isWordS hK l dC dI ct ad τ F n b 1 t1 1 4 97 110 100 0 0 0 0 0 hs (⟨(1, 4, [97, 110, 100, 0, 0, 0, 0, 0]), by decide +kernel, rfl, rfl, rfl⟩)) (ck_X8_199 G.2.2.2.2.1 ⟨Nat.le_of_ble_eq_true rfl, Nat.le_of_ble_eq_true rfl⟩) m_recv (fun _ h => h) rfl [] rfl (Nat.le_of_ble_eq_true rfl) dX8_both1_17 ⟨Nat.le_of_ble_eq_true rfl, Nat.le_of_ble_eq_true rfl⟩ (k1 := 0) (n1 := 0) rfl rfl ?_
      rintro r17 σ17 (⟨rfl, rfl, h17_h⟩ | ⟨rfl, rfl, h17_h⟩)
      · refine v_if_eq (tgt := 49) G dX8_both1_20 (by decide) (fun h20 => absurd h20 (by decide)) (fun h20 => ?_)
        refine v_aload_n G 1 dX8_both1_23 rfl ?_
        refine w_callVv G hK hT (kX8_nextS hK l dC dI ct ad τ F n b 1 t1 hs (kd_tk h17_h (by decide))) (ck_X8_196 G.2.2.2.2.1 ⟨Nat.le_of_ble_eq_true rfl, Nat.le_of_ble_eq_true rfl⟩) m_recv (fun _ h => h) rfl [] rfl (Nat.le_of_ble_eq_true rfl) dX8_both1_24 ⟨Nat.le_of_ble_eq_true rfl, Nat.le_of_ble_eq_true rfl⟩ (k1 := 0) (n1 := 0) rfl rfl ?_
        rintro σ24 ⟨h24_s, h24_a, h24_b⟩
        refine v_aload_n G 1 dX8_both1_27 rfl ?_
        refine w_callVi G hK hT (kX8_not1 hK l dC dI ct ad σ24 F n b (nxS b n t1) h24_s) (ck_X8_317 G.2.2.2.2.1 ⟨Nat.le_of_ble_eq_true rfl, Nat.le_of_ble_eq_true rfl⟩) m_recv (fun _ h => h) rfl [] rfl (Nat.le_of_ble_eq_true rfl) dX8_both1_28 ⟨Nat.le_of_ble_eq_true rfl, Nat.le_of_ble_eq_true rfl⟩ (k1 := 0) (n1 := 0) rfl rfl ?_
        rintro r28 σ28 ⟨rfl, h28_s, h28_a⟩
        refine v_topr (x2 := .int ((p_not b n (p_lev b n 4) (p_add b n (p_term b n (p_atom b n (p_lev b n 4)))) (nxS b n t1)).1 (envS σ))) (congrArg Value.int (congrArg (p_not b n (p_lev b n 4) (p_add b n (p_term b n (p_atom b n (p_lev b n 4)))) (nxS b n t1)).1 (envS_ag (ag_tr ha h24_a)))) ?_
        refine v_istore_n (L' := [(2, .int ((p_not b n (p_lev b n 4) (p_add b n (p_term b n (p_atom b n (p_lev b n 4)))) (nxS b n t1)).1 (envS σ))), (1, .int (v (envS σ))), (0, .ref (ad 43))]) G dX8_both1_31 (by decide) rfl ?_
        refine v_iload_n G 1 dX8_both1_32 rfl ?_
        refine v_if_eq (tgt := 44) G dX8_both1_33 (by decide) (fun h33 => ?_) (fun h33 => ?_)
        · refine v_iconst (v := 0) G dX8_both1_44 rfl ?_
          refine v_istore_n (L' := [(1, .int 0), (2, .int ((p_not b n (p_lev b n 4) (p_add b n (p_term b n (p_atom b n (p_lev b n 4)))) (nxS b n t1)).1 (envS σ))), (0, .ref (ad 43))]) G dX8_both1_45 (by decide) rfl ?_
          refine v_goto (tgt := 5) G dX8_both1_46 (by decide) ?_
          refine V_.sub (L' := [(1, .int 0), (0, .ref (ad 43))]) ?_ [0, 2] rfl
          refine v_loc (L' := [(1, .int ((fun e => if v e ≠ 0 ∧ (p_not b n (p_lev b n 4) (p_add b n (p_term b n (p_atom b n (p_lev b n 4)))) (nxS b n t1)).1 e ≠ 0 then 1 else 0) (envS σ))), (0, .ref (ad 43))]) (by dsimp only; first | rw [if_pos (by exact ⟨h33, h37⟩)] | rw [if_neg (by rintro ⟨q1, q2⟩; first | exact q1 h33 | exact q2 h37)]) ?_
          exact ih5  f (fun e => if v e ≠ 0 ∧ (p_not b n (p_lev b n 4) (p_add b n (p_term b n (p_atom b n (p_lev b n 4)))) (nxS b n t1)).1 e ≠ 0 then 1 else 0) ((p_not b n (p_lev b n 4) (p_add b n (p_term b n (p_atom b n (p_lev b n 4)))) (nxS b n t1)).2) σ28 h28_s (ag_tr (ag_tr ha h24_a) h28_a) (mu_step (tk_wf hs.2.1) h17_h (by decide) (p_not_ok (p_lev_ok 4) (p_add_ok (p_term_ok (p_atom_ok (p_lev_ok 4))))) hm) (by rw [← he, p_bothL, if_pos h17_h]) (by omega)
        · refine v_iload_n G 0 dX8_both1_36 rfl ?_
          refine v_if_eq (tgt := 44) G dX8_both1_37 (by decide) (fun h37 => ?_) (fun h37 => ?_)
          · refine v_iconst (v := 0) G dX8_both1_44 rfl ?_
            refine v_istore_n (L' := [(1, .int 0), (2, .int ((p_not b n (p_lev b n 4) (p_add b n (p_term b n (p_atom b n (p_lev b n 4)))) (nxS b n t1)).1 (envS σ))), (0, .ref (ad 43))]) G dX8_both1_45 (by decide) rfl ?_
            refine v_goto (tgt := 5) G dX8_both1_46 (by decide) ?_
            refine V_.sub (L' := [(1, .int 0), (0, .ref (ad 43))]) ?_ [0, 2] rfl
            refine v_loc (L' := [(1, .int ((fun e => if v e ≠ 0 ∧ (p_not b n (p_lev b n 4) (p_add b n (p_term b n (p_atom b n (p_lev b n 4)))) (nxS b n t1)).1 e ≠ 0 then 1 else 0) (envS σ))), (0, .ref (ad 43))]) (by dsimp only; first | rw [if_pos (by exact ⟨h33, h37⟩)] | rw [if_neg (by rintro ⟨q1, q2⟩; first | exact q1 h33 | exact q2 h37)]) ?_
            exact ih5  f (fun e => if v e ≠ 0 ∧ (p_not b n (p_lev b n 4) (p_add b n (p_term b n (p_atom b n (p_lev b n 4)))) (nxS b n t1)).1 e ≠ 0 then 1 else 0) ((p_not b n (p_lev b n 4) (p_add b n (p_term b n (p_atom b n (p_lev b n 4)))) (nxS b n t1)).2) σ28 h28_s (ag_tr (ag_tr ha h24_a) h28_a) (mu_step (tk_wf hs.2.1) h17_h (by decide) (p_not_ok (p_lev_ok 4) (p_add_ok (p_term_ok (p_atom_ok (p_lev_ok 4))))) hm) (by rw [← he, p_bothL, if_pos h17_h]) (by omega)
          · refine v_iconst (v := 1) G dX8_both1_40 rfl ?_
            refine v_goto (tgt := 45) G dX8_both1_41 (by decide) ?_
            refine v_istore_n (L' := [(1, .int 1), (2, .int ((p_not b n (p_lev b n 4) (p_add b n (p_term b n (p_atom b n (p_lev b n 4)))) (nxS b n t1)).1 (envS σ))), (0, .ref (ad 43))]) G dX8_both1_45 (by decide) rfl ?_
            refine v_goto (tgt := 5) G dX8_both1_46 (by decide) ?_
            refine V_.sub (L' := [(1, .int 1), (0, .ref (ad 43))]) ?_ [0, 2] rfl
            refine v_loc (L' := [(1, .int ((fun e => if v e ≠ 0 ∧ (p_not b n (p_lev b n 4) (p_add b n (p_term b n (p_atom b n (p_lev b n 4)))) (nxS b n t1)).1 e ≠ 0 then 1 else 0) (envS σ))), (0, .ref (ad 43))]) (by dsimp only; first | rw [if_pos (by exact ⟨h33, h37⟩)] | rw [if_neg (by rintro ⟨q1, q2⟩; first | exact q1 h33 | exact q2 h37)]) ?_
            exact ih5  f (fun e => if v e ≠ 0 ∧ (p_not b n (p_lev b n 4) (p_add b n (p_term b n (p_atom b n (p_lev b n 4)))) (nxS b n t1)).1 e ≠ 0 then 1 else 0) ((p_not b n (p_lev b n 4) (p_add b n (p_term b n (p_atom b n (p_lev b n 4)))) (nxS b n t1)).2) σ28 h28_s (ag_tr (ag_tr ha h24_a) h28_a) (mu_step (tk_wf hs.2.1) h17_h (by decide) (p_not_ok (p_lev_ok 4) (p_add_ok (p_term_ok (p_atom_ok (p_lev_ok 4))))) hm) (by rw [← he, p_bothL, if_pos h17_h]) (by omega)
      · refine v_if_eq (tgt := 49) G dX8_both1_20 (by decide) (fun h20 => ?_) (fun h20 => absurd h20 (by decide))
        refine v_iload_n G 0 dX8_both1_49 rfl ?_
        refine RET _ _ _ _ _ _ rfl (Nat.le_of_ble_eq_true rfl) (Nat.le_of_ble_eq_true rfl) dX8_both1_50 (fun ws hw => ⟨_, hw, ?_⟩)
        clear RET G hT hnm
        rw [show p_both b n (p_not b n (p_lev b n 4) (p_add b n (p_term b n (p_atom b n (p_lev b n 4))))) t = (v, t1) by rw [← he, p_bothL, if_neg (by rw [h17_h]; decide)]]
        exact ⟨rfl, hs, ha⟩
  refine V_.sub (L' := [(1, .int ((p_not b n (p_lev b n 4) (p_add b n (p_term b n (p_atom b n (p_lev b n 4)))) t).1 (envS σ))), (0, .ref (ad 43))]) ?_ [0, 1] rfl
  refine v_loc (L' := [(1, .int (((p_not b n (p_lev b n 4) (p_add b n (p_term b n (p_atom b n (p_lev b n 4)))) t).1) (envS σ))), (0, .ref (ad 43))]) (rfl) ?_
  exact loop5 _ (n + 2) ((p_not b n (p_lev b n 4) (p_add b n (p_term b n (p_atom b n (p_lev b n 4)))) t).1) ((p_not b n (p_lev b n 4) (p_add b n (p_term b n (p_atom b n (p_lev b n 4)))) t).2) σ1 h1_s h1_a (by have := mu_le (n := n) (s := (p_not b n (p_lev b n 4) (p_add b n (p_term b n (p_atom b n (p_lev b n 4)))) t).2); omega) rfl (Nat.lt_succ_self _)
abbrev rmX8_either1 : Room := { frames := 33, cells := 0, slots := 0, locals := 729 }
set_option maxHeartbeats 4000000 in
theorem kX8_either1 {KT : (Nat → Prop) → State → Heap → Prop} (hK : KTok KT) (l : Launch) (dC : Nat → ClassId) (dI : Nat → Nat → Nat) (ct ad : Nat → Nat) (σ : MS) (F : Nat) (n : Nat) (b : Nat → Int32) (t : PS) (hS : ST F n b 1 t σ) : MC KT (dC, dI) vwCl (tysF ct) l yX8_either1 cX8_either1 3 (some .int) rmX8_either1 [.ref (ad 43)] (RM ct ad σ) (QI_ (dC, dI) vwCl (RM ct ad) (fun (r : Int32) (σ' : MS) => ((p_eith b n (p_both b n (p_not b n (p_lev b n 4) (p_add b n (p_term b n (p_atom b n (p_lev b n 4)))))) t).1 (envS σ)) = r ∧ ST F n b 1 (p_eith b n (p_both b n (p_not b n (p_lev b n 4) (p_add b n (p_term b n (p_atom b n (p_lev b n 4)))))) t).2 σ' ∧ ag pfr σ σ')) := by
  refine MC.ofI (own := RX8) pl_X8 rfl (Nat.le_of_ble_eq_true rfl) ?_
  intro pp ee ss mm aa bb hh cc AA QQ G hT hnm RET
  refine v_loc (L' := [(0, .ref (ad 43))]) rfl ?_
  refine v_aload_n G 0 dX8_either1_0 rfl ?_
  refine w_callVi G hK hT (kX8_both1 hK l dC dI ct ad σ F n b t hS) (ck_X8_320 G.2.2.2.2.1 ⟨Nat.le_of_ble_eq_true rfl, Nat.le_of_ble_eq_true rfl⟩) m_recv (fun _ h => h) rfl [] rfl (Nat.le_of_ble_eq_true rfl) dX8_either1_1 ⟨Nat.le_of_ble_eq_true rfl, Nat.le_of_ble_eq_true rfl⟩ (k1 := 0) (n1 := 0) rfl rfl ?_
  rintro r1 σ1 ⟨rfl, h1_s, h1_a⟩
  refine v_topr (x2 := .int ((p_both b n (p_not b n (p_lev b n 4) (p_add b n (p_term b n (p_atom b n (p_lev b n 4))))) t).1 (envS σ))) (congrArg Value.int (congrArg (p_both b n (p_not b n (p_lev b n 4) (p_add b n (p_term b n (p_atom b n (p_lev b n 4))))) t).1 (envS_ag ag_rf))) ?_
  refine v_istore_n (L' := [(1, .int ((p_both b n (p_not b n (p_lev b n 4) (p_add b n (p_term b n (p_atom b n (p_lev b n 4))))) t).1 (envS σ))), (0, .ref (ad 43))]) G dX8_either1_4 (by decide) rfl ?_
  have loop5 : ∀ (dd : Nat) (f : Nat) (v : SF) (t1 : PS) (τ : MS), (ST F n b 1 t1 τ) → (ag pfr σ τ) → (mu n t1 < f) → (p_eithL b n (p_both b n (p_not b n (p_lev b n 4) (p_add b n (p_term b n (p_atom b n (p_lev b n 4)))))) f v t1 = p_eith b n (p_both b n (p_not b n (p_lev b n 4) (p_add b n (p_term b n (p_atom b n (p_lev b n 4)))))) t) → f < dd → V_ pp l ee rmX8_either1 ss mm aa bb hh cc 3 (dC, dI) vwCl AA QQ 0 0 (RM ct ad τ) 5 [(1, .int (v (envS σ))), (0, .ref (ad 43))] [] := by
    intro dd
    induction dd with
    | zero => intro f v t1 τ hs ha hm he hdd; exact absurd hdd (Nat.not_lt_zero _)
    | succ dd ih5 =>
      intro f v t1 τ hs ha hm he hdd
      obtain ⟨f, rfl⟩ : ∃ g, f = g + 1 := ⟨f - 1, by omega⟩
      refine v_aload_n G 1 dX8_either1_5 rfl ?_
      refine v_bipush (v := 111) G dX8_either1_6 rfl ?_
      refine v_bipush (v := 114) G dX8_either1_8 rfl ?_
      refine v_iconst (v := 0) G dX8_either1_10 rfl ?_
      refine v_iconst (v := 0) G dX8_either1_11 rfl ?_
      refine v_iconst (v := 0) G dX8_either1_12 rfl ?_
      refine v_iconst (v := 0) G dX8_either1_13 rfl ?_
      refine v_iconst (v := 0) G dX8_either1_14 rfl ?_
      refine v_iconst (v := 0) G dX8_either1_15 rfl ?_
      refine w_callVi G hK hT (kX8_isWordS hK l dC dI ct ad τ F n b 1 t1 1 3 111 114 0 0 0 0 0 0 hs (⟨(1, 3, [111, 114, 0, 0, 0, 0, 0, 0]), by decide +kernel, rfl, rfl, rfl⟩)) (ck_X8_199 G.2.2.2.2.1 ⟨Nat.le_of_ble_eq_true rfl, Nat.le_of_ble_eq_true rfl⟩) m_recv (fun _ h => h) rfl [] rfl (Nat.le_of_ble_eq_true rfl) dX8_either1_16 ⟨Nat.le_of_ble_eq_true rfl, Nat.le_of_ble_eq_true rfl⟩ (k1 := 0) (n1 := 0) rfl rfl ?_
      rintro r16 σ16 (⟨rfl, rfl, h16_h⟩ | ⟨rfl, rfl, h16_h⟩)
      · refine v_if_eq (tgt := 48) G dX8_either1_19 (by decide) (fun h19 => absurd h19 (by decide)) (fun h19 => ?_)
        refine v_aload_n G 1 dX8_either1_22 rfl ?_
        refine w_callVv G hK hT (kX8_nextS hK l dC dI ct ad τ F n b 1 t1 hs (kd_tk h16_h (by decide))) (ck_X8_196 G.2.2.2.2.1 ⟨Nat.le_of_ble_eq_true rfl, Nat.le_of_ble_eq_true rfl⟩) m_recv (fun _ h => h) rfl [] rfl (Nat.le_of_ble_eq_true rfl) dX8_either1_23 ⟨Nat.le_of_ble_eq_true rfl, Nat.le_of_ble_eq_true rfl⟩ (k1 := 0) (n1 := 0) rfl rfl ?_
        rintro σ23 ⟨h23_s, h23_a, h23_b⟩
        refine v_aload_n G 1 dX8_either1_26 rfl ?_
        refine w_callVi G hK hT (kX8_both1 hK l dC dI ct ad σ23 F n b (nxS b n t1) h23_s) (ck_X8_320 G.2.2.2.2.1 ⟨Nat.le_of_ble_eq_true rfl, Nat.le_of_ble_eq_true rfl⟩) m_recv (fun _ h => h) rfl [] rfl (Nat.le_of_ble_eq_true rfl) dX8_either1_27 ⟨Nat.le_of_ble_eq_true rfl, Nat.le_of_ble_eq_true rfl⟩ (k1 := 0) (n1 := 0) rfl rfl ?_
        rintro r27 σ27 ⟨rfl, h27_s, h27_a⟩
        refine v_topr (x2 := .int ((p_both b n (p_not b n (p_lev b n 4) (p_add b n (p_term b n (p_atom b n (p_lev b n 4))))) (nxS b n t1)).1 (envS σ))) (congrArg Value.int (congrArg (p_both b n (p_not b n (p_lev b n 4) (p_add b n (p_term b n (p_atom b n (p_lev b n 4))))) (nxS b n t1)).1 (envS_ag (ag_tr ha h23_a)))) ?_
        refine v_istore_n (L' := [(2, .int ((p_both b n (p_not b n (p_lev b n 4) (p_add b n (p_term b n (p_atom b n (p_lev b n 4))))) (nxS b n t1)).1 (envS σ))), (1, .int (v (envS σ))), (0, .ref (ad 43))]) G dX8_either1_30 (by decide) rfl ?_
        refine v_iload_n G 1 dX8_either1_31 rfl ?_
        refine v_if_ne (tgt := 39) G dX8_either1_32 (by decide) (fun h32 => ?_) (fun h32 => ?_)
        · refine v_iconst (v := 1) G dX8_either1_39 rfl ?_
          refine v_goto (tgt := 44) G dX8_either1_40 (by decide) ?_
          refine v_istore_n (L' := [(1, .int 1), (2, .int ((p_both b n (p_not b n (p_lev b n 4) (p_add b n (p_term b n (p_atom b n (p_lev b n 4))))) (nxS b n t1)).1 (envS σ))), (0, .ref (ad 43))]) G dX8_either1_44 (by decide) rfl ?_
          refine v_goto (tgt := 5) G dX8_either1_45 (by decide) ?_
          refine V_.sub (L' := [(1, .int 1), (0, .ref (ad 43))]) ?_ [0, 2] rfl
          refine v_loc (L' := [(1, .int ((fun e => if v e ≠ 0 ∨ (p_both b n (p_not b n (p_lev b n 4) (p_add b n (p_term b n (p_atom b n (p_lev b n 4))))) (nxS b n t1)).1 e ≠ 0 then 1 else 0) (envS σ))), (0, .ref (ad 43))]) (by dsimp only; first | rw [if_pos (by first | exact Or.inl h32 | exact Or.inr h36)] | rw [if_neg (by rintro (q | q) <;> first | exact q h32 | exact q h36)]) ?_
          exact ih5  f (fun e => if v e ≠ 0 ∨ (p_both b n (p_not b n (p_lev b n 4) (p_add b n (p_term b n (p_atom b n (p_lev b n 4))))) (nxS b n t1)).1 e ≠ 0 then 1 else 0) ((p_both b n (p_not b n (p_lev b n 4) (p_add b n (p_term b n (p_atom b n (p_lev b n 4))))) (nxS b n t1)).2) σ27 h27_s (ag_tr (ag_tr ha h23_a) h27_a) (mu_step (tk_wf hs.2.1) h16_h (by decide) (p_both_ok (p_not_ok (p_lev_ok 4) (p_add_ok (p_term_ok (p_atom_ok (p_lev_ok 4)))))) hm) (by rw [← he, p_eithL, if_pos h16_h]) (by omega)
        · refine v_iload_n G 0 dX8_either1_35 rfl ?_
          refine v_if_eq (tgt := 43) G dX8_either1_36 (by decide) (fun h36 => ?_) (fun h36 => ?_)
          · refine v_iconst (v := 0) G dX8_either1_43 rfl ?_
            refine v_istore_n (L' := [(1, .int 0), (2, .int ((p_both b n (p_not b n (p_lev b n 4) (p_add b n (p_term b n (p_atom b n (p_lev b n 4))))) (nxS b n t1)).1 (envS σ))), (0, .ref (ad 43))]) G dX8_either1_44 (by decide) rfl ?_
            refine v_goto (tgt := 5) G dX8_either1_45 (by decide) ?_
            refine V_.sub (L' := [(1, .int 0), (0, .ref (ad 43))]) ?_ [0, 2] rfl
            refine v_loc (L' := [(1, .int ((fun e => if v e ≠ 0 ∨ (p_both b n (p_not b n (p_lev b n 4) (p_add b n (p_term b n (p_atom b n (p_lev b n 4))))) (nxS b n t1)).1 e ≠ 0 then 1 else 0) (envS σ))), (0, .ref (ad 43))]) (by dsimp only; first | rw [if_pos (by first | exact Or.inl h32 | exact Or.inr h36)] | rw [if_neg (by rintro (q | q) <;> first | exact q h32 | exact q h36)]) ?_
            exact ih5  f (fun e => if v e ≠ 0 ∨ (p_both b n (p_not b n (p_lev b n 4) (p_add b n (p_term b n (p_atom b n (p_lev b n 4))))) (nxS b n t1)).1 e ≠ 0 then 1 else 0) ((p_both b n (p_not b n (p_lev b n 4) (p_add b n (p_term b n (p_atom b n (p_lev b n 4))))) (nxS b n t1)).2) σ27 h27_s (ag_tr (ag_tr ha h23_a) h27_a) (mu_step (tk_wf hs.2.1) h16_h (by decide) (p_both_ok (p_not_ok (p_lev_ok 4) (p_add_ok (p_term_ok (p_atom_ok (p_lev_ok 4)))))) hm) (by rw [← he, p_eithL, if_pos h16_h]) (by omega)
          · refine v_iconst (v := 1) G dX8_either1_39 rfl ?_
            refine v_goto (tgt := 44) G dX8_either1_40 (by decide) ?_
            refine v_istore_n (L' := [(1, .int 1), (2, .int ((p_both b n (p_not b n (p_lev b n 4) (p_add b n (p_term b n (p_atom b n (p_lev b n 4))))) (nxS b n t1)).1 (envS σ))), (0, .ref (ad 43))]) G dX8_either1_44 (by decide) rfl ?_
            refine v_goto (tgt := 5) G dX8_either1_45 (by decide) ?_
            refine V_.sub (L' := [(1, .int 1), (0, .ref (ad 43))]) ?_ [0, 2] rfl
            refine v_loc (L' := [(1, .int ((fun e => if v e ≠ 0 ∨ (p_both b n (p_not b n (p_lev b n 4) (p_add b n (p_term b n (p_atom b n (p_lev b n 4))))) (nxS b n t1)).1 e ≠ 0 then 1 else 0) (envS σ))), (0, .ref (ad 43))]) (by dsimp only; first | rw [if_pos (by first | exact Or.inl h32 | exact Or.inr h36)] | rw [if_neg (by rintro (q | q) <;> first | exact q h32 | exact q h36)]) ?_
            exact ih5  f (fun e => if v e ≠ 0 ∨ (p_both b n (p_not b n (p_lev b n 4) (p_add b n (p_term b n (p_atom b n (p_lev b n 4))))) (nxS b n t1)).1 e ≠ 0 then 1 else 0) ((p_both b n (p_not b n (p_lev b n 4) (p_add b n (p_term b n (p_atom b n (p_lev b n 4))))) (nxS b n t1)).2) σ27 h27_s (ag_tr (ag_tr ha h23_a) h27_a) (mu_step (tk_wf hs.2.1) h16_h (by decide) (p_both_ok (p_not_ok (p_lev_ok 4) (p_add_ok (p_term_ok (p_atom_ok (p_lev_ok 4)))))) hm) (by rw [← he, p_eithL, if_pos h16_h]) (by omega)
      · refine v_if_eq (tgt := 48) G dX8_either1_19 (by decide) (fun h19 => ?_) (fun h19 => absurd h19 (by decide))
        refine v_iload_n G 0 dX8_either1_48 rfl ?_
        refine RET _ _ _ _ _ _ rfl (Nat.le_of_ble_eq_true rfl) (Nat.le_of_ble_eq_true rfl) dX8_either1_49 (fun ws hw => ⟨_, hw, ?_⟩)
        clear RET G hT hnm
        rw [show p_eith b n (p_both b n (p_not b n (p_lev b n 4) (p_add b n (p_term b n (p_atom b n (p_lev b n 4)))))) t = (v, t1) by rw [← he, p_eithL, if_neg (by rw [h16_h]; decide)]]
        exact ⟨rfl, hs, ha⟩
  refine V_.sub (L' := [(1, .int ((p_both b n (p_not b n (p_lev b n 4) (p_add b n (p_term b n (p_atom b n (p_lev b n 4))))) t).1 (envS σ))), (0, .ref (ad 43))]) ?_ [0, 1] rfl
  refine v_loc (L' := [(1, .int (((p_both b n (p_not b n (p_lev b n 4) (p_add b n (p_term b n (p_atom b n (p_lev b n 4))))) t).1) (envS σ))), (0, .ref (ad 43))]) (rfl) ?_
  exact loop5 _ (n + 2) ((p_both b n (p_not b n (p_lev b n 4) (p_add b n (p_term b n (p_atom b n (p_lev b n 4))))) t).1) ((p_both b n (p_not b n (p_lev b n 4) (p_add b n (p_term b n (p_atom b n (p_lev b n 4))))) t).2) σ1 h1_s h1_a (by have := mu_le (n := n) (s := (p_both b n (p_not b n (p_lev b n 4) (p_add b n (p_term b n (p_atom b n (p_lev b n 4))))) t).2); omega) rfl (Nat.lt_succ_self _)
abbrev rmX8_atom0 : Room := { frames := 34, cells := 0, slots := 0, locals := 751 }
set_option maxHeartbeats 4000000 in
theorem kX8_atom0 {KT : (Nat → Prop) → State → Heap → Prop} (hK : KTok KT) (l : Launch) (dC : Nat → ClassId) (dI : Nat → Nat → Nat) (ct ad : Nat → Nat) (σ : MS) (F : Nat) (n : Nat) (b : Nat → Int32) (t : PS) (hS : ST F n b 0 t σ) : MC KT (dC, dI) vwCl (tysF ct) l yX8_atom0 cX8_atom0 2 (some .int) rmX8_atom0 [.ref (ad 43)] (RM ct ad σ) (QI_ (dC, dI) vwCl (RM ct ad) (fun (r : Int32) (σ' : MS) => ((p_atom b n (p_lev b n 5) t).1 (envS σ)) = r ∧ ST F n b 0 (p_atom b n (p_lev b n 5) t).2 σ' ∧ ag pfr σ σ')) := by
  refine MC.ofI (own := RX8) pl_X8 rfl (Nat.le_of_ble_eq_true rfl) ?_
  intro pp ee ss mm aa bb hh cc AA QQ G hT hnm RET
  refine v_loc (L' := [(0, .ref (ad 43))]) rfl ?_
  refine v_iconst (v := 0) G dX8_atom0_0 rfl ?_
  refine v_istore_n (L' := [(1, .int 0), (0, .ref (ad 43))]) G dX8_atom0_1 (by decide) rfl ?_
  refine v_aload_n G 1 dX8_atom0_2 rfl ?_
  refine v_bipush (v := 45) G dX8_atom0_3 rfl ?_
  refine w_callVi G hK hT (kX8_isSignS hK l dC dI ct ad σ F n b 0 t 45 hS) (ck_X8_221 G.2.2.2.2.1 ⟨Nat.le_of_ble_eq_true rfl, Nat.le_of_ble_eq_true rfl⟩) m_recv (fun _ h => h) rfl [] rfl (Nat.le_of_ble_eq_true rfl) dX8_atom0_5 ⟨Nat.le_of_ble_eq_true rfl, Nat.le_of_ble_eq_true rfl⟩ (k1 := 0) (n1 := 0) rfl rfl ?_
  rintro r5 σ5 (⟨rfl, rfl, h5_h⟩ | ⟨rfl, rfl, h5_h⟩)
  · refine v_if_eq (tgt := 37) G dX8_atom0_8 (by decide) (fun h8 => absurd h8 (by decide)) (fun h8 => ?_)
    refine v_aload_n G 1 dX8_atom0_11 rfl ?_
    refine w_callVi G hK hT (kX8_opens hK l dC dI ct ad σ F n b 0 t hS (kd_tk h5_h (by decide)) (by decide)) (ck_X8_224 G.2.2.2.2.1 ⟨Nat.le_of_ble_eq_true rfl, Nat.le_of_ble_eq_true rfl⟩) m_recv (fun _ h => h) rfl [] rfl (Nat.le_of_ble_eq_true rfl) dX8_atom0_12 ⟨Nat.le_of_ble_eq_true rfl, Nat.le_of_ble_eq_true rfl⟩ (k1 := 0) (n1 := 0) rfl rfl ?_
    rintro r12 σ12 (⟨rfl, h12_k, h12_s, h12_a⟩ | ⟨rfl, h12_k, h12_s, h12_a⟩)
    · refine v_if_eq (tgt := 161) G dX8_atom0_15 (by decide) (fun h15 => absurd h15 (by decide)) (fun h15 => ?_)
      refine v_aload_n G 1 dX8_atom0_18 rfl ?_
      refine w_callVi G hK hT (kX8_atom1 hK l dC dI ct ad σ12 F n b (nxS b n t) h12_s) (ck_X8_308 G.2.2.2.2.1 ⟨Nat.le_of_ble_eq_true rfl, Nat.le_of_ble_eq_true rfl⟩) m_recv (fun _ h => h) rfl [] rfl (Nat.le_of_ble_eq_true rfl) dX8_atom0_19 ⟨Nat.le_of_ble_eq_true rfl, Nat.le_of_ble_eq_true rfl⟩ (k1 := 0) (n1 := 0) rfl rfl ?_
      rintro r19 σ19 ⟨rfl, h19_s, h19_a⟩
      refine v_topr (x2 := .int ((p_atom b n (p_lev b n 4) (nxS b n t)).1 (envS σ))) (congrArg Value.int (congrArg (p_atom b n (p_lev b n 4) (nxS b n t)).1 (envS_ag (ag_tr ag_rf h12_a)))) ?_
      refine v_ineg G dX8_atom0_22 ?_
      refine v_istore_n (L' := [(1, .int (-((p_atom b n (p_lev b n 4) (nxS b n t)).1 (envS σ)))), (0, .ref (ad 43))]) G dX8_atom0_23 (by decide) rfl ?_
      refine v_aload_n G 1 dX8_atom0_24 rfl ?_
      refine v_dup G dX8_atom0_25 rfl ?_
      refine m_get (v := .int (σ19.1 24 0)) G 24 (by decide) rfl q1318 rfl dX8_atom0_26 ?_
      refine v_iconst (v := 1) G dX8_atom0_29 rfl ?_
      refine v_isub G dX8_atom0_30 ?_
      refine m_putI G 24 (by decide) q1318 rfl rfl rfl dX8_atom0_31 ?_
      have hS34 : ST F n b 0 (p_atom b n (p_lev b n 4) (nxS b n t)).2 (mset σ19 24 0 ((σ19.1 24 0) - 1)) := ST_cl h19_s (ix_sub h19_s.2.2 (ix_lit 1 rfl) (by omega))
      refine v_goto (tgt := 161) G dX8_atom0_34 (by decide) ?_
      refine v_iload_n G 0 dX8_atom0_161 rfl ?_
      refine RET _ _ _ _ _ _ rfl (Nat.le_of_ble_eq_true rfl) (Nat.le_of_ble_eq_true rfl) dX8_atom0_162 (fun ws hw => ⟨_, hw, ?_⟩)
      clear RET G hT hnm
      rw [show p_atom b n (p_lev b n 5) t = _ from p_atom_m h5_h]
      exact ⟨rfl, hS34, (ag_tr (ag_tr (ag_tr ag_rf h12_a) h19_a) (ag_set (by decide)))⟩
    · exact False.elim (by exact absurd h12_k (by decide))
  · refine v_if_eq (tgt := 37) G dX8_atom0_8 (by decide) (fun h8 => ?_) (fun h8 => absurd h8 (by decide))
    refine v_aload_n G 1 dX8_atom0_37 rfl ?_
    refine v_bipush (v := 40) G dX8_atom0_38 rfl ?_
    refine w_callVi G hK hT (kX8_isSignS hK l dC dI ct ad σ F n b 0 t 40 hS) (ck_X8_221 G.2.2.2.2.1 ⟨Nat.le_of_ble_eq_true rfl, Nat.le_of_ble_eq_true rfl⟩) m_recv (fun _ h => h) rfl [] rfl (Nat.le_of_ble_eq_true rfl) dX8_atom0_40 ⟨Nat.le_of_ble_eq_true rfl, Nat.le_of_ble_eq_true rfl⟩ (k1 := 0) (n1 := 0) rfl rfl ?_
    rintro r40 σ40 (⟨rfl, rfl, h40_h⟩ | ⟨rfl, rfl, h40_h⟩)
    · refine v_if_eq (tgt := 95) G dX8_atom0_43 (by decide) (fun h43 => absurd h43 (by decide)) (fun h43 => ?_)
      refine v_aload_n G 1 dX8_atom0_46 rfl ?_
      refine w_callVi G hK hT (kX8_opens hK l dC dI ct ad σ F n b 0 t hS (kd_tk h40_h (by decide)) (by decide)) (ck_X8_224 G.2.2.2.2.1 ⟨Nat.le_of_ble_eq_true rfl, Nat.le_of_ble_eq_true rfl⟩) m_recv (fun _ h => h) rfl [] rfl (Nat.le_of_ble_eq_true rfl) dX8_atom0_47 ⟨Nat.le_of_ble_eq_true rfl, Nat.le_of_ble_eq_true rfl⟩ (k1 := 0) (n1 := 0) rfl rfl ?_
      rintro r47 σ47 (⟨rfl, h47_k, h47_s, h47_a⟩ | ⟨rfl, h47_k, h47_s, h47_a⟩)
      · refine v_if_eq (tgt := 161) G dX8_atom0_50 (by decide) (fun h50 => absurd h50 (by decide)) (fun h50 => ?_)
        refine v_aload_n G 1 dX8_atom0_53 rfl ?_
        refine w_callVi G hK hT (kX8_either1 hK l dC dI ct ad σ47 F n b (nxS b n t) h47_s) (ck_X8_323 G.2.2.2.2.1 ⟨Nat.le_of_ble_eq_true rfl, Nat.le_of_ble_eq_true rfl⟩) m_recv (fun _ h => h) rfl [] rfl (Nat.le_of_ble_eq_true rfl) dX8_atom0_54 ⟨Nat.le_of_ble_eq_true rfl, Nat.le_of_ble_eq_true rfl⟩ (k1 := 0) (n1 := 0) rfl rfl ?_
        rintro r54 σ54 ⟨rfl, h54_s, h54_a⟩
        refine v_topr (x2 := .int ((p_eith b n (p_both b n (p_not b n (p_lev b n 4) (p_add b n (p_term b n (p_atom b n (p_lev b n 4)))))) (nxS b n t)).1 (envS σ))) (congrArg Value.int (congrArg (p_eith b n (p_both b n (p_not b n (p_lev b n 4) (p_add b n (p_term b n (p_atom b n (p_lev b n 4)))))) (nxS b n t)).1 (envS_ag (ag_tr ag_rf h47_a)))) ?_
        refine v_istore_n (L' := [(1, .int ((p_eith b n (p_both b n (p_not b n (p_lev b n 4) (p_add b n (p_term b n (p_atom b n (p_lev b n 4)))))) (nxS b n t)).1 (envS σ))), (0, .ref (ad 43))]) G dX8_atom0_57 (by decide) rfl ?_
        refine v_aload_n G 1 dX8_atom0_58 rfl ?_
        refine v_bipush (v := 41) G dX8_atom0_59 rfl ?_
        refine w_callVi G hK hT (kX8_isSignS hK l dC dI ct ad σ54 F n b 1 ((p_eith b n (p_both b n (p_not b n (p_lev b n 4) (p_add b n (p_term b n (p_atom b n (p_lev b n 4)))))) (nxS b n t)).2) 41 h54_s) (ck_X8_221 G.2.2.2.2.1 ⟨Nat.le_of_ble_eq_true rfl, Nat.le_of_ble_eq_true rfl⟩) m_recv (fun _ h => h) rfl [] rfl (Nat.le_of_ble_eq_true rfl) dX8_atom0_61 ⟨Nat.le_of_ble_eq_true rfl, Nat.le_of_ble_eq_true rfl⟩ (k1 := 0) (n1 := 0) rfl rfl ?_
        rintro r61 σ61 (⟨rfl, rfl, h61_h⟩ | ⟨rfl, rfl, h61_h⟩)
        · refine v_if_ne (tgt := 71) G dX8_atom0_64 (by decide) (fun h64 => ?_) (fun h64 => absurd h64 (by decide))
          refine v_aload_n G 1 dX8_atom0_71 rfl ?_
          refine v_dup G dX8_atom0_72 rfl ?_
          refine m_get (v := .int (σ54.1 24 0)) G 24 (by decide) rfl q1318 rfl dX8_atom0_73 ?_
          refine v_iconst (v := 1) G dX8_atom0_76 rfl ?_
          refine v_isub G dX8_atom0_77 ?_
          refine m_putI G 24 (by decide) q1318 rfl rfl rfl dX8_atom0_78 ?_
          have hS81 : ST F n b 0 (p_eith b n (p_both b n (p_not b n (p_lev b n 4) (p_add b n (p_term b n (p_atom b n (p_lev b n 4)))))) (nxS b n t)).2 (mset σ54 24 0 ((σ54.1 24 0) - 1)) := ST_cl h54_s (ix_sub h54_s.2.2 (ix_lit 1 rfl) (by omega))
          refine v_aload_n G 1 dX8_atom0_81 rfl ?_
          refine m_get (v := .int (σ54.1 25 0)) G 25 (by decide) rfl q1319 rfl dX8_atom0_82 ?_
          refine v_if_ne (tgt := 161) G dX8_atom0_85 (by decide) (fun h85 => False.elim (by exact h85 (ST_bad (σ := (mset σ54 24 0 ((σ54.1 24 0) - 1))) hS81 (kd_tk h61_h (by decide))))) (fun h85 => ?_)
          refine v_aload_n G 1 dX8_atom0_88 rfl ?_
          refine w_callVv G hK hT (kX8_nextS hK l dC dI ct ad (mset σ54 24 0 ((σ54.1 24 0) - 1)) F n b 0 ((p_eith b n (p_both b n (p_not b n (p_lev b n 4) (p_add b n (p_term b n (p_atom b n (p_lev b n 4)))))) (nxS b n t)).2) hS81 (kd_tk h61_h (by decide))) (ck_X8_196 G.2.2.2.2.1 ⟨Nat.le_of_ble_eq_true rfl, Nat.le_of_ble_eq_true rfl⟩) m_recv (fun _ h => h) rfl [] rfl (Nat.le_of_ble_eq_true rfl) dX8_atom0_89 ⟨Nat.le_of_ble_eq_true rfl, Nat.le_of_ble_eq_true rfl⟩ (k1 := 0) (n1 := 0) rfl rfl ?_
          rintro σ89 ⟨h89_s, h89_a, h89_b⟩
          refine v_goto (tgt := 161) G dX8_atom0_92 (by decide) ?_
          refine v_iload_n G 0 dX8_atom0_161 rfl ?_
          refine RET _ _ _ _ _ _ rfl (Nat.le_of_ble_eq_true rfl) (Nat.le_of_ble_eq_true rfl) dX8_atom0_162 (fun ws hw => ⟨_, hw, ?_⟩)
          clear RET G hT hnm
          rw [show p_atom b n (p_lev b n 5) t = _ from p_atom_oy h5_h h40_h h61_h]
          exact ⟨rfl, h89_s, (ag_tr (ag_tr (ag_tr (ag_tr ag_rf h47_a) h54_a) (ag_set (by decide))) h89_a)⟩
        · refine v_if_ne (tgt := 71) G dX8_atom0_64 (by decide) (fun h64 => absurd h64 (by decide)) (fun h64 => ?_)
          refine v_aload_n G 1 dX8_atom0_67 rfl ?_
          refine w_callVv G hK hT (kX8_failS hK l dC dI ct ad σ54 F n b 1 ((p_eith b n (p_both b n (p_not b n (p_lev b n 4) (p_add b n (p_term b n (p_atom b n (p_lev b n 4)))))) (nxS b n t)).2) h54_s) (ck_X8_193 G.2.2.2.2.1 ⟨Nat.le_of_ble_eq_true rfl, Nat.le_of_ble_eq_true rfl⟩) m_recv (fun _ h => h) rfl [] rfl (Nat.le_of_ble_eq_true rfl) dX8_atom0_68 ⟨Nat.le_of_ble_eq_true rfl, Nat.le_of_ble_eq_true rfl⟩ (k1 := 0) (n1 := 0) rfl rfl ?_
          rintro σ68 ⟨h68_s, h68_a, h68_b⟩
          refine v_aload_n G 1 dX8_atom0_71 rfl ?_
          refine v_dup G dX8_atom0_72 rfl ?_
          refine m_get (v := .int (σ68.1 24 0)) G 24 (by decide) rfl q1318 rfl dX8_atom0_73 ?_
          refine v_iconst (v := 1) G dX8_atom0_76 rfl ?_
          refine v_isub G dX8_atom0_77 ?_
          refine m_putI G 24 (by decide) q1318 rfl rfl rfl dX8_atom0_78 ?_
          have hS81 : ST F n b 0 (faS (p_eith b n (p_both b n (p_not b n (p_lev b n 4) (p_add b n (p_term b n (p_atom b n (p_lev b n 4)))))) (nxS b n t)).2) (mset σ68 24 0 ((σ68.1 24 0) - 1)) := ST_cl h68_s (ix_sub h68_s.2.2 (ix_lit 1 rfl) (by omega))
          refine v_aload_n G 1 dX8_atom0_81 rfl ?_
          refine m_get (v := .int (σ68.1 25 0)) G 25 (by decide) rfl q1319 rfl dX8_atom0_82 ?_
          refine v_if_ne (tgt := 161) G dX8_atom0_85 (by decide) (fun h85 => ?_) (fun h85 => False.elim (by rw [h68_b] at h85; exact absurd h85 (by decide)))
          refine v_iload_n G 0 dX8_atom0_161 rfl ?_
          refine RET _ _ _ _ _ _ rfl (Nat.le_of_ble_eq_true rfl) (Nat.le_of_ble_eq_true rfl) dX8_atom0_162 (fun ws hw => ⟨_, hw, ?_⟩)
          clear RET G hT hnm
          rw [show p_atom b n (p_lev b n 5) t = _ from p_atom_on h5_h h40_h h61_h]
          exact ⟨rfl, hS81, (ag_tr (ag_tr (ag_tr (ag_tr ag_rf h47_a) h54_a) h68_a) (ag_set (by decide)))⟩
      · exact False.elim (by exact absurd h47_k (by decide))
    · refine v_if_eq (tgt := 95) G dX8_atom0_43 (by decide) (fun h43 => ?_) (fun h43 => absurd h43 (by decide))
      refine v_aload_n G 1 dX8_atom0_95 rfl ?_
      refine m_get (v := .int (σ.1 25 0)) G 25 (by decide) rfl q1319 rfl dX8_atom0_96 ?_
      refine v_if_ne (tgt := 123) G dX8_atom0_99 (by decide) (fun h99 => ?_) (fun h99 => ?_)
      · refine v_aload_n G 1 dX8_atom0_123 rfl ?_
        refine m_get (v := .int (σ.1 25 0)) G 25 (by decide) rfl q1319 rfl dX8_atom0_124 ?_
        refine v_if_ne (tgt := 157) G dX8_atom0_127 (by decide) (fun h127 => ?_) (fun h127 => False.elim (by exact h99 h127))
        refine v_aload_n G 1 dX8_atom0_157 rfl ?_
        refine w_callVv G hK hT (kX8_failS hK l dC dI ct ad σ F n b 0 t hS) (ck_X8_193 G.2.2.2.2.1 ⟨Nat.le_of_ble_eq_true rfl, Nat.le_of_ble_eq_true rfl⟩) m_recv (fun _ h => h) rfl [] rfl (Nat.le_of_ble_eq_true rfl) dX8_atom0_158 ⟨Nat.le_of_ble_eq_true rfl, Nat.le_of_ble_eq_true rfl⟩ (k1 := 0) (n1 := 0) rfl rfl ?_
        rintro σ158 ⟨h158_s, h158_a, h158_b⟩
        refine v_iload_n G 0 dX8_atom0_161 rfl ?_
        refine RET _ _ _ _ _ _ rfl (Nat.le_of_ble_eq_true rfl) (Nat.le_of_ble_eq_true rfl) dX8_atom0_162 (fun ws hw => ⟨_, hw, ?_⟩)
        clear RET G hT hnm
        rw [show p_atom b n (p_lev b n 5) t = _ from p_atom_f h5_h h40_h (tk_nnum hS.2.1 (fun q => by first | exact h99 q.1 | exact h107 q.2)) (tk_nwd hS.2.1 (fun q => by first | exact h99 q.1 | exact h127 q.1 | exact h135 q.2)).1]
        exact ⟨rfl, h158_s, (ag_tr ag_rf h158_a)⟩
      · refine v_aload_n G 1 dX8_atom0_102 rfl ?_
        refine m_get (v := .int (σ.1 21 0)) G 21 (by decide) rfl q1315 rfl dX8_atom0_103 ?_
        refine v_iconst (v := 2) G dX8_atom0_106 rfl ?_
        refine v_icmp_ne (tgt := 123) G dX8_atom0_107 (by decide) (fun h107 => ?_) (fun h107 => ?_)
        · refine v_aload_n G 1 dX8_atom0_123 rfl ?_
          refine m_get (v := .int (σ.1 25 0)) G 25 (by decide) rfl q1319 rfl dX8_atom0_124 ?_
          refine v_if_ne (tgt := 157) G dX8_atom0_127 (by decide) (fun h127 => False.elim (by exact h127 h99)) (fun h127 => ?_)
          refine v_aload_n G 1 dX8_atom0_130 rfl ?_
          refine m_get (v := .int (σ.1 21 0)) G 21 (by decide) rfl q1315 rfl dX8_atom0_131 ?_
          refine v_iconst (v := 1) G dX8_atom0_134 rfl ?_
          refine v_icmp_ne (tgt := 157) G dX8_atom0_135 (by decide) (fun h135 => ?_) (fun h135 => ?_)
          · refine v_aload_n G 1 dX8_atom0_157 rfl ?_
            refine w_callVv G hK hT (kX8_failS hK l dC dI ct ad σ F n b 0 t hS) (ck_X8_193 G.2.2.2.2.1 ⟨Nat.le_of_ble_eq_true rfl, Nat.le_of_ble_eq_true rfl⟩) m_recv (fun _ h => h) rfl [] rfl (Nat.le_of_ble_eq_true rfl) dX8_atom0_158 ⟨Nat.le_of_ble_eq_true rfl, Nat.le_of_ble_eq_true rfl⟩ (k1 := 0) (n1 := 0) rfl rfl ?_
            rintro σ158 ⟨h158_s, h158_a, h158_b⟩
            refine v_iload_n G 0 dX8_atom0_161 rfl ?_
            refine RET _ _ _ _ _ _ rfl (Nat.le_of_ble_eq_true rfl) (Nat.le_of_ble_eq_true rfl) dX8_atom0_162 (fun ws hw => ⟨_, hw, ?_⟩)
            clear RET G hT hnm
            rw [show p_atom b n (p_lev b n 5) t = _ from p_atom_f h5_h h40_h (tk_nnum hS.2.1 (fun q => by first | exact h99 q.1 | exact h107 q.2)) (tk_nwd hS.2.1 (fun q => by first | exact h99 q.1 | exact h127 q.1 | exact h135 q.2)).1]
            exact ⟨rfl, h158_s, (ag_tr ag_rf h158_a)⟩
          · refine v_aload_n G 1 dX8_atom0_138 rfl ?_
            refine w_callVi G hK hT (kX8_name hK l dC dI ct ad σ F n b 0 t hS) (ck_X8_228 G.2.2.2.2.1 ⟨Nat.le_of_ble_eq_true rfl, Nat.le_of_ble_eq_true rfl⟩) m_recv (fun _ h => h) rfl [] rfl (Nat.le_of_ble_eq_true rfl) dX8_atom0_139 ⟨Nat.le_of_ble_eq_true rfl, Nat.le_of_ble_eq_true rfl⟩ (k1 := 0) (n1 := 0) rfl rfl ?_
            rintro r139 σ139 (⟨rfl, rfl, h139_h⟩ | ⟨rfl, h139_s, h139_a, h139_b, h139_h⟩)
            · refine v_topr (congrArg Value.int (show envS σ (n_ (vl t)) = envS σ (n_ (vl t)) by rw [envS_ag ag_rf])) ?_
              refine v_istore_n (L' := [(1, .int (envS σ (n_ (vl t)))), (0, .ref (ad 43))]) G dX8_atom0_142 (by decide) rfl ?_
              refine v_aload_n G 1 dX8_atom0_143 rfl ?_
              refine m_get (v := .int (σ.1 25 0)) G 25 (by decide) rfl q1319 rfl dX8_atom0_144 ?_
              refine v_if_ne (tgt := 161) G dX8_atom0_147 (by decide) (fun h147 => False.elim (by exact h147 (by assumption))) (fun h147 => ?_)
              refine v_aload_n G 1 dX8_atom0_150 rfl ?_
              refine w_callVv G hK hT (kX8_nextS hK l dC dI ct ad σ F n b 0 t hS (by rw [h139_h]; decide)) (ck_X8_196 G.2.2.2.2.1 ⟨Nat.le_of_ble_eq_true rfl, Nat.le_of_ble_eq_true rfl⟩) m_recv (fun _ h => h) rfl [] rfl (Nat.le_of_ble_eq_true rfl) dX8_atom0_151 ⟨Nat.le_of_ble_eq_true rfl, Nat.le_of_ble_eq_true rfl⟩ (k1 := 0) (n1 := 0) rfl rfl ?_
              rintro σ151 ⟨h151_s, h151_a, h151_b⟩
              refine v_goto (tgt := 161) G dX8_atom0_154 (by decide) ?_
              refine v_iload_n G 0 dX8_atom0_161 rfl ?_
              refine RET _ _ _ _ _ _ rfl (Nat.le_of_ble_eq_true rfl) (Nat.le_of_ble_eq_true rfl) dX8_atom0_162 (fun ws hw => ⟨_, hw, ?_⟩)
              clear RET G hT hnm
              rw [show p_atom b n (p_lev b n 5) t = _ from p_atom_2 h5_h h40_h h139_h]
              exact ⟨rfl, h151_s, (ag_tr ag_rf h151_a)⟩
            · refine v_istore_n (L' := [(1, .int 0), (0, .ref (ad 43))]) G dX8_atom0_142 (by decide) rfl ?_
              refine v_aload_n G 1 dX8_atom0_143 rfl ?_
              refine m_get (v := .int (σ139.1 25 0)) G 25 (by decide) rfl q1319 rfl dX8_atom0_144 ?_
              refine v_if_ne (tgt := 161) G dX8_atom0_147 (by decide) (fun h147 => ?_) (fun h147 => False.elim (by rw [h139_b] at h147; exact absurd h147 (by decide)))
              refine v_iload_n G 0 dX8_atom0_161 rfl ?_
              refine RET _ _ _ _ _ _ rfl (Nat.le_of_ble_eq_true rfl) (Nat.le_of_ble_eq_true rfl) dX8_atom0_162 (fun ws hw => ⟨_, hw, ?_⟩)
              clear RET G hT hnm
              rw [show p_atom b n (p_lev b n 5) t = _ from p_atom_f h5_h h40_h (tk_nnum hS.2.1 (fun q => by first | exact h99 q.1 | exact h107 q.2)) h139_h]
              exact ⟨rfl, h139_s, (ag_tr ag_rf h139_a)⟩
        · refine v_aload_n G 1 dX8_atom0_110 rfl ?_
          have hnum := tk_num hS.2.1 h99 h107
          refine m_get (v := .long (σ.2 23 0)) G 23 (by decide) rfl q1317 rfl dX8_atom0_111 ?_
          refine v_l2i (v := (σ.2 23 0).toInt32) G dX8_atom0_114 rfl ?_
          refine v_topr (x2 := .int (vl t)) (congrArg Value.int (show (σ.2 23 0).toInt32 = vl t by rw [hnum.2]; exact lg_l2i_i2l _)) ?_
          refine v_istore_n (L' := [(1, .int (vl t)), (0, .ref (ad 43))]) G dX8_atom0_115 (by decide) rfl ?_
          refine v_aload_n G 1 dX8_atom0_116 rfl ?_
          refine w_callVv G hK hT (kX8_nextS hK l dC dI ct ad σ F n b 0 t hS (by rw [hnum.1]; decide)) (ck_X8_196 G.2.2.2.2.1 ⟨Nat.le_of_ble_eq_true rfl, Nat.le_of_ble_eq_true rfl⟩) m_recv (fun _ h => h) rfl [] rfl (Nat.le_of_ble_eq_true rfl) dX8_atom0_117 ⟨Nat.le_of_ble_eq_true rfl, Nat.le_of_ble_eq_true rfl⟩ (k1 := 0) (n1 := 0) rfl rfl ?_
          rintro σ117 ⟨h117_s, h117_a, h117_b⟩
          refine v_goto (tgt := 161) G dX8_atom0_120 (by decide) ?_
          refine v_iload_n G 0 dX8_atom0_161 rfl ?_
          refine RET _ _ _ _ _ _ rfl (Nat.le_of_ble_eq_true rfl) (Nat.le_of_ble_eq_true rfl) dX8_atom0_162 (fun ws hw => ⟨_, hw, ?_⟩)
          clear RET G hT hnm
          rw [show p_atom b n (p_lev b n 5) t = _ from p_atom_3 h5_h h40_h hnum.1]
          exact ⟨rfl, h117_s, (ag_tr ag_rf h117_a)⟩
abbrev rmX8_term0 : Room := { frames := 35, cells := 0, slots := 0, locals := 772 }
set_option maxHeartbeats 4000000 in
theorem kX8_term0 {KT : (Nat → Prop) → State → Heap → Prop} (hK : KTok KT) (l : Launch) (dC : Nat → ClassId) (dI : Nat → Nat → Nat) (ct ad : Nat → Nat) (σ : MS) (F : Nat) (n : Nat) (b : Nat → Int32) (t : PS) (hS : ST F n b 0 t σ) : MC KT (dC, dI) vwCl (tysF ct) l yX8_term0 cX8_term0 2 (some .int) rmX8_term0 [.ref (ad 43)] (RM ct ad σ) (QI_ (dC, dI) vwCl (RM ct ad) (fun (r : Int32) (σ' : MS) => ((p_term b n (p_atom b n (p_lev b n 5)) t).1 (envS σ)) = r ∧ ST F n b 0 (p_term b n (p_atom b n (p_lev b n 5)) t).2 σ' ∧ ag pfr σ σ')) := by
  refine MC.ofI (own := RX8) pl_X8 rfl (Nat.le_of_ble_eq_true rfl) ?_
  intro pp ee ss mm aa bb hh cc AA QQ G hT hnm RET
  refine v_loc (L' := [(0, .ref (ad 43))]) rfl ?_
  refine v_aload_n G 0 dX8_term0_0 rfl ?_
  refine w_callVi G hK hT (kX8_atom0 hK l dC dI ct ad σ F n b t hS) (ck_X8_326 G.2.2.2.2.1 ⟨Nat.le_of_ble_eq_true rfl, Nat.le_of_ble_eq_true rfl⟩) m_recv (fun _ h => h) rfl [] rfl (Nat.le_of_ble_eq_true rfl) dX8_term0_1 ⟨Nat.le_of_ble_eq_true rfl, Nat.le_of_ble_eq_true rfl⟩ (k1 := 0) (n1 := 0) rfl rfl ?_
  rintro r1 σ1 ⟨rfl, h1_s, h1_a⟩
  refine v_topr (x2 := .int ((p_atom b n (p_lev b n 5) t).1 (envS σ))) (congrArg Value.int (congrArg (p_atom b n (p_lev b n 5) t).1 (envS_ag ag_rf))) ?_
  refine v_istore_n (L' := [(1, .int ((p_atom b n (p_lev b n 5) t).1 (envS σ))), (0, .ref (ad 43))]) G dX8_term0_4 (by decide) rfl ?_
  have loop5 : ∀ (dd : Nat) (f : Nat) (v : SF) (t1 : PS) (τ : MS), (ST F n b 0 t1 τ) → (ag pfr σ τ) → (mu n t1 < f) → (p_termL b n (p_atom b n (p_lev b n 5)) f v t1 = p_term b n (p_atom b n (p_lev b n 5)) t) → f < dd → V_ pp l ee rmX8_term0 ss mm aa bb hh cc 2 (dC, dI) vwCl AA QQ 0 0 (RM ct ad τ) 5 [(1, .int (v (envS σ))), (0, .ref (ad 43))] [] := by
    intro dd
    induction dd with
    | zero => intro f v t1 τ hs ha hm he hdd; exact absurd hdd (Nat.not_lt_zero _)
    | succ dd ih5 =>
      intro f v t1 τ hs ha hm he hdd
      obtain ⟨f, rfl⟩ : ∃ g, f = g + 1 := ⟨f - 1, by omega⟩
      refine v_aload_n G 1 dX8_term0_5 rfl ?_
      refine v_bipush (v := 42) G dX8_term0_6 rfl ?_
      refine w_callVi G hK hT (kX8_isSignS hK l dC dI ct ad τ F n b 0 t1 42 hs) (ck_X8_221 G.2.2.2.2.1 ⟨Nat.le_of_ble_eq_true rfl, Nat.le_of_ble_eq_true rfl⟩) m_recv (fun _ h => h) rfl [] rfl (Nat.le_of_ble_eq_true rfl) dX8_term0_8 ⟨Nat.le_of_ble_eq_true rfl, Nat.le_of_ble_eq_true rfl⟩ (k1 := 0) (n1 := 0) rfl rfl ?_
      rintro r8 σ8 (⟨rfl, rfl, h8_h⟩ | ⟨rfl, rfl, h8_h⟩)
      · refine v_if_eq (tgt := 28) G dX8_term0_11 (by decide) (fun h11 => absurd h11 (by decide)) (fun h11 => ?_)
        refine v_aload_n G 1 dX8_term0_14 rfl ?_
        refine w_callVv G hK hT (kX8_nextS hK l dC dI ct ad τ F n b 0 t1 hs (kd_tk h8_h (by decide))) (ck_X8_196 G.2.2.2.2.1 ⟨Nat.le_of_ble_eq_true rfl, Nat.le_of_ble_eq_true rfl⟩) m_recv (fun _ h => h) rfl [] rfl (Nat.le_of_ble_eq_true rfl) dX8_term0_15 ⟨Nat.le_of_ble_eq_true rfl, Nat.le_of_ble_eq_true rfl⟩ (k1 := 0) (n1 := 0) rfl rfl ?_
        rintro σ15 ⟨h15_s, h15_a, h15_b⟩
        refine v_iload_n G 0 dX8_term0_18 rfl ?_
        refine v_aload_n G 1 dX8_term0_19 rfl ?_
        refine w_callVi G hK hT (kX8_atom0 hK l dC dI ct ad σ15 F n b (nxS b n t1) h15_s) (ck_X8_326 G.2.2.2.2.1 ⟨Nat.le_of_ble_eq_true rfl, Nat.le_of_ble_eq_true rfl⟩) m_recv (fun _ h => h) rfl [.int (v (envS σ))] rfl (Nat.le_of_ble_eq_true rfl) dX8_term0_20 ⟨Nat.le_of_ble_eq_true rfl, Nat.le_of_ble_eq_true rfl⟩ (k1 := 0) (n1 := 0) rfl rfl ?_
        rintro r20 σ20 ⟨rfl, h20_s, h20_a⟩
        refine v_topr (x2 := .int ((p_atom b n (p_lev b n 5) (nxS b n t1)).1 (envS σ))) (congrArg Value.int (congrArg (p_atom b n (p_lev b n 5) (nxS b n t1)).1 (envS_ag (ag_tr ha h15_a)))) ?_
        refine v_imul G dX8_term0_23 ?_
        refine v_istore_n (L' := [(1, .int ((v (envS σ)) * ((p_atom b n (p_lev b n 5) (nxS b n t1)).1 (envS σ)))), (0, .ref (ad 43))]) G dX8_term0_24 (by decide) rfl ?_
        refine v_goto (tgt := 5) G dX8_term0_25 (by decide) ?_
        refine V_.sub (L' := [(1, .int ((v (envS σ)) * ((p_atom b n (p_lev b n 5) (nxS b n t1)).1 (envS σ)))), (0, .ref (ad 43))]) ?_ [0, 1] rfl
        refine v_loc (L' := [(1, .int ((fun e => v e * (p_atom b n (p_lev b n 5) (nxS b n t1)).1 e) (envS σ))), (0, .ref (ad 43))]) (rfl) ?_
        exact ih5  f (fun e => v e * (p_atom b n (p_lev b n 5) (nxS b n t1)).1 e) ((p_atom b n (p_lev b n 5) (nxS b n t1)).2) σ20 h20_s (ag_tr (ag_tr ha h15_a) h20_a) (mu_step (tk_wf hs.2.1) h8_h (by decide) (p_atom_ok (p_lev_ok 5)) hm) (by rw [← he, p_termL, if_pos h8_h]) (by omega)
      · refine v_if_eq (tgt := 28) G dX8_term0_11 (by decide) (fun h11 => ?_) (fun h11 => absurd h11 (by decide))
        refine v_iload_n G 0 dX8_term0_28 rfl ?_
        refine RET _ _ _ _ _ _ rfl (Nat.le_of_ble_eq_true rfl) (Nat.le_of_ble_eq_true rfl) dX8_term0_29 (fun ws hw => ⟨_, hw, ?_⟩)
        clear RET G hT hnm
        rw [show p_term b n (p_atom b n (p_lev b n 5)) t = (v, t1) by rw [← he, p_termL, if_neg (by rw [h8_h]; decide)]]
        exact ⟨rfl, hs, ha⟩
  refine V_.sub (L' := [(1, .int ((p_atom b n (p_lev b n 5) t).1 (envS σ))), (0, .ref (ad 43))]) ?_ [0, 1] rfl
  refine v_loc (L' := [(1, .int (((p_atom b n (p_lev b n 5) t).1) (envS σ))), (0, .ref (ad 43))]) (rfl) ?_
  exact loop5 _ (n + 2) ((p_atom b n (p_lev b n 5) t).1) ((p_atom b n (p_lev b n 5) t).2) σ1 h1_s h1_a (by have := mu_le (n := n) (s := (p_atom b n (p_lev b n 5) t).2); omega) rfl (Nat.lt_succ_self _)
abbrev rmX8_added0 : Room := { frames := 36, cells := 0, slots := 0, locals := 793 }
set_option maxHeartbeats 4000000 in
theorem kX8_added0 {KT : (Nat → Prop) → State → Heap → Prop} (hK : KTok KT) (l : Launch) (dC : Nat → ClassId) (dI : Nat → Nat → Nat) (ct ad : Nat → Nat) (σ : MS) (F : Nat) (n : Nat) (b : Nat → Int32) (t : PS) (hS : ST F n b 0 t σ) : MC KT (dC, dI) vwCl (tysF ct) l yX8_added0 cX8_added0 4 (some .int) rmX8_added0 [.ref (ad 43)] (RM ct ad σ) (QI_ (dC, dI) vwCl (RM ct ad) (fun (r : Int32) (σ' : MS) => ((p_add b n (p_term b n (p_atom b n (p_lev b n 5))) t).1 (envS σ)) = r ∧ ST F n b 0 (p_add b n (p_term b n (p_atom b n (p_lev b n 5))) t).2 σ' ∧ ag pfr σ σ')) := by
  refine MC.ofI (own := RX8) pl_X8 rfl (Nat.le_of_ble_eq_true rfl) ?_
  intro pp ee ss mm aa bb hh cc AA QQ G hT hnm RET
  refine v_loc (L' := [(0, .ref (ad 43))]) rfl ?_
  refine v_aload_n G 0 dX8_added0_0 rfl ?_
  refine w_callVi G hK hT (kX8_term0 hK l dC dI ct ad σ F n b t hS) (ck_X8_329 G.2.2.2.2.1 ⟨Nat.le_of_ble_eq_true rfl, Nat.le_of_ble_eq_true rfl⟩) m_recv (fun _ h => h) rfl [] rfl (Nat.le_of_ble_eq_true rfl) dX8_added0_1 ⟨Nat.le_of_ble_eq_true rfl, Nat.le_of_ble_eq_true rfl⟩ (k1 := 0) (n1 := 0) rfl rfl ?_
  rintro r1 σ1 ⟨rfl, h1_s, h1_a⟩
  refine v_topr (x2 := .int ((p_term b n (p_atom b n (p_lev b n 5)) t).1 (envS σ))) (congrArg Value.int (congrArg (p_term b n (p_atom b n (p_lev b n 5)) t).1 (envS_ag ag_rf))) ?_
  refine v_istore_n (L' := [(1, .int ((p_term b n (p_atom b n (p_lev b n 5)) t).1 (envS σ))), (0, .ref (ad 43))]) G dX8_added0_4 (by decide) rfl ?_
  have loop5 : ∀ (dd : Nat) (f : Nat) (v : SF) (t1 : PS) (τ : MS), (ST F n b 0 t1 τ) → (ag pfr σ τ) → (mu n t1 < f) → (p_addL b n (p_term b n (p_atom b n (p_lev b n 5))) f v t1 = p_add b n (p_term b n (p_atom b n (p_lev b n 5))) t) → f < dd → V_ pp l ee rmX8_added0 ss mm aa bb hh cc 4 (dC, dI) vwCl AA QQ 0 0 (RM ct ad τ) 5 [(1, .int (v (envS σ))), (0, .ref (ad 43))] [] := by
    intro dd
    induction dd with
    | zero => intro f v t1 τ hs ha hm he hdd; exact absurd hdd (Nat.not_lt_zero _)
    | succ dd ih5 =>
      intro f v t1 τ hs ha hm he hdd
      obtain ⟨f, rfl⟩ : ∃ g, f = g + 1 := ⟨f - 1, by omega⟩
      refine v_aload_n G 1 dX8_added0_5 rfl ?_
      refine v_bipush (v := 43) G dX8_added0_6 rfl ?_
      refine w_callVi G hK hT (kX8_isSignS hK l dC dI ct ad τ F n b 0 t1 43 hs) (ck_X8_221 G.2.2.2.2.1 ⟨Nat.le_of_ble_eq_true rfl, Nat.le_of_ble_eq_true rfl⟩) m_recv (fun _ h => h) rfl [] rfl (Nat.le_of_ble_eq_true rfl) dX8_added0_8 ⟨Nat.le_of_ble_eq_true rfl, Nat.le_of_ble_eq_true rfl⟩ (k1 := 0) (n1 := 0) rfl rfl ?_
      rintro r8 σ8 (⟨rfl, rfl, h8_h⟩ | ⟨rfl, rfl, h8_h⟩)
      · refine v_if_ne (tgt := 23) G dX8_added0_11 (by decide) (fun h11 => ?_) (fun h11 => absurd h11 (by decide))
        refine v_aload_n G 1 dX8_added0_23 rfl ?_
        refine m_get (v := .long (τ.2 23 0)) G 23 (by decide) rfl q1317 rfl dX8_added0_24 ?_
        refine v_ldc2 G q1558 dX8_added0_27 ?_
        refine v_lcmp G dX8_added0_30 ?_
        refine v_if_ne (tgt := 38) G dX8_added0_31 (by decide) (fun h31 => False.elim (by exact h31 ((le_of_lcmp _ _).1.mpr (tk_sgv hs.2.1 h8_h)))) (fun h31 => ?_)
        refine v_iconst (v := 1) G dX8_added0_34 rfl ?_
        refine v_goto (tgt := 39) G dX8_added0_35 (by decide) ?_
        refine v_istore_n (L' := [(2, .int 1), (1, .int (v (envS σ))), (0, .ref (ad 43))]) G dX8_added0_39 (by decide) rfl ?_
        refine v_aload_n G 2 dX8_added0_40 rfl ?_
        refine w_callVv G hK hT (kX8_nextS hK l dC dI ct ad τ F n b 0 t1 hs (kd_tk h8_h (by decide))) (ck_X8_196 G.2.2.2.2.1 ⟨Nat.le_of_ble_eq_true rfl, Nat.le_of_ble_eq_true rfl⟩) m_recv (fun _ h => h) rfl [] rfl (Nat.le_of_ble_eq_true rfl) dX8_added0_41 ⟨Nat.le_of_ble_eq_true rfl, Nat.le_of_ble_eq_true rfl⟩ (k1 := 0) (n1 := 0) rfl rfl ?_
        rintro σ41 ⟨h41_s, h41_a, h41_b⟩
        refine v_aload_n G 2 dX8_added0_44 rfl ?_
        refine w_callVi G hK hT (kX8_term0 hK l dC dI ct ad σ41 F n b (nxS b n t1) h41_s) (ck_X8_329 G.2.2.2.2.1 ⟨Nat.le_of_ble_eq_true rfl, Nat.le_of_ble_eq_true rfl⟩) m_recv (fun _ h => h) rfl [] rfl (Nat.le_of_ble_eq_true rfl) dX8_added0_45 ⟨Nat.le_of_ble_eq_true rfl, Nat.le_of_ble_eq_true rfl⟩ (k1 := 0) (n1 := 0) rfl rfl ?_
        rintro r45 σ45 ⟨rfl, h45_s, h45_a⟩
        refine v_topr (x2 := .int ((p_term b n (p_atom b n (p_lev b n 5)) (nxS b n t1)).1 (envS σ))) (congrArg Value.int (congrArg (p_term b n (p_atom b n (p_lev b n 5)) (nxS b n t1)).1 (envS_ag (ag_tr ha h41_a)))) ?_
        refine v_istore_n (L' := [(3, .int ((p_term b n (p_atom b n (p_lev b n 5)) (nxS b n t1)).1 (envS σ))), (2, .int 1), (1, .int (v (envS σ))), (0, .ref (ad 43))]) G dX8_added0_48 (by decide) rfl ?_
        refine v_iload_n G 1 dX8_added0_49 rfl ?_
        refine v_if_eq (tgt := 59) G dX8_added0_50 (by decide) (fun h50 => absurd h50 (by decide)) (fun h50 => ?_)
        refine v_iload_n G 2 dX8_added0_53 rfl ?_
        refine v_iload_n G 0 dX8_added0_54 rfl ?_
        refine v_iadd G dX8_added0_55 ?_
        refine v_goto (tgt := 62) G dX8_added0_56 (by decide) ?_
        refine v_istore_n (L' := [(1, .int ((v (envS σ)) + ((p_term b n (p_atom b n (p_lev b n 5)) (nxS b n t1)).1 (envS σ)))), (3, .int ((p_term b n (p_atom b n (p_lev b n 5)) (nxS b n t1)).1 (envS σ))), (2, .int 1), (0, .ref (ad 43))]) G dX8_added0_62 (by decide) rfl ?_
        refine v_goto (tgt := 5) G dX8_added0_63 (by decide) ?_
        refine V_.sub (L' := [(1, .int ((v (envS σ)) + ((p_term b n (p_atom b n (p_lev b n 5)) (nxS b n t1)).1 (envS σ)))), (0, .ref (ad 43))]) ?_ [0, 3] rfl
        refine v_loc (L' := [(1, .int ((fun e => v e + (p_term b n (p_atom b n (p_lev b n 5)) (nxS b n t1)).1 e) (envS σ))), (0, .ref (ad 43))]) (rfl) ?_
        exact ih5  f (fun e => v e + (p_term b n (p_atom b n (p_lev b n 5)) (nxS b n t1)).1 e) ((p_term b n (p_atom b n (p_lev b n 5)) (nxS b n t1)).2) σ45 h45_s (ag_tr (ag_tr ha h41_a) h45_a) (mu_step (tk_wf hs.2.1) h8_h (by decide) (p_term_ok (p_atom_ok (p_lev_ok 5))) hm) (by rw [← he, p_addL, if_pos h8_h]) (by omega)
      · refine v_if_ne (tgt := 23) G dX8_added0_11 (by decide) (fun h11 => absurd h11 (by decide)) (fun h11 => ?_)
        refine v_aload_n G 1 dX8_added0_14 rfl ?_
        refine v_bipush (v := 45) G dX8_added0_15 rfl ?_
        refine w_callVi G hK hT (kX8_isSignS hK l dC dI ct ad τ F n b 0 t1 45 hs) (ck_X8_221 G.2.2.2.2.1 ⟨Nat.le_of_ble_eq_true rfl, Nat.le_of_ble_eq_true rfl⟩) m_recv (fun _ h => h) rfl [] rfl (Nat.le_of_ble_eq_true rfl) dX8_added0_17 ⟨Nat.le_of_ble_eq_true rfl, Nat.le_of_ble_eq_true rfl⟩ (k1 := 0) (n1 := 0) rfl rfl ?_
        rintro r17 σ17 (⟨rfl, rfl, h17_h⟩ | ⟨rfl, rfl, h17_h⟩)
        · refine v_if_eq (tgt := 66) G dX8_added0_20 (by decide) (fun h20 => absurd h20 (by decide)) (fun h20 => ?_)
          refine v_aload_n G 1 dX8_added0_23 rfl ?_
          refine m_get (v := .long (τ.2 23 0)) G 23 (by decide) rfl q1317 rfl dX8_added0_24 ?_
          refine v_ldc2 G q1558 dX8_added0_27 ?_
          refine v_lcmp G dX8_added0_30 ?_
          refine v_if_ne (tgt := 38) G dX8_added0_31 (by decide) (fun h31 => ?_) (fun h31 => False.elim (by have hz := (le_of_lcmp _ _).1.mp h31; rw [tk_sgv hs.2.1 h17_h] at hz; exact absurd hz (by decide)))
          refine v_iconst (v := 0) G dX8_added0_38 rfl ?_
          refine v_istore_n (L' := [(2, .int 0), (1, .int (v (envS σ))), (0, .ref (ad 43))]) G dX8_added0_39 (by decide) rfl ?_
          refine v_aload_n G 2 dX8_added0_40 rfl ?_
          refine w_callVv G hK hT (kX8_nextS hK l dC dI ct ad τ F n b 0 t1 hs (kd_tk h17_h (by decide))) (ck_X8_196 G.2.2.2.2.1 ⟨Nat.le_of_ble_eq_true rfl, Nat.le_of_ble_eq_true rfl⟩) m_recv (fun _ h => h) rfl [] rfl (Nat.le_of_ble_eq_true rfl) dX8_added0_41 ⟨Nat.le_of_ble_eq_true rfl, Nat.le_of_ble_eq_true rfl⟩ (k1 := 0) (n1 := 0) rfl rfl ?_
          rintro σ41 ⟨h41_s, h41_a, h41_b⟩
          refine v_aload_n G 2 dX8_added0_44 rfl ?_
          refine w_callVi G hK hT (kX8_term0 hK l dC dI ct ad σ41 F n b (nxS b n t1) h41_s) (ck_X8_329 G.2.2.2.2.1 ⟨Nat.le_of_ble_eq_true rfl, Nat.le_of_ble_eq_true rfl⟩) m_recv (fun _ h => h) rfl [] rfl (Nat.le_of_ble_eq_true rfl) dX8_added0_45 ⟨Nat.le_of_ble_eq_true rfl, Nat.le_of_ble_eq_true rfl⟩ (k1 := 0) (n1 := 0) rfl rfl ?_
          rintro r45 σ45 ⟨rfl, h45_s, h45_a⟩
          refine v_topr (x2 := .int ((p_term b n (p_atom b n (p_lev b n 5)) (nxS b n t1)).1 (envS σ))) (congrArg Value.int (congrArg (p_term b n (p_atom b n (p_lev b n 5)) (nxS b n t1)).1 (envS_ag (ag_tr ha h41_a)))) ?_
          refine v_istore_n (L' := [(3, .int ((p_term b n (p_atom b n (p_lev b n 5)) (nxS b n t1)).1 (envS σ))), (2, .int 0), (1, .int (v (envS σ))), (0, .ref (ad 43))]) G dX8_added0_48 (by decide) rfl ?_
          refine v_iload_n G 1 dX8_added0_49 rfl ?_
          refine v_if_eq (tgt := 59) G dX8_added0_50 (by decide) (fun h50 => ?_) (fun h50 => absurd h50 (by decide))
          refine v_iload_n G 2 dX8_added0_59 rfl ?_
          refine v_iload_n G 0 dX8_added0_60 rfl ?_
          refine v_isub G dX8_added0_61 ?_
          refine v_istore_n (L' := [(1, .int ((v (envS σ)) - ((p_term b n (p_atom b n (p_lev b n 5)) (nxS b n t1)).1 (envS σ)))), (3, .int ((p_term b n (p_atom b n (p_lev b n 5)) (nxS b n t1)).1 (envS σ))), (2, .int 0), (0, .ref (ad 43))]) G dX8_added0_62 (by decide) rfl ?_
          refine v_goto (tgt := 5) G dX8_added0_63 (by decide) ?_
          refine V_.sub (L' := [(1, .int ((v (envS σ)) - ((p_term b n (p_atom b n (p_lev b n 5)) (nxS b n t1)).1 (envS σ)))), (0, .ref (ad 43))]) ?_ [0, 3] rfl
          refine v_loc (L' := [(1, .int ((fun e => v e - (p_term b n (p_atom b n (p_lev b n 5)) (nxS b n t1)).1 e) (envS σ))), (0, .ref (ad 43))]) (rfl) ?_
          exact ih5  f (fun e => v e - (p_term b n (p_atom b n (p_lev b n 5)) (nxS b n t1)).1 e) ((p_term b n (p_atom b n (p_lev b n 5)) (nxS b n t1)).2) σ45 h45_s (ag_tr (ag_tr ha h41_a) h45_a) (mu_step (tk_wf hs.2.1) h17_h (by decide) (p_term_ok (p_atom_ok (p_lev_ok 5))) hm) (by rw [← he, p_addL, if_neg (by rw [h8_h]; decide), if_pos h17_h]) (by omega)
        · refine v_if_eq (tgt := 66) G dX8_added0_20 (by decide) (fun h20 => ?_) (fun h20 => absurd h20 (by decide))
          refine v_iload_n G 0 dX8_added0_66 rfl ?_
          refine RET _ _ _ _ _ _ rfl (Nat.le_of_ble_eq_true rfl) (Nat.le_of_ble_eq_true rfl) dX8_added0_67 (fun ws hw => ⟨_, hw, ?_⟩)
          clear RET G hT hnm
          rw [show p_add b n (p_term b n (p_atom b n (p_lev b n 5))) t = (v, t1) by rw [← he, p_addL, if_neg (by rw [h8_h]; decide), if_neg (by rw [h17_h]; decide)]]
          exact ⟨rfl, hs, ha⟩
  refine V_.sub (L' := [(1, .int ((p_term b n (p_atom b n (p_lev b n 5)) t).1 (envS σ))), (0, .ref (ad 43))]) ?_ [0, 1] rfl
  refine v_loc (L' := [(1, .int (((p_term b n (p_atom b n (p_lev b n 5)) t).1) (envS σ))), (0, .ref (ad 43))]) (rfl) ?_
  exact loop5 _ (n + 2) ((p_term b n (p_atom b n (p_lev b n 5)) t).1) ((p_term b n (p_atom b n (p_lev b n 5)) t).2) σ1 h1_s h1_a (by have := mu_le (n := n) (s := (p_term b n (p_atom b n (p_lev b n 5)) t).2); omega) rfl (Nat.lt_succ_self _)
abbrev rmX8_not0 : Room := { frames := 37, cells := 0, slots := 0, locals := 816 }
set_option maxHeartbeats 4000000 in
theorem kX8_not0 {KT : (Nat → Prop) → State → Heap → Prop} (hK : KTok KT) (l : Launch) (dC : Nat → ClassId) (dI : Nat → Nat → Nat) (ct ad : Nat → Nat) (σ : MS) (F : Nat) (n : Nat) (b : Nat → Int32) (t : PS) (hS : ST F n b 0 t σ) : MC KT (dC, dI) vwCl (tysF ct) l yX8_not0 cX8_not0 4 (some .int) rmX8_not0 [.ref (ad 43)] (RM ct ad σ) (QI_ (dC, dI) vwCl (RM ct ad) (fun (r : Int32) (σ' : MS) => ((p_not b n (p_lev b n 5) (p_add b n (p_term b n (p_atom b n (p_lev b n 5)))) t).1 (envS σ)) = r ∧ ST F n b 0 (p_not b n (p_lev b n 5) (p_add b n (p_term b n (p_atom b n (p_lev b n 5)))) t).2 σ' ∧ ag pfr σ σ')) := by
  refine MC.ofI (own := RX8) pl_X8 rfl (Nat.le_of_ble_eq_true rfl) ?_
  intro pp ee ss mm aa bb hh cc AA QQ G hT hnm RET
  refine v_loc (L' := [(0, .ref (ad 43))]) rfl ?_
  refine v_aload_n G 0 dX8_not0_0 rfl ?_
  refine v_bipush (v := 110) G dX8_not0_1 rfl ?_
  refine v_bipush (v := 111) G dX8_not0_3 rfl ?_
  refine v_bipush (v := 116) G dX8_not0_5 rfl ?_
  refine v_iconst (v := 0) G dX8_not0_7 rfl ?_
  refine v_iconst (v := 0) G dX8_not0_8 rfl ?_
  refine v_iconst (v := 0) G dX8_not0_9 rfl ?_
  refine v_iconst (v := 0) G dX8_not0_10 rfl ?_
  refine v_iconst (v := 0) G dX8_not0_11 rfl ?_
  refine w_callVi G hK hT (kX8_isWordS hK l dC dI ct ad σ F n b 0 t 1 5 110 111 116 0 0 0 0 0 hS (⟨(1, 5, [110, 111, 116, 0, 0, 0, 0, 0]), by decide +kernel, rfl, rfl, rfl⟩)) (ck_X8_199 G.2.2.2.2.1 ⟨Nat.le_of_ble_eq_true rfl, Nat.le_of_ble_eq_true rfl⟩) m_recv (fun _ h => h) rfl [] rfl (Nat.le_of_ble_eq_true rfl) dX8_not0_12 ⟨Nat.le_of_ble_eq_true rfl, Nat.le_of_ble_eq_true rfl⟩ (k1 := 0) (n1 := 0) rfl rfl ?_
  rintro r12 σ12 (⟨rfl, rfl, h12_h⟩ | ⟨rfl, rfl, h12_h⟩)
  · refine v_if_eq (tgt := 52) G dX8_not0_15 (by decide) (fun h15 => absurd h15 (by decide)) (fun h15 => ?_)
    refine v_aload_n G 0 dX8_not0_18 rfl ?_
    refine w_callVi G hK hT (kX8_opens hK l dC dI ct ad σ F n b 0 t hS (kd_tk h12_h (by decide)) (by decide)) (ck_X8_224 G.2.2.2.2.1 ⟨Nat.le_of_ble_eq_true rfl, Nat.le_of_ble_eq_true rfl⟩) m_recv (fun _ h => h) rfl [] rfl (Nat.le_of_ble_eq_true rfl) dX8_not0_19 ⟨Nat.le_of_ble_eq_true rfl, Nat.le_of_ble_eq_true rfl⟩ (k1 := 0) (n1 := 0) rfl rfl ?_
    rintro r19 σ19 (⟨rfl, h19_k, h19_s, h19_a⟩ | ⟨rfl, h19_k, h19_s, h19_a⟩)
    · refine v_if_ne (tgt := 27) G dX8_not0_22 (by decide) (fun h22 => ?_) (fun h22 => absurd h22 (by decide))
      refine v_aload_n G 0 dX8_not0_27 rfl ?_
      refine w_callVi G hK hT (kX8_not1 hK l dC dI ct ad σ19 F n b (nxS b n t) h19_s) (ck_X8_317 G.2.2.2.2.1 ⟨Nat.le_of_ble_eq_true rfl, Nat.le_of_ble_eq_true rfl⟩) m_recv (fun _ h => h) rfl [] rfl (Nat.le_of_ble_eq_true rfl) dX8_not0_28 ⟨Nat.le_of_ble_eq_true rfl, Nat.le_of_ble_eq_true rfl⟩ (k1 := 0) (n1 := 0) rfl rfl ?_
      rintro r28 σ28 ⟨rfl, h28_s, h28_a⟩
      refine v_topr (x2 := .int ((p_not b n (p_lev b n 4) (p_add b n (p_term b n (p_atom b n (p_lev b n 4)))) (nxS b n t)).1 (envS σ))) (congrArg Value.int (congrArg (p_not b n (p_lev b n 4) (p_add b n (p_term b n (p_atom b n (p_lev b n 4)))) (nxS b n t)).1 (envS_ag (ag_tr ag_rf h19_a)))) ?_
      refine v_istore_n (L' := [(1, .int ((p_not b n (p_lev b n 4) (p_add b n (p_term b n (p_atom b n (p_lev b n 4)))) (nxS b n t)).1 (envS σ))), (0, .ref (ad 43))]) G dX8_not0_31 (by decide) rfl ?_
      refine v_aload_n G 1 dX8_not0_32 rfl ?_
      refine v_dup G dX8_not0_33 rfl ?_
      refine m_get (v := .int (σ28.1 24 0)) G 24 (by decide) rfl q1318 rfl dX8_not0_34 ?_
      refine v_iconst (v := 1) G dX8_not0_37 rfl ?_
      refine v_isub G dX8_not0_38 ?_
      refine m_putI G 24 (by decide) q1318 rfl rfl rfl dX8_not0_39 ?_
      have hS42 : ST F n b 0 (p_not b n (p_lev b n 4) (p_add b n (p_term b n (p_atom b n (p_lev b n 4)))) (nxS b n t)).2 (mset σ28 24 0 ((σ28.1 24 0) - 1)) := ST_cl h28_s (ix_sub h28_s.2.2 (ix_lit 1 rfl) (by omega))
      refine v_iload_n G 0 dX8_not0_42 rfl ?_
      refine v_if_ne (tgt := 50) G dX8_not0_43 (by decide) (fun h43 => ?_) (fun h43 => ?_)
      · refine v_iconst (v := 0) G dX8_not0_50 rfl ?_
        refine RET _ _ _ _ _ _ rfl (Nat.le_of_ble_eq_true rfl) (Nat.le_of_ble_eq_true rfl) dX8_not0_51 (fun ws hw => ⟨_, hw, ?_⟩)
        clear RET G hT hnm
        rw [show p_not b n (p_lev b n 5) (p_add b n (p_term b n (p_atom b n (p_lev b n 5)))) t = _ from p_not_1 h12_h]
        exact ⟨by first | exact if_pos h43 | exact if_neg h43, hS42, (ag_tr (ag_tr (ag_tr ag_rf h19_a) h28_a) (ag_set (by decide)))⟩
      · refine v_iconst (v := 1) G dX8_not0_46 rfl ?_
        refine v_goto (tgt := 51) G dX8_not0_47 (by decide) ?_
        refine RET _ _ _ _ _ _ rfl (Nat.le_of_ble_eq_true rfl) (Nat.le_of_ble_eq_true rfl) dX8_not0_51 (fun ws hw => ⟨_, hw, ?_⟩)
        clear RET G hT hnm
        rw [show p_not b n (p_lev b n 5) (p_add b n (p_term b n (p_atom b n (p_lev b n 5)))) t = _ from p_not_1 h12_h]
        exact ⟨by first | exact if_pos h43 | exact if_neg h43, hS42, (ag_tr (ag_tr (ag_tr ag_rf h19_a) h28_a) (ag_set (by decide)))⟩
    · exact False.elim (by exact absurd h19_k (by decide))
  · refine v_if_eq (tgt := 52) G dX8_not0_15 (by decide) (fun h15 => ?_) (fun h15 => absurd h15 (by decide))
    refine v_aload_n G 0 dX8_not0_52 rfl ?_
    refine w_callVi G hK hT (kX8_added0 hK l dC dI ct ad σ F n b t hS) (ck_X8_332 G.2.2.2.2.1 ⟨Nat.le_of_ble_eq_true rfl, Nat.le_of_ble_eq_true rfl⟩) m_recv (fun _ h => h) rfl [] rfl (Nat.le_of_ble_eq_true rfl) dX8_not0_53 ⟨Nat.le_of_ble_eq_true rfl, Nat.le_of_ble_eq_true rfl⟩ (k1 := 0) (n1 := 0) rfl rfl ?_
    rintro r53 σ53 ⟨rfl, h53_s, h53_a⟩
    refine v_topr (x2 := .int ((p_add b n (p_term b n (p_atom b n (p_lev b n 5))) t).1 (envS σ))) (congrArg Value.int (congrArg (p_add b n (p_term b n (p_atom b n (p_lev b n 5))) t).1 (envS_ag ag_rf))) ?_
    refine v_istore_n (L' := [(1, .int ((p_add b n (p_term b n (p_atom b n (p_lev b n 5))) t).1 (envS σ))), (0, .ref (ad 43))]) G dX8_not0_56 (by decide) rfl ?_
    refine v_aload_n G 1 dX8_not0_57 rfl ?_
    refine v_bipush (v := 60) G dX8_not0_58 rfl ?_
    refine w_callVi G hK hT (kX8_isSignS hK l dC dI ct ad σ53 F n b 0 ((p_add b n (p_term b n (p_atom b n (p_lev b n 5))) t).2) 60 h53_s) (ck_X8_221 G.2.2.2.2.1 ⟨Nat.le_of_ble_eq_true rfl, Nat.le_of_ble_eq_true rfl⟩) m_recv (fun _ h => h) rfl [] rfl (Nat.le_of_ble_eq_true rfl) dX8_not0_60 ⟨Nat.le_of_ble_eq_true rfl, Nat.le_of_ble_eq_true rfl⟩ (k1 := 0) (n1 := 0) rfl rfl ?_
    rintro r60 σ60 (⟨rfl, rfl, h60_h⟩ | ⟨rfl, rfl, h60_h⟩)
    · refine v_if_ne (tgt := 77) G dX8_not0_63 (by decide) (fun h63 => ?_) (fun h63 => absurd h63 (by decide))
      refine v_aload_n G 1 dX8_not0_77 rfl ?_
      refine m_get (v := .long (σ53.2 23 0)) G 23 (by decide) rfl q1317 rfl dX8_not0_78 ?_
      refine v_ldc2 G q1559 dX8_not0_81 ?_
      refine v_lcmp G dX8_not0_84 ?_
      refine v_if_ne (tgt := 92) G dX8_not0_85 (by decide) (fun h85 => False.elim (by exact h85 ((le_of_lcmp _ _).1.mpr (tk_sgv h53_s.2.1 h60_h)))) (fun h85 => ?_)
      refine v_iconst (v := 1) G dX8_not0_88 rfl ?_
      refine v_goto (tgt := 93) G dX8_not0_89 (by decide) ?_
      refine v_istore_n (L' := [(2, .int 1), (1, .int ((p_add b n (p_term b n (p_atom b n (p_lev b n 5))) t).1 (envS σ))), (0, .ref (ad 43))]) G dX8_not0_93 (by decide) rfl ?_
      refine v_aload_n G 2 dX8_not0_94 rfl ?_
      refine w_callVv G hK hT (kX8_nextS hK l dC dI ct ad σ53 F n b 0 ((p_add b n (p_term b n (p_atom b n (p_lev b n 5))) t).2) h53_s (kd_tk h60_h (by decide))) (ck_X8_196 G.2.2.2.2.1 ⟨Nat.le_of_ble_eq_true rfl, Nat.le_of_ble_eq_true rfl⟩) m_recv (fun _ h => h) rfl [] rfl (Nat.le_of_ble_eq_true rfl) dX8_not0_95 ⟨Nat.le_of_ble_eq_true rfl, Nat.le_of_ble_eq_true rfl⟩ (k1 := 0) (n1 := 0) rfl rfl ?_
      rintro σ95 ⟨h95_s, h95_a, h95_b⟩
      refine v_aload_n G 2 dX8_not0_98 rfl ?_
      refine w_callVi G hK hT (kX8_added0 hK l dC dI ct ad σ95 F n b (nxS b n (p_add b n (p_term b n (p_atom b n (p_lev b n 5))) t).2) h95_s) (ck_X8_332 G.2.2.2.2.1 ⟨Nat.le_of_ble_eq_true rfl, Nat.le_of_ble_eq_true rfl⟩) m_recv (fun _ h => h) rfl [] rfl (Nat.le_of_ble_eq_true rfl) dX8_not0_99 ⟨Nat.le_of_ble_eq_true rfl, Nat.le_of_ble_eq_true rfl⟩ (k1 := 0) (n1 := 0) rfl rfl ?_
      rintro r99 σ99 ⟨rfl, h99_s, h99_a⟩
      refine v_topr (x2 := .int ((p_add b n (p_term b n (p_atom b n (p_lev b n 5))) (nxS b n (p_add b n (p_term b n (p_atom b n (p_lev b n 5))) t).2)).1 (envS σ))) (congrArg Value.int (congrArg (p_add b n (p_term b n (p_atom b n (p_lev b n 5))) (nxS b n (p_add b n (p_term b n (p_atom b n (p_lev b n 5))) t).2)).1 (envS_ag (ag_tr (ag_tr ag_rf h53_a) h95_a)))) ?_
      refine v_istore_n (L' := [(3, .int ((p_add b n (p_term b n (p_atom b n (p_lev b n 5))) (nxS b n (p_add b n (p_term b n (p_atom b n (p_lev b n 5))) t).2)).1 (envS σ))), (2, .int 1), (1, .int ((p_add b n (p_term b n (p_atom b n (p_lev b n 5))) t).1 (envS σ))), (0, .ref (ad 43))]) G dX8_not0_102 (by decide) rfl ?_
      refine v_iload_n G 1 dX8_not0_103 rfl ?_
      refine v_if_eq (tgt := 115) G dX8_not0_104 (by decide) (fun h104 => absurd h104 (by decide)) (fun h104 => ?_)
      refine v_iload_n G 2 dX8_not0_107 rfl ?_
      refine v_iload_n G 0 dX8_not0_108 rfl ?_
      refine v_icmp_ge (tgt := 124) G dX8_not0_109 (by decide) (fun h109 => ?_) (fun h109 => ?_)
      · refine v_iconst (v := 0) G dX8_not0_124 rfl ?_
        refine RET _ _ _ _ _ _ rfl (Nat.le_of_ble_eq_true rfl) (Nat.le_of_ble_eq_true rfl) dX8_not0_125 (fun ws hw => ⟨_, hw, ?_⟩)
        clear RET G hT hnm
        rw [show p_not b n (p_lev b n 5) (p_add b n (p_term b n (p_atom b n (p_lev b n 5)))) t = _ from p_not_l h12_h h60_h]
        exact ⟨(by first | exact if_pos (by first | assumption | exact Int32.not_le.mp h109) | exact if_neg (by first | assumption | exact Int32.not_lt.mpr h109)), h99_s, (ag_tr (ag_tr (ag_tr ag_rf h53_a) h95_a) h99_a)⟩
      · refine v_goto (tgt := 120) G dX8_not0_112 (by decide) ?_
        refine v_iconst (v := 1) G dX8_not0_120 rfl ?_
        refine v_goto (tgt := 125) G dX8_not0_121 (by decide) ?_
        refine RET _ _ _ _ _ _ rfl (Nat.le_of_ble_eq_true rfl) (Nat.le_of_ble_eq_true rfl) dX8_not0_125 (fun ws hw => ⟨_, hw, ?_⟩)
        clear RET G hT hnm
        rw [show p_not b n (p_lev b n 5) (p_add b n (p_term b n (p_atom b n (p_lev b n 5)))) t = _ from p_not_l h12_h h60_h]
        exact ⟨(by first | exact if_pos (by first | assumption | exact Int32.not_le.mp h109) | exact if_neg (by first | assumption | exact Int32.not_lt.mpr h109)), h99_s, (ag_tr (ag_tr (ag_tr ag_rf h53_a) h95_a) h99_a)⟩
    · refine v_if_ne (tgt := 77) G dX8_not0_63 (by decide) (fun h63 => absurd h63 (by decide)) (fun h63 => ?_)
      refine v_aload_n G 1 dX8_not0_66 rfl ?_
      refine v_bipush (v := 61) G dX8_not0_67 rfl ?_
      refine w_callVi G hK hT (kX8_isSignS hK l dC dI ct ad σ53 F n b 0 ((p_add b n (p_term b n (p_atom b n (p_lev b n 5))) t).2) 61 h53_s) (ck_X8_221 G.2.2.2.2.1 ⟨Nat.le_of_ble_eq_true rfl, Nat.le_of_ble_eq_true rfl⟩) m_recv (fun _ h => h) rfl [] rfl (Nat.le_of_ble_eq_true rfl) dX8_not0_69 ⟨Nat.le_of_ble_eq_true rfl, Nat.le_of_ble_eq_true rfl⟩ (k1 := 0) (n1 := 0) rfl rfl ?_
      rintro r69 σ69 (⟨rfl, rfl, h69_h⟩ | ⟨rfl, rfl, h69_h⟩)
      · refine v_if_ne (tgt := 77) G dX8_not0_72 (by decide) (fun h72 => ?_) (fun h72 => absurd h72 (by decide))
        refine v_aload_n G 1 dX8_not0_77 rfl ?_
        refine m_get (v := .long (σ53.2 23 0)) G 23 (by decide) rfl q1317 rfl dX8_not0_78 ?_
        refine v_ldc2 G q1559 dX8_not0_81 ?_
        refine v_lcmp G dX8_not0_84 ?_
        refine v_if_ne (tgt := 92) G dX8_not0_85 (by decide) (fun h85 => ?_) (fun h85 => False.elim (by have hz := (le_of_lcmp _ _).1.mp h85; rw [tk_sgv h53_s.2.1 h69_h] at hz; exact absurd hz (by decide)))
        refine v_iconst (v := 0) G dX8_not0_92 rfl ?_
        refine v_istore_n (L' := [(2, .int 0), (1, .int ((p_add b n (p_term b n (p_atom b n (p_lev b n 5))) t).1 (envS σ))), (0, .ref (ad 43))]) G dX8_not0_93 (by decide) rfl ?_
        refine v_aload_n G 2 dX8_not0_94 rfl ?_
        refine w_callVv G hK hT (kX8_nextS hK l dC dI ct ad σ53 F n b 0 ((p_add b n (p_term b n (p_atom b n (p_lev b n 5))) t).2) h53_s (kd_tk h69_h (by decide))) (ck_X8_196 G.2.2.2.2.1 ⟨Nat.le_of_ble_eq_true rfl, Nat.le_of_ble_eq_true rfl⟩) m_recv (fun _ h => h) rfl [] rfl (Nat.le_of_ble_eq_true rfl) dX8_not0_95 ⟨Nat.le_of_ble_eq_true rfl, Nat.le_of_ble_eq_true rfl⟩ (k1 := 0) (n1 := 0) rfl rfl ?_
        rintro σ95 ⟨h95_s, h95_a, h95_b⟩
        refine v_aload_n G 2 dX8_not0_98 rfl ?_
        refine w_callVi G hK hT (kX8_added0 hK l dC dI ct ad σ95 F n b (nxS b n (p_add b n (p_term b n (p_atom b n (p_lev b n 5))) t).2) h95_s) (ck_X8_332 G.2.2.2.2.1 ⟨Nat.le_of_ble_eq_true rfl, Nat.le_of_ble_eq_true rfl⟩) m_recv (fun _ h => h) rfl [] rfl (Nat.le_of_ble_eq_true rfl) dX8_not0_99 ⟨Nat.le_of_ble_eq_true rfl, Nat.le_of_ble_eq_true rfl⟩ (k1 := 0) (n1 := 0) rfl rfl ?_
        rintro r99 σ99 ⟨rfl, h99_s, h99_a⟩
        refine v_topr (x2 := .int ((p_add b n (p_term b n (p_atom b n (p_lev b n 5))) (nxS b n (p_add b n (p_term b n (p_atom b n (p_lev b n 5))) t).2)).1 (envS σ))) (congrArg Value.int (congrArg (p_add b n (p_term b n (p_atom b n (p_lev b n 5))) (nxS b n (p_add b n (p_term b n (p_atom b n (p_lev b n 5))) t).2)).1 (envS_ag (ag_tr (ag_tr ag_rf h53_a) h95_a)))) ?_
        refine v_istore_n (L' := [(3, .int ((p_add b n (p_term b n (p_atom b n (p_lev b n 5))) (nxS b n (p_add b n (p_term b n (p_atom b n (p_lev b n 5))) t).2)).1 (envS σ))), (2, .int 0), (1, .int ((p_add b n (p_term b n (p_atom b n (p_lev b n 5))) t).1 (envS σ))), (0, .ref (ad 43))]) G dX8_not0_102 (by decide) rfl ?_
        refine v_iload_n G 1 dX8_not0_103 rfl ?_
        refine v_if_eq (tgt := 115) G dX8_not0_104 (by decide) (fun h104 => ?_) (fun h104 => absurd h104 (by decide))
        refine v_iload_n G 2 dX8_not0_115 rfl ?_
        refine v_iload_n G 0 dX8_not0_116 rfl ?_
        refine v_icmp_ne (tgt := 124) G dX8_not0_117 (by decide) (fun h117 => ?_) (fun h117 => ?_)
        · refine v_iconst (v := 0) G dX8_not0_124 rfl ?_
          refine RET _ _ _ _ _ _ rfl (Nat.le_of_ble_eq_true rfl) (Nat.le_of_ble_eq_true rfl) dX8_not0_125 (fun ws hw => ⟨_, hw, ?_⟩)
          clear RET G hT hnm
          rw [show p_not b n (p_lev b n 5) (p_add b n (p_term b n (p_atom b n (p_lev b n 5)))) t = _ from p_not_e h12_h h60_h h69_h]
          exact ⟨(by first | exact if_pos h117 | exact if_neg h117), h99_s, (ag_tr (ag_tr (ag_tr ag_rf h53_a) h95_a) h99_a)⟩
        · refine v_iconst (v := 1) G dX8_not0_120 rfl ?_
          refine v_goto (tgt := 125) G dX8_not0_121 (by decide) ?_
          refine RET _ _ _ _ _ _ rfl (Nat.le_of_ble_eq_true rfl) (Nat.le_of_ble_eq_true rfl) dX8_not0_125 (fun ws hw => ⟨_, hw, ?_⟩)
          clear RET G hT hnm
          rw [show p_not b n (p_lev b n 5) (p_add b n (p_term b n (p_atom b n (p_lev b n 5)))) t = _ from p_not_e h12_h h60_h h69_h]
          exact ⟨(by first | exact if_pos h117 | exact if_neg h117), h99_s, (ag_tr (ag_tr (ag_tr ag_rf h53_a) h95_a) h99_a)⟩
      · refine v_if_ne (tgt := 77) G dX8_not0_72 (by decide) (fun h72 => absurd h72 (by decide)) (fun h72 => ?_)
        refine v_iload_n G 0 dX8_not0_75 rfl ?_
        refine RET _ _ _ _ _ _ rfl (Nat.le_of_ble_eq_true rfl) (Nat.le_of_ble_eq_true rfl) dX8_not0_76 (fun ws hw => ⟨_, hw, ?_⟩)
        clear RET G hT hnm
        rw [show p_not b n (p_lev b n 5) (p_add b n (p_term b n (p_atom b n (p_lev b n 5)))) t = _ from p_not_x h12_h h60_h h69_h]
        exact ⟨rfl, h53_s, (ag_tr ag_rf h53_a)⟩
abbrev rmX8_both0 : Room := { frames := 38, cells := 0, slots := 0, locals := 839 }
set_option maxHeartbeats 4000000 in
theorem kX8_both0 {KT : (Nat → Prop) → State → Heap → Prop} (hK : KTok KT) (l : Launch) (dC : Nat → ClassId) (dI : Nat → Nat → Nat) (ct ad : Nat → Nat) (σ : MS) (F : Nat) (n : Nat) (b : Nat → Int32) (t : PS) (hS : ST F n b 0 t σ) : MC KT (dC, dI) vwCl (tysF ct) l yX8_both0 cX8_both0 3 (some .int) rmX8_both0 [.ref (ad 43)] (RM ct ad σ) (QI_ (dC, dI) vwCl (RM ct ad) (fun (r : Int32) (σ' : MS) => ((p_both b n (p_not b n (p_lev b n 5) (p_add b n (p_term b n (p_atom b n (p_lev b n 5))))) t).1 (envS σ)) = r ∧ ST F n b 0 (p_both b n (p_not b n (p_lev b n 5) (p_add b n (p_term b n (p_atom b n (p_lev b n 5))))) t).2 σ' ∧ ag pfr σ σ')) := by
  refine MC.ofI (own := RX8) pl_X8 rfl (Nat.le_of_ble_eq_true rfl) ?_
  intro pp ee ss mm aa bb hh cc AA QQ G hT hnm RET
  refine v_loc (L' := [(0, .ref (ad 43))]) rfl ?_
  refine v_aload_n G 0 dX8_both0_0 rfl ?_
  refine w_callVi G hK hT (kX8_not0 hK l dC dI ct ad σ F n b t hS) (ck_X8_335 G.2.2.2.2.1 ⟨Nat.le_of_ble_eq_true rfl, Nat.le_of_ble_eq_true rfl⟩) m_recv (fun _ h => h) rfl [] rfl (Nat.le_of_ble_eq_true rfl) dX8_both0_1 ⟨Nat.le_of_ble_eq_true rfl, Nat.le_of_ble_eq_true rfl⟩ (k1 := 0) (n1 := 0) rfl rfl ?_
  rintro r1 σ1 ⟨rfl, h1_s, h1_a⟩
  refine v_topr (x2 := .int ((p_not b n (p_lev b n 5) (p_add b n (p_term b n (p_atom b n (p_lev b n 5)))) t).1 (envS σ))) (congrArg Value.int (congrArg (p_not b n (p_lev b n 5) (p_add b n (p_term b n (p_atom b n (p_lev b n 5)))) t).1 (envS_ag ag_rf))) ?_
  refine v_istore_n (L' := [(1, .int ((p_not b n (p_lev b n 5) (p_add b n (p_term b n (p_atom b n (p_lev b n 5)))) t).1 (envS σ))), (0, .ref (ad 43))]) G dX8_both0_4 (by decide) rfl ?_
  have loop5 : ∀ (dd : Nat) (f : Nat) (v : SF) (t1 : PS) (τ : MS), (ST F n b 0 t1 τ) → (ag pfr σ τ) → (mu n t1 < f) → (p_bothL b n (p_not b n (p_lev b n 5) (p_add b n (p_term b n (p_atom b n (p_lev b n 5))))) f v t1 = p_both b n (p_not b n (p_lev b n 5) (p_add b n (p_term b n (p_atom b n (p_lev b n 5))))) t) → f < dd → V_ pp l ee rmX8_both0 ss mm aa bb hh cc 3 (dC, dI) vwCl AA QQ 0 0 (RM ct ad τ) 5 [(1, .int (v (envS σ))), (0, .ref (ad 43))] [] := by
    intro dd
    induction dd with
    | zero => intro f v t1 τ hs ha hm he hdd; exact absurd hdd (Nat.not_lt_zero _)
    | succ dd ih5 =>
      intro f v t1 τ hs ha hm he hdd
      obtain ⟨f, rfl⟩ : ∃ g, f = g + 1 := ⟨f - 1, by omega⟩
      refine v_aload_n G 1 dX8_both0_5 rfl ?_
      refine v_bipush (v := 97) G dX8_both0_6 rfl ?_
      refine v_bipush (v := 110) G dX8_both0_8 rfl ?_
      refine v_bipush (v := 100) G dX8_both0_10 rfl ?_
      refine v_iconst (v := 0) G dX8_both0_12 rfl ?_
      refine v_iconst (v := 0) G dX8_both0_13 rfl ?_
      refine v_iconst (v := 0) G dX8_both0_14 rfl ?_
      refine v_iconst (v := 0) G dX8_both0_15 rfl ?_
      refine v_iconst (v := 0) G dX8_both0_16 rfl ?_
      refine w_callVi G hK hT (kX8_isWordS hK l dC dI ct ad τ F n b 0 t1 1 4 97 110 100 0 0 0 0 0 hs (⟨(1, 4, [97, 110, 100, 0, 0, 0, 0, 0]), by decide +kernel, rfl, rfl, rfl⟩)) (ck_X8_199 G.2.2.2.2.1 ⟨Nat.le_of_ble_eq_true rfl, Nat.le_of_ble_eq_true rfl⟩) m_recv (fun _ h => h) rfl [] rfl (Nat.le_of_ble_eq_true rfl) dX8_both0_17 ⟨Nat.le_of_ble_eq_true rfl, Nat.le_of_ble_eq_true rfl⟩ (k1 := 0) (n1 := 0) rfl rfl ?_
      rintro r17 σ17 (⟨rfl, rfl, h17_h⟩ | ⟨rfl, rfl, h17_h⟩)
      · refine v_if_eq (tgt := 49) G dX8_both0_20 (by decide) (fun h20 => absurd h20 (by decide)) (fun h20 => ?_)
        refine v_aload_n G 1 dX8_both0_23 rfl ?_
        refine w_callVv G hK hT (kX8_nextS hK l dC dI ct ad τ F n b 0 t1 hs (kd_tk h17_h (by decide))) (ck_X8_196 G.2.2.2.2.1 ⟨Nat.le_of_ble_eq_true rfl, Nat.le_of_ble_eq_true rfl⟩) m_recv (fun _ h => h) rfl [] rfl (Nat.le_of_ble_eq_true rfl) dX8_both0_24 ⟨Nat.le_of_ble_eq_true rfl, Nat.le_of_ble_eq_true rfl⟩ (k1 := 0) (n1 := 0) rfl rfl ?_
        rintro σ24 ⟨h24_s, h24_a, h24_b⟩
        refine v_aload_n G 1 dX8_both0_27 rfl ?_
        refine w_callVi G hK hT (kX8_not0 hK l dC dI ct ad σ24 F n b (nxS b n t1) h24_s) (ck_X8_335 G.2.2.2.2.1 ⟨Nat.le_of_ble_eq_true rfl, Nat.le_of_ble_eq_true rfl⟩) m_recv (fun _ h => h) rfl [] rfl (Nat.le_of_ble_eq_true rfl) dX8_both0_28 ⟨Nat.le_of_ble_eq_true rfl, Nat.le_of_ble_eq_true rfl⟩ (k1 := 0) (n1 := 0) rfl rfl ?_
        rintro r28 σ28 ⟨rfl, h28_s, h28_a⟩
        refine v_topr (x2 := .int ((p_not b n (p_lev b n 5) (p_add b n (p_term b n (p_atom b n (p_lev b n 5)))) (nxS b n t1)).1 (envS σ))) (congrArg Value.int (congrArg (p_not b n (p_lev b n 5) (p_add b n (p_term b n (p_atom b n (p_lev b n 5)))) (nxS b n t1)).1 (envS_ag (ag_tr ha h24_a)))) ?_
        refine v_istore_n (L' := [(2, .int ((p_not b n (p_lev b n 5) (p_add b n (p_term b n (p_atom b n (p_lev b n 5)))) (nxS b n t1)).1 (envS σ))), (1, .int (v (envS σ))), (0, .ref (ad 43))]) G dX8_both0_31 (by decide) rfl ?_
        refine v_iload_n G 1 dX8_both0_32 rfl ?_
        refine v_if_eq (tgt := 44) G dX8_both0_33 (by decide) (fun h33 => ?_) (fun h33 => ?_)
        · refine v_iconst (v := 0) G dX8_both0_44 rfl ?_
          refine v_istore_n (L' := [(1, .int 0), (2, .int ((p_not b n (p_lev b n 5) (p_add b n (p_term b n (p_atom b n (p_lev b n 5)))) (nxS b n t1)).1 (envS σ))), (0, .ref (ad 43))]) G dX8_both0_45 (by decide) rfl ?_
          refine v_goto (tgt := 5) G dX8_both0_46 (by decide) ?_
          refine V_.sub (L' := [(1, .int 0), (0, .ref (ad 43))]) ?_ [0, 2] rfl
          refine v_loc (L' := [(1, .int ((fun e => if v e ≠ 0 ∧ (p_not b n (p_lev b n 5) (p_add b n (p_term b n (p_atom b n (p_lev b n 5)))) (nxS b n t1)).1 e ≠ 0 then 1 else 0) (envS σ))), (0, .ref (ad 43))]) (by dsimp only; first | rw [if_pos (by exact ⟨h33, h37⟩)] | rw [if_neg (by rintro ⟨q1, q2⟩; first | exact q1 h33 | exact q2 h37)]) ?_
          exact ih5  f (fun e => if v e ≠ 0 ∧ (p_not b n (p_lev b n 5) (p_add b n (p_term b n (p_atom b n (p_lev b n 5)))) (nxS b n t1)).1 e ≠ 0 then 1 else 0) ((p_not b n (p_lev b n 5) (p_add b n (p_term b n (p_atom b n (p_lev b n 5)))) (nxS b n t1)).2) σ28 h28_s (ag_tr (ag_tr ha h24_a) h28_a) (mu_step (tk_wf hs.2.1) h17_h (by decide) (p_not_ok (p_lev_ok 5) (p_add_ok (p_term_ok (p_atom_ok (p_lev_ok 5))))) hm) (by rw [← he, p_bothL, if_pos h17_h]) (by omega)
        · refine v_iload_n G 0 dX8_both0_36 rfl ?_
          refine v_if_eq (tgt := 44) G dX8_both0_37 (by decide) (fun h37 => ?_) (fun h37 => ?_)
          · refine v_iconst (v := 0) G dX8_both0_44 rfl ?_
            refine v_istore_n (L' := [(1, .int 0), (2, .int ((p_not b n (p_lev b n 5) (p_add b n (p_term b n (p_atom b n (p_lev b n 5)))) (nxS b n t1)).1 (envS σ))), (0, .ref (ad 43))]) G dX8_both0_45 (by decide) rfl ?_
            refine v_goto (tgt := 5) G dX8_both0_46 (by decide) ?_
            refine V_.sub (L' := [(1, .int 0), (0, .ref (ad 43))]) ?_ [0, 2] rfl
            refine v_loc (L' := [(1, .int ((fun e => if v e ≠ 0 ∧ (p_not b n (p_lev b n 5) (p_add b n (p_term b n (p_atom b n (p_lev b n 5)))) (nxS b n t1)).1 e ≠ 0 then 1 else 0) (envS σ))), (0, .ref (ad 43))]) (by dsimp only; first | rw [if_pos (by exact ⟨h33, h37⟩)] | rw [if_neg (by rintro ⟨q1, q2⟩; first | exact q1 h33 | exact q2 h37)]) ?_
            exact ih5  f (fun e => if v e ≠ 0 ∧ (p_not b n (p_lev b n 5) (p_add b n (p_term b n (p_atom b n (p_lev b n 5)))) (nxS b n t1)).1 e ≠ 0 then 1 else 0) ((p_not b n (p_lev b n 5) (p_add b n (p_term b n (p_atom b n (p_lev b n 5)))) (nxS b n t1)).2) σ28 h28_s (ag_tr (ag_tr ha h24_a) h28_a) (mu_step (tk_wf hs.2.1) h17_h (by decide) (p_not_ok (p_lev_ok 5) (p_add_ok (p_term_ok (p_atom_ok (p_lev_ok 5))))) hm) (by rw [← he, p_bothL, if_pos h17_h]) (by omega)
          · refine v_iconst (v := 1) G dX8_both0_40 rfl ?_
            refine v_goto (tgt := 45) G dX8_both0_41 (by decide) ?_
            refine v_istore_n (L' := [(1, .int 1), (2, .int ((p_not b n (p_lev b n 5) (p_add b n (p_term b n (p_atom b n (p_lev b n 5)))) (nxS b n t1)).1 (envS σ))), (0, .ref (ad 43))]) G dX8_both0_45 (by decide) rfl ?_
            refine v_goto (tgt := 5) G dX8_both0_46 (by decide) ?_
            refine V_.sub (L' := [(1, .int 1), (0, .ref (ad 43))]) ?_ [0, 2] rfl
            refine v_loc (L' := [(1, .int ((fun e => if v e ≠ 0 ∧ (p_not b n (p_lev b n 5) (p_add b n (p_term b n (p_atom b n (p_lev b n 5)))) (nxS b n t1)).1 e ≠ 0 then 1 else 0) (envS σ))), (0, .ref (ad 43))]) (by dsimp only; first | rw [if_pos (by exact ⟨h33, h37⟩)] | rw [if_neg (by rintro ⟨q1, q2⟩; first | exact q1 h33 | exact q2 h37)]) ?_
            exact ih5  f (fun e => if v e ≠ 0 ∧ (p_not b n (p_lev b n 5) (p_add b n (p_term b n (p_atom b n (p_lev b n 5)))) (nxS b n t1)).1 e ≠ 0 then 1 else 0) ((p_not b n (p_lev b n 5) (p_add b n (p_term b n (p_atom b n (p_lev b n 5)))) (nxS b n t1)).2) σ28 h28_s (ag_tr (ag_tr ha h24_a) h28_a) (mu_step (tk_wf hs.2.1) h17_h (by decide) (p_not_ok (p_lev_ok 5) (p_add_ok (p_term_ok (p_atom_ok (p_lev_ok 5))))) hm) (by rw [← he, p_bothL, if_pos h17_h]) (by omega)
      · refine v_if_eq (tgt := 49) G dX8_both0_20 (by decide) (fun h20 => ?_) (fun h20 => absurd h20 (by decide))
        refine v_iload_n G 0 dX8_both0_49 rfl ?_
        refine RET _ _ _ _ _ _ rfl (Nat.le_of_ble_eq_true rfl) (Nat.le_of_ble_eq_true rfl) dX8_both0_50 (fun ws hw => ⟨_, hw, ?_⟩)
        clear RET G hT hnm
        rw [show p_both b n (p_not b n (p_lev b n 5) (p_add b n (p_term b n (p_atom b n (p_lev b n 5))))) t = (v, t1) by rw [← he, p_bothL, if_neg (by rw [h17_h]; decide)]]
        exact ⟨rfl, hs, ha⟩
  refine V_.sub (L' := [(1, .int ((p_not b n (p_lev b n 5) (p_add b n (p_term b n (p_atom b n (p_lev b n 5)))) t).1 (envS σ))), (0, .ref (ad 43))]) ?_ [0, 1] rfl
  refine v_loc (L' := [(1, .int (((p_not b n (p_lev b n 5) (p_add b n (p_term b n (p_atom b n (p_lev b n 5)))) t).1) (envS σ))), (0, .ref (ad 43))]) (rfl) ?_
  exact loop5 _ (n + 2) ((p_not b n (p_lev b n 5) (p_add b n (p_term b n (p_atom b n (p_lev b n 5)))) t).1) ((p_not b n (p_lev b n 5) (p_add b n (p_term b n (p_atom b n (p_lev b n 5)))) t).2) σ1 h1_s h1_a (by have := mu_le (n := n) (s := (p_not b n (p_lev b n 5) (p_add b n (p_term b n (p_atom b n (p_lev b n 5)))) t).2); omega) rfl (Nat.lt_succ_self _)
abbrev rmX8_either0 : Room := { frames := 39, cells := 0, slots := 0, locals := 861 }
set_option maxHeartbeats 4000000 in
theorem kX8_either0 {KT : (Nat → Prop) → State → Heap → Prop} (hK : KTok KT) (l : Launch) (dC : Nat → ClassId) (dI : Nat → Nat → Nat) (ct ad : Nat → Nat) (σ : MS) (F : Nat) (n : Nat) (b : Nat → Int32) (t : PS) (hS : ST F n b 0 t σ) : MC KT (dC, dI) vwCl (tysF ct) l yX8_either0 cX8_either0 3 (some .int) rmX8_either0 [.ref (ad 43)] (RM ct ad σ) (QI_ (dC, dI) vwCl (RM ct ad) (fun (r : Int32) (σ' : MS) => ((p_eith b n (p_both b n (p_not b n (p_lev b n 5) (p_add b n (p_term b n (p_atom b n (p_lev b n 5)))))) t).1 (envS σ)) = r ∧ ST F n b 0 (p_eith b n (p_both b n (p_not b n (p_lev b n 5) (p_add b n (p_term b n (p_atom b n (p_lev b n 5)))))) t).2 σ' ∧ ag pfr σ σ')) := by
  refine MC.ofI (own := RX8) pl_X8 rfl (Nat.le_of_ble_eq_true rfl) ?_
  intro pp ee ss mm aa bb hh cc AA QQ G hT hnm RET
  refine v_loc (L' := [(0, .ref (ad 43))]) rfl ?_
  refine v_aload_n G 0 dX8_either0_0 rfl ?_
  refine w_callVi G hK hT (kX8_both0 hK l dC dI ct ad σ F n b t hS) (ck_X8_338 G.2.2.2.2.1 ⟨Nat.le_of_ble_eq_true rfl, Nat.le_of_ble_eq_true rfl⟩) m_recv (fun _ h => h) rfl [] rfl (Nat.le_of_ble_eq_true rfl) dX8_either0_1 ⟨Nat.le_of_ble_eq_true rfl, Nat.le_of_ble_eq_true rfl⟩ (k1 := 0) (n1 := 0) rfl rfl ?_
  rintro r1 σ1 ⟨rfl, h1_s, h1_a⟩
  refine v_topr (x2 := .int ((p_both b n (p_not b n (p_lev b n 5) (p_add b n (p_term b n (p_atom b n (p_lev b n 5))))) t).1 (envS σ))) (congrArg Value.int (congrArg (p_both b n (p_not b n (p_lev b n 5) (p_add b n (p_term b n (p_atom b n (p_lev b n 5))))) t).1 (envS_ag ag_rf))) ?_
  refine v_istore_n (L' := [(1, .int ((p_both b n (p_not b n (p_lev b n 5) (p_add b n (p_term b n (p_atom b n (p_lev b n 5))))) t).1 (envS σ))), (0, .ref (ad 43))]) G dX8_either0_4 (by decide) rfl ?_
  have loop5 : ∀ (dd : Nat) (f : Nat) (v : SF) (t1 : PS) (τ : MS), (ST F n b 0 t1 τ) → (ag pfr σ τ) → (mu n t1 < f) → (p_eithL b n (p_both b n (p_not b n (p_lev b n 5) (p_add b n (p_term b n (p_atom b n (p_lev b n 5)))))) f v t1 = p_eith b n (p_both b n (p_not b n (p_lev b n 5) (p_add b n (p_term b n (p_atom b n (p_lev b n 5)))))) t) → f < dd → V_ pp l ee rmX8_either0 ss mm aa bb hh cc 3 (dC, dI) vwCl AA QQ 0 0 (RM ct ad τ) 5 [(1, .int (v (envS σ))), (0, .ref (ad 43))] [] := by
    intro dd
    induction dd with
    | zero => intro f v t1 τ hs ha hm he hdd; exact absurd hdd (Nat.not_lt_zero _)
    | succ dd ih5 =>
      intro f v t1 τ hs ha hm he hdd
      obtain ⟨f, rfl⟩ : ∃ g, f = g + 1 := ⟨f - 1, by omega⟩
      refine v_aload_n G 1 dX8_either0_5 rfl ?_
      refine v_bipush (v := 111) G dX8_either0_6 rfl ?_
      refine v_bipush (v := 114) G dX8_either0_8 rfl ?_
      refine v_iconst (v := 0) G dX8_either0_10 rfl ?_
      refine v_iconst (v := 0) G dX8_either0_11 rfl ?_
      refine v_iconst (v := 0) G dX8_either0_12 rfl ?_
      refine v_iconst (v := 0) G dX8_either0_13 rfl ?_
      refine v_iconst (v := 0) G dX8_either0_14 rfl ?_
      refine v_iconst (v := 0) G dX8_either0_15 rfl ?_
      refine w_callVi G hK hT (kX8_isWordS hK l dC dI ct ad τ F n b 0 t1 1 3 111 114 0 0 0 0 0 0 hs (⟨(1, 3, [111, 114, 0, 0, 0, 0, 0, 0]), by decide +kernel, rfl, rfl, rfl⟩)) (ck_X8_199 G.2.2.2.2.1 ⟨Nat.le_of_ble_eq_true rfl, Nat.le_of_ble_eq_true rfl⟩) m_recv (fun _ h => h) rfl [] rfl (Nat.le_of_ble_eq_true rfl) dX8_either0_16 ⟨Nat.le_of_ble_eq_true rfl, Nat.le_of_ble_eq_true rfl⟩ (k1 := 0) (n1 := 0) rfl rfl ?_
      rintro r16 σ16 (⟨rfl, rfl, h16_h⟩ | ⟨rfl, rfl, h16_h⟩)
      · refine v_if_eq (tgt := 48) G dX8_either0_19 (by decide) (fun h19 => absurd h19 (by decide)) (fun h19 => ?_)
        refine v_aload_n G 1 dX8_either0_22 rfl ?_
        refine w_callVv G hK hT (kX8_nextS hK l dC dI ct ad τ F n b 0 t1 hs (kd_tk h16_h (by decide))) (ck_X8_196 G.2.2.2.2.1 ⟨Nat.le_of_ble_eq_true rfl, Nat.le_of_ble_eq_true rfl⟩) m_recv (fun _ h => h) rfl [] rfl (Nat.le_of_ble_eq_true rfl) dX8_either0_23 ⟨Nat.le_of_ble_eq_true rfl, Nat.le_of_ble_eq_true rfl⟩ (k1 := 0) (n1 := 0) rfl rfl ?_
        rintro σ23 ⟨h23_s, h23_a, h23_b⟩
        refine v_aload_n G 1 dX8_either0_26 rfl ?_
        refine w_callVi G hK hT (kX8_both0 hK l dC dI ct ad σ23 F n b (nxS b n t1) h23_s) (ck_X8_338 G.2.2.2.2.1 ⟨Nat.le_of_ble_eq_true rfl, Nat.le_of_ble_eq_true rfl⟩) m_recv (fun _ h => h) rfl [] rfl (Nat.le_of_ble_eq_true rfl) dX8_either0_27 ⟨Nat.le_of_ble_eq_true rfl, Nat.le_of_ble_eq_true rfl⟩ (k1 := 0) (n1 := 0) rfl rfl ?_
        rintro r27 σ27 ⟨rfl, h27_s, h27_a⟩
        refine v_topr (x2 := .int ((p_both b n (p_not b n (p_lev b n 5) (p_add b n (p_term b n (p_atom b n (p_lev b n 5))))) (nxS b n t1)).1 (envS σ))) (congrArg Value.int (congrArg (p_both b n (p_not b n (p_lev b n 5) (p_add b n (p_term b n (p_atom b n (p_lev b n 5))))) (nxS b n t1)).1 (envS_ag (ag_tr ha h23_a)))) ?_
        refine v_istore_n (L' := [(2, .int ((p_both b n (p_not b n (p_lev b n 5) (p_add b n (p_term b n (p_atom b n (p_lev b n 5))))) (nxS b n t1)).1 (envS σ))), (1, .int (v (envS σ))), (0, .ref (ad 43))]) G dX8_either0_30 (by decide) rfl ?_
        refine v_iload_n G 1 dX8_either0_31 rfl ?_
        refine v_if_ne (tgt := 39) G dX8_either0_32 (by decide) (fun h32 => ?_) (fun h32 => ?_)
        · refine v_iconst (v := 1) G dX8_either0_39 rfl ?_
          refine v_goto (tgt := 44) G dX8_either0_40 (by decide) ?_
          refine v_istore_n (L' := [(1, .int 1), (2, .int ((p_both b n (p_not b n (p_lev b n 5) (p_add b n (p_term b n (p_atom b n (p_lev b n 5))))) (nxS b n t1)).1 (envS σ))), (0, .ref (ad 43))]) G dX8_either0_44 (by decide) rfl ?_
          refine v_goto (tgt := 5) G dX8_either0_45 (by decide) ?_
          refine V_.sub (L' := [(1, .int 1), (0, .ref (ad 43))]) ?_ [0, 2] rfl
          refine v_loc (L' := [(1, .int ((fun e => if v e ≠ 0 ∨ (p_both b n (p_not b n (p_lev b n 5) (p_add b n (p_term b n (p_atom b n (p_lev b n 5))))) (nxS b n t1)).1 e ≠ 0 then 1 else 0) (envS σ))), (0, .ref (ad 43))]) (by dsimp only; first | rw [if_pos (by first | exact Or.inl h32 | exact Or.inr h36)] | rw [if_neg (by rintro (q | q) <;> first | exact q h32 | exact q h36)]) ?_
          exact ih5  f (fun e => if v e ≠ 0 ∨ (p_both b n (p_not b n (p_lev b n 5) (p_add b n (p_term b n (p_atom b n (p_lev b n 5))))) (nxS b n t1)).1 e ≠ 0 then 1 else 0) ((p_both b n (p_not b n (p_lev b n 5) (p_add b n (p_term b n (p_atom b n (p_lev b n 5))))) (nxS b n t1)).2) σ27 h27_s (ag_tr (ag_tr ha h23_a) h27_a) (mu_step (tk_wf hs.2.1) h16_h (by decide) (p_both_ok (p_not_ok (p_lev_ok 5) (p_add_ok (p_term_ok (p_atom_ok (p_lev_ok 5)))))) hm) (by rw [← he, p_eithL, if_pos h16_h]) (by omega)
        · refine v_iload_n G 0 dX8_either0_35 rfl ?_
          refine v_if_eq (tgt := 43) G dX8_either0_36 (by decide) (fun h36 => ?_) (fun h36 => ?_)
          · refine v_iconst (v := 0) G dX8_either0_43 rfl ?_
            refine v_istore_n (L' := [(1, .int 0), (2, .int ((p_both b n (p_not b n (p_lev b n 5) (p_add b n (p_term b n (p_atom b n (p_lev b n 5))))) (nxS b n t1)).1 (envS σ))), (0, .ref (ad 43))]) G dX8_either0_44 (by decide) rfl ?_
            refine v_goto (tgt := 5) G dX8_either0_45 (by decide) ?_
            refine V_.sub (L' := [(1, .int 0), (0, .ref (ad 43))]) ?_ [0, 2] rfl
            refine v_loc (L' := [(1, .int ((fun e => if v e ≠ 0 ∨ (p_both b n (p_not b n (p_lev b n 5) (p_add b n (p_term b n (p_atom b n (p_lev b n 5))))) (nxS b n t1)).1 e ≠ 0 then 1 else 0) (envS σ))), (0, .ref (ad 43))]) (by dsimp only; first | rw [if_pos (by first | exact Or.inl h32 | exact Or.inr h36)] | rw [if_neg (by rintro (q | q) <;> first | exact q h32 | exact q h36)]) ?_
            exact ih5  f (fun e => if v e ≠ 0 ∨ (p_both b n (p_not b n (p_lev b n 5) (p_add b n (p_term b n (p_atom b n (p_lev b n 5))))) (nxS b n t1)).1 e ≠ 0 then 1 else 0) ((p_both b n (p_not b n (p_lev b n 5) (p_add b n (p_term b n (p_atom b n (p_lev b n 5))))) (nxS b n t1)).2) σ27 h27_s (ag_tr (ag_tr ha h23_a) h27_a) (mu_step (tk_wf hs.2.1) h16_h (by decide) (p_both_ok (p_not_ok (p_lev_ok 5) (p_add_ok (p_term_ok (p_atom_ok (p_lev_ok 5)))))) hm) (by rw [← he, p_eithL, if_pos h16_h]) (by omega)
          · refine v_iconst (v := 1) G dX8_either0_39 rfl ?_
            refine v_goto (tgt := 44) G dX8_either0_40 (by decide) ?_
            refine v_istore_n (L' := [(1, .int 1), (2, .int ((p_both b n (p_not b n (p_lev b n 5) (p_add b n (p_term b n (p_atom b n (p_lev b n 5))))) (nxS b n t1)).1 (envS σ))), (0, .ref (ad 43))]) G dX8_either0_44 (by decide) rfl ?_
            refine v_goto (tgt := 5) G dX8_either0_45 (by decide) ?_
            refine V_.sub (L' := [(1, .int 1), (0, .ref (ad 43))]) ?_ [0, 2] rfl
            refine v_loc (L' := [(1, .int ((fun e => if v e ≠ 0 ∨ (p_both b n (p_not b n (p_lev b n 5) (p_add b n (p_term b n (p_atom b n (p_lev b n 5))))) (nxS b n t1)).1 e ≠ 0 then 1 else 0) (envS σ))), (0, .ref (ad 43))]) (by dsimp only; first | rw [if_pos (by first | exact Or.inl h32 | exact Or.inr h36)] | rw [if_neg (by rintro (q | q) <;> first | exact q h32 | exact q h36)]) ?_
            exact ih5  f (fun e => if v e ≠ 0 ∨ (p_both b n (p_not b n (p_lev b n 5) (p_add b n (p_term b n (p_atom b n (p_lev b n 5))))) (nxS b n t1)).1 e ≠ 0 then 1 else 0) ((p_both b n (p_not b n (p_lev b n 5) (p_add b n (p_term b n (p_atom b n (p_lev b n 5))))) (nxS b n t1)).2) σ27 h27_s (ag_tr (ag_tr ha h23_a) h27_a) (mu_step (tk_wf hs.2.1) h16_h (by decide) (p_both_ok (p_not_ok (p_lev_ok 5) (p_add_ok (p_term_ok (p_atom_ok (p_lev_ok 5)))))) hm) (by rw [← he, p_eithL, if_pos h16_h]) (by omega)
      · refine v_if_eq (tgt := 48) G dX8_either0_19 (by decide) (fun h19 => ?_) (fun h19 => absurd h19 (by decide))
        refine v_iload_n G 0 dX8_either0_48 rfl ?_
        refine RET _ _ _ _ _ _ rfl (Nat.le_of_ble_eq_true rfl) (Nat.le_of_ble_eq_true rfl) dX8_either0_49 (fun ws hw => ⟨_, hw, ?_⟩)
        clear RET G hT hnm
        rw [show p_eith b n (p_both b n (p_not b n (p_lev b n 5) (p_add b n (p_term b n (p_atom b n (p_lev b n 5)))))) t = (v, t1) by rw [← he, p_eithL, if_neg (by rw [h16_h]; decide)]]
        exact ⟨rfl, hs, ha⟩
  refine V_.sub (L' := [(1, .int ((p_both b n (p_not b n (p_lev b n 5) (p_add b n (p_term b n (p_atom b n (p_lev b n 5))))) t).1 (envS σ))), (0, .ref (ad 43))]) ?_ [0, 1] rfl
  refine v_loc (L' := [(1, .int (((p_both b n (p_not b n (p_lev b n 5) (p_add b n (p_term b n (p_atom b n (p_lev b n 5))))) t).1) (envS σ))), (0, .ref (ad 43))]) (rfl) ?_
  exact loop5 _ (n + 2) ((p_both b n (p_not b n (p_lev b n 5) (p_add b n (p_term b n (p_atom b n (p_lev b n 5))))) t).1) ((p_both b n (p_not b n (p_lev b n 5) (p_add b n (p_term b n (p_atom b n (p_lev b n 5))))) t).2) σ1 h1_s h1_a (by have := mu_le (n := n) (s := (p_both b n (p_not b n (p_lev b n 5) (p_add b n (p_term b n (p_atom b n (p_lev b n 5))))) t).2); omega) rfl (Nat.lt_succ_self _)
