set_option maxRecDepth 100000
abbrev jfr : List Nat := [7, 9, 10, 12, 13, 14, 15, 16, 17, 18, 19, 20, 21, 22, 23, 24, 25, 26, 27]
abbrev rmX8_jarsBehind : Room := { frames := 46, cells := 0, slots := 0, locals := 1026 }
set_option maxHeartbeats 4000000 in
theorem kX8_jarsBehind {KT : (Nat → Prop) → State → Heap → Prop} (hK : KTok KT) (l : Launch) (dC : Nat → ClassId) (dI : Nat → Nat → Nat) (ct ad : Nat → Nat) (σ : MS) (n : Nat) (hO : Ok (co σ)) (hn : n ≤ 40) : MC KT (dC, dI) vwCl (tysF ct) l yX8_jarsBehind cX8_jarsBehind 3 (some .int) rmX8_jarsBehind [.ref (ad 43), .int (nI n)] (RM ct ad σ) (QI_ (dC, dI) vwCl (RM ct ad) (fun (r : Int32) (σ' : MS) => (s_all (s_iter (co σ) n) 24) = r ∧ co σ' = co σ ∧ ag jfr σ σ')) := by
  refine MC.ofI (own := RX8) pl_X8 rfl (Nat.le_of_ble_eq_true rfl) ?_
  intro pp ee ss mm aa bb hh cc AA QQ G hT hnm RET
  refine v_loc (L' := [(0, .ref (ad 43)), (1, .int (nI n))]) rfl ?_
  refine v_aload_n G 0 dX8_jarsBehind_0 rfl ?_
  refine w_callVv G hK hT (kX8_laysAside hK l dC dI ct ad σ) (ck_X8_378 G.2.2.2.2.1 ⟨Nat.le_of_ble_eq_true rfl, Nat.le_of_ble_eq_true rfl⟩) m_recv (fun _ h => h) rfl [] rfl (Nat.le_of_ble_eq_true rfl) dX8_jarsBehind_1 ⟨Nat.le_of_ble_eq_true rfl, Nat.le_of_ble_eq_true rfl⟩ (k1 := 0) (n1 := 0) rfl rfl ?_
  rintro σ1 ⟨h1_w, h1_a⟩
  refine v_iconst (v := 0) G dX8_jarsBehind_4 rfl ?_
  refine v_istore_n (L' := [(2, .int 0), (0, .ref (ad 43)), (1, .int (nI n))]) G dX8_jarsBehind_5 (by decide) rfl ?_
  have loop6 : ∀ (dd : Nat) (q : Nat) (τ : MS), (q ≤ n) → (co τ = (s_iter (co σ) q)) → (aside (co σ) (τ.1 27)) → (ag jfr σ τ) → n - q < dd → V_ pp l ee rmX8_jarsBehind ss mm aa bb hh cc 3 (dC, dI) vwCl AA QQ 0 0 (RM ct ad τ) 6 [(2, .int (nI q)), (1, .int (nI n)), (0, .ref (ad 43))] [] := by
    intro dd
    induction dd with
    | zero => intro q τ hq hc hw27 ha hdd; exact absurd hdd (Nat.not_lt_zero _)
    | succ dd ih6 =>
      intro q τ hq hc hw27 ha hdd
      refine v_iload_n G 0 dX8_jarsBehind_6 rfl ?_
      refine v_iload_n G 1 dX8_jarsBehind_7 rfl ?_
      refine v_icmp_ge (tgt := 21) G dX8_jarsBehind_8 (by decide) (fun h8 => ?_) (fun h8 => ?_)
      · have n8 := (cmp_le (x := nI n) (y := nI q) (a := n) (b := q) rfl rfl (by omega) (by omega)).mp h8
        refine v_aload_n G 2 dX8_jarsBehind_21 rfl ?_
        refine w_callVi G hK hT (kX8_jarsAll hK l dC dI ct ad τ) (ck_X8_371 G.2.2.2.2.1 ⟨Nat.le_of_ble_eq_true rfl, Nat.le_of_ble_eq_true rfl⟩) m_recv (fun _ h => h) rfl [] rfl (Nat.le_of_ble_eq_true rfl) dX8_jarsBehind_22 ⟨Nat.le_of_ble_eq_true rfl, Nat.le_of_ble_eq_true rfl⟩ (k1 := 0) (n1 := 0) rfl rfl ?_
        rintro r22 σ22 ⟨rfl, rfl⟩
        refine v_topr (congrArg Value.int (show s_all (co τ) 24 = s_all (s_iter (co σ) q) 24 from by rw [hc])) ?_
        refine v_istore_n (L' := [(2, .int (s_all (s_iter (co σ) q) 24)), (1, .int (nI n)), (0, .ref (ad 43))]) G dX8_jarsBehind_25 (by decide) rfl ?_
        refine v_aload_n G 2 dX8_jarsBehind_26 rfl ?_
        refine w_callVv G hK hT (kX8_laysBack hK l dC dI ct ad τ (co σ) hw27 (by rw [hc]; exact near_iter hO.1 q)) (ck_X8_381 G.2.2.2.2.1 ⟨Nat.le_of_ble_eq_true rfl, Nat.le_of_ble_eq_true rfl⟩) m_recv (fun _ h => h) rfl [] rfl (Nat.le_of_ble_eq_true rfl) dX8_jarsBehind_27 ⟨Nat.le_of_ble_eq_true rfl, Nat.le_of_ble_eq_true rfl⟩ (k1 := 0) (n1 := 0) rfl rfl ?_
        rintro σ27 ⟨h27_c, h27_a⟩
        refine v_iload_n G 0 dX8_jarsBehind_30 rfl ?_
        refine RET _ _ _ _ _ _ rfl (Nat.le_of_ble_eq_true rfl) (Nat.le_of_ble_eq_true rfl) dX8_jarsBehind_31 (fun ws hws => ⟨_, hws, ?_⟩)
        clear RET G hT hnm
        exact ⟨by rw [show q = n by omega], h27_c, ag_tr ha (ag_mono h27_a (by decide))⟩
      · have n8 := (not_congr (cmp_le (x := nI n) (y := nI q) (a := n) (b := q) rfl rfl (by omega) (by omega))).mp h8
        refine v_aload_n G 2 dX8_jarsBehind_11 rfl ?_
        refine w_callVv G hK hT (kX8_passes hK l dC dI ct ad τ (by rw [hc]; exact (ok_iter hO))) (ck_X8_368 G.2.2.2.2.1 ⟨Nat.le_of_ble_eq_true rfl, Nat.le_of_ble_eq_true rfl⟩) m_recv (fun _ h => h) rfl [] rfl (Nat.le_of_ble_eq_true rfl) dX8_jarsBehind_12 ⟨Nat.le_of_ble_eq_true rfl, Nat.le_of_ble_eq_true rfl⟩ (k1 := 0) (n1 := 0) rfl rfl ?_
        rintro σ12 ⟨h12_c, h12_a⟩
        refine v_iinc (v := nI (q + 1)) (L' := [(2, .int (nI (q + 1))), (1, .int (nI n)), (0, .ref (ad 43))]) G 0 dX8_jarsBehind_15 rfl (ix_add rfl (ix_lit 1 rfl)) (by decide) rfl ?_
        refine v_goto (tgt := 6) G dX8_jarsBehind_18 (by decide) ?_
        refine V_.sub (L' := [(2, .int (nI (q + 1))), (1, .int (nI n)), (0, .ref (ad 43))]) ?_ [0, 1, 2] rfl
        exact ih6  (q + 1) σ12 (by omega) (show co σ12 = (s_pass (s_iter (co σ) q) o0) from (h12_c.trans (by rw [hc]))) (by rw [h12_a 27 (by decide)]; exact hw27) (ag_tr ha (ag_mono h12_a (by decide))) (by omega)
  refine V_.sub (L' := [(2, .int 0), (1, .int (nI n)), (0, .ref (ad 43))]) ?_ [0, 2, 1] rfl
  refine v_loc (L' := [(2, .int (nI 0)), (1, .int (nI n)), (0, .ref (ad 43))]) (rfl) ?_
  exact loop6 _ 0 σ1 (by omega) (show co σ1 = co σ from (ag_co h1_a (by decide))) h1_w (ag_mono h1_a (by decide)) (Nat.lt_succ_self _)
abbrev rmX8_run : Room := { frames := 46, cells := 0, slots := 0, locals := 1026 }
set_option maxHeartbeats 4000000 in
theorem kX8_run {KT : (Nat → Prop) → State → Heap → Prop} (hK : KTok KT) (l : Launch) (dC : Nat → ClassId) (dI : Nat → Nat → Nat) (ct ad : Nat → Nat) (σ : MS) (x : Int32) (n : Int32) (what : Int32) (hO : Ok (co σ)) : MC KT (dC, dI) vwCl (tysF ct) l yX8_run cX8_run 6 (some .int) rmX8_run [.ref (ad 43), .int x, .int n, .int what] (RM ct ad σ) (QI_ (dC, dI) vwCl (RM ct ad) (fun (r : Int32) (σ' : MS) => (s_run (co σ) x n what) = r ∧ co σ' = co σ)) := by
  refine MC.ofI (own := RX8) pl_X8 rfl (Nat.le_of_ble_eq_true rfl) ?_
  intro pp ee ss mm aa bb hh cc AA QQ G hT hnm RET
  refine v_loc (L' := [(0, .ref (ad 43)), (1, .int x), (2, .int n), (3, .int what)]) rfl ?_
  obtain ⟨hm5, hm⟩ := many5 hO.1
  have hm : σ.1 11 0 = nI (s_many (co σ)) := hm
  refine v_aload_n G 0 dX8_run_0 rfl ?_
  refine v_iload_n G 1 dX8_run_1 rfl ?_
  refine w_callVi G hK hT (kX8_isOne hK l dC dI ct ad σ (s_many (co σ)) x hm5 hm) (ck_X8_101 G.2.2.2.2.1 ⟨Nat.le_of_ble_eq_true rfl, Nat.le_of_ble_eq_true rfl⟩) m_recv (fun _ h => h) rfl [] rfl (Nat.le_of_ble_eq_true rfl) dX8_run_2 ⟨Nat.le_of_ble_eq_true rfl, Nat.le_of_ble_eq_true rfl⟩ (k1 := 0) (n1 := 0) rfl rfl ?_
  rintro r2 σ2 (⟨rfl, rfl, h2_h⟩ | ⟨rfl, rfl, h2_h⟩)
  · refine v_if_eq (tgt := 46) G dX8_run_5 (by decide) (fun h5 => absurd h5 (by decide)) (fun h5 => ?_)
    refine v_iload_n G 2 dX8_run_8 rfl ?_
    refine v_i2l (v := n.toInt64) G dX8_run_9 rfl ?_
    refine v_lconst (v := 0) G dX8_run_10 rfl ?_
    refine v_ldc2 G q1559 dX8_run_11 ?_
    refine w_callSi G hK hT (kX8_in hK l dC dI ct ad σ n.toInt64 0 60) (ck_X8_86 G.2.2.2.2.1 ⟨Nat.le_of_ble_eq_true rfl, Nat.le_of_ble_eq_true rfl⟩) (fun _ h => h) rfl [] rfl (Nat.le_of_ble_eq_true rfl) dX8_run_14 ⟨Nat.le_of_ble_eq_true rfl, Nat.le_of_ble_eq_true rfl⟩ (k1 := 0) (n1 := 0) rfl rfl ?_
    rintro r14 σ14 (⟨rfl, rfl, h14_h⟩ | ⟨rfl, rfl, h14_h⟩)
    · have g14 := (in_rg (c := n) (lo := 0) (hi := 60) (a := 0) (z := 60) (by decide) (by decide)).mp h14_h
      refine v_if_eq (tgt := 46) G dX8_run_17 (by decide) (fun h17 => absurd h17 (by decide)) (fun h17 => ?_)
      refine v_iload_n G 3 dX8_run_20 rfl ?_
      refine v_i2l (v := what.toInt64) G dX8_run_21 rfl ?_
      refine v_lconst (v := 0) G dX8_run_22 rfl ?_
      refine v_ldc2 G q1727 dX8_run_23 ?_
      refine w_callSi G hK hT (kX8_in hK l dC dI ct ad σ what.toInt64 0 2) (ck_X8_86 G.2.2.2.2.1 ⟨Nat.le_of_ble_eq_true rfl, Nat.le_of_ble_eq_true rfl⟩) (fun _ h => h) rfl [] rfl (Nat.le_of_ble_eq_true rfl) dX8_run_26 ⟨Nat.le_of_ble_eq_true rfl, Nat.le_of_ble_eq_true rfl⟩ (k1 := 0) (n1 := 0) rfl rfl ?_
      rintro r26 σ26 (⟨rfl, rfl, h26_h⟩ | ⟨rfl, rfl, h26_h⟩)
      · have g26 := (in_rg (c := what) (lo := 0) (hi := 2) (a := 0) (z := 2) (by decide) (by decide)).mp h26_h
        refine v_if_ne (tgt := 49) G dX8_run_29 (by decide) (fun h29 => ?_) (fun h29 => absurd h29 (by decide))
        obtain ⟨p, hpm, ep⟩ := rg_lt h2_h (by omega)
        obtain ⟨nn, hnn, enn_⟩ := rg_nat (n := 60) (x := n) ⟨(by have := (g14).1; omega), (g14).2⟩ (by decide)
        refine v_aload_n G 0 dX8_run_49 rfl ?_
        refine w_callVv G hK hT (kX8_laysAside hK l dC dI ct ad σ) (ck_X8_378 G.2.2.2.2.1 ⟨Nat.le_of_ble_eq_true rfl, Nat.le_of_ble_eq_true rfl⟩) m_recv (fun _ h => h) rfl [] rfl (Nat.le_of_ble_eq_true rfl) dX8_run_50 ⟨Nat.le_of_ble_eq_true rfl, Nat.le_of_ble_eq_true rfl⟩ (k1 := 0) (n1 := 0) rfl rfl ?_
        rintro σ50 ⟨h50_w, h50_a⟩
        refine v_iconst (v := 1) G dX8_run_53 rfl ?_
        refine v_aload_n G 0 dX8_run_54 rfl ?_
        refine v_iload_n G 1 dX8_run_55 rfl ?_
        refine v_stk (st' := [.int (nI p), .ref (ad 43), .int 1]) (by first | rfl | (have e0 : x = nI p := ep ; simp only [e0])) ?_
        refine w_callVi G hK hT (kX8_atOf hK l dC dI ct ad σ50 p (by first | assumption | omega)) (ck_X8_351 G.2.2.2.2.1 ⟨Nat.le_of_ble_eq_true rfl, Nat.le_of_ble_eq_true rfl⟩) m_recv (fun _ h => h) rfl [.int 1] rfl (Nat.le_of_ble_eq_true rfl) dX8_run_56 ⟨Nat.le_of_ble_eq_true rfl, Nat.le_of_ble_eq_true rfl⟩ (k1 := 0) (n1 := 0) rfl rfl ?_
        rintro r56 σ56 ⟨rfl, rfl⟩
        refine v_topr (congrArg Value.int (show σ50.1 10 (5 * p + 1) = σ.1 10 (5 * p + 1) from (show σ50.1 10 (5 * p + 1) = σ.1 10 (5 * p + 1) from ag_at h50_a (by decide)))) ?_
        refine v_topr (congrArg Value.int (show σ.1 10 (5 * p + 1) = (co σ) 10 (5 * p + 1) from (by first | rfl | exact congrFun (congrFun (ag_co h50_a (by decide)) 10) (5 * p + 1)))) ?_
        refine v_ishl G dX8_run_59 ?_
        refine v_istore (L' := [(4, .int (1 <<< (((co σ) 10 (5 * p + 1)) &&& 31))), (0, .ref (ad 43)), (1, .int x), (2, .int n), (3, .int what)]) G dX8_run_60 (by decide) rfl ?_
        refine v_iconst (v := 0) G dX8_run_62 rfl ?_
        refine v_istore (L' := [(5, .int 0), (4, .int (1 <<< (((co σ) 10 (5 * p + 1)) &&& 31))), (0, .ref (ad 43)), (1, .int x), (2, .int n), (3, .int what)]) G dX8_run_63 (by decide) rfl ?_
        have loop65 : ∀ (dd : Nat) (q : Nat) (τ : MS), (q ≤ nn) → (co τ = (s_iter (co σ) q)) → (aside (co σ) (τ.1 27)) → nn - q < dd → V_ pp l ee rmX8_run ss mm aa bb hh cc 6 (dC, dI) vwCl AA QQ 0 0 (RM ct ad τ) 65 [(5, .int (nI q)), (4, .int (s_set (co σ) p q)), (3, .int what), (2, .int n), (1, .int x), (0, .ref (ad 43))] [] := by
          intro dd
          induction dd with
          | zero => intro q τ hq hc hw27 hdd; exact absurd hdd (Nat.not_lt_zero _)
          | succ dd ih65 =>
            intro q τ hq hc hw27 hdd
            refine v_iload G 0 dX8_run_65 rfl ?_
            refine v_iload_n G 3 dX8_run_67 rfl ?_
            refine v_icmp_ge (tgt := 93) G dX8_run_68 (by decide) (fun h68 => ?_) (fun h68 => ?_)
            · have n68 := (cmp_le (x := n) (y := nI q) (a := nn) (b := q) enn_ rfl (by omega) (by omega)).mp h68
              refine v_iload_n G 2 dX8_run_93 rfl ?_
              refine v_if_ne (tgt := 105) G dX8_run_94 (by decide) (fun h94 => ?_) (fun h94 => ?_)
              · refine v_iload_n G 2 dX8_run_105 rfl ?_
                refine v_iconst (v := 1) G dX8_run_106 rfl ?_
                refine v_icmp_ne (tgt := 115) G dX8_run_107 (by decide) (fun h107 => ?_) (fun h107 => ?_)
                · refine v_iload_n G 2 dX8_run_115 rfl ?_
                  refine v_iconst (v := 2) G dX8_run_116 rfl ?_
                  refine v_icmp_ne (tgt := 127) G dX8_run_117 (by decide) (fun h117 => ?_) (fun h117 => ?_)
                  · have hw10 : rg what 10 33 := by
                      first
                        | exact g40
                        | (exfalso
                           obtain ⟨ww, hww, eww⟩ := rg_nat (n := 2) g26 (by decide)
                           have hc3 : ww = 0 ∨ ww = 1 ∨ ww = 2 := by omega
                           rcases hc3 with rfl | rfl | rfl
                           · exact h94 eww
                           · exact h107 eww
                           · exact h117 eww)
                    obtain ⟨ww, hww, eww⟩ := rg_nat (n := 33) (x := what) ⟨(by have := hw10.1; omega), hw10.2⟩ (by decide)
                    have hw10b : 10 ≤ ww := by have := hw10.1; rw [eww, nI_toInt (by omega)] at this; omega
                    refine v_aload_n G 5 dX8_run_127 rfl ?_
                    refine m_get (v := .ref (ad 9)) G 9 (by decide) rfl q1303 rfl dX8_run_128 ?_
                    refine v_iload_n G 2 dX8_run_131 rfl ?_
                    refine v_bipush (v := 10) G dX8_run_132 rfl ?_
                    refine v_isub G dX8_run_134 ?_
                    refine m_iald G 9 rfl (ww - 10) (ix_sub eww (ix_lit 10 rfl) (by omega)) (show ww - 10 < 24 by first | omega | assumption | decide) dX8_run_135 ?_
                    refine v_istore (L' := [(5, .int (τ.1 9 (ww - 10))), (4, .int (s_set (co σ) p q)), (3, .int what), (2, .int n), (1, .int x), (0, .ref (ad 43))]) G dX8_run_136 (by decide) rfl ?_
                    refine v_aload_n G 5 dX8_run_138 rfl ?_
                    refine w_callVv G hK hT (kX8_laysBack hK l dC dI ct ad τ (co σ) hw27 (by rw [hc]; exact near_iter hO.1 q)) (ck_X8_381 G.2.2.2.2.1 ⟨Nat.le_of_ble_eq_true rfl, Nat.le_of_ble_eq_true rfl⟩) m_recv (fun _ h => h) rfl [] rfl (Nat.le_of_ble_eq_true rfl) dX8_run_139 ⟨Nat.le_of_ble_eq_true rfl, Nat.le_of_ble_eq_true rfl⟩ (k1 := 0) (n1 := 0) rfl rfl ?_
                    rintro σ139 ⟨h139_c, h139_a⟩
                    refine v_iload G 0 dX8_run_142 rfl ?_
                    refine RET _ _ _ _ _ _ rfl (Nat.le_of_ble_eq_true rfl) (Nat.le_of_ble_eq_true rfl) dX8_run_144 (fun ws hws => ⟨_, hws, ?_⟩)
                    clear RET G hT hnm
                    have epn : n_ x = p := by rw [ep]; exact nI_clamp (by omega)
                    have enn : n_ n = nn := by rw [enn_]; exact nI_clamp (by omega)
                    refine ⟨?_, h139_c⟩
                    rw [s_run, if_pos ⟨h2_h, g14, (by first | exact Or.inl g26 | exact Or.inr g40)⟩, epn, enn, show nn = q by omega]
                    first
                      | (rw [s_runV, if_pos h94]; done)
                      | (rw [s_runV, if_neg h94, if_pos h107]; done)
                      | (rw [s_runV, if_neg h94, if_neg h107, if_pos h117]; done)
                      | (rw [s_runV, if_neg h94, if_neg h107, if_neg h117]
                         have ew2 : n_ what = ww := by rw [eww]; exact nI_clamp (by omega)
                         rw [ew2, ← hc]; rfl)
                  · refine v_aload_n G 5 dX8_run_120 rfl ?_
                    refine w_callVi G hK hT (kX8_jarsAll hK l dC dI ct ad τ) (ck_X8_371 G.2.2.2.2.1 ⟨Nat.le_of_ble_eq_true rfl, Nat.le_of_ble_eq_true rfl⟩) m_recv (fun _ h => h) rfl [] rfl (Nat.le_of_ble_eq_true rfl) dX8_run_121 ⟨Nat.le_of_ble_eq_true rfl, Nat.le_of_ble_eq_true rfl⟩ (k1 := 0) (n1 := 0) rfl rfl ?_
                    rintro r121 σ121 ⟨rfl, rfl⟩
                    refine v_topr (congrArg Value.int (show s_all (co τ) 24 = s_all (s_iter (co σ) q) 24 from by rw [hc])) ?_
                    refine v_goto (tgt := 136) G dX8_run_124 (by decide) ?_
                    refine v_istore (L' := [(5, .int (s_all (s_iter (co σ) q) 24)), (4, .int (s_set (co σ) p q)), (3, .int what), (2, .int n), (1, .int x), (0, .ref (ad 43))]) G dX8_run_136 (by decide) rfl ?_
                    refine v_aload_n G 5 dX8_run_138 rfl ?_
                    refine w_callVv G hK hT (kX8_laysBack hK l dC dI ct ad τ (co σ) hw27 (by rw [hc]; exact near_iter hO.1 q)) (ck_X8_381 G.2.2.2.2.1 ⟨Nat.le_of_ble_eq_true rfl, Nat.le_of_ble_eq_true rfl⟩) m_recv (fun _ h => h) rfl [] rfl (Nat.le_of_ble_eq_true rfl) dX8_run_139 ⟨Nat.le_of_ble_eq_true rfl, Nat.le_of_ble_eq_true rfl⟩ (k1 := 0) (n1 := 0) rfl rfl ?_
                    rintro σ139 ⟨h139_c, h139_a⟩
                    refine v_iload G 0 dX8_run_142 rfl ?_
                    refine RET _ _ _ _ _ _ rfl (Nat.le_of_ble_eq_true rfl) (Nat.le_of_ble_eq_true rfl) dX8_run_144 (fun ws hws => ⟨_, hws, ?_⟩)
                    clear RET G hT hnm
                    have epn : n_ x = p := by rw [ep]; exact nI_clamp (by omega)
                    have enn : n_ n = nn := by rw [enn_]; exact nI_clamp (by omega)
                    refine ⟨?_, h139_c⟩
                    rw [s_run, if_pos ⟨h2_h, g14, (by first | exact Or.inl g26 | exact Or.inr g40)⟩, epn, enn, show nn = q by omega]
                    first
                      | (rw [s_runV, if_pos h94]; done)
                      | (rw [s_runV, if_neg h94, if_pos h107]; done)
                      | (rw [s_runV, if_neg h94, if_neg h107, if_pos h117]; done)
                      | (rw [s_runV, if_neg h94, if_neg h107, if_neg h117]
                         have ew2 : n_ what = ww := by rw [eww]; exact nI_clamp (by omega)
                         rw [ew2, ← hc]; rfl)
                · refine v_iload G 1 dX8_run_110 rfl ?_
                  refine v_goto (tgt := 136) G dX8_run_112 (by decide) ?_
                  refine v_istore (L' := [(5, .int (s_set (co σ) p q)), (4, .int (s_set (co σ) p q)), (3, .int what), (2, .int n), (1, .int x), (0, .ref (ad 43))]) G dX8_run_136 (by decide) rfl ?_
                  refine v_aload_n G 5 dX8_run_138 rfl ?_
                  refine w_callVv G hK hT (kX8_laysBack hK l dC dI ct ad τ (co σ) hw27 (by rw [hc]; exact near_iter hO.1 q)) (ck_X8_381 G.2.2.2.2.1 ⟨Nat.le_of_ble_eq_true rfl, Nat.le_of_ble_eq_true rfl⟩) m_recv (fun _ h => h) rfl [] rfl (Nat.le_of_ble_eq_true rfl) dX8_run_139 ⟨Nat.le_of_ble_eq_true rfl, Nat.le_of_ble_eq_true rfl⟩ (k1 := 0) (n1 := 0) rfl rfl ?_
                  rintro σ139 ⟨h139_c, h139_a⟩
                  refine v_iload G 0 dX8_run_142 rfl ?_
                  refine RET _ _ _ _ _ _ rfl (Nat.le_of_ble_eq_true rfl) (Nat.le_of_ble_eq_true rfl) dX8_run_144 (fun ws hws => ⟨_, hws, ?_⟩)
                  clear RET G hT hnm
                  have epn : n_ x = p := by rw [ep]; exact nI_clamp (by omega)
                  have enn : n_ n = nn := by rw [enn_]; exact nI_clamp (by omega)
                  refine ⟨?_, h139_c⟩
                  rw [s_run, if_pos ⟨h2_h, g14, (by first | exact Or.inl g26 | exact Or.inr g40)⟩, epn, enn, show nn = q by omega]
                  first
                    | (rw [s_runV, if_pos h94]; done)
                    | (rw [s_runV, if_neg h94, if_pos h107]; done)
                    | (rw [s_runV, if_neg h94, if_neg h107, if_pos h117]; done)
                    | (rw [s_runV, if_neg h94, if_neg h107, if_neg h117]
                       have ew2 : n_ what = ww := by rw [eww]; exact nI_clamp (by omega)
                       rw [ew2, ← hc]; rfl)
              · refine v_aload_n G 5 dX8_run_97 rfl ?_
                refine v_iload_n G 4 dX8_run_98 rfl ?_
                refine v_stk (st' := [.int (nI p), .ref (ad 43)]) (by first | rfl | (have e0 : x = nI p := ep ; simp only [e0])) ?_
                refine w_callVi G hK hT (kX8_atOf hK l dC dI ct ad τ p (by first | assumption | omega)) (ck_X8_351 G.2.2.2.2.1 ⟨Nat.le_of_ble_eq_true rfl, Nat.le_of_ble_eq_true rfl⟩) m_recv (fun _ h => h) rfl [] rfl (Nat.le_of_ble_eq_true rfl) dX8_run_99 ⟨Nat.le_of_ble_eq_true rfl, Nat.le_of_ble_eq_true rfl⟩ (k1 := 0) (n1 := 0) rfl rfl ?_
                rintro r99 σ99 ⟨rfl, rfl⟩
                refine v_topr (congrArg Value.int (show τ.1 10 (5 * p + 1) = (s_iter (co σ) q) 10 (5 * p + 1) from (by first | rfl | exact congrFun (congrFun hc 10) (5 * p + 1)))) ?_
                refine v_goto (tgt := 136) G dX8_run_102 (by decide) ?_
                refine v_istore (L' := [(5, .int ((s_iter (co σ) q) 10 (5 * p + 1))), (4, .int (s_set (co σ) p q)), (3, .int what), (2, .int n), (1, .int x), (0, .ref (ad 43))]) G dX8_run_136 (by decide) rfl ?_
                refine v_aload_n G 5 dX8_run_138 rfl ?_
                refine w_callVv G hK hT (kX8_laysBack hK l dC dI ct ad τ (co σ) hw27 (by rw [hc]; exact near_iter hO.1 q)) (ck_X8_381 G.2.2.2.2.1 ⟨Nat.le_of_ble_eq_true rfl, Nat.le_of_ble_eq_true rfl⟩) m_recv (fun _ h => h) rfl [] rfl (Nat.le_of_ble_eq_true rfl) dX8_run_139 ⟨Nat.le_of_ble_eq_true rfl, Nat.le_of_ble_eq_true rfl⟩ (k1 := 0) (n1 := 0) rfl rfl ?_
                rintro σ139 ⟨h139_c, h139_a⟩
                refine v_iload G 0 dX8_run_142 rfl ?_
                refine RET _ _ _ _ _ _ rfl (Nat.le_of_ble_eq_true rfl) (Nat.le_of_ble_eq_true rfl) dX8_run_144 (fun ws hws => ⟨_, hws, ?_⟩)
                clear RET G hT hnm
                have epn : n_ x = p := by rw [ep]; exact nI_clamp (by omega)
                have enn : n_ n = nn := by rw [enn_]; exact nI_clamp (by omega)
                refine ⟨?_, h139_c⟩
                rw [s_run, if_pos ⟨h2_h, g14, (by first | exact Or.inl g26 | exact Or.inr g40)⟩, epn, enn, show nn = q by omega]
                first
                  | (rw [s_runV, if_pos h94]; done)
                  | (rw [s_runV, if_neg h94, if_pos h107]; done)
                  | (rw [s_runV, if_neg h94, if_neg h107, if_pos h117]; done)
                  | (rw [s_runV, if_neg h94, if_neg h107, if_neg h117]
                     have ew2 : n_ what = ww := by rw [eww]; exact nI_clamp (by omega)
                     rw [ew2, ← hc]; rfl)
            · have n68 := (not_congr (cmp_le (x := n) (y := nI q) (a := nn) (b := q) enn_ rfl (by omega) (by omega))).mp h68
              refine v_aload_n G 5 dX8_run_71 rfl ?_
              refine w_callVv G hK hT (kX8_passes hK l dC dI ct ad τ (by rw [hc]; exact (ok_iter hO))) (ck_X8_368 G.2.2.2.2.1 ⟨Nat.le_of_ble_eq_true rfl, Nat.le_of_ble_eq_true rfl⟩) m_recv (fun _ h => h) rfl [] rfl (Nat.le_of_ble_eq_true rfl) dX8_run_72 ⟨Nat.le_of_ble_eq_true rfl, Nat.le_of_ble_eq_true rfl⟩ (k1 := 0) (n1 := 0) rfl rfl ?_
              rintro σ72 ⟨h72_c, h72_a⟩
              refine v_iload G 1 dX8_run_75 rfl ?_
              refine v_iconst (v := 1) G dX8_run_77 rfl ?_
              refine v_aload_n G 5 dX8_run_78 rfl ?_
              refine v_iload_n G 4 dX8_run_79 rfl ?_
              refine v_stk (st' := [.int (nI p), .ref (ad 43), .int 1, .int (s_set (co σ) p q)]) (by first | rfl | (have e0 : x = nI p := ep ; simp only [e0])) ?_
              refine w_callVi G hK hT (kX8_atOf hK l dC dI ct ad σ72 p (by first | assumption | omega)) (ck_X8_351 G.2.2.2.2.1 ⟨Nat.le_of_ble_eq_true rfl, Nat.le_of_ble_eq_true rfl⟩) m_recv (fun _ h => h) rfl [.int 1, .int (s_set (co σ) p q)] rfl (Nat.le_of_ble_eq_true rfl) dX8_run_80 ⟨Nat.le_of_ble_eq_true rfl, Nat.le_of_ble_eq_true rfl⟩ (k1 := 0) (n1 := 0) rfl rfl ?_
              rintro r80 σ80 ⟨rfl, rfl⟩
              refine v_topr (congrArg Value.int (show σ72.1 10 (5 * p + 1) = (s_pass (s_iter (co σ) q) o0) 10 (5 * p + 1) from (by first | rfl | exact congrFun (congrFun (h72_c.trans (by rw [hc])) 10) (5 * p + 1)))) ?_
              refine v_ishl G dX8_run_83 ?_
              refine v_ior G dX8_run_84 ?_
              refine v_istore (L' := [(4, .int ((s_set (co σ) p q) ||| (1 <<< (((s_pass (s_iter (co σ) q) o0) 10 (5 * p + 1)) &&& 31)))), (5, .int (nI q)), (3, .int what), (2, .int n), (1, .int x), (0, .ref (ad 43))]) G dX8_run_85 (by decide) rfl ?_
              refine v_iinc (v := nI (q + 1)) (L' := [(5, .int (nI (q + 1))), (4, .int ((s_set (co σ) p q) ||| (1 <<< (((s_pass (s_iter (co σ) q) o0) 10 (5 * p + 1)) &&& 31)))), (3, .int what), (2, .int n), (1, .int x), (0, .ref (ad 43))]) G 1 dX8_run_87 rfl (ix_add rfl (ix_lit 1 rfl)) (by decide) rfl ?_
              refine v_goto (tgt := 65) G dX8_run_90 (by decide) ?_
              refine V_.sub (L' := [(5, .int (nI (q + 1))), (4, .int ((s_set (co σ) p q) ||| (1 <<< (((s_pass (s_iter (co σ) q) o0) 10 (5 * p + 1)) &&& 31)))), (3, .int what), (2, .int n), (1, .int x), (0, .ref (ad 43))]) ?_ [0, 1, 2, 3, 4, 5] rfl
              refine v_loc (L' := [(5, .int (nI (q + 1))), (4, .int (s_set (co σ) p (q + 1))), (3, .int what), (2, .int n), (1, .int x), (0, .ref (ad 43))]) (rfl) ?_
              exact ih65  (q + 1) σ72 (by omega) (show co σ72 = (s_pass (s_iter (co σ) q) o0) from (h72_c.trans (by rw [hc]))) (by rw [h72_a 27 (by decide)]; exact hw27) (by omega)
        refine V_.sub (L' := [(5, .int 0), (4, .int (1 <<< (((co σ) 10 (5 * p + 1)) &&& 31))), (3, .int what), (2, .int n), (1, .int x), (0, .ref (ad 43))]) ?_ [0, 1, 5, 4, 3, 2] rfl
        refine v_loc (L' := [(5, .int (nI 0)), (4, .int (s_set (co σ) p 0)), (3, .int what), (2, .int n), (1, .int x), (0, .ref (ad 43))]) (rfl) ?_
        exact loop65 _ 0 σ50 (by omega) (show co σ50 = co σ from (ag_co h50_a (by decide))) h50_w (Nat.lt_succ_self _)
      · have g26 : ¬ rg what 0 2 := fun zz => h26_h ((in_rg (c := what) (lo := 0) (hi := 2) (a := 0) (z := 2) (by decide) (by decide)).mpr zz)
        refine v_if_ne (tgt := 49) G dX8_run_29 (by decide) (fun h29 => absurd h29 (by decide)) (fun h29 => ?_)
        refine v_iload_n G 3 dX8_run_32 rfl ?_
        refine v_i2l (v := what.toInt64) G dX8_run_33 rfl ?_
        refine v_ldc2 G q1457 dX8_run_34 ?_
        refine v_ldc2 G q1728 dX8_run_37 ?_
        refine w_callSi G hK hT (kX8_in hK l dC dI ct ad σ what.toInt64 10 33) (ck_X8_86 G.2.2.2.2.1 ⟨Nat.le_of_ble_eq_true rfl, Nat.le_of_ble_eq_true rfl⟩) (fun _ h => h) rfl [] rfl (Nat.le_of_ble_eq_true rfl) dX8_run_40 ⟨Nat.le_of_ble_eq_true rfl, Nat.le_of_ble_eq_true rfl⟩ (k1 := 0) (n1 := 0) rfl rfl ?_
        rintro r40 σ40 (⟨rfl, rfl, h40_h⟩ | ⟨rfl, rfl, h40_h⟩)
        · have g40 := (in_rg (c := what) (lo := 10) (hi := 33) (a := 10) (z := 33) (by decide) (by decide)).mp h40_h
          refine v_if_ne (tgt := 49) G dX8_run_43 (by decide) (fun h43 => ?_) (fun h43 => absurd h43 (by decide))
          obtain ⟨p, hpm, ep⟩ := rg_lt h2_h (by omega)
          obtain ⟨nn, hnn, enn_⟩ := rg_nat (n := 60) (x := n) ⟨(by have := (g14).1; omega), (g14).2⟩ (by decide)
          refine v_aload_n G 0 dX8_run_49 rfl ?_
          refine w_callVv G hK hT (kX8_laysAside hK l dC dI ct ad σ) (ck_X8_378 G.2.2.2.2.1 ⟨Nat.le_of_ble_eq_true rfl, Nat.le_of_ble_eq_true rfl⟩) m_recv (fun _ h => h) rfl [] rfl (Nat.le_of_ble_eq_true rfl) dX8_run_50 ⟨Nat.le_of_ble_eq_true rfl, Nat.le_of_ble_eq_true rfl⟩ (k1 := 0) (n1 := 0) rfl rfl ?_
          rintro σ50 ⟨h50_w, h50_a⟩
          refine v_iconst (v := 1) G dX8_run_53 rfl ?_
          refine v_aload_n G 0 dX8_run_54 rfl ?_
          refine v_iload_n G 1 dX8_run_55 rfl ?_
          refine v_stk (st' := [.int (nI p), .ref (ad 43), .int 1]) (by first | rfl | (have e0 : x = nI p := ep ; simp only [e0])) ?_
          refine w_callVi G hK hT (kX8_atOf hK l dC dI ct ad σ50 p (by first | assumption | omega)) (ck_X8_351 G.2.2.2.2.1 ⟨Nat.le_of_ble_eq_true rfl, Nat.le_of_ble_eq_true rfl⟩) m_recv (fun _ h => h) rfl [.int 1] rfl (Nat.le_of_ble_eq_true rfl) dX8_run_56 ⟨Nat.le_of_ble_eq_true rfl, Nat.le_of_ble_eq_true rfl⟩ (k1 := 0) (n1 := 0) rfl rfl ?_
          rintro r56 σ56 ⟨rfl, rfl⟩
          refine v_topr (congrArg Value.int (show σ50.1 10 (5 * p + 1) = σ.1 10 (5 * p + 1) from (show σ50.1 10 (5 * p + 1) = σ.1 10 (5 * p + 1) from ag_at h50_a (by decide)))) ?_
          refine v_topr (congrArg Value.int (show σ.1 10 (5 * p + 1) = (co σ) 10 (5 * p + 1) from (by first | rfl | exact congrFun (congrFun (ag_co h50_a (by decide)) 10) (5 * p + 1)))) ?_
          refine v_ishl G dX8_run_59 ?_
          refine v_istore (L' := [(4, .int (1 <<< (((co σ) 10 (5 * p + 1)) &&& 31))), (0, .ref (ad 43)), (1, .int x), (2, .int n), (3, .int what)]) G dX8_run_60 (by decide) rfl ?_
          refine v_iconst (v := 0) G dX8_run_62 rfl ?_
          refine v_istore (L' := [(5, .int 0), (4, .int (1 <<< (((co σ) 10 (5 * p + 1)) &&& 31))), (0, .ref (ad 43)), (1, .int x), (2, .int n), (3, .int what)]) G dX8_run_63 (by decide) rfl ?_
          have loop65 : ∀ (dd : Nat) (q : Nat) (τ : MS), (q ≤ nn) → (co τ = (s_iter (co σ) q)) → (aside (co σ) (τ.1 27)) → nn - q < dd → V_ pp l ee rmX8_run ss mm aa bb hh cc 6 (dC, dI) vwCl AA QQ 0 0 (RM ct ad τ) 65 [(5, .int (nI q)), (4, .int (s_set (co σ) p q)), (3, .int what), (2, .int n), (1, .int x), (0, .ref (ad 43))] [] := by
            intro dd
            induction dd with
            | zero => intro q τ hq hc hw27 hdd; exact absurd hdd (Nat.not_lt_zero _)
            | succ dd ih65 =>
              intro q τ hq hc hw27 hdd
              refine v_iload G 0 dX8_run_65 rfl ?_
              refine v_iload_n G 3 dX8_run_67 rfl ?_
              refine v_icmp_ge (tgt := 93) G dX8_run_68 (by decide) (fun h68 => ?_) (fun h68 => ?_)
              · have n68 := (cmp_le (x := n) (y := nI q) (a := nn) (b := q) enn_ rfl (by omega) (by omega)).mp h68
                refine v_iload_n G 2 dX8_run_93 rfl ?_
                refine v_if_ne (tgt := 105) G dX8_run_94 (by decide) (fun h94 => ?_) (fun h94 => ?_)
                · refine v_iload_n G 2 dX8_run_105 rfl ?_
                  refine v_iconst (v := 1) G dX8_run_106 rfl ?_
                  refine v_icmp_ne (tgt := 115) G dX8_run_107 (by decide) (fun h107 => ?_) (fun h107 => ?_)
                  · refine v_iload_n G 2 dX8_run_115 rfl ?_
                    refine v_iconst (v := 2) G dX8_run_116 rfl ?_
                    refine v_icmp_ne (tgt := 127) G dX8_run_117 (by decide) (fun h117 => ?_) (fun h117 => ?_)
                    · have hw10 : rg what 10 33 := by
                        first
                          | exact g40
                          | (exfalso
                             obtain ⟨ww, hww, eww⟩ := rg_nat (n := 2) g26 (by decide)
                             have hc3 : ww = 0 ∨ ww = 1 ∨ ww = 2 := by omega
                             rcases hc3 with rfl | rfl | rfl
                             · exact h94 eww
                             · exact h107 eww
                             · exact h117 eww)
                      obtain ⟨ww, hww, eww⟩ := rg_nat (n := 33) (x := what) ⟨(by have := hw10.1; omega), hw10.2⟩ (by decide)
                      have hw10b : 10 ≤ ww := by have := hw10.1; rw [eww, nI_toInt (by omega)] at this; omega
                      refine v_aload_n G 5 dX8_run_127 rfl ?_
                      refine m_get (v := .ref (ad 9)) G 9 (by decide) rfl q1303 rfl dX8_run_128 ?_
                      refine v_iload_n G 2 dX8_run_131 rfl ?_
                      refine v_bipush (v := 10) G dX8_run_132 rfl ?_
                      refine v_isub G dX8_run_134 ?_
                      refine m_iald G 9 rfl (ww - 10) (ix_sub eww (ix_lit 10 rfl) (by omega)) (show ww - 10 < 24 by first | omega | assumption | decide) dX8_run_135 ?_
                      refine v_istore (L' := [(5, .int (τ.1 9 (ww - 10))), (4, .int (s_set (co σ) p q)), (3, .int what), (2, .int n), (1, .int x), (0, .ref (ad 43))]) G dX8_run_136 (by decide) rfl ?_
                      refine v_aload_n G 5 dX8_run_138 rfl ?_
                      refine w_callVv G hK hT (kX8_laysBack hK l dC dI ct ad τ (co σ) hw27 (by rw [hc]; exact near_iter hO.1 q)) (ck_X8_381 G.2.2.2.2.1 ⟨Nat.le_of_ble_eq_true rfl, Nat.le_of_ble_eq_true rfl⟩) m_recv (fun _ h => h) rfl [] rfl (Nat.le_of_ble_eq_true rfl) dX8_run_139 ⟨Nat.le_of_ble_eq_true rfl, Nat.le_of_ble_eq_true rfl⟩ (k1 := 0) (n1 := 0) rfl rfl ?_
                      rintro σ139 ⟨h139_c, h139_a⟩
                      refine v_iload G 0 dX8_run_142 rfl ?_
                      refine RET _ _ _ _ _ _ rfl (Nat.le_of_ble_eq_true rfl) (Nat.le_of_ble_eq_true rfl) dX8_run_144 (fun ws hws => ⟨_, hws, ?_⟩)
                      clear RET G hT hnm
                      have epn : n_ x = p := by rw [ep]; exact nI_clamp (by omega)
                      have enn : n_ n = nn := by rw [enn_]; exact nI_clamp (by omega)
                      refine ⟨?_, h139_c⟩
                      rw [s_run, if_pos ⟨h2_h, g14, (by first | exact Or.inl g26 | exact Or.inr g40)⟩, epn, enn, show nn = q by omega]
                      first
                        | (rw [s_runV, if_pos h94]; done)
                        | (rw [s_runV, if_neg h94, if_pos h107]; done)
                        | (rw [s_runV, if_neg h94, if_neg h107, if_pos h117]; done)
                        | (rw [s_runV, if_neg h94, if_neg h107, if_neg h117]
                           have ew2 : n_ what = ww := by rw [eww]; exact nI_clamp (by omega)
                           rw [ew2, ← hc]; rfl)
                    · refine v_aload_n G 5 dX8_run_120 rfl ?_
                      refine w_callVi G hK hT (kX8_jarsAll hK l dC dI ct ad τ) (ck_X8_371 G.2.2.2.2.1 ⟨Nat.le_of_ble_eq_true rfl, Nat.le_of_ble_eq_true rfl⟩) m_recv (fun _ h => h) rfl [] rfl (Nat.le_of_ble_eq_true rfl) dX8_run_121 ⟨Nat.le_of_ble_eq_true rfl, Nat.le_of_ble_eq_true rfl⟩ (k1 := 0) (n1 := 0) rfl rfl ?_
                      rintro r121 σ121 ⟨rfl, rfl⟩
                      refine v_topr (congrArg Value.int (show s_all (co τ) 24 = s_all (s_iter (co σ) q) 24 from by rw [hc])) ?_
                      refine v_goto (tgt := 136) G dX8_run_124 (by decide) ?_
                      refine v_istore (L' := [(5, .int (s_all (s_iter (co σ) q) 24)), (4, .int (s_set (co σ) p q)), (3, .int what), (2, .int n), (1, .int x), (0, .ref (ad 43))]) G dX8_run_136 (by decide) rfl ?_
                      refine v_aload_n G 5 dX8_run_138 rfl ?_
                      refine w_callVv G hK hT (kX8_laysBack hK l dC dI ct ad τ (co σ) hw27 (by rw [hc]; exact near_iter hO.1 q)) (ck_X8_381 G.2.2.2.2.1 ⟨Nat.le_of_ble_eq_true rfl, Nat.le_of_ble_eq_true rfl⟩) m_recv (fun _ h => h) rfl [] rfl (Nat.le_of_ble_eq_true rfl) dX8_run_139 ⟨Nat.le_of_ble_eq_true rfl, Nat.le_of_ble_eq_true rfl⟩ (k1 := 0) (n1 := 0) rfl rfl ?_
                      rintro σ139 ⟨h139_c, h139_a⟩
                      refine v_iload G 0 dX8_run_142 rfl ?_
                      refine RET _ _ _ _ _ _ rfl (Nat.le_of_ble_eq_true rfl) (Nat.le_of_ble_eq_true rfl) dX8_run_144 (fun ws hws => ⟨_, hws, ?_⟩)
                      clear RET G hT hnm
                      have epn : n_ x = p := by rw [ep]; exact nI_clamp (by omega)
                      have enn : n_ n = nn := by rw [enn_]; exact nI_clamp (by omega)
                      refine ⟨?_, h139_c⟩
                      rw [s_run, if_pos ⟨h2_h, g14, (by first | exact Or.inl g26 | exact Or.inr g40)⟩, epn, enn, show nn = q by omega]
                      first
                        | (rw [s_runV, if_pos h94]; done)
                        | (rw [s_runV, if_neg h94, if_pos h107]; done)
                        | (rw [s_runV, if_neg h94, if_neg h107, if_pos h117]; done)
                        | (rw [s_runV, if_neg h94, if_neg h107, if_neg h117]
                           have ew2 : n_ what = ww := by rw [eww]; exact nI_clamp (by omega)
                           rw [ew2, ← hc]; rfl)
                  · refine v_iload G 1 dX8_run_110 rfl ?_
                    refine v_goto (tgt := 136) G dX8_run_112 (by decide) ?_
                    refine v_istore (L' := [(5, .int (s_set (co σ) p q)), (4, .int (s_set (co σ) p q)), (3, .int what), (2, .int n), (1, .int x), (0, .ref (ad 43))]) G dX8_run_136 (by decide) rfl ?_
                    refine v_aload_n G 5 dX8_run_138 rfl ?_
                    refine w_callVv G hK hT (kX8_laysBack hK l dC dI ct ad τ (co σ) hw27 (by rw [hc]; exact near_iter hO.1 q)) (ck_X8_381 G.2.2.2.2.1 ⟨Nat.le_of_ble_eq_true rfl, Nat.le_of_ble_eq_true rfl⟩) m_recv (fun _ h => h) rfl [] rfl (Nat.le_of_ble_eq_true rfl) dX8_run_139 ⟨Nat.le_of_ble_eq_true rfl, Nat.le_of_ble_eq_true rfl⟩ (k1 := 0) (n1 := 0) rfl rfl ?_
                    rintro σ139 ⟨h139_c, h139_a⟩
                    refine v_iload G 0 dX8_run_142 rfl ?_
                    refine RET _ _ _ _ _ _ rfl (Nat.le_of_ble_eq_true rfl) (Nat.le_of_ble_eq_true rfl) dX8_run_144 (fun ws hws => ⟨_, hws, ?_⟩)
                    clear RET G hT hnm
                    have epn : n_ x = p := by rw [ep]; exact nI_clamp (by omega)
                    have enn : n_ n = nn := by rw [enn_]; exact nI_clamp (by omega)
                    refine ⟨?_, h139_c⟩
                    rw [s_run, if_pos ⟨h2_h, g14, (by first | exact Or.inl g26 | exact Or.inr g40)⟩, epn, enn, show nn = q by omega]
                    first
                      | (rw [s_runV, if_pos h94]; done)
                      | (rw [s_runV, if_neg h94, if_pos h107]; done)
                      | (rw [s_runV, if_neg h94, if_neg h107, if_pos h117]; done)
                      | (rw [s_runV, if_neg h94, if_neg h107, if_neg h117]
                         have ew2 : n_ what = ww := by rw [eww]; exact nI_clamp (by omega)
                         rw [ew2, ← hc]; rfl)
                · refine v_aload_n G 5 dX8_run_97 rfl ?_
                  refine v_iload_n G 4 dX8_run_98 rfl ?_
                  refine v_stk (st' := [.int (nI p), .ref (ad 43)]) (by first | rfl | (have e0 : x = nI p := ep ; simp only [e0])) ?_
                  refine w_callVi G hK hT (kX8_atOf hK l dC dI ct ad τ p (by first | assumption | omega)) (ck_X8_351 G.2.2.2.2.1 ⟨Nat.le_of_ble_eq_true rfl, Nat.le_of_ble_eq_true rfl⟩) m_recv (fun _ h => h) rfl [] rfl (Nat.le_of_ble_eq_true rfl) dX8_run_99 ⟨Nat.le_of_ble_eq_true rfl, Nat.le_of_ble_eq_true rfl⟩ (k1 := 0) (n1 := 0) rfl rfl ?_
                  rintro r99 σ99 ⟨rfl, rfl⟩
                  refine v_topr (congrArg Value.int (show τ.1 10 (5 * p + 1) = (s_iter (co σ) q) 10 (5 * p + 1) from (by first | rfl | exact congrFun (congrFun hc 10) (5 * p + 1)))) ?_
                  refine v_goto (tgt := 136) G dX8_run_102 (by decide) ?_
                  refine v_istore (L' := [(5, .int ((s_iter (co σ) q) 10 (5 * p + 1))), (4, .int (s_set (co σ) p q)), (3, .int what), (2, .int n), (1, .int x), (0, .ref (ad 43))]) G dX8_run_136 (by decide) rfl ?_
                  refine v_aload_n G 5 dX8_run_138 rfl ?_
                  refine w_callVv G hK hT (kX8_laysBack hK l dC dI ct ad τ (co σ) hw27 (by rw [hc]; exact near_iter hO.1 q)) (ck_X8_381 G.2.2.2.2.1 ⟨Nat.le_of_ble_eq_true rfl, Nat.le_of_ble_eq_true rfl⟩) m_recv (fun _ h => h) rfl [] rfl (Nat.le_of_ble_eq_true rfl) dX8_run_139 ⟨Nat.le_of_ble_eq_true rfl, Nat.le_of_ble_eq_true rfl⟩ (k1 := 0) (n1 := 0) rfl rfl ?_
                  rintro σ139 ⟨h139_c, h139_a⟩
                  refine v_iload G 0 dX8_run_142 rfl ?_
                  refine RET _ _ _ _ _ _ rfl (Nat.le_of_ble_eq_true rfl) (Nat.le_of_ble_eq_true rfl) dX8_run_144 (fun ws hws => ⟨_, hws, ?_⟩)
                  clear RET G hT hnm
                  have epn : n_ x = p := by rw [ep]; exact nI_clamp (by omega)
                  have enn : n_ n = nn := by rw [enn_]; exact nI_clamp (by omega)
                  refine ⟨?_, h139_c⟩
                  rw [s_run, if_pos ⟨h2_h, g14, (by first | exact Or.inl g26 | exact Or.inr g40)⟩, epn, enn, show nn = q by omega]
                  first
                    | (rw [s_runV, if_pos h94]; done)
                    | (rw [s_runV, if_neg h94, if_pos h107]; done)
                    | (rw [s_runV, if_neg h94, if_neg h107, if_pos h117]; done)
                    | (rw [s_runV, if_neg h94, if_neg h107, if_neg h117]
                       have ew2 : n_ what = ww := by rw [eww]; exact nI_clamp (by omega)
                       rw [ew2, ← hc]; rfl)
              · have n68 := (not_congr (cmp_le (x := n) (y := nI q) (a := nn) (b := q) enn_ rfl (by omega) (by omega))).mp h68
                refine v_aload_n G 5 dX8_run_71 rfl ?_
                refine w_callVv G hK hT (kX8_passes hK l dC dI ct ad τ (by rw [hc]; exact (ok_iter hO))) (ck_X8_368 G.2.2.2.2.1 ⟨Nat.le_of_ble_eq_true rfl, Nat.le_of_ble_eq_true rfl⟩) m_recv (fun _ h => h) rfl [] rfl (Nat.le_of_ble_eq_true rfl) dX8_run_72 ⟨Nat.le_of_ble_eq_true rfl, Nat.le_of_ble_eq_true rfl⟩ (k1 := 0) (n1 := 0) rfl rfl ?_
                rintro σ72 ⟨h72_c, h72_a⟩
                refine v_iload G 1 dX8_run_75 rfl ?_
                refine v_iconst (v := 1) G dX8_run_77 rfl ?_
                refine v_aload_n G 5 dX8_run_78 rfl ?_
                refine v_iload_n G 4 dX8_run_79 rfl ?_
                refine v_stk (st' := [.int (nI p), .ref (ad 43), .int 1, .int (s_set (co σ) p q)]) (by first | rfl | (have e0 : x = nI p := ep ; simp only [e0])) ?_
                refine w_callVi G hK hT (kX8_atOf hK l dC dI ct ad σ72 p (by first | assumption | omega)) (ck_X8_351 G.2.2.2.2.1 ⟨Nat.le_of_ble_eq_true rfl, Nat.le_of_ble_eq_true rfl⟩) m_recv (fun _ h => h) rfl [.int 1, .int (s_set (co σ) p q)] rfl (Nat.le_of_ble_eq_true rfl) dX8_run_80 ⟨Nat.le_of_ble_eq_true rfl, Nat.le_of_ble_eq_true rfl⟩ (k1 := 0) (n1 := 0) rfl rfl ?_
                rintro r80 σ80 ⟨rfl, rfl⟩
                refine v_topr (congrArg Value.int (show σ72.1 10 (5 * p + 1) = (s_pass (s_iter (co σ) q) o0) 10 (5 * p + 1) from (by first | rfl | exact congrFun (congrFun (h72_c.trans (by rw [hc])) 10) (5 * p + 1)))) ?_
                refine v_ishl G dX8_run_83 ?_
                refine v_ior G dX8_run_84 ?_
                refine v_istore (L' := [(4, .int ((s_set (co σ) p q) ||| (1 <<< (((s_pass (s_iter (co σ) q) o0) 10 (5 * p + 1)) &&& 31)))), (5, .int (nI q)), (3, .int what), (2, .int n), (1, .int x), (0, .ref (ad 43))]) G dX8_run_85 (by decide) rfl ?_
                refine v_iinc (v := nI (q + 1)) (L' := [(5, .int (nI (q + 1))), (4, .int ((s_set (co σ) p q) ||| (1 <<< (((s_pass (s_iter (co σ) q) o0) 10 (5 * p + 1)) &&& 31)))), (3, .int what), (2, .int n), (1, .int x), (0, .ref (ad 43))]) G 1 dX8_run_87 rfl (ix_add rfl (ix_lit 1 rfl)) (by decide) rfl ?_
                refine v_goto (tgt := 65) G dX8_run_90 (by decide) ?_
                refine V_.sub (L' := [(5, .int (nI (q + 1))), (4, .int ((s_set (co σ) p q) ||| (1 <<< (((s_pass (s_iter (co σ) q) o0) 10 (5 * p + 1)) &&& 31)))), (3, .int what), (2, .int n), (1, .int x), (0, .ref (ad 43))]) ?_ [0, 1, 2, 3, 4, 5] rfl
                refine v_loc (L' := [(5, .int (nI (q + 1))), (4, .int (s_set (co σ) p (q + 1))), (3, .int what), (2, .int n), (1, .int x), (0, .ref (ad 43))]) (rfl) ?_
                exact ih65  (q + 1) σ72 (by omega) (show co σ72 = (s_pass (s_iter (co σ) q) o0) from (h72_c.trans (by rw [hc]))) (by rw [h72_a 27 (by decide)]; exact hw27) (by omega)
          refine V_.sub (L' := [(5, .int 0), (4, .int (1 <<< (((co σ) 10 (5 * p + 1)) &&& 31))), (3, .int what), (2, .int n), (1, .int x), (0, .ref (ad 43))]) ?_ [0, 1, 5, 4, 3, 2] rfl
          refine v_loc (L' := [(5, .int (nI 0)), (4, .int (s_set (co σ) p 0)), (3, .int what), (2, .int n), (1, .int x), (0, .ref (ad 43))]) (rfl) ?_
          exact loop65 _ 0 σ50 (by omega) (show co σ50 = co σ from (ag_co h50_a (by decide))) h50_w (Nat.lt_succ_self _)
        · have g40 : ¬ rg what 10 33 := fun zz => h40_h ((in_rg (c := what) (lo := 10) (hi := 33) (a := 10) (z := 33) (by decide) (by decide)).mpr zz)
          refine v_if_ne (tgt := 49) G dX8_run_43 (by decide) (fun h43 => absurd h43 (by decide)) (fun h43 => ?_)
          refine v_bipush (v := (-2)) G dX8_run_46 rfl ?_
          refine RET _ _ _ _ _ _ rfl (Nat.le_of_ble_eq_true rfl) (Nat.le_of_ble_eq_true rfl) dX8_run_48 (fun ws hws => ⟨_, hws, ?_⟩)
          clear RET G hT hnm
          exact ⟨by rw [s_run, if_neg (fun q => by first | exact h2_h q.1 | exact g14 q.2.1 | exact q.2.2.elim g26 g40)], rfl⟩
    · have g14 : ¬ rg n 0 60 := fun zz => h14_h ((in_rg (c := n) (lo := 0) (hi := 60) (a := 0) (z := 60) (by decide) (by decide)).mpr zz)
      refine v_if_eq (tgt := 46) G dX8_run_17 (by decide) (fun h17 => ?_) (fun h17 => absurd h17 (by decide))
      refine v_bipush (v := (-2)) G dX8_run_46 rfl ?_
      refine RET _ _ _ _ _ _ rfl (Nat.le_of_ble_eq_true rfl) (Nat.le_of_ble_eq_true rfl) dX8_run_48 (fun ws hws => ⟨_, hws, ?_⟩)
      clear RET G hT hnm
      exact ⟨by rw [s_run, if_neg (fun q => by first | exact h2_h q.1 | exact g14 q.2.1 | exact q.2.2.elim g26 g40)], rfl⟩
  · refine v_if_eq (tgt := 46) G dX8_run_5 (by decide) (fun h5 => ?_) (fun h5 => absurd h5 (by decide))
    refine v_bipush (v := (-2)) G dX8_run_46 rfl ?_
    refine RET _ _ _ _ _ _ rfl (Nat.le_of_ble_eq_true rfl) (Nat.le_of_ble_eq_true rfl) dX8_run_48 (fun ws hws => ⟨_, hws, ?_⟩)
    clear RET G hT hnm
    exact ⟨by rw [s_run, if_neg (fun q => by first | exact h2_h q.1 | exact g14 q.2.1 | exact q.2.2.elim g26 g40)], rfl⟩
