set_option maxRecDepth 100000
abbrev rmX8_meet : Room := { frames := 46, cells := 0, slots := 0, locals := 1026 }
set_option maxHeartbeats 4000000 in
theorem kX8_meet {KT : (Nat → Prop) → State → Heap → Prop} (hK : KTok KT) (l : Launch) (dC : Nat → ClassId) (dI : Nat → Nat → Nat) (ct ad : Nat → Nat) (σ : MS) (x : Int32) (y : Int32) (hO : Ok (co σ)) : MC KT (dC, dI) vwCl (tysF ct) l yX8_meet cX8_meet 4 (some .int) rmX8_meet [.ref (ad 43), .int x, .int y] (RM ct ad σ) (QI_ (dC, dI) vwCl (RM ct ad) (fun (r : Int32) (σ' : MS) => (s_meet (co σ) x y) = r ∧ co σ' = co σ)) := by
  refine MC.ofI (own := RX8) pl_X8 rfl (Nat.le_of_ble_eq_true rfl) ?_
  intro pp ee ss mm aa bb hh cc AA QQ G hT hnm RET
  refine v_loc (L' := [(0, .ref (ad 43)), (1, .int x), (2, .int y)]) rfl ?_
  obtain ⟨hm5, hm⟩ := many5 hO.1
  have hm : σ.1 11 0 = nI (s_many (co σ)) := hm
  refine v_aload_n G 0 dX8_meet_0 rfl ?_
  refine v_iload_n G 1 dX8_meet_1 rfl ?_
  refine w_callVi G hK hT (kX8_isOne hK l dC dI ct ad σ (s_many (co σ)) x hm5 hm) (ck_X8_101 G.2.2.2.2.1 ⟨Nat.le_of_ble_eq_true rfl, Nat.le_of_ble_eq_true rfl⟩) m_recv (fun _ h => h) rfl [] rfl (Nat.le_of_ble_eq_true rfl) dX8_meet_2 ⟨Nat.le_of_ble_eq_true rfl, Nat.le_of_ble_eq_true rfl⟩ (k1 := 0) (n1 := 0) rfl rfl ?_
  rintro r2 σ2 (⟨rfl, rfl, h2_h⟩ | ⟨rfl, rfl, h2_h⟩)
  · refine v_if_eq (tgt := 21) G dX8_meet_5 (by decide) (fun h5 => absurd h5 (by decide)) (fun h5 => ?_)
    refine v_aload_n G 0 dX8_meet_8 rfl ?_
    refine v_iload_n G 2 dX8_meet_9 rfl ?_
    refine w_callVi G hK hT (kX8_isOne hK l dC dI ct ad σ (s_many (co σ)) y hm5 hm) (ck_X8_101 G.2.2.2.2.1 ⟨Nat.le_of_ble_eq_true rfl, Nat.le_of_ble_eq_true rfl⟩) m_recv (fun _ h => h) rfl [] rfl (Nat.le_of_ble_eq_true rfl) dX8_meet_10 ⟨Nat.le_of_ble_eq_true rfl, Nat.le_of_ble_eq_true rfl⟩ (k1 := 0) (n1 := 0) rfl rfl ?_
    rintro r10 σ10 (⟨rfl, rfl, h10_h⟩ | ⟨rfl, rfl, h10_h⟩)
    · refine v_if_eq (tgt := 21) G dX8_meet_13 (by decide) (fun h13 => absurd h13 (by decide)) (fun h13 => ?_)
      refine v_iload_n G 1 dX8_meet_16 rfl ?_
      refine v_iload_n G 2 dX8_meet_17 rfl ?_
      refine v_icmp_ne (tgt := 24) G dX8_meet_18 (by decide) (fun h18 => ?_) (fun h18 => ?_)
      · obtain ⟨pa, hpam, epa⟩ := rg_lt h2_h (by omega)
        obtain ⟨pb, hpbm, epb⟩ := rg_lt h10_h (by omega)
        refine v_aload_n G 0 dX8_meet_24 rfl ?_
        refine w_callVv G hK hT (kX8_laysAside hK l dC dI ct ad σ) (ck_X8_378 G.2.2.2.2.1 ⟨Nat.le_of_ble_eq_true rfl, Nat.le_of_ble_eq_true rfl⟩) m_recv (fun _ h => h) rfl [] rfl (Nat.le_of_ble_eq_true rfl) dX8_meet_25 ⟨Nat.le_of_ble_eq_true rfl, Nat.le_of_ble_eq_true rfl⟩ (k1 := 0) (n1 := 0) rfl rfl ?_
        rintro σ25 ⟨h25_w, h25_a⟩
        refine v_iconst (v := 0) G dX8_meet_28 rfl ?_
        refine v_istore_n (L' := [(3, .int 0), (0, .ref (ad 43)), (1, .int x), (2, .int y)]) G dX8_meet_29 (by decide) rfl ?_
        have loop30 : ∀ (dd : Nat) (q : Nat) (τ : MS), (q ≤ 61) → (co τ = s_iter (co σ) q) → (aside (co σ) (τ.1 27)) → (s_mt (co σ) pa pb (61 - q) q = s_mt (co σ) pa pb 61 0) → 61 - q < dd → V_ pp l ee rmX8_meet ss mm aa bb hh cc 4 (dC, dI) vwCl AA QQ 0 0 (RM ct ad τ) 30 [(3, .int (nI q)), (2, .int y), (1, .int x), (0, .ref (ad 43))] [] := by
          intro dd
          induction dd with
          | zero => intro q τ hq hc hw27 hm_ hdd; exact absurd hdd (Nat.not_lt_zero _)
          | succ dd ih30 =>
            intro q τ hq hc hw27 hm_ hdd
            refine v_iload_n G 0 dX8_meet_30 rfl ?_
            refine v_bipush (v := 60) G dX8_meet_31 rfl ?_
            refine v_icmp_gt (tgt := 59) G dX8_meet_33 (by decide) (fun h33 => ?_) (fun h33 => ?_)
            · have n33 := (cmp_lt (x := 60) (y := nI q) (a := 60) (b := q) (ix_lit 60 rfl) rfl (by omega) (by omega)).mp h33
              refine v_aload_n G 3 dX8_meet_59 rfl ?_
              refine w_callVv G hK hT (kX8_laysBack hK l dC dI ct ad τ (co σ) hw27 (by rw [hc]; exact near_iter hO.1 q)) (ck_X8_381 G.2.2.2.2.1 ⟨Nat.le_of_ble_eq_true rfl, Nat.le_of_ble_eq_true rfl⟩) m_recv (fun _ h => h) rfl [] rfl (Nat.le_of_ble_eq_true rfl) dX8_meet_60 ⟨Nat.le_of_ble_eq_true rfl, Nat.le_of_ble_eq_true rfl⟩ (k1 := 0) (n1 := 0) rfl rfl ?_
              rintro σ60 ⟨h60_c, h60_a⟩
              refine v_iload_n G 0 dX8_meet_63 rfl ?_
              refine v_bipush (v := 60) G dX8_meet_64 rfl ?_
              refine v_icmp_le (tgt := 73) G dX8_meet_66 (by decide) (fun h66 => ?_) (fun h66 => ?_)
              · have n66 := (cmp_le (x := nI q) (y := 60) (a := q) (b := 60) rfl (ix_lit 60 rfl) (by omega) (by omega)).mp h66
                refine v_iload_n G 0 dX8_meet_73 rfl ?_
                refine RET _ _ _ _ _ _ rfl (Nat.le_of_ble_eq_true rfl) (Nat.le_of_ble_eq_true rfl) dX8_meet_74 (fun ws hws => ⟨_, hws, ?_⟩)
                clear RET G hT hnm
                have ea : n_ x = pa := by rw [epa]; exact nI_clamp (by omega)
                have eb : n_ y = pb := by rw [epb]; exact nI_clamp (by omega)
                refine ⟨?_, h60_c⟩
                rw [s_meet, if_pos ⟨h2_h, h10_h, h18⟩, ea, eb, ← hm_]
                first
                  | (exfalso; omega)
                  | (rw [show 61 - q = (60 - q) + 1 by omega, s_mt, if_pos h46])
              · have n66 := (not_congr (cmp_le (x := nI q) (y := 60) (a := q) (b := 60) rfl (ix_lit 60 rfl) (by omega) (by omega))).mp h66
                refine v_iconst (v := (-1)) G dX8_meet_69 rfl ?_
                refine v_goto (tgt := 74) G dX8_meet_70 (by decide) ?_
                refine RET _ _ _ _ _ _ rfl (Nat.le_of_ble_eq_true rfl) (Nat.le_of_ble_eq_true rfl) dX8_meet_74 (fun ws hws => ⟨_, hws, ?_⟩)
                clear RET G hT hnm
                have ea : n_ x = pa := by rw [epa]; exact nI_clamp (by omega)
                have eb : n_ y = pb := by rw [epb]; exact nI_clamp (by omega)
                refine ⟨?_, h60_c⟩
                rw [s_meet, if_pos ⟨h2_h, h10_h, h18⟩, ea, eb, ← hm_]
                first
                  | (exfalso; omega)
                  | (rw [show 61 - q = 0 by omega]; rfl)
            · have n33 := (not_congr (cmp_lt (x := 60) (y := nI q) (a := 60) (b := q) (ix_lit 60 rfl) rfl (by omega) (by omega))).mp h33
              refine v_aload_n G 3 dX8_meet_36 rfl ?_
              refine v_iload_n G 2 dX8_meet_37 rfl ?_
              refine v_stk (st' := [.int (nI pa), .ref (ad 43)]) (by first | rfl | (have e0 : x = nI pa := epa ; simp only [e0])) ?_
              refine w_callVi G hK hT (kX8_atOf hK l dC dI ct ad τ pa (by first | assumption | omega)) (ck_X8_351 G.2.2.2.2.1 ⟨Nat.le_of_ble_eq_true rfl, Nat.le_of_ble_eq_true rfl⟩) m_recv (fun _ h => h) rfl [] rfl (Nat.le_of_ble_eq_true rfl) dX8_meet_38 ⟨Nat.le_of_ble_eq_true rfl, Nat.le_of_ble_eq_true rfl⟩ (k1 := 0) (n1 := 0) rfl rfl ?_
              rintro r38 σ38 ⟨rfl, rfl⟩
              refine v_topr (congrArg Value.int (show τ.1 10 (5 * pa + 1) = (s_iter (co σ) q) 10 (5 * pa + 1) from (by first | rfl | exact congrFun (congrFun hc 10) (5 * pa + 1)))) ?_
              refine v_aload_n G 3 dX8_meet_41 rfl ?_
              refine v_iload_n G 1 dX8_meet_42 rfl ?_
              refine v_stk (st' := [.int (nI pb), .ref (ad 43), .int ((s_iter (co σ) q) 10 (5 * pa + 1))]) (by first | rfl | (have e0 : y = nI pb := epb ; simp only [e0])) ?_
              refine w_callVi G hK hT (kX8_atOf hK l dC dI ct ad τ pb (by first | assumption | omega)) (ck_X8_351 G.2.2.2.2.1 ⟨Nat.le_of_ble_eq_true rfl, Nat.le_of_ble_eq_true rfl⟩) m_recv (fun _ h => h) rfl [.int ((s_iter (co σ) q) 10 (5 * pa + 1))] rfl (Nat.le_of_ble_eq_true rfl) dX8_meet_43 ⟨Nat.le_of_ble_eq_true rfl, Nat.le_of_ble_eq_true rfl⟩ (k1 := 0) (n1 := 0) rfl rfl ?_
              rintro r43 σ43 ⟨rfl, rfl⟩
              refine v_topr (congrArg Value.int (show τ.1 10 (5 * pb + 1) = (s_iter (co σ) q) 10 (5 * pb + 1) from (by first | rfl | exact congrFun (congrFun hc 10) (5 * pb + 1)))) ?_
              refine v_icmp_eq (tgt := 59) G dX8_meet_46 (by decide) (fun h46 => ?_) (fun h46 => ?_)
              · refine v_aload_n G 3 dX8_meet_59 rfl ?_
                refine w_callVv G hK hT (kX8_laysBack hK l dC dI ct ad τ (co σ) hw27 (by rw [hc]; exact near_iter hO.1 q)) (ck_X8_381 G.2.2.2.2.1 ⟨Nat.le_of_ble_eq_true rfl, Nat.le_of_ble_eq_true rfl⟩) m_recv (fun _ h => h) rfl [] rfl (Nat.le_of_ble_eq_true rfl) dX8_meet_60 ⟨Nat.le_of_ble_eq_true rfl, Nat.le_of_ble_eq_true rfl⟩ (k1 := 0) (n1 := 0) rfl rfl ?_
                rintro σ60 ⟨h60_c, h60_a⟩
                refine v_iload_n G 0 dX8_meet_63 rfl ?_
                refine v_bipush (v := 60) G dX8_meet_64 rfl ?_
                refine v_icmp_le (tgt := 73) G dX8_meet_66 (by decide) (fun h66 => ?_) (fun h66 => ?_)
                · have n66 := (cmp_le (x := nI q) (y := 60) (a := q) (b := 60) rfl (ix_lit 60 rfl) (by omega) (by omega)).mp h66
                  refine v_iload_n G 0 dX8_meet_73 rfl ?_
                  refine RET _ _ _ _ _ _ rfl (Nat.le_of_ble_eq_true rfl) (Nat.le_of_ble_eq_true rfl) dX8_meet_74 (fun ws hws => ⟨_, hws, ?_⟩)
                  clear RET G hT hnm
                  have ea : n_ x = pa := by rw [epa]; exact nI_clamp (by omega)
                  have eb : n_ y = pb := by rw [epb]; exact nI_clamp (by omega)
                  refine ⟨?_, h60_c⟩
                  rw [s_meet, if_pos ⟨h2_h, h10_h, h18⟩, ea, eb, ← hm_]
                  first
                    | (exfalso; omega)
                    | (rw [show 61 - q = (60 - q) + 1 by omega, s_mt, if_pos h46])
                · have n66 := (not_congr (cmp_le (x := nI q) (y := 60) (a := q) (b := 60) rfl (ix_lit 60 rfl) (by omega) (by omega))).mp h66
                  refine v_iconst (v := (-1)) G dX8_meet_69 rfl ?_
                  refine v_goto (tgt := 74) G dX8_meet_70 (by decide) ?_
                  refine RET _ _ _ _ _ _ rfl (Nat.le_of_ble_eq_true rfl) (Nat.le_of_ble_eq_true rfl) dX8_meet_74 (fun ws hws => ⟨_, hws, ?_⟩)
                  clear RET G hT hnm
                  have ea : n_ x = pa := by rw [epa]; exact nI_clamp (by omega)
                  have eb : n_ y = pb := by rw [epb]; exact nI_clamp (by omega)
                  refine ⟨?_, h60_c⟩
                  rw [s_meet, if_pos ⟨h2_h, h10_h, h18⟩, ea, eb, ← hm_]
                  first
                    | (exfalso; omega)
                    | (rw [show 61 - q = 0 by omega]; rfl)
              · refine v_aload_n G 3 dX8_meet_49 rfl ?_
                refine w_callVv G hK hT (kX8_passes hK l dC dI ct ad τ (by rw [hc]; exact (ok_iter hO))) (ck_X8_368 G.2.2.2.2.1 ⟨Nat.le_of_ble_eq_true rfl, Nat.le_of_ble_eq_true rfl⟩) m_recv (fun _ h => h) rfl [] rfl (Nat.le_of_ble_eq_true rfl) dX8_meet_50 ⟨Nat.le_of_ble_eq_true rfl, Nat.le_of_ble_eq_true rfl⟩ (k1 := 0) (n1 := 0) rfl rfl ?_
                rintro σ50 ⟨h50_c, h50_a⟩
                refine v_iinc (v := nI (q + 1)) (L' := [(3, .int (nI (q + 1))), (2, .int y), (1, .int x), (0, .ref (ad 43))]) G 0 dX8_meet_53 rfl (ix_add rfl (ix_lit 1 rfl)) (by decide) rfl ?_
                refine v_goto (tgt := 30) G dX8_meet_56 (by decide) ?_
                refine V_.sub (L' := [(3, .int (nI (q + 1))), (2, .int y), (1, .int x), (0, .ref (ad 43))]) ?_ [0, 1, 2, 3] rfl
                exact ih30  (q + 1) σ50 (by omega) (show co σ50 = (s_pass (s_iter (co σ) q) o0) from (h50_c.trans (by rw [hc]))) (by rw [h50_a 27 (by decide)]; exact hw27) (by rw [← hm_, show 61 - q = (61 - (q + 1)) + 1 by omega, s_mt, if_neg h46]) (by omega)
        refine V_.sub (L' := [(3, .int 0), (2, .int y), (1, .int x), (0, .ref (ad 43))]) ?_ [0, 3, 2, 1] rfl
        refine v_loc (L' := [(3, .int (nI 0)), (2, .int y), (1, .int x), (0, .ref (ad 43))]) (rfl) ?_
        exact loop30 _ 0 σ25 (by omega) (show co σ25 = co σ from (ag_co h25_a (by decide))) h25_w rfl (Nat.lt_succ_self _)
      · refine v_bipush (v := (-2)) G dX8_meet_21 rfl ?_
        refine RET _ _ _ _ _ _ rfl (Nat.le_of_ble_eq_true rfl) (Nat.le_of_ble_eq_true rfl) dX8_meet_23 (fun ws hws => ⟨_, hws, ?_⟩)
        clear RET G hT hnm
        exact ⟨by rw [s_meet, if_neg (fun q => by first | exact h2_h q.1 | exact h10_h q.2.1 | exact q.2.2 h18)], rfl⟩
    · refine v_if_eq (tgt := 21) G dX8_meet_13 (by decide) (fun h13 => ?_) (fun h13 => absurd h13 (by decide))
      refine v_bipush (v := (-2)) G dX8_meet_21 rfl ?_
      refine RET _ _ _ _ _ _ rfl (Nat.le_of_ble_eq_true rfl) (Nat.le_of_ble_eq_true rfl) dX8_meet_23 (fun ws hws => ⟨_, hws, ?_⟩)
      clear RET G hT hnm
      exact ⟨by rw [s_meet, if_neg (fun q => by first | exact h2_h q.1 | exact h10_h q.2.1 | exact q.2.2 h18)], rfl⟩
  · refine v_if_eq (tgt := 21) G dX8_meet_5 (by decide) (fun h5 => ?_) (fun h5 => absurd h5 (by decide))
    refine v_bipush (v := (-2)) G dX8_meet_21 rfl ?_
    refine RET _ _ _ _ _ _ rfl (Nat.le_of_ble_eq_true rfl) (Nat.le_of_ble_eq_true rfl) dX8_meet_23 (fun ws hws => ⟨_, hws, ?_⟩)
    clear RET G hT hnm
    exact ⟨by rw [s_meet, if_neg (fun q => by first | exact h2_h q.1 | exact h10_h q.2.1 | exact q.2.2 h18)], rfl⟩
theorem mset_ne_k {σ : MS} {k i : Nat} {v : Int32} {k' : Nat} (h : k' ≠ k) : (mset σ k i v).1 k' = σ.1 k' := upd2_ne _ _ _ h
abbrev rmX8_otherwise : Room := { frames := 45, cells := 0, slots := 0, locals := 1005 }
set_option maxHeartbeats 4000000 in
theorem kX8_otherwise {KT : (Nat → Prop) → State → Heap → Prop} (hK : KTok KT) (l : Launch) (dC : Nat → ClassId) (dI : Nat → Nat → Nat) (ct ad : Nat → Nat) (σ : MS) (x : Int32) (n : Int32) (k : Int32) (hO : Ok (co σ)) : MC KT (dC, dI) vwCl (tysF ct) l yX8_otherwise cX8_otherwise 6 (some .int) rmX8_otherwise [.ref (ad 43), .int x, .int n, .int k] (RM ct ad σ) (QI_ (dC, dI) vwCl (RM ct ad) (fun (r : Int32) (σ' : MS) => (s_otherwise (co σ) x n k) = r ∧ co σ' = co σ)) := by
  refine MC.ofI (own := RX8) pl_X8 rfl (Nat.le_of_ble_eq_true rfl) ?_
  intro pp ee ss mm aa bb hh cc AA QQ G hT hnm RET
  refine v_loc (L' := [(0, .ref (ad 43)), (1, .int x), (2, .int n), (3, .int k)]) rfl ?_
  obtain ⟨hm5, hm⟩ := many5 hO.1
  have hm : σ.1 11 0 = nI (s_many (co σ)) := hm
  refine v_aload_n G 0 dX8_otherwise_0 rfl ?_
  refine v_iload_n G 1 dX8_otherwise_1 rfl ?_
  refine w_callVi G hK hT (kX8_isOne hK l dC dI ct ad σ (s_many (co σ)) x hm5 hm) (ck_X8_101 G.2.2.2.2.1 ⟨Nat.le_of_ble_eq_true rfl, Nat.le_of_ble_eq_true rfl⟩) m_recv (fun _ h => h) rfl [] rfl (Nat.le_of_ble_eq_true rfl) dX8_otherwise_2 ⟨Nat.le_of_ble_eq_true rfl, Nat.le_of_ble_eq_true rfl⟩ (k1 := 0) (n1 := 0) rfl rfl ?_
  rintro r2 σ2 (⟨rfl, rfl, h2_h⟩ | ⟨rfl, rfl, h2_h⟩)
  · refine v_if_eq (tgt := 33) G dX8_otherwise_5 (by decide) (fun h5 => absurd h5 (by decide)) (fun h5 => ?_)
    refine v_iload_n G 2 dX8_otherwise_8 rfl ?_
    refine v_i2l (v := n.toInt64) G dX8_otherwise_9 rfl ?_
    refine v_lconst (v := 1) G dX8_otherwise_10 rfl ?_
    refine v_ldc2 G q1741 dX8_otherwise_11 ?_
    refine w_callSi G hK hT (kX8_in hK l dC dI ct ad σ n.toInt64 1 40) (ck_X8_86 G.2.2.2.2.1 ⟨Nat.le_of_ble_eq_true rfl, Nat.le_of_ble_eq_true rfl⟩) (fun _ h => h) rfl [] rfl (Nat.le_of_ble_eq_true rfl) dX8_otherwise_14 ⟨Nat.le_of_ble_eq_true rfl, Nat.le_of_ble_eq_true rfl⟩ (k1 := 0) (n1 := 0) rfl rfl ?_
    rintro r14 σ14 (⟨rfl, rfl, h14_h⟩ | ⟨rfl, rfl, h14_h⟩)
    · have g14 := (in_rg (c := n) (lo := 1) (hi := 40) (a := 1) (z := 40) (by decide) (by decide)).mp h14_h
      refine v_if_eq (tgt := 33) G dX8_otherwise_17 (by decide) (fun h17 => absurd h17 (by decide)) (fun h17 => ?_)
      refine v_iload_n G 3 dX8_otherwise_20 rfl ?_
      refine v_i2l (v := k.toInt64) G dX8_otherwise_21 rfl ?_
      refine v_lconst (v := 0) G dX8_otherwise_22 rfl ?_
      refine v_iload_n G 2 dX8_otherwise_23 rfl ?_
      refine v_iconst (v := 1) G dX8_otherwise_24 rfl ?_
      refine v_isub G dX8_otherwise_25 ?_
      refine v_i2l (v := (n - 1).toInt64) G dX8_otherwise_26 rfl ?_
      refine w_callSi G hK hT (kX8_in hK l dC dI ct ad σ k.toInt64 0 ((n - 1).toInt64)) (ck_X8_86 G.2.2.2.2.1 ⟨Nat.le_of_ble_eq_true rfl, Nat.le_of_ble_eq_true rfl⟩) (fun _ h => h) rfl [] rfl (Nat.le_of_ble_eq_true rfl) dX8_otherwise_27 ⟨Nat.le_of_ble_eq_true rfl, Nat.le_of_ble_eq_true rfl⟩ (k1 := 0) (n1 := 0) rfl rfl ?_
      rintro r27 σ27 (⟨rfl, rfl, h27_h⟩ | ⟨rfl, rfl, h27_h⟩)
      · obtain ⟨nn, hnn, enn_⟩ := rg_nat (n := 40) (x := n) ⟨(by have := g14.1; omega), g14.2⟩ (by decide)
        have e27 : (n - 1).toInt64.toInt = n.toInt - 1 := by rw [i64_toInt, enn_]; rw [nI_m1 (by omega), nI_toInt (by omega)]
        have hk27 : rg k 0 (n.toInt - 1) := (in_rg (by decide) e27).mp h27_h
        refine v_if_ne (tgt := 36) G dX8_otherwise_30 (by decide) (fun h30 => ?_) (fun h30 => absurd h30 (by decide))
        obtain ⟨p, hpm, ep⟩ := rg_lt h2_h (by omega)
        obtain ⟨kk, hkk, ekk⟩ := rg_nat (n := 40) (x := k) ⟨hk27.1, by have := hk27.2; have := g14.2; omega⟩ (by decide)
        refine v_aload_n G 0 dX8_otherwise_36 rfl ?_
        refine w_callVv G hK hT (kX8_laysAside hK l dC dI ct ad σ) (ck_X8_378 G.2.2.2.2.1 ⟨Nat.le_of_ble_eq_true rfl, Nat.le_of_ble_eq_true rfl⟩) m_recv (fun _ h => h) rfl [] rfl (Nat.le_of_ble_eq_true rfl) dX8_otherwise_37 ⟨Nat.le_of_ble_eq_true rfl, Nat.le_of_ble_eq_true rfl⟩ (k1 := 0) (n1 := 0) rfl rfl ?_
        rintro σ37 ⟨h37_w, h37_a⟩
        refine v_iconst (v := 0) G dX8_otherwise_40 rfl ?_
        refine v_istore (L' := [(4, .int 0), (0, .ref (ad 43)), (1, .int x), (2, .int n), (3, .int k)]) G dX8_otherwise_41 (by decide) rfl ?_
        have loop43 : ∀ (dd : Nat) (q : Nat) (τ : MS), (q ≤ nn) → (co τ = s_iterO (co σ) p kk q) → (aside (co σ) (τ.1 27)) → nn - q < dd → V_ pp l ee rmX8_otherwise ss mm aa bb hh cc 6 (dC, dI) vwCl AA QQ 0 0 (RM ct ad τ) 43 [(4, .int (nI q)), (3, .int k), (2, .int n), (1, .int x), (0, .ref (ad 43))] [] := by
          intro dd
          induction dd with
          | zero => intro q τ hq hc hw27 hdd; exact absurd hdd (Nat.not_lt_zero _)
          | succ dd ih43 =>
            intro q τ hq hc hw27 hdd
            refine v_iload G 0 dX8_otherwise_43 rfl ?_
            refine v_iload_n G 2 dX8_otherwise_45 rfl ?_
            refine v_icmp_ge (tgt := 106) G dX8_otherwise_46 (by decide) (fun h46 => ?_) (fun h46 => ?_)
            · have n46 := (cmp_le (x := n) (y := nI q) (a := nn) (b := q) enn_ rfl (by omega) (by omega)).mp h46
              refine v_aload_n G 4 dX8_otherwise_106 rfl ?_
              refine v_iload_n G 3 dX8_otherwise_107 rfl ?_
              refine v_stk (st' := [.int (nI p), .ref (ad 43)]) (by first | rfl | (have e0 : x = nI p := ep ; simp only [e0])) ?_
              refine w_callVi G hK hT (kX8_atOf hK l dC dI ct ad τ p (by first | assumption | omega)) (ck_X8_351 G.2.2.2.2.1 ⟨Nat.le_of_ble_eq_true rfl, Nat.le_of_ble_eq_true rfl⟩) m_recv (fun _ h => h) rfl [] rfl (Nat.le_of_ble_eq_true rfl) dX8_otherwise_108 ⟨Nat.le_of_ble_eq_true rfl, Nat.le_of_ble_eq_true rfl⟩ (k1 := 0) (n1 := 0) rfl rfl ?_
              rintro r108 σ108 ⟨rfl, rfl⟩
              refine v_topr (congrArg Value.int (show τ.1 10 (5 * p + 1) = (s_iterO (co σ) p kk q) 10 (5 * p + 1) from (by first | rfl | exact congrFun (congrFun hc 10) (5 * p + 1)))) ?_
              refine v_istore (L' := [(4, .int ((s_iterO (co σ) p kk q) 10 (5 * p + 1))), (3, .int k), (2, .int n), (1, .int x), (0, .ref (ad 43))]) G dX8_otherwise_111 (by decide) rfl ?_
              refine v_aload_n G 4 dX8_otherwise_113 rfl ?_
              refine w_callVv G hK hT (kX8_laysBack hK l dC dI ct ad τ (co σ) hw27 (by rw [hc]; exact near_iterO hO q)) (ck_X8_381 G.2.2.2.2.1 ⟨Nat.le_of_ble_eq_true rfl, Nat.le_of_ble_eq_true rfl⟩) m_recv (fun _ h => h) rfl [] rfl (Nat.le_of_ble_eq_true rfl) dX8_otherwise_114 ⟨Nat.le_of_ble_eq_true rfl, Nat.le_of_ble_eq_true rfl⟩ (k1 := 0) (n1 := 0) rfl rfl ?_
              rintro σ114 ⟨h114_c, h114_a⟩
              refine v_iload G 0 dX8_otherwise_117 rfl ?_
              refine RET _ _ _ _ _ _ rfl (Nat.le_of_ble_eq_true rfl) (Nat.le_of_ble_eq_true rfl) dX8_otherwise_119 (fun ws hws => ⟨_, hws, ?_⟩)
              clear RET G hT hnm
              have epn : n_ x = p := by rw [ep]; exact nI_clamp (by omega)
              have enn : n_ n = nn := by rw [enn_]; exact nI_clamp (by omega)
              have ekk2 : n_ k = kk := by rw [ekk]; exact nI_clamp (by omega)
              refine ⟨?_, h114_c⟩
              rw [s_otherwise, if_pos ⟨h2_h, g14, hk27⟩, epn, enn, ekk2, show nn = q by omega]
            · have n46 := (not_congr (cmp_le (x := n) (y := nI q) (a := nn) (b := q) enn_ rfl (by omega) (by omega))).mp h46
              refine v_iconst (v := 0) G dX8_otherwise_49 rfl ?_
              refine v_istore (L' := [(5, .int 0), (4, .int (nI q)), (3, .int k), (2, .int n), (1, .int x), (0, .ref (ad 43))]) G dX8_otherwise_50 (by decide) rfl ?_
              have loop52 : ∀ (dd : Nat) (z : Nat) (μ : MS), (z ≤ s_many (co σ)) → (co μ = s_passN (s_iterO (co σ) p kk q) (oT p kk q) z) → (aside (co σ) (μ.1 27)) → s_many (co σ) - z < dd → V_ pp l ee rmX8_otherwise ss mm aa bb hh cc 6 (dC, dI) vwCl AA QQ 0 0 (RM ct ad μ) 52 [(5, .int (nI z)), (4, .int (nI q)), (3, .int k), (2, .int n), (1, .int x), (0, .ref (ad 43))] [] := by
                intro dd
                induction dd with
                | zero => intro z μ hz hd hw28 hdd; exact absurd hdd (Nat.not_lt_zero _)
                | succ dd ih52 =>
                  intro z μ hz hd hw28 hdd
                  have hmm : μ.1 11 0 = nI (s_many (co σ)) := by
                    rw [show μ.1 11 0 = co μ 11 0 from rfl, hd, s_passN_k (by decide) (by decide), s_iterO_k (by decide) (by decide) (by decide)]
                    exact hm
                  have hmz : s_many (s_iterO (co σ) p kk q) = s_many (co σ) := by rw [s_many, s_iterO_k (by decide) (by decide) (by decide)]
                  refine v_iload G 0 dX8_otherwise_52 rfl ?_
                  refine v_aload_n G 5 dX8_otherwise_54 rfl ?_
                  refine m_get (v := .int (μ.1 11 0)) G 11 (by decide) rfl q1305 rfl dX8_otherwise_55 ?_
                  refine v_icmp_ge (tgt := 90) G dX8_otherwise_58 (by decide) (fun h58 => ?_) (fun h58 => ?_)
                  · have n58 := (cmp_le (x := μ.1 11 0) (y := nI z) (a := s_many (co σ)) (b := z) hmm rfl (by omega) (by omega)).mp h58
                    refine v_aload_n G 5 dX8_otherwise_90 rfl ?_
                    refine v_dup G dX8_otherwise_91 rfl ?_
                    refine m_get (v := .int (μ.1 7 0)) G 7 (by decide) rfl q1301 rfl dX8_otherwise_92 ?_
                    refine v_iconst (v := 1) G dX8_otherwise_95 rfl ?_
                    refine v_iadd G dX8_otherwise_96 ?_
                    refine m_putI G 7 (by decide) q1301 rfl rfl rfl dX8_otherwise_97 ?_
                    refine v_iinc (v := nI (q + 1)) (L' := [(4, .int (nI (q + 1))), (5, .int (nI z)), (3, .int k), (2, .int n), (1, .int x), (0, .ref (ad 43))]) G 1 dX8_otherwise_100 rfl (ix_add rfl (ix_lit 1 rfl)) (by decide) rfl ?_
                    refine v_goto (tgt := 43) G dX8_otherwise_103 (by decide) ?_
                    refine V_.sub (L' := [(4, .int (nI (q + 1))), (3, .int k), (2, .int n), (1, .int x), (0, .ref (ad 43))]) ?_ [0, 2, 3, 4, 5] rfl
                    exact ih43  (q + 1) (mset μ 7 0 ((μ.1 7 0) + 1)) (by omega) (by rw [co_set (by decide), hd, show z = s_many (s_iterO (co σ) p kk q) by rw [hmz]; omega]; show upd2 _ 7 0 (μ.1 7 0 + 1) = s_pass _ _; rw [show μ.1 7 0 = s_iterO (co σ) p kk q 7 0 by rw [← s_passN_k (K := s_iterO (co σ) p kk q) (o := oT p kk q) (by decide) (by decide) z, ← hd]; rfl]; rfl) (by rw [mset_ne_k (by decide)]; exact hw28) (by omega)
                  · have n58 := (not_congr (cmp_le (x := μ.1 11 0) (y := nI z) (a := s_many (co σ)) (b := z) hmm rfl (by omega) (by omega))).mp h58
                    refine v_aload_n G 5 dX8_otherwise_61 rfl ?_
                    refine v_iload G 0 dX8_otherwise_62 rfl ?_
                    refine v_iload G 0 dX8_otherwise_64 rfl ?_
                    refine v_iload_n G 4 dX8_otherwise_66 rfl ?_
                    refine v_icmp_ne (tgt := 80) G dX8_otherwise_67 (by decide) (fun h67 => ?_) (fun h67 => ?_)
                    · have n67 := (not_congr (cmp_eq (x := nI z) (y := x) (a := z) (b := p) rfl ep (by omega) (by omega))).mp h67
                      refine v_iconst (v := 0) G dX8_otherwise_80 rfl ?_
                      refine v_stk (st' := [.int (nI 0), .int (nI z), .ref (ad 43)]) (by first | rfl | (have e0 : 0 = nI 0 := (ix_lit 0 rfl) ; simp only [e0])) ?_
                      refine w_callVv G hK hT (kX8_goes hK l dC dI ct ad μ z 0 (by rw [hd]; exact (ok_passN (ok_iterO hO q) (by omega))) (by omega) (by decide)) (ck_X8_364 G.2.2.2.2.1 ⟨Nat.le_of_ble_eq_true rfl, Nat.le_of_ble_eq_true rfl⟩) m_recv (fun _ h => h) rfl [] rfl (Nat.le_of_ble_eq_true rfl) dX8_otherwise_81 ⟨Nat.le_of_ble_eq_true rfl, Nat.le_of_ble_eq_true rfl⟩ (k1 := 0) (n1 := 0) rfl rfl ?_
                      rintro σ81 ⟨h81_c, h81_a⟩
                      refine v_iinc (v := nI (z + 1)) (L' := [(5, .int (nI (z + 1))), (4, .int (nI q)), (3, .int k), (2, .int n), (1, .int x), (0, .ref (ad 43))]) G 0 dX8_otherwise_84 rfl (ix_add rfl (ix_lit 1 rfl)) (by decide) rfl ?_
                      refine v_goto (tgt := 52) G dX8_otherwise_87 (by decide) ?_
                      refine V_.sub (L' := [(5, .int (nI (z + 1))), (4, .int (nI q)), (3, .int k), (2, .int n), (1, .int x), (0, .ref (ad 43))]) ?_ [0, 1, 2, 3, 4, 5] rfl
                      exact ih52  (z + 1) σ81 (by omega) (show co σ81 = s_goes (s_passN (s_iterO (co σ) p kk q) (oT p kk q) z) z (oT p kk q z) from (h81_c.trans (by rw [hd]; exact congrArg (s_goes _ z) (by first | (rw [oT, if_pos ⟨n67, n73⟩]; done) | rw [oT, if_neg (fun q => by first | exact n67 q.1 | exact n73 q.2)])))) (by rw [h81_a 27 (by decide)]; exact hw28) (by omega)
                    · have n67 := (cmp_eq (x := nI z) (y := x) (a := z) (b := p) rfl ep (by omega) (by omega)).mp h67
                      refine v_iload G 1 dX8_otherwise_70 rfl ?_
                      refine v_iload_n G 2 dX8_otherwise_72 rfl ?_
                      refine v_icmp_ne (tgt := 80) G dX8_otherwise_73 (by decide) (fun h73 => ?_) (fun h73 => ?_)
                      · have n73 := (not_congr (cmp_eq (x := nI q) (y := k) (a := q) (b := kk) rfl ekk (by omega) (by omega))).mp h73
                        refine v_iconst (v := 0) G dX8_otherwise_80 rfl ?_
                        refine v_stk (st' := [.int (nI 0), .int (nI z), .ref (ad 43)]) (by first | rfl | (have e0 : 0 = nI 0 := (ix_lit 0 rfl) ; simp only [e0])) ?_
                        refine w_callVv G hK hT (kX8_goes hK l dC dI ct ad μ z 0 (by rw [hd]; exact (ok_passN (ok_iterO hO q) (by omega))) (by omega) (by decide)) (ck_X8_364 G.2.2.2.2.1 ⟨Nat.le_of_ble_eq_true rfl, Nat.le_of_ble_eq_true rfl⟩) m_recv (fun _ h => h) rfl [] rfl (Nat.le_of_ble_eq_true rfl) dX8_otherwise_81 ⟨Nat.le_of_ble_eq_true rfl, Nat.le_of_ble_eq_true rfl⟩ (k1 := 0) (n1 := 0) rfl rfl ?_
                        rintro σ81 ⟨h81_c, h81_a⟩
                        refine v_iinc (v := nI (z + 1)) (L' := [(5, .int (nI (z + 1))), (4, .int (nI q)), (3, .int k), (2, .int n), (1, .int x), (0, .ref (ad 43))]) G 0 dX8_otherwise_84 rfl (ix_add rfl (ix_lit 1 rfl)) (by decide) rfl ?_
                        refine v_goto (tgt := 52) G dX8_otherwise_87 (by decide) ?_
                        refine V_.sub (L' := [(5, .int (nI (z + 1))), (4, .int (nI q)), (3, .int k), (2, .int n), (1, .int x), (0, .ref (ad 43))]) ?_ [0, 1, 2, 3, 4, 5] rfl
                        exact ih52  (z + 1) σ81 (by omega) (show co σ81 = s_goes (s_passN (s_iterO (co σ) p kk q) (oT p kk q) z) z (oT p kk q z) from (h81_c.trans (by rw [hd]; exact congrArg (s_goes _ z) (by first | (rw [oT, if_pos ⟨n67, n73⟩]; done) | rw [oT, if_neg (fun q => by first | exact n67 q.1 | exact n73 q.2)])))) (by rw [h81_a 27 (by decide)]; exact hw28) (by omega)
                      · have n73 := (cmp_eq (x := nI q) (y := k) (a := q) (b := kk) rfl ekk (by omega) (by omega)).mp h73
                        refine v_iconst (v := 1) G dX8_otherwise_76 rfl ?_
                        refine v_goto (tgt := 81) G dX8_otherwise_77 (by decide) ?_
                        refine v_stk (st' := [.int (nI 1), .int (nI z), .ref (ad 43)]) (by first | rfl | (have e0 : 1 = nI 1 := (ix_lit 1 rfl) ; simp only [e0])) ?_
                        refine w_callVv G hK hT (kX8_goes hK l dC dI ct ad μ z 1 (by rw [hd]; exact (ok_passN (ok_iterO hO q) (by omega))) (by omega) (by decide)) (ck_X8_364 G.2.2.2.2.1 ⟨Nat.le_of_ble_eq_true rfl, Nat.le_of_ble_eq_true rfl⟩) m_recv (fun _ h => h) rfl [] rfl (Nat.le_of_ble_eq_true rfl) dX8_otherwise_81 ⟨Nat.le_of_ble_eq_true rfl, Nat.le_of_ble_eq_true rfl⟩ (k1 := 0) (n1 := 0) rfl rfl ?_
                        rintro σ81 ⟨h81_c, h81_a⟩
                        refine v_iinc (v := nI (z + 1)) (L' := [(5, .int (nI (z + 1))), (4, .int (nI q)), (3, .int k), (2, .int n), (1, .int x), (0, .ref (ad 43))]) G 0 dX8_otherwise_84 rfl (ix_add rfl (ix_lit 1 rfl)) (by decide) rfl ?_
                        refine v_goto (tgt := 52) G dX8_otherwise_87 (by decide) ?_
                        refine V_.sub (L' := [(5, .int (nI (z + 1))), (4, .int (nI q)), (3, .int k), (2, .int n), (1, .int x), (0, .ref (ad 43))]) ?_ [0, 1, 2, 3, 4, 5] rfl
                        exact ih52  (z + 1) σ81 (by omega) (show co σ81 = s_goes (s_passN (s_iterO (co σ) p kk q) (oT p kk q) z) z (oT p kk q z) from (h81_c.trans (by rw [hd]; exact congrArg (s_goes _ z) (by first | (rw [oT, if_pos ⟨n67, n73⟩]; done) | rw [oT, if_neg (fun q => by first | exact n67 q.1 | exact n73 q.2)])))) (by rw [h81_a 27 (by decide)]; exact hw28) (by omega)
              refine V_.sub (L' := [(5, .int 0), (4, .int (nI q)), (3, .int k), (2, .int n), (1, .int x), (0, .ref (ad 43))]) ?_ [0, 1, 2, 3, 4, 5] rfl
              refine v_loc (L' := [(5, .int (nI 0)), (4, .int (nI q)), (3, .int k), (2, .int n), (1, .int x), (0, .ref (ad 43))]) (rfl) ?_
              exact loop52 _ 0 τ (Nat.zero_le _) hc hw27 (Nat.lt_succ_self _)
        refine V_.sub (L' := [(4, .int 0), (3, .int k), (2, .int n), (1, .int x), (0, .ref (ad 43))]) ?_ [0, 4, 3, 2, 1] rfl
        refine v_loc (L' := [(4, .int (nI 0)), (3, .int k), (2, .int n), (1, .int x), (0, .ref (ad 43))]) (rfl) ?_
        exact loop43 _ 0 σ37 (by omega) (show co σ37 = co σ from (ag_co h37_a (by decide))) h37_w (Nat.lt_succ_self _)
      · obtain ⟨nn, hnn, enn_⟩ := rg_nat (n := 40) (x := n) ⟨(by have := g14.1; omega), g14.2⟩ (by decide)
        have e27 : (n - 1).toInt64.toInt = n.toInt - 1 := by rw [i64_toInt, enn_]; rw [nI_m1 (by omega), nI_toInt (by omega)]
        have hk27 : ¬ rg k 0 (n.toInt - 1) := fun q => h27_h ((in_rg (by decide) e27).mpr q)
        refine v_if_ne (tgt := 36) G dX8_otherwise_30 (by decide) (fun h30 => absurd h30 (by decide)) (fun h30 => ?_)
        refine v_bipush (v := (-2)) G dX8_otherwise_33 rfl ?_
        refine RET _ _ _ _ _ _ rfl (Nat.le_of_ble_eq_true rfl) (Nat.le_of_ble_eq_true rfl) dX8_otherwise_35 (fun ws hws => ⟨_, hws, ?_⟩)
        clear RET G hT hnm
        exact ⟨by rw [s_otherwise, if_neg (fun q => by first | exact h2_h q.1 | exact g14 q.2.1 | exact hk27 q.2.2)], rfl⟩
    · have g14 : ¬ rg n 1 40 := fun zz => h14_h ((in_rg (c := n) (lo := 1) (hi := 40) (a := 1) (z := 40) (by decide) (by decide)).mpr zz)
      refine v_if_eq (tgt := 33) G dX8_otherwise_17 (by decide) (fun h17 => ?_) (fun h17 => absurd h17 (by decide))
      refine v_bipush (v := (-2)) G dX8_otherwise_33 rfl ?_
      refine RET _ _ _ _ _ _ rfl (Nat.le_of_ble_eq_true rfl) (Nat.le_of_ble_eq_true rfl) dX8_otherwise_35 (fun ws hws => ⟨_, hws, ?_⟩)
      clear RET G hT hnm
      exact ⟨by rw [s_otherwise, if_neg (fun q => by first | exact h2_h q.1 | exact g14 q.2.1 | exact hk27 q.2.2)], rfl⟩
  · refine v_if_eq (tgt := 33) G dX8_otherwise_5 (by decide) (fun h5 => ?_) (fun h5 => absurd h5 (by decide))
    refine v_bipush (v := (-2)) G dX8_otherwise_33 rfl ?_
    refine RET _ _ _ _ _ _ rfl (Nat.le_of_ble_eq_true rfl) (Nat.le_of_ble_eq_true rfl) dX8_otherwise_35 (fun ws hws => ⟨_, hws, ?_⟩)
    clear RET G hT hnm
    exact ⟨by rw [s_otherwise, if_neg (fun q => by first | exact h2_h q.1 | exact g14 q.2.1 | exact hk27 q.2.2)], rfl⟩
