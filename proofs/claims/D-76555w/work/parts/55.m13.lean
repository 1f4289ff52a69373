set_option maxRecDepth 100000
abbrev rmX8_waysTo : Room := { frames := 0, cells := 0, slots := 0, locals := 0 }
set_option maxHeartbeats 1000000 in
theorem kX8_waysTo {KT : (Nat → Prop) → State → Heap → Prop} (hK : KTok KT) (l : Launch) (dC : Nat → ClassId) (dI : Nat → Nat → Nat) (ct ad : Nat → Nat) (σ : MS) (a : Nat) (b : Nat) (n : Nat) (hO : Ok (co σ)) (ha : a < 12) (hb : b < 12) (hn : n ≤ 30) : MC KT (dC, dI) vwCl (tysF ct) l yX8_waysTo cX8_waysTo 6 (some .long) rmX8_waysTo [.ref (ad 43), .int (nI a), .int (nI b), .int (nI n)] (RM ct ad σ) (QL_ (dC, dI) vwCl (RM ct ad) (fun (r : Int64) (σ' : MS) => (lN (s_wy (co σ 8) a n b)) = r ∧ co σ' = co σ)) := by
  refine MC.ofL (own := RX8) pl_X8 rfl (Nat.le_of_ble_eq_true rfl) ?_
  intro pp ee ss mm aa bb hh cc AA QQ G hT hnm RET
  refine v_loc (L' := [(0, .ref (ad 43)), (1, .int (nI a)), (2, .int (nI b)), (3, .int (nI n))]) rfl ?_
  refine v_iconst (v := 0) G dX8_waysTo_0 rfl ?_
  refine v_istore (L' := [(4, .int 0), (0, .ref (ad 43)), (1, .int (nI a)), (2, .int (nI b)), (3, .int (nI n))]) G dX8_waysTo_1 (by decide) rfl ?_
  have loop3 : ∀ (dd : Nat) (q : Nat) (τ : MS), (q ≤ 12) → (ag [] σ τ) → (∀ i, i < q → τ.2 28 i = lN (s_wy (σ.1 8) a 0 i)) → 12 - q < dd → V_ pp l ee rmX8_waysTo ss mm aa bb hh cc 6 (dC, dI) vwCl AA QQ 0 0 (RM ct ad τ) 3 [(4, .int (nI q)), (3, .int (nI n)), (2, .int (nI b)), (1, .int (nI a)), (0, .ref (ad 43))] [] := by
    intro dd
    induction dd with
    | zero => intro q τ hq haτ hwa hdd; exact absurd hdd (Nat.not_lt_zero _)
    | succ dd ih3 =>
      intro q τ hq haτ hwa hdd
      refine v_iload G 0 dX8_waysTo_3 rfl ?_
      refine v_bipush (v := 12) G dX8_waysTo_5 rfl ?_
      refine v_icmp_ge (tgt := 34) G dX8_waysTo_7 (by decide) (fun h7 => ?_) (fun h7 => ?_)
      · have n7 := (cmp_le (x := 12) (y := nI q) (a := 12) (b := q) (ix_lit 12 rfl) rfl (by omega) (by omega)).mp h7
        refine v_iconst (v := 0) G dX8_waysTo_34 rfl ?_
        refine v_istore (L' := [(4, .int 0), (3, .int (nI n)), (2, .int (nI b)), (1, .int (nI a)), (0, .ref (ad 43))]) G dX8_waysTo_35 (by decide) rfl ?_
        have loop37 : ∀ (dd : Nat) (y : Nat) (μ : MS), (y ≤ n) → (ag [] σ μ) → (∀ i, i < 12 → μ.2 28 i = lN (s_wy (σ.1 8) a y i)) → n - y < dd → V_ pp l ee rmX8_waysTo ss mm aa bb hh cc 6 (dC, dI) vwCl AA QQ 0 0 (RM ct ad μ) 37 [(4, .int (nI y)), (3, .int (nI n)), (2, .int (nI b)), (1, .int (nI a)), (0, .ref (ad 43))] [] := by
          intro dd
          induction dd with
          | zero => intro y μ hy haμ hwb hdd; exact absurd hdd (Nat.not_lt_zero _)
          | succ dd ih37 =>
            intro y μ hy haμ hwb hdd
            refine v_iload G 0 dX8_waysTo_37 rfl ?_
            refine v_iload_n G 1 dX8_waysTo_39 rfl ?_
            refine v_icmp_ge (tgt := 143) G dX8_waysTo_40 (by decide) (fun h40 => ?_) (fun h40 => ?_)
            · have n40 := (cmp_le (x := nI n) (y := nI y) (a := n) (b := y) rfl rfl (by omega) (by omega)).mp h40
              refine v_aload_n G 4 dX8_waysTo_143 rfl ?_
              refine m_get (v := .ref (ad 28)) G 28 (by decide) rfl q1322 rfl dX8_waysTo_144 ?_
              refine v_iload_n G 2 dX8_waysTo_147 rfl ?_
              refine m_lald G 28 (by decide) (b) rfl (show b < 12 by first | omega | assumption | decide) dX8_waysTo_148 ?_
              refine RET _ _ _ _ _ _ (Nat.le_of_ble_eq_true rfl) (Nat.le_of_ble_eq_true rfl) dX8_waysTo_149 (fun ws hws => ⟨_, hws, ?_⟩)
              clear RET G hT hnm
              refine ⟨?_, ag_co haμ (by decide)⟩
              rw [hwb b hb, show y = n by omega]
              rfl
            · have n40 := (not_congr (cmp_le (x := nI n) (y := nI y) (a := n) (b := y) rfl rfl (by omega) (by omega))).mp h40
              refine v_iconst (v := 0) G dX8_waysTo_43 rfl ?_
              refine v_istore (L' := [(5, .int 0), (4, .int (nI y)), (3, .int (nI n)), (2, .int (nI b)), (1, .int (nI a)), (0, .ref (ad 43))]) G dX8_waysTo_44 (by decide) rfl ?_
              have loop46 : ∀ (dd : Nat) (z : Nat) (ν : MS), (z ≤ 12) → (ag [] σ ν) → (∀ i, i < z → ν.2 29 i = lN (w_st (σ.1 8) (s_wy (σ.1 8) a y) 0 i)) → (ν.2 28 = μ.2 28) → 12 - z < dd → V_ pp l ee rmX8_waysTo ss mm aa bb hh cc 6 (dC, dI) vwCl AA QQ 0 0 (RM ct ad ν) 46 [(5, .int (nI z)), (4, .int (nI y)), (3, .int (nI n)), (2, .int (nI b)), (1, .int (nI a)), (0, .ref (ad 43))] [] := by
                intro dd
                induction dd with
                | zero => intro z ν hz haν hwc hc28 hdd; exact absurd hdd (Nat.not_lt_zero _)
                | succ dd ih46 =>
                  intro z ν hz haν hwc hc28 hdd
                  refine v_iload G 0 dX8_waysTo_46 rfl ?_
                  refine v_bipush (v := 12) G dX8_waysTo_48 rfl ?_
                  refine v_icmp_ge (tgt := 67) G dX8_waysTo_50 (by decide) (fun h50 => ?_) (fun h50 => ?_)
                  · have n50 := (cmp_le (x := 12) (y := nI z) (a := 12) (b := z) (ix_lit 12 rfl) rfl (by omega) (by omega)).mp h50
                    refine v_iconst (v := 0) G dX8_waysTo_67 rfl ?_
                    refine v_istore (L' := [(5, .int 0), (4, .int (nI y)), (3, .int (nI n)), (2, .int (nI b)), (1, .int (nI a)), (0, .ref (ad 43))]) G dX8_waysTo_68 (by decide) rfl ?_
                    have loop70 : ∀ (dd : Nat) (r : Nat) (ξ : MS), (r ≤ 24) → (ag [] σ ξ) → (∀ i, i < 12 → ξ.2 29 i = lN (w_st (σ.1 8) (s_wy (σ.1 8) a y) r i)) → (ξ.2 28 = μ.2 28) → 24 - r < dd → V_ pp l ee rmX8_waysTo ss mm aa bb hh cc 6 (dC, dI) vwCl AA QQ 0 0 (RM ct ad ξ) 70 [(5, .int (nI r)), (4, .int (nI y)), (3, .int (nI n)), (2, .int (nI b)), (1, .int (nI a)), (0, .ref (ad 43))] [] := by
                      intro dd
                      induction dd with
                      | zero => intro r ξ hr haξ hwd hd28 hdd; exact absurd hdd (Nat.not_lt_zero _)
                      | succ dd ih70 =>
                        intro r ξ hr haξ hwd hd28 hdd
                        refine v_iload G 0 dX8_waysTo_70 rfl ?_
                        refine v_bipush (v := 24) G dX8_waysTo_72 rfl ?_
                        refine v_icmp_ge (tgt := 107) G dX8_waysTo_74 (by decide) (fun h74 => ?_) (fun h74 => ?_)
                        · have n74 := (cmp_le (x := 24) (y := nI r) (a := 24) (b := r) (ix_lit 24 rfl) rfl (by omega) (by omega)).mp h74
                          refine v_iconst (v := 0) G dX8_waysTo_107 rfl ?_
                          refine v_istore (L' := [(5, .int 0), (4, .int (nI y)), (3, .int (nI n)), (2, .int (nI b)), (1, .int (nI a)), (0, .ref (ad 43))]) G dX8_waysTo_108 (by decide) rfl ?_
                          have loop110 : ∀ (dd : Nat) (c : Nat) (ρ : MS), (c ≤ 12) → (ag [] σ ρ) → (∀ i, i < c → ρ.2 28 i = ξ.2 29 i) → (ρ.2 29 = ξ.2 29) → 12 - c < dd → V_ pp l ee rmX8_waysTo ss mm aa bb hh cc 6 (dC, dI) vwCl AA QQ 0 0 (RM ct ad ρ) 110 [(5, .int (nI c)), (4, .int (nI y)), (3, .int (nI n)), (2, .int (nI b)), (1, .int (nI a)), (0, .ref (ad 43))] [] := by
                            intro dd
                            induction dd with
                            | zero => intro c ρ hc haρ hwe he29 hdd; exact absurd hdd (Nat.not_lt_zero _)
                            | succ dd ih110 =>
                              intro c ρ hc haρ hwe he29 hdd
                              refine v_iload G 0 dX8_waysTo_110 rfl ?_
                              refine v_bipush (v := 12) G dX8_waysTo_112 rfl ?_
                              refine v_icmp_ge (tgt := 137) G dX8_waysTo_114 (by decide) (fun h114 => ?_) (fun h114 => ?_)
                              · have n114 := (cmp_le (x := 12) (y := nI c) (a := 12) (b := c) (ix_lit 12 rfl) rfl (by omega) (by omega)).mp h114
                                refine v_iinc (v := nI (y + 1)) (L' := [(4, .int (nI (y + 1))), (5, .int (nI c)), (3, .int (nI n)), (2, .int (nI b)), (1, .int (nI a)), (0, .ref (ad 43))]) G 1 dX8_waysTo_137 rfl (ix_add rfl (ix_lit 1 rfl)) (by decide) rfl ?_
                                refine v_goto (tgt := 37) G dX8_waysTo_140 (by decide) ?_
                                refine V_.sub (L' := [(4, .int (nI (y + 1))), (3, .int (nI n)), (2, .int (nI b)), (1, .int (nI a)), (0, .ref (ad 43))]) ?_ [0, 2, 3, 4, 5] rfl
                                exact ih37  (y + 1) ρ (by omega) haρ (fun i hi => by rw [hwe i (by omega), hwd i hi, show r = 24 by omega] <;> rfl) (by omega)
                              · have n114 := (not_congr (cmp_le (x := 12) (y := nI c) (a := 12) (b := c) (ix_lit 12 rfl) rfl (by omega) (by omega))).mp h114
                                refine v_aload_n G 5 dX8_waysTo_117 rfl ?_
                                refine m_get (v := .ref (ad 28)) G 28 (by decide) rfl q1322 rfl dX8_waysTo_118 ?_
                                refine v_iload G 0 dX8_waysTo_121 rfl ?_
                                refine v_aload_n G 5 dX8_waysTo_123 rfl ?_
                                refine m_get (v := .ref (ad 29)) G 29 (by decide) rfl q1323 rfl dX8_waysTo_124 ?_
                                refine v_iload G 0 dX8_waysTo_127 rfl ?_
                                refine m_lald G 29 (by decide) (c) rfl (show c < 12 by first | omega | assumption | decide) dX8_waysTo_129 ?_
                                refine m_last G 28 (by decide) (c) rfl (show c < 12 by first | omega | assumption | decide) dX8_waysTo_130 ?_
                                refine v_iinc (v := nI (c + 1)) (L' := [(5, .int (nI (c + 1))), (4, .int (nI y)), (3, .int (nI n)), (2, .int (nI b)), (1, .int (nI a)), (0, .ref (ad 43))]) G 0 dX8_waysTo_131 rfl (ix_add rfl (ix_lit 1 rfl)) (by decide) rfl ?_
                                refine v_goto (tgt := 110) G dX8_waysTo_134 (by decide) ?_
                                refine V_.sub (L' := [(5, .int (nI (c + 1))), (4, .int (nI y)), (3, .int (nI n)), (2, .int (nI b)), (1, .int (nI a)), (0, .ref (ad 43))]) ?_ [0, 1, 2, 3, 4, 5] rfl
                                exact ih110  (c + 1) (msetL ρ 28 c (ρ.2 29 c)) (by omega) (ag_tr haρ ag_L) (cpL_lo hwe (by rw [he29])) ((cpL_ne (by decide)).trans he29) (by omega)
                          refine V_.sub (L' := [(5, .int 0), (4, .int (nI y)), (3, .int (nI n)), (2, .int (nI b)), (1, .int (nI a)), (0, .ref (ad 43))]) ?_ [0, 1, 2, 3, 4, 5] rfl
                          refine v_loc (L' := [(5, .int (nI 0)), (4, .int (nI y)), (3, .int (nI n)), (2, .int (nI b)), (1, .int (nI a)), (0, .ref (ad 43))]) (rfl) ?_
                          exact loop110 _ 0 ξ (Nat.zero_le _) haξ (fun i hi => absurd hi (Nat.not_lt_zero i)) rfl (Nat.lt_succ_self _)
                        · have n74 := (not_congr (cmp_le (x := 24) (y := nI r) (a := 24) (b := r) (ix_lit 24 rfl) rfl (by omega) (by omega))).mp h74
                          obtain ⟨d, hd, ed⟩ := hO.1.2.2.1 r (by omega)
                          have ed : σ.1 8 r = nI d := ed
                          have edn : n_ (σ.1 8 r) = d := by rw [ed]; exact nI_clamp (by omega)
                          refine v_aload_n G 5 dX8_waysTo_77 rfl ?_
                          refine m_get (v := .ref (ad 29)) G 29 (by decide) rfl q1323 rfl dX8_waysTo_78 ?_
                          refine v_aload_n G 5 dX8_waysTo_81 rfl ?_
                          refine m_get (v := .ref (ad 8)) G 8 (by decide) rfl q1302 rfl dX8_waysTo_82 ?_
                          refine v_iload G 0 dX8_waysTo_85 rfl ?_
                          refine m_iald G 8 rfl (r) rfl (show r < 24 by first | omega | assumption | decide) dX8_waysTo_87 ?_
                          refine v_topr (congrArg Value.int (show ξ.1 8 r = σ.1 8 r from (show ξ.1 8 r = σ.1 8 r from ag_at haξ (by decide)))) ?_
                          refine v_dup2 G dX8_waysTo_88 rfl rfl ?_
                          refine m_lald G 29 (by decide) (d) ed (show d < 12 by first | omega | assumption | decide) dX8_waysTo_89 ?_
                          refine v_aload_n G 5 dX8_waysTo_90 rfl ?_
                          refine m_get (v := .ref (ad 28)) G 28 (by decide) rfl q1322 rfl dX8_waysTo_91 ?_
                          refine v_iload G 0 dX8_waysTo_94 rfl ?_
                          refine v_iconst (v := 2) G dX8_waysTo_96 rfl ?_
                          refine v_idiv G dX8_waysTo_97 (by decide) ?_
                          refine m_lald G 28 (by decide) (r / 2) (ix_div rfl (ix_lit 2 rfl) (by omega) (by decide) (by decide)) (show r / 2 < 12 by first | omega | assumption | decide) dX8_waysTo_98 ?_
                          refine v_ladd G dX8_waysTo_99 ?_
                          refine m_last G 29 (by decide) (d) ed (show d < 12 by first | omega | assumption | decide) dX8_waysTo_100 ?_
                          have hwd1 : ∀ i, i < 12 → ((msetL ξ 29 d ((ξ.2 29 d) + (ξ.2 28 (r / 2))))).2 29 i = lN (w_st (σ.1 8) (s_wy (σ.1 8) a y) (r + 1) i) := by
                            intro i hi
                            show upd2 ξ.2 29 d _ 29 i = _
                            rw [upd2_at]
                            by_cases e : i = d
                            · subst e
                              rw [if_pos ⟨rfl, rfl⟩, hwd i hi, show ξ.2 28 (r / 2) = lN (s_wy (σ.1 8) a y (r / 2)) by rw [hd28]; exact hwb _ (by omega), lN_add, w_st_eq edn.symm]
                            · rw [if_neg (by omega), hwd i hi, w_st_ne (by omega)]
                          refine v_iinc (v := nI (r + 1)) (L' := [(5, .int (nI (r + 1))), (4, .int (nI y)), (3, .int (nI n)), (2, .int (nI b)), (1, .int (nI a)), (0, .ref (ad 43))]) G 0 dX8_waysTo_101 rfl (ix_add rfl (ix_lit 1 rfl)) (by decide) rfl ?_
                          refine v_goto (tgt := 70) G dX8_waysTo_104 (by decide) ?_
                          refine V_.sub (L' := [(5, .int (nI (r + 1))), (4, .int (nI y)), (3, .int (nI n)), (2, .int (nI b)), (1, .int (nI a)), (0, .ref (ad 43))]) ?_ [0, 1, 2, 3, 4, 5] rfl
                          exact ih70  (r + 1) (msetL ξ 29 d ((ξ.2 29 d) + (ξ.2 28 (r / 2)))) (by omega) (ag_tr haξ ag_L) hwd1 ((cpL_ne (by decide)).trans hd28) (by omega)
                    refine V_.sub (L' := [(5, .int 0), (4, .int (nI y)), (3, .int (nI n)), (2, .int (nI b)), (1, .int (nI a)), (0, .ref (ad 43))]) ?_ [0, 1, 2, 3, 4, 5] rfl
                    refine v_loc (L' := [(5, .int (nI 0)), (4, .int (nI y)), (3, .int (nI n)), (2, .int (nI b)), (1, .int (nI a)), (0, .ref (ad 43))]) (rfl) ?_
                    exact loop70 _ 0 ν (Nat.zero_le _) haν (fun i hi => hwc i (by omega)) hc28 (Nat.lt_succ_self _)
                  · have n50 := (not_congr (cmp_le (x := 12) (y := nI z) (a := 12) (b := z) (ix_lit 12 rfl) rfl (by omega) (by omega))).mp h50
                    refine v_aload_n G 5 dX8_waysTo_53 rfl ?_
                    refine m_get (v := .ref (ad 29)) G 29 (by decide) rfl q1323 rfl dX8_waysTo_54 ?_
                    refine v_iload G 0 dX8_waysTo_57 rfl ?_
                    refine v_lconst (v := 0) G dX8_waysTo_59 rfl ?_
                    refine m_last G 29 (by decide) (z) rfl (show z < 12 by first | omega | assumption | decide) dX8_waysTo_60 ?_
                    refine v_iinc (v := nI (z + 1)) (L' := [(5, .int (nI (z + 1))), (4, .int (nI y)), (3, .int (nI n)), (2, .int (nI b)), (1, .int (nI a)), (0, .ref (ad 43))]) G 0 dX8_waysTo_61 rfl (ix_add rfl (ix_lit 1 rfl)) (by decide) rfl ?_
                    refine v_goto (tgt := 46) G dX8_waysTo_64 (by decide) ?_
                    refine V_.sub (L' := [(5, .int (nI (z + 1))), (4, .int (nI y)), (3, .int (nI n)), (2, .int (nI b)), (1, .int (nI a)), (0, .ref (ad 43))]) ?_ [0, 1, 2, 3, 4, 5] rfl
                    exact ih46  (z + 1) (msetL ν 29 z 0) (by omega) (ag_tr haν ag_L) (cpL_lo (f := fun i => lN (w_st (σ.1 8) (s_wy (σ.1 8) a y) 0 i)) hwc rfl) ((cpL_ne (by decide)).trans hc28) (by omega)
              refine V_.sub (L' := [(5, .int 0), (4, .int (nI y)), (3, .int (nI n)), (2, .int (nI b)), (1, .int (nI a)), (0, .ref (ad 43))]) ?_ [0, 1, 2, 3, 4, 5] rfl
              refine v_loc (L' := [(5, .int (nI 0)), (4, .int (nI y)), (3, .int (nI n)), (2, .int (nI b)), (1, .int (nI a)), (0, .ref (ad 43))]) (rfl) ?_
              exact loop46 _ 0 μ (Nat.zero_le _) haμ (fun i hi => absurd hi (Nat.not_lt_zero i)) rfl (Nat.lt_succ_self _)
        refine V_.sub (L' := [(4, .int 0), (3, .int (nI n)), (2, .int (nI b)), (1, .int (nI a)), (0, .ref (ad 43))]) ?_ [0, 1, 2, 3, 4] rfl
        refine v_loc (L' := [(4, .int (nI 0)), (3, .int (nI n)), (2, .int (nI b)), (1, .int (nI a)), (0, .ref (ad 43))]) (rfl) ?_
        exact loop37 _ 0 τ (Nat.zero_le _) haτ (fun i hi => hwa i (by omega)) (Nat.lt_succ_self _)
      · have n7 := (not_congr (cmp_le (x := 12) (y := nI q) (a := 12) (b := q) (ix_lit 12 rfl) rfl (by omega) (by omega))).mp h7
        refine v_aload_n G 4 dX8_waysTo_10 rfl ?_
        refine m_get (v := .ref (ad 28)) G 28 (by decide) rfl q1322 rfl dX8_waysTo_11 ?_
        refine v_iload G 0 dX8_waysTo_14 rfl ?_
        refine v_iload G 0 dX8_waysTo_16 rfl ?_
        refine v_iload_n G 3 dX8_waysTo_18 rfl ?_
        refine v_icmp_ne (tgt := 26) G dX8_waysTo_19 (by decide) (fun h19 => ?_) (fun h19 => ?_)
        · have n19 := (not_congr (cmp_eq (x := nI q) (y := nI a) (a := q) (b := a) rfl rfl (by omega) (by omega))).mp h19
          refine v_lconst (v := 0) G dX8_waysTo_26 rfl ?_
          refine m_last G 28 (by decide) (q) rfl (show q < 12 by first | omega | assumption | decide) dX8_waysTo_27 ?_
          refine v_iinc (v := nI (q + 1)) (L' := [(4, .int (nI (q + 1))), (3, .int (nI n)), (2, .int (nI b)), (1, .int (nI a)), (0, .ref (ad 43))]) G 0 dX8_waysTo_28 rfl (ix_add rfl (ix_lit 1 rfl)) (by decide) rfl ?_
          refine v_goto (tgt := 3) G dX8_waysTo_31 (by decide) ?_
          refine V_.sub (L' := [(4, .int (nI (q + 1))), (3, .int (nI n)), (2, .int (nI b)), (1, .int (nI a)), (0, .ref (ad 43))]) ?_ [0, 1, 2, 3, 4] rfl
          exact ih3  (q + 1) (msetL τ 28 q 0) (by omega) (ag_tr haτ ag_L) (cpL_lo (f := fun i => lN (s_wy (σ.1 8) a 0 i)) hwa (by show _ = lN (if q = a then 1 else 0); first | (rw [if_pos (by omega)] <;> rfl) | (rw [if_neg (by omega)] <;> rfl))) (by omega)
        · have n19 := (cmp_eq (x := nI q) (y := nI a) (a := q) (b := a) rfl rfl (by omega) (by omega)).mp h19
          refine v_lconst (v := 1) G dX8_waysTo_22 rfl ?_
          refine v_goto (tgt := 27) G dX8_waysTo_23 (by decide) ?_
          refine m_last G 28 (by decide) (q) rfl (show q < 12 by first | omega | assumption | decide) dX8_waysTo_27 ?_
          refine v_iinc (v := nI (q + 1)) (L' := [(4, .int (nI (q + 1))), (3, .int (nI n)), (2, .int (nI b)), (1, .int (nI a)), (0, .ref (ad 43))]) G 0 dX8_waysTo_28 rfl (ix_add rfl (ix_lit 1 rfl)) (by decide) rfl ?_
          refine v_goto (tgt := 3) G dX8_waysTo_31 (by decide) ?_
          refine V_.sub (L' := [(4, .int (nI (q + 1))), (3, .int (nI n)), (2, .int (nI b)), (1, .int (nI a)), (0, .ref (ad 43))]) ?_ [0, 1, 2, 3, 4] rfl
          exact ih3  (q + 1) (msetL τ 28 q 1) (by omega) (ag_tr haτ ag_L) (cpL_lo (f := fun i => lN (s_wy (σ.1 8) a 0 i)) hwa (by show _ = lN (if q = a then 1 else 0); first | (rw [if_pos (by omega)] <;> rfl) | (rw [if_neg (by omega)] <;> rfl))) (by omega)
  refine V_.sub (L' := [(4, .int 0), (3, .int (nI n)), (2, .int (nI b)), (1, .int (nI a)), (0, .ref (ad 43))]) ?_ [0, 4, 3, 2, 1] rfl
  refine v_loc (L' := [(4, .int (nI 0)), (3, .int (nI n)), (2, .int (nI b)), (1, .int (nI a)), (0, .ref (ad 43))]) (rfl) ?_
  exact loop3 _ 0 σ (Nat.zero_le _) ag_rf (fun i hi => absurd hi (Nat.not_lt_zero i)) (Nat.lt_succ_self _)
abbrev rmX8_lowest : Room := { frames := 0, cells := 0, slots := 0, locals := 0 }
set_option maxHeartbeats 1000000 in
theorem kX8_lowest {KT : (Nat → Prop) → State → Heap → Prop} (hK : KTok KT) (l : Launch) (dC : Nat → ClassId) (dI : Nat → Nat → Nat) (ct ad : Nat → Nat) (σ : MS) (p : Nat) (q : Nat) (w : Int32) (hp : p < 2 ^ 31) (hq : q < 2 ^ 31) (q0 : 0 < q) : MC KT (dC, dI) vwCl (tysF ct) l yX8_lowest cX8_lowest 11 (some .long) rmX8_lowest [.long (lN p), .long (lN q), .int w] (RM ct ad σ) (QL_ (dC, dI) vwCl (RM ct ad) (fun (r : Int64) (σ' : MS) => (s_low p q w) = r ∧ σ = σ')) := by
  refine MC.ofL (own := RX8) pl_X8 rfl (Nat.le_of_ble_eq_true rfl) ?_
  intro pp ee ss mm aa bb hh cc AA QQ G hT hnm RET
  refine v_loc (L' := [(0, .long (lN p)), (2, .long (lN q)), (4, .int w)]) rfl ?_
  refine v_lload_n G 0 dX8_lowest_0 rfl ?_
  refine v_lstore (L' := [(5, .long (lN p)), (0, .long (lN p)), (2, .long (lN q)), (4, .int w)]) G dX8_lowest_1 (by decide) rfl ?_
  refine v_lload_n G 2 dX8_lowest_3 rfl ?_
  refine v_lstore (L' := [(7, .long (lN q)), (5, .long (lN p)), (0, .long (lN p)), (2, .long (lN q)), (4, .int w)]) G dX8_lowest_4 (by decide) rfl ?_
  have loop6 : ∀ (dd : Nat) (y : Nat) (z : Nat), (Nat.gcd y z = Nat.gcd p q) → (y < 2 ^ 31) → (z < 2 ^ 31) → z < dd → V_ pp l ee rmX8_lowest ss mm aa bb hh cc 11 (dC, dI) vwCl AA QQ 0 0 (RM ct ad σ) 6 [(7, .long (lN z)), (5, .long (lN y)), (4, .int w), (2, .long (lN q)), (0, .long (lN p))] [] := by
    intro dd
    induction dd with
    | zero => intro y z hg hy hz hdd; exact absurd hdd (Nat.not_lt_zero _)
    | succ dd ih6 =>
      intro y z hg hy hz hdd
      refine v_lload G 0 dX8_lowest_6 rfl ?_
      refine v_lconst (v := 0) G dX8_lowest_8 rfl ?_
      refine v_lcmp G dX8_lowest_9 ?_
      refine v_if_eq (tgt := 31) G dX8_lowest_10 (by decide) (fun h10 => ?_) (fun h10 => ?_)
      · have n10 := (le_of_lcmp (lN z) 0).1.mp h10
        have z0 : z = 0 := (lN_z hz).mp n10
        have eg : y = Nat.gcd p q := by rw [← hg, z0, Nat.gcd_zero_right]
        have yp : 0 < y := by rw [eg]; exact Nat.gcd_pos_of_pos_right _ q0
        have y0 : ¬ lN y = 0 := fun h => by have := (lN_z hy).mp h; omega
        refine v_iload G 2 dX8_lowest_31 rfl ?_
        refine v_if_ne (tgt := 43) G dX8_lowest_33 (by decide) (fun h33 => ?_) (fun h33 => ?_)
        · refine v_lload_n G 3 dX8_lowest_43 rfl ?_
          refine v_lload G 1 dX8_lowest_44 rfl ?_
          refine v_ldiv G dX8_lowest_46 y0 ?_
          refine RET _ _ _ _ _ _ (Nat.le_of_ble_eq_true rfl) (Nat.le_of_ble_eq_true rfl) dX8_lowest_47 (fun ws hws => ⟨_, hws, ?_⟩)
          clear RET G hT hnm
          exact ⟨by rw [s_low]; first | (rw [if_pos h33, ← eg, lN_div hp yp hy]; done) | (rw [if_neg h33, ← eg, lN_div hq yp hy]; done), rfl⟩
        · refine v_lload_n G 4 dX8_lowest_36 rfl ?_
          refine v_lload G 1 dX8_lowest_37 rfl ?_
          refine v_ldiv G dX8_lowest_39 y0 ?_
          refine v_goto (tgt := 47) G dX8_lowest_40 (by decide) ?_
          refine RET _ _ _ _ _ _ (Nat.le_of_ble_eq_true rfl) (Nat.le_of_ble_eq_true rfl) dX8_lowest_47 (fun ws hws => ⟨_, hws, ?_⟩)
          clear RET G hT hnm
          exact ⟨by rw [s_low]; first | (rw [if_pos h33, ← eg, lN_div hp yp hy]; done) | (rw [if_neg h33, ← eg, lN_div hq yp hy]; done), rfl⟩
      · have n10 := (not_congr (le_of_lcmp (lN z) 0).1).mp h10
        have z0 : 0 < z := by have := (not_congr (lN_z hz)).mp n10; omega
        refine v_lload G 1 dX8_lowest_13 rfl ?_
        refine v_lload G 0 dX8_lowest_15 rfl ?_
        refine v_lrem G dX8_lowest_17 n10 ?_
        refine v_lstore (L' := [(9, .long ((lN y) - (lN y) / (lN z) * (lN z))), (7, .long (lN z)), (5, .long (lN y)), (4, .int w), (2, .long (lN q)), (0, .long (lN p))]) G dX8_lowest_18 (by decide) rfl ?_
        refine v_lload G 1 dX8_lowest_20 rfl ?_
        refine v_lstore (L' := [(5, .long (lN z)), (9, .long ((lN y) - (lN y) / (lN z) * (lN z))), (7, .long (lN z)), (4, .int w), (2, .long (lN q)), (0, .long (lN p))]) G dX8_lowest_22 (by decide) rfl ?_
        refine v_lload G 1 dX8_lowest_24 rfl ?_
        refine v_lstore (L' := [(7, .long ((lN y) - (lN y) / (lN z) * (lN z))), (5, .long (lN z)), (9, .long ((lN y) - (lN y) / (lN z) * (lN z))), (4, .int w), (2, .long (lN q)), (0, .long (lN p))]) G dX8_lowest_26 (by decide) rfl ?_
        refine v_goto (tgt := 6) G dX8_lowest_28 (by decide) ?_
        refine V_.sub (L' := [(7, .long ((lN y) - (lN y) / (lN z) * (lN z))), (5, .long (lN z)), (4, .int w), (2, .long (lN q)), (0, .long (lN p))]) ?_ [0, 1, 3, 4, 5] rfl
        refine v_loc (L' := [(7, .long (lN (y % z))), (5, .long (lN z)), (4, .int w), (2, .long (lN q)), (0, .long (lN p))]) (by rw [lN_rem hy z0 hz]) ?_
        exact ih6  z (y % z) (gcd_st hg) hz (Nat.lt_trans (Nat.mod_lt _ z0) hz) (by have := Nat.mod_lt y z0; omega)
  refine V_.sub (L' := [(7, .long (lN q)), (5, .long (lN p)), (4, .int w), (2, .long (lN q)), (0, .long (lN p))]) ?_ [0, 1, 4, 3, 2] rfl
  exact loop6 _ p q rfl hp hq (Nat.lt_succ_self _)
abbrev rmX8_turns : Room := { frames := 2, cells := 0, slots := 0, locals := 45 }
set_option maxHeartbeats 1000000 in
theorem kX8_turns {KT : (Nat → Prop) → State → Heap → Prop} (hK : KTok KT) (l : Launch) (dC : Nat → ClassId) (dI : Nat → Nat → Nat) (ct ad : Nat → Nat) (σ : MS) (x : Int32) (y : Int32) (n : Int32) (hO : Ok (co σ)) : MC KT (dC, dI) vwCl (tysF ct) l yX8_turns cX8_turns 4 (some .long) rmX8_turns [.ref (ad 43), .int x, .int y, .int n] (RM ct ad σ) (QL_ (dC, dI) vwCl (RM ct ad) (fun (r : Int64) (σ' : MS) => (s_turns (co σ) x y n) = r ∧ co σ' = co σ)) := by
  refine MC.ofL (own := RX8) pl_X8 rfl (Nat.le_of_ble_eq_true rfl) ?_
  intro pp ee ss mm aa bb hh cc AA QQ G hT hnm RET
  refine v_loc (L' := [(0, .ref (ad 43)), (1, .int x), (2, .int y), (3, .int n)]) rfl ?_
  refine v_iload_n G 1 dX8_turns_0 rfl ?_
  refine w_callSi G hK hT (kX8_isCrossing hK l dC dI ct ad σ x) (ck_X8_98 G.2.2.2.2.1 ⟨Nat.le_of_ble_eq_true rfl, Nat.le_of_ble_eq_true rfl⟩) (fun _ h => h) rfl [] rfl (Nat.le_of_ble_eq_true rfl) dX8_turns_1 ⟨Nat.le_of_ble_eq_true rfl, Nat.le_of_ble_eq_true rfl⟩ (k1 := 0) (n1 := 0) rfl rfl ?_
  rintro r1 σ1 (⟨rfl, rfl, h1_h⟩ | ⟨rfl, rfl, h1_h⟩)
  · refine v_if_eq (tgt := 36) G dX8_turns_4 (by decide) (fun h4 => absurd h4 (by decide)) (fun h4 => ?_)
    refine v_iload_n G 2 dX8_turns_7 rfl ?_
    refine w_callSi G hK hT (kX8_isCrossing hK l dC dI ct ad σ y) (ck_X8_98 G.2.2.2.2.1 ⟨Nat.le_of_ble_eq_true rfl, Nat.le_of_ble_eq_true rfl⟩) (fun _ h => h) rfl [] rfl (Nat.le_of_ble_eq_true rfl) dX8_turns_8 ⟨Nat.le_of_ble_eq_true rfl, Nat.le_of_ble_eq_true rfl⟩ (k1 := 0) (n1 := 0) rfl rfl ?_
    rintro r8 σ8 (⟨rfl, rfl, h8_h⟩ | ⟨rfl, rfl, h8_h⟩)
    · refine v_if_eq (tgt := 36) G dX8_turns_11 (by decide) (fun h11 => absurd h11 (by decide)) (fun h11 => ?_)
      refine v_iload_n G 3 dX8_turns_14 rfl ?_
      refine v_i2l (v := n.toInt64) G dX8_turns_15 rfl ?_
      refine v_lconst (v := 0) G dX8_turns_16 rfl ?_
      refine v_ldc2 G q1746 dX8_turns_17 ?_
      refine w_callSi G hK hT (kX8_in hK l dC dI ct ad σ n.toInt64 0 30) (ck_X8_86 G.2.2.2.2.1 ⟨Nat.le_of_ble_eq_true rfl, Nat.le_of_ble_eq_true rfl⟩) (fun _ h => h) rfl [] rfl (Nat.le_of_ble_eq_true rfl) dX8_turns_20 ⟨Nat.le_of_ble_eq_true rfl, Nat.le_of_ble_eq_true rfl⟩ (k1 := 0) (n1 := 0) rfl rfl ?_
      rintro r20 σ20 (⟨rfl, rfl, h20_h⟩ | ⟨rfl, rfl, h20_h⟩)
      · have g20 := (in_rg (c := n) (lo := 0) (hi := 30) (a := 0) (z := 30) (by decide) (by decide)).mp h20_h
        refine v_if_eq (tgt := 36) G dX8_turns_23 (by decide) (fun h23 => absurd h23 (by decide)) (fun h23 => ?_)
        obtain ⟨xa, hxa, exa_⟩ := rg_nat (n := 11) (x := x) h1_h (by decide)
        have exan : n_ x = xa := by rw [exa_]; exact nI_clamp (by omega)
        obtain ⟨yb, hyb, eyb_⟩ := rg_nat (n := 11) (x := y) h8_h (by decide)
        have eybn : n_ y = yb := by rw [eyb_]; exact nI_clamp (by omega)
        obtain ⟨nn, hnn, enn_⟩ := rg_nat (n := 30) (x := n) g20 (by decide)
        have ennn : n_ n = nn := by rw [enn_]; exact nI_clamp (by omega)
        refine v_aload_n G 0 dX8_turns_26 rfl ?_
        refine v_iload_n G 1 dX8_turns_27 rfl ?_
        refine v_iload_n G 2 dX8_turns_28 rfl ?_
        refine v_iload_n G 3 dX8_turns_29 rfl ?_
        refine v_stk (st' := [.int (nI nn), .int (nI yb), .int (nI xa), .ref (ad 43)]) (by first | rfl | (have e0 : x = nI xa := exa_ ; have e1 : y = nI yb := eyb_ ; have e2 : n = nI nn := enn_ ; simp only [e0, e1, e2])) ?_
        refine w_callVl G hK hT (kX8_waysTo hK l dC dI ct ad σ xa yb nn hO (by omega) (by omega) (by first | assumption | omega)) (ck_X8_388 G.2.2.2.2.1 ⟨Nat.le_of_ble_eq_true rfl, Nat.le_of_ble_eq_true rfl⟩) m_recv (fun _ h => h) rfl [] rfl (Nat.le_of_ble_eq_true rfl) dX8_turns_30 ⟨Nat.le_of_ble_eq_true rfl, Nat.le_of_ble_eq_true rfl⟩ (k1 := 0) (n1 := 0) rfl rfl ?_
        rintro r30 σ30 ⟨rfl, h30_c⟩
        refine v_goto (tgt := 39) G dX8_turns_33 (by decide) ?_
        refine RET _ _ _ _ _ _ (Nat.le_of_ble_eq_true rfl) (Nat.le_of_ble_eq_true rfl) dX8_turns_39 (fun ws hws => ⟨_, hws, ?_⟩)
        clear RET G hT hnm
        exact ⟨by rw [s_turns, if_pos ⟨h1_h, h8_h, g20⟩, exan, eybn, ennn], h30_c⟩
      · have g20 : ¬ rg n 0 30 := fun zz => h20_h ((in_rg (c := n) (lo := 0) (hi := 30) (a := 0) (z := 30) (by decide) (by decide)).mpr zz)
        refine v_if_eq (tgt := 36) G dX8_turns_23 (by decide) (fun h23 => ?_) (fun h23 => absurd h23 (by decide))
        refine v_ldc2 G q1751 dX8_turns_36 ?_
        refine RET _ _ _ _ _ _ (Nat.le_of_ble_eq_true rfl) (Nat.le_of_ble_eq_true rfl) dX8_turns_39 (fun ws hws => ⟨_, hws, ?_⟩)
        clear RET G hT hnm
        exact ⟨by rw [s_turns, if_neg (fun q => by first | exact h1_h q.1 | exact h8_h q.2.1 | exact g20 q.2.2)], rfl⟩
    · refine v_if_eq (tgt := 36) G dX8_turns_11 (by decide) (fun h11 => ?_) (fun h11 => absurd h11 (by decide))
      refine v_ldc2 G q1751 dX8_turns_36 ?_
      refine RET _ _ _ _ _ _ (Nat.le_of_ble_eq_true rfl) (Nat.le_of_ble_eq_true rfl) dX8_turns_39 (fun ws hws => ⟨_, hws, ?_⟩)
      clear RET G hT hnm
      exact ⟨by rw [s_turns, if_neg (fun q => by first | exact h1_h q.1 | exact h8_h q.2.1 | exact g20 q.2.2)], rfl⟩
  · refine v_if_eq (tgt := 36) G dX8_turns_4 (by decide) (fun h4 => ?_) (fun h4 => absurd h4 (by decide))
    refine v_ldc2 G q1751 dX8_turns_36 ?_
    refine RET _ _ _ _ _ _ (Nat.le_of_ble_eq_true rfl) (Nat.le_of_ble_eq_true rfl) dX8_turns_39 (fun ws hws => ⟨_, hws, ?_⟩)
    clear RET G hT hnm
    exact ⟨by rw [s_turns, if_neg (fun q => by first | exact h1_h q.1 | exact h8_h q.2.1 | exact g20 q.2.2)], rfl⟩
abbrev rmX8_likely : Room := { frames := 2, cells := 0, slots := 0, locals := 45 }
set_option maxHeartbeats 1000000 in
theorem kX8_likely {KT : (Nat → Prop) → State → Heap → Prop} (hK : KTok KT) (l : Launch) (dC : Nat → ClassId) (dI : Nat → Nat → Nat) (ct ad : Nat → Nat) (σ : MS) (x : Int32) (y : Int32) (n : Int32) (w : Int32) (hO : Ok (co σ)) : MC KT (dC, dI) vwCl (tysF ct) l yX8_likely cX8_likely 5 (some .long) rmX8_likely [.ref (ad 43), .int x, .int y, .int n, .int w] (RM ct ad σ) (QL_ (dC, dI) vwCl (RM ct ad) (fun (r : Int64) (σ' : MS) => (s_likely (co σ) x y n w) = r ∧ co σ' = co σ)) := by
  refine MC.ofL (own := RX8) pl_X8 rfl (Nat.le_of_ble_eq_true rfl) ?_
  intro pp ee ss mm aa bb hh cc AA QQ G hT hnm RET
  refine v_loc (L' := [(0, .ref (ad 43)), (1, .int x), (2, .int y), (3, .int n), (4, .int w)]) rfl ?_
  refine v_iload_n G 1 dX8_likely_0 rfl ?_
  refine w_callSi G hK hT (kX8_isCrossing hK l dC dI ct ad σ x) (ck_X8_98 G.2.2.2.2.1 ⟨Nat.le_of_ble_eq_true rfl, Nat.le_of_ble_eq_true rfl⟩) (fun _ h => h) rfl [] rfl (Nat.le_of_ble_eq_true rfl) dX8_likely_1 ⟨Nat.le_of_ble_eq_true rfl, Nat.le_of_ble_eq_true rfl⟩ (k1 := 0) (n1 := 0) rfl rfl ?_
  rintro r1 σ1 (⟨rfl, rfl, h1_h⟩ | ⟨rfl, rfl, h1_h⟩)
  · refine v_if_eq (tgt := 37) G dX8_likely_4 (by decide) (fun h4 => absurd h4 (by decide)) (fun h4 => ?_)
    refine v_iload_n G 2 dX8_likely_7 rfl ?_
    refine w_callSi G hK hT (kX8_isCrossing hK l dC dI ct ad σ y) (ck_X8_98 G.2.2.2.2.1 ⟨Nat.le_of_ble_eq_true rfl, Nat.le_of_ble_eq_true rfl⟩) (fun _ h => h) rfl [] rfl (Nat.le_of_ble_eq_true rfl) dX8_likely_8 ⟨Nat.le_of_ble_eq_true rfl, Nat.le_of_ble_eq_true rfl⟩ (k1 := 0) (n1 := 0) rfl rfl ?_
    rintro r8 σ8 (⟨rfl, rfl, h8_h⟩ | ⟨rfl, rfl, h8_h⟩)
    · refine v_if_eq (tgt := 37) G dX8_likely_11 (by decide) (fun h11 => absurd h11 (by decide)) (fun h11 => ?_)
      refine v_iload_n G 3 dX8_likely_14 rfl ?_
      refine v_i2l (v := n.toInt64) G dX8_likely_15 rfl ?_
      refine v_lconst (v := 0) G dX8_likely_16 rfl ?_
      refine v_ldc2 G q1746 dX8_likely_17 ?_
      refine w_callSi G hK hT (kX8_in hK l dC dI ct ad σ n.toInt64 0 30) (ck_X8_86 G.2.2.2.2.1 ⟨Nat.le_of_ble_eq_true rfl, Nat.le_of_ble_eq_true rfl⟩) (fun _ h => h) rfl [] rfl (Nat.le_of_ble_eq_true rfl) dX8_likely_20 ⟨Nat.le_of_ble_eq_true rfl, Nat.le_of_ble_eq_true rfl⟩ (k1 := 0) (n1 := 0) rfl rfl ?_
      rintro r20 σ20 (⟨rfl, rfl, h20_h⟩ | ⟨rfl, rfl, h20_h⟩)
      · have g20 := (in_rg (c := n) (lo := 0) (hi := 30) (a := 0) (z := 30) (by decide) (by decide)).mp h20_h
        refine v_if_eq (tgt := 37) G dX8_likely_23 (by decide) (fun h23 => absurd h23 (by decide)) (fun h23 => ?_)
        refine v_iload G 4 dX8_likely_26 rfl ?_
        refine v_i2l (v := w.toInt64) G dX8_likely_28 rfl ?_
        refine v_lconst (v := 0) G dX8_likely_29 rfl ?_
        refine v_lconst (v := 1) G dX8_likely_30 rfl ?_
        refine w_callSi G hK hT (kX8_in hK l dC dI ct ad σ w.toInt64 0 1) (ck_X8_86 G.2.2.2.2.1 ⟨Nat.le_of_ble_eq_true rfl, Nat.le_of_ble_eq_true rfl⟩) (fun _ h => h) rfl [] rfl (Nat.le_of_ble_eq_true rfl) dX8_likely_31 ⟨Nat.le_of_ble_eq_true rfl, Nat.le_of_ble_eq_true rfl⟩ (k1 := 0) (n1 := 0) rfl rfl ?_
        rintro r31 σ31 (⟨rfl, rfl, h31_h⟩ | ⟨rfl, rfl, h31_h⟩)
        · have g31 := (in_rg (c := w) (lo := 0) (hi := 1) (a := 0) (z := 1) (by decide) (by decide)).mp h31_h
          refine v_if_ne (tgt := 41) G dX8_likely_34 (by decide) (fun h34 => ?_) (fun h34 => absurd h34 (by decide))
          obtain ⟨xa, hxa, exa_⟩ := rg_nat (n := 11) (x := x) h1_h (by decide)
          have exan : n_ x = xa := by rw [exa_]; exact nI_clamp (by omega)
          obtain ⟨yb, hyb, eyb_⟩ := rg_nat (n := 11) (x := y) h8_h (by decide)
          have eybn : n_ y = yb := by rw [eyb_]; exact nI_clamp (by omega)
          obtain ⟨nn, hnn, enn_⟩ := rg_nat (n := 30) (x := n) g20 (by decide)
          have ennn : n_ n = nn := by rw [enn_]; exact nI_clamp (by omega)
          refine v_aload_n G 0 dX8_likely_41 rfl ?_
          refine v_iload_n G 1 dX8_likely_42 rfl ?_
          refine v_iload_n G 2 dX8_likely_43 rfl ?_
          refine v_iload_n G 3 dX8_likely_44 rfl ?_
          refine v_stk (st' := [.int (nI nn), .int (nI yb), .int (nI xa), .ref (ad 43)]) (by first | rfl | (have e0 : x = nI xa := exa_ ; have e1 : y = nI yb := eyb_ ; have e2 : n = nI nn := enn_ ; simp only [e0, e1, e2])) ?_
          refine w_callVl G hK hT (kX8_waysTo hK l dC dI ct ad σ xa yb nn hO (by omega) (by omega) (by first | assumption | omega)) (ck_X8_388 G.2.2.2.2.1 ⟨Nat.le_of_ble_eq_true rfl, Nat.le_of_ble_eq_true rfl⟩) m_recv (fun _ h => h) rfl [] rfl (Nat.le_of_ble_eq_true rfl) dX8_likely_45 ⟨Nat.le_of_ble_eq_true rfl, Nat.le_of_ble_eq_true rfl⟩ (k1 := 0) (n1 := 0) rfl rfl ?_
          rintro r45 σ45 ⟨rfl, h45_c⟩
          refine v_lconst (v := 1) G dX8_likely_48 rfl ?_
          refine v_iload_n G 3 dX8_likely_49 rfl ?_
          refine v_lshl G dX8_likely_50 rfl ?_
          refine v_topr (congrArg Value.long (show _ = lN (2 ^ nn) from (by rw [enn_]; exact pow_l nn (by omega)))) ?_
          refine v_iload G 4 dX8_likely_51 rfl ?_
          refine w_callSl G hK hT (kX8_lowest hK l dC dI ct ad σ45 (s_wy (co σ 8) xa nn yb) (2 ^ nn) w (Nat.lt_of_le_of_lt (s_wy_le hO.1.2.2.1 (by omega) (by omega)) (pow_b hnn)) (pow_b hnn) (Nat.two_pow_pos nn)) (ck_X8_394 G.2.2.2.2.1 ⟨Nat.le_of_ble_eq_true rfl, Nat.le_of_ble_eq_true rfl⟩) (fun _ h => h) rfl [] rfl (Nat.le_of_ble_eq_true rfl) dX8_likely_53 ⟨Nat.le_of_ble_eq_true rfl, Nat.le_of_ble_eq_true rfl⟩ (k1 := 0) (n1 := 0) rfl rfl ?_
          rintro r53 σ53 ⟨rfl, rfl⟩
          refine RET _ _ _ _ _ _ (Nat.le_of_ble_eq_true rfl) (Nat.le_of_ble_eq_true rfl) dX8_likely_56 (fun ws hws => ⟨_, hws, ?_⟩)
          clear RET G hT hnm
          exact ⟨by rw [s_likely, if_pos ⟨h1_h, h8_h, g20, g31⟩, exan, eybn, ennn], h45_c⟩
        · have g31 : ¬ rg w 0 1 := fun zz => h31_h ((in_rg (c := w) (lo := 0) (hi := 1) (a := 0) (z := 1) (by decide) (by decide)).mpr zz)
          refine v_if_ne (tgt := 41) G dX8_likely_34 (by decide) (fun h34 => absurd h34 (by decide)) (fun h34 => ?_)
          refine v_ldc2 G q1751 dX8_likely_37 ?_
          refine RET _ _ _ _ _ _ (Nat.le_of_ble_eq_true rfl) (Nat.le_of_ble_eq_true rfl) dX8_likely_40 (fun ws hws => ⟨_, hws, ?_⟩)
          clear RET G hT hnm
          exact ⟨by rw [s_likely, if_neg (fun q => by first | exact h1_h q.1 | exact h8_h q.2.1 | exact g20 q.2.2.1 | exact g31 q.2.2.2)], rfl⟩
      · have g20 : ¬ rg n 0 30 := fun zz => h20_h ((in_rg (c := n) (lo := 0) (hi := 30) (a := 0) (z := 30) (by decide) (by decide)).mpr zz)
        refine v_if_eq (tgt := 37) G dX8_likely_23 (by decide) (fun h23 => ?_) (fun h23 => absurd h23 (by decide))
        refine v_ldc2 G q1751 dX8_likely_37 ?_
        refine RET _ _ _ _ _ _ (Nat.le_of_ble_eq_true rfl) (Nat.le_of_ble_eq_true rfl) dX8_likely_40 (fun ws hws => ⟨_, hws, ?_⟩)
        clear RET G hT hnm
        exact ⟨by rw [s_likely, if_neg (fun q => by first | exact h1_h q.1 | exact h8_h q.2.1 | exact g20 q.2.2.1 | exact g31 q.2.2.2)], rfl⟩
    · refine v_if_eq (tgt := 37) G dX8_likely_11 (by decide) (fun h11 => ?_) (fun h11 => absurd h11 (by decide))
      refine v_ldc2 G q1751 dX8_likely_37 ?_
      refine RET _ _ _ _ _ _ (Nat.le_of_ble_eq_true rfl) (Nat.le_of_ble_eq_true rfl) dX8_likely_40 (fun ws hws => ⟨_, hws, ?_⟩)
      clear RET G hT hnm
      exact ⟨by rw [s_likely, if_neg (fun q => by first | exact h1_h q.1 | exact h8_h q.2.1 | exact g20 q.2.2.1 | exact g31 q.2.2.2)], rfl⟩
  · refine v_if_eq (tgt := 37) G dX8_likely_4 (by decide) (fun h4 => ?_) (fun h4 => absurd h4 (by decide))
    refine v_ldc2 G q1751 dX8_likely_37 ?_
    refine RET _ _ _ _ _ _ (Nat.le_of_ble_eq_true rfl) (Nat.le_of_ble_eq_true rfl) dX8_likely_40 (fun ws hws => ⟨_, hws, ?_⟩)
    clear RET G hT hnm
    exact ⟨by rw [s_likely, if_neg (fun q => by first | exact h1_h q.1 | exact h8_h q.2.1 | exact g20 q.2.2.1 | exact g31 q.2.2.2)], rfl⟩
