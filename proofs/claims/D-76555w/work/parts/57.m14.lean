set_option maxRecDepth 100000
abbrev rmX8_fewest : Room := { frames := 44, cells := 0, slots := 0, locals := 979 }
set_option maxHeartbeats 1000000 in
theorem kX8_fewest {KT : (Nat → Prop) → State → Heap → Prop} (hK : KTok KT) (l : Launch) (dC : Nat → ClassId) (dI : Nat → Nat → Nat) (ct ad : Nat → Nat) (σ : MS) (x : Int32) (b : Int32) (n : Int32) (hO : Ok (co σ)) : MC KT (dC, dI) vwCl (tysF ct) l yX8_fewest cX8_fewest 7 (some .int) rmX8_fewest [.ref (ad 43), .int x, .int b, .int n] (RM ct ad σ) (QI_ (dC, dI) vwCl (RM ct ad) (fun (r : Int32) (σ' : MS) => (s_fewest (co σ) x b n) = r ∧ co σ' = co σ)) := by
  refine MC.ofI (own := RX8) pl_X8 rfl (Nat.le_of_ble_eq_true rfl) ?_
  intro pp ee ss mm aa bb hh cc AA QQ G hT hnm RET
  refine v_loc (L' := [(0, .ref (ad 43)), (1, .int x), (2, .int b), (3, .int n)]) rfl ?_
  obtain ⟨hm5, hm⟩ := many5 hO.1
  have hm : σ.1 11 0 = nI (s_many (co σ)) := hm
  refine v_aload_n G 0 dX8_fewest_0 rfl ?_
  refine v_iload_n G 1 dX8_fewest_1 rfl ?_
  refine w_callVi G hK hT (kX8_isOne hK l dC dI ct ad σ (s_many (co σ)) x hm5 hm) (ck_X8_101 G.2.2.2.2.1 ⟨Nat.le_of_ble_eq_true rfl, Nat.le_of_ble_eq_true rfl⟩) m_recv (fun _ h => h) rfl [] rfl (Nat.le_of_ble_eq_true rfl) dX8_fewest_2 ⟨Nat.le_of_ble_eq_true rfl, Nat.le_of_ble_eq_true rfl⟩ (k1 := 0) (n1 := 0) rfl rfl ?_
  rintro r2 σ2 (⟨rfl, rfl, h2_h⟩ | ⟨rfl, rfl, h2_h⟩)
  · refine v_if_eq (tgt := 27) G dX8_fewest_5 (by decide) (fun h5 => absurd h5 (by decide)) (fun h5 => ?_)
    refine v_iload_n G 2 dX8_fewest_8 rfl ?_
    refine w_callSi G hK hT (kX8_isCrossing hK l dC dI ct ad σ b) (ck_X8_98 G.2.2.2.2.1 ⟨Nat.le_of_ble_eq_true rfl, Nat.le_of_ble_eq_true rfl⟩) (fun _ h => h) rfl [] rfl (Nat.le_of_ble_eq_true rfl) dX8_fewest_9 ⟨Nat.le_of_ble_eq_true rfl, Nat.le_of_ble_eq_true rfl⟩ (k1 := 0) (n1 := 0) rfl rfl ?_
    rintro r9 σ9 (⟨rfl, rfl, h9_h⟩ | ⟨rfl, rfl, h9_h⟩)
    · refine v_if_eq (tgt := 27) G dX8_fewest_12 (by decide) (fun h12 => absurd h12 (by decide)) (fun h12 => ?_)
      refine v_iload_n G 3 dX8_fewest_15 rfl ?_
      refine v_i2l (v := n.toInt64) G dX8_fewest_16 rfl ?_
      refine v_lconst (v := 0) G dX8_fewest_17 rfl ?_
      refine v_ldc2 G q1746 dX8_fewest_18 ?_
      refine w_callSi G hK hT (kX8_in hK l dC dI ct ad σ n.toInt64 0 30) (ck_X8_86 G.2.2.2.2.1 ⟨Nat.le_of_ble_eq_true rfl, Nat.le_of_ble_eq_true rfl⟩) (fun _ h => h) rfl [] rfl (Nat.le_of_ble_eq_true rfl) dX8_fewest_21 ⟨Nat.le_of_ble_eq_true rfl, Nat.le_of_ble_eq_true rfl⟩ (k1 := 0) (n1 := 0) rfl rfl ?_
      rintro r21 σ21 (⟨rfl, rfl, h21_h⟩ | ⟨rfl, rfl, h21_h⟩)
      · have g21 := (in_rg (c := n) (lo := 0) (hi := 30) (a := 0) (z := 30) (by decide) (by decide)).mp h21_h
        refine v_if_ne (tgt := 30) G dX8_fewest_24 (by decide) (fun h24 => ?_) (fun h24 => absurd h24 (by decide))
        obtain ⟨p, hp_, ep⟩ := rg_lt h2_h (by omega)
        have epn : n_ x = p := by rw [ep]; exact nI_clamp (by omega)
        obtain ⟨bb_, hbb_, ebb__⟩ := rg_nat (n := 11) h9_h (by decide)
        have ebn : n_ b = bb_ := by rw [ebb__]; exact nI_clamp (by omega)
        obtain ⟨nn, hnn, enn_⟩ := rg_nat (n := 30) g21 (by decide)
        have enn : n_ n = nn := by rw [enn_]; exact nI_clamp (by omega)
        obtain ⟨v0, hv0, ev0⟩ := (hO.1.2.1 p (by omega)).2.1
        refine v_aload_n G 0 dX8_fewest_30 rfl ?_
        refine w_callVv G hK hT (kX8_laysAside hK l dC dI ct ad σ) (ck_X8_378 G.2.2.2.2.1 ⟨Nat.le_of_ble_eq_true rfl, Nat.le_of_ble_eq_true rfl⟩) m_recv (fun _ h => h) rfl [] rfl (Nat.le_of_ble_eq_true rfl) dX8_fewest_31 ⟨Nat.le_of_ble_eq_true rfl, Nat.le_of_ble_eq_true rfl⟩ (k1 := 0) (n1 := 0) rfl rfl ?_
        rintro σ31 ⟨h31_w, h31_a⟩
        refine v_iconst (v := 0) G dX8_fewest_34 rfl ?_
        refine v_istore (L' := [(4, .int 0), (0, .ref (ad 43)), (1, .int x), (2, .int b), (3, .int n)]) G dX8_fewest_35 (by decide) rfl ?_
        have loop37 : ∀ (dd : Nat) (q : Nat) (τ : MS), (ag fwr σ τ) → (q ≤ 12) → (co τ = co σ) → (∀ i, i < q → τ.1 30 i = s_fw (co σ) p 0 i) → (aside (co σ) (τ.1 27)) → 12 - q < dd → V_ pp l ee rmX8_fewest ss mm aa bb hh cc 7 (dC, dI) vwCl AA QQ 0 0 (RM ct ad τ) 37 [(4, .int (nI q)), (3, .int n), (2, .int b), (1, .int x), (0, .ref (ad 43))] [] := by
          intro dd
          induction dd with
          | zero => intro q τ haτ hq hc1 hwa hw1 hdd; exact absurd hdd (Nat.not_lt_zero _)
          | succ dd ih37 =>
            intro q τ haτ hq hc1 hwa hw1 hdd
            refine v_iload G 0 dX8_fewest_37 rfl ?_
            refine v_bipush (v := 12) G dX8_fewest_39 rfl ?_
            refine v_icmp_ge (tgt := 74) G dX8_fewest_41 (by decide) (fun h41 => ?_) (fun h41 => ?_)
            · have n41 := (cmp_le (x := 12) (y := nI q) (a := 12) (b := q) (ix_lit 12 rfl) rfl (by omega) (by omega)).mp h41
              refine v_iconst (v := 0) G dX8_fewest_74 rfl ?_
              refine v_istore (L' := [(4, .int 0), (3, .int n), (2, .int b), (1, .int x), (0, .ref (ad 43))]) G dX8_fewest_75 (by decide) rfl ?_
              have loop77 : ∀ (dd : Nat) (y : Nat) (μ : MS) (v : Nat), (ag fwr σ μ) → (y ≤ nn) → (v < 12) → (co μ = s_fK (co σ) p y (nI v)) → (∀ i, i < 12 → μ.1 30 i = s_fw (co σ) p y i) → (aside (co σ) (μ.1 27)) → nn - y < dd → V_ pp l ee rmX8_fewest ss mm aa bb hh cc 7 (dC, dI) vwCl AA QQ 0 0 (RM ct ad μ) 77 [(4, .int (nI y)), (3, .int n), (2, .int b), (1, .int x), (0, .ref (ad 43))] [] := by
                intro dd
                induction dd with
                | zero => intro y μ v haμ hy hv hc2 hwb hw2 hdd; exact absurd hdd (Nat.not_lt_zero _)
                | succ dd ih77 =>
                  intro y μ v haμ hy hv hc2 hwb hw2 hdd
                  refine v_iload G 0 dX8_fewest_77 rfl ?_
                  refine v_iload_n G 1 dX8_fewest_79 rfl ?_
                  refine v_icmp_ge (tgt := 260) G dX8_fewest_80 (by decide) (fun h80 => ?_) (fun h80 => ?_)
                  · have n80 := (cmp_le (x := n) (y := nI y) (a := nn) (b := y) enn_ rfl (by omega) (by omega)).mp h80
                    refine v_aload_n G 4 dX8_fewest_260 rfl ?_
                    refine w_callVv G hK hT (kX8_laysBack hK l dC dI ct ad μ (co σ) hw2 (by rw [hc2]; exact near_fK (by omega))) (ck_X8_381 G.2.2.2.2.1 ⟨Nat.le_of_ble_eq_true rfl, Nat.le_of_ble_eq_true rfl⟩) m_recv (fun _ h => h) rfl [] rfl (Nat.le_of_ble_eq_true rfl) dX8_fewest_261 ⟨Nat.le_of_ble_eq_true rfl, Nat.le_of_ble_eq_true rfl⟩ (k1 := 0) (n1 := 0) rfl rfl ?_
                    rintro σ261 ⟨h261_c, h261_a⟩
                    refine v_aload_n G 4 dX8_fewest_264 rfl ?_
                    refine m_get (v := .ref (ad 30)) G 30 (by decide) rfl q1324 rfl dX8_fewest_265 ?_
                    refine v_iload_n G 2 dX8_fewest_268 rfl ?_
                    refine m_iald G 30 rfl (bb_) ebb__ (show bb_ < 12 by first | omega | assumption | decide) dX8_fewest_269 ?_
                    refine v_topr (congrArg Value.int (show σ261.1 30 bb_ = μ.1 30 bb_ from (show σ261.1 30 bb_ = μ.1 30 bb_ from ag_at h261_a (by decide)))) ?_
                    refine v_sipush (v := 1000) G dX8_fewest_270 rfl ?_
                    refine v_icmp_lt (tgt := 280) G dX8_fewest_273 (by decide) (fun h273 => ?_) (fun h273 => ?_)
                    · refine v_aload_n G 4 dX8_fewest_280 rfl ?_
                      refine m_get (v := .ref (ad 30)) G 30 (by decide) rfl q1324 rfl dX8_fewest_281 ?_
                      refine v_iload_n G 2 dX8_fewest_284 rfl ?_
                      refine m_iald G 30 rfl (bb_) ebb__ (show bb_ < 12 by first | omega | assumption | decide) dX8_fewest_285 ?_
                      refine v_topr (congrArg Value.int (show σ261.1 30 bb_ = μ.1 30 bb_ from (show σ261.1 30 bb_ = μ.1 30 bb_ from ag_at h261_a (by decide)))) ?_
                      refine RET _ _ _ _ _ _ rfl (Nat.le_of_ble_eq_true rfl) (Nat.le_of_ble_eq_true rfl) dX8_fewest_286 (fun ws hws => ⟨_, hws, ?_⟩)
                      clear RET G hT hnm
                      have e30 : σ261.1 30 bb_ = s_fw (co σ) p nn bb_ := by rw [h261_a 30 (by decide), hwb _ (by omega), show nn = y by omega]
                      refine ⟨?_, h261_c⟩
                      rw [s_fewest, if_pos ⟨h2_h, h9_h, g21⟩, epn, ebn, enn, ← e30]
                      rw [if_pos (by rw [h261_a 30 (by decide)]; first | exact h273 | exact Int32.not_le.mp h273)]
                        <;> exact h261_a 30 (by decide) ▸ rfl
                    · refine v_iconst (v := (-1)) G dX8_fewest_276 rfl ?_
                      refine v_goto (tgt := 286) G dX8_fewest_277 (by decide) ?_
                      refine RET _ _ _ _ _ _ rfl (Nat.le_of_ble_eq_true rfl) (Nat.le_of_ble_eq_true rfl) dX8_fewest_286 (fun ws hws => ⟨_, hws, ?_⟩)
                      clear RET G hT hnm
                      have e30 : σ261.1 30 bb_ = s_fw (co σ) p nn bb_ := by rw [h261_a 30 (by decide), hwb _ (by omega), show nn = y by omega]
                      refine ⟨?_, h261_c⟩
                      rw [s_fewest, if_pos ⟨h2_h, h9_h, g21⟩, epn, ebn, enn, ← e30]
                      rw [if_neg (by rw [h261_a 30 (by decide)]; first | exact h273 | exact Int32.not_lt.mpr h273)]
                  · have n80 := (not_congr (cmp_le (x := n) (y := nI y) (a := nn) (b := y) enn_ rfl (by omega) (by omega))).mp h80
                    refine v_iconst (v := 0) G dX8_fewest_83 rfl ?_
                    refine v_istore (L' := [(5, .int 0), (4, .int (nI y)), (3, .int n), (2, .int b), (1, .int x), (0, .ref (ad 43))]) G dX8_fewest_84 (by decide) rfl ?_
                    have loop86 : ∀ (dd : Nat) (z : Nat) (ν : MS), (ag fwr σ ν) → (z ≤ 12) → (co ν = s_fK (co σ) p y (nI v)) → (∀ i, i < z → ν.1 31 i = s_fst (co σ) p y (s_fw (co σ) p y) 0 i) → (ν.1 30 = μ.1 30) → (aside (co σ) (ν.1 27)) → 12 - z < dd → V_ pp l ee rmX8_fewest ss mm aa bb hh cc 7 (dC, dI) vwCl AA QQ 0 0 (RM ct ad ν) 86 [(5, .int (nI z)), (4, .int (nI y)), (3, .int n), (2, .int b), (1, .int x), (0, .ref (ad 43))] [] := by
                      intro dd
                      induction dd with
                      | zero => intro z ν haν hz hc3 hwc h330 hw3 hdd; exact absurd hdd (Nat.not_lt_zero _)
                      | succ dd ih86 =>
                        intro z ν haν hz hc3 hwc h330 hw3 hdd
                        refine v_iload G 0 dX8_fewest_86 rfl ?_
                        refine v_bipush (v := 12) G dX8_fewest_88 rfl ?_
                        refine v_icmp_ge (tgt := 109) G dX8_fewest_90 (by decide) (fun h90 => ?_) (fun h90 => ?_)
                        · have n90 := (cmp_le (x := 12) (y := nI z) (a := 12) (b := z) (ix_lit 12 rfl) rfl (by omega) (by omega)).mp h90
                          refine v_iconst (v := 0) G dX8_fewest_109 rfl ?_
                          refine v_istore (L' := [(5, .int 0), (4, .int (nI y)), (3, .int n), (2, .int b), (1, .int x), (0, .ref (ad 43))]) G dX8_fewest_110 (by decide) rfl ?_
                          have loop112 : ∀ (dd : Nat) (r : Nat) (ξ : MS) (v1 : Nat), (ag fwr σ ξ) → (r ≤ 24) → (v1 < 12) → (co ξ = s_fK (co σ) p y (nI v1)) → (∀ i, i < 12 → ξ.1 31 i = s_fst (co σ) p y (s_fw (co σ) p y) r i) → (ξ.1 30 = μ.1 30) → (aside (co σ) (ξ.1 27)) → 24 - r < dd → V_ pp l ee rmX8_fewest ss mm aa bb hh cc 7 (dC, dI) vwCl AA QQ 0 0 (RM ct ad ξ) 112 [(5, .int (nI r)), (4, .int (nI y)), (3, .int n), (2, .int b), (1, .int x), (0, .ref (ad 43))] [] := by
                            intro dd
                            induction dd with
                            | zero => intro r ξ v1 haξ hr hv1 hc4 hwd h430 hw4 hdd; exact absurd hdd (Nat.not_lt_zero _)
                            | succ dd ih112 =>
                              intro r ξ v1 haξ hr hv1 hc4 hwd h430 hw4 hdd
                              refine v_iload G 0 dX8_fewest_112 rfl ?_
                              refine v_bipush (v := 24) G dX8_fewest_114 rfl ?_
                              refine v_icmp_ge (tgt := 214) G dX8_fewest_116 (by decide) (fun h116 => ?_) (fun h116 => ?_)
                              · have n116 := (cmp_le (x := 24) (y := nI r) (a := 24) (b := r) (ix_lit 24 rfl) rfl (by omega) (by omega)).mp h116
                                refine v_iconst (v := 0) G dX8_fewest_214 rfl ?_
                                refine v_istore (L' := [(5, .int 0), (4, .int (nI y)), (3, .int n), (2, .int b), (1, .int x), (0, .ref (ad 43))]) G dX8_fewest_215 (by decide) rfl ?_
                                have loop217 : ∀ (dd : Nat) (c : Nat) (ρ : MS), (ag fwr σ ρ) → (c ≤ 12) → (co ρ = s_fK (co σ) p y (nI v1)) → (∀ i, i < c → ρ.1 30 i = ξ.1 31 i) → (ρ.1 31 = ξ.1 31) → (aside (co σ) (ρ.1 27)) → 12 - c < dd → V_ pp l ee rmX8_fewest ss mm aa bb hh cc 7 (dC, dI) vwCl AA QQ 0 0 (RM ct ad ρ) 217 [(5, .int (nI c)), (4, .int (nI y)), (3, .int n), (2, .int b), (1, .int x), (0, .ref (ad 43))] [] := by
                                  intro dd
                                  induction dd with
                                  | zero => intro c ρ haρ hcc hcρ hwe h531 hw5 hdd; exact absurd hdd (Nat.not_lt_zero _)
                                  | succ dd ih217 =>
                                    intro c ρ haρ hcc hcρ hwe h531 hw5 hdd
                                    refine v_iload G 0 dX8_fewest_217 rfl ?_
                                    refine v_bipush (v := 12) G dX8_fewest_219 rfl ?_
                                    refine v_icmp_ge (tgt := 244) G dX8_fewest_221 (by decide) (fun h221 => ?_) (fun h221 => ?_)
                                    · have n221 := (cmp_le (x := 12) (y := nI c) (a := 12) (b := c) (ix_lit 12 rfl) rfl (by omega) (by omega)).mp h221
                                      refine v_aload_n G 5 dX8_fewest_244 rfl ?_
                                      refine v_dup G dX8_fewest_245 rfl ?_
                                      refine m_get (v := .int (ρ.1 7 0)) G 7 (by decide) rfl q1301 rfl dX8_fewest_246 ?_
                                      refine v_iconst (v := 1) G dX8_fewest_249 rfl ?_
                                      refine v_iadd G dX8_fewest_250 ?_
                                      refine m_putI G 7 (by decide) q1301 rfl rfl rfl dX8_fewest_251 ?_
                                      refine v_iinc (v := nI (y + 1)) (L' := [(4, .int (nI (y + 1))), (5, .int (nI c)), (3, .int n), (2, .int b), (1, .int x), (0, .ref (ad 43))]) G 1 dX8_fewest_254 rfl (ix_add rfl (ix_lit 1 rfl)) (by decide) rfl ?_
                                      refine v_goto (tgt := 77) G dX8_fewest_257 (by decide) ?_
                                      refine V_.sub (L' := [(4, .int (nI (y + 1))), (3, .int n), (2, .int b), (1, .int x), (0, .ref (ad 43))]) ?_ [0, 2, 3, 4, 5] rfl
                                      exact ih77  (y + 1) (mset ρ 7 0 ((ρ.1 7 0) + 1)) v1 (ag_tr haρ (ag_set (by decide))) (by omega) hv1 (by rw [co_set (by decide), hcρ, show ρ.1 7 0 = s_ey (co σ) y by rw [show ρ.1 7 0 = co ρ 7 0 from rfl, hcρ, s_fK_7]]; exact s_fK_y) (fun i hi => by rw [mset_ne_k (by decide), hwe i (by omega), hwd i hi, show r = 24 by omega]; rfl) (by rw [mset_ne_k (by decide)]; exact hw5) (by omega)
                                    · have n221 := (not_congr (cmp_le (x := 12) (y := nI c) (a := 12) (b := c) (ix_lit 12 rfl) rfl (by omega) (by omega))).mp h221
                                      refine v_aload_n G 5 dX8_fewest_224 rfl ?_
                                      refine m_get (v := .ref (ad 30)) G 30 (by decide) rfl q1324 rfl dX8_fewest_225 ?_
                                      refine v_iload G 0 dX8_fewest_228 rfl ?_
                                      refine v_aload_n G 5 dX8_fewest_230 rfl ?_
                                      refine m_get (v := .ref (ad 31)) G 31 (by decide) rfl q1325 rfl dX8_fewest_231 ?_
                                      refine v_iload G 0 dX8_fewest_234 rfl ?_
                                      refine m_iald G 31 rfl (c) rfl (show c < 12 by first | omega | assumption | decide) dX8_fewest_236 ?_
                                      refine m_iast G 30 rfl (c) rfl (show c < 12 by first | omega | assumption | decide) dX8_fewest_237 ?_
                                      refine v_iinc (v := nI (c + 1)) (L' := [(5, .int (nI (c + 1))), (4, .int (nI y)), (3, .int n), (2, .int b), (1, .int x), (0, .ref (ad 43))]) G 0 dX8_fewest_238 rfl (ix_add rfl (ix_lit 1 rfl)) (by decide) rfl ?_
                                      refine v_goto (tgt := 217) G dX8_fewest_241 (by decide) ?_
                                      refine V_.sub (L' := [(5, .int (nI (c + 1))), (4, .int (nI y)), (3, .int n), (2, .int b), (1, .int x), (0, .ref (ad 43))]) ?_ [0, 1, 2, 3, 4, 5] rfl
                                      exact ih217  (c + 1) (mset ρ 30 c (ρ.1 31 c)) (ag_tr haρ (ag_set (by decide))) (by omega) ((co_scr (by decide)).trans hcρ) (cpy0_lo (f := fun i => ξ.1 31 i) hwe (by rw [h531])) ((mset_ne_k (by decide)).trans h531) (by rw [mset_ne_k (by decide)]; exact hw5) (by omega)
                                refine V_.sub (L' := [(5, .int 0), (4, .int (nI y)), (3, .int n), (2, .int b), (1, .int x), (0, .ref (ad 43))]) ?_ [0, 1, 2, 3, 4, 5] rfl
                                refine v_loc (L' := [(5, .int (nI 0)), (4, .int (nI y)), (3, .int n), (2, .int b), (1, .int x), (0, .ref (ad 43))]) (rfl) ?_
                                exact loop217 _ 0 ξ haξ (Nat.zero_le _) hc4 (fun i hi => absurd hi (Nat.not_lt_zero i)) rfl hw4 (Nat.lt_succ_self _)
                              · have n116 := (not_congr (cmp_le (x := 24) (y := nI r) (a := 24) (b := r) (ix_lit 24 rfl) rfl (by omega) (by omega))).mp h116
                                obtain ⟨d, hd, ed⟩ := hO.1.2.2.1 r (by omega)
                                have ed : σ.1 8 r = nI d := ed
                                have edn : n_ (co σ 8 r) = d := by rw [show co σ 8 r = σ.1 8 r from rfl, ed]; exact nI_clamp (by omega)
                                refine v_aload_n G 5 dX8_fewest_119 rfl ?_
                                refine m_get (v := .ref (ad 10)) G 10 (by decide) rfl q1304 rfl dX8_fewest_120 ?_
                                refine v_iconst (v := 5) G dX8_fewest_123 rfl ?_
                                refine v_iload_n G 4 dX8_fewest_124 rfl ?_
                                refine v_imul G dX8_fewest_125 ?_
                                refine v_iconst (v := 1) G dX8_fewest_126 rfl ?_
                                refine v_iadd G dX8_fewest_127 ?_
                                refine v_iload G 0 dX8_fewest_128 rfl ?_
                                refine v_iconst (v := 2) G dX8_fewest_130 rfl ?_
                                refine v_idiv G dX8_fewest_131 (by decide) ?_
                                refine v_topr (congrArg Value.int (show (nI r) / 2 = nI (r / 2) from (ix_div rfl (ix_lit 2 rfl) (by omega) (by decide) (by decide)))) ?_
                                refine m_iast G 10 rfl ((5 * p) + 1) (ix_add (ix_mul (ix_lit 5 rfl) ep) (ix_lit 1 rfl)) (show (5 * p) + 1 < 25 by first | omega | assumption | decide) dX8_fewest_132 ?_
                                have hcr : co (mset ξ 10 ((5 * p) + 1) (nI (r / 2))) = s_fK (co σ) p y (nI (r / 2)) := by rw [co_set (by decide), hc4]; exact s_fK_v
                                have haR : ag fwr σ (mset ξ 10 ((5 * p) + 1) (nI (r / 2))) := ag_tr haξ (ag_set (by decide))
                                refine v_aload_n G 5 dX8_fewest_133 rfl ?_
                                refine m_get (v := .ref (ad 30)) G 30 (by decide) rfl q1324 rfl dX8_fewest_134 ?_
                                refine v_iload G 0 dX8_fewest_137 rfl ?_
                                refine v_iconst (v := 2) G dX8_fewest_139 rfl ?_
                                refine v_idiv G dX8_fewest_140 (by decide) ?_
                                refine v_topr (congrArg Value.int (show (nI r) / 2 = nI (r / 2) from (ix_div rfl (ix_lit 2 rfl) (by omega) (by decide) (by decide)))) ?_
                                refine m_iald G 30 rfl (r / 2) rfl (show r / 2 < 12 by first | omega | assumption | decide) dX8_fewest_141 ?_
                                refine v_topr (congrArg Value.int (show (mset ξ 10 ((5 * p) + 1) (nI (r / 2))).1 30 (r / 2) = ξ.1 30 (r / 2) from rfl)) ?_
                                refine v_aload_n G 5 dX8_fewest_142 rfl ?_
                                refine v_iload_n G 4 dX8_fewest_143 rfl ?_
                                refine v_stk (st' := [.int (nI p), .ref (ad 43), .int (ξ.1 30 (r / 2))]) (by first | rfl | (have e0 : x = nI p := ep ; simp only [e0])) ?_
                                refine w_callVi G hK hT (kX8_takesOf hK l dC dI ct ad (mset ξ 10 ((5 * p) + 1) (nI (r / 2))) p (by rw [hcr]; exact (ok_fK hO (by omega))) (by first | assumption | omega)) (ck_X8_136 G.2.2.2.2.1 ⟨Nat.le_of_ble_eq_true rfl, Nat.le_of_ble_eq_true rfl⟩) m_recv (fun _ h => h) rfl [.int (ξ.1 30 (r / 2))] rfl (Nat.le_of_ble_eq_true rfl) dX8_fewest_144 ⟨Nat.le_of_ble_eq_true rfl, Nat.le_of_ble_eq_true rfl⟩ (k1 := 0) (n1 := 0) rfl rfl ?_
                                rintro r144 σ144 ⟨rfl, h144_a⟩
                                refine v_topr (congrArg Value.int (show s_road (co (mset ξ 10 ((5 * p) + 1) (nI (r / 2)))) p = s_road (s_fK (co σ) p y (nI (r / 2))) p from by rw [hcr])) ?_
                                refine v_iload G 0 dX8_fewest_147 rfl ?_
                                refine v_iconst (v := 2) G dX8_fewest_149 rfl ?_
                                refine v_irem G dX8_fewest_150 (by decide) ?_
                                refine v_topr (congrArg Value.int (show (nI r) - (nI r) / 2 * 2 = nI (r % 2) from (ix_rem rfl (ix_lit 2 rfl) (by omega) (by decide) (by decide)))) ?_
                                refine v_icmp_ne (tgt := 158) G dX8_fewest_151 (by decide) (fun h151 => ?_) (fun h151 => ?_)
                                · refine v_iconst (v := 1) G dX8_fewest_158 rfl ?_
                                  refine v_iadd G dX8_fewest_159 ?_
                                  refine v_istore (L' := [(6, .int ((ξ.1 30 (r / 2)) + 1)), (5, .int (nI r)), (4, .int (nI y)), (3, .int n), (2, .int b), (1, .int x), (0, .ref (ad 43))]) G dX8_fewest_160 (by decide) rfl ?_
                                  refine v_aload_n G 6 dX8_fewest_162 rfl ?_
                                  refine m_get (v := .ref (ad 31)) G 31 (by decide) rfl q1325 rfl dX8_fewest_163 ?_
                                  refine v_aload_n G 6 dX8_fewest_166 rfl ?_
                                  refine m_get (v := .ref (ad 8)) G 8 (by decide) rfl q1302 rfl dX8_fewest_167 ?_
                                  refine v_iload G 1 dX8_fewest_170 rfl ?_
                                  refine m_iald G 8 rfl (r) rfl (show r < 24 by first | omega | assumption | decide) dX8_fewest_172 ?_
                                  refine v_topr (congrArg Value.int (show σ144.1 8 r = σ.1 8 r from ((show σ144.1 8 r = (mset ξ 10 ((5 * p) + 1) (nI (r / 2))).1 8 r from ag_at h144_a (by decide)).trans (show ξ.1 8 r = σ.1 8 r from ag_at haξ (by decide))))) ?_
                                  refine v_iload G 0 dX8_fewest_173 rfl ?_
                                  refine v_aload_n G 6 dX8_fewest_175 rfl ?_
                                  refine m_get (v := .ref (ad 31)) G 31 (by decide) rfl q1325 rfl dX8_fewest_176 ?_
                                  refine v_aload_n G 6 dX8_fewest_179 rfl ?_
                                  refine m_get (v := .ref (ad 8)) G 8 (by decide) rfl q1302 rfl dX8_fewest_180 ?_
                                  refine v_iload G 1 dX8_fewest_183 rfl ?_
                                  refine m_iald G 8 rfl (r) rfl (show r < 24 by first | omega | assumption | decide) dX8_fewest_185 ?_
                                  refine v_topr (congrArg Value.int (show σ144.1 8 r = σ.1 8 r from ((show σ144.1 8 r = (mset ξ 10 ((5 * p) + 1) (nI (r / 2))).1 8 r from ag_at h144_a (by decide)).trans (show ξ.1 8 r = σ.1 8 r from ag_at haξ (by decide))))) ?_
                                  refine m_iald G 31 rfl (d) ed (show d < 12 by first | omega | assumption | decide) dX8_fewest_186 ?_
                                  refine v_topr (congrArg Value.int (show σ144.1 31 d = ξ.1 31 d from ((show σ144.1 31 d = (mset ξ 10 ((5 * p) + 1) (nI (r / 2))).1 31 d from ag_at h144_a (by decide)).trans rfl))) ?_
                                  refine v_icmp_ge (tgt := 195) G dX8_fewest_187 (by decide) (fun h187 => ?_) (fun h187 => ?_)
                                  · refine v_aload_n G 6 dX8_fewest_195 rfl ?_
                                    refine m_get (v := .ref (ad 31)) G 31 (by decide) rfl q1325 rfl dX8_fewest_196 ?_
                                    refine v_aload_n G 6 dX8_fewest_199 rfl ?_
                                    refine m_get (v := .ref (ad 8)) G 8 (by decide) rfl q1302 rfl dX8_fewest_200 ?_
                                    refine v_iload G 1 dX8_fewest_203 rfl ?_
                                    refine m_iald G 8 rfl (r) rfl (show r < 24 by first | omega | assumption | decide) dX8_fewest_205 ?_
                                    refine v_topr (congrArg Value.int (show σ144.1 8 r = σ.1 8 r from ((show σ144.1 8 r = (mset ξ 10 ((5 * p) + 1) (nI (r / 2))).1 8 r from ag_at h144_a (by decide)).trans (show ξ.1 8 r = σ.1 8 r from ag_at haξ (by decide))))) ?_
                                    refine m_iald G 31 rfl (d) ed (show d < 12 by first | omega | assumption | decide) dX8_fewest_206 ?_
                                    refine v_topr (congrArg Value.int (show σ144.1 31 d = ξ.1 31 d from ((show σ144.1 31 d = (mset ξ 10 ((5 * p) + 1) (nI (r / 2))).1 31 d from ag_at h144_a (by decide)).trans rfl))) ?_
                                    refine m_iast G 31 rfl (d) ed (show d < 12 by first | omega | assumption | decide) dX8_fewest_207 ?_
                                    have hwd1 : ∀ i, i < 12 → ((mset σ144 31 d (ξ.1 31 d))).1 31 i = s_fst (co σ) p y (s_fw (co σ) p y) (r + 1) i := by
                                      intro i hi
                                      have h31e : σ144.1 31 = ξ.1 31 := (h144_a 31 (by decide)).trans (mset_ne_k (by decide))
                                      have e30 : ξ.1 30 (r / 2) = s_fw (co σ) p y (r / 2) := by rw [h430]; exact hwb _ (by omega)
                                      have ht : s_ft (co σ) p y (s_fw (co σ) p y) r = (ξ.1 30 (r / 2)) + 1 := by rw [s_ft, ← e30]; first | rw [if_pos h151] | rw [if_neg h151]
                                      show upd2 σ144.1 31 d _ 31 i = upd (s_fst (co σ) p y (s_fw (co σ) p y) r) (n_ (co σ 8 r)) _ i
                                      rw [edn, upd2_at]
                                      by_cases e : i = d
                                      · subst e
                                        rw [if_pos ⟨rfl, rfl⟩, pk_us, ht, ← hwd i hi]
                                        first
                                          | (rw [if_pos (by exact Int32.not_le.mp h187)]; done)
                                          | (rw [if_neg (by exact Int32.not_lt.mpr h187)]; done)
                                      · rw [if_neg (by omega), pk_un e, h31e]
                                        exact hwd i hi
                                    refine v_iinc (v := nI (r + 1)) (L' := [(5, .int (nI (r + 1))), (6, .int ((ξ.1 30 (r / 2)) + 1)), (4, .int (nI y)), (3, .int n), (2, .int b), (1, .int x), (0, .ref (ad 43))]) G 1 dX8_fewest_208 rfl (ix_add rfl (ix_lit 1 rfl)) (by decide) rfl ?_
                                    refine v_goto (tgt := 112) G dX8_fewest_211 (by decide) ?_
                                    refine V_.sub (L' := [(5, .int (nI (r + 1))), (4, .int (nI y)), (3, .int n), (2, .int b), (1, .int x), (0, .ref (ad 43))]) ?_ [0, 2, 3, 4, 5, 6] rfl
                                    exact ih112  (r + 1) (mset σ144 31 d (ξ.1 31 d)) (r / 2) (ag_tr haR (ag_tr (ag_mono h144_a (by decide)) (ag_set (by decide)))) (by omega) (by omega) ((co_scr (by decide)).trans ((ag_co h144_a (by decide)).trans hcr)) hwd1 (by rw [mset_ne_k (by decide), h144_a 30 (by decide), mset_ne_k (by decide)]; exact h430) (by rw [mset_ne_k (by decide), h144_a 27 (by decide), mset_ne_k (by decide)]; exact hw4) (by omega)
                                  · refine v_iload G 0 dX8_fewest_190 rfl ?_
                                    refine v_goto (tgt := 207) G dX8_fewest_192 (by decide) ?_
                                    refine m_iast G 31 rfl (d) ed (show d < 12 by first | omega | assumption | decide) dX8_fewest_207 ?_
                                    have hwd1 : ∀ i, i < 12 → ((mset σ144 31 d ((ξ.1 30 (r / 2)) + 1))).1 31 i = s_fst (co σ) p y (s_fw (co σ) p y) (r + 1) i := by
                                      intro i hi
                                      have h31e : σ144.1 31 = ξ.1 31 := (h144_a 31 (by decide)).trans (mset_ne_k (by decide))
                                      have e30 : ξ.1 30 (r / 2) = s_fw (co σ) p y (r / 2) := by rw [h430]; exact hwb _ (by omega)
                                      have ht : s_ft (co σ) p y (s_fw (co σ) p y) r = (ξ.1 30 (r / 2)) + 1 := by rw [s_ft, ← e30]; first | rw [if_pos h151] | rw [if_neg h151]
                                      show upd2 σ144.1 31 d _ 31 i = upd (s_fst (co σ) p y (s_fw (co σ) p y) r) (n_ (co σ 8 r)) _ i
                                      rw [edn, upd2_at]
                                      by_cases e : i = d
                                      · subst e
                                        rw [if_pos ⟨rfl, rfl⟩, pk_us, ht, ← hwd i hi]
                                        first
                                          | (rw [if_pos (by exact Int32.not_le.mp h187)]; done)
                                          | (rw [if_neg (by exact Int32.not_lt.mpr h187)]; done)
                                      · rw [if_neg (by omega), pk_un e, h31e]
                                        exact hwd i hi
                                    refine v_iinc (v := nI (r + 1)) (L' := [(5, .int (nI (r + 1))), (6, .int ((ξ.1 30 (r / 2)) + 1)), (4, .int (nI y)), (3, .int n), (2, .int b), (1, .int x), (0, .ref (ad 43))]) G 1 dX8_fewest_208 rfl (ix_add rfl (ix_lit 1 rfl)) (by decide) rfl ?_
                                    refine v_goto (tgt := 112) G dX8_fewest_211 (by decide) ?_
                                    refine V_.sub (L' := [(5, .int (nI (r + 1))), (4, .int (nI y)), (3, .int n), (2, .int b), (1, .int x), (0, .ref (ad 43))]) ?_ [0, 2, 3, 4, 5, 6] rfl
                                    exact ih112  (r + 1) (mset σ144 31 d ((ξ.1 30 (r / 2)) + 1)) (r / 2) (ag_tr haR (ag_tr (ag_mono h144_a (by decide)) (ag_set (by decide)))) (by omega) (by omega) ((co_scr (by decide)).trans ((ag_co h144_a (by decide)).trans hcr)) hwd1 (by rw [mset_ne_k (by decide), h144_a 30 (by decide), mset_ne_k (by decide)]; exact h430) (by rw [mset_ne_k (by decide), h144_a 27 (by decide), mset_ne_k (by decide)]; exact hw4) (by omega)
                                · refine v_iconst (v := 0) G dX8_fewest_154 rfl ?_
                                  refine v_goto (tgt := 159) G dX8_fewest_155 (by decide) ?_
                                  refine v_iadd G dX8_fewest_159 ?_
                                  refine v_istore (L' := [(6, .int ((ξ.1 30 (r / 2)) + 0)), (5, .int (nI r)), (4, .int (nI y)), (3, .int n), (2, .int b), (1, .int x), (0, .ref (ad 43))]) G dX8_fewest_160 (by decide) rfl ?_
                                  refine v_aload_n G 6 dX8_fewest_162 rfl ?_
                                  refine m_get (v := .ref (ad 31)) G 31 (by decide) rfl q1325 rfl dX8_fewest_163 ?_
                                  refine v_aload_n G 6 dX8_fewest_166 rfl ?_
                                  refine m_get (v := .ref (ad 8)) G 8 (by decide) rfl q1302 rfl dX8_fewest_167 ?_
                                  refine v_iload G 1 dX8_fewest_170 rfl ?_
                                  refine m_iald G 8 rfl (r) rfl (show r < 24 by first | omega | assumption | decide) dX8_fewest_172 ?_
                                  refine v_topr (congrArg Value.int (show σ144.1 8 r = σ.1 8 r from ((show σ144.1 8 r = (mset ξ 10 ((5 * p) + 1) (nI (r / 2))).1 8 r from ag_at h144_a (by decide)).trans (show ξ.1 8 r = σ.1 8 r from ag_at haξ (by decide))))) ?_
                                  refine v_iload G 0 dX8_fewest_173 rfl ?_
                                  refine v_aload_n G 6 dX8_fewest_175 rfl ?_
                                  refine m_get (v := .ref (ad 31)) G 31 (by decide) rfl q1325 rfl dX8_fewest_176 ?_
                                  refine v_aload_n G 6 dX8_fewest_179 rfl ?_
                                  refine m_get (v := .ref (ad 8)) G 8 (by decide) rfl q1302 rfl dX8_fewest_180 ?_
                                  refine v_iload G 1 dX8_fewest_183 rfl ?_
                                  refine m_iald G 8 rfl (r) rfl (show r < 24 by first | omega | assumption | decide) dX8_fewest_185 ?_
                                  refine v_topr (congrArg Value.int (show σ144.1 8 r = σ.1 8 r from ((show σ144.1 8 r = (mset ξ 10 ((5 * p) + 1) (nI (r / 2))).1 8 r from ag_at h144_a (by decide)).trans (show ξ.1 8 r = σ.1 8 r from ag_at haξ (by decide))))) ?_
                                  refine m_iald G 31 rfl (d) ed (show d < 12 by first | omega | assumption | decide) dX8_fewest_186 ?_
                                  refine v_topr (congrArg Value.int (show σ144.1 31 d = ξ.1 31 d from ((show σ144.1 31 d = (mset ξ 10 ((5 * p) + 1) (nI (r / 2))).1 31 d from ag_at h144_a (by decide)).trans rfl))) ?_
                                  refine v_icmp_ge (tgt := 195) G dX8_fewest_187 (by decide) (fun h187 => ?_) (fun h187 => ?_)
                                  · refine v_aload_n G 6 dX8_fewest_195 rfl ?_
                                    refine m_get (v := .ref (ad 31)) G 31 (by decide) rfl q1325 rfl dX8_fewest_196 ?_
                                    refine v_aload_n G 6 dX8_fewest_199 rfl ?_
                                    refine m_get (v := .ref (ad 8)) G 8 (by decide) rfl q1302 rfl dX8_fewest_200 ?_
                                    refine v_iload G 1 dX8_fewest_203 rfl ?_
                                    refine m_iald G 8 rfl (r) rfl (show r < 24 by first | omega | assumption | decide) dX8_fewest_205 ?_
                                    refine v_topr (congrArg Value.int (show σ144.1 8 r = σ.1 8 r from ((show σ144.1 8 r = (mset ξ 10 ((5 * p) + 1) (nI (r / 2))).1 8 r from ag_at h144_a (by decide)).trans (show ξ.1 8 r = σ.1 8 r from ag_at haξ (by decide))))) ?_
                                    refine m_iald G 31 rfl (d) ed (show d < 12 by first | omega | assumption | decide) dX8_fewest_206 ?_
                                    refine v_topr (congrArg Value.int (show σ144.1 31 d = ξ.1 31 d from ((show σ144.1 31 d = (mset ξ 10 ((5 * p) + 1) (nI (r / 2))).1 31 d from ag_at h144_a (by decide)).trans rfl))) ?_
                                    refine m_iast G 31 rfl (d) ed (show d < 12 by first | omega | assumption | decide) dX8_fewest_207 ?_
                                    have hwd1 : ∀ i, i < 12 → ((mset σ144 31 d (ξ.1 31 d))).1 31 i = s_fst (co σ) p y (s_fw (co σ) p y) (r + 1) i := by
                                      intro i hi
                                      have h31e : σ144.1 31 = ξ.1 31 := (h144_a 31 (by decide)).trans (mset_ne_k (by decide))
                                      have e30 : ξ.1 30 (r / 2) = s_fw (co σ) p y (r / 2) := by rw [h430]; exact hwb _ (by omega)
                                      have ht : s_ft (co σ) p y (s_fw (co σ) p y) r = (ξ.1 30 (r / 2)) + 0 := by rw [s_ft, ← e30]; first | rw [if_pos h151] | rw [if_neg h151]
                                      show upd2 σ144.1 31 d _ 31 i = upd (s_fst (co σ) p y (s_fw (co σ) p y) r) (n_ (co σ 8 r)) _ i
                                      rw [edn, upd2_at]
                                      by_cases e : i = d
                                      · subst e
                                        rw [if_pos ⟨rfl, rfl⟩, pk_us, ht, ← hwd i hi]
                                        first
                                          | (rw [if_pos (by exact Int32.not_le.mp h187)]; done)
                                          | (rw [if_neg (by exact Int32.not_lt.mpr h187)]; done)
                                      · rw [if_neg (by omega), pk_un e, h31e]
                                        exact hwd i hi
                                    refine v_iinc (v := nI (r + 1)) (L' := [(5, .int (nI (r + 1))), (6, .int ((ξ.1 30 (r / 2)) + 0)), (4, .int (nI y)), (3, .int n), (2, .int b), (1, .int x), (0, .ref (ad 43))]) G 1 dX8_fewest_208 rfl (ix_add rfl (ix_lit 1 rfl)) (by decide) rfl ?_
                                    refine v_goto (tgt := 112) G dX8_fewest_211 (by decide) ?_
                                    refine V_.sub (L' := [(5, .int (nI (r + 1))), (4, .int (nI y)), (3, .int n), (2, .int b), (1, .int x), (0, .ref (ad 43))]) ?_ [0, 2, 3, 4, 5, 6] rfl
                                    exact ih112  (r + 1) (mset σ144 31 d (ξ.1 31 d)) (r / 2) (ag_tr haR (ag_tr (ag_mono h144_a (by decide)) (ag_set (by decide)))) (by omega) (by omega) ((co_scr (by decide)).trans ((ag_co h144_a (by decide)).trans hcr)) hwd1 (by rw [mset_ne_k (by decide), h144_a 30 (by decide), mset_ne_k (by decide)]; exact h430) (by rw [mset_ne_k (by decide), h144_a 27 (by decide), mset_ne_k (by decide)]; exact hw4) (by omega)
                                  · refine v_iload G 0 dX8_fewest_190 rfl ?_
                                    refine v_goto (tgt := 207) G dX8_fewest_192 (by decide) ?_
                                    refine m_iast G 31 rfl (d) ed (show d < 12 by first | omega | assumption | decide) dX8_fewest_207 ?_
                                    have hwd1 : ∀ i, i < 12 → ((mset σ144 31 d ((ξ.1 30 (r / 2)) + 0))).1 31 i = s_fst (co σ) p y (s_fw (co σ) p y) (r + 1) i := by
                                      intro i hi
                                      have h31e : σ144.1 31 = ξ.1 31 := (h144_a 31 (by decide)).trans (mset_ne_k (by decide))
                                      have e30 : ξ.1 30 (r / 2) = s_fw (co σ) p y (r / 2) := by rw [h430]; exact hwb _ (by omega)
                                      have ht : s_ft (co σ) p y (s_fw (co σ) p y) r = (ξ.1 30 (r / 2)) + 0 := by rw [s_ft, ← e30]; first | rw [if_pos h151] | rw [if_neg h151]
                                      show upd2 σ144.1 31 d _ 31 i = upd (s_fst (co σ) p y (s_fw (co σ) p y) r) (n_ (co σ 8 r)) _ i
                                      rw [edn, upd2_at]
                                      by_cases e : i = d
                                      · subst e
                                        rw [if_pos ⟨rfl, rfl⟩, pk_us, ht, ← hwd i hi]
                                        first
                                          | (rw [if_pos (by exact Int32.not_le.mp h187)]; done)
                                          | (rw [if_neg (by exact Int32.not_lt.mpr h187)]; done)
                                      · rw [if_neg (by omega), pk_un e, h31e]
                                        exact hwd i hi
                                    refine v_iinc (v := nI (r + 1)) (L' := [(5, .int (nI (r + 1))), (6, .int ((ξ.1 30 (r / 2)) + 0)), (4, .int (nI y)), (3, .int n), (2, .int b), (1, .int x), (0, .ref (ad 43))]) G 1 dX8_fewest_208 rfl (ix_add rfl (ix_lit 1 rfl)) (by decide) rfl ?_
                                    refine v_goto (tgt := 112) G dX8_fewest_211 (by decide) ?_
                                    refine V_.sub (L' := [(5, .int (nI (r + 1))), (4, .int (nI y)), (3, .int n), (2, .int b), (1, .int x), (0, .ref (ad 43))]) ?_ [0, 2, 3, 4, 5, 6] rfl
                                    exact ih112  (r + 1) (mset σ144 31 d ((ξ.1 30 (r / 2)) + 0)) (r / 2) (ag_tr haR (ag_tr (ag_mono h144_a (by decide)) (ag_set (by decide)))) (by omega) (by omega) ((co_scr (by decide)).trans ((ag_co h144_a (by decide)).trans hcr)) hwd1 (by rw [mset_ne_k (by decide), h144_a 30 (by decide), mset_ne_k (by decide)]; exact h430) (by rw [mset_ne_k (by decide), h144_a 27 (by decide), mset_ne_k (by decide)]; exact hw4) (by omega)
                          refine V_.sub (L' := [(5, .int 0), (4, .int (nI y)), (3, .int n), (2, .int b), (1, .int x), (0, .ref (ad 43))]) ?_ [0, 1, 2, 3, 4, 5] rfl
                          refine v_loc (L' := [(5, .int (nI 0)), (4, .int (nI y)), (3, .int n), (2, .int b), (1, .int x), (0, .ref (ad 43))]) (rfl) ?_
                          exact loop112 _ 0 ν v haν (Nat.zero_le _) hv hc3 (fun i hi => hwc i (by omega)) h330 hw3 (Nat.lt_succ_self _)
                        · have n90 := (not_congr (cmp_le (x := 12) (y := nI z) (a := 12) (b := z) (ix_lit 12 rfl) rfl (by omega) (by omega))).mp h90
                          refine v_aload_n G 5 dX8_fewest_93 rfl ?_
                          refine m_get (v := .ref (ad 31)) G 31 (by decide) rfl q1325 rfl dX8_fewest_94 ?_
                          refine v_iload G 0 dX8_fewest_97 rfl ?_
                          refine v_sipush (v := 1000) G dX8_fewest_99 rfl ?_
                          refine m_iast G 31 rfl (z) rfl (show z < 12 by first | omega | assumption | decide) dX8_fewest_102 ?_
                          refine v_iinc (v := nI (z + 1)) (L' := [(5, .int (nI (z + 1))), (4, .int (nI y)), (3, .int n), (2, .int b), (1, .int x), (0, .ref (ad 43))]) G 0 dX8_fewest_103 rfl (ix_add rfl (ix_lit 1 rfl)) (by decide) rfl ?_
                          refine v_goto (tgt := 86) G dX8_fewest_106 (by decide) ?_
                          refine V_.sub (L' := [(5, .int (nI (z + 1))), (4, .int (nI y)), (3, .int n), (2, .int b), (1, .int x), (0, .ref (ad 43))]) ?_ [0, 1, 2, 3, 4, 5] rfl
                          exact ih86  (z + 1) (mset ν 31 z 1000) (ag_tr haν (ag_set (by decide))) (by omega) ((co_scr (by decide)).trans hc3) (cpy0_lo (f := s_fst (co σ) p y (s_fw (co σ) p y) 0) hwc rfl) ((mset_ne_k (by decide)).trans h330) (by rw [mset_ne_k (by decide)]; exact hw3) (by omega)
                    refine V_.sub (L' := [(5, .int 0), (4, .int (nI y)), (3, .int n), (2, .int b), (1, .int x), (0, .ref (ad 43))]) ?_ [0, 1, 2, 3, 4, 5] rfl
                    refine v_loc (L' := [(5, .int (nI 0)), (4, .int (nI y)), (3, .int n), (2, .int b), (1, .int x), (0, .ref (ad 43))]) (rfl) ?_
                    exact loop86 _ 0 μ haμ (Nat.zero_le _) hc2 (fun i hi => absurd hi (Nat.not_lt_zero i)) rfl hw2 (Nat.lt_succ_self _)
              refine V_.sub (L' := [(4, .int 0), (3, .int n), (2, .int b), (1, .int x), (0, .ref (ad 43))]) ?_ [0, 1, 2, 3, 4] rfl
              refine v_loc (L' := [(4, .int (nI 0)), (3, .int n), (2, .int b), (1, .int x), (0, .ref (ad 43))]) (rfl) ?_
              exact loop77 _ 0 τ v0 haτ (Nat.zero_le _) hv0 (by rw [hc1, ← ev0]; exact s_fK_0.symm) (fun i hi => hwa i (by omega)) hw1 (Nat.lt_succ_self _)
            · have n41 := (not_congr (cmp_le (x := 12) (y := nI q) (a := 12) (b := q) (ix_lit 12 rfl) rfl (by omega) (by omega))).mp h41
              refine v_aload_n G 4 dX8_fewest_44 rfl ?_
              refine m_get (v := .ref (ad 30)) G 30 (by decide) rfl q1324 rfl dX8_fewest_45 ?_
              refine v_iload G 0 dX8_fewest_48 rfl ?_
              refine v_iload G 0 dX8_fewest_50 rfl ?_
              refine v_aload_n G 4 dX8_fewest_52 rfl ?_
              refine v_iload_n G 3 dX8_fewest_53 rfl ?_
              refine v_stk (st' := [.int (nI p), .ref (ad 43), .int (nI q), .int (nI q), .ref (ad 30)]) (by first | rfl | (have e0 : x = nI p := ep ; simp only [e0])) ?_
              refine w_callVi G hK hT (kX8_atOf hK l dC dI ct ad τ p (by first | assumption | omega)) (ck_X8_351 G.2.2.2.2.1 ⟨Nat.le_of_ble_eq_true rfl, Nat.le_of_ble_eq_true rfl⟩) m_recv (fun _ h => h) rfl [.int (nI q), .int (nI q), .ref (ad 30)] rfl (Nat.le_of_ble_eq_true rfl) dX8_fewest_54 ⟨Nat.le_of_ble_eq_true rfl, Nat.le_of_ble_eq_true rfl⟩ (k1 := 0) (n1 := 0) rfl rfl ?_
              rintro r54 σ54 ⟨rfl, rfl⟩
              refine v_topr (congrArg Value.int (show τ.1 10 (5 * p + 1) = (co σ) 10 (5 * p + 1) from (by first | rfl | exact congrFun (congrFun hc1 10) (5 * p + 1)))) ?_
              refine v_icmp_ne (tgt := 64) G dX8_fewest_57 (by decide) (fun h57 => ?_) (fun h57 => ?_)
              · refine v_sipush (v := 1000) G dX8_fewest_64 rfl ?_
                refine m_iast G 30 rfl (q) rfl (show q < 12 by first | omega | assumption | decide) dX8_fewest_67 ?_
                refine v_iinc (v := nI (q + 1)) (L' := [(4, .int (nI (q + 1))), (3, .int n), (2, .int b), (1, .int x), (0, .ref (ad 43))]) G 0 dX8_fewest_68 rfl (ix_add rfl (ix_lit 1 rfl)) (by decide) rfl ?_
                refine v_goto (tgt := 37) G dX8_fewest_71 (by decide) ?_
                refine V_.sub (L' := [(4, .int (nI (q + 1))), (3, .int n), (2, .int b), (1, .int x), (0, .ref (ad 43))]) ?_ [0, 1, 2, 3, 4] rfl
                exact ih37  (q + 1) (mset τ 30 q 1000) (ag_tr haτ (ag_set (by decide))) (by omega) ((co_scr (by decide)).trans hc1) (cpy0_lo (f := s_fw (co σ) p 0) hwa (by show _ = if nI q = co σ 10 (5 * p + 1) then (0 : Int32) else 1000; first | (rw [if_pos (by exact h57)]; done) | (rw [if_neg (by exact h57)]; done))) (by rw [mset_ne_k (by decide)]; exact hw1) (by omega)
              · refine v_iconst (v := 0) G dX8_fewest_60 rfl ?_
                refine v_goto (tgt := 67) G dX8_fewest_61 (by decide) ?_
                refine m_iast G 30 rfl (q) rfl (show q < 12 by first | omega | assumption | decide) dX8_fewest_67 ?_
                refine v_iinc (v := nI (q + 1)) (L' := [(4, .int (nI (q + 1))), (3, .int n), (2, .int b), (1, .int x), (0, .ref (ad 43))]) G 0 dX8_fewest_68 rfl (ix_add rfl (ix_lit 1 rfl)) (by decide) rfl ?_
                refine v_goto (tgt := 37) G dX8_fewest_71 (by decide) ?_
                refine V_.sub (L' := [(4, .int (nI (q + 1))), (3, .int n), (2, .int b), (1, .int x), (0, .ref (ad 43))]) ?_ [0, 1, 2, 3, 4] rfl
                exact ih37  (q + 1) (mset τ 30 q 0) (ag_tr haτ (ag_set (by decide))) (by omega) ((co_scr (by decide)).trans hc1) (cpy0_lo (f := s_fw (co σ) p 0) hwa (by show _ = if nI q = co σ 10 (5 * p + 1) then (0 : Int32) else 1000; first | (rw [if_pos (by exact h57)]; done) | (rw [if_neg (by exact h57)]; done))) (by rw [mset_ne_k (by decide)]; exact hw1) (by omega)
        refine V_.sub (L' := [(4, .int 0), (3, .int n), (2, .int b), (1, .int x), (0, .ref (ad 43))]) ?_ [0, 4, 3, 2, 1] rfl
        refine v_loc (L' := [(4, .int (nI 0)), (3, .int n), (2, .int b), (1, .int x), (0, .ref (ad 43))]) (rfl) ?_
        exact loop37 _ 0 σ31 (ag_mono h31_a (by decide)) (Nat.zero_le _) (ag_co h31_a (by decide)) (fun i hi => absurd hi (Nat.not_lt_zero i)) h31_w (Nat.lt_succ_self _)
      · have g21 : ¬ rg n 0 30 := fun zz => h21_h ((in_rg (c := n) (lo := 0) (hi := 30) (a := 0) (z := 30) (by decide) (by decide)).mpr zz)
        refine v_if_ne (tgt := 30) G dX8_fewest_24 (by decide) (fun h24 => absurd h24 (by decide)) (fun h24 => ?_)
        refine v_bipush (v := (-2)) G dX8_fewest_27 rfl ?_
        refine RET _ _ _ _ _ _ rfl (Nat.le_of_ble_eq_true rfl) (Nat.le_of_ble_eq_true rfl) dX8_fewest_29 (fun ws hws => ⟨_, hws, ?_⟩)
        clear RET G hT hnm
        exact ⟨by rw [s_fewest, if_neg (fun q => by first | exact h2_h q.1 | exact h9_h q.2.1 | exact g21 q.2.2)], rfl⟩
    · refine v_if_eq (tgt := 27) G dX8_fewest_12 (by decide) (fun h12 => ?_) (fun h12 => absurd h12 (by decide))
      refine v_bipush (v := (-2)) G dX8_fewest_27 rfl ?_
      refine RET _ _ _ _ _ _ rfl (Nat.le_of_ble_eq_true rfl) (Nat.le_of_ble_eq_true rfl) dX8_fewest_29 (fun ws hws => ⟨_, hws, ?_⟩)
      clear RET G hT hnm
      exact ⟨by rw [s_fewest, if_neg (fun q => by first | exact h2_h q.1 | exact h9_h q.2.1 | exact g21 q.2.2)], rfl⟩
  · refine v_if_eq (tgt := 27) G dX8_fewest_5 (by decide) (fun h5 => ?_) (fun h5 => absurd h5 (by decide))
    refine v_bipush (v := (-2)) G dX8_fewest_27 rfl ?_
    refine RET _ _ _ _ _ _ rfl (Nat.le_of_ble_eq_true rfl) (Nat.le_of_ble_eq_true rfl) dX8_fewest_29 (fun ws hws => ⟨_, hws, ?_⟩)
    clear RET G hT hnm
    exact ⟨by rw [s_fewest, if_neg (fun q => by first | exact h2_h q.1 | exact h9_h q.2.1 | exact g21 q.2.2)], rfl⟩
