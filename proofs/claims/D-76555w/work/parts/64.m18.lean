set_option maxRecDepth 100000
abbrev rmX8_film : Room := { frames := 46, cells := 0, slots := 0, locals := 1026 }
set_option maxHeartbeats 1000000 in
theorem kX8_film {KT : (Nat → Prop) → State → Heap → Prop} (hK : KTok KT) (l : Launch) (dC : Nat → ClassId) (dI : Nat → Nat → Nat) (ct ad : Nat → Nat) (σ : MS) (x : Int32) (y : Int32) (n : Int32) (hO : Ok (co σ)) : MC KT (dC, dI) vwCl (tysF ct) l yX8_film cX8_film 5 (some .int) rmX8_film [.ref (ad 43), .int x, .int y, .int n] (RM ct ad σ) (QI_ (dC, dI) vwCl (RM ct ad) (fun (r : Int32) (σ' : MS) => ((s_film (co σ) x y n).1) = r ∧ co σ' = (s_film (co σ) x y n).2)) := by
  refine MC.ofI (own := RX8) pl_X8 rfl (Nat.le_of_ble_eq_true rfl) ?_
  intro pp ee ss mm aa bb hh cc AA QQ G hT hnm RET
  refine v_loc (L' := [(0, .ref (ad 43)), (1, .int x), (2, .int y), (3, .int n)]) rfl ?_
  obtain ⟨hm5, hm⟩ := many5 hO.1
  have hm : σ.1 11 0 = nI (s_many (co σ)) := hm
  refine v_iload_n G 1 dX8_film_0 rfl ?_
  refine w_callSi G hK hT (kX8_isSheet hK l dC dI ct ad σ x) (ck_X8_410 G.2.2.2.2.1 ⟨Nat.le_of_ble_eq_true rfl, Nat.le_of_ble_eq_true rfl⟩) (fun _ h => h) rfl [] rfl (Nat.le_of_ble_eq_true rfl) dX8_film_1 ⟨Nat.le_of_ble_eq_true rfl, Nat.le_of_ble_eq_true rfl⟩ (k1 := 0) (n1 := 0) rfl rfl ?_
  rintro r1 σ1 (⟨rfl, rfl, h1_h⟩ | ⟨rfl, rfl, h1_h⟩)
  · refine v_if_eq (tgt := 27) G dX8_film_4 (by decide) (fun h4 => absurd h4 (by decide)) (fun h4 => ?_)
    refine v_aload_n G 0 dX8_film_7 rfl ?_
    refine v_iload_n G 2 dX8_film_8 rfl ?_
    refine w_callVi G hK hT (kX8_isOne hK l dC dI ct ad σ (s_many (co σ)) y hm5 hm) (ck_X8_101 G.2.2.2.2.1 ⟨Nat.le_of_ble_eq_true rfl, Nat.le_of_ble_eq_true rfl⟩) m_recv (fun _ h => h) rfl [] rfl (Nat.le_of_ble_eq_true rfl) dX8_film_9 ⟨Nat.le_of_ble_eq_true rfl, Nat.le_of_ble_eq_true rfl⟩ (k1 := 0) (n1 := 0) rfl rfl ?_
    rintro r9 σ9 (⟨rfl, rfl, h9_h⟩ | ⟨rfl, rfl, h9_h⟩)
    · refine v_if_eq (tgt := 27) G dX8_film_12 (by decide) (fun h12 => absurd h12 (by decide)) (fun h12 => ?_)
      refine v_iload_n G 3 dX8_film_15 rfl ?_
      refine v_i2l (v := n.toInt64) G dX8_film_16 rfl ?_
      refine v_lconst (v := 0) G dX8_film_17 rfl ?_
      refine v_ldc2 G q1746 dX8_film_18 ?_
      refine w_callSi G hK hT (kX8_in hK l dC dI ct ad σ n.toInt64 0 30) (ck_X8_86 G.2.2.2.2.1 ⟨Nat.le_of_ble_eq_true rfl, Nat.le_of_ble_eq_true rfl⟩) (fun _ h => h) rfl [] rfl (Nat.le_of_ble_eq_true rfl) dX8_film_21 ⟨Nat.le_of_ble_eq_true rfl, Nat.le_of_ble_eq_true rfl⟩ (k1 := 0) (n1 := 0) rfl rfl ?_
      rintro r21 σ21 (⟨rfl, rfl, h21_h⟩ | ⟨rfl, rfl, h21_h⟩)
      · have g21 := (in_rg (c := n) (lo := 0) (hi := 30) (a := 0) (z := 30) (by decide) (by decide)).mp h21_h
        refine v_if_ne (tgt := 30) G dX8_film_24 (by decide) (fun h24 => ?_) (fun h24 => absurd h24 (by decide))
        obtain ⟨s, hs_, es⟩ := rg_nat (n := 3) (x := x) h1_h (by decide)
        obtain ⟨p, hp_, ep⟩ := rg_lt h9_h (by omega)
        obtain ⟨nn, hnn, enn_⟩ := rg_nat (n := 30) (x := n) g21 (by decide)
        have esn : n_ x = s := by rw [es]; exact nI_clamp (by omega)
        have epn : n_ y = p := by rw [ep]; exact nI_clamp (by omega)
        have enn : n_ n = nn := by rw [enn_]; exact nI_clamp (by omega)
        refine v_aload_n G 0 dX8_film_30 rfl ?_
        refine v_iload_n G 1 dX8_film_31 rfl ?_
        refine v_iconst (v := 0) G dX8_film_32 rfl ?_
        refine v_iload_n G 3 dX8_film_33 rfl ?_
        refine w_callVi G hK hT (kX8_sheet hK l dC dI ct ad σ x 0 n hO) (ck_X8_418 G.2.2.2.2.1 ⟨Nat.le_of_ble_eq_true rfl, Nat.le_of_ble_eq_true rfl⟩) m_recv (fun _ h => h) rfl [] rfl (Nat.le_of_ble_eq_true rfl) dX8_film_34 ⟨Nat.le_of_ble_eq_true rfl, Nat.le_of_ble_eq_true rfl⟩ (k1 := 0) (n1 := 0) rfl rfl ?_
        rintro r34 σ34 ⟨rfl, h34_c⟩
        have hs34 : co σ34 = s_film1 (co σ) s p nn 0 := by
          rw [h34_c, s_sheet, if_pos ⟨h1_h, by decide, Or.inr (by rw [Int32.le_iff_toInt_le]; have := g21.2; have e40 : (40 : Int32).toInt = 40 := by decide
                                                                  omega)⟩, if_neg (fun z => absurd (Int32.lt_iff_toInt_lt.mp z.2) (by have := g21.1; have e0 : (0 : Int32).toInt = 0 := by decide
                                                                                                                                      omega)), esn, s_film1, enn_]
        refine v_pop G dX8_film_37 rfl ?_
        refine v_aload_n G 0 dX8_film_38 rfl ?_
        refine w_callVv G hK hT (kX8_laysAside hK l dC dI ct ad σ34) (ck_X8_378 G.2.2.2.2.1 ⟨Nat.le_of_ble_eq_true rfl, Nat.le_of_ble_eq_true rfl⟩) m_recv (fun _ h => h) rfl [] rfl (Nat.le_of_ble_eq_true rfl) dX8_film_39 ⟨Nat.le_of_ble_eq_true rfl, Nat.le_of_ble_eq_true rfl⟩ (k1 := 0) (n1 := 0) rfl rfl ?_
        rintro σ39 ⟨h39_w, h39_a⟩
        refine v_iconst (v := 0) G dX8_film_42 rfl ?_
        refine v_istore (L' := [(4, .int 0), (0, .ref (ad 43)), (1, .int x), (2, .int y), (3, .int n)]) G dX8_film_43 (by decide) rfl ?_
        have loop45 : ∀ (dd : Nat) (t : Nat) (μ : MS), (t ≤ nn) → (∀ k, k < 39 → co μ k = s_iter (co σ) t k) → (∀ k, 39 ≤ k → co μ k = s_film1 (co σ) s p nn t k) → (aside (co σ) (μ.1 27)) → nn - t < dd → V_ pp l ee rmX8_film ss mm aa bb hh cc 5 (dC, dI) vwCl AA QQ 0 0 (RM ct ad μ) 45 [(4, .int (nI t)), (3, .int n), (2, .int y), (1, .int x), (0, .ref (ad 43))] [] := by
          intro dd
          induction dd with
          | zero => intro t μ ht hl hhi hw27 hdd; exact absurd hdd (Nat.not_lt_zero _)
          | succ dd ih45 =>
            intro t μ ht hl hhi hw27 hdd
            refine v_iload G 0 dX8_film_45 rfl ?_
            refine v_iload_n G 1 dX8_film_47 rfl ?_
            refine v_icmp_ge (tgt := 78) G dX8_film_48 (by decide) (fun h48 => ?_) (fun h48 => ?_)
            · have n48 := (cmp_le (x := n) (y := nI t) (a := nn) (b := t) enn_ rfl (by omega) (by omega)).mp h48
              have hnear : near (s_film1 (co σ) s p nn nn) (co μ) := by
                have e : t = nn := by omega
                subst e
                exact film_back hO.1 hl hhi
              refine v_aload_n G 4 dX8_film_78 rfl ?_
              refine w_callVv G hK hT (kX8_laysBack hK l dC dI ct ad μ (s_film1 (co σ) s p nn nn) (aside_of hw27 (film1_k (by decide) _) (film1_k (by decide) _) (film1_k (by decide) _)) hnear) (ck_X8_381 G.2.2.2.2.1 ⟨Nat.le_of_ble_eq_true rfl, Nat.le_of_ble_eq_true rfl⟩) m_recv (fun _ h => h) rfl [] rfl (Nat.le_of_ble_eq_true rfl) dX8_film_79 ⟨Nat.le_of_ble_eq_true rfl, Nat.le_of_ble_eq_true rfl⟩ (k1 := 0) (n1 := 0) rfl rfl ?_
              rintro σ79 ⟨h79_c, h79_a⟩
              refine v_iload_n G 1 dX8_film_82 rfl ?_
              refine RET _ _ _ _ _ _ rfl (Nat.le_of_ble_eq_true rfl) (Nat.le_of_ble_eq_true rfl) dX8_film_83 (fun ws hws => ⟨_, hws, ?_⟩)
              clear RET G hT hnm
              rw [s_film, if_pos ⟨h1_h, h9_h, g21⟩, esn, epn, enn]
              exact ⟨rfl, h79_c⟩
            · have n48 := (not_congr (cmp_le (x := n) (y := nI t) (a := nn) (b := t) enn_ rfl (by omega) (by omega))).mp h48
              have hOm : Ok (co μ) := ok_sh (ok_iter (n := t) hO) hl (by
                have := film1_s (s := s) (p := p) (n := nn) (K := co σ) hO.2.2.2.1 (by omega) t
                unfold sheetsOk at this ⊢
                rw [hhi 39 (by decide), hhi 40 (by decide), hhi 41 (by decide)]
                exact this)
              refine v_aload_n G 4 dX8_film_51 rfl ?_
              refine w_callVv G hK hT (kX8_passes hK l dC dI ct ad μ hOm) (ck_X8_368 G.2.2.2.2.1 ⟨Nat.le_of_ble_eq_true rfl, Nat.le_of_ble_eq_true rfl⟩) m_recv (fun _ h => h) rfl [] rfl (Nat.le_of_ble_eq_true rfl) dX8_film_52 ⟨Nat.le_of_ble_eq_true rfl, Nat.le_of_ble_eq_true rfl⟩ (k1 := 0) (n1 := 0) rfl rfl ?_
              rintro σ52 ⟨h52_c, h52_a⟩
              refine v_aload_n G 4 dX8_film_55 rfl ?_
              refine m_get (v := .ref (ad 42)) G 42 (by decide) rfl q1336 rfl dX8_film_56 ?_
              refine v_bipush (v := 40) G dX8_film_59 rfl ?_
              refine v_iload_n G 3 dX8_film_61 rfl ?_
              refine v_imul G dX8_film_62 ?_
              refine v_iload G 0 dX8_film_63 rfl ?_
              refine v_iadd G dX8_film_65 ?_
              refine v_aload_n G 4 dX8_film_66 rfl ?_
              refine v_iload_n G 2 dX8_film_67 rfl ?_
              refine v_stk (st' := [.int (nI p), .ref (ad 43), .int ((40 * x) + (nI t)), .ref (ad 42)]) (by first | rfl | (have e0 : y = nI p := ep ; simp only [e0])) ?_
              refine w_callVi G hK hT (kX8_atOf hK l dC dI ct ad σ52 p (by omega)) (ck_X8_351 G.2.2.2.2.1 ⟨Nat.le_of_ble_eq_true rfl, Nat.le_of_ble_eq_true rfl⟩) m_recv (fun _ h => h) rfl [.int ((40 * x) + (nI t)), .ref (ad 42)] rfl (Nat.le_of_ble_eq_true rfl) dX8_film_68 ⟨Nat.le_of_ble_eq_true rfl, Nat.le_of_ble_eq_true rfl⟩ (k1 := 0) (n1 := 0) rfl rfl ?_
              rintro r68 σ68 ⟨rfl, rfl⟩
              refine v_topr (congrArg Value.int (show σ52.1 10 (5 * p + 1) = (s_pass (co μ) o0) 10 (5 * p + 1) from (by first | rfl | exact congrFun (congrFun h52_c 10) (5 * p + 1)))) ?_
              refine m_iast G 42 rfl ((40 * s) + t) (ix_add (ix_mul (ix_lit 40 rfl) es) rfl) (show (40 * s) + t < 160 by first | omega | assumption | decide) dX8_film_71 ?_
              refine v_iinc (v := nI (t + 1)) (L' := [(4, .int (nI (t + 1))), (3, .int n), (2, .int y), (1, .int x), (0, .ref (ad 43))]) G 0 dX8_film_72 rfl (ix_add rfl (ix_lit 1 rfl)) (by decide) rfl ?_
              refine v_goto (tgt := 45) G dX8_film_75 (by decide) ?_
              refine V_.sub (L' := [(4, .int (nI (t + 1))), (3, .int n), (2, .int y), (1, .int x), (0, .ref (ad 43))]) ?_ [0, 1, 2, 3, 4] rfl
              exact ih45  (t + 1) (mset σ52 42 ((40 * s) + t) ((s_pass (co μ) o0) 10 (5 * p + 1))) (by omega) (fun k hk => by rw [co_set (by decide), upd2_ne _ _ _ (by omega), h52_c]; exact pass_eqs hl k hk) (fun k hk => by rw [co_set (by decide), h52_c, s_film1]; by_cases e : k = 42; (subst e; rw [upd2_eq, upd2_eq, s_pass_k (by decide) (by decide) (by decide), hhi 42 (by decide), pass_eqs hl 10 (by decide)]; rfl); rw [upd2_ne _ _ _ e, upd2_ne _ _ _ e, s_pass_k (by omega) (by omega) (by omega)]; exact hhi k hk) (by rw [mset_ne_k (by decide), h52_a 27 (by decide)]; exact hw27) (by omega)
        refine V_.sub (L' := [(4, .int 0), (3, .int n), (2, .int y), (1, .int x), (0, .ref (ad 43))]) ?_ [0, 4, 3, 2, 1] rfl
        refine v_loc (L' := [(4, .int (nI 0)), (3, .int n), (2, .int y), (1, .int x), (0, .ref (ad 43))]) (rfl) ?_
        exact loop45 _ 0 σ39 (Nat.zero_le _) (fun k hk => by rw [show co σ39 = s_film1 (co σ) s p nn 0 from ((ag_co h39_a (by decide)).trans hs34), film1_k hk]; rfl) (fun k _ => by rw [show co σ39 = s_film1 (co σ) s p nn 0 from ((ag_co h39_a (by decide)).trans hs34)]) (by rw [hs34] at h39_w; exact aside_of h39_w (film1_k (by decide) 0).symm (film1_k (by decide) 0).symm (film1_k (by decide) 0).symm) (Nat.lt_succ_self _)
      · have g21 : ¬ rg n 0 30 := fun zz => h21_h ((in_rg (c := n) (lo := 0) (hi := 30) (a := 0) (z := 30) (by decide) (by decide)).mpr zz)
        refine v_if_ne (tgt := 30) G dX8_film_24 (by decide) (fun h24 => absurd h24 (by decide)) (fun h24 => ?_)
        refine v_bipush (v := (-2)) G dX8_film_27 rfl ?_
        refine RET _ _ _ _ _ _ rfl (Nat.le_of_ble_eq_true rfl) (Nat.le_of_ble_eq_true rfl) dX8_film_29 (fun ws hws => ⟨_, hws, ?_⟩)
        clear RET G hT hnm
        rw [s_film, if_neg (fun q => by first | exact h1_h q.1 | exact h9_h q.2.1 | exact g21 q.2.2)]
        exact ⟨rfl, rfl⟩
    · refine v_if_eq (tgt := 27) G dX8_film_12 (by decide) (fun h12 => ?_) (fun h12 => absurd h12 (by decide))
      refine v_bipush (v := (-2)) G dX8_film_27 rfl ?_
      refine RET _ _ _ _ _ _ rfl (Nat.le_of_ble_eq_true rfl) (Nat.le_of_ble_eq_true rfl) dX8_film_29 (fun ws hws => ⟨_, hws, ?_⟩)
      clear RET G hT hnm
      rw [s_film, if_neg (fun q => by first | exact h1_h q.1 | exact h9_h q.2.1 | exact g21 q.2.2)]
      exact ⟨rfl, rfl⟩
  · refine v_if_eq (tgt := 27) G dX8_film_4 (by decide) (fun h4 => ?_) (fun h4 => absurd h4 (by decide))
    refine v_bipush (v := (-2)) G dX8_film_27 rfl ?_
    refine RET _ _ _ _ _ _ rfl (Nat.le_of_ble_eq_true rfl) (Nat.le_of_ble_eq_true rfl) dX8_film_29 (fun ws hws => ⟨_, hws, ?_⟩)
    clear RET G hT hnm
    rw [s_film, if_neg (fun q => by first | exact h1_h q.1 | exact h9_h q.2.1 | exact g21 q.2.2)]
    exact ⟨rfl, rfl⟩
