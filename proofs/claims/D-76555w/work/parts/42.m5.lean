set_option maxRecDepth 100000
abbrev gfr : List Nat := [9, 10, 12, 13, 14, 15, 16, 17, 18, 19, 20, 21, 22, 23, 24, 25, 26]
abbrev pfs : List Nat := [7, 9, 10, 12, 13, 14, 15, 16, 17, 18, 19, 20, 21, 22, 23, 24, 25, 26]
theorem rn_xor {K : GS} {p o : Nat} (h : nowOk K) (hp : p < 5) (ho : o ≤ 1) : s_road K p ^^^ nI o = nI (s_rn K p o) := by
  have h1 := s_road01 h hp
  have h2 : o = 0 ∨ o = 1 := by omega
  unfold s_rn
  rcases h1 with h1 | h1 <;> rcases h2 with rfl | rfl <;> rw [h1] <;> decide
abbrev rmX8_goes : Room := { frames := 44, cells := 0, slots := 0, locals := 979 }
set_option maxHeartbeats 4000000 in
theorem kX8_goes {KT : (Nat → Prop) → State → Heap → Prop} (hK : KTok KT) (l : Launch) (dC : Nat → ClassId) (dI : Nat → Nat → Nat) (ct ad : Nat → Nat) (σ : MS) (p : Nat) (o : Nat) (hO : Ok (co σ)) (hp : p < 5) (ho : o ≤ 1) : MC KT (dC, dI) vwCl (tysF ct) l yX8_goes cX8_goes 7 none rmX8_goes [.ref (ad 43), .int (nI p), .int (nI o)] (RM ct ad σ) (QV_ (dC, dI) vwCl (RM ct ad) (fun (σ' : MS) => co σ' = s_goes (co σ) p o ∧ ag gfr σ σ')) := by
  refine MC.ofV (own := RX8) pl_X8 rfl (Nat.le_of_ble_eq_true rfl) ?_
  intro pp ee ss mm aa bb hh cc AA QQ G hT hnm RET
  refine v_loc (L' := [(0, .ref (ad 43)), (1, .int (nI p)), (2, .int (nI o))]) rfl ?_
  obtain ⟨⟨vn, hvn, evn⟩, ⟨c, hc, ec⟩, hmood, ⟨ve, hve, eve⟩, vk, hvk, evk⟩ := hO.1.2.1 p hp
  have evn : σ.1 10 (5 * p) = nI vn := evn
  have ec : σ.1 10 (5 * p + 1) = nI c := ec
  have eve : σ.1 10 (5 * p + 3) = nI ve := eve
  have evk : σ.1 10 (5 * p + 4) = nI vk := evk
  have esc : s_c (co σ) p = c := by rw [s_c, cq10, ec]; exact nI_clamp (by omega)
  refine v_aload_n G 0 dX8_goes_0 rfl ?_
  refine v_iload_n G 1 dX8_goes_1 rfl ?_
  refine w_callVi G hK hT (kX8_takesOf hK l dC dI ct ad σ p hO (by first | assumption | omega)) (ck_X8_136 G.2.2.2.2.1 ⟨Nat.le_of_ble_eq_true rfl, Nat.le_of_ble_eq_true rfl⟩) m_recv (fun _ h => h) rfl [] rfl (Nat.le_of_ble_eq_true rfl) dX8_goes_2 ⟨Nat.le_of_ble_eq_true rfl, Nat.le_of_ble_eq_true rfl⟩ (k1 := 0) (n1 := 0) rfl rfl ?_
  rintro r2 σ2 ⟨rfl, h2_a⟩
  refine v_iload_n G 2 dX8_goes_5 rfl ?_
  refine v_ixor G dX8_goes_6 ?_
  refine v_topr (congrArg Value.int (rn_xor hO.1 hp ho)) ?_
  have hrn : s_rn (co σ) p o ≤ 1 := s_rn1
  refine v_istore_n (L' := [(3, .int (nI (s_rn (co σ) p o))), (0, .ref (ad 43)), (1, .int (nI p)), (2, .int (nI o))]) G dX8_goes_7 (by decide) rfl ?_
  refine v_aload_n G 1 dX8_goes_8 rfl ?_
  refine v_iload_n G 2 dX8_goes_9 rfl ?_
  refine w_callVi G hK hT (kX8_putsOf hK l dC dI ct ad σ2 p (by rw [(ag_co h2_a (by decide))]; exact hO) (by first | assumption | omega)) (ck_X8_139 G.2.2.2.2.1 ⟨Nat.le_of_ble_eq_true rfl, Nat.le_of_ble_eq_true rfl⟩) m_recv (fun _ h => h) rfl [] rfl (Nat.le_of_ble_eq_true rfl) dX8_goes_10 ⟨Nat.le_of_ble_eq_true rfl, Nat.le_of_ble_eq_true rfl⟩ (k1 := 0) (n1 := 0) rfl rfl ?_
  rintro r10 σ10 ⟨rfl, h10_a⟩
  refine v_topr (congrArg Value.int (show s_puts (co σ2) p = s_puts (co σ) p by rw [(ag_co h2_a (by decide))])) ?_
  refine v_istore (L' := [(4, .int (s_puts (co σ) p)), (3, .int (nI (s_rn (co σ) p o))), (0, .ref (ad 43)), (1, .int (nI p)), (2, .int (nI o))]) G dX8_goes_13 (by decide) rfl ?_
  refine v_aload_n G 2 dX8_goes_15 rfl ?_
  refine v_iload_n G 3 dX8_goes_16 rfl ?_
  refine w_callVi G hK hT (kX8_atOf hK l dC dI ct ad σ10 p (by first | assumption | omega)) (ck_X8_351 G.2.2.2.2.1 ⟨Nat.le_of_ble_eq_true rfl, Nat.le_of_ble_eq_true rfl⟩) m_recv (fun _ h => h) rfl [] rfl (Nat.le_of_ble_eq_true rfl) dX8_goes_17 ⟨Nat.le_of_ble_eq_true rfl, Nat.le_of_ble_eq_true rfl⟩ (k1 := 0) (n1 := 0) rfl rfl ?_
  rintro r17 σ17 ⟨rfl, rfl⟩
  refine v_topr (congrArg Value.int (show σ10.1 10 (5 * p + 1) = σ.1 10 (5 * p + 1) from ((show σ10.1 10 (5 * p + 1) = σ2.1 10 (5 * p + 1) from ag_at h10_a (by decide)).trans (show σ2.1 10 (5 * p + 1) = σ.1 10 (5 * p + 1) from ag_at h2_a (by decide))))) ?_
  refine v_istore (L' := [(5, .int (σ.1 10 (5 * p + 1))), (4, .int (s_puts (co σ) p)), (3, .int (nI (s_rn (co σ) p o))), (0, .ref (ad 43)), (1, .int (nI p)), (2, .int (nI o))]) G dX8_goes_20 (by decide) rfl ?_
  refine v_iconst (v := 2) G dX8_goes_22 rfl ?_
  refine v_iload G 0 dX8_goes_23 rfl ?_
  refine v_imul G dX8_goes_25 ?_
  refine v_iconst (v := 1) G dX8_goes_26 rfl ?_
  refine v_iadd G dX8_goes_27 ?_
  refine v_iload_n G 2 dX8_goes_28 rfl ?_
  refine v_isub G dX8_goes_29 ?_
  refine v_istore (L' := [(6, .int (((2 * (σ.1 10 (5 * p + 1))) + 1) - (nI (s_rn (co σ) p o)))), (5, .int (σ.1 10 (5 * p + 1))), (4, .int (s_puts (co σ) p)), (3, .int (nI (s_rn (co σ) p o))), (0, .ref (ad 43)), (1, .int (nI p)), (2, .int (nI o))]) G dX8_goes_30 (by decide) rfl ?_
  refine v_aload_n G 4 dX8_goes_32 rfl ?_
  refine m_get (v := .ref (ad 9)) G 9 (by decide) rfl q1303 rfl dX8_goes_33 ?_
  refine v_iload G 0 dX8_goes_36 rfl ?_
  refine v_aload_n G 4 dX8_goes_38 rfl ?_
  refine m_get (v := .ref (ad 9)) G 9 (by decide) rfl q1303 rfl dX8_goes_39 ?_
  refine v_iload G 0 dX8_goes_42 rfl ?_
  refine m_iald G 9 rfl (((2 * c) + 1) - (s_rn (co σ) p o)) (ix_sub (ix_add (ix_mul (ix_lit 2 rfl) ec) (ix_lit 1 rfl)) rfl (by omega)) (show ((2 * c) + 1) - (s_rn (co σ) p o) < 24 by first | omega | assumption | decide) dX8_goes_44 ?_
  refine v_topr (congrArg Value.int (show σ10.1 9 (((2 * c) + 1) - (s_rn (co σ) p o)) = σ.1 9 (((2 * c) + 1) - (s_rn (co σ) p o)) from ((show σ10.1 9 (((2 * c) + 1) - (s_rn (co σ) p o)) = σ2.1 9 (((2 * c) + 1) - (s_rn (co σ) p o)) from ag_at h10_a (by decide)).trans (show σ2.1 9 (((2 * c) + 1) - (s_rn (co σ) p o)) = σ.1 9 (((2 * c) + 1) - (s_rn (co σ) p o)) from ag_at h2_a (by decide))))) ?_
  refine v_iload G 2 dX8_goes_45 rfl ?_
  refine v_iadd G dX8_goes_47 ?_
  refine v_iconst (v := 0) G dX8_goes_48 rfl ?_
  refine v_sipush (v := 999) G dX8_goes_49 rfl ?_
  refine w_callSi G hK hT (kX8_within hK l dC dI ct ad σ10 ((σ.1 9 (((2 * c) + 1) - (s_rn (co σ) p o))) + (s_puts (co σ) p)) 0 999) (ck_X8_354 G.2.2.2.2.1 ⟨Nat.le_of_ble_eq_true rfl, Nat.le_of_ble_eq_true rfl⟩) (fun _ h => h) rfl [.int (((2 * (σ.1 10 (5 * p + 1))) + 1) - (nI (s_rn (co σ) p o))), .ref (ad 9)] rfl (Nat.le_of_ble_eq_true rfl) dX8_goes_52 ⟨Nat.le_of_ble_eq_true rfl, Nat.le_of_ble_eq_true rfl⟩ (k1 := 0) (n1 := 0) rfl rfl ?_
  rintro r52 σ52 ⟨rfl, rfl⟩
  refine m_iast G 9 rfl (((2 * c) + 1) - (s_rn (co σ) p o)) (ix_sub (ix_add (ix_mul (ix_lit 2 rfl) ec) (ix_lit 1 rfl)) rfl (by omega)) (show ((2 * c) + 1) - (s_rn (co σ) p o) < 24 by first | omega | assumption | decide) dX8_goes_55 ?_
  refine v_aload_n G 4 dX8_goes_56 rfl ?_
  refine m_get (v := .ref (ad 10)) G 10 (by decide) rfl q1304 rfl dX8_goes_57 ?_
  refine v_iconst (v := 5) G dX8_goes_60 rfl ?_
  refine v_iload_n G 5 dX8_goes_61 rfl ?_
  refine v_imul G dX8_goes_62 ?_
  refine v_iconst (v := 1) G dX8_goes_63 rfl ?_
  refine v_iadd G dX8_goes_64 ?_
  refine v_aload_n G 4 dX8_goes_65 rfl ?_
  refine m_get (v := .ref (ad 8)) G 8 (by decide) rfl q1302 rfl dX8_goes_66 ?_
  refine v_iconst (v := 2) G dX8_goes_69 rfl ?_
  refine v_iload G 1 dX8_goes_70 rfl ?_
  refine v_imul G dX8_goes_72 ?_
  refine v_iload_n G 3 dX8_goes_73 rfl ?_
  refine v_iadd G dX8_goes_74 ?_
  refine m_iald G 8 rfl ((2 * c) + (s_rn (co σ) p o)) (ix_add (ix_mul (ix_lit 2 rfl) ec) rfl) (show (2 * c) + (s_rn (co σ) p o) < 24 by first | omega | assumption | decide) dX8_goes_75 ?_
  refine v_topr (congrArg Value.int (show (mset σ10 9 (((2 * c) + 1) - (s_rn (co σ) p o)) (if ((σ.1 9 (((2 * c) + 1) - (s_rn (co σ) p o))) + (s_puts (co σ) p)) < 0 then 0 else if 999 < ((σ.1 9 (((2 * c) + 1) - (s_rn (co σ) p o))) + (s_puts (co σ) p)) then 999 else ((σ.1 9 (((2 * c) + 1) - (s_rn (co σ) p o))) + (s_puts (co σ) p)))).1 8 ((2 * c) + (s_rn (co σ) p o)) = σ.1 8 ((2 * c) + (s_rn (co σ) p o)) from ((show σ10.1 8 ((2 * c) + (s_rn (co σ) p o)) = σ2.1 8 ((2 * c) + (s_rn (co σ) p o)) from ag_at h10_a (by decide)).trans (show σ2.1 8 ((2 * c) + (s_rn (co σ) p o)) = σ.1 8 ((2 * c) + (s_rn (co σ) p o)) from ag_at h2_a (by decide))))) ?_
  refine m_iast G 10 rfl ((5 * p) + 1) (ix_add (ix_mul (ix_lit 5 rfl) rfl) (ix_lit 1 rfl)) (show (5 * p) + 1 < 25 by first | omega | assumption | decide) dX8_goes_76 ?_
  refine RET _ _ _ _ _ (Nat.le_of_ble_eq_true rfl) (Nat.le_of_ble_eq_true rfl) dX8_goes_77 (fun ws hw => ⟨_, hw, ?_⟩)
  clear RET G hT hnm
  have hco := ((ag_co h10_a (by decide)).trans (ag_co h2_a (by decide)))
  have hag : ag sfr σ σ10 := (ag_tr (ag_mono h2_a (by decide)) (ag_mono h10_a (by decide)))
  obtain ⟨d, hd, ed⟩ := hO.1.2.2.1 (2 * c + s_rn (co σ) p o) (by omega)
  refine ⟨?_, ag_tr (ag_mono hag (by decide)) (ag_tr (ag_set (by decide)) (ag_set (by decide)))⟩
  rw [co_set (by decide), co_set (by decide), hco]
  unfold s_goes s_clamp
  rw [esc]
  rfl
abbrev rmX8_passes : Room := { frames := 45, cells := 0, slots := 0, locals := 1005 }
set_option maxHeartbeats 4000000 in
theorem kX8_passes {KT : (Nat → Prop) → State → Heap → Prop} (hK : KTok KT) (l : Launch) (dC : Nat → ClassId) (dI : Nat → Nat → Nat) (ct ad : Nat → Nat) (σ : MS)  (hO : Ok (co σ)) : MC KT (dC, dI) vwCl (tysF ct) l yX8_passes cX8_passes 2 none rmX8_passes [.ref (ad 43)] (RM ct ad σ) (QV_ (dC, dI) vwCl (RM ct ad) (fun (σ' : MS) => co σ' = s_pass (co σ) o0 ∧ ag pfs σ σ')) := by
  refine MC.ofV (own := RX8) pl_X8 rfl (Nat.le_of_ble_eq_true rfl) ?_
  intro pp ee ss mm aa bb hh cc AA QQ G hT hnm RET
  refine v_loc (L' := [(0, .ref (ad 43))]) rfl ?_
  obtain ⟨hm5, hm⟩ := many5 hO.1
  have hm : σ.1 11 0 = nI (s_many (co σ)) := hm
  refine v_iconst (v := 0) G dX8_passes_0 rfl ?_
  refine v_istore_n (L' := [(1, .int 0), (0, .ref (ad 43))]) G dX8_passes_1 (by decide) rfl ?_
  have loop2 : ∀ (dd : Nat) (q : Nat) (τ : MS), (q ≤ s_many (co σ)) → (co τ = s_passN (co σ) o0 q) → (ag gfr σ τ) → s_many (co σ) - q < dd → V_ pp l ee rmX8_passes ss mm aa bb hh cc 2 (dC, dI) vwCl AA QQ 0 0 (RM ct ad τ) 2 [(1, .int (nI q)), (0, .ref (ad 43))] [] := by
    intro dd
    induction dd with
    | zero => intro q τ hq hc ha hdd; exact absurd hdd (Nat.not_lt_zero _)
    | succ dd ih2 =>
      intro q τ hq hc ha hdd
      refine v_iload_n G 0 dX8_passes_2 rfl ?_
      refine v_aload_n G 1 dX8_passes_3 rfl ?_
      refine m_get (v := .int (τ.1 11 0)) G 11 (by decide) rfl q1305 rfl dX8_passes_4 ?_
      refine v_topr (congrArg Value.int (show τ.1 11 0 = σ.1 11 0 from (show τ.1 11 0 = σ.1 11 0 from ag_at ha (by decide)))) ?_
      refine v_icmp_ge (tgt := 22) G dX8_passes_7 (by decide) (fun h7 => ?_) (fun h7 => ?_)
      · have n7 := (cmp_le (x := σ.1 11 0) (y := nI q) (a := s_many (co σ)) (b := q) hm rfl (by omega) (by omega)).mp h7
        refine v_aload_n G 1 dX8_passes_22 rfl ?_
        refine v_dup G dX8_passes_23 rfl ?_
        refine m_get (v := .int (τ.1 7 0)) G 7 (by decide) rfl q1301 rfl dX8_passes_24 ?_
        refine v_topr (congrArg Value.int (show τ.1 7 0 = σ.1 7 0 from (show τ.1 7 0 = σ.1 7 0 from ag_at ha (by decide)))) ?_
        refine v_iconst (v := 1) G dX8_passes_27 rfl ?_
        refine v_iadd G dX8_passes_28 ?_
        refine m_putI G 7 (by decide) q1301 rfl rfl rfl dX8_passes_29 ?_
        refine RET _ _ _ _ _ (Nat.le_of_ble_eq_true rfl) (Nat.le_of_ble_eq_true rfl) dX8_passes_32 (fun ws hw => ⟨_, hw, ?_⟩)
        clear RET G hT hnm
        have hco := hc
        rw [show q = s_many (co σ) by omega] at hco
        have e7 : τ.1 7 0 = co σ 7 0 := ag_at ha (by decide)
        refine ⟨?_, ag_tr (ag_mono ha (by decide)) (ag_set (by decide))⟩
        rw [co_set (by decide), hco]
        rfl
      · have n7 := (not_congr (cmp_le (x := σ.1 11 0) (y := nI q) (a := s_many (co σ)) (b := q) hm rfl (by omega) (by omega))).mp h7
        refine v_aload_n G 1 dX8_passes_10 rfl ?_
        refine v_iload_n G 0 dX8_passes_11 rfl ?_
        refine v_iconst (v := 0) G dX8_passes_12 rfl ?_
        refine v_stk (st' := [.int (nI 0), .int (nI q), .ref (ad 43)]) (by first | rfl | (have e0 : 0 = nI 0 := (ix_lit 0 rfl) ; simp only [e0])) ?_
        refine w_callVv G hK hT (kX8_goes hK l dC dI ct ad τ q 0 (by rw [hc]; exact (ok_passN hO (by omega))) (by first | assumption | omega) (by first | assumption | omega)) (ck_X8_364 G.2.2.2.2.1 ⟨Nat.le_of_ble_eq_true rfl, Nat.le_of_ble_eq_true rfl⟩) m_recv (fun _ h => h) rfl [] rfl (Nat.le_of_ble_eq_true rfl) dX8_passes_13 ⟨Nat.le_of_ble_eq_true rfl, Nat.le_of_ble_eq_true rfl⟩ (k1 := 0) (n1 := 0) rfl rfl ?_
        rintro σ13 ⟨h13_c, h13_a⟩
        refine v_iinc (v := nI (q + 1)) (L' := [(1, .int (nI (q + 1))), (0, .ref (ad 43))]) G 0 dX8_passes_16 rfl (ix_add rfl (ix_lit 1 rfl)) (by decide) rfl ?_
        refine v_goto (tgt := 2) G dX8_passes_19 (by decide) ?_
        refine V_.sub (L' := [(1, .int (nI (q + 1))), (0, .ref (ad 43))]) ?_ [0, 1] rfl
        exact ih2  (q + 1) σ13 (by first | assumption | omega) (show co σ13 = (s_goes (s_passN (co σ) o0 q) q 0) from (h13_c.trans (by rw [hc]))) (ag_tr ha (ag_mono h13_a (by decide))) (by omega)
  refine V_.sub (L' := [(1, .int 0), (0, .ref (ad 43))]) ?_ [0, 1] rfl
  refine v_loc (L' := [(1, .int (nI 0)), (0, .ref (ad 43))]) (by first | rfl | simp) ?_
  exact loop2 _ 0 σ (Nat.zero_le _) rfl ag_rf (Nat.lt_succ_self _)
def s_year (K : GS) : Int32 × GS := if K 7 0 = 999 then (-3, K) else (s_all (s_pass K o0) 24, s_pass K o0)
def s_spoonK (K : GS) (p j : Nat) : GS :=
  upd2 (upd2 (upd2 K 10 (5 * p + 2) (s_clamp (K 10 (5 * p + 2) + s_feels K p j) (-99) 99)) 10 (5 * p + 3) (s_clamp (K 10 (5 * p + 3) + 1) 0 999)) 9 j (K 9 j - 1)
def s_spoon (K : GS) (x y : Int32) : Int32 × GS :=
  if rg x 0 ((s_many K : Int) - 1) ∧ rg y 0 23 then (if K 9 (n_ y) = 0 then (-1003, K) else (s_clamp (K 10 (5 * n_ x + 2) + s_feels K (n_ x) (n_ y)) (-99) 99, s_spoonK K (n_ x) (n_ y))) else (-1000, K)
abbrev rmX8_year : Room := { frames := 46, cells := 0, slots := 0, locals := 1026 }
set_option maxHeartbeats 4000000 in
theorem kX8_year {KT : (Nat → Prop) → State → Heap → Prop} (hK : KTok KT) (l : Launch) (dC : Nat → ClassId) (dI : Nat → Nat → Nat) (ct ad : Nat → Nat) (σ : MS)  (hO : Ok (co σ)) : MC KT (dC, dI) vwCl (tysF ct) l yX8_year cX8_year 1 (some .int) rmX8_year [.ref (ad 43)] (RM ct ad σ) (QI_ (dC, dI) vwCl (RM ct ad) (fun (r : Int32) (σ' : MS) => ((s_year (co σ)).1) = r ∧ co σ' = (s_year (co σ)).2)) := by
  refine MC.ofI (own := RX8) pl_X8 rfl (Nat.le_of_ble_eq_true rfl) ?_
  intro pp ee ss mm aa bb hh cc AA QQ G hT hnm RET
  refine v_loc (L' := [(0, .ref (ad 43))]) rfl ?_
  refine v_aload_n G 0 dX8_year_0 rfl ?_
  refine m_get (v := .int (σ.1 7 0)) G 7 (by decide) rfl q1301 rfl dX8_year_1 ?_
  refine v_sipush (v := 999) G dX8_year_4 rfl ?_
  refine v_icmp_ne (tgt := 13) G dX8_year_7 (by decide) (fun h7 => ?_) (fun h7 => ?_)
  · refine v_aload_n G 0 dX8_year_13 rfl ?_
    refine w_callVv G hK hT (kX8_passes hK l dC dI ct ad σ hO) (ck_X8_368 G.2.2.2.2.1 ⟨Nat.le_of_ble_eq_true rfl, Nat.le_of_ble_eq_true rfl⟩) m_recv (fun _ h => h) rfl [] rfl (Nat.le_of_ble_eq_true rfl) dX8_year_14 ⟨Nat.le_of_ble_eq_true rfl, Nat.le_of_ble_eq_true rfl⟩ (k1 := 0) (n1 := 0) rfl rfl ?_
    rintro σ14 ⟨h14_c, h14_a⟩
    refine v_aload_n G 0 dX8_year_17 rfl ?_
    refine w_callVi G hK hT (kX8_jarsAll hK l dC dI ct ad σ14) (ck_X8_371 G.2.2.2.2.1 ⟨Nat.le_of_ble_eq_true rfl, Nat.le_of_ble_eq_true rfl⟩) m_recv (fun _ h => h) rfl [] rfl (Nat.le_of_ble_eq_true rfl) dX8_year_18 ⟨Nat.le_of_ble_eq_true rfl, Nat.le_of_ble_eq_true rfl⟩ (k1 := 0) (n1 := 0) rfl rfl ?_
    rintro r18 σ18 ⟨rfl, rfl⟩
    refine v_topr (congrArg Value.int (show s_all (co σ14) 24 = s_all (s_pass (co σ) o0) 24 by rw [h14_c])) ?_
    refine RET _ _ _ _ _ _ rfl (Nat.le_of_ble_eq_true rfl) (Nat.le_of_ble_eq_true rfl) dX8_year_21 (fun ws hw => ⟨_, hw, ?_⟩)
    clear RET G hT hnm
    rw [show s_year (co σ) = (s_all (s_pass (co σ) o0) 24, s_pass (co σ) o0) by rw [s_year, cq7, if_neg h7]]
    exact ⟨rfl, h14_c⟩
  · refine v_bipush (v := (-3)) G dX8_year_10 rfl ?_
    refine RET _ _ _ _ _ _ rfl (Nat.le_of_ble_eq_true rfl) (Nat.le_of_ble_eq_true rfl) dX8_year_12 (fun ws hw => ⟨_, hw, ?_⟩)
    clear RET G hT hnm
    rw [show s_year (co σ) = (-3, co σ) by rw [s_year, cq7, if_pos h7]]
    exact ⟨rfl, rfl⟩
abbrev rmX8_spoon : Room := { frames := 44, cells := 0, slots := 0, locals := 980 }
set_option maxHeartbeats 4000000 in
theorem kX8_spoon {KT : (Nat → Prop) → State → Heap → Prop} (hK : KTok KT) (l : Launch) (dC : Nat → ClassId) (dI : Nat → Nat → Nat) (ct ad : Nat → Nat) (σ : MS) (x : Int32) (y : Int32) (hO : Ok (co σ)) : MC KT (dC, dI) vwCl (tysF ct) l yX8_spoon cX8_spoon 3 (some .int) rmX8_spoon [.ref (ad 43), .int x, .int y] (RM ct ad σ) (QI_ (dC, dI) vwCl (RM ct ad) (fun (r : Int32) (σ' : MS) => ((s_spoon (co σ) x y).1) = r ∧ co σ' = (s_spoon (co σ) x y).2)) := by
  refine MC.ofI (own := RX8) pl_X8 rfl (Nat.le_of_ble_eq_true rfl) ?_
  intro pp ee ss mm aa bb hh cc AA QQ G hT hnm RET
  refine v_loc (L' := [(0, .ref (ad 43)), (1, .int x), (2, .int y)]) rfl ?_
  obtain ⟨hm5, hm⟩ := many5 hO.1
  have hm : σ.1 11 0 = nI (s_many (co σ)) := hm
  refine v_aload_n G 0 dX8_spoon_0 rfl ?_
  refine v_iload_n G 1 dX8_spoon_1 rfl ?_
  refine w_callVi G hK hT (kX8_isOne hK l dC dI ct ad σ (s_many (co σ)) x hm5 hm) (ck_X8_101 G.2.2.2.2.1 ⟨Nat.le_of_ble_eq_true rfl, Nat.le_of_ble_eq_true rfl⟩) m_recv (fun _ h => h) rfl [] rfl (Nat.le_of_ble_eq_true rfl) dX8_spoon_2 ⟨Nat.le_of_ble_eq_true rfl, Nat.le_of_ble_eq_true rfl⟩ (k1 := 0) (n1 := 0) rfl rfl ?_
  rintro r2 σ2 (⟨rfl, rfl, h2_h⟩ | ⟨rfl, rfl, h2_h⟩)
  · refine v_if_eq (tgt := 15) G dX8_spoon_5 (by decide) (fun h5 => absurd h5 (by decide)) (fun h5 => ?_)
    refine v_iload_n G 2 dX8_spoon_8 rfl ?_
    refine w_callSi G hK hT (kX8_isJar hK l dC dI ct ad σ y) (ck_X8_94 G.2.2.2.2.1 ⟨Nat.le_of_ble_eq_true rfl, Nat.le_of_ble_eq_true rfl⟩) (fun _ h => h) rfl [] rfl (Nat.le_of_ble_eq_true rfl) dX8_spoon_9 ⟨Nat.le_of_ble_eq_true rfl, Nat.le_of_ble_eq_true rfl⟩ (k1 := 0) (n1 := 0) rfl rfl ?_
    rintro r9 σ9 (⟨rfl, rfl, h9_h⟩ | ⟨rfl, rfl, h9_h⟩)
    · refine v_if_ne (tgt := 19) G dX8_spoon_12 (by decide) (fun h12 => ?_) (fun h12 => absurd h12 (by decide))
      obtain ⟨p, hpm, ep⟩ := rg_lt h2_h (by omega)
      obtain ⟨j, hjj, ej⟩ := rg_nat (n := 23) h9_h (by decide)
      refine v_aload_n G 0 dX8_spoon_19 rfl ?_
      refine m_get (v := .ref (ad 9)) G 9 (by decide) rfl q1303 rfl dX8_spoon_20 ?_
      refine v_iload_n G 2 dX8_spoon_23 rfl ?_
      refine m_iald G 9 rfl (j) ej (show j < 24 by first | omega | assumption | decide) dX8_spoon_24 ?_
      refine v_if_ne (tgt := 32) G dX8_spoon_25 (by decide) (fun h25 => ?_) (fun h25 => ?_)
      · refine v_aload_n G 0 dX8_spoon_32 rfl ?_
        refine m_get (v := .ref (ad 10)) G 10 (by decide) rfl q1304 rfl dX8_spoon_33 ?_
        refine v_iconst (v := 5) G dX8_spoon_36 rfl ?_
        refine v_iload_n G 1 dX8_spoon_37 rfl ?_
        refine v_imul G dX8_spoon_38 ?_
        refine v_iconst (v := 2) G dX8_spoon_39 rfl ?_
        refine v_iadd G dX8_spoon_40 ?_
        refine v_aload_n G 0 dX8_spoon_41 rfl ?_
        refine m_get (v := .ref (ad 10)) G 10 (by decide) rfl q1304 rfl dX8_spoon_42 ?_
        refine v_iconst (v := 5) G dX8_spoon_45 rfl ?_
        refine v_iload_n G 1 dX8_spoon_46 rfl ?_
        refine v_imul G dX8_spoon_47 ?_
        refine v_iconst (v := 2) G dX8_spoon_48 rfl ?_
        refine v_iadd G dX8_spoon_49 ?_
        refine m_iald G 10 rfl ((5 * p) + 2) (ix_add (ix_mul (ix_lit 5 rfl) ep) (ix_lit 2 rfl)) (show (5 * p) + 2 < 25 by first | omega | assumption | decide) dX8_spoon_50 ?_
        refine v_aload_n G 0 dX8_spoon_51 rfl ?_
        refine v_iload_n G 1 dX8_spoon_52 rfl ?_
        refine v_iload_n G 2 dX8_spoon_53 rfl ?_
        refine v_stk (st' := [.int (nI j), .int (nI p), .ref (ad 43), .int (σ.1 10 ((5 * p) + 2)), .int ((5 * x) + 2), .ref (ad 10)]) (by first | rfl | (have e0 : x = nI p := ep ; have e1 : y = nI j := ej ; simp only [e0, e1])) ?_
        refine w_callVi G hK hT (kX8_feelsOf hK l dC dI ct ad σ p j hO (by first | assumption | omega) (by first | assumption | omega)) (ck_X8_361 G.2.2.2.2.1 ⟨Nat.le_of_ble_eq_true rfl, Nat.le_of_ble_eq_true rfl⟩) m_recv (fun _ h => h) rfl [.int (σ.1 10 ((5 * p) + 2)), .int ((5 * x) + 2), .ref (ad 10)] rfl (Nat.le_of_ble_eq_true rfl) dX8_spoon_54 ⟨Nat.le_of_ble_eq_true rfl, Nat.le_of_ble_eq_true rfl⟩ (k1 := 0) (n1 := 0) rfl rfl ?_
        rintro r54 σ54 ⟨rfl, h54_a⟩
        refine v_iadd G dX8_spoon_57 ?_
        refine v_bipush (v := (-99)) G dX8_spoon_58 rfl ?_
        refine v_bipush (v := 99) G dX8_spoon_60 rfl ?_
        refine w_callSi G hK hT (kX8_within hK l dC dI ct ad σ54 ((σ.1 10 ((5 * p) + 2)) + (s_feels (co σ) p j)) (-99) 99) (ck_X8_354 G.2.2.2.2.1 ⟨Nat.le_of_ble_eq_true rfl, Nat.le_of_ble_eq_true rfl⟩) (fun _ h => h) rfl [.int ((5 * x) + 2), .ref (ad 10)] rfl (Nat.le_of_ble_eq_true rfl) dX8_spoon_62 ⟨Nat.le_of_ble_eq_true rfl, Nat.le_of_ble_eq_true rfl⟩ (k1 := 0) (n1 := 0) rfl rfl ?_
        rintro r62 σ62 ⟨rfl, rfl⟩
        refine m_iast G 10 rfl ((5 * p) + 2) (ix_add (ix_mul (ix_lit 5 rfl) ep) (ix_lit 2 rfl)) (show (5 * p) + 2 < 25 by first | omega | assumption | decide) dX8_spoon_65 ?_
        refine v_aload_n G 0 dX8_spoon_66 rfl ?_
        refine m_get (v := .ref (ad 10)) G 10 (by decide) rfl q1304 rfl dX8_spoon_67 ?_
        refine v_iconst (v := 5) G dX8_spoon_70 rfl ?_
        refine v_iload_n G 1 dX8_spoon_71 rfl ?_
        refine v_imul G dX8_spoon_72 ?_
        refine v_iconst (v := 3) G dX8_spoon_73 rfl ?_
        refine v_iadd G dX8_spoon_74 ?_
        refine v_aload_n G 0 dX8_spoon_75 rfl ?_
        refine m_get (v := .ref (ad 10)) G 10 (by decide) rfl q1304 rfl dX8_spoon_76 ?_
        refine v_iconst (v := 5) G dX8_spoon_79 rfl ?_
        refine v_iload_n G 1 dX8_spoon_80 rfl ?_
        refine v_imul G dX8_spoon_81 ?_
        refine v_iconst (v := 3) G dX8_spoon_82 rfl ?_
        refine v_iadd G dX8_spoon_83 ?_
        refine m_iald G 10 rfl ((5 * p) + 3) (ix_add (ix_mul (ix_lit 5 rfl) ep) (ix_lit 3 rfl)) (show (5 * p) + 3 < 25 by first | omega | assumption | decide) dX8_spoon_84 ?_
        refine v_topr (congrArg Value.int (show (mset σ54 10 ((5 * p) + 2) (if ((σ.1 10 ((5 * p) + 2)) + (s_feels (co σ) p j)) < (-99) then (-99) else if 99 < ((σ.1 10 ((5 * p) + 2)) + (s_feels (co σ) p j)) then 99 else ((σ.1 10 ((5 * p) + 2)) + (s_feels (co σ) p j)))).1 10 ((5 * p) + 3) = σ.1 10 ((5 * p) + 3) from ((show (mset σ54 10 ((5 * p) + 2) (if ((σ.1 10 ((5 * p) + 2)) + (s_feels (co σ) p j)) < (-99) then (-99) else if 99 < ((σ.1 10 ((5 * p) + 2)) + (s_feels (co σ) p j)) then 99 else ((σ.1 10 ((5 * p) + 2)) + (s_feels (co σ) p j)))).1 10 ((5 * p) + 3) = σ54.1 10 ((5 * p) + 3) by simp [mset, msetL, upd2]).trans (show σ54.1 10 ((5 * p) + 3) = σ.1 10 ((5 * p) + 3) from ag_at h54_a (by decide))))) ?_
        refine v_iconst (v := 1) G dX8_spoon_85 rfl ?_
        refine v_iadd G dX8_spoon_86 ?_
        refine v_iconst (v := 0) G dX8_spoon_87 rfl ?_
        refine v_sipush (v := 999) G dX8_spoon_88 rfl ?_
        refine w_callSi G hK hT (kX8_within hK l dC dI ct ad (mset σ54 10 ((5 * p) + 2) (if ((σ.1 10 ((5 * p) + 2)) + (s_feels (co σ) p j)) < (-99) then (-99) else if 99 < ((σ.1 10 ((5 * p) + 2)) + (s_feels (co σ) p j)) then 99 else ((σ.1 10 ((5 * p) + 2)) + (s_feels (co σ) p j)))) ((σ.1 10 ((5 * p) + 3)) + 1) 0 999) (ck_X8_354 G.2.2.2.2.1 ⟨Nat.le_of_ble_eq_true rfl, Nat.le_of_ble_eq_true rfl⟩) (fun _ h => h) rfl [.int ((5 * x) + 3), .ref (ad 10)] rfl (Nat.le_of_ble_eq_true rfl) dX8_spoon_91 ⟨Nat.le_of_ble_eq_true rfl, Nat.le_of_ble_eq_true rfl⟩ (k1 := 0) (n1 := 0) rfl rfl ?_
        rintro r91 σ91 ⟨rfl, rfl⟩
        refine m_iast G 10 rfl ((5 * p) + 3) (ix_add (ix_mul (ix_lit 5 rfl) ep) (ix_lit 3 rfl)) (show (5 * p) + 3 < 25 by first | omega | assumption | decide) dX8_spoon_94 ?_
        refine v_aload_n G 0 dX8_spoon_95 rfl ?_
        refine m_get (v := .ref (ad 9)) G 9 (by decide) rfl q1303 rfl dX8_spoon_96 ?_
        refine v_iload_n G 2 dX8_spoon_99 rfl ?_
        refine v_dup2 G dX8_spoon_100 rfl rfl ?_
        refine m_iald G 9 rfl (j) ej (show j < 24 by first | omega | assumption | decide) dX8_spoon_101 ?_
        refine v_topr (congrArg Value.int (show (mset (mset σ54 10 ((5 * p) + 2) (if ((σ.1 10 ((5 * p) + 2)) + (s_feels (co σ) p j)) < (-99) then (-99) else if 99 < ((σ.1 10 ((5 * p) + 2)) + (s_feels (co σ) p j)) then 99 else ((σ.1 10 ((5 * p) + 2)) + (s_feels (co σ) p j)))) 10 ((5 * p) + 3) (if ((σ.1 10 ((5 * p) + 3)) + 1) < 0 then 0 else if 999 < ((σ.1 10 ((5 * p) + 3)) + 1) then 999 else ((σ.1 10 ((5 * p) + 3)) + 1))).1 9 j = σ.1 9 j from (show σ54.1 9 j = σ.1 9 j from ag_at h54_a (by decide)))) ?_
        refine v_iconst (v := 1) G dX8_spoon_102 rfl ?_
        refine v_isub G dX8_spoon_103 ?_
        refine m_iast G 9 rfl (j) ej (show j < 24 by first | omega | assumption | decide) dX8_spoon_104 ?_
        refine v_aload_n G 0 dX8_spoon_105 rfl ?_
        refine m_get (v := .ref (ad 10)) G 10 (by decide) rfl q1304 rfl dX8_spoon_106 ?_
        refine v_iconst (v := 5) G dX8_spoon_109 rfl ?_
        refine v_iload_n G 1 dX8_spoon_110 rfl ?_
        refine v_imul G dX8_spoon_111 ?_
        refine v_iconst (v := 2) G dX8_spoon_112 rfl ?_
        refine v_iadd G dX8_spoon_113 ?_
        refine m_iald G 10 rfl ((5 * p) + 2) (ix_add (ix_mul (ix_lit 5 rfl) ep) (ix_lit 2 rfl)) (show (5 * p) + 2 < 25 by first | omega | assumption | decide) dX8_spoon_114 ?_
        refine v_topr (congrArg Value.int (show (mset (mset (mset σ54 10 ((5 * p) + 2) (if ((σ.1 10 ((5 * p) + 2)) + (s_feels (co σ) p j)) < (-99) then (-99) else if 99 < ((σ.1 10 ((5 * p) + 2)) + (s_feels (co σ) p j)) then 99 else ((σ.1 10 ((5 * p) + 2)) + (s_feels (co σ) p j)))) 10 ((5 * p) + 3) (if ((σ.1 10 ((5 * p) + 3)) + 1) < 0 then 0 else if 999 < ((σ.1 10 ((5 * p) + 3)) + 1) then 999 else ((σ.1 10 ((5 * p) + 3)) + 1))) 9 j ((σ.1 9 j) - 1)).1 10 ((5 * p) + 2) = if ((σ.1 10 ((5 * p) + 2)) + (s_feels (co σ) p j)) < (-99) then (-99) else if 99 < ((σ.1 10 ((5 * p) + 2)) + (s_feels (co σ) p j)) then 99 else ((σ.1 10 ((5 * p) + 2)) + (s_feels (co σ) p j)) from (by first | rfl | simp [mset, msetL, upd2]))) ?_
        refine RET _ _ _ _ _ _ rfl (Nat.le_of_ble_eq_true rfl) (Nat.le_of_ble_eq_true rfl) dX8_spoon_115 (fun ws hw => ⟨_, hw, ?_⟩)
        clear RET G hT hnm
        have ejn : n_ y = j := by rw [ej]; exact nI_clamp (by omega)
        have epn : n_ x = p := by rw [ep]; exact nI_clamp (by omega)
        have hc0 : co σ54 = co σ := (ag_co h54_a (by decide))
        have hst : s_spoon (co σ) x y = (s_clamp (co σ 10 (5 * p + 2) + s_feels (co σ) p j) (-99) 99, s_spoonK (co σ) p j) := by rw [s_spoon, if_pos ⟨h2_h, h9_h⟩, ejn, epn, if_neg (by rw [cq9]; exact h25)]
        rw [hst]
        refine ⟨?_, ?_⟩
        · simp [mset, upd2]; rfl
        rw [co_set (by decide), co_set (by decide), co_set (by decide), hc0]
        rfl
      · refine v_sipush (v := (-1003)) G dX8_spoon_28 rfl ?_
        refine RET _ _ _ _ _ _ rfl (Nat.le_of_ble_eq_true rfl) (Nat.le_of_ble_eq_true rfl) dX8_spoon_31 (fun ws hw => ⟨_, hw, ?_⟩)
        clear RET G hT hnm
        have ejn : n_ y = j := by rw [ej]; exact nI_clamp (by omega)
        have epn : n_ x = p := by rw [ep]; exact nI_clamp (by omega)
        rw [show s_spoon (co σ) x y = (-1003, co σ) by rw [s_spoon, if_pos ⟨h2_h, h9_h⟩, ejn, cq9, if_pos h25]]
        exact ⟨rfl, rfl⟩
    · refine v_if_ne (tgt := 19) G dX8_spoon_12 (by decide) (fun h12 => absurd h12 (by decide)) (fun h12 => ?_)
      refine v_sipush (v := (-1000)) G dX8_spoon_15 rfl ?_
      refine RET _ _ _ _ _ _ rfl (Nat.le_of_ble_eq_true rfl) (Nat.le_of_ble_eq_true rfl) dX8_spoon_18 (fun ws hw => ⟨_, hw, ?_⟩)
      clear RET G hT hnm
      rw [show s_spoon (co σ) x y = (-1000, co σ) by rw [s_spoon, if_neg (fun q => by first | exact h2_h q.1 | exact h9_h q.2)]]
      exact ⟨rfl, rfl⟩
  · refine v_if_eq (tgt := 15) G dX8_spoon_5 (by decide) (fun h5 => ?_) (fun h5 => absurd h5 (by decide))
    refine v_sipush (v := (-1000)) G dX8_spoon_15 rfl ?_
    refine RET _ _ _ _ _ _ rfl (Nat.le_of_ble_eq_true rfl) (Nat.le_of_ble_eq_true rfl) dX8_spoon_18 (fun ws hw => ⟨_, hw, ?_⟩)
    clear RET G hT hnm
    rw [show s_spoon (co σ) x y = (-1000, co σ) by rw [s_spoon, if_neg (fun q => by first | exact h2_h q.1 | exact h9_h q.2)]]
    exact ⟨rfl, rfl⟩
