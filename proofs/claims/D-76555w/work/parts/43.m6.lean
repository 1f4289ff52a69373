set_option maxRecDepth 100000
theorem cpy_lo {τ : MS} {k d q : Nat} {v : Int32} {f : Nat → Int32} (h : ∀ i, i < q → τ.1 k (d + i) = f i) (hv : v = f q) : ∀ i, i < q + 1 → (mset τ k (d + q) v).1 k (d + i) = f i := by
  intro i hi
  by_cases e : i = q
  · subst e; rw [mset_eq, hv]
  · rw [show (mset τ k (d + q) v).1 k (d + i) = τ.1 k (d + i) by show upd2 τ.1 k (d + q) v k (d + i) = _; rw [upd2_at, if_neg (by omega)]]
    exact h i (by omega)
theorem cpy_hi {τ : MS} {k d q : Nat} {v : Int32} {g : Nat → Int32} (h : ∀ i, (i < d ∨ d + q ≤ i) → τ.1 k i = g i) : ∀ i, (i < d ∨ d + (q + 1) ≤ i) → (mset τ k (d + q) v).1 k i = g i := by
  intro i hi
  rw [show (mset τ k (d + q) v).1 k i = τ.1 k i by show upd2 τ.1 k (d + q) v k i = _; rw [upd2_at, if_neg (by omega)]]
  exact h i (by omega)
theorem cpy0_lo {τ : MS} {k q : Nat} {v : Int32} {f : Nat → Int32} (h : ∀ i, i < q → τ.1 k i = f i) (hv : v = f q) : ∀ i, i < q + 1 → (mset τ k q v).1 k i = f i := by
  have := cpy_lo (d := 0) (τ := τ) (k := k) (q := q) (v := v) (f := f) (fun i hi => by rw [Nat.zero_add]; exact h i hi) hv
  intro i hi
  have h2 := this i hi
  rwa [Nat.zero_add, Nat.zero_add] at h2
theorem cpy0_hi {τ : MS} {k q : Nat} {v : Int32} {g : Nat → Int32} (h : ∀ i, q ≤ i → τ.1 k i = g i) : ∀ i, q + 1 ≤ i → (mset τ k q v).1 k i = g i := by
  intro i hi
  rw [show (mset τ k q v).1 k i = τ.1 k i by show upd2 τ.1 k q v k i = _; rw [upd2_at, if_neg (by omega)]]
  exact h i (by omega)
/-- what is laid aside -/
def aside (K : GS) (w : Nat → Int32) : Prop := (∀ i, i < 24 → w i = K 9 i) ∧ (∀ i, i < 25 → w (24 + i) = K 10 i) ∧ w 49 = K 7 0
/-- the same but for jars, rows, the year -/
def near (K0 K : GS) : Prop := (∀ i, 24 ≤ i → K 9 i = K0 9 i) ∧ (∀ i, 25 ≤ i → K 10 i = K0 10 i) ∧ (∀ i, i ≠ 0 → K 7 i = K0 7 i) ∧ ∀ k, k ≠ 7 → k ≠ 9 → k ≠ 10 → K k = K0 k
theorem near_rf {K : GS} : near K K := ⟨fun _ _ => rfl, fun _ _ => rfl, fun _ _ => rfl, fun _ _ _ _ => rfl⟩
theorem near_goes {K0 K : GS} {p o : Nat} (h : near K0 K) (hn : nowOk K) (hp : p < 5) : near K0 (s_goes K p o) := by
  obtain ⟨h9, h10, h7, hk⟩ := h
  have hrn := s_rn1 (K := K) (p := p) (o := o)
  obtain ⟨-, ⟨c, hc, ec⟩, -⟩ := hn.2.1 p hp
  have hcc : s_c K p = c := by unfold s_c; rw [ec]; exact nI_clamp (by omega)
  refine ⟨fun i hi => ?_, fun i hi => ?_, fun i hi => ?_, fun k h7' h9' h10' => ?_⟩
  · unfold s_goes
    rw [upd2_ne _ _ _ (by decide), upd2_eq, pk_un (by omega)]
    exact h9 i hi
  · unfold s_goes
    rw [upd2_eq, pk_un (by omega), upd2_ne _ _ _ (by decide)]
    exact h10 i hi
  · rw [s_goes_k (by decide) (by decide)]; exact h7 i hi
  · rw [s_goes_k h9' h10']; exact hk k h7' h9' h10'
theorem near_passN {K0 K : GS} {o : Nat → Nat} (h : near K0 K) (hn : nowOk K) : ∀ n, n ≤ 5 → near K0 (s_passN K o n)
  | 0, _ => h
  | n + 1, hl => near_goes (near_passN h hn n (by omega)) (now_passN hn n (by omega)) (by omega)
theorem near_y {K0 K : GS} {v : Int32} (h : near K0 K) : near K0 (upd2 K 7 0 v) := by
  obtain ⟨h9, h10, h7, hk⟩ := h
  refine ⟨fun i hi => by rw [upd2_ne _ _ _ (by decide)]; exact h9 i hi, fun i hi => by rw [upd2_ne _ _ _ (by decide)]; exact h10 i hi, fun i hi => by rw [upd2_eq, pk_un hi]; exact h7 i hi, fun k h7' h9' h10' => by rw [upd2_ne _ _ _ h7']; exact hk k h7' h9' h10'⟩
theorem near_pass {K0 K : GS} {o : Nat → Nat} (h : near K0 K) (hn : nowOk K) : near K0 (s_pass K o) := near_y (near_passN h hn _ (many5 hn).1)
theorem near_iter {K0 : GS} (hn : nowOk K0) : ∀ n, near K0 (s_iter K0 n)
  | 0 => near_rf
  | n + 1 => near_pass (near_iter hn n) (now_iter hn n)
abbrev rmX8_laysAside : Room := { frames := 0, cells := 0, slots := 0, locals := 0 }
set_option maxHeartbeats 4000000 in
theorem kX8_laysAside {KT : (Nat → Prop) → State → Heap → Prop} (hK : KTok KT) (l : Launch) (dC : Nat → ClassId) (dI : Nat → Nat → Nat) (ct ad : Nat → Nat) (σ : MS)   : MC KT (dC, dI) vwCl (tysF ct) l yX8_laysAside cX8_laysAside 2 none rmX8_laysAside [.ref (ad 43)] (RM ct ad σ) (QV_ (dC, dI) vwCl (RM ct ad) (fun (σ' : MS) => aside (co σ) (σ'.1 27) ∧ ag [27] σ σ')) := by
  refine MC.ofV (own := RX8) pl_X8 rfl (Nat.le_of_ble_eq_true rfl) ?_
  intro pp ee ss mm aa bb hh cc AA QQ G hT hnm RET
  refine v_loc (L' := [(0, .ref (ad 43))]) rfl ?_
  refine v_iconst (v := 0) G dX8_laysAside_0 rfl ?_
  refine v_istore_n (L' := [(1, .int 0), (0, .ref (ad 43))]) G dX8_laysAside_1 (by decide) rfl ?_
  have loop2 : ∀ (dd : Nat) (q : Nat) (τ : MS), (q ≤ 24) → (∀ i, i < q → τ.1 27 i = σ.1 9 i) → (∀ i, q ≤ i → τ.1 27 i = σ.1 27 i) → (ag [27] σ τ) → 24 - q < dd → V_ pp l ee rmX8_laysAside ss mm aa bb hh cc 2 (dC, dI) vwCl AA QQ 0 0 (RM ct ad τ) 2 [(1, .int (nI q)), (0, .ref (ad 43))] [] := by
    intro dd
    induction dd with
    | zero => intro q τ hqτ hloτ hhiτ haτ hdd; exact absurd hdd (Nat.not_lt_zero _)
    | succ dd ih2 =>
      intro q τ hqτ hloτ hhiτ haτ hdd
      refine v_iload_n G 0 dX8_laysAside_2 rfl ?_
      refine v_bipush (v := 24) G dX8_laysAside_3 rfl ?_
      refine v_icmp_ge (tgt := 26) G dX8_laysAside_5 (by decide) (fun h5 => ?_) (fun h5 => ?_)
      · have n5 := (cmp_le (x := 24) (y := nI q) (a := 24) (b := q) (ix_lit 24 rfl) rfl (by omega) (by omega)).mp h5
        refine v_iconst (v := 0) G dX8_laysAside_26 rfl ?_
        refine v_istore_n (L' := [(1, .int 0), (0, .ref (ad 43))]) G dX8_laysAside_27 (by decide) rfl ?_
        have loop28 : ∀ (dd : Nat) (z : Nat) (μ : MS), (z ≤ 25) → (∀ i, i < z → μ.1 27 (24 + i) = σ.1 10 i) → (∀ i, (i < 24 ∨ 24 + z ≤ i) → μ.1 27 i = τ.1 27 i) → (ag [27] τ μ) → 25 - z < dd → V_ pp l ee rmX8_laysAside ss mm aa bb hh cc 2 (dC, dI) vwCl AA QQ 0 0 (RM ct ad μ) 28 [(1, .int (nI z)), (0, .ref (ad 43))] [] := by
          intro dd
          induction dd with
          | zero => intro z μ hqμ hloμ hhiμ haμ hdd; exact absurd hdd (Nat.not_lt_zero _)
          | succ dd ih28 =>
            intro z μ hqμ hloμ hhiμ haμ hdd
            refine v_iload_n G 0 dX8_laysAside_28 rfl ?_
            refine v_bipush (v := 25) G dX8_laysAside_29 rfl ?_
            refine v_icmp_ge (tgt := 55) G dX8_laysAside_31 (by decide) (fun h31 => ?_) (fun h31 => ?_)
            · have n31 := (cmp_le (x := 25) (y := nI z) (a := 25) (b := z) (ix_lit 25 rfl) rfl (by omega) (by omega)).mp h31
              refine v_aload_n G 1 dX8_laysAside_55 rfl ?_
              refine m_get (v := .ref (ad 27)) G 27 (by decide) rfl q1321 rfl dX8_laysAside_56 ?_
              refine v_bipush (v := 49) G dX8_laysAside_59 rfl ?_
              refine v_aload_n G 1 dX8_laysAside_61 rfl ?_
              refine m_get (v := .int (μ.1 7 0)) G 7 (by decide) rfl q1301 rfl dX8_laysAside_62 ?_
              refine v_topr (congrArg Value.int (show μ.1 7 0 = σ.1 7 0 from ((show μ.1 7 0 = τ.1 7 0 from ag_at haμ (by decide)).trans (show τ.1 7 0 = σ.1 7 0 from ag_at haτ (by decide))))) ?_
              refine m_iast G 27 rfl (49) (ix_lit 49 rfl) (show 49 < 50 by first | omega | assumption | decide) dX8_laysAside_65 ?_
              refine RET _ _ _ _ _ (Nat.le_of_ble_eq_true rfl) (Nat.le_of_ble_eq_true rfl) dX8_laysAside_66 (fun ws hws => ⟨_, hws, ?_⟩)
              clear RET G hT hnm
              have hq24 : q = 24 := by omega
              have hz25 : z = 25 := by omega
              subst hq24 hz25
              refine ⟨⟨fun i hi => ?_, fun i hi => ?_, ?_⟩, ag_tr haτ (ag_tr haμ (ag_set (by decide)))⟩
              · rw [show (mset μ 27 49 (σ.1 7 0)).1 27 i = μ.1 27 i by simp [mset, upd2]; omega, hhiμ i (by omega)]
                exact hloτ i hi
              · rw [show (mset μ 27 49 (σ.1 7 0)).1 27 (24 + i) = μ.1 27 (24 + i) by simp [mset, upd2]; omega]
                exact hloμ i hi
              · rw [mset_eq]; rfl
            · have n31 := (not_congr (cmp_le (x := 25) (y := nI z) (a := 25) (b := z) (ix_lit 25 rfl) rfl (by omega) (by omega))).mp h31
              refine v_aload_n G 1 dX8_laysAside_34 rfl ?_
              refine m_get (v := .ref (ad 27)) G 27 (by decide) rfl q1321 rfl dX8_laysAside_35 ?_
              refine v_bipush (v := 24) G dX8_laysAside_38 rfl ?_
              refine v_iload_n G 0 dX8_laysAside_40 rfl ?_
              refine v_iadd G dX8_laysAside_41 ?_
              refine v_aload_n G 1 dX8_laysAside_42 rfl ?_
              refine m_get (v := .ref (ad 10)) G 10 (by decide) rfl q1304 rfl dX8_laysAside_43 ?_
              refine v_iload_n G 0 dX8_laysAside_46 rfl ?_
              refine m_iald G 10 rfl (z) rfl (show z < 25 by first | omega | assumption | decide) dX8_laysAside_47 ?_
              refine v_topr (congrArg Value.int (show μ.1 10 z = σ.1 10 z from ((show μ.1 10 z = τ.1 10 z from ag_at haμ (by decide)).trans (show τ.1 10 z = σ.1 10 z from ag_at haτ (by decide))))) ?_
              refine m_iast G 27 rfl (24 + z) (ix_add (ix_lit 24 rfl) rfl) (show 24 + z < 50 by first | omega | assumption | decide) dX8_laysAside_48 ?_
              refine v_iinc (v := nI (z + 1)) (L' := [(1, .int (nI (z + 1))), (0, .ref (ad 43))]) G 0 dX8_laysAside_49 rfl (ix_add rfl (ix_lit 1 rfl)) (by decide) rfl ?_
              refine v_goto (tgt := 28) G dX8_laysAside_52 (by decide) ?_
              refine V_.sub (L' := [(1, .int (nI (z + 1))), (0, .ref (ad 43))]) ?_ [0, 1] rfl
              exact ih28  (z + 1) (mset μ 27 (24 + z) (σ.1 10 z)) (by omega) (cpy_lo hloμ rfl) (cpy_hi hhiμ) (ag_tr haμ (ag_set (by decide))) (by omega)
        refine V_.sub (L' := [(1, .int 0), (0, .ref (ad 43))]) ?_ [0, 1] rfl
        refine v_loc (L' := [(1, .int (nI 0)), (0, .ref (ad 43))]) (rfl) ?_
        exact loop28 _ 0 τ (Nat.zero_le _) (fun i hi => absurd hi (Nat.not_lt_zero i)) (fun _ _ => rfl) ag_rf (Nat.lt_succ_self _)
      · have n5 := (not_congr (cmp_le (x := 24) (y := nI q) (a := 24) (b := q) (ix_lit 24 rfl) rfl (by omega) (by omega))).mp h5
        refine v_aload_n G 1 dX8_laysAside_8 rfl ?_
        refine m_get (v := .ref (ad 27)) G 27 (by decide) rfl q1321 rfl dX8_laysAside_9 ?_
        refine v_iload_n G 0 dX8_laysAside_12 rfl ?_
        refine v_aload_n G 1 dX8_laysAside_13 rfl ?_
        refine m_get (v := .ref (ad 9)) G 9 (by decide) rfl q1303 rfl dX8_laysAside_14 ?_
        refine v_iload_n G 0 dX8_laysAside_17 rfl ?_
        refine m_iald G 9 rfl (q) rfl (show q < 24 by first | omega | assumption | decide) dX8_laysAside_18 ?_
        refine v_topr (congrArg Value.int (show τ.1 9 q = σ.1 9 q from (show τ.1 9 q = σ.1 9 q from ag_at haτ (by decide)))) ?_
        refine m_iast G 27 rfl (q) rfl (show q < 50 by first | omega | assumption | decide) dX8_laysAside_19 ?_
        refine v_iinc (v := nI (q + 1)) (L' := [(1, .int (nI (q + 1))), (0, .ref (ad 43))]) G 0 dX8_laysAside_20 rfl (ix_add rfl (ix_lit 1 rfl)) (by decide) rfl ?_
        refine v_goto (tgt := 2) G dX8_laysAside_23 (by decide) ?_
        refine V_.sub (L' := [(1, .int (nI (q + 1))), (0, .ref (ad 43))]) ?_ [0, 1] rfl
        exact ih2  (q + 1) (mset τ 27 q (σ.1 9 q)) (by omega) (cpy0_lo hloτ rfl) (cpy0_hi hhiτ) (ag_tr haτ (ag_set (by decide))) (by omega)
  refine V_.sub (L' := [(1, .int 0), (0, .ref (ad 43))]) ?_ [0, 1] rfl
  refine v_loc (L' := [(1, .int (nI 0)), (0, .ref (ad 43))]) (rfl) ?_
  exact loop2 _ 0 σ (Nat.zero_le _) (fun i hi => absurd hi (Nat.not_lt_zero i)) (fun _ _ => rfl) ag_rf (Nat.lt_succ_self _)
abbrev rmX8_laysBack : Room := { frames := 0, cells := 0, slots := 0, locals := 0 }
set_option maxHeartbeats 4000000 in
theorem kX8_laysBack {KT : (Nat → Prop) → State → Heap → Prop} (hK : KTok KT) (l : Launch) (dC : Nat → ClassId) (dI : Nat → Nat → Nat) (ct ad : Nat → Nat) (σ : MS) (K0 : GS) (hw : aside K0 (σ.1 27)) (hn : near K0 (co σ)) : MC KT (dC, dI) vwCl (tysF ct) l yX8_laysBack cX8_laysBack 2 none rmX8_laysBack [.ref (ad 43)] (RM ct ad σ) (QV_ (dC, dI) vwCl (RM ct ad) (fun (σ' : MS) => co σ' = K0 ∧ ag [7, 9, 10] σ σ')) := by
  refine MC.ofV (own := RX8) pl_X8 rfl (Nat.le_of_ble_eq_true rfl) ?_
  intro pp ee ss mm aa bb hh cc AA QQ G hT hnm RET
  refine v_loc (L' := [(0, .ref (ad 43))]) rfl ?_
  refine v_iconst (v := 0) G dX8_laysBack_0 rfl ?_
  refine v_istore_n (L' := [(1, .int 0), (0, .ref (ad 43))]) G dX8_laysBack_1 (by decide) rfl ?_
  have loop2 : ∀ (dd : Nat) (q : Nat) (τ : MS), (q ≤ 24) → (∀ i, i < q → τ.1 9 i = σ.1 27 i) → (∀ i, q ≤ i → τ.1 9 i = σ.1 9 i) → (ag [9] σ τ) → 24 - q < dd → V_ pp l ee rmX8_laysBack ss mm aa bb hh cc 2 (dC, dI) vwCl AA QQ 0 0 (RM ct ad τ) 2 [(1, .int (nI q)), (0, .ref (ad 43))] [] := by
    intro dd
    induction dd with
    | zero => intro q τ hqτ hloτ hhiτ haτ hdd; exact absurd hdd (Nat.not_lt_zero _)
    | succ dd ih2 =>
      intro q τ hqτ hloτ hhiτ haτ hdd
      refine v_iload_n G 0 dX8_laysBack_2 rfl ?_
      refine v_bipush (v := 24) G dX8_laysBack_3 rfl ?_
      refine v_icmp_ge (tgt := 26) G dX8_laysBack_5 (by decide) (fun h5 => ?_) (fun h5 => ?_)
      · have n5 := (cmp_le (x := 24) (y := nI q) (a := 24) (b := q) (ix_lit 24 rfl) rfl (by omega) (by omega)).mp h5
        refine v_iconst (v := 0) G dX8_laysBack_26 rfl ?_
        refine v_istore_n (L' := [(1, .int 0), (0, .ref (ad 43))]) G dX8_laysBack_27 (by decide) rfl ?_
        have loop28 : ∀ (dd : Nat) (z : Nat) (μ : MS), (z ≤ 25) → (∀ i, i < z → μ.1 10 i = σ.1 27 (24 + i)) → (∀ i, z ≤ i → μ.1 10 i = τ.1 10 i) → (ag [10] τ μ) → 25 - z < dd → V_ pp l ee rmX8_laysBack ss mm aa bb hh cc 2 (dC, dI) vwCl AA QQ 0 0 (RM ct ad μ) 28 [(1, .int (nI z)), (0, .ref (ad 43))] [] := by
          intro dd
          induction dd with
          | zero => intro z μ hqμ hloμ hhiμ haμ hdd; exact absurd hdd (Nat.not_lt_zero _)
          | succ dd ih28 =>
            intro z μ hqμ hloμ hhiμ haμ hdd
            refine v_iload_n G 0 dX8_laysBack_28 rfl ?_
            refine v_bipush (v := 25) G dX8_laysBack_29 rfl ?_
            refine v_icmp_ge (tgt := 55) G dX8_laysBack_31 (by decide) (fun h31 => ?_) (fun h31 => ?_)
            · have n31 := (cmp_le (x := 25) (y := nI z) (a := 25) (b := z) (ix_lit 25 rfl) rfl (by omega) (by omega)).mp h31
              refine v_aload_n G 1 dX8_laysBack_55 rfl ?_
              refine v_aload_n G 1 dX8_laysBack_56 rfl ?_
              refine m_get (v := .ref (ad 27)) G 27 (by decide) rfl q1321 rfl dX8_laysBack_57 ?_
              refine v_bipush (v := 49) G dX8_laysBack_60 rfl ?_
              refine m_iald G 27 rfl (49) (ix_lit 49 rfl) (show 49 < 50 by first | omega | assumption | decide) dX8_laysBack_62 ?_
              refine v_topr (congrArg Value.int (show μ.1 27 49 = σ.1 27 49 from ((show μ.1 27 49 = τ.1 27 49 from ag_at haμ (by decide)).trans (show τ.1 27 49 = σ.1 27 49 from ag_at haτ (by decide))))) ?_
              refine m_putI G 7 (by decide) q1301 rfl rfl rfl dX8_laysBack_63 ?_
              refine RET _ _ _ _ _ (Nat.le_of_ble_eq_true rfl) (Nat.le_of_ble_eq_true rfl) dX8_laysBack_66 (fun ws hws => ⟨_, hws, ?_⟩)
              clear RET G hT hnm
              have hq24 : q = 24 := by omega
              have hz25 : z = 25 := by omega
              subst hq24 hz25
              obtain ⟨w9, w10, w7⟩ := hw
              obtain ⟨n9, n10, n7, nk⟩ := hn
              refine ⟨?_, ag_tr (ag_mono haτ (by decide)) (ag_tr (ag_mono haμ (by decide)) (ag_set (by decide)))⟩
              rw [co_set (by decide)]
              funext k i
              by_cases h7 : k = 7
              · subst h7
                by_cases hi : i = 0
                · subst hi; rw [upd2_eq, pk_us]; exact w7
                · rw [upd2_eq, pk_un hi, ← n7 i hi, cq7, cq7, ag_at haμ (by decide), ag_at haτ (by decide)]
              · rw [upd2_ne _ _ _ h7]
                by_cases h9 : k = 9
                · subst h9
                  rw [cq9, ag_at haμ (by decide)]
                  by_cases hi : i < 24
                  · rw [hloτ i hi]; exact w9 i hi
                  · rw [hhiτ i (by omega), ← n9 i (by omega)]; rfl
                · by_cases h10 : k = 10
                  · subst h10
                    rw [cq10]
                    by_cases hi : i < 25
                    · rw [hloμ i hi]; exact w10 i hi
                    · rw [hhiμ i (by omega), ← n10 i (by omega), ag_at haτ (by decide)]; rfl
                  · rw [← nk k h7 h9 h10]
                    unfold co
                    rw [haμ k (by simp; omega), haτ k (by simp; omega)]
            · have n31 := (not_congr (cmp_le (x := 25) (y := nI z) (a := 25) (b := z) (ix_lit 25 rfl) rfl (by omega) (by omega))).mp h31
              refine v_aload_n G 1 dX8_laysBack_34 rfl ?_
              refine m_get (v := .ref (ad 10)) G 10 (by decide) rfl q1304 rfl dX8_laysBack_35 ?_
              refine v_iload_n G 0 dX8_laysBack_38 rfl ?_
              refine v_aload_n G 1 dX8_laysBack_39 rfl ?_
              refine m_get (v := .ref (ad 27)) G 27 (by decide) rfl q1321 rfl dX8_laysBack_40 ?_
              refine v_bipush (v := 24) G dX8_laysBack_43 rfl ?_
              refine v_iload_n G 0 dX8_laysBack_45 rfl ?_
              refine v_iadd G dX8_laysBack_46 ?_
              refine m_iald G 27 rfl (24 + z) (ix_add (ix_lit 24 rfl) rfl) (show 24 + z < 50 by first | omega | assumption | decide) dX8_laysBack_47 ?_
              refine v_topr (congrArg Value.int (show μ.1 27 (24 + z) = σ.1 27 (24 + z) from ((show μ.1 27 (24 + z) = τ.1 27 (24 + z) from ag_at haμ (by decide)).trans (show τ.1 27 (24 + z) = σ.1 27 (24 + z) from ag_at haτ (by decide))))) ?_
              refine m_iast G 10 rfl (z) rfl (show z < 25 by first | omega | assumption | decide) dX8_laysBack_48 ?_
              refine v_iinc (v := nI (z + 1)) (L' := [(1, .int (nI (z + 1))), (0, .ref (ad 43))]) G 0 dX8_laysBack_49 rfl (ix_add rfl (ix_lit 1 rfl)) (by decide) rfl ?_
              refine v_goto (tgt := 28) G dX8_laysBack_52 (by decide) ?_
              refine V_.sub (L' := [(1, .int (nI (z + 1))), (0, .ref (ad 43))]) ?_ [0, 1] rfl
              exact ih28  (z + 1) (mset μ 10 z (σ.1 27 (24 + z))) (by omega) (cpy0_lo hloμ rfl) (cpy0_hi hhiμ) (ag_tr haμ (ag_set (by decide))) (by omega)
        refine V_.sub (L' := [(1, .int 0), (0, .ref (ad 43))]) ?_ [0, 1] rfl
        refine v_loc (L' := [(1, .int (nI 0)), (0, .ref (ad 43))]) (rfl) ?_
        exact loop28 _ 0 τ (Nat.zero_le _) (fun i hi => absurd hi (Nat.not_lt_zero i)) (fun _ _ => rfl) ag_rf (Nat.lt_succ_self _)
      · have n5 := (not_congr (cmp_le (x := 24) (y := nI q) (a := 24) (b := q) (ix_lit 24 rfl) rfl (by omega) (by omega))).mp h5
        refine v_aload_n G 1 dX8_laysBack_8 rfl ?_
        refine m_get (v := .ref (ad 9)) G 9 (by decide) rfl q1303 rfl dX8_laysBack_9 ?_
        refine v_iload_n G 0 dX8_laysBack_12 rfl ?_
        refine v_aload_n G 1 dX8_laysBack_13 rfl ?_
        refine m_get (v := .ref (ad 27)) G 27 (by decide) rfl q1321 rfl dX8_laysBack_14 ?_
        refine v_iload_n G 0 dX8_laysBack_17 rfl ?_
        refine m_iald G 27 rfl (q) rfl (show q < 50 by first | omega | assumption | decide) dX8_laysBack_18 ?_
        refine v_topr (congrArg Value.int (show τ.1 27 q = σ.1 27 q from (show τ.1 27 q = σ.1 27 q from ag_at haτ (by decide)))) ?_
        refine m_iast G 9 rfl (q) rfl (show q < 24 by first | omega | assumption | decide) dX8_laysBack_19 ?_
        refine v_iinc (v := nI (q + 1)) (L' := [(1, .int (nI (q + 1))), (0, .ref (ad 43))]) G 0 dX8_laysBack_20 rfl (ix_add rfl (ix_lit 1 rfl)) (by decide) rfl ?_
        refine v_goto (tgt := 2) G dX8_laysBack_23 (by decide) ?_
        refine V_.sub (L' := [(1, .int (nI (q + 1))), (0, .ref (ad 43))]) ?_ [0, 1] rfl
        exact ih2  (q + 1) (mset τ 9 q (σ.1 27 q)) (by omega) (cpy0_lo hloτ rfl) (cpy0_hi hhiτ) (ag_tr haτ (ag_set (by decide))) (by omega)
  refine V_.sub (L' := [(1, .int 0), (0, .ref (ad 43))]) ?_ [0, 1] rfl
  refine v_loc (L' := [(1, .int (nI 0)), (0, .ref (ad 43))]) (rfl) ?_
  exact loop2 _ 0 σ (Nat.zero_le _) (fun i hi => absurd hi (Nat.not_lt_zero i)) (fun _ _ => rfl) ag_rf (Nat.lt_succ_self _)
