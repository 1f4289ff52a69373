set_option maxRecDepth 100000
def s_gb (K : GS) (p r : Nat) : GS := upd2 (upd2 K 9 (2 * s_c K p + 1 - r) (s_clamp (K 9 (2 * s_c K p + 1 - r) + s_puts K p) 0 999)) 10 (5 * p + 1) (K 8 (2 * s_c K p + r))
theorem s_gb_goes {K : GS} {p o : Nat} : s_goes K p o = s_gb K p (s_rn K p o) := rfl
theorem puts_nI {K : GS} {p : Nat} : ∃ v, v ≤ 99 ∧ s_puts K p = nI v := by
  unfold s_puts
  split
  · exact ⟨0, by omega, rfl⟩
  · exact clamp_nI (n := 99) (by decide)
theorem min_clamp {w v : Nat} (hw : w ≤ 999) (hv : v ≤ 99) : (if nI w + nI v < 999 then nI w + nI v else 999) = s_clamp (nI w + nI v) 0 999 := by
  rw [nI_add, show (999 : Int32) = nI 999 from rfl, show (0 : Int32) = nI 0 from rfl]
  unfold s_clamp
  rw [if_neg (c := nI (w + v) < nI 0) (fun q => by rw [nI_ltI (by omega) (by omega)] at q; omega)]
  by_cases h : w + v < 999
  · rw [if_pos ((nI_ltI (by omega) (by omega)).mpr h), if_neg (fun q => by rw [nI_ltI (by omega) (by omega)] at q; omega)]
  · rw [if_neg (fun q => by rw [nI_ltI (by omega) (by omega)] at q; omega)]
    by_cases h2 : 999 < w + v
    · rw [if_pos ((nI_ltI (by omega) (by omega)).mpr h2)]
    · rw [if_neg (fun q => by rw [nI_ltI (by omega) (by omega)] at q; omega), show w + v = 999 by omega]
theorem rn_pass {K : GS} {p o : Nat} (h : nowOk K) (hp : p < 5) : (o = 0 → s_road K p = nI (s_rn K p o)) ∧ (o = 1 → 1 - s_road K p = nI (s_rn K p o)) := by
  have h1 := s_road01 h hp
  unfold s_rn
  refine ⟨fun e => ?_, fun e => ?_⟩ <;> subst e <;> rcases h1 with h1 | h1 <;> rw [h1] <;> decide
abbrev rmX0_goesBy : Room := { frames := 1, cells := 0, slots := 0, locals := 24 }
set_option maxHeartbeats 1000000 in
theorem kX0_goesBy {KT : (Nat → Prop) → State → Heap → Prop} (hK : KTx KT) (l : Launch) (dC : Nat → ClassId) (dI : Nat → Nat → Nat) (ct ad : Nat → Nat) (F : List (Nat × va_E)) (σ : MS) (p : Nat) (r : Nat) (v : Int32) (hO : Ok (co σ)) (hp : p < s_many (co σ)) (hr : r ≤ 1) (hv : v = s_puts (co σ) p) : MC KT (dC, dI) vwCl (tysF ct) l yX0_goesBy cX0_goesBy 5 none rmX0_goesBy [.ref (ad 0), .int (nI p), .int (nI r), .int v] (RX ct ad F σ) (QV_ (dC, dI) vwCl (RX ct ad F) (fun (σ' : MS) => co σ' = s_gb (co σ) p r ∧ ag [9, 10] σ σ')) := by
  refine MC.ofV (own := RX0) pl_X0 rfl (Nat.le_of_ble_eq_true rfl) ?_
  intro pp ee ss mm aa bb hh cc AA QQ G hT hnm RET
  refine v_loc (L' := [(0, .ref (ad 0)), (1, .int (nI p)), (2, .int (nI r)), (3, .int v)]) rfl ?_
  have hm5 := (many5 hO.1).1
  have hp5 : p < 5 := by omega
  obtain ⟨⟨vn, hvn, evn⟩, ⟨c, hc, ec⟩, hmood, ⟨ve, hve, eve⟩, vk, hvk, evk⟩ := hO.1.2.1 p hp5
  have evn : σ.1 10 (5 * p) = nI vn := evn
  have ec : σ.1 10 (5 * p + 1) = nI c := ec
  have eve : σ.1 10 (5 * p + 3) = nI ve := eve
  have evk : σ.1 10 (5 * p + 4) = nI vk := evk
  have esc : s_c (co σ) p = c := by rw [s_c, cq10, ec]; exact nI_clamp (by omega)
  refine v_iconst (v := 2) G dX0_goesBy_0 rfl ?_
  refine v_aload_n G 0 dX0_goesBy_1 rfl ?_
  refine x_get (v := .ref (ad 100)) G 0 (by decide) rfl q787 rfl dX0_goesBy_2 ?_
  refine v_iload_n G 1 dX0_goesBy_5 rfl ?_
  refine x_fald G (p) rfl (show p < n_ (σ.1 11 0) from (by exact (show p < s_many (co σ) by omega))) (by omega) dX0_goesBy_6 ?_
  refine x_lg (v := σ.1 10 (5 * p + 1)) G 1 p (by decide) (show p < n_ (σ.1 11 0) from (by exact (show p < s_many (co σ) by omega))) (kd_of hO (by omega)) (rfl) q196 dX0_goesBy_7 ?_
  refine v_imul G dX0_goesBy_10 ?_
  refine v_iconst (v := 1) G dX0_goesBy_11 rfl ?_
  refine v_iadd G dX0_goesBy_12 ?_
  refine v_iload_n G 2 dX0_goesBy_13 rfl ?_
  refine v_isub G dX0_goesBy_14 ?_
  refine v_istore (L' := [(4, .int (((2 * (σ.1 10 (5 * p + 1))) + 1) - (nI r))), (0, .ref (ad 0)), (1, .int (nI p)), (2, .int (nI r)), (3, .int v)]) G dX0_goesBy_15 (by decide) rfl ?_
  refine v_aload_n G 1 dX0_goesBy_17 rfl ?_
  refine x_get (v := .ref (ad 9)) G 4 (by decide) rfl q792 rfl dX0_goesBy_18 ?_
  refine v_iload G 0 dX0_goesBy_21 rfl ?_
  refine v_sipush (v := 999) G dX0_goesBy_23 rfl ?_
  refine v_aload_n G 1 dX0_goesBy_26 rfl ?_
  refine x_get (v := .ref (ad 9)) G 4 (by decide) rfl q792 rfl dX0_goesBy_27 ?_
  refine v_iload G 0 dX0_goesBy_30 rfl ?_
  refine x_iald G 9 rfl (((2 * c) + 1) - r) (ix_sub (ix_add (ix_mul (ix_lit 2 rfl) ec) (ix_lit 1 rfl)) rfl (by omega)) (show ((2 * c) + 1) - r < 24 by first | omega | assumption | decide) dX0_goesBy_32 ?_
  refine v_iload_n G 4 dX0_goesBy_33 rfl ?_
  refine v_iadd G dX0_goesBy_34 ?_
  refine v_mmin G q360 dX0_goesBy_35 (Nat.le_of_ble_eq_true rfl) (Nat.le_of_ble_eq_true rfl) (Nat.le_of_ble_eq_true rfl) (Nat.le_of_ble_eq_true rfl) (Nat.le_of_ble_eq_true rfl) ?_
  refine x_iast G 9 rfl rfl (((2 * c) + 1) - r) (ix_sub (ix_add (ix_mul (ix_lit 2 rfl) ec) (ix_lit 1 rfl)) rfl (by omega)) (show ((2 * c) + 1) - r < 24 by first | omega | assumption | decide) dX0_goesBy_38 ?_
  refine v_aload_n G 1 dX0_goesBy_39 rfl ?_
  refine x_get (v := .ref (ad 100)) G 0 (by decide) rfl q787 rfl dX0_goesBy_40 ?_
  refine v_iload_n G 2 dX0_goesBy_43 rfl ?_
  refine x_fald G (p) rfl (show p < n_ ((mset σ 9 (((2 * c) + 1) - r) (if ((σ.1 9 (((2 * c) + 1) - r)) + v) < 999 then ((σ.1 9 (((2 * c) + 1) - r)) + v) else 999)).1 11 0) from (by rw [show (mset σ 9 (((2 * c) + 1) - r) (if ((σ.1 9 (((2 * c) + 1) - r)) + v) < 999 then ((σ.1 9 (((2 * c) + 1) - r)) + v) else 999)).1 11 0 = σ.1 11 0 from rfl]; exact (show p < s_many (co σ) by omega))) (by omega) dX0_goesBy_44 ?_
  refine v_aload_n G 1 dX0_goesBy_45 rfl ?_
  refine x_get (v := .ref (ad 8)) G 3 (by decide) rfl q791 rfl dX0_goesBy_46 ?_
  refine v_iconst (v := 2) G dX0_goesBy_49 rfl ?_
  refine v_aload_n G 1 dX0_goesBy_50 rfl ?_
  refine x_get (v := .ref (ad 100)) G 0 (by decide) rfl q787 rfl dX0_goesBy_51 ?_
  refine v_iload_n G 2 dX0_goesBy_54 rfl ?_
  refine x_fald G (p) rfl (show p < n_ ((mset σ 9 (((2 * c) + 1) - r) (if ((σ.1 9 (((2 * c) + 1) - r)) + v) < 999 then ((σ.1 9 (((2 * c) + 1) - r)) + v) else 999)).1 11 0) from (by rw [show (mset σ 9 (((2 * c) + 1) - r) (if ((σ.1 9 (((2 * c) + 1) - r)) + v) < 999 then ((σ.1 9 (((2 * c) + 1) - r)) + v) else 999)).1 11 0 = σ.1 11 0 from rfl]; exact (show p < s_many (co σ) by omega))) (by omega) dX0_goesBy_55 ?_
  refine x_lg (v := σ.1 10 (5 * p + 1)) G 1 p (by decide) (show p < n_ ((mset σ 9 (((2 * c) + 1) - r) (if ((σ.1 9 (((2 * c) + 1) - r)) + v) < 999 then ((σ.1 9 (((2 * c) + 1) - r)) + v) else 999)).1 11 0) from (by rw [show (mset σ 9 (((2 * c) + 1) - r) (if ((σ.1 9 (((2 * c) + 1) - r)) + v) < 999 then ((σ.1 9 (((2 * c) + 1) - r)) + v) else 999)).1 11 0 = σ.1 11 0 from rfl]; exact (show p < s_many (co σ) by omega))) (kd_ne (by decide) (kd_of hO (by omega))) (rfl) q196 dX0_goesBy_56 ?_
  refine v_imul G dX0_goesBy_59 ?_
  refine v_iload_n G 3 dX0_goesBy_60 rfl ?_
  refine v_iadd G dX0_goesBy_61 ?_
  refine x_iald G 8 rfl ((2 * c) + r) (ix_add (ix_mul (ix_lit 2 rfl) ec) rfl) (show (2 * c) + r < 24 by first | omega | assumption | decide) dX0_goesBy_62 ?_
  refine v_topr (congrArg Value.int (show (mset σ 9 (((2 * c) + 1) - r) (if ((σ.1 9 (((2 * c) + 1) - r)) + v) < 999 then ((σ.1 9 (((2 * c) + 1) - r)) + v) else 999)).1 8 ((2 * c) + r) = σ.1 8 ((2 * c) + r) from rfl)) ?_
  refine x_lp G 1 p (by decide) (show p < n_ ((mset σ 9 (((2 * c) + 1) - r) (if ((σ.1 9 (((2 * c) + 1) - r)) + v) < 999 then ((σ.1 9 (((2 * c) + 1) - r)) + v) else 999)).1 11 0) from (by rw [show (mset σ 9 (((2 * c) + 1) - r) (if ((σ.1 9 (((2 * c) + 1) - r)) + v) < 999 then ((σ.1 9 (((2 * c) + 1) - r)) + v) else 999)).1 11 0 = σ.1 11 0 from rfl]; exact (show p < s_many (co σ) by omega))) (kd_ne (by decide) (kd_of hO (by omega))) q196 dX0_goesBy_63 ?_
  refine RET _ _ _ _ _ (Nat.le_of_ble_eq_true rfl) (Nat.le_of_ble_eq_true rfl) dX0_goesBy_66 (fun ws hws => ⟨_, hws, ?_⟩)
  clear RET G hT hnm
  obtain ⟨w, hw, ew⟩ := hO.1.2.2.2 (2 * c + 1 - r) (by omega)
  have ew : σ.1 9 (2 * c + 1 - r) = nI w := ew
  obtain ⟨v2, hv2, ev2⟩ := puts_nI (K := co σ) (p := p)
  refine ⟨?_, ag_tr (ag_set (by decide)) (ag_set (by decide))⟩
  rw [co_set (by decide), co_set (by decide)]
  unfold s_gb
  rw [esc, show co σ 9 (2 * c + 1 - r) = nI w from ew, ev2, ew, hv, ev2, min_clamp hw hv2]
  rfl
abbrev rmX0_passes : Room := { frames := 404, cells := 0, slots := 0, locals := 17046 }
set_option maxHeartbeats 1000000 in
theorem kX0_passes {KT : (Nat → Prop) → State → Heap → Prop} (hK : KTx KT) (l : Launch) (dC : Nat → ClassId) (dI : Nat → Nat → Nat) (ct ad : Nat → Nat) (F : List (Nat × va_E)) (σ : MS) (tn : Int32) (o : Nat → Nat) (hO : Ok (co σ)) (ho : ∀ q, q < 5 → o q = if nI q = tn then 1 else 0) : MC KT (dC, dI) vwCl (tysF ct) l yX0_passes cX0_passes 5 none rmX0_passes [.ref (ad 0), .int tn] (RX ct ad F σ) (QV_ (dC, dI) vwCl (RX ct ad F) (fun (σ' : MS) => co σ' = s_pass (co σ) o ∧ ag pfs σ σ')) := by
  refine MC.ofV (own := RX0) pl_X0 rfl (Nat.le_of_ble_eq_true rfl) ?_
  intro pp ee ss mm aa bb hh cc AA QQ G hT hnm RET
  refine v_loc (L' := [(0, .ref (ad 0)), (1, .int tn)]) rfl ?_
  obtain ⟨hm5, hm⟩ := many5 hO.1
  have hm : σ.1 11 0 = nI (s_many (co σ)) := hm
  refine v_iconst (v := 0) G dX0_passes_0 rfl ?_
  refine v_istore_n (L' := [(2, .int 0), (0, .ref (ad 0)), (1, .int tn)]) G dX0_passes_1 (by decide) rfl ?_
  have loop2 : ∀ (dd : Nat) (q : Nat) (τ : MS), (q ≤ s_many (co σ)) → (co τ = s_passN (co σ) o q) → (ag gfr σ τ) → s_many (co σ) - q < dd → V_ pp l ee rmX0_passes ss mm aa bb hh cc 5 (dC, dI) vwCl AA QQ 0 0 (RX ct ad F τ) 2 [(2, .int (nI q)), (1, .int tn), (0, .ref (ad 0))] [] := by
    intro dd
    induction dd with
    | zero => intro q τ hq hc ha hdd; exact absurd hdd (Nat.not_lt_zero _)
    | succ dd ih2 =>
      intro q τ hq hc ha hdd
      refine v_iload_n G 0 dX0_passes_2 rfl ?_
      refine v_aload_n G 2 dX0_passes_3 rfl ?_
      refine x_get (v := .int (τ.1 11 0)) G 1 (by decide) rfl q788 rfl dX0_passes_4 ?_
      refine v_topr (congrArg Value.int (show τ.1 11 0 = σ.1 11 0 from (show τ.1 11 0 = σ.1 11 0 from ag_at ha (by decide)))) ?_
      refine v_icmp_ge (tgt := 48) G dX0_passes_7 (by decide) (fun h7 => ?_) (fun h7 => ?_)
      · have n7 := (cmp_le (x := σ.1 11 0) (y := nI q) (a := s_many (co σ)) (b := q) hm rfl (by omega) (by omega)).mp h7
        refine v_aload_n G 2 dX0_passes_48 rfl ?_
        refine v_dup G dX0_passes_49 rfl ?_
        refine x_get (v := .int (τ.1 7 0)) G 2 (by decide) rfl q790 rfl dX0_passes_50 ?_
        refine v_topr (congrArg Value.int (show τ.1 7 0 = σ.1 7 0 from (show τ.1 7 0 = σ.1 7 0 from ag_at ha (by decide)))) ?_
        refine v_iconst (v := 1) G dX0_passes_53 rfl ?_
        refine v_iadd G dX0_passes_54 ?_
        refine x_putI G 2 7 (by decide) (by decide) rfl q790 rfl rfl rfl dX0_passes_55 ?_
        refine RET _ _ _ _ _ (Nat.le_of_ble_eq_true rfl) (Nat.le_of_ble_eq_true rfl) dX0_passes_58 (fun ws hws => ⟨_, hws, ?_⟩)
        clear RET G hT hnm
        have hco := hc
        rw [show q = s_many (co σ) by omega] at hco
        have e7 : τ.1 7 0 = co σ 7 0 := ag_at ha (by decide)
        refine ⟨?_, ag_tr (ag_mono ha (by decide)) (ag_set (by decide))⟩
        rw [co_set (by decide), hco]
        rfl
      · have n7 := (not_congr (cmp_le (x := σ.1 11 0) (y := nI q) (a := s_many (co σ)) (b := q) hm rfl (by omega) (by omega))).mp h7
        have hmq : s_many (s_passN (co σ) o q) = s_many (co σ) := by rw [s_many, s_passN_k (by decide) (by decide)]
        have hmt : s_many (co τ) = s_many (co σ) := by rw [hc, hmq]
        refine v_aload_n G 2 dX0_passes_10 rfl ?_
        refine v_iload_n G 0 dX0_passes_11 rfl ?_
        refine w_callVi G hK.1 hT (kX0_takesOf hK l dC dI ct ad F τ q (by rw [hc]; exact (ok_passN hO (by omega))) (by rw [show co τ = s_passN (co σ) o q from hc, hmq]; omega)) (ck_X0_117 G.2.2.2.2.1 ⟨Nat.le_of_ble_eq_true rfl, Nat.le_of_ble_eq_true rfl⟩) x_recv (fun _ h => h) rfl [] rfl (Nat.le_of_ble_eq_true rfl) dX0_passes_12 ⟨Nat.le_of_ble_eq_true rfl, Nat.le_of_ble_eq_true rfl⟩ (k1 := 0) (n1 := 0) rfl rfl ?_
        rintro r12 σ12 ⟨rfl, h12_a⟩
        refine v_topr (congrArg Value.int (show s_road (co τ) q = s_road (s_passN (co σ) o q) q from by rw [hc])) ?_
        refine v_istore_n (L' := [(3, .int (s_road (s_passN (co σ) o q) q)), (2, .int (nI q)), (1, .int tn), (0, .ref (ad 0))]) G dX0_passes_15 (by decide) rfl ?_
        refine v_aload_n G 3 dX0_passes_16 rfl ?_
        refine v_iload_n G 1 dX0_passes_17 rfl ?_
        refine w_callVi G hK.1 hT (kX0_putsOf hK l dC dI ct ad F σ12 q (by rw [((ag_co h12_a (by decide)).trans hc)]; exact (ok_passN hO (by omega))) (by rw [show co σ12 = s_passN (co σ) o q from ((ag_co h12_a (by decide)).trans hc), hmq]; omega)) (ck_X0_120 G.2.2.2.2.1 ⟨Nat.le_of_ble_eq_true rfl, Nat.le_of_ble_eq_true rfl⟩) x_recv (fun _ h => h) rfl [] rfl (Nat.le_of_ble_eq_true rfl) dX0_passes_18 ⟨Nat.le_of_ble_eq_true rfl, Nat.le_of_ble_eq_true rfl⟩ (k1 := 0) (n1 := 0) rfl rfl ?_
        rintro r18 σ18 ⟨rfl, h18_a⟩
        refine v_topr (congrArg Value.int (show s_puts (co σ12) q = s_puts (s_passN (co σ) o q) q from by rw [((ag_co h12_a (by decide)).trans hc)])) ?_
        refine v_istore (L' := [(4, .int (s_puts (s_passN (co σ) o q) q)), (3, .int (s_road (s_passN (co σ) o q) q)), (2, .int (nI q)), (1, .int tn), (0, .ref (ad 0))]) G dX0_passes_21 (by decide) rfl ?_
        refine v_aload_n G 4 dX0_passes_23 rfl ?_
        refine v_iload_n G 2 dX0_passes_24 rfl ?_
        refine v_iload_n G 2 dX0_passes_25 rfl ?_
        refine v_iload_n G 3 dX0_passes_26 rfl ?_
        refine v_icmp_ne (tgt := 36) G dX0_passes_27 (by decide) (fun h27 => ?_) (fun h27 => ?_)
        · refine v_iload_n G 1 dX0_passes_36 rfl ?_
          refine v_iload G 0 dX0_passes_37 rfl ?_
          have hnq : nowOk (s_passN (co σ) o q) := (ok_passN hO (by omega)).1
          have hoq := ho q (by omega)
          have hrn : s_road (s_passN (co σ) o q) q = nI (s_rn (s_passN (co σ) o q) q (o q)) := by
            first
              | exact (rn_pass hnq (by omega)).2 (by rw [hoq, if_pos (by first | exact h27 | exact (cmp_eq rfl rfl (by omega) (by omega)).mpr n27)])
              | exact (rn_pass hnq (by omega)).1 (by rw [hoq, if_neg (by first | exact h27)])
          refine v_stk (st' := [.int (s_puts (s_passN (co σ) o q) q), .int (nI (s_rn (s_passN (co σ) o q) q (o q))), .int (nI q), .ref (ad 0)]) (by first | rfl | (have e0 : (s_road (s_passN (co σ) o q) q) = nI (s_rn (s_passN (co σ) o q) q (o q)) := hrn ; simp only [e0])) ?_
          refine w_callVv G hK.1 hT (kX0_goesBy hK l dC dI ct ad F σ18 q (s_rn (s_passN (co σ) o q) q (o q)) (s_puts (s_passN (co σ) o q) q) (by rw [((ag_co h18_a (by decide)).trans ((ag_co h12_a (by decide)).trans hc))]; exact (ok_passN hO (by omega))) (by rw [show co σ18 = s_passN (co σ) o q from ((ag_co h18_a (by decide)).trans ((ag_co h12_a (by decide)).trans hc)), hmq]; omega) s_rn1 (by rw [show co σ18 = s_passN (co σ) o q from ((ag_co h18_a (by decide)).trans ((ag_co h12_a (by decide)).trans hc))])) (ck_X0_376 G.2.2.2.2.1 ⟨Nat.le_of_ble_eq_true rfl, Nat.le_of_ble_eq_true rfl⟩) x_recv (fun _ h => h) rfl [] rfl (Nat.le_of_ble_eq_true rfl) dX0_passes_39 ⟨Nat.le_of_ble_eq_true rfl, Nat.le_of_ble_eq_true rfl⟩ (k1 := 0) (n1 := 0) rfl rfl ?_
          rintro σ39 ⟨h39_c, h39_a⟩
          refine v_iinc (v := nI (q + 1)) (L' := [(2, .int (nI (q + 1))), (4, .int (s_puts (s_passN (co σ) o q) q)), (3, .int (s_road (s_passN (co σ) o q) q)), (1, .int tn), (0, .ref (ad 0))]) G 2 dX0_passes_42 rfl (ix_add rfl (ix_lit 1 rfl)) (by decide) rfl ?_
          refine v_goto (tgt := 2) G dX0_passes_45 (by decide) ?_
          refine V_.sub (L' := [(2, .int (nI (q + 1))), (1, .int tn), (0, .ref (ad 0))]) ?_ [0, 3, 4] rfl
          exact ih2  (q + 1) σ39 (by omega) (show co σ39 = s_goes (s_passN (co σ) o q) q (o q) from (h39_c.trans (by rw [show co σ18 = s_passN (co σ) o q from (ag_co h18_a (by decide)).trans ((ag_co h12_a (by decide)).trans hc), s_gb_goes]))) (ag_tr ha (ag_tr (ag_mono h12_a (by decide)) (ag_tr (ag_mono h18_a (by decide)) (ag_mono h39_a (by decide))))) (by omega)
        · refine v_iconst (v := 1) G dX0_passes_30 rfl ?_
          refine v_iload_n G 1 dX0_passes_31 rfl ?_
          refine v_isub G dX0_passes_32 ?_
          refine v_goto (tgt := 37) G dX0_passes_33 (by decide) ?_
          refine v_iload G 0 dX0_passes_37 rfl ?_
          have hnq : nowOk (s_passN (co σ) o q) := (ok_passN hO (by omega)).1
          have hoq := ho q (by omega)
          have hrn : 1 - (s_road (s_passN (co σ) o q) q) = nI (s_rn (s_passN (co σ) o q) q (o q)) := by
            first
              | exact (rn_pass hnq (by omega)).2 (by rw [hoq, if_pos (by first | exact h27 | exact (cmp_eq rfl rfl (by omega) (by omega)).mpr n27)])
              | exact (rn_pass hnq (by omega)).1 (by rw [hoq, if_neg (by first | exact h27)])
          refine v_stk (st' := [.int (s_puts (s_passN (co σ) o q) q), .int (nI (s_rn (s_passN (co σ) o q) q (o q))), .int (nI q), .ref (ad 0)]) (by first | rfl | (have e0 : (1 - (s_road (s_passN (co σ) o q) q)) = nI (s_rn (s_passN (co σ) o q) q (o q)) := hrn ; simp only [e0])) ?_
          refine w_callVv G hK.1 hT (kX0_goesBy hK l dC dI ct ad F σ18 q (s_rn (s_passN (co σ) o q) q (o q)) (s_puts (s_passN (co σ) o q) q) (by rw [((ag_co h18_a (by decide)).trans ((ag_co h12_a (by decide)).trans hc))]; exact (ok_passN hO (by omega))) (by rw [show co σ18 = s_passN (co σ) o q from ((ag_co h18_a (by decide)).trans ((ag_co h12_a (by decide)).trans hc)), hmq]; omega) s_rn1 (by rw [show co σ18 = s_passN (co σ) o q from ((ag_co h18_a (by decide)).trans ((ag_co h12_a (by decide)).trans hc))])) (ck_X0_376 G.2.2.2.2.1 ⟨Nat.le_of_ble_eq_true rfl, Nat.le_of_ble_eq_true rfl⟩) x_recv (fun _ h => h) rfl [] rfl (Nat.le_of_ble_eq_true rfl) dX0_passes_39 ⟨Nat.le_of_ble_eq_true rfl, Nat.le_of_ble_eq_true rfl⟩ (k1 := 0) (n1 := 0) rfl rfl ?_
          rintro σ39 ⟨h39_c, h39_a⟩
          refine v_iinc (v := nI (q + 1)) (L' := [(2, .int (nI (q + 1))), (4, .int (s_puts (s_passN (co σ) o q) q)), (3, .int (s_road (s_passN (co σ) o q) q)), (1, .int tn), (0, .ref (ad 0))]) G 2 dX0_passes_42 rfl (ix_add rfl (ix_lit 1 rfl)) (by decide) rfl ?_
          refine v_goto (tgt := 2) G dX0_passes_45 (by decide) ?_
          refine V_.sub (L' := [(2, .int (nI (q + 1))), (1, .int tn), (0, .ref (ad 0))]) ?_ [0, 3, 4] rfl
          exact ih2  (q + 1) σ39 (by omega) (show co σ39 = s_goes (s_passN (co σ) o q) q (o q) from (h39_c.trans (by rw [show co σ18 = s_passN (co σ) o q from (ag_co h18_a (by decide)).trans ((ag_co h12_a (by decide)).trans hc), s_gb_goes]))) (ag_tr ha (ag_tr (ag_mono h12_a (by decide)) (ag_tr (ag_mono h18_a (by decide)) (ag_mono h39_a (by decide))))) (by omega)
  refine V_.sub (L' := [(2, .int 0), (1, .int tn), (0, .ref (ad 0))]) ?_ [0, 2, 1] rfl
  refine v_loc (L' := [(2, .int (nI 0)), (1, .int tn), (0, .ref (ad 0))]) (rfl) ?_
  exact loop2 _ 0 σ (Nat.zero_le _) rfl ag_rf (Nat.lt_succ_self _)
