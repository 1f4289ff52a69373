set_option maxRecDepth 100000
theorem v_pure {p : Program} {l : Launch} {e : Env} {R : Room} {s : State} {m : MethodId} {args : Array Value} {below : List Frame} {meth : Method} {c : Code} {nL : Nat} {D : va_G} {cl : List vw_C} {A : Nat → Prop} {Q : State → Prop} {cells slots : Nat} {Φ : va_W → Prop} {pc : Nat} {L : List (Nat × Value)} {st : List Value} {P : Prop} (h : ∀ ws, Φ ws → P) (k : P → V_ p l e R s m args below meth c nL D cl A Q cells slots Φ pc L st) : V_ p l e R s m args below meth c nL D cl A Q cells slots Φ pc L st := fun ls H locs ws h1 h2 h3 h4 h5 => k (h ws h5) ls H locs ws h1 h2 h3 h4 h5
abbrev rmX0_says : Room := { frames := 402, cells := 0, slots := 0, locals := 17000 }
set_option maxHeartbeats 1000000 in
theorem kX0_says {KT : (Nat → Prop) → State → Heap → Prop} (hK : KTx KT) (l : Launch) (dC : Nat → ClassId) (dI : Nat → Nat → Nat) (ct ad : Nat → Nat) (F : List (Nat × va_E)) (σ : MS) (w : Nat) (p : Nat) (jar : Int32) (hO : Ok (co σ)) (hw : w ≤ 2) (hp : p < s_many (co σ)) : MC KT (dC, dI) vwCl (tysF ct) l yX0_says cX0_says 4 (some .int) rmX0_says [.ref (ad 0), .int (nI w), .int (nI p), .int jar] (RX ct ad F σ) (QI_ (dC, dI) vwCl (RX ct ad F) (fun (r : Int32) (σ' : MS) => (s_says (co σ) w p jar) = r ∧ ag sfr σ σ')) := by
  refine MC.ofI (own := RX0) pl_X0 rfl (Nat.le_of_ble_eq_true rfl) ?_
  intro pp ee ss mm aa bb hh cc AA QQ G hT hnm RET
  refine v_loc (L' := [(0, .ref (ad 0)), (1, .int (nI w)), (2, .int (nI p)), (3, .int jar)]) rfl ?_
  obtain ⟨t, nt_, ht6, hnt6, et, etn, en_, enn_, hbr, -⟩ := ok_rule hO
  have et : σ.1 4 0 = nI t := et
  obtain ⟨m3, hm3, e3, en3⟩ := texts3 hO
  have htm : t < n_ (σ.1 3 0) := by
    obtain ⟨-, ⟨m, hm, em, -, ⟨r, hr, er⟩, -⟩, -⟩ := hO
    have h1 : n_ (σ.1 3 0) = m := by rw [show σ.1 3 0 = nI m from em]; exact nI_clamp (by omega)
    have h2 : nI t = nI r := et.symm.trans er
    have h3 : t = r := nI_inj (by omega) (by omega) h2
    omega
  refine v_pure (fun ws h => h.2.2.2.2) (fun htx => ?_)
  obtain ⟨g, hg, hN⟩ := htx t htm
  refine v_aload_n G 0 dX0_says_0 rfl ?_
  refine v_iload_n G 2 dX0_says_1 rfl ?_
  refine x_putI G 6 12 (by decide) (by decide) rfl q795 rfl rfl rfl dX0_says_2 ?_
  refine v_aload_n G 0 dX0_says_5 rfl ?_
  refine v_iload_n G 3 dX0_says_6 rfl ?_
  refine x_putI G 7 13 (by decide) (by decide) rfl q797 rfl rfl rfl dX0_says_7 ?_
  refine v_aload_n G 0 dX0_says_10 rfl ?_
  refine x_get (v := .ref (ad 101)) G 8 (by decide) rfl q798 rfl dX0_says_11 ?_
  refine v_aload_n G 0 dX0_says_14 rfl ?_
  refine x_get (v := .int (σ.1 4 0)) G 20 (by decide) rfl q810 rfl dX0_says_15 ?_
  refine x_tald G t et (show t < n_ ((mset (mset σ 12 0 (nI p)) 13 0 jar).1 3 0) by simp [mset, upd2]; exact htm) (by omega) dX0_says_18 ?_
  refine v_iload_n G 1 dX0_says_19 rfl ?_
  obtain ⟨i1, i2⟩ := ix_in (i := nI w) rfl (show w < 3 by omega) (by decide)
  refine w_aldq (cA := ct 7) (r := some (g w)) G 7 rfl (fun ws h => ⟨_, (h.2.2.2.1 _ hg).1, (by rw [i2]; exact if_pos (by omega))⟩) i1 dX0_says_20 ?_
  have hcm : co (mset (mset σ 12 0 (nI p)) 13 0 jar) = co σ := (co_scr (by decide)).trans (co_scr (by decide))
  have hsem : x_env (mset (mset σ 12 0 (nI p)) 13 0 jar) p = s_env (co σ) p jar := by show s_env (co (mset (mset σ 12 0 (nI p)) 13 0 jar)) p ((mset (mset σ 12 0 (nI p)) 13 0 jar).1 13 0) = _; rw [hcm, mset_eq]
  refine x_vworth (f := p_sem (fun i => σ.1 1 (160 * t + i)) (n_ (σ.1 2 t)) w) G hK hT q340 (WC_of hK l dC dI ct ad F 400 (g w) _ (hN w (by omega))) (q := p) (by rw [hcm]; exact hO) (by simp [mset, upd2]) (by rw [hcm]; exact hp) dX0_says_21 (Nat.le_of_ble_eq_true rfl) (Nat.le_of_ble_eq_true rfl) (Nat.le_of_ble_eq_true rfl) ⟨Nat.le_of_ble_eq_true rfl, Nat.le_of_ble_eq_true rfl⟩ ?_
  refine v_topr (congrArg Value.int (show p_sem (fun i => σ.1 1 (160 * t + i)) (n_ (σ.1 2 t)) w (x_env (mset (mset σ 12 0 (nI p)) 13 0 jar) p) = s_sem (co σ) t w (s_env (co σ) p jar) from (by rw [hsem]; rfl))) ?_
  refine v_iload_n G 1 dX0_says_24 rfl ?_
  refine v_iconst (v := 1) G dX0_says_25 rfl ?_
  refine v_icmp_ne (tgt := 33) G dX0_says_26 (by decide) (fun h26 => ?_) (fun h26 => ?_)
  · have n26 := (not_congr (cmp_eq (x := nI w) (y := 1) (a := w) (b := 1) rfl (ix_lit 1 rfl) (by omega) (by omega))).mp h26
    refine v_bipush (v := (-99)) G dX0_says_33 rfl ?_
    refine v_bipush (v := 99) G dX0_says_35 rfl ?_
    refine w_callSi G hK.1 hT (kX0_held hK.1 l dC dI ct ad F (mset (mset σ 12 0 (nI p)) 13 0 jar) (s_sem (co σ) t w (s_env (co σ) p jar)) (-99) 99 (by decide)) (ck_X0_358 G.2.2.2.2.1 ⟨Nat.le_of_ble_eq_true rfl, Nat.le_of_ble_eq_true rfl⟩) (fun _ h => h) rfl [] rfl (Nat.le_of_ble_eq_true rfl) dX0_says_37 ⟨Nat.le_of_ble_eq_true rfl, Nat.le_of_ble_eq_true rfl⟩ (k1 := 0) (n1 := 0) rfl rfl ?_
    rintro r37 σ37 ⟨rfl, rfl⟩
    refine RET _ _ _ _ _ _ rfl (Nat.le_of_ble_eq_true rfl) (Nat.le_of_ble_eq_true rfl) dX0_says_40 (fun ws hws => ⟨_, hws, ?_⟩)
    clear RET G hT hnm
    refine ⟨?_, ag_tr (ag_set (by decide)) (ag_set (by decide))⟩
    rw [s_says, etn]
    first
      | (rw [if_pos n26])
      | (rw [if_neg n26])
  · have n26 := (cmp_eq (x := nI w) (y := 1) (a := w) (b := 1) rfl (ix_lit 1 rfl) (by omega) (by omega)).mp h26
    refine v_iconst (v := 0) G dX0_says_29 rfl ?_
    refine v_goto (tgt := 35) G dX0_says_30 (by decide) ?_
    refine v_bipush (v := 99) G dX0_says_35 rfl ?_
    refine w_callSi G hK.1 hT (kX0_held hK.1 l dC dI ct ad F (mset (mset σ 12 0 (nI p)) 13 0 jar) (s_sem (co σ) t w (s_env (co σ) p jar)) 0 99 (by decide)) (ck_X0_358 G.2.2.2.2.1 ⟨Nat.le_of_ble_eq_true rfl, Nat.le_of_ble_eq_true rfl⟩) (fun _ h => h) rfl [] rfl (Nat.le_of_ble_eq_true rfl) dX0_says_37 ⟨Nat.le_of_ble_eq_true rfl, Nat.le_of_ble_eq_true rfl⟩ (k1 := 0) (n1 := 0) rfl rfl ?_
    rintro r37 σ37 ⟨rfl, rfl⟩
    refine RET _ _ _ _ _ _ rfl (Nat.le_of_ble_eq_true rfl) (Nat.le_of_ble_eq_true rfl) dX0_says_40 (fun ws hws => ⟨_, hws, ?_⟩)
    clear RET G hT hnm
    refine ⟨?_, ag_tr (ag_set (by decide)) (ag_set (by decide))⟩
    rw [s_says, etn]
    first
      | (rw [if_pos n26])
      | (rw [if_neg n26])
abbrev rmX0_takesOf : Room := { frames := 403, cells := 0, slots := 0, locals := 17023 }
set_option maxHeartbeats 1000000 in
theorem kX0_takesOf {KT : (Nat → Prop) → State → Heap → Prop} (hK : KTx KT) (l : Launch) (dC : Nat → ClassId) (dI : Nat → Nat → Nat) (ct ad : Nat → Nat) (F : List (Nat × va_E)) (σ : MS) (p : Nat) (hO : Ok (co σ)) (hp : p < s_many (co σ)) : MC KT (dC, dI) vwCl (tysF ct) l yX0_takesOf cX0_takesOf 4 (some .int) rmX0_takesOf [.ref (ad 0), .int (nI p)] (RX ct ad F σ) (QI_ (dC, dI) vwCl (RX ct ad F) (fun (r : Int32) (σ' : MS) => (s_road (co σ) p) = r ∧ ag sfr σ σ')) := by
  refine MC.ofI (own := RX0) pl_X0 rfl (Nat.le_of_ble_eq_true rfl) ?_
  intro pp ee ss mm aa bb hh cc AA QQ G hT hnm RET
  refine v_loc (L' := [(0, .ref (ad 0)), (1, .int (nI p))]) rfl ?_
  have hm5 := (many5 hO.1).1
  have hp5 : p < 5 := by omega
  obtain ⟨⟨vn, hvn, evn⟩, ⟨c, hc, ec⟩, hmood, ⟨ve, hve, eve⟩, vk, hvk, evk⟩ := hO.1.2.1 p hp5
  have evn : σ.1 10 (5 * p) = nI vn := evn
  have ec : σ.1 10 (5 * p + 1) = nI c := ec
  have eve : σ.1 10 (5 * p + 3) = nI ve := eve
  have evk : σ.1 10 (5 * p + 4) = nI vk := evk
  have esc : s_c (co σ) p = c := by rw [s_c, cq10, ec]; exact nI_clamp (by omega)
  refine v_aload_n G 0 dX0_takesOf_0 rfl ?_
  refine x_get (v := .ref (ad 9)) G 4 (by decide) rfl q792 rfl dX0_takesOf_1 ?_
  refine v_iconst (v := 2) G dX0_takesOf_4 rfl ?_
  refine v_aload_n G 0 dX0_takesOf_5 rfl ?_
  refine x_get (v := .ref (ad 100)) G 0 (by decide) rfl q787 rfl dX0_takesOf_6 ?_
  refine v_iload_n G 1 dX0_takesOf_9 rfl ?_
  refine x_fald G (p) rfl (show p < n_ (σ.1 11 0) from (by exact (show p < s_many (co σ) by omega))) (by omega) dX0_takesOf_10 ?_
  refine x_lg (v := σ.1 10 (5 * p + 1)) G 1 p (by decide) (show p < n_ (σ.1 11 0) from (by exact (show p < s_many (co σ) by omega))) (kd_of hO (by omega)) (rfl) q196 dX0_takesOf_11 ?_
  refine v_imul G dX0_takesOf_14 ?_
  refine x_iald G 9 rfl (2 * c) (ix_mul (ix_lit 2 rfl) ec) (show 2 * c < 24 by first | omega | assumption | decide) dX0_takesOf_15 ?_
  refine v_istore_n (L' := [(2, .int (σ.1 9 (2 * c))), (0, .ref (ad 0)), (1, .int (nI p))]) G dX0_takesOf_16 (by decide) rfl ?_
  refine v_aload_n G 1 dX0_takesOf_17 rfl ?_
  refine x_get (v := .ref (ad 9)) G 4 (by decide) rfl q792 rfl dX0_takesOf_18 ?_
  refine v_iconst (v := 2) G dX0_takesOf_21 rfl ?_
  refine v_aload_n G 1 dX0_takesOf_22 rfl ?_
  refine x_get (v := .ref (ad 100)) G 0 (by decide) rfl q787 rfl dX0_takesOf_23 ?_
  refine v_iload_n G 2 dX0_takesOf_26 rfl ?_
  refine x_fald G (p) rfl (show p < n_ (σ.1 11 0) from (by exact (show p < s_many (co σ) by omega))) (by omega) dX0_takesOf_27 ?_
  refine x_lg (v := σ.1 10 (5 * p + 1)) G 1 p (by decide) (show p < n_ (σ.1 11 0) from (by exact (show p < s_many (co σ) by omega))) (kd_of hO (by omega)) (rfl) q196 dX0_takesOf_28 ?_
  refine v_imul G dX0_takesOf_31 ?_
  refine v_iconst (v := 1) G dX0_takesOf_32 rfl ?_
  refine v_iadd G dX0_takesOf_33 ?_
  refine x_iald G 9 rfl ((2 * c) + 1) (ix_add (ix_mul (ix_lit 2 rfl) ec) (ix_lit 1 rfl)) (show (2 * c) + 1 < 24 by first | omega | assumption | decide) dX0_takesOf_34 ?_
  refine v_istore_n (L' := [(3, .int (σ.1 9 ((2 * c) + 1))), (2, .int (σ.1 9 (2 * c))), (0, .ref (ad 0)), (1, .int (nI p))]) G dX0_takesOf_35 (by decide) rfl ?_
  refine v_aload_n G 2 dX0_takesOf_36 rfl ?_
  refine x_get (v := .ref (ad 100)) G 0 (by decide) rfl q787 rfl dX0_takesOf_37 ?_
  refine v_iload_n G 3 dX0_takesOf_40 rfl ?_
  refine x_fald G (p) rfl (show p < n_ (σ.1 11 0) from (by exact (show p < s_many (co σ) by omega))) (by omega) dX0_takesOf_41 ?_
  refine v_aload_n G 2 dX0_takesOf_42 rfl ?_
  refine v_iconst (v := 0) G dX0_takesOf_43 rfl ?_
  refine v_iload_n G 3 dX0_takesOf_44 rfl ?_
  refine v_iload_n G 1 dX0_takesOf_45 rfl ?_
  refine v_iload_n G 0 dX0_takesOf_46 rfl ?_
  refine v_iadd G dX0_takesOf_47 ?_
  refine v_stk (st' := [.int ((σ.1 9 (2 * c)) + (σ.1 9 ((2 * c) + 1))), .int (nI p), .int (nI 0), .ref (ad 0), .ref (ad (150 + p))]) (by first | rfl | (have e0 : 0 = nI 0 := (ix_lit 0 rfl) ; simp only [e0])) ?_
  refine w_callVi G hK.1 hT (kX0_says hK l dC dI ct ad F σ 0 p ((σ.1 9 (2 * c)) + (σ.1 9 ((2 * c) + 1))) hO (by first | assumption | omega) (by first | assumption | omega)) (ck_X0_362 G.2.2.2.2.1 ⟨Nat.le_of_ble_eq_true rfl, Nat.le_of_ble_eq_true rfl⟩) x_recv (fun _ h => h) rfl [.ref (ad (150 + p))] rfl (Nat.le_of_ble_eq_true rfl) dX0_takesOf_48 ⟨Nat.le_of_ble_eq_true rfl, Nat.le_of_ble_eq_true rfl⟩ (k1 := 0) (n1 := 0) rfl rfl ?_
  rintro r48 σ48 ⟨rfl, h48_a⟩
  refine v_iload_n G 1 dX0_takesOf_51 rfl ?_
  refine v_iload_n G 0 dX0_takesOf_52 rfl ?_
  refine v_aload_n G 2 dX0_takesOf_53 rfl ?_
  refine x_get (v := .int (σ48.1 7 0)) G 2 (by decide) rfl q790 rfl dX0_takesOf_54 ?_
  refine v_topr (congrArg Value.int (show σ48.1 7 0 = σ.1 7 0 from (show σ48.1 7 0 = σ.1 7 0 from ag_at h48_a (by decide)))) ?_
  refine x_vtakes G hK.1 hT p (s_says (co σ) 0 p ((σ.1 9 (2 * c)) + (σ.1 9 ((2 * c) + 1)))) (σ.1 9 (2 * c)) (σ.1 9 ((2 * c) + 1)) (σ.1 7 0) (show p < n_ (σ48.1 11 0) from (by rw [show σ48.1 11 0 = σ.1 11 0 from (show σ48.1 11 0 = σ.1 11 0 from ag_at h48_a (by decide))]; exact (show p < s_many (co σ) by omega))) (kd_of (show Ok (co σ48) by rw [show co σ48 = (co σ) from (ag_co h48_a (by decide))]; exact hO) (by omega)) (Nat.le_of_ble_eq_true rfl) dX0_takesOf_57 (Nat.le_of_ble_eq_true rfl) (Nat.le_of_ble_eq_true rfl) ⟨Nat.le_of_ble_eq_true rfl, Nat.le_of_ble_eq_true rfl⟩ ?_
  refine RET _ _ _ _ _ _ rfl (Nat.le_of_ble_eq_true rfl) (Nat.le_of_ble_eq_true rfl) dX0_takesOf_60 (fun ws hws => ⟨_, hws, ?_⟩)
  clear RET G hT hnm
  refine ⟨?_, h48_a⟩
  have hc48 : co σ48 = co σ := ag_co h48_a (by decide)
  rw [hc48]
  unfold x_tk s_road s_eng s_way s_jar2
  rw [esc]
  rfl
abbrev rmX0_putsOf : Room := { frames := 403, cells := 0, slots := 0, locals := 17023 }
set_option maxHeartbeats 1000000 in
theorem kX0_putsOf {KT : (Nat → Prop) → State → Heap → Prop} (hK : KTx KT) (l : Launch) (dC : Nat → ClassId) (dI : Nat → Nat → Nat) (ct ad : Nat → Nat) (F : List (Nat × va_E)) (σ : MS) (p : Nat) (hO : Ok (co σ)) (hp : p < s_many (co σ)) : MC KT (dC, dI) vwCl (tysF ct) l yX0_putsOf cX0_putsOf 3 (some .int) rmX0_putsOf [.ref (ad 0), .int (nI p)] (RX ct ad F σ) (QI_ (dC, dI) vwCl (RX ct ad F) (fun (r : Int32) (σ' : MS) => (s_puts (co σ) p) = r ∧ ag sfr σ σ')) := by
  refine MC.ofI (own := RX0) pl_X0 rfl (Nat.le_of_ble_eq_true rfl) ?_
  intro pp ee ss mm aa bb hh cc AA QQ G hT hnm RET
  refine v_loc (L' := [(0, .ref (ad 0)), (1, .int (nI p))]) rfl ?_
  have hm5 := (many5 hO.1).1
  have hp5 : p < 5 := by omega
  obtain ⟨⟨vn, hvn, evn⟩, ⟨c, hc, ec⟩, hmood, ⟨ve, hve, eve⟩, vk, hvk, evk⟩ := hO.1.2.1 p hp5
  have evn : σ.1 10 (5 * p) = nI vn := evn
  have ec : σ.1 10 (5 * p + 1) = nI c := ec
  have eve : σ.1 10 (5 * p + 3) = nI ve := eve
  have evk : σ.1 10 (5 * p + 4) = nI vk := evk
  have esc : s_c (co σ) p = c := by rw [s_c, cq10, ec]; exact nI_clamp (by omega)
  refine v_aload_n G 0 dX0_putsOf_0 rfl ?_
  refine x_get (v := .ref (ad 9)) G 4 (by decide) rfl q792 rfl dX0_putsOf_1 ?_
  refine v_iconst (v := 2) G dX0_putsOf_4 rfl ?_
  refine v_aload_n G 0 dX0_putsOf_5 rfl ?_
  refine x_get (v := .ref (ad 100)) G 0 (by decide) rfl q787 rfl dX0_putsOf_6 ?_
  refine v_iload_n G 1 dX0_putsOf_9 rfl ?_
  refine x_fald G (p) rfl (show p < n_ (σ.1 11 0) from (by exact (show p < s_many (co σ) by omega))) (by omega) dX0_putsOf_10 ?_
  refine x_lg (v := σ.1 10 (5 * p + 1)) G 1 p (by decide) (show p < n_ (σ.1 11 0) from (by exact (show p < s_many (co σ) by omega))) (kd_of hO (by omega)) (rfl) q196 dX0_putsOf_11 ?_
  refine v_imul G dX0_putsOf_14 ?_
  refine x_iald G 9 rfl (2 * c) (ix_mul (ix_lit 2 rfl) ec) (show 2 * c < 24 by first | omega | assumption | decide) dX0_putsOf_15 ?_
  refine v_aload_n G 0 dX0_putsOf_16 rfl ?_
  refine x_get (v := .ref (ad 9)) G 4 (by decide) rfl q792 rfl dX0_putsOf_17 ?_
  refine v_iconst (v := 2) G dX0_putsOf_20 rfl ?_
  refine v_aload_n G 0 dX0_putsOf_21 rfl ?_
  refine x_get (v := .ref (ad 100)) G 0 (by decide) rfl q787 rfl dX0_putsOf_22 ?_
  refine v_iload_n G 1 dX0_putsOf_25 rfl ?_
  refine x_fald G (p) rfl (show p < n_ (σ.1 11 0) from (by exact (show p < s_many (co σ) by omega))) (by omega) dX0_putsOf_26 ?_
  refine x_lg (v := σ.1 10 (5 * p + 1)) G 1 p (by decide) (show p < n_ (σ.1 11 0) from (by exact (show p < s_many (co σ) by omega))) (kd_of hO (by omega)) (rfl) q196 dX0_putsOf_27 ?_
  refine v_imul G dX0_putsOf_30 ?_
  refine v_iconst (v := 1) G dX0_putsOf_31 rfl ?_
  refine v_iadd G dX0_putsOf_32 ?_
  refine x_iald G 9 rfl ((2 * c) + 1) (ix_add (ix_mul (ix_lit 2 rfl) ec) (ix_lit 1 rfl)) (show (2 * c) + 1 < 24 by first | omega | assumption | decide) dX0_putsOf_33 ?_
  refine v_iadd G dX0_putsOf_34 ?_
  refine v_istore_n (L' := [(2, .int ((σ.1 9 (2 * c)) + (σ.1 9 ((2 * c) + 1)))), (0, .ref (ad 0)), (1, .int (nI p))]) G dX0_putsOf_35 (by decide) rfl ?_
  refine v_aload_n G 1 dX0_putsOf_36 rfl ?_
  refine x_get (v := .ref (ad 100)) G 0 (by decide) rfl q787 rfl dX0_putsOf_37 ?_
  refine v_iload_n G 2 dX0_putsOf_40 rfl ?_
  refine x_fald G (p) rfl (show p < n_ (σ.1 11 0) from (by exact (show p < s_many (co σ) by omega))) (by omega) dX0_putsOf_41 ?_
  refine v_aload_n G 1 dX0_putsOf_42 rfl ?_
  refine v_iconst (v := 1) G dX0_putsOf_43 rfl ?_
  refine v_iload_n G 2 dX0_putsOf_44 rfl ?_
  refine v_iload_n G 0 dX0_putsOf_45 rfl ?_
  refine v_stk (st' := [.int ((σ.1 9 (2 * c)) + (σ.1 9 ((2 * c) + 1))), .int (nI p), .int (nI 1), .ref (ad 0), .ref (ad (150 + p))]) (by first | rfl | (have e0 : 1 = nI 1 := (ix_lit 1 rfl) ; simp only [e0])) ?_
  refine w_callVi G hK.1 hT (kX0_says hK l dC dI ct ad F σ 1 p ((σ.1 9 (2 * c)) + (σ.1 9 ((2 * c) + 1))) hO (by first | assumption | omega) (by first | assumption | omega)) (ck_X0_362 G.2.2.2.2.1 ⟨Nat.le_of_ble_eq_true rfl, Nat.le_of_ble_eq_true rfl⟩) x_recv (fun _ h => h) rfl [.ref (ad (150 + p))] rfl (Nat.le_of_ble_eq_true rfl) dX0_putsOf_46 ⟨Nat.le_of_ble_eq_true rfl, Nat.le_of_ble_eq_true rfl⟩ (k1 := 0) (n1 := 0) rfl rfl ?_
  rintro r46 σ46 ⟨rfl, h46_a⟩
  refine x_vputsBy G hK.1 hT p (s_says (co σ) 1 p ((σ.1 9 (2 * c)) + (σ.1 9 ((2 * c) + 1)))) (show p < n_ (σ46.1 11 0) from (by rw [show σ46.1 11 0 = σ.1 11 0 from (show σ46.1 11 0 = σ.1 11 0 from ag_at h46_a (by decide))]; exact (show p < s_many (co σ) by omega))) (kd_of (show Ok (co σ46) by rw [show co σ46 = (co σ) from (ag_co h46_a (by decide))]; exact hO) (by omega)) (Nat.le_of_ble_eq_true rfl) dX0_putsOf_49 (Nat.le_of_ble_eq_true rfl) (Nat.le_of_ble_eq_true rfl) ⟨Nat.le_of_ble_eq_true rfl, Nat.le_of_ble_eq_true rfl⟩ ?_
  refine v_iconst (v := 0) G dX0_putsOf_52 rfl ?_
  refine v_bipush (v := 99) G dX0_putsOf_53 rfl ?_
  refine w_callSi G hK.1 hT (kX0_held hK.1 l dC dI ct ad F σ46 (x_pb (co σ46) p (s_says (co σ) 1 p ((σ.1 9 (2 * c)) + (σ.1 9 ((2 * c) + 1))))) 0 99 (by decide)) (ck_X0_358 G.2.2.2.2.1 ⟨Nat.le_of_ble_eq_true rfl, Nat.le_of_ble_eq_true rfl⟩) (fun _ h => h) rfl [] rfl (Nat.le_of_ble_eq_true rfl) dX0_putsOf_55 ⟨Nat.le_of_ble_eq_true rfl, Nat.le_of_ble_eq_true rfl⟩ (k1 := 0) (n1 := 0) rfl rfl ?_
  rintro r55 σ55 ⟨rfl, rfl⟩
  refine RET _ _ _ _ _ _ rfl (Nat.le_of_ble_eq_true rfl) (Nat.le_of_ble_eq_true rfl) dX0_putsOf_58 (fun ws hws => ⟨_, hws, ?_⟩)
  clear RET G hT hnm
  refine ⟨?_, h46_a⟩
  have hc46 : co σ46 = co σ := ag_co h46_a (by decide)
  rw [hc46]
  unfold x_pb s_puts s_jar2
  rw [esc]
  by_cases h5 : co σ 10 (5 * p + 4) = 5
  · rw [if_pos h5, if_pos h5]; decide
  · rw [if_neg h5, if_neg h5]; rfl
abbrev rmX0_feelsOf : Room := { frames := 403, cells := 0, slots := 0, locals := 17023 }
set_option maxHeartbeats 1000000 in
theorem kX0_feelsOf {KT : (Nat → Prop) → State → Heap → Prop} (hK : KTx KT) (l : Launch) (dC : Nat → ClassId) (dI : Nat → Nat → Nat) (ct ad : Nat → Nat) (F : List (Nat × va_E)) (σ : MS) (p : Nat) (j : Nat) (hO : Ok (co σ)) (hp : p < s_many (co σ)) (hj : j < 24) : MC KT (dC, dI) vwCl (tysF ct) l yX0_feelsOf cX0_feelsOf 3 (some .int) rmX0_feelsOf [.ref (ad 0), .int (nI p), .int (nI j)] (RX ct ad F σ) (QI_ (dC, dI) vwCl (RX ct ad F) (fun (r : Int32) (σ' : MS) => (s_feels (co σ) p j) = r ∧ ag sfr σ σ')) := by
  refine MC.ofI (own := RX0) pl_X0 rfl (Nat.le_of_ble_eq_true rfl) ?_
  intro pp ee ss mm aa bb hh cc AA QQ G hT hnm RET
  refine v_loc (L' := [(0, .ref (ad 0)), (1, .int (nI p)), (2, .int (nI j))]) rfl ?_
  have hm5 := (many5 hO.1).1
  have hp5 : p < 5 := by omega
  obtain ⟨⟨vn, hvn, evn⟩, ⟨c, hc, ec⟩, hmood, ⟨ve, hve, eve⟩, vk, hvk, evk⟩ := hO.1.2.1 p hp5
  have evn : σ.1 10 (5 * p) = nI vn := evn
  have ec : σ.1 10 (5 * p + 1) = nI c := ec
  have eve : σ.1 10 (5 * p + 3) = nI ve := eve
  have evk : σ.1 10 (5 * p + 4) = nI vk := evk
  have esc : s_c (co σ) p = c := by rw [s_c, cq10, ec]; exact nI_clamp (by omega)
  refine v_aload_n G 0 dX0_feelsOf_0 rfl ?_
  refine x_get (v := .ref (ad 100)) G 0 (by decide) rfl q787 rfl dX0_feelsOf_1 ?_
  refine v_iload_n G 1 dX0_feelsOf_4 rfl ?_
  refine x_fald G (p) rfl (show p < n_ (σ.1 11 0) from (by exact (show p < s_many (co σ) by omega))) (by omega) dX0_feelsOf_5 ?_
  refine v_aload_n G 0 dX0_feelsOf_6 rfl ?_
  refine v_iconst (v := 2) G dX0_feelsOf_7 rfl ?_
  refine v_iload_n G 1 dX0_feelsOf_8 rfl ?_
  refine v_aload_n G 0 dX0_feelsOf_9 rfl ?_
  refine x_get (v := .ref (ad 9)) G 4 (by decide) rfl q792 rfl dX0_feelsOf_10 ?_
  refine v_iload_n G 2 dX0_feelsOf_13 rfl ?_
  refine x_iald G 9 rfl (j) rfl (show j < 24 by first | omega | assumption | decide) dX0_feelsOf_14 ?_
  refine v_stk (st' := [.int (σ.1 9 j), .int (nI p), .int (nI 2), .ref (ad 0), .ref (ad (150 + p))]) (by first | rfl | (have e0 : 2 = nI 2 := (ix_lit 2 rfl) ; simp only [e0])) ?_
  refine w_callVi G hK.1 hT (kX0_says hK l dC dI ct ad F σ 2 p (σ.1 9 j) hO (by first | assumption | omega) (by first | assumption | omega)) (ck_X0_362 G.2.2.2.2.1 ⟨Nat.le_of_ble_eq_true rfl, Nat.le_of_ble_eq_true rfl⟩) x_recv (fun _ h => h) rfl [.ref (ad (150 + p))] rfl (Nat.le_of_ble_eq_true rfl) dX0_feelsOf_15 ⟨Nat.le_of_ble_eq_true rfl, Nat.le_of_ble_eq_true rfl⟩ (k1 := 0) (n1 := 0) rfl rfl ?_
  rintro r15 σ15 ⟨rfl, h15_a⟩
  refine x_vfeels G hK.1 hT p (s_says (co σ) 2 p (σ.1 9 j)) (show p < n_ (σ15.1 11 0) from (by rw [show σ15.1 11 0 = σ.1 11 0 from (show σ15.1 11 0 = σ.1 11 0 from ag_at h15_a (by decide))]; exact (show p < s_many (co σ) by omega))) (kd_of (show Ok (co σ15) by rw [show co σ15 = (co σ) from (ag_co h15_a (by decide))]; exact hO) (by omega)) (Nat.le_of_ble_eq_true rfl) dX0_feelsOf_18 (Nat.le_of_ble_eq_true rfl) (Nat.le_of_ble_eq_true rfl) ⟨Nat.le_of_ble_eq_true rfl, Nat.le_of_ble_eq_true rfl⟩ ?_
  refine RET _ _ _ _ _ _ rfl (Nat.le_of_ble_eq_true rfl) (Nat.le_of_ble_eq_true rfl) dX0_feelsOf_21 (fun ws hws => ⟨_, hws, ?_⟩)
  clear RET G hT hnm
  refine ⟨?_, h15_a⟩
  have hc15 : co σ15 = co σ := ag_co h15_a (by decide)
  rw [hc15]
  rfl
