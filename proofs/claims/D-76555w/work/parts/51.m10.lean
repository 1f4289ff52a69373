set_option maxRecDepth 100000
abbrev rmX8_isOf : Room := { frames := 2, cells := 0, slots := 0, locals := 46 }
set_option maxHeartbeats 1000000 in
theorem kX8_isOf {KT : (Nat → Prop) → State → Heap → Prop} (hK : KTok KT) (l : Launch) (dC : Nat → ClassId) (dI : Nat → Nat → Nat) (ct ad : Nat → Nat) (σ : MS) (k : Nat) (x : Int32) (hO : Ok (co σ)) (hk : k ≤ 10) : MC KT (dC, dI) vwCl (tysF ct) l yX8_isOf cX8_isOf 3 (some .boolean) rmX8_isOf [.ref (ad 43), .int (nI k), .int x] (RM ct ad σ) (QI_ (dC, dI) vwCl (RM ct ad) (fun (r : Int32) (σ' : MS) => (1 = r ∧ σ = σ' ∧ s_isOf (co σ) k x) ∨ (0 = r ∧ σ = σ' ∧ ¬ s_isOf (co σ) k x))) := by
  refine MC.ofI (own := RX8) pl_X8 rfl (Nat.le_of_ble_eq_true rfl) ?_
  intro pp ee ss mm aa bb hh cc AA QQ G hT hnm RET
  refine v_loc (L' := [(0, .ref (ad 43)), (1, .int (nI k)), (2, .int x)]) rfl ?_
  obtain ⟨hm5, hm⟩ := many5 hO.1
  have hm : σ.1 11 0 = nI (s_many (co σ)) := hm
  refine v_iload_n G 1 dX8_isOf_0 rfl ?_
  refine v_iconst (v := 3) G dX8_isOf_1 rfl ?_
  refine v_icmp_ge (tgt := 23) G dX8_isOf_2 (by decide) (fun h2 => ?_) (fun h2 => ?_)
  · have n2 := (cmp_le (x := 3) (y := nI k) (a := 3) (b := k) (ix_lit 3 rfl) rfl (by omega) (by omega)).mp h2
    refine v_iload_n G 1 dX8_isOf_23 rfl ?_
    refine v_bipush (v := 10) G dX8_isOf_24 rfl ?_
    refine v_icmp_ne (tgt := 36) G dX8_isOf_26 (by decide) (fun h26 => ?_) (fun h26 => ?_)
    · have n26 := (not_congr (cmp_eq (x := nI k) (y := 10) (a := k) (b := 10) rfl (ix_lit 10 rfl) (by omega) (by omega))).mp h26
      refine v_aload_n G 0 dX8_isOf_36 rfl ?_
      refine v_iload_n G 2 dX8_isOf_37 rfl ?_
      refine w_callVi G hK hT (kX8_isOne hK l dC dI ct ad σ (s_many (co σ)) x hm5 hm) (ck_X8_101 G.2.2.2.2.1 ⟨Nat.le_of_ble_eq_true rfl, Nat.le_of_ble_eq_true rfl⟩) m_recv (fun _ h => h) rfl [] rfl (Nat.le_of_ble_eq_true rfl) dX8_isOf_38 ⟨Nat.le_of_ble_eq_true rfl, Nat.le_of_ble_eq_true rfl⟩ (k1 := 0) (n1 := 0) rfl rfl ?_
      rintro r38 σ38 (⟨rfl, rfl, h38_h⟩ | ⟨rfl, rfl, h38_h⟩)
      · refine RET _ _ _ _ _ _ (by first | rfl | assumption) (Nat.le_of_ble_eq_true rfl) (Nat.le_of_ble_eq_true rfl) dX8_isOf_41 (fun ws hws => ⟨_, hws, ?_⟩)
        clear RET G hT hnm
        exact Or.inl ⟨rfl, rfl, by unfold s_isOf; first | (rw [if_pos (by omega)]; first | exact Or.inl n7 | exact Or.inr h11_h; done) | (rw [if_neg (by omega), if_pos (by omega)]; exact h30_h) | (rw [if_neg (by omega), if_neg (by omega)]; exact h38_h)⟩
      · refine RET _ _ _ _ _ _ (by first | rfl | assumption) (Nat.le_of_ble_eq_true rfl) (Nat.le_of_ble_eq_true rfl) dX8_isOf_41 (fun ws hws => ⟨_, hws, ?_⟩)
        clear RET G hT hnm
        exact Or.inr ⟨rfl, rfl, by unfold s_isOf; first | (rw [if_pos (by omega)]; exact fun q => q.elim n7 h11_h) | (rw [if_neg (by omega), if_pos (by omega)]; exact h30_h) | (rw [if_neg (by omega), if_neg (by omega)]; exact h38_h)⟩
    · have n26 := (cmp_eq (x := nI k) (y := 10) (a := k) (b := 10) rfl (ix_lit 10 rfl) (by omega) (by omega)).mp h26
      refine v_iload_n G 2 dX8_isOf_29 rfl ?_
      refine w_callSi G hK hT (kX8_isCrossing hK l dC dI ct ad σ x) (ck_X8_98 G.2.2.2.2.1 ⟨Nat.le_of_ble_eq_true rfl, Nat.le_of_ble_eq_true rfl⟩) (fun _ h => h) rfl [] rfl (Nat.le_of_ble_eq_true rfl) dX8_isOf_30 ⟨Nat.le_of_ble_eq_true rfl, Nat.le_of_ble_eq_true rfl⟩ (k1 := 0) (n1 := 0) rfl rfl ?_
      rintro r30 σ30 (⟨rfl, rfl, h30_h⟩ | ⟨rfl, rfl, h30_h⟩)
      · refine v_goto (tgt := 41) G dX8_isOf_33 (by decide) ?_
        refine RET _ _ _ _ _ _ (by first | rfl | assumption) (Nat.le_of_ble_eq_true rfl) (Nat.le_of_ble_eq_true rfl) dX8_isOf_41 (fun ws hws => ⟨_, hws, ?_⟩)
        clear RET G hT hnm
        exact Or.inl ⟨rfl, rfl, by unfold s_isOf; first | (rw [if_pos (by omega)]; first | exact Or.inl n7 | exact Or.inr h11_h; done) | (rw [if_neg (by omega), if_pos (by omega)]; exact h30_h) | (rw [if_neg (by omega), if_neg (by omega)]; exact h38_h)⟩
      · refine v_goto (tgt := 41) G dX8_isOf_33 (by decide) ?_
        refine RET _ _ _ _ _ _ (by first | rfl | assumption) (Nat.le_of_ble_eq_true rfl) (Nat.le_of_ble_eq_true rfl) dX8_isOf_41 (fun ws hws => ⟨_, hws, ?_⟩)
        clear RET G hT hnm
        exact Or.inr ⟨rfl, rfl, by unfold s_isOf; first | (rw [if_pos (by omega)]; exact fun q => q.elim n7 h11_h) | (rw [if_neg (by omega), if_pos (by omega)]; exact h30_h) | (rw [if_neg (by omega), if_neg (by omega)]; exact h38_h)⟩
  · have n2 := (not_congr (cmp_le (x := 3) (y := nI k) (a := 3) (b := k) (ix_lit 3 rfl) rfl (by omega) (by omega))).mp h2
    refine v_iload_n G 1 dX8_isOf_5 rfl ?_
    refine v_iconst (v := 2) G dX8_isOf_6 rfl ?_
    refine v_icmp_eq (tgt := 17) G dX8_isOf_7 (by decide) (fun h7 => ?_) (fun h7 => ?_)
    · have n7 := (cmp_eq (x := nI k) (y := 2) (a := k) (b := 2) rfl (ix_lit 2 rfl) (by omega) (by omega)).mp h7
      refine v_iconst (v := 1) G dX8_isOf_17 rfl ?_
      refine v_goto (tgt := 22) G dX8_isOf_18 (by decide) ?_
      refine RET _ _ _ _ _ _ (by first | rfl | assumption) (Nat.le_of_ble_eq_true rfl) (Nat.le_of_ble_eq_true rfl) dX8_isOf_22 (fun ws hws => ⟨_, hws, ?_⟩)
      clear RET G hT hnm
      exact Or.inl ⟨rfl, rfl, by unfold s_isOf; first | (rw [if_pos (by omega)]; first | exact Or.inl n7 | exact Or.inr h11_h; done) | (rw [if_neg (by omega), if_pos (by omega)]; exact h30_h) | (rw [if_neg (by omega), if_neg (by omega)]; exact h38_h)⟩
    · have n7 := (not_congr (cmp_eq (x := nI k) (y := 2) (a := k) (b := 2) rfl (ix_lit 2 rfl) (by omega) (by omega))).mp h7
      refine v_iload_n G 2 dX8_isOf_10 rfl ?_
      refine w_callSi G hK hT (kX8_isJar hK l dC dI ct ad σ x) (ck_X8_94 G.2.2.2.2.1 ⟨Nat.le_of_ble_eq_true rfl, Nat.le_of_ble_eq_true rfl⟩) (fun _ h => h) rfl [] rfl (Nat.le_of_ble_eq_true rfl) dX8_isOf_11 ⟨Nat.le_of_ble_eq_true rfl, Nat.le_of_ble_eq_true rfl⟩ (k1 := 0) (n1 := 0) rfl rfl ?_
      rintro r11 σ11 (⟨rfl, rfl, h11_h⟩ | ⟨rfl, rfl, h11_h⟩)
      · refine v_if_eq (tgt := 21) G dX8_isOf_14 (by decide) (fun h14 => absurd h14 (by decide)) (fun h14 => ?_)
        refine v_iconst (v := 1) G dX8_isOf_17 rfl ?_
        refine v_goto (tgt := 22) G dX8_isOf_18 (by decide) ?_
        refine RET _ _ _ _ _ _ (by first | rfl | assumption) (Nat.le_of_ble_eq_true rfl) (Nat.le_of_ble_eq_true rfl) dX8_isOf_22 (fun ws hws => ⟨_, hws, ?_⟩)
        clear RET G hT hnm
        exact Or.inl ⟨rfl, rfl, by unfold s_isOf; first | (rw [if_pos (by omega)]; first | exact Or.inl n7 | exact Or.inr h11_h; done) | (rw [if_neg (by omega), if_pos (by omega)]; exact h30_h) | (rw [if_neg (by omega), if_neg (by omega)]; exact h38_h)⟩
      · refine v_if_eq (tgt := 21) G dX8_isOf_14 (by decide) (fun h14 => ?_) (fun h14 => absurd h14 (by decide))
        refine v_iconst (v := 0) G dX8_isOf_21 rfl ?_
        refine RET _ _ _ _ _ _ (by first | rfl | assumption) (Nat.le_of_ble_eq_true rfl) (Nat.le_of_ble_eq_true rfl) dX8_isOf_22 (fun ws hws => ⟨_, hws, ?_⟩)
        clear RET G hT hnm
        exact Or.inr ⟨rfl, rfl, by unfold s_isOf; first | (rw [if_pos (by omega)]; exact fun q => q.elim n7 h11_h) | (rw [if_neg (by omega), if_pos (by omega)]; exact h30_h) | (rw [if_neg (by omega), if_neg (by omega)]; exact h38_h)⟩
abbrev rmX8_mostOf : Room := { frames := 0, cells := 0, slots := 0, locals := 0 }
set_option maxHeartbeats 1000000 in
theorem kX8_mostOf {KT : (Nat → Prop) → State → Heap → Prop} (hK : KTok KT) (l : Launch) (dC : Nat → ClassId) (dI : Nat → Nat → Nat) (ct ad : Nat → Nat) (σ : MS) (k : Nat) (hk : k ≤ 10) : MC KT (dC, dI) vwCl (tysF ct) l yX8_mostOf cX8_mostOf 1 (some .int) rmX8_mostOf [.int (nI k)] (RM ct ad σ) (QI_ (dC, dI) vwCl (RM ct ad) (fun (r : Int32) (σ' : MS) => (s_most k) = r ∧ σ = σ')) := by
  refine MC.ofI (own := RX8) pl_X8 rfl (Nat.le_of_ble_eq_true rfl) ?_
  intro pp ee ss mm aa bb hh cc AA QQ G hT hnm RET
  refine v_loc (L' := [(0, .int (nI k))]) rfl ?_
  refine v_iload_n G 0 dX8_mostOf_0 rfl ?_
  refine v_if_eq (tgt := 9) G dX8_mostOf_1 (by decide) (fun h1 => ?_) (fun h1 => ?_)
  · have n1 := (cmp_eq (x := nI k) (y := 0) (a := k) (b := 0) rfl (ix_lit 0 rfl) (by omega) (by omega)).mp h1
    refine v_bipush (v := 11) G dX8_mostOf_9 rfl ?_
    refine v_goto (tgt := 37) G dX8_mostOf_11 (by decide) ?_
    refine RET _ _ _ _ _ _ rfl (Nat.le_of_ble_eq_true rfl) (Nat.le_of_ble_eq_true rfl) dX8_mostOf_37 (fun ws hws => ⟨_, hws, ?_⟩)
    clear RET G hT hnm
    exact ⟨by unfold s_most; first | (rw [if_pos (by first | exact Or.inl n1 | exact Or.inr n6)]; done) | (rw [if_neg (by omega), if_pos (by omega)]; done) | (rw [if_neg (by omega), if_neg (by omega), if_pos (by omega)]; done) | (rw [if_neg (by omega), if_neg (by omega), if_neg (by omega)]; done), rfl⟩
  · have n1 := (not_congr (cmp_eq (x := nI k) (y := 0) (a := k) (b := 0) rfl (ix_lit 0 rfl) (by omega) (by omega))).mp h1
    refine v_iload_n G 0 dX8_mostOf_4 rfl ?_
    refine v_iconst (v := 4) G dX8_mostOf_5 rfl ?_
    refine v_icmp_ne (tgt := 14) G dX8_mostOf_6 (by decide) (fun h6 => ?_) (fun h6 => ?_)
    · have n6 := (not_congr (cmp_eq (x := nI k) (y := 4) (a := k) (b := 4) rfl (ix_lit 4 rfl) (by omega) (by omega))).mp h6
      refine v_iload_n G 0 dX8_mostOf_14 rfl ?_
      refine v_iconst (v := 3) G dX8_mostOf_15 rfl ?_
      refine v_icmp_ne (tgt := 24) G dX8_mostOf_16 (by decide) (fun h16 => ?_) (fun h16 => ?_)
      · have n16 := (not_congr (cmp_eq (x := nI k) (y := 3) (a := k) (b := 3) rfl (ix_lit 3 rfl) (by omega) (by omega))).mp h16
        refine v_iload_n G 0 dX8_mostOf_24 rfl ?_
        refine v_iconst (v := 5) G dX8_mostOf_25 rfl ?_
        refine v_icmp_ne (tgt := 34) G dX8_mostOf_26 (by decide) (fun h26 => ?_) (fun h26 => ?_)
        · have n26 := (not_congr (cmp_eq (x := nI k) (y := 5) (a := k) (b := 5) rfl (ix_lit 5 rfl) (by omega) (by omega))).mp h26
          refine v_sipush (v := 999) G dX8_mostOf_34 rfl ?_
          refine RET _ _ _ _ _ _ rfl (Nat.le_of_ble_eq_true rfl) (Nat.le_of_ble_eq_true rfl) dX8_mostOf_37 (fun ws hws => ⟨_, hws, ?_⟩)
          clear RET G hT hnm
          exact ⟨by unfold s_most; first | (rw [if_pos (by first | exact Or.inl n1 | exact Or.inr n6)]; done) | (rw [if_neg (by omega), if_pos (by omega)]; done) | (rw [if_neg (by omega), if_neg (by omega), if_pos (by omega)]; done) | (rw [if_neg (by omega), if_neg (by omega), if_neg (by omega)]; done), rfl⟩
        · have n26 := (cmp_eq (x := nI k) (y := 5) (a := k) (b := 5) rfl (ix_lit 5 rfl) (by omega) (by omega)).mp h26
          refine v_bipush (v := 99) G dX8_mostOf_29 rfl ?_
          refine v_goto (tgt := 37) G dX8_mostOf_31 (by decide) ?_
          refine RET _ _ _ _ _ _ rfl (Nat.le_of_ble_eq_true rfl) (Nat.le_of_ble_eq_true rfl) dX8_mostOf_37 (fun ws hws => ⟨_, hws, ?_⟩)
          clear RET G hT hnm
          exact ⟨by unfold s_most; first | (rw [if_pos (by first | exact Or.inl n1 | exact Or.inr n6)]; done) | (rw [if_neg (by omega), if_pos (by omega)]; done) | (rw [if_neg (by omega), if_neg (by omega), if_pos (by omega)]; done) | (rw [if_neg (by omega), if_neg (by omega), if_neg (by omega)]; done), rfl⟩
      · have n16 := (cmp_eq (x := nI k) (y := 3) (a := k) (b := 3) rfl (ix_lit 3 rfl) (by omega) (by omega)).mp h16
        refine v_bipush (v := 9) G dX8_mostOf_19 rfl ?_
        refine v_goto (tgt := 37) G dX8_mostOf_21 (by decide) ?_
        refine RET _ _ _ _ _ _ rfl (Nat.le_of_ble_eq_true rfl) (Nat.le_of_ble_eq_true rfl) dX8_mostOf_37 (fun ws hws => ⟨_, hws, ?_⟩)
        clear RET G hT hnm
        exact ⟨by unfold s_most; first | (rw [if_pos (by first | exact Or.inl n1 | exact Or.inr n6)]; done) | (rw [if_neg (by omega), if_pos (by omega)]; done) | (rw [if_neg (by omega), if_neg (by omega), if_pos (by omega)]; done) | (rw [if_neg (by omega), if_neg (by omega), if_neg (by omega)]; done), rfl⟩
    · have n6 := (cmp_eq (x := nI k) (y := 4) (a := k) (b := 4) rfl (ix_lit 4 rfl) (by omega) (by omega)).mp h6
      refine v_bipush (v := 11) G dX8_mostOf_9 rfl ?_
      refine v_goto (tgt := 37) G dX8_mostOf_11 (by decide) ?_
      refine RET _ _ _ _ _ _ rfl (Nat.le_of_ble_eq_true rfl) (Nat.le_of_ble_eq_true rfl) dX8_mostOf_37 (fun ws hws => ⟨_, hws, ?_⟩)
      clear RET G hT hnm
      exact ⟨by unfold s_most; first | (rw [if_pos (by first | exact Or.inl n1 | exact Or.inr n6)]; done) | (rw [if_neg (by omega), if_pos (by omega)]; done) | (rw [if_neg (by omega), if_neg (by omega), if_pos (by omega)]; done) | (rw [if_neg (by omega), if_neg (by omega), if_neg (by omega)]; done), rfl⟩
abbrev rmX8_whoAt : Room := { frames := 0, cells := 0, slots := 0, locals := 0 }
set_option maxHeartbeats 1000000 in
theorem kX8_whoAt {KT : (Nat → Prop) → State → Heap → Prop} (hK : KTok KT) (l : Launch) (dC : Nat → ClassId) (dI : Nat → Nat → Nat) (ct ad : Nat → Nat) (σ : MS) (x : Int32) (hO : Ok (co σ)) : MC KT (dC, dI) vwCl (tysF ct) l yX8_whoAt cX8_whoAt 4 (some .int) rmX8_whoAt [.ref (ad 43), .int x] (RM ct ad σ) (QI_ (dC, dI) vwCl (RM ct ad) (fun (r : Int32) (σ' : MS) => (s_who (co σ) x (s_many (co σ))) = r ∧ σ = σ')) := by
  refine MC.ofI (own := RX8) pl_X8 rfl (Nat.le_of_ble_eq_true rfl) ?_
  intro pp ee ss mm aa bb hh cc AA QQ G hT hnm RET
  refine v_loc (L' := [(0, .ref (ad 43)), (1, .int x)]) rfl ?_
  obtain ⟨hm5, hm⟩ := many5 hO.1
  have hm : σ.1 11 0 = nI (s_many (co σ)) := hm
  refine v_iconst (v := 0) G dX8_whoAt_0 rfl ?_
  refine v_istore_n (L' := [(2, .int 0), (0, .ref (ad 43)), (1, .int x)]) G dX8_whoAt_1 (by decide) rfl ?_
  refine v_iconst (v := 0) G dX8_whoAt_2 rfl ?_
  refine v_istore_n (L' := [(3, .int 0), (2, .int 0), (0, .ref (ad 43)), (1, .int x)]) G dX8_whoAt_3 (by decide) rfl ?_
  have loop4 : ∀ (dd : Nat) (q : Nat), (q ≤ s_many (co σ)) → s_many (co σ) - q < dd → V_ pp l ee rmX8_whoAt ss mm aa bb hh cc 4 (dC, dI) vwCl AA QQ 0 0 (RM ct ad σ) 4 [(3, .int (nI q)), (2, .int (s_who (co σ) x q)), (1, .int x), (0, .ref (ad 43))] [] := by
    intro dd
    induction dd with
    | zero => intro q hq hdd; exact absurd hdd (Nat.not_lt_zero _)
    | succ dd ih4 =>
      intro q hq hdd
      refine v_iload_n G 0 dX8_whoAt_4 rfl ?_
      refine v_aload_n G 3 dX8_whoAt_5 rfl ?_
      refine m_get (v := .int (σ.1 11 0)) G 11 (by decide) rfl q1305 rfl dX8_whoAt_6 ?_
      refine v_icmp_ge (tgt := 42) G dX8_whoAt_9 (by decide) (fun h9 => ?_) (fun h9 => ?_)
      · have n9 := (cmp_le (x := σ.1 11 0) (y := nI q) (a := s_many (co σ)) (b := q) hm rfl (by omega) (by omega)).mp h9
        refine v_iload_n G 1 dX8_whoAt_42 rfl ?_
        refine RET _ _ _ _ _ _ rfl (Nat.le_of_ble_eq_true rfl) (Nat.le_of_ble_eq_true rfl) dX8_whoAt_43 (fun ws hws => ⟨_, hws, ?_⟩)
        clear RET G hT hnm
        exact ⟨by rw [show q = s_many (co σ) by omega], rfl⟩
      · have n9 := (not_congr (cmp_le (x := σ.1 11 0) (y := nI q) (a := s_many (co σ)) (b := q) hm rfl (by omega) (by omega))).mp h9
        refine v_iload_n G 1 dX8_whoAt_12 rfl ?_
        refine v_aload_n G 3 dX8_whoAt_13 rfl ?_
        refine m_get (v := .ref (ad 10)) G 10 (by decide) rfl q1304 rfl dX8_whoAt_14 ?_
        refine v_iconst (v := 5) G dX8_whoAt_17 rfl ?_
        refine v_iload_n G 0 dX8_whoAt_18 rfl ?_
        refine v_imul G dX8_whoAt_19 ?_
        refine v_iconst (v := 1) G dX8_whoAt_20 rfl ?_
        refine v_iadd G dX8_whoAt_21 ?_
        refine m_iald G 10 rfl ((5 * q) + 1) (ix_add (ix_mul (ix_lit 5 rfl) rfl) (ix_lit 1 rfl)) (show (5 * q) + 1 < 25 by first | omega | assumption | decide) dX8_whoAt_22 ?_
        refine v_iload_n G 2 dX8_whoAt_23 rfl ?_
        refine v_icmp_ne (tgt := 31) G dX8_whoAt_24 (by decide) (fun h24 => ?_) (fun h24 => ?_)
        · refine v_iconst (v := 0) G dX8_whoAt_31 rfl ?_
          refine v_iload_n G 0 dX8_whoAt_32 rfl ?_
          refine v_ishl G dX8_whoAt_33 ?_
          refine v_ior G dX8_whoAt_34 ?_
          refine v_istore_n (L' := [(2, .int ((s_who (co σ) x q) ||| (0 <<< ((nI q) &&& 31)))), (3, .int (nI q)), (1, .int x), (0, .ref (ad 43))]) G dX8_whoAt_35 (by decide) rfl ?_
          refine v_iinc (v := nI (q + 1)) (L' := [(3, .int (nI (q + 1))), (2, .int ((s_who (co σ) x q) ||| (0 <<< ((nI q) &&& 31)))), (1, .int x), (0, .ref (ad 43))]) G 1 dX8_whoAt_36 rfl (ix_add rfl (ix_lit 1 rfl)) (by decide) rfl ?_
          refine v_goto (tgt := 4) G dX8_whoAt_39 (by decide) ?_
          refine V_.sub (L' := [(3, .int (nI (q + 1))), (2, .int ((s_who (co σ) x q) ||| (0 <<< ((nI q) &&& 31)))), (1, .int x), (0, .ref (ad 43))]) ?_ [0, 1, 2, 3] rfl
          refine v_loc (L' := [(3, .int (nI (q + 1))), (2, .int (s_who (co σ) x (q + 1))), (1, .int x), (0, .ref (ad 43))]) (by rw [s_who]; first | (rw [if_pos (by exact h24)] <;> rfl) | (rw [if_neg (by exact h24)] <;> rfl)) ?_
          exact ih4  (q + 1) (by first | assumption | omega) (by omega)
        · refine v_iconst (v := 1) G dX8_whoAt_27 rfl ?_
          refine v_goto (tgt := 32) G dX8_whoAt_28 (by decide) ?_
          refine v_iload_n G 0 dX8_whoAt_32 rfl ?_
          refine v_ishl G dX8_whoAt_33 ?_
          refine v_ior G dX8_whoAt_34 ?_
          refine v_istore_n (L' := [(2, .int ((s_who (co σ) x q) ||| (1 <<< ((nI q) &&& 31)))), (3, .int (nI q)), (1, .int x), (0, .ref (ad 43))]) G dX8_whoAt_35 (by decide) rfl ?_
          refine v_iinc (v := nI (q + 1)) (L' := [(3, .int (nI (q + 1))), (2, .int ((s_who (co σ) x q) ||| (1 <<< ((nI q) &&& 31)))), (1, .int x), (0, .ref (ad 43))]) G 1 dX8_whoAt_36 rfl (ix_add rfl (ix_lit 1 rfl)) (by decide) rfl ?_
          refine v_goto (tgt := 4) G dX8_whoAt_39 (by decide) ?_
          refine V_.sub (L' := [(3, .int (nI (q + 1))), (2, .int ((s_who (co σ) x q) ||| (1 <<< ((nI q) &&& 31)))), (1, .int x), (0, .ref (ad 43))]) ?_ [0, 1, 2, 3] rfl
          refine v_loc (L' := [(3, .int (nI (q + 1))), (2, .int (s_who (co σ) x (q + 1))), (1, .int x), (0, .ref (ad 43))]) (by rw [s_who]; first | (rw [if_pos (by exact h24)] <;> rfl) | (rw [if_neg (by exact h24)] <;> rfl)) ?_
          exact ih4  (q + 1) (by first | assumption | omega) (by omega)
  refine V_.sub (L' := [(3, .int 0), (2, .int 0), (1, .int x), (0, .ref (ad 43))]) ?_ [0, 1, 3, 2] rfl
  refine v_loc (L' := [(3, .int (nI 0)), (2, .int (s_who (co σ) x 0)), (1, .int x), (0, .ref (ad 43))]) (rfl) ?_
  exact loop4 _ 0 (Nat.zero_le _) (Nat.lt_succ_self _)
abbrev rmX8_told : Room := { frames := 44, cells := 0, slots := 0, locals := 979 }
set_option maxHeartbeats 1000000 in
theorem kX8_told {KT : (Nat → Prop) → State → Heap → Prop} (hK : KTok KT) (l : Launch) (dC : Nat → ClassId) (dI : Nat → Nat → Nat) (ct ad : Nat → Nat) (σ : MS) (x : Int32) (what : Int32) (hO : Ok (co σ)) : MC KT (dC, dI) vwCl (tysF ct) l yX8_told cX8_told 3 (some .int) rmX8_told [.ref (ad 43), .int x, .int what] (RM ct ad σ) (QI_ (dC, dI) vwCl (RM ct ad) (fun (r : Int32) (σ' : MS) => (s_told (co σ) x what) = r ∧ co σ' = co σ ∧ ag sfr σ σ')) := by
  refine MC.ofI (own := RX8) pl_X8 rfl (Nat.le_of_ble_eq_true rfl) ?_
  intro pp ee ss mm aa bb hh cc AA QQ G hT hnm RET
  refine v_loc (L' := [(0, .ref (ad 43)), (1, .int x), (2, .int what)]) rfl ?_
  obtain ⟨hm5, hm⟩ := many5 hO.1
  have hm : σ.1 11 0 = nI (s_many (co σ)) := hm
  refine v_iload_n G 2 dX8_told_0 rfl ?_
  refine v_i2l (v := what.toInt64) G dX8_told_1 rfl ?_
  refine v_lconst (v := 0) G dX8_told_2 rfl ?_
  refine v_ldc2 G q1457 dX8_told_3 ?_
  refine w_callSi G hK hT (kX8_in hK l dC dI ct ad σ what.toInt64 0 10) (ck_X8_86 G.2.2.2.2.1 ⟨Nat.le_of_ble_eq_true rfl, Nat.le_of_ble_eq_true rfl⟩) (fun _ h => h) rfl [] rfl (Nat.le_of_ble_eq_true rfl) dX8_told_6 ⟨Nat.le_of_ble_eq_true rfl, Nat.le_of_ble_eq_true rfl⟩ (k1 := 0) (n1 := 0) rfl rfl ?_
  rintro r6 σ6 (⟨rfl, rfl, h6_h⟩ | ⟨rfl, rfl, h6_h⟩)
  · have g6 := (in_rg (c := what) (lo := 0) (hi := 10) (a := 0) (z := 10) (by decide) (by decide)).mp h6_h
    refine v_if_eq (tgt := 21) G dX8_told_9 (by decide) (fun h9 => absurd h9 (by decide)) (fun h9 => ?_)
    obtain ⟨k, hk, ek⟩ := rg_nat (n := 10) (x := what) g6 (by decide)
    have ekn : n_ what = k := by rw [ek]; exact nI_clamp (by omega)
    refine v_aload_n G 0 dX8_told_12 rfl ?_
    refine v_iload_n G 2 dX8_told_13 rfl ?_
    refine v_iload_n G 1 dX8_told_14 rfl ?_
    refine v_stk (st' := [.int x, .int (nI k), .ref (ad 43)]) (by first | rfl | (have e0 : what = nI k := ek ; simp only [e0])) ?_
    refine w_callVi G hK hT (kX8_isOf hK l dC dI ct ad σ k x hO (by first | assumption | omega)) (ck_X8_106 G.2.2.2.2.1 ⟨Nat.le_of_ble_eq_true rfl, Nat.le_of_ble_eq_true rfl⟩) m_recv (fun _ h => h) rfl [] rfl (Nat.le_of_ble_eq_true rfl) dX8_told_15 ⟨Nat.le_of_ble_eq_true rfl, Nat.le_of_ble_eq_true rfl⟩ (k1 := 0) (n1 := 0) rfl rfl ?_
    rintro r15 σ15 (⟨rfl, rfl, h15_h⟩ | ⟨rfl, rfl, h15_h⟩)
    · refine v_if_ne (tgt := 25) G dX8_told_18 (by decide) (fun h18 => ?_) (fun h18 => absurd h18 (by decide))
      refine v_iload_n G 2 dX8_told_25 rfl ?_
      refine v_iconst (v := 3) G dX8_told_26 rfl ?_
      refine v_icmp_ge (tgt := 62) G dX8_told_27 (by decide) (fun h27 => ?_) (fun h27 => ?_)
      · have n27 := (cmp_le (x := 3) (y := what) (a := 3) (b := k) (ix_lit 3 rfl) ek (by omega) (by omega)).mp h27
        refine v_iload_n G 2 dX8_told_62 rfl ?_
        refine v_bipush (v := 8) G dX8_told_63 rfl ?_
        refine v_icmp_ge (tgt := 81) G dX8_told_65 (by decide) (fun h65 => ?_) (fun h65 => ?_)
        · have n65 := (cmp_le (x := 8) (y := what) (a := 8) (b := k) (ix_lit 8 rfl) ek (by omega) (by omega)).mp h65
          refine v_iload_n G 2 dX8_told_81 rfl ?_
          refine v_bipush (v := 8) G dX8_told_82 rfl ?_
          refine v_icmp_ne (tgt := 95) G dX8_told_84 (by decide) (fun h84 => ?_) (fun h84 => ?_)
          · have n84 := (not_congr (cmp_eq (x := what) (y := 8) (a := k) (b := 8) ek (ix_lit 8 rfl) (by omega) (by omega))).mp h84
            refine v_iload_n G 2 dX8_told_95 rfl ?_
            refine v_bipush (v := 9) G dX8_told_96 rfl ?_
            refine v_icmp_ne (tgt := 109) G dX8_told_98 (by decide) (fun h98 => ?_) (fun h98 => ?_)
            · have n98 := (not_congr (cmp_eq (x := what) (y := 9) (a := k) (b := 9) ek (ix_lit 9 rfl) (by omega) (by omega))).mp h98
              refine v_aload_n G 0 dX8_told_109 rfl ?_
              refine v_iload_n G 1 dX8_told_110 rfl ?_
              refine w_callVi G hK hT (kX8_whoAt hK l dC dI ct ad σ x hO) (ck_X8_142 G.2.2.2.2.1 ⟨Nat.le_of_ble_eq_true rfl, Nat.le_of_ble_eq_true rfl⟩) m_recv (fun _ h => h) rfl [] rfl (Nat.le_of_ble_eq_true rfl) dX8_told_111 ⟨Nat.le_of_ble_eq_true rfl, Nat.le_of_ble_eq_true rfl⟩ (k1 := 0) (n1 := 0) rfl rfl ?_
              rintro r111 σ111 ⟨rfl, rfl⟩
              refine RET _ _ _ _ _ _ rfl (Nat.le_of_ble_eq_true rfl) (Nat.le_of_ble_eq_true rfl) dX8_told_114 (fun ws hws => ⟨_, hws, ?_⟩)
              clear RET G hT hnm
              exact ⟨by rw [s_told, if_pos ⟨g6, (by rw [ekn]; exact h15_h)⟩, ekn]; unfold s_told1; rw [if_neg (by omega), if_neg (by omega), if_neg (by omega), if_neg (by omega), if_neg (by omega), if_neg (by omega)], rfl, ag_rf⟩
            · have n98 := (cmp_eq (x := what) (y := 9) (a := k) (b := 9) ek (ix_lit 9 rfl) (by omega) (by omega)).mp h98
              obtain ⟨j, hj, ej⟩ := rg_lt (isOf_one h15_h (by omega) (by omega)) (by omega)
              have ejn : n_ x = j := by rw [ej]; exact nI_clamp (by omega)
              refine v_aload_n G 0 dX8_told_101 rfl ?_
              refine v_iload_n G 1 dX8_told_102 rfl ?_
              refine v_stk (st' := [.int (nI j), .ref (ad 43)]) (by first | rfl | (have e0 : x = nI j := ej ; simp only [e0])) ?_
              refine w_callVi G hK hT (kX8_putsOf hK l dC dI ct ad σ j hO (by first | assumption | omega)) (ck_X8_139 G.2.2.2.2.1 ⟨Nat.le_of_ble_eq_true rfl, Nat.le_of_ble_eq_true rfl⟩) m_recv (fun _ h => h) rfl [] rfl (Nat.le_of_ble_eq_true rfl) dX8_told_103 ⟨Nat.le_of_ble_eq_true rfl, Nat.le_of_ble_eq_true rfl⟩ (k1 := 0) (n1 := 0) rfl rfl ?_
              rintro r103 σ103 ⟨rfl, h103_a⟩
              refine v_goto (tgt := 114) G dX8_told_106 (by decide) ?_
              refine RET _ _ _ _ _ _ rfl (Nat.le_of_ble_eq_true rfl) (Nat.le_of_ble_eq_true rfl) dX8_told_114 (fun ws hws => ⟨_, hws, ?_⟩)
              clear RET G hT hnm
              exact ⟨by rw [s_told, if_pos ⟨g6, (by rw [ekn]; exact h15_h)⟩, ekn]; unfold s_told1; rw [if_neg (by omega), if_neg (by omega), if_neg (by omega), if_neg (by omega), if_neg (by omega), if_pos (by omega), ejn], ag_co h103_a (by decide), h103_a⟩
          · have n84 := (cmp_eq (x := what) (y := 8) (a := k) (b := 8) ek (ix_lit 8 rfl) (by omega) (by omega)).mp h84
            obtain ⟨j, hj, ej⟩ := rg_lt (isOf_one h15_h (by omega) (by omega)) (by omega)
            have ejn : n_ x = j := by rw [ej]; exact nI_clamp (by omega)
            refine v_aload_n G 0 dX8_told_87 rfl ?_
            refine v_iload_n G 1 dX8_told_88 rfl ?_
            refine v_stk (st' := [.int (nI j), .ref (ad 43)]) (by first | rfl | (have e0 : x = nI j := ej ; simp only [e0])) ?_
            refine w_callVi G hK hT (kX8_takesOf hK l dC dI ct ad σ j hO (by first | assumption | omega)) (ck_X8_136 G.2.2.2.2.1 ⟨Nat.le_of_ble_eq_true rfl, Nat.le_of_ble_eq_true rfl⟩) m_recv (fun _ h => h) rfl [] rfl (Nat.le_of_ble_eq_true rfl) dX8_told_89 ⟨Nat.le_of_ble_eq_true rfl, Nat.le_of_ble_eq_true rfl⟩ (k1 := 0) (n1 := 0) rfl rfl ?_
            rintro r89 σ89 ⟨rfl, h89_a⟩
            refine v_goto (tgt := 114) G dX8_told_92 (by decide) ?_
            refine RET _ _ _ _ _ _ rfl (Nat.le_of_ble_eq_true rfl) (Nat.le_of_ble_eq_true rfl) dX8_told_114 (fun ws hws => ⟨_, hws, ?_⟩)
            clear RET G hT hnm
            exact ⟨by rw [s_told, if_pos ⟨g6, (by rw [ekn]; exact h15_h)⟩, ekn]; unfold s_told1; rw [if_neg (by omega), if_neg (by omega), if_neg (by omega), if_neg (by omega), if_pos (by omega), ejn], ag_co h89_a (by decide), h89_a⟩
        · have n65 := (not_congr (cmp_le (x := 8) (y := what) (a := 8) (b := k) (ix_lit 8 rfl) ek (by omega) (by omega))).mp h65
          obtain ⟨j, hj, ej⟩ := rg_lt (isOf_one h15_h (by omega) (by omega)) (by omega)
          have ejn : n_ x = j := by rw [ej]; exact nI_clamp (by omega)
          refine v_aload_n G 0 dX8_told_68 rfl ?_
          refine m_get (v := .ref (ad 10)) G 10 (by decide) rfl q1304 rfl dX8_told_69 ?_
          refine v_iconst (v := 5) G dX8_told_72 rfl ?_
          refine v_iload_n G 1 dX8_told_73 rfl ?_
          refine v_imul G dX8_told_74 ?_
          refine v_iload_n G 2 dX8_told_75 rfl ?_
          refine v_iadd G dX8_told_76 ?_
          refine v_iconst (v := 3) G dX8_told_77 rfl ?_
          refine v_isub G dX8_told_78 ?_
          refine m_iald G 10 rfl (5 * j + k - 3) (ix_sub (ix_add (ix_mul (ix_lit 5 rfl) ej) ek) (ix_lit 3 rfl) (by omega)) (show 5 * j + k - 3 < 25 by first | omega | assumption | decide) dX8_told_79 ?_
          refine RET _ _ _ _ _ _ rfl (Nat.le_of_ble_eq_true rfl) (Nat.le_of_ble_eq_true rfl) dX8_told_80 (fun ws hws => ⟨_, hws, ?_⟩)
          clear RET G hT hnm
          exact ⟨by rw [s_told, if_pos ⟨g6, (by rw [ekn]; exact h15_h)⟩, ekn]; unfold s_told1; rw [if_neg (by omega), if_neg (by omega), if_neg (by omega), if_pos (by omega), ejn]; rfl, rfl, ag_rf⟩
      · have n27 := (not_congr (cmp_le (x := 3) (y := what) (a := 3) (b := k) (ix_lit 3 rfl) ek (by omega) (by omega))).mp h27
        refine v_iload_n G 2 dX8_told_30 rfl ?_
        refine v_if_ne (tgt := 43) G dX8_told_31 (by decide) (fun h31 => ?_) (fun h31 => ?_)
        · have n31 := (not_congr (cmp_eq (x := what) (y := 0) (a := k) (b := 0) ek (ix_lit 0 rfl) (by omega) (by omega))).mp h31
          refine v_iload_n G 2 dX8_told_43 rfl ?_
          refine v_iconst (v := 1) G dX8_told_44 rfl ?_
          refine v_icmp_ne (tgt := 57) G dX8_told_45 (by decide) (fun h45 => ?_) (fun h45 => ?_)
          · have n45 := (not_congr (cmp_eq (x := what) (y := 1) (a := k) (b := 1) ek (ix_lit 1 rfl) (by omega) (by omega))).mp h45
            refine v_aload_n G 0 dX8_told_57 rfl ?_
            refine m_get (v := .int (σ.1 7 0)) G 7 (by decide) rfl q1301 rfl dX8_told_58 ?_
            refine RET _ _ _ _ _ _ rfl (Nat.le_of_ble_eq_true rfl) (Nat.le_of_ble_eq_true rfl) dX8_told_61 (fun ws hws => ⟨_, hws, ?_⟩)
            clear RET G hT hnm
            exact ⟨by rw [s_told, if_pos ⟨g6, (by rw [ekn]; exact h15_h)⟩, ekn]; unfold s_told1; first | (rw [if_pos (by omega), ejn] <;> rfl) | (rw [if_neg (by omega), if_pos (by omega), ejn] <;> rfl) | (rw [if_neg (by omega), if_neg (by omega), if_pos (by omega)] <;> rfl), rfl, ag_rf⟩
          · have n45 := (cmp_eq (x := what) (y := 1) (a := k) (b := 1) ek (ix_lit 1 rfl) (by omega) (by omega)).mp h45
            obtain ⟨j, hj, ej⟩ := rg_nat (n := 23) (isOf_jar h15_h (by omega) (by omega)) (by decide)
            have ejn : n_ x = j := by rw [ej]; exact nI_clamp (by omega)
            refine v_aload_n G 0 dX8_told_48 rfl ?_
            refine m_get (v := .ref (ad 9)) G 9 (by decide) rfl q1303 rfl dX8_told_49 ?_
            refine v_iload_n G 1 dX8_told_52 rfl ?_
            refine m_iald G 9 rfl (j) ej (show j < 24 by first | omega | assumption | decide) dX8_told_53 ?_
            refine v_goto (tgt := 61) G dX8_told_54 (by decide) ?_
            refine RET _ _ _ _ _ _ rfl (Nat.le_of_ble_eq_true rfl) (Nat.le_of_ble_eq_true rfl) dX8_told_61 (fun ws hws => ⟨_, hws, ?_⟩)
            clear RET G hT hnm
            exact ⟨by rw [s_told, if_pos ⟨g6, (by rw [ekn]; exact h15_h)⟩, ekn]; unfold s_told1; first | (rw [if_pos (by omega), ejn] <;> rfl) | (rw [if_neg (by omega), if_pos (by omega), ejn] <;> rfl) | (rw [if_neg (by omega), if_neg (by omega), if_pos (by omega)] <;> rfl), rfl, ag_rf⟩
        · have n31 := (cmp_eq (x := what) (y := 0) (a := k) (b := 0) ek (ix_lit 0 rfl) (by omega) (by omega)).mp h31
          obtain ⟨j, hj, ej⟩ := rg_nat (n := 23) (isOf_jar h15_h (by omega) (by omega)) (by decide)
          have ejn : n_ x = j := by rw [ej]; exact nI_clamp (by omega)
          refine v_aload_n G 0 dX8_told_34 rfl ?_
          refine m_get (v := .ref (ad 8)) G 8 (by decide) rfl q1302 rfl dX8_told_35 ?_
          refine v_iload_n G 1 dX8_told_38 rfl ?_
          refine m_iald G 8 rfl (j) ej (show j < 24 by first | omega | assumption | decide) dX8_told_39 ?_
          refine v_goto (tgt := 61) G dX8_told_40 (by decide) ?_
          refine RET _ _ _ _ _ _ rfl (Nat.le_of_ble_eq_true rfl) (Nat.le_of_ble_eq_true rfl) dX8_told_61 (fun ws hws => ⟨_, hws, ?_⟩)
          clear RET G hT hnm
          exact ⟨by rw [s_told, if_pos ⟨g6, (by rw [ekn]; exact h15_h)⟩, ekn]; unfold s_told1; first | (rw [if_pos (by omega), ejn] <;> rfl) | (rw [if_neg (by omega), if_pos (by omega), ejn] <;> rfl) | (rw [if_neg (by omega), if_neg (by omega), if_pos (by omega)] <;> rfl), rfl, ag_rf⟩
    · refine v_if_ne (tgt := 25) G dX8_told_18 (by decide) (fun h18 => absurd h18 (by decide)) (fun h18 => ?_)
      refine v_sipush (v := (-1000)) G dX8_told_21 rfl ?_
      refine RET _ _ _ _ _ _ rfl (Nat.le_of_ble_eq_true rfl) (Nat.le_of_ble_eq_true rfl) dX8_told_24 (fun ws hws => ⟨_, hws, ?_⟩)
      clear RET G hT hnm
      exact ⟨by rw [s_told, if_neg (fun q => by first | exact g6 q.1 | exact h15_h (by rw [← ekn]; exact q.2))], rfl, ag_rf⟩
  · have g6 : ¬ rg what 0 10 := fun zz => h6_h ((in_rg (c := what) (lo := 0) (hi := 10) (a := 0) (z := 10) (by decide) (by decide)).mpr zz)
    refine v_if_eq (tgt := 21) G dX8_told_9 (by decide) (fun h9 => ?_) (fun h9 => absurd h9 (by decide))
    refine v_sipush (v := (-1000)) G dX8_told_21 rfl ?_
    refine RET _ _ _ _ _ _ rfl (Nat.le_of_ble_eq_true rfl) (Nat.le_of_ble_eq_true rfl) dX8_told_24 (fun ws hws => ⟨_, hws, ?_⟩)
    clear RET G hT hnm
    exact ⟨by rw [s_told, if_neg (fun q => by first | exact g6 q.1 | exact h15_h (by rw [← ekn]; exact q.2))], rfl, ag_rf⟩
