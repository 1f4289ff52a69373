set_option maxRecDepth 100000
theorem sub_n {z : Nat} {n : Int32} (hz : z ≤ 40) (h : 0 ≤ n.toInt) : (nI z - n).toInt = (z : Int) - n.toInt := by
  have := Int32.toInt_lt n
  rw [Int32.toInt_sub, nI_toInt (by omega)]
  exact Int.bmod_eq_of_le (by omega) (by omega)
theorem cp_f {τ σ : MS} {a b q : Nat} (h : ∀ z, τ.1 42 z = if b ≤ z ∧ z < b + q then σ.1 42 (a + (z - b)) else σ.1 42 z) (hd : ¬ (b ≤ a + q ∧ a + q < b + q)) : ∀ z, (mset τ 42 (b + q) (τ.1 42 (a + q))).1 42 z = if b ≤ z ∧ z < b + (q + 1) then σ.1 42 (a + (z - b)) else σ.1 42 z := by
  intro z
  show upd2 τ.1 42 (b + q) (τ.1 42 (a + q)) 42 z = _
  rw [upd2_at]
  by_cases e : z = b + q
  · subst e
    rw [if_pos ⟨rfl, rfl⟩, if_pos ⟨by omega, by omega⟩, h (a + q), if_neg hd]
    exact congrArg (σ.1 42) (by omega)
  · rw [if_neg (fun g => e g.2), h z]
    by_cases g : b ≤ z ∧ z < b + q
    · rw [if_pos g, if_pos (by omega)]
    · rw [if_neg g, if_neg (by omega)]
theorem cp_b {τ σ : MS} {a b q n : Nat} (h : ∀ z, τ.1 42 z = if b + (n - q) ≤ z ∧ z < b + n then σ.1 42 (a + (z - b)) else σ.1 42 z) (hq : q < n) (hd : a < b) : ∀ z, (mset τ 42 (b + (n - 1 - q)) (τ.1 42 (a + (n - 1 - q)))).1 42 z = if b + (n - (q + 1)) ≤ z ∧ z < b + n then σ.1 42 (a + (z - b)) else σ.1 42 z := by
  intro z
  show upd2 τ.1 42 (b + (n - 1 - q)) (τ.1 42 (a + (n - 1 - q))) 42 z = _
  rw [upd2_at]
  by_cases e : z = b + (n - 1 - q)
  · subst e
    rw [if_pos ⟨rfl, rfl⟩, if_pos ⟨by omega, by omega⟩, h (a + (n - 1 - q)), if_neg (by omega)]
    exact congrArg (σ.1 42) (by omega)
  · rw [if_neg (fun g => e g.2), h z]
    by_cases g : b + (n - q) ≤ z ∧ z < b + n
    · rw [if_pos g, if_pos (by omega)]
    · rw [if_neg g, if_neg (by omega)]
theorem sheet_is {K : GS} {s : Nat} (h : sheetsOk K) (hs : s < 4) (h0 : ¬ K 39 s = 0) : ∃ q z, q ≤ 2 ∧ K 40 s = nI q ∧ z ≤ 40 ∧ K 41 s = nI z := by
  rcases h s hs with e | ⟨-, ⟨q, hq, eq⟩, z, hz, ez⟩
  · exact absurd e h0
  · exact ⟨q, z, hq, eq, hz, ez⟩
abbrev rmX8_copy : Room := { frames := 2, cells := 0, slots := 0, locals := 45 }
set_option maxHeartbeats 1000000 in
theorem kX8_copy {KT : (Nat → Prop) → State → Heap → Prop} (hK : KTok KT) (l : Launch) (dC : Nat → ClassId) (dI : Nat → Nat → Nat) (ct ad : Nat → Nat) (σ : MS) (x : Int32) (i : Int32) (y : Int32) (j : Int32) (n : Int32) (hO : Ok (co σ)) : MC KT (dC, dI) vwCl (tysF ct) l yX8_copy cX8_copy 9 (some .int) rmX8_copy [.ref (ad 43), .int x, .int i, .int y, .int j, .int n] (RM ct ad σ) (QI_ (dC, dI) vwCl (RM ct ad) (fun (r : Int32) (σ' : MS) => ((s_copy (co σ) x i y j n).1) = r ∧ co σ' = (s_copy (co σ) x i y j n).2)) := by
  refine MC.ofI (own := RX8) pl_X8 rfl (Nat.le_of_ble_eq_true rfl) ?_
  intro pp ee ss mm aa bb hh cc AA QQ G hT hnm RET
  refine v_loc (L' := [(0, .ref (ad 43)), (1, .int x), (2, .int i), (3, .int y), (4, .int j), (5, .int n)]) rfl ?_
  refine v_iload_n G 1 dX8_copy_0 rfl ?_
  refine w_callSi G hK hT (kX8_isSheet hK l dC dI ct ad σ x) (ck_X8_410 G.2.2.2.2.1 ⟨Nat.le_of_ble_eq_true rfl, Nat.le_of_ble_eq_true rfl⟩) (fun _ h => h) rfl [] rfl (Nat.le_of_ble_eq_true rfl) dX8_copy_1 ⟨Nat.le_of_ble_eq_true rfl, Nat.le_of_ble_eq_true rfl⟩ (k1 := 0) (n1 := 0) rfl rfl ?_
  rintro r1 σ1 (⟨rfl, rfl, h1_h⟩ | ⟨rfl, rfl, h1_h⟩)
  · refine v_if_eq (tgt := 14) G dX8_copy_4 (by decide) (fun h4 => absurd h4 (by decide)) (fun h4 => ?_)
    refine v_iload_n G 3 dX8_copy_7 rfl ?_
    refine w_callSi G hK hT (kX8_isSheet hK l dC dI ct ad σ y) (ck_X8_410 G.2.2.2.2.1 ⟨Nat.le_of_ble_eq_true rfl, Nat.le_of_ble_eq_true rfl⟩) (fun _ h => h) rfl [] rfl (Nat.le_of_ble_eq_true rfl) dX8_copy_8 ⟨Nat.le_of_ble_eq_true rfl, Nat.le_of_ble_eq_true rfl⟩ (k1 := 0) (n1 := 0) rfl rfl ?_
    rintro r8 σ8 (⟨rfl, rfl, h8_h⟩ | ⟨rfl, rfl, h8_h⟩)
    · refine v_if_ne (tgt := 17) G dX8_copy_11 (by decide) (fun h11 => ?_) (fun h11 => absurd h11 (by decide))
      obtain ⟨sa, hsa, esa⟩ := rg_nat (n := 3) (x := x) h1_h (by decide)
      obtain ⟨sb, hsb, esb⟩ := rg_nat (n := 3) (x := y) h8_h (by decide)
      have hsa4 : sa < 4 := by omega
      have hsb4 : sb < 4 := by omega
      have esan : n_ x = sa := by rw [esa]; exact nI_clamp (by omega)
      have esbn : n_ y = sb := by rw [esb]; exact nI_clamp (by omega)
      refine v_aload_n G 0 dX8_copy_17 rfl ?_
      refine m_get (v := .ref (ad 39)) G 39 (by decide) rfl q1333 rfl dX8_copy_18 ?_
      refine v_iload_n G 1 dX8_copy_21 rfl ?_
      refine m_zald G (sa) esa (show sa < 4 by first | omega | assumption | decide) dX8_copy_22 ?_
      refine v_if_eq (tgt := 35) G dX8_copy_23 (by decide) (fun h23 => ?_) (fun h23 => ?_)
      · refine v_bipush (v := (-11)) G dX8_copy_35 rfl ?_
        refine RET _ _ _ _ _ _ rfl (Nat.le_of_ble_eq_true rfl) (Nat.le_of_ble_eq_true rfl) dX8_copy_37 (fun ws hws => ⟨_, hws, ?_⟩)
        clear RET G hT hnm
        rw [s_copy, if_pos ⟨h1_h, h8_h⟩, esan, esbn, if_pos (by first | exact Or.inl h23 | exact Or.inr h32)]
        exact ⟨rfl, rfl⟩
      · refine v_aload_n G 0 dX8_copy_26 rfl ?_
        refine m_get (v := .ref (ad 39)) G 39 (by decide) rfl q1333 rfl dX8_copy_27 ?_
        refine v_iload_n G 3 dX8_copy_30 rfl ?_
        refine m_zald G (sb) esb (show sb < 4 by first | omega | assumption | decide) dX8_copy_31 ?_
        refine v_if_ne (tgt := 38) G dX8_copy_32 (by decide) (fun h32 => ?_) (fun h32 => ?_)
        · obtain ⟨qa, za, hqa, eqa, hza, eza⟩ := sheet_is hO.2.2.2.1 hsa4 (by exact h23)
          obtain ⟨qb, zb, hqb, eqb, hzb, ezb⟩ := sheet_is hO.2.2.2.1 hsb4 (by exact h32)
          have eza' : σ.1 41 sa = nI za := eza
          have ezb' : σ.1 41 sb = nI zb := ezb
          have za' : (co σ 41 sa).toInt = za := by rw [eza]; exact nI_toInt (by omega)
          have zb' : (co σ 41 sb).toInt = zb := by rw [ezb]; exact nI_toInt (by omega)
          refine v_aload_n G 0 dX8_copy_38 rfl ?_
          refine m_get (v := .ref (ad 40)) G 40 (by decide) rfl q1334 rfl dX8_copy_39 ?_
          refine v_iload_n G 1 dX8_copy_42 rfl ?_
          refine m_iald G 40 rfl (sa) esa (show sa < 4 by first | omega | assumption | decide) dX8_copy_43 ?_
          refine v_aload_n G 0 dX8_copy_44 rfl ?_
          refine m_get (v := .ref (ad 40)) G 40 (by decide) rfl q1334 rfl dX8_copy_45 ?_
          refine v_iload_n G 3 dX8_copy_48 rfl ?_
          refine m_iald G 40 rfl (sb) esb (show sb < 4 by first | omega | assumption | decide) dX8_copy_49 ?_
          refine v_icmp_eq (tgt := 56) G dX8_copy_50 (by decide) (fun h50 => ?_) (fun h50 => ?_)
          · refine v_iload G 5 dX8_copy_56 rfl ?_
            refine v_if_lt (tgt := 97) G dX8_copy_58 (by decide) (fun h58 => ?_) (fun h58 => ?_)
            · refine v_bipush (v := (-12)) G dX8_copy_97 rfl ?_
              refine RET _ _ _ _ _ _ rfl (Nat.le_of_ble_eq_true rfl) (Nat.le_of_ble_eq_true rfl) dX8_copy_99 (fun ws hws => ⟨_, hws, ?_⟩)
              clear RET G hT hnm
              rw [s_copy, if_pos ⟨h1_h, h8_h⟩, esan, esbn, if_neg (by rintro (z | z); exact h23 z; exact h32 z), if_pos (by exact h50), if_neg (fun q => ?_)]
              · exact ⟨rfl, rfl⟩
              obtain ⟨k1, k2, k3, k4, k5⟩ := q
              rw [za'] at k4
              rw [zb'] at k5
              first
                | exact h58 (Int32.le_iff_toInt_le.mpr k1)
                | exact absurd (Int32.lt_iff_toInt_lt.mp h58) (by have e0 : (0 : Int32).toInt = 0 := by decide
                                                                  omega)
                | exact absurd (Int32.lt_iff_toInt_lt.mp h62) (by have e0 : (0 : Int32).toInt = 0 := by decide
                                                                  omega)
                | exact absurd (Int32.lt_iff_toInt_lt.mp h67) (by have e0 : (0 : Int32).toInt = 0 := by decide
                                                                  omega)
                | exact absurd (Int32.lt_iff_toInt_lt.mp h80) (by rw [eza', sub_n hza k1]; omega)
                | exact absurd (Int32.lt_iff_toInt_lt.mp (Int32.not_le.mp h94)) (by rw [ezb', sub_n hzb k1]; omega)
            · refine v_iload_n G 2 dX8_copy_61 rfl ?_
              refine v_if_lt (tgt := 97) G dX8_copy_62 (by decide) (fun h62 => ?_) (fun h62 => ?_)
              · refine v_bipush (v := (-12)) G dX8_copy_97 rfl ?_
                refine RET _ _ _ _ _ _ rfl (Nat.le_of_ble_eq_true rfl) (Nat.le_of_ble_eq_true rfl) dX8_copy_99 (fun ws hws => ⟨_, hws, ?_⟩)
                clear RET G hT hnm
                rw [s_copy, if_pos ⟨h1_h, h8_h⟩, esan, esbn, if_neg (by rintro (z | z); exact h23 z; exact h32 z), if_pos (by exact h50), if_neg (fun q => ?_)]
                · exact ⟨rfl, rfl⟩
                obtain ⟨k1, k2, k3, k4, k5⟩ := q
                rw [za'] at k4
                rw [zb'] at k5
                first
                  | exact h58 (Int32.le_iff_toInt_le.mpr k1)
                  | exact absurd (Int32.lt_iff_toInt_lt.mp h58) (by have e0 : (0 : Int32).toInt = 0 := by decide
                                                                    omega)
                  | exact absurd (Int32.lt_iff_toInt_lt.mp h62) (by have e0 : (0 : Int32).toInt = 0 := by decide
                                                                    omega)
                  | exact absurd (Int32.lt_iff_toInt_lt.mp h67) (by have e0 : (0 : Int32).toInt = 0 := by decide
                                                                    omega)
                  | exact absurd (Int32.lt_iff_toInt_lt.mp h80) (by rw [eza', sub_n hza k1]; omega)
                  | exact absurd (Int32.lt_iff_toInt_lt.mp (Int32.not_le.mp h94)) (by rw [ezb', sub_n hzb k1]; omega)
              · refine v_iload G 4 dX8_copy_65 rfl ?_
                refine v_if_lt (tgt := 97) G dX8_copy_67 (by decide) (fun h67 => ?_) (fun h67 => ?_)
                · refine v_bipush (v := (-12)) G dX8_copy_97 rfl ?_
                  refine RET _ _ _ _ _ _ rfl (Nat.le_of_ble_eq_true rfl) (Nat.le_of_ble_eq_true rfl) dX8_copy_99 (fun ws hws => ⟨_, hws, ?_⟩)
                  clear RET G hT hnm
                  rw [s_copy, if_pos ⟨h1_h, h8_h⟩, esan, esbn, if_neg (by rintro (z | z); exact h23 z; exact h32 z), if_pos (by exact h50), if_neg (fun q => ?_)]
                  · exact ⟨rfl, rfl⟩
                  obtain ⟨k1, k2, k3, k4, k5⟩ := q
                  rw [za'] at k4
                  rw [zb'] at k5
                  first
                    | exact h58 (Int32.le_iff_toInt_le.mpr k1)
                    | exact absurd (Int32.lt_iff_toInt_lt.mp h58) (by have e0 : (0 : Int32).toInt = 0 := by decide
                                                                      omega)
                    | exact absurd (Int32.lt_iff_toInt_lt.mp h62) (by have e0 : (0 : Int32).toInt = 0 := by decide
                                                                      omega)
                    | exact absurd (Int32.lt_iff_toInt_lt.mp h67) (by have e0 : (0 : Int32).toInt = 0 := by decide
                                                                      omega)
                    | exact absurd (Int32.lt_iff_toInt_lt.mp h80) (by rw [eza', sub_n hza k1]; omega)
                    | exact absurd (Int32.lt_iff_toInt_lt.mp (Int32.not_le.mp h94)) (by rw [ezb', sub_n hzb k1]; omega)
                · refine v_iload_n G 2 dX8_copy_70 rfl ?_
                  refine v_aload_n G 0 dX8_copy_71 rfl ?_
                  refine m_get (v := .ref (ad 41)) G 41 (by decide) rfl q1335 rfl dX8_copy_72 ?_
                  refine v_iload_n G 1 dX8_copy_75 rfl ?_
                  refine m_iald G 41 rfl (sa) esa (show sa < 4 by first | omega | assumption | decide) dX8_copy_76 ?_
                  refine v_iload G 5 dX8_copy_77 rfl ?_
                  refine v_isub G dX8_copy_79 ?_
                  refine v_icmp_gt (tgt := 97) G dX8_copy_80 (by decide) (fun h80 => ?_) (fun h80 => ?_)
                  · refine v_bipush (v := (-12)) G dX8_copy_97 rfl ?_
                    refine RET _ _ _ _ _ _ rfl (Nat.le_of_ble_eq_true rfl) (Nat.le_of_ble_eq_true rfl) dX8_copy_99 (fun ws hws => ⟨_, hws, ?_⟩)
                    clear RET G hT hnm
                    rw [s_copy, if_pos ⟨h1_h, h8_h⟩, esan, esbn, if_neg (by rintro (z | z); exact h23 z; exact h32 z), if_pos (by exact h50), if_neg (fun q => ?_)]
                    · exact ⟨rfl, rfl⟩
                    obtain ⟨k1, k2, k3, k4, k5⟩ := q
                    rw [za'] at k4
                    rw [zb'] at k5
                    first
                      | exact h58 (Int32.le_iff_toInt_le.mpr k1)
                      | exact absurd (Int32.lt_iff_toInt_lt.mp h58) (by have e0 : (0 : Int32).toInt = 0 := by decide
                                                                        omega)
                      | exact absurd (Int32.lt_iff_toInt_lt.mp h62) (by have e0 : (0 : Int32).toInt = 0 := by decide
                                                                        omega)
                      | exact absurd (Int32.lt_iff_toInt_lt.mp h67) (by have e0 : (0 : Int32).toInt = 0 := by decide
                                                                        omega)
                      | exact absurd (Int32.lt_iff_toInt_lt.mp h80) (by rw [eza', sub_n hza k1]; omega)
                      | exact absurd (Int32.lt_iff_toInt_lt.mp (Int32.not_le.mp h94)) (by rw [ezb', sub_n hzb k1]; omega)
                  · refine v_iload G 4 dX8_copy_83 rfl ?_
                    refine v_aload_n G 0 dX8_copy_85 rfl ?_
                    refine m_get (v := .ref (ad 41)) G 41 (by decide) rfl q1335 rfl dX8_copy_86 ?_
                    refine v_iload_n G 3 dX8_copy_89 rfl ?_
                    refine m_iald G 41 rfl (sb) esb (show sb < 4 by first | omega | assumption | decide) dX8_copy_90 ?_
                    refine v_iload G 5 dX8_copy_91 rfl ?_
                    refine v_isub G dX8_copy_93 ?_
                    refine v_icmp_le (tgt := 100) G dX8_copy_94 (by decide) (fun h94 => ?_) (fun h94 => ?_)
                    · have k1 : 0 ≤ n.toInt := Int32.le_iff_toInt_le.mp (Int32.not_lt.mp h58)
                      have k2 : 0 ≤ i.toInt := Int32.le_iff_toInt_le.mp (Int32.not_lt.mp h62)
                      have k3 : 0 ≤ j.toInt := Int32.le_iff_toInt_le.mp (Int32.not_lt.mp h67)
                      have k4 : i.toInt + n.toInt ≤ za := by
                        have := Int32.le_iff_toInt_le.mp (Int32.not_lt.mp h80)
                        rw [eza', sub_n hza k1] at this
                        omega
                      have k5 : j.toInt + n.toInt ≤ zb := by
                        have := Int32.le_iff_toInt_le.mp h94
                        rw [ezb', sub_n hzb k1] at this
                        omega
                      have hok : s_copyOk (co σ) sa sb i j n := ⟨k1, k2, k3, by rw [za']; exact k4, by rw [zb']; exact k5⟩
                      obtain ⟨nn, hnn, enn_⟩ := rg_nat (n := 40) (x := n) ⟨k1, by omega⟩ (by decide)
                      obtain ⟨ii, hii, eii⟩ := rg_nat (n := 40) (x := i) ⟨k2, by omega⟩ (by decide)
                      obtain ⟨jj, hjj, ejj⟩ := rg_nat (n := 40) (x := j) ⟨k3, by omega⟩ (by decide)
                      have tn : n.toInt = nn := by rw [enn_]; exact nI_toInt (by omega)
                      have ti : i.toInt = ii := by rw [eii]; exact nI_toInt (by omega)
                      have tj : j.toInt = jj := by rw [ejj]; exact nI_toInt (by omega)
                      have enn : n_ n = nn := by rw [enn_]; exact nI_clamp (by omega)
                      have ein : n_ i = ii := by rw [eii]; exact nI_clamp (by omega)
                      have ejn : n_ j = jj := by rw [ejj]; exact nI_clamp (by omega)
                      refine v_iload_n G 1 dX8_copy_100 rfl ?_
                      refine v_iload_n G 3 dX8_copy_101 rfl ?_
                      refine v_icmp_ne (tgt := 115) G dX8_copy_102 (by decide) (fun h102 => ?_) (fun h102 => ?_)
                      · have n102 := (not_congr (cmp_eq (x := x) (y := y) (a := sa) (b := sb) esa esb (by omega) (by omega))).mp h102
                        refine v_iconst (v := 0) G dX8_copy_115 rfl ?_
                        refine v_istore (L' := [(6, .int 0), (0, .ref (ad 43)), (1, .int x), (2, .int i), (3, .int y), (4, .int j), (5, .int n)]) G dX8_copy_116 (by decide) rfl ?_
                        refine v_iconst (v := 0) G dX8_copy_118 rfl ?_
                        refine v_istore (L' := [(7, .int 0), (6, .int 0), (0, .ref (ad 43)), (1, .int x), (2, .int i), (3, .int y), (4, .int j), (5, .int n)]) G dX8_copy_119 (by decide) rfl ?_
                        have loop121 : ∀ (dd : Nat) (q : Nat) (τ : MS), (q ≤ nn) → (∀ z, τ.1 42 z = if 40 * sb + jj ≤ z ∧ z < 40 * sb + jj + q then σ.1 42 (40 * sa + ii + (z - (40 * sb + jj))) else σ.1 42 z) → (ag [42] σ τ) → nn - q < dd → V_ pp l ee rmX8_copy ss mm aa bb hh cc 9 (dC, dI) vwCl AA QQ 0 0 (RM ct ad τ) 121 [(7, .int (nI q)), (6, .int 0), (0, .ref (ad 43)), (1, .int x), (2, .int i), (3, .int y), (4, .int j), (5, .int n)] [] := by
                          intro dd
                          induction dd with
                          | zero => intro q τ hq hcp haτ hdd; exact absurd hdd (Nat.not_lt_zero _)
                          | succ dd ih121 =>
                            intro q τ hq hcp haτ hdd
                            refine v_iload G 0 dX8_copy_121 rfl ?_
                            refine v_iload G 7 dX8_copy_123 rfl ?_
                            refine v_icmp_ge (tgt := 182) G dX8_copy_125 (by decide) (fun h125 => ?_) (fun h125 => ?_)
                            · have n125 := (cmp_le (x := n) (y := nI q) (a := nn) (b := q) enn_ rfl (by omega) (by omega)).mp h125
                              refine v_iload G 7 dX8_copy_182 rfl ?_
                              refine RET _ _ _ _ _ _ rfl (Nat.le_of_ble_eq_true rfl) (Nat.le_of_ble_eq_true rfl) dX8_copy_184 (fun ws hws => ⟨_, hws, ?_⟩)
                              clear RET G hT hnm
                              rw [s_copy, if_pos ⟨h1_h, h8_h⟩, esan, esbn, if_neg (by rintro (z | z); exact h23 z; exact h32 z), if_pos (by exact h50), if_pos hok, enn, ein, ejn]
                              refine ⟨rfl, ?_⟩
                              show co τ = s_copyV (co σ) sa ii sb jj nn
                              funext k z
                              unfold s_copyV
                              by_cases h42 : k = 42
                              · subst h42
                                show τ.1 42 z = _
                                rw [hcp z]
                                by_cases hz : 40 * sb + jj ≤ z ∧ z < 40 * sb + jj + nn
                                · rw [if_pos (by omega), if_pos ⟨rfl, hz⟩]; rfl
                                · rw [if_neg (by omega), if_neg (fun g => hz g.2)]; rfl
                              · rw [if_neg (fun g => h42 g.1)]
                                unfold co
                                rw [haτ k (by simpa using h42)]
                            · have n125 := (not_congr (cmp_le (x := n) (y := nI q) (a := nn) (b := q) enn_ rfl (by omega) (by omega))).mp h125
                              refine v_iload G 1 dX8_copy_128 rfl ?_
                              refine v_if_eq (tgt := 143) G dX8_copy_130 (by decide) (fun h130 => ?_) (fun h130 => absurd h130 (by decide))
                              refine v_iload G 0 dX8_copy_143 rfl ?_
                              refine v_istore (L' := [(8, .int (nI q)), (7, .int (nI q)), (6, .int 0), (0, .ref (ad 43)), (1, .int x), (2, .int i), (3, .int y), (4, .int j), (5, .int n)]) G dX8_copy_145 (by decide) rfl ?_
                              refine v_aload_n G 3 dX8_copy_147 rfl ?_
                              refine m_get (v := .ref (ad 42)) G 42 (by decide) rfl q1336 rfl dX8_copy_148 ?_
                              refine v_bipush (v := 40) G dX8_copy_151 rfl ?_
                              refine v_iload_n G 6 dX8_copy_153 rfl ?_
                              refine v_imul G dX8_copy_154 ?_
                              refine v_iload G 7 dX8_copy_155 rfl ?_
                              refine v_iadd G dX8_copy_157 ?_
                              refine v_iload G 0 dX8_copy_158 rfl ?_
                              refine v_iadd G dX8_copy_160 ?_
                              refine v_aload_n G 3 dX8_copy_161 rfl ?_
                              refine m_get (v := .ref (ad 42)) G 42 (by decide) rfl q1336 rfl dX8_copy_162 ?_
                              refine v_bipush (v := 40) G dX8_copy_165 rfl ?_
                              refine v_iload_n G 4 dX8_copy_167 rfl ?_
                              refine v_imul G dX8_copy_168 ?_
                              refine v_iload_n G 5 dX8_copy_169 rfl ?_
                              refine v_iadd G dX8_copy_170 ?_
                              refine v_iload G 0 dX8_copy_171 rfl ?_
                              refine v_iadd G dX8_copy_173 ?_
                              refine m_iald G 42 rfl (((40 * sa) + ii) + q) (ix_add (ix_add (ix_mul (ix_lit 40 rfl) esa) eii) rfl) (show ((40 * sa) + ii) + q < 160 by first | omega | assumption | decide) dX8_copy_174 ?_
                              refine m_iast G 42 rfl (((40 * sb) + jj) + q) (ix_add (ix_add (ix_mul (ix_lit 40 rfl) esb) ejj) rfl) (show ((40 * sb) + jj) + q < 160 by first | omega | assumption | decide) dX8_copy_175 ?_
                              refine v_iinc (v := nI (q + 1)) (L' := [(7, .int (nI (q + 1))), (8, .int (nI q)), (6, .int 0), (0, .ref (ad 43)), (1, .int x), (2, .int i), (3, .int y), (4, .int j), (5, .int n)]) G 1 dX8_copy_176 rfl (ix_add rfl (ix_lit 1 rfl)) (by decide) rfl ?_
                              refine v_goto (tgt := 121) G dX8_copy_179 (by decide) ?_
                              refine V_.sub (L' := [(7, .int (nI (q + 1))), (6, .int 0), (0, .ref (ad 43)), (1, .int x), (2, .int i), (3, .int y), (4, .int j), (5, .int n)]) ?_ [0, 2, 3, 4, 5, 6, 7, 8] rfl
                              exact ih121  (q + 1) (mset τ 42 (((40 * sb) + jj) + q) (τ.1 42 (((40 * sa) + ii) + q))) (by omega) (cp_f (a := 40 * sa + ii) (b := 40 * sb + jj) hcp (by omega)) (ag_tr haτ (ag_set (by decide))) (by omega)
                        refine V_.sub (L' := [(7, .int 0), (6, .int 0), (0, .ref (ad 43)), (1, .int x), (2, .int i), (3, .int y), (4, .int j), (5, .int n)]) ?_ [0, 1, 2, 3, 4, 5, 6, 7] rfl
                        refine v_loc (L' := [(7, .int (nI 0)), (6, .int 0), (0, .ref (ad 43)), (1, .int x), (2, .int i), (3, .int y), (4, .int j), (5, .int n)]) (rfl) ?_
                        exact loop121 _ 0 σ (Nat.zero_le _) (fun z => by rw [if_neg (by omega)]) ag_rf (Nat.lt_succ_self _)
                      · have n102 := (cmp_eq (x := x) (y := y) (a := sa) (b := sb) esa esb (by omega) (by omega)).mp h102
                        refine v_iload_n G 2 dX8_copy_105 rfl ?_
                        refine v_iload G 4 dX8_copy_106 rfl ?_
                        refine v_icmp_ge (tgt := 115) G dX8_copy_108 (by decide) (fun h108 => ?_) (fun h108 => ?_)
                        · have n108 := (cmp_le (x := j) (y := i) (a := jj) (b := ii) ejj eii (by omega) (by omega)).mp h108
                          refine v_iconst (v := 0) G dX8_copy_115 rfl ?_
                          refine v_istore (L' := [(6, .int 0), (0, .ref (ad 43)), (1, .int x), (2, .int i), (3, .int y), (4, .int j), (5, .int n)]) G dX8_copy_116 (by decide) rfl ?_
                          refine v_iconst (v := 0) G dX8_copy_118 rfl ?_
                          refine v_istore (L' := [(7, .int 0), (6, .int 0), (0, .ref (ad 43)), (1, .int x), (2, .int i), (3, .int y), (4, .int j), (5, .int n)]) G dX8_copy_119 (by decide) rfl ?_
                          have loop121 : ∀ (dd : Nat) (q : Nat) (τ : MS), (q ≤ nn) → (∀ z, τ.1 42 z = if 40 * sb + jj ≤ z ∧ z < 40 * sb + jj + q then σ.1 42 (40 * sa + ii + (z - (40 * sb + jj))) else σ.1 42 z) → (ag [42] σ τ) → nn - q < dd → V_ pp l ee rmX8_copy ss mm aa bb hh cc 9 (dC, dI) vwCl AA QQ 0 0 (RM ct ad τ) 121 [(7, .int (nI q)), (6, .int 0), (0, .ref (ad 43)), (1, .int x), (2, .int i), (3, .int y), (4, .int j), (5, .int n)] [] := by
                            intro dd
                            induction dd with
                            | zero => intro q τ hq hcp haτ hdd; exact absurd hdd (Nat.not_lt_zero _)
                            | succ dd ih121 =>
                              intro q τ hq hcp haτ hdd
                              refine v_iload G 0 dX8_copy_121 rfl ?_
                              refine v_iload G 7 dX8_copy_123 rfl ?_
                              refine v_icmp_ge (tgt := 182) G dX8_copy_125 (by decide) (fun h125 => ?_) (fun h125 => ?_)
                              · have n125 := (cmp_le (x := n) (y := nI q) (a := nn) (b := q) enn_ rfl (by omega) (by omega)).mp h125
                                refine v_iload G 7 dX8_copy_182 rfl ?_
                                refine RET _ _ _ _ _ _ rfl (Nat.le_of_ble_eq_true rfl) (Nat.le_of_ble_eq_true rfl) dX8_copy_184 (fun ws hws => ⟨_, hws, ?_⟩)
                                clear RET G hT hnm
                                rw [s_copy, if_pos ⟨h1_h, h8_h⟩, esan, esbn, if_neg (by rintro (z | z); exact h23 z; exact h32 z), if_pos (by exact h50), if_pos hok, enn, ein, ejn]
                                refine ⟨rfl, ?_⟩
                                show co τ = s_copyV (co σ) sa ii sb jj nn
                                funext k z
                                unfold s_copyV
                                by_cases h42 : k = 42
                                · subst h42
                                  show τ.1 42 z = _
                                  rw [hcp z]
                                  by_cases hz : 40 * sb + jj ≤ z ∧ z < 40 * sb + jj + nn
                                  · rw [if_pos (by omega), if_pos ⟨rfl, hz⟩]; rfl
                                  · rw [if_neg (by omega), if_neg (fun g => hz g.2)]; rfl
                                · rw [if_neg (fun g => h42 g.1)]
                                  unfold co
                                  rw [haτ k (by simpa using h42)]
                              · have n125 := (not_congr (cmp_le (x := n) (y := nI q) (a := nn) (b := q) enn_ rfl (by omega) (by omega))).mp h125
                                refine v_iload G 1 dX8_copy_128 rfl ?_
                                refine v_if_eq (tgt := 143) G dX8_copy_130 (by decide) (fun h130 => ?_) (fun h130 => absurd h130 (by decide))
                                refine v_iload G 0 dX8_copy_143 rfl ?_
                                refine v_istore (L' := [(8, .int (nI q)), (7, .int (nI q)), (6, .int 0), (0, .ref (ad 43)), (1, .int x), (2, .int i), (3, .int y), (4, .int j), (5, .int n)]) G dX8_copy_145 (by decide) rfl ?_
                                refine v_aload_n G 3 dX8_copy_147 rfl ?_
                                refine m_get (v := .ref (ad 42)) G 42 (by decide) rfl q1336 rfl dX8_copy_148 ?_
                                refine v_bipush (v := 40) G dX8_copy_151 rfl ?_
                                refine v_iload_n G 6 dX8_copy_153 rfl ?_
                                refine v_imul G dX8_copy_154 ?_
                                refine v_iload G 7 dX8_copy_155 rfl ?_
                                refine v_iadd G dX8_copy_157 ?_
                                refine v_iload G 0 dX8_copy_158 rfl ?_
                                refine v_iadd G dX8_copy_160 ?_
                                refine v_aload_n G 3 dX8_copy_161 rfl ?_
                                refine m_get (v := .ref (ad 42)) G 42 (by decide) rfl q1336 rfl dX8_copy_162 ?_
                                refine v_bipush (v := 40) G dX8_copy_165 rfl ?_
                                refine v_iload_n G 4 dX8_copy_167 rfl ?_
                                refine v_imul G dX8_copy_168 ?_
                                refine v_iload_n G 5 dX8_copy_169 rfl ?_
                                refine v_iadd G dX8_copy_170 ?_
                                refine v_iload G 0 dX8_copy_171 rfl ?_
                                refine v_iadd G dX8_copy_173 ?_
                                refine m_iald G 42 rfl (((40 * sa) + ii) + q) (ix_add (ix_add (ix_mul (ix_lit 40 rfl) esa) eii) rfl) (show ((40 * sa) + ii) + q < 160 by first | omega | assumption | decide) dX8_copy_174 ?_
                                refine m_iast G 42 rfl (((40 * sb) + jj) + q) (ix_add (ix_add (ix_mul (ix_lit 40 rfl) esb) ejj) rfl) (show ((40 * sb) + jj) + q < 160 by first | omega | assumption | decide) dX8_copy_175 ?_
                                refine v_iinc (v := nI (q + 1)) (L' := [(7, .int (nI (q + 1))), (8, .int (nI q)), (6, .int 0), (0, .ref (ad 43)), (1, .int x), (2, .int i), (3, .int y), (4, .int j), (5, .int n)]) G 1 dX8_copy_176 rfl (ix_add rfl (ix_lit 1 rfl)) (by decide) rfl ?_
                                refine v_goto (tgt := 121) G dX8_copy_179 (by decide) ?_
                                refine V_.sub (L' := [(7, .int (nI (q + 1))), (6, .int 0), (0, .ref (ad 43)), (1, .int x), (2, .int i), (3, .int y), (4, .int j), (5, .int n)]) ?_ [0, 2, 3, 4, 5, 6, 7, 8] rfl
                                exact ih121  (q + 1) (mset τ 42 (((40 * sb) + jj) + q) (τ.1 42 (((40 * sa) + ii) + q))) (by omega) (cp_f (a := 40 * sa + ii) (b := 40 * sb + jj) hcp (by omega)) (ag_tr haτ (ag_set (by decide))) (by omega)
                          refine V_.sub (L' := [(7, .int 0), (6, .int 0), (0, .ref (ad 43)), (1, .int x), (2, .int i), (3, .int y), (4, .int j), (5, .int n)]) ?_ [0, 1, 2, 3, 4, 5, 6, 7] rfl
                          refine v_loc (L' := [(7, .int (nI 0)), (6, .int 0), (0, .ref (ad 43)), (1, .int x), (2, .int i), (3, .int y), (4, .int j), (5, .int n)]) (rfl) ?_
                          exact loop121 _ 0 σ (Nat.zero_le _) (fun z => by rw [if_neg (by omega)]) ag_rf (Nat.lt_succ_self _)
                        · have n108 := (not_congr (cmp_le (x := j) (y := i) (a := jj) (b := ii) ejj eii (by omega) (by omega))).mp h108
                          refine v_iconst (v := 1) G dX8_copy_111 rfl ?_
                          refine v_goto (tgt := 116) G dX8_copy_112 (by decide) ?_
                          refine v_istore (L' := [(6, .int 1), (0, .ref (ad 43)), (1, .int x), (2, .int i), (3, .int y), (4, .int j), (5, .int n)]) G dX8_copy_116 (by decide) rfl ?_
                          refine v_iconst (v := 0) G dX8_copy_118 rfl ?_
                          refine v_istore (L' := [(7, .int 0), (6, .int 1), (0, .ref (ad 43)), (1, .int x), (2, .int i), (3, .int y), (4, .int j), (5, .int n)]) G dX8_copy_119 (by decide) rfl ?_
                          have loop121 : ∀ (dd : Nat) (q : Nat) (τ : MS), (q ≤ nn) → (∀ z, τ.1 42 z = if 40 * sb + jj + (nn - q) ≤ z ∧ z < 40 * sb + jj + nn then σ.1 42 (40 * sa + ii + (z - (40 * sb + jj))) else σ.1 42 z) → (ag [42] σ τ) → nn - q < dd → V_ pp l ee rmX8_copy ss mm aa bb hh cc 9 (dC, dI) vwCl AA QQ 0 0 (RM ct ad τ) 121 [(7, .int (nI q)), (6, .int 1), (0, .ref (ad 43)), (1, .int x), (2, .int i), (3, .int y), (4, .int j), (5, .int n)] [] := by
                            intro dd
                            induction dd with
                            | zero => intro q τ hq hcp haτ hdd; exact absurd hdd (Nat.not_lt_zero _)
                            | succ dd ih121 =>
                              intro q τ hq hcp haτ hdd
                              refine v_iload G 0 dX8_copy_121 rfl ?_
                              refine v_iload G 7 dX8_copy_123 rfl ?_
                              refine v_icmp_ge (tgt := 182) G dX8_copy_125 (by decide) (fun h125 => ?_) (fun h125 => ?_)
                              · have n125 := (cmp_le (x := n) (y := nI q) (a := nn) (b := q) enn_ rfl (by omega) (by omega)).mp h125
                                refine v_iload G 7 dX8_copy_182 rfl ?_
                                refine RET _ _ _ _ _ _ rfl (Nat.le_of_ble_eq_true rfl) (Nat.le_of_ble_eq_true rfl) dX8_copy_184 (fun ws hws => ⟨_, hws, ?_⟩)
                                clear RET G hT hnm
                                rw [s_copy, if_pos ⟨h1_h, h8_h⟩, esan, esbn, if_neg (by rintro (z | z); exact h23 z; exact h32 z), if_pos (by exact h50), if_pos hok, enn, ein, ejn]
                                refine ⟨rfl, ?_⟩
                                show co τ = s_copyV (co σ) sa ii sb jj nn
                                funext k z
                                unfold s_copyV
                                by_cases h42 : k = 42
                                · subst h42
                                  show τ.1 42 z = _
                                  rw [hcp z]
                                  by_cases hz : 40 * sb + jj ≤ z ∧ z < 40 * sb + jj + nn
                                  · rw [if_pos (by omega), if_pos ⟨rfl, hz⟩]; rfl
                                  · rw [if_neg (by omega), if_neg (fun g => hz g.2)]; rfl
                                · rw [if_neg (fun g => h42 g.1)]
                                  unfold co
                                  rw [haτ k (by simpa using h42)]
                              · have n125 := (not_congr (cmp_le (x := n) (y := nI q) (a := nn) (b := q) enn_ rfl (by omega) (by omega))).mp h125
                                refine v_iload G 1 dX8_copy_128 rfl ?_
                                refine v_if_eq (tgt := 143) G dX8_copy_130 (by decide) (fun h130 => absurd h130 (by decide)) (fun h130 => ?_)
                                refine v_iload G 7 dX8_copy_133 rfl ?_
                                refine v_iconst (v := 1) G dX8_copy_135 rfl ?_
                                refine v_isub G dX8_copy_136 ?_
                                refine v_iload G 0 dX8_copy_137 rfl ?_
                                refine v_isub G dX8_copy_139 ?_
                                refine v_goto (tgt := 145) G dX8_copy_140 (by decide) ?_
                                refine v_istore (L' := [(8, .int ((n - 1) - (nI q))), (7, .int (nI q)), (6, .int 1), (0, .ref (ad 43)), (1, .int x), (2, .int i), (3, .int y), (4, .int j), (5, .int n)]) G dX8_copy_145 (by decide) rfl ?_
                                refine v_aload_n G 3 dX8_copy_147 rfl ?_
                                refine m_get (v := .ref (ad 42)) G 42 (by decide) rfl q1336 rfl dX8_copy_148 ?_
                                refine v_bipush (v := 40) G dX8_copy_151 rfl ?_
                                refine v_iload_n G 6 dX8_copy_153 rfl ?_
                                refine v_imul G dX8_copy_154 ?_
                                refine v_iload G 7 dX8_copy_155 rfl ?_
                                refine v_iadd G dX8_copy_157 ?_
                                refine v_iload G 0 dX8_copy_158 rfl ?_
                                refine v_iadd G dX8_copy_160 ?_
                                refine v_aload_n G 3 dX8_copy_161 rfl ?_
                                refine m_get (v := .ref (ad 42)) G 42 (by decide) rfl q1336 rfl dX8_copy_162 ?_
                                refine v_bipush (v := 40) G dX8_copy_165 rfl ?_
                                refine v_iload_n G 4 dX8_copy_167 rfl ?_
                                refine v_imul G dX8_copy_168 ?_
                                refine v_iload_n G 5 dX8_copy_169 rfl ?_
                                refine v_iadd G dX8_copy_170 ?_
                                refine v_iload G 0 dX8_copy_171 rfl ?_
                                refine v_iadd G dX8_copy_173 ?_
                                refine m_iald G 42 rfl (((40 * sa) + ii) + ((nn - 1) - q)) (ix_add (ix_add (ix_mul (ix_lit 40 rfl) esa) eii) (ix_sub (ix_sub enn_ (ix_lit 1 rfl) (by omega)) rfl (by omega))) (show ((40 * sa) + ii) + ((nn - 1) - q) < 160 by first | omega | assumption | decide) dX8_copy_174 ?_
                                refine m_iast G 42 rfl (((40 * sb) + jj) + ((nn - 1) - q)) (ix_add (ix_add (ix_mul (ix_lit 40 rfl) esb) ejj) (ix_sub (ix_sub enn_ (ix_lit 1 rfl) (by omega)) rfl (by omega))) (show ((40 * sb) + jj) + ((nn - 1) - q) < 160 by first | omega | assumption | decide) dX8_copy_175 ?_
                                refine v_iinc (v := nI (q + 1)) (L' := [(7, .int (nI (q + 1))), (8, .int ((n - 1) - (nI q))), (6, .int 1), (0, .ref (ad 43)), (1, .int x), (2, .int i), (3, .int y), (4, .int j), (5, .int n)]) G 1 dX8_copy_176 rfl (ix_add rfl (ix_lit 1 rfl)) (by decide) rfl ?_
                                refine v_goto (tgt := 121) G dX8_copy_179 (by decide) ?_
                                refine V_.sub (L' := [(7, .int (nI (q + 1))), (6, .int 1), (0, .ref (ad 43)), (1, .int x), (2, .int i), (3, .int y), (4, .int j), (5, .int n)]) ?_ [0, 2, 3, 4, 5, 6, 7, 8] rfl
                                exact ih121  (q + 1) (mset τ 42 (((40 * sb) + jj) + ((nn - 1) - q)) (τ.1 42 (((40 * sa) + ii) + ((nn - 1) - q)))) (by omega) (cp_b (a := 40 * sa + ii) (b := 40 * sb + jj) hcp (by omega) (by omega)) (ag_tr haτ (ag_set (by decide))) (by omega)
                          refine V_.sub (L' := [(7, .int 0), (6, .int 1), (0, .ref (ad 43)), (1, .int x), (2, .int i), (3, .int y), (4, .int j), (5, .int n)]) ?_ [0, 1, 2, 3, 4, 5, 6, 7] rfl
                          refine v_loc (L' := [(7, .int (nI 0)), (6, .int 1), (0, .ref (ad 43)), (1, .int x), (2, .int i), (3, .int y), (4, .int j), (5, .int n)]) (rfl) ?_
                          exact loop121 _ 0 σ (Nat.zero_le _) (fun z => by rw [if_neg (by omega)]) ag_rf (Nat.lt_succ_self _)
                    · refine v_bipush (v := (-12)) G dX8_copy_97 rfl ?_
                      refine RET _ _ _ _ _ _ rfl (Nat.le_of_ble_eq_true rfl) (Nat.le_of_ble_eq_true rfl) dX8_copy_99 (fun ws hws => ⟨_, hws, ?_⟩)
                      clear RET G hT hnm
                      rw [s_copy, if_pos ⟨h1_h, h8_h⟩, esan, esbn, if_neg (by rintro (z | z); exact h23 z; exact h32 z), if_pos (by exact h50), if_neg (fun q => ?_)]
                      · exact ⟨rfl, rfl⟩
                      obtain ⟨k1, k2, k3, k4, k5⟩ := q
                      rw [za'] at k4
                      rw [zb'] at k5
                      first
                        | exact h58 (Int32.le_iff_toInt_le.mpr k1)
                        | exact absurd (Int32.lt_iff_toInt_lt.mp h58) (by have e0 : (0 : Int32).toInt = 0 := by decide
                                                                          omega)
                        | exact absurd (Int32.lt_iff_toInt_lt.mp h62) (by have e0 : (0 : Int32).toInt = 0 := by decide
                                                                          omega)
                        | exact absurd (Int32.lt_iff_toInt_lt.mp h67) (by have e0 : (0 : Int32).toInt = 0 := by decide
                                                                          omega)
                        | exact absurd (Int32.lt_iff_toInt_lt.mp h80) (by rw [eza', sub_n hza k1]; omega)
                        | exact absurd (Int32.lt_iff_toInt_lt.mp (Int32.not_le.mp h94)) (by rw [ezb', sub_n hzb k1]; omega)
          · refine v_bipush (v := (-13)) G dX8_copy_53 rfl ?_
            refine RET _ _ _ _ _ _ rfl (Nat.le_of_ble_eq_true rfl) (Nat.le_of_ble_eq_true rfl) dX8_copy_55 (fun ws hws => ⟨_, hws, ?_⟩)
            clear RET G hT hnm
            rw [s_copy, if_pos ⟨h1_h, h8_h⟩, esan, esbn, if_neg (by rintro (z | z); exact h23 z; exact h32 z), if_neg (by exact h50)]
            exact ⟨rfl, rfl⟩
        · refine v_bipush (v := (-11)) G dX8_copy_35 rfl ?_
          refine RET _ _ _ _ _ _ rfl (Nat.le_of_ble_eq_true rfl) (Nat.le_of_ble_eq_true rfl) dX8_copy_37 (fun ws hws => ⟨_, hws, ?_⟩)
          clear RET G hT hnm
          rw [s_copy, if_pos ⟨h1_h, h8_h⟩, esan, esbn, if_pos (by first | exact Or.inl h23 | exact Or.inr h32)]
          exact ⟨rfl, rfl⟩
    · refine v_if_ne (tgt := 17) G dX8_copy_11 (by decide) (fun h11 => absurd h11 (by decide)) (fun h11 => ?_)
      refine v_bipush (v := (-2)) G dX8_copy_14 rfl ?_
      refine RET _ _ _ _ _ _ rfl (Nat.le_of_ble_eq_true rfl) (Nat.le_of_ble_eq_true rfl) dX8_copy_16 (fun ws hws => ⟨_, hws, ?_⟩)
      clear RET G hT hnm
      rw [s_copy, if_neg (fun q => by first | exact h1_h q.1 | exact h8_h q.2)]
      exact ⟨rfl, rfl⟩
  · refine v_if_eq (tgt := 14) G dX8_copy_4 (by decide) (fun h4 => ?_) (fun h4 => absurd h4 (by decide))
    refine v_bipush (v := (-2)) G dX8_copy_14 rfl ?_
    refine RET _ _ _ _ _ _ rfl (Nat.le_of_ble_eq_true rfl) (Nat.le_of_ble_eq_true rfl) dX8_copy_16 (fun ws hws => ⟨_, hws, ?_⟩)
    clear RET G hT hnm
    rw [s_copy, if_neg (fun q => by first | exact h1_h q.1 | exact h8_h q.2)]
    exact ⟨rfl, rfl⟩
abbrev rmX8_lives : Room := { frames := 3, cells := 0, slots := 0, locals := 68 }
set_option maxHeartbeats 1000000 in
theorem kX8_lives {KT : (Nat → Prop) → State → Heap → Prop} (hK : KTok KT) (l : Launch) (dC : Nat → ClassId) (dI : Nat → Nat → Nat) (ct ad : Nat → Nat) (σ : MS) (x : Int32) (q : Int32) (a : Int32) (n : Int32) (hO : Ok (co σ)) : MC KT (dC, dI) vwCl (tysF ct) l yX8_lives cX8_lives 8 (some .int) rmX8_lives [.ref (ad 43), .int x, .int q, .int a, .int n] (RM ct ad σ) (QI_ (dC, dI) vwCl (RM ct ad) (fun (r : Int32) (σ' : MS) => ((s_lives (co σ) x q a n).1) = r ∧ co σ' = (s_lives (co σ) x q a n).2)) := by
  refine MC.ofI (own := RX8) pl_X8 rfl (Nat.le_of_ble_eq_true rfl) ?_
  intro pp ee ss mm aa bb hh cc AA QQ G hT hnm RET
  refine v_loc (L' := [(0, .ref (ad 43)), (1, .int x), (2, .int q), (3, .int a), (4, .int n)]) rfl ?_
  refine v_iload_n G 1 dX8_lives_0 rfl ?_
  refine w_callSi G hK hT (kX8_isSheet hK l dC dI ct ad σ x) (ck_X8_410 G.2.2.2.2.1 ⟨Nat.le_of_ble_eq_true rfl, Nat.le_of_ble_eq_true rfl⟩) (fun _ h => h) rfl [] rfl (Nat.le_of_ble_eq_true rfl) dX8_lives_1 ⟨Nat.le_of_ble_eq_true rfl, Nat.le_of_ble_eq_true rfl⟩ (k1 := 0) (n1 := 0) rfl rfl ?_
  rintro r1 σ1 (⟨rfl, rfl, h1_h⟩ | ⟨rfl, rfl, h1_h⟩)
  · refine v_if_eq (tgt := 32) G dX8_lives_4 (by decide) (fun h4 => absurd h4 (by decide)) (fun h4 => ?_)
    refine v_iload_n G 2 dX8_lives_7 rfl ?_
    refine v_i2l (v := q.toInt64) G dX8_lives_8 rfl ?_
    refine v_lconst (v := 0) G dX8_lives_9 rfl ?_
    refine v_ldc2 G q1727 dX8_lives_10 ?_
    refine w_callSi G hK hT (kX8_in hK l dC dI ct ad σ q.toInt64 0 2) (ck_X8_86 G.2.2.2.2.1 ⟨Nat.le_of_ble_eq_true rfl, Nat.le_of_ble_eq_true rfl⟩) (fun _ h => h) rfl [] rfl (Nat.le_of_ble_eq_true rfl) dX8_lives_13 ⟨Nat.le_of_ble_eq_true rfl, Nat.le_of_ble_eq_true rfl⟩ (k1 := 0) (n1 := 0) rfl rfl ?_
    rintro r13 σ13 (⟨rfl, rfl, h13_h⟩ | ⟨rfl, rfl, h13_h⟩)
    · have g13 := (in_rg (c := q) (lo := 0) (hi := 2) (a := 0) (z := 2) (by decide) (by decide)).mp h13_h
      refine v_if_eq (tgt := 32) G dX8_lives_16 (by decide) (fun h16 => absurd h16 (by decide)) (fun h16 => ?_)
      refine v_iload G 4 dX8_lives_19 rfl ?_
      refine v_i2l (v := n.toInt64) G dX8_lives_21 rfl ?_
      refine v_lconst (v := 0) G dX8_lives_22 rfl ?_
      refine v_ldc2 G q1679 dX8_lives_23 ?_
      refine w_callSi G hK hT (kX8_in hK l dC dI ct ad σ n.toInt64 0 5) (ck_X8_86 G.2.2.2.2.1 ⟨Nat.le_of_ble_eq_true rfl, Nat.le_of_ble_eq_true rfl⟩) (fun _ h => h) rfl [] rfl (Nat.le_of_ble_eq_true rfl) dX8_lives_26 ⟨Nat.le_of_ble_eq_true rfl, Nat.le_of_ble_eq_true rfl⟩ (k1 := 0) (n1 := 0) rfl rfl ?_
      rintro r26 σ26 (⟨rfl, rfl, h26_h⟩ | ⟨rfl, rfl, h26_h⟩)
      · have g26 := (in_rg (c := n) (lo := 0) (hi := 5) (a := 0) (z := 5) (by decide) (by decide)).mp h26_h
        refine v_if_ne (tgt := 35) G dX8_lives_29 (by decide) (fun h29 => ?_) (fun h29 => absurd h29 (by decide))
        obtain ⟨s, hsj, es⟩ := rg_nat (n := 3) h1_h (by decide)
        have hs4 : s < 4 := by omega
        have esn : n_ x = s := by rw [es]; exact nI_clamp (by omega)
        refine v_aload_n G 0 dX8_lives_35 rfl ?_
        refine m_get (v := .ref (ad 39)) G 39 (by decide) rfl q1333 rfl dX8_lives_36 ?_
        refine v_iload_n G 1 dX8_lives_39 rfl ?_
        refine m_zald G (s) es (show s < 4 by first | omega | assumption | decide) dX8_lives_40 ?_
        refine v_if_eq (tgt := 57) G dX8_lives_41 (by decide) (fun h41 => ?_) (fun h41 => ?_)
        · refine v_aload_n G 0 dX8_lives_57 rfl ?_
          refine m_get (v := .ref (ad 39)) G 39 (by decide) rfl q1333 rfl dX8_lives_58 ?_
          refine v_iload_n G 1 dX8_lives_61 rfl ?_
          refine m_zald G (s) es (show s < 4 by first | omega | assumption | decide) dX8_lives_62 ?_
          refine v_if_ne (tgt := 69) G dX8_lives_63 (by decide) (fun h63 => False.elim (by exact h63 h41)) (fun h63 => ?_)
          refine v_bipush (v := (-11)) G dX8_lives_66 rfl ?_
          refine RET _ _ _ _ _ _ rfl (Nat.le_of_ble_eq_true rfl) (Nat.le_of_ble_eq_true rfl) dX8_lives_68 (fun ws hws => ⟨_, hws, ?_⟩)
          clear RET G hT hnm
          rw [s_lives, if_pos ⟨h1_h, g13, g26⟩, esn, if_pos (by first | exact h63 | exact h41)]
          exact ⟨rfl, rfl⟩
        · refine v_aload_n G 0 dX8_lives_44 rfl ?_
          refine m_get (v := .ref (ad 40)) G 40 (by decide) rfl q1334 rfl dX8_lives_45 ?_
          refine v_iload_n G 1 dX8_lives_48 rfl ?_
          refine m_iald G 40 rfl (s) es (show s < 4 by first | omega | assumption | decide) dX8_lives_49 ?_
          refine v_iload_n G 2 dX8_lives_50 rfl ?_
          refine v_icmp_eq (tgt := 57) G dX8_lives_51 (by decide) (fun h51 => ?_) (fun h51 => ?_)
          · refine v_aload_n G 0 dX8_lives_57 rfl ?_
            refine m_get (v := .ref (ad 39)) G 39 (by decide) rfl q1333 rfl dX8_lives_58 ?_
            refine v_iload_n G 1 dX8_lives_61 rfl ?_
            refine m_zald G (s) es (show s < 4 by first | omega | assumption | decide) dX8_lives_62 ?_
            refine v_if_ne (tgt := 69) G dX8_lives_63 (by decide) (fun h63 => ?_) (fun h63 => False.elim (by exact h41 h63))
            obtain ⟨qs, zs, hqs, eqs, hzs, ezs⟩ := sheet_is hO.2.2.2.1 hs4 (by first | exact h66 | exact h41)
            obtain ⟨nn, hnn, enn_⟩ := rg_nat (n := 5) (x := n) g26 (by decide)
            have enn : n_ n = nn := by rw [enn_]; exact nI_clamp (by omega)
            refine v_iconst (v := 0) G dX8_lives_69 rfl ?_
            refine v_istore (L' := [(5, .int 0), (0, .ref (ad 43)), (1, .int x), (2, .int q), (3, .int a), (4, .int n)]) G dX8_lives_70 (by decide) rfl ?_
            refine v_iconst (v := 0) G dX8_lives_72 rfl ?_
            refine v_istore (L' := [(6, .int 0), (5, .int 0), (0, .ref (ad 43)), (1, .int x), (2, .int q), (3, .int a), (4, .int n)]) G dX8_lives_73 (by decide) rfl ?_
            have loop75 : ∀ (dd : Nat) (t : Nat) (τ : MS), (t ≤ nn) → (co τ = (s_liv (co σ) s (n_ a) t).2) → (s_lvL (co σ) s a (co σ 41 s) nn 0 = s_lvL (co σ) s a (co σ 41 s) (nn - t) t) → nn - t < dd → V_ pp l ee rmX8_lives ss mm aa bb hh cc 8 (dC, dI) vwCl AA QQ 0 0 (RM ct ad τ) 75 [(6, .int (nI t)), (5, .int ((s_liv (co σ) s (n_ a) t).1)), (4, .int n), (3, .int a), (2, .int q), (1, .int x), (0, .ref (ad 43))] [] := by
              intro dd
              induction dd with
              | zero => intro t τ ht hc hlr hdd; exact absurd hdd (Nat.not_lt_zero _)
              | succ dd ih75 =>
                intro t τ ht hc hlr hdd
                refine v_iload G 0 dX8_lives_75 rfl ?_
                refine v_iload G 2 dX8_lives_77 rfl ?_
                refine v_icmp_ge (tgt := 167) G dX8_lives_79 (by decide) (fun h79 => ?_) (fun h79 => ?_)
                · have n79 := (cmp_le (x := n) (y := nI t) (a := nn) (b := t) enn_ rfl (by omega) (by omega)).mp h79
                  refine v_iload G 1 dX8_lives_167 rfl ?_
                  refine RET _ _ _ _ _ _ rfl (Nat.le_of_ble_eq_true rfl) (Nat.le_of_ble_eq_true rfl) dX8_lives_169 (fun ws hws => ⟨_, hws, ?_⟩)
                  clear RET G hT hnm
                  rw [s_lives, if_pos ⟨h1_h, g13, g26⟩, esn, if_neg (by exact h41), if_pos (by exact h51), enn, hlr, show nn - t = 0 by omega, s_lvL]
                  exact ⟨rfl, hc⟩
                · have n79 := (not_congr (cmp_le (x := n) (y := nI t) (a := nn) (b := t) enn_ rfl (by omega) (by omega))).mp h79
                  have hzt : τ.1 41 s = nI zs := by rw [show τ.1 41 s = co τ 41 s from rfl, hc, liv_k (by decide) (by decide)]; exact ezs
                  have hzc : (co σ 41 s).toInt = zs := by rw [ezs]; exact nI_toInt (by omega)
                  have hzz : (nI zs - 3 * nI t - 3).toInt = (zs : Int) - 3 * t - 3 := by
                    rw [show (3 : Int32) * nI t = nI (3 * t) from ix_mul (ix_lit 3 rfl) rfl, Int32.toInt_sub, pk_sub_toInt (by omega) (by omega), show (3 : Int32).toInt = 3 by decide]
                    exact Int.bmod_eq_of_le (by omega) (by omega)
                  refine v_iload_n G 3 dX8_lives_82 rfl ?_
                  refine v_if_lt (tgt := 103) G dX8_lives_83 (by decide) (fun h83 => ?_) (fun h83 => ?_)
                  · refine v_bipush (v := (-12)) G dX8_lives_103 rfl ?_
                    refine RET _ _ _ _ _ _ rfl (Nat.le_of_ble_eq_true rfl) (Nat.le_of_ble_eq_true rfl) dX8_lives_105 (fun ws hws => ⟨_, hws, ?_⟩)
                    clear RET G hT hnm
                    rw [s_lives, if_pos ⟨h1_h, g13, g26⟩, esn, if_neg (by exact h41), if_pos (by exact h51), enn, hlr, show nn - t = (nn - (t + 1)) + 1 by omega, s_lvL, if_pos (by
                      first
                        | exact Or.inl h83
                        | (refine Or.inr ?_
                           have := Int32.lt_iff_toInt_lt.mp (Int32.not_le.mp h100)
                           rw [hzt, hzz] at this
                           rw [hzc]
                           omega))]
                    exact ⟨rfl, hc⟩
                  · refine v_iload_n G 3 dX8_lives_86 rfl ?_
                    refine v_aload_n G 6 dX8_lives_87 rfl ?_
                    refine m_get (v := .ref (ad 41)) G 41 (by decide) rfl q1335 rfl dX8_lives_88 ?_
                    refine v_iload_n G 5 dX8_lives_91 rfl ?_
                    refine m_iald G 41 rfl (s) es (show s < 4 by first | omega | assumption | decide) dX8_lives_92 ?_
                    refine v_iconst (v := 3) G dX8_lives_93 rfl ?_
                    refine v_iload G 0 dX8_lives_94 rfl ?_
                    refine v_imul G dX8_lives_96 ?_
                    refine v_isub G dX8_lives_97 ?_
                    refine v_iconst (v := 3) G dX8_lives_98 rfl ?_
                    refine v_isub G dX8_lives_99 ?_
                    refine v_icmp_le (tgt := 106) G dX8_lives_100 (by decide) (fun h100 => ?_) (fun h100 => ?_)
                    · have ha0 : 0 ≤ a.toInt := Int32.le_iff_toInt_le.mp (Int32.not_lt.mp h83)
                      have ha1 : a.toInt ≤ (zs : Int) - 3 * t - 3 := by
                        have := Int32.le_iff_toInt_le.mp h100
                        rwa [hzt, hzz] at this
                      have hnb : ¬ (a < 0 ∨ (co σ 41 s).toInt - 3 * (t : Int) - 3 < a.toInt) := by
                        rintro (z | z)
                        · exact h83 z
                        · rw [hzc] at z; omega
                      obtain ⟨aa_, haa, eaa⟩ := rg_nat (n := 40) (x := a) ⟨ha0, by omega⟩ (by decide)
                      have eaan : n_ a = aa_ := by rw [eaa]; exact nI_clamp (by omega)
                      have tta : a.toInt = aa_ := by rw [eaa]; exact nI_toInt (by omega)
                      refine v_bipush (v := 40) G dX8_lives_106 rfl ?_
                      refine v_iload_n G 5 dX8_lives_108 rfl ?_
                      refine v_imul G dX8_lives_109 ?_
                      refine v_iload_n G 3 dX8_lives_110 rfl ?_
                      refine v_iadd G dX8_lives_111 ?_
                      refine v_iconst (v := 3) G dX8_lives_112 rfl ?_
                      refine v_iload G 0 dX8_lives_113 rfl ?_
                      refine v_imul G dX8_lives_115 ?_
                      refine v_iadd G dX8_lives_116 ?_
                      refine v_istore (L' := [(7, .int (((40 * x) + a) + (3 * (nI t)))), (6, .int (nI t)), (5, .int ((s_liv (co σ) s (n_ a) t).1)), (4, .int n), (3, .int a), (2, .int q), (1, .int x), (0, .ref (ad 43))]) G dX8_lives_117 (by decide) rfl ?_
                      refine v_iload G 2 dX8_lives_119 rfl ?_
                      refine v_aload_n G 7 dX8_lives_121 rfl ?_
                      refine v_aload_n G 7 dX8_lives_122 rfl ?_
                      refine m_get (v := .ref (ad 42)) G 42 (by decide) rfl q1336 rfl dX8_lives_123 ?_
                      refine v_iload G 0 dX8_lives_126 rfl ?_
                      refine m_iald G 42 rfl (((40 * s) + aa_) + (3 * t)) (ix_add (ix_add (ix_mul (ix_lit 40 rfl) es) eaa) (ix_mul (ix_lit 3 rfl) rfl)) (show ((40 * s) + aa_) + (3 * t) < 160 by first | omega | assumption | decide) dX8_lives_128 ?_
                      refine v_aload_n G 7 dX8_lives_129 rfl ?_
                      refine m_get (v := .ref (ad 42)) G 42 (by decide) rfl q1336 rfl dX8_lives_130 ?_
                      refine v_iload G 0 dX8_lives_133 rfl ?_
                      refine v_iconst (v := 1) G dX8_lives_135 rfl ?_
                      refine v_iadd G dX8_lives_136 ?_
                      refine m_iald G 42 rfl ((((40 * s) + aa_) + (3 * t)) + 1) (ix_add (ix_add (ix_add (ix_mul (ix_lit 40 rfl) es) eaa) (ix_mul (ix_lit 3 rfl) rfl)) (ix_lit 1 rfl)) (show (((40 * s) + aa_) + (3 * t)) + 1 < 160 by first | omega | assumption | decide) dX8_lives_137 ?_
                      refine v_aload_n G 7 dX8_lives_138 rfl ?_
                      refine m_get (v := .ref (ad 42)) G 42 (by decide) rfl q1336 rfl dX8_lives_139 ?_
                      refine v_iload G 0 dX8_lives_142 rfl ?_
                      refine v_iconst (v := 2) G dX8_lives_144 rfl ?_
                      refine v_iadd G dX8_lives_145 ?_
                      refine m_iald G 42 rfl ((((40 * s) + aa_) + (3 * t)) + 2) (ix_add (ix_add (ix_add (ix_mul (ix_lit 40 rfl) es) eaa) (ix_mul (ix_lit 3 rfl) rfl)) (ix_lit 2 rfl)) (show (((40 * s) + aa_) + (3 * t)) + 2 < 160 by first | omega | assumption | decide) dX8_lives_146 ?_
                      refine w_callVi G hK hT (kX8_life hK l dC dI ct ad τ (τ.1 42 (((40 * s) + aa_) + (3 * t))) (τ.1 42 ((((40 * s) + aa_) + (3 * t)) + 1)) (τ.1 42 ((((40 * s) + aa_) + (3 * t)) + 2)) (by rw [hc]; exact (ok_liv hO _))) (ck_X8_435 G.2.2.2.2.1 ⟨Nat.le_of_ble_eq_true rfl, Nat.le_of_ble_eq_true rfl⟩) m_recv (fun _ h => h) rfl [.int ((s_liv (co σ) s (n_ a) t).1)] rfl (Nat.le_of_ble_eq_true rfl) dX8_lives_147 ⟨Nat.le_of_ble_eq_true rfl, Nat.le_of_ble_eq_true rfl⟩ (k1 := 0) (n1 := 0) rfl rfl ?_
                      rintro r147 σ147 ⟨rfl, h147_c⟩
                      have e42 : τ.1 42 = co σ 42 := by rw [show τ.1 42 = co τ 42 from rfl, hc, liv_k (by decide) (by decide)]
                      have hr2 : (s_life (s_liv (co σ) s (n_ a) t).2 (co σ 42 (40 * s + n_ a + 3 * t)) (co σ 42 (40 * s + n_ a + 3 * t + 1)) (co σ 42 (40 * s + n_ a + 3 * t + 2))).1 = (s_life (co τ) (τ.1 42 (40 * s + aa_ + 3 * t)) (τ.1 42 (40 * s + aa_ + 3 * t + 1)) (τ.1 42 (40 * s + aa_ + 3 * t + 2))).1 := by rw [e42, hc, eaan]
                      have hc2 : co σ147 = (s_liv (co σ) s (n_ a) (t + 1)).2 := by rw [h147_c, e42, hc, s_liv, eaan]
                      refine v_if_lt (tgt := 157) G dX8_lives_150 (by decide) (fun h150 => ?_) (fun h150 => ?_)
                      · refine v_iconst (v := 0) G dX8_lives_157 rfl ?_
                        refine v_iadd G dX8_lives_158 ?_
                        refine v_istore (L' := [(5, .int (((s_liv (co σ) s (n_ a) t).1) + 0)), (7, .int (((40 * x) + a) + (3 * (nI t)))), (6, .int (nI t)), (4, .int n), (3, .int a), (2, .int q), (1, .int x), (0, .ref (ad 43))]) G dX8_lives_159 (by decide) rfl ?_
                        refine v_iinc (v := nI (t + 1)) (L' := [(6, .int (nI (t + 1))), (5, .int (((s_liv (co σ) s (n_ a) t).1) + 0)), (7, .int (((40 * x) + a) + (3 * (nI t)))), (4, .int n), (3, .int a), (2, .int q), (1, .int x), (0, .ref (ad 43))]) G 2 dX8_lives_161 rfl (ix_add rfl (ix_lit 1 rfl)) (by decide) rfl ?_
                        refine v_goto (tgt := 75) G dX8_lives_164 (by decide) ?_
                        refine V_.sub (L' := [(6, .int (nI (t + 1))), (5, .int (((s_liv (co σ) s (n_ a) t).1) + 0)), (4, .int n), (3, .int a), (2, .int q), (1, .int x), (0, .ref (ad 43))]) ?_ [0, 1, 3, 4, 5, 6, 7] rfl
                        refine v_loc (L' := [(6, .int (nI (t + 1))), (5, .int ((s_liv (co σ) s (n_ a) (t + 1)).1)), (4, .int n), (3, .int a), (2, .int q), (1, .int x), (0, .ref (ad 43))]) ((by rw [s_liv, hr2]; first | (rw [if_pos h150] <;> rfl) | (rw [if_neg h150] <;> rfl))) ?_
                        exact ih75  (t + 1) σ147 (by omega) hc2 (by rw [hlr, show nn - t = (nn - (t + 1)) + 1 by omega, s_lvL, if_neg hnb]) (by omega)
                      · refine v_iconst (v := 1) G dX8_lives_153 rfl ?_
                        refine v_goto (tgt := 158) G dX8_lives_154 (by decide) ?_
                        refine v_iadd G dX8_lives_158 ?_
                        refine v_istore (L' := [(5, .int (((s_liv (co σ) s (n_ a) t).1) + 1)), (7, .int (((40 * x) + a) + (3 * (nI t)))), (6, .int (nI t)), (4, .int n), (3, .int a), (2, .int q), (1, .int x), (0, .ref (ad 43))]) G dX8_lives_159 (by decide) rfl ?_
                        refine v_iinc (v := nI (t + 1)) (L' := [(6, .int (nI (t + 1))), (5, .int (((s_liv (co σ) s (n_ a) t).1) + 1)), (7, .int (((40 * x) + a) + (3 * (nI t)))), (4, .int n), (3, .int a), (2, .int q), (1, .int x), (0, .ref (ad 43))]) G 2 dX8_lives_161 rfl (ix_add rfl (ix_lit 1 rfl)) (by decide) rfl ?_
                        refine v_goto (tgt := 75) G dX8_lives_164 (by decide) ?_
                        refine V_.sub (L' := [(6, .int (nI (t + 1))), (5, .int (((s_liv (co σ) s (n_ a) t).1) + 1)), (4, .int n), (3, .int a), (2, .int q), (1, .int x), (0, .ref (ad 43))]) ?_ [0, 1, 3, 4, 5, 6, 7] rfl
                        refine v_loc (L' := [(6, .int (nI (t + 1))), (5, .int ((s_liv (co σ) s (n_ a) (t + 1)).1)), (4, .int n), (3, .int a), (2, .int q), (1, .int x), (0, .ref (ad 43))]) ((by rw [s_liv, hr2]; first | (rw [if_pos h150] <;> rfl) | (rw [if_neg h150] <;> rfl))) ?_
                        exact ih75  (t + 1) σ147 (by omega) hc2 (by rw [hlr, show nn - t = (nn - (t + 1)) + 1 by omega, s_lvL, if_neg hnb]) (by omega)
                    · refine v_bipush (v := (-12)) G dX8_lives_103 rfl ?_
                      refine RET _ _ _ _ _ _ rfl (Nat.le_of_ble_eq_true rfl) (Nat.le_of_ble_eq_true rfl) dX8_lives_105 (fun ws hws => ⟨_, hws, ?_⟩)
                      clear RET G hT hnm
                      rw [s_lives, if_pos ⟨h1_h, g13, g26⟩, esn, if_neg (by exact h41), if_pos (by exact h51), enn, hlr, show nn - t = (nn - (t + 1)) + 1 by omega, s_lvL, if_pos (by
                        first
                          | exact Or.inl h83
                          | (refine Or.inr ?_
                             have := Int32.lt_iff_toInt_lt.mp (Int32.not_le.mp h100)
                             rw [hzt, hzz] at this
                             rw [hzc]
                             omega))]
                      exact ⟨rfl, hc⟩
            refine V_.sub (L' := [(6, .int 0), (5, .int 0), (4, .int n), (3, .int a), (2, .int q), (1, .int x), (0, .ref (ad 43))]) ?_ [0, 1, 6, 5, 4, 3, 2] rfl
            refine v_loc (L' := [(6, .int (nI 0)), (5, .int ((s_liv (co σ) s (n_ a) 0).1)), (4, .int n), (3, .int a), (2, .int q), (1, .int x), (0, .ref (ad 43))]) (rfl) ?_
            exact loop75 _ 0 σ (Nat.zero_le _) rfl rfl (Nat.lt_succ_self _)
          · refine v_bipush (v := (-13)) G dX8_lives_54 rfl ?_
            refine RET _ _ _ _ _ _ rfl (Nat.le_of_ble_eq_true rfl) (Nat.le_of_ble_eq_true rfl) dX8_lives_56 (fun ws hws => ⟨_, hws, ?_⟩)
            clear RET G hT hnm
            rw [s_lives, if_pos ⟨h1_h, g13, g26⟩, esn, if_neg (by exact h41), if_neg (by exact h51)]
            exact ⟨rfl, rfl⟩
      · have g26 : ¬ rg n 0 5 := fun zz => h26_h ((in_rg (c := n) (lo := 0) (hi := 5) (a := 0) (z := 5) (by decide) (by decide)).mpr zz)
        refine v_if_ne (tgt := 35) G dX8_lives_29 (by decide) (fun h29 => absurd h29 (by decide)) (fun h29 => ?_)
        refine v_bipush (v := (-2)) G dX8_lives_32 rfl ?_
        refine RET _ _ _ _ _ _ rfl (Nat.le_of_ble_eq_true rfl) (Nat.le_of_ble_eq_true rfl) dX8_lives_34 (fun ws hws => ⟨_, hws, ?_⟩)
        clear RET G hT hnm
        rw [s_lives, if_neg (fun z => by first | exact h1_h z.1 | exact g13 z.2.1 | exact g26 z.2.2)]
        exact ⟨rfl, rfl⟩
    · have g13 : ¬ rg q 0 2 := fun zz => h13_h ((in_rg (c := q) (lo := 0) (hi := 2) (a := 0) (z := 2) (by decide) (by decide)).mpr zz)
      refine v_if_eq (tgt := 32) G dX8_lives_16 (by decide) (fun h16 => ?_) (fun h16 => absurd h16 (by decide))
      refine v_bipush (v := (-2)) G dX8_lives_32 rfl ?_
      refine RET _ _ _ _ _ _ rfl (Nat.le_of_ble_eq_true rfl) (Nat.le_of_ble_eq_true rfl) dX8_lives_34 (fun ws hws => ⟨_, hws, ?_⟩)
      clear RET G hT hnm
      rw [s_lives, if_neg (fun z => by first | exact h1_h z.1 | exact g13 z.2.1 | exact g26 z.2.2)]
      exact ⟨rfl, rfl⟩
  · refine v_if_eq (tgt := 32) G dX8_lives_4 (by decide) (fun h4 => ?_) (fun h4 => absurd h4 (by decide))
    refine v_bipush (v := (-2)) G dX8_lives_32 rfl ?_
    refine RET _ _ _ _ _ _ rfl (Nat.le_of_ble_eq_true rfl) (Nat.le_of_ble_eq_true rfl) dX8_lives_34 (fun ws hws => ⟨_, hws, ?_⟩)
    clear RET G hT hnm
    rw [s_lives, if_neg (fun z => by first | exact h1_h z.1 | exact g13 z.2.1 | exact g26 z.2.2)]
    exact ⟨rfl, rfl⟩
