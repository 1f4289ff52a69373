set_option maxRecDepth 100000
theorem sp8 {σ : MS} {q : Nat} {b0 b1 b2 b3 b4 b5 b6 b7 : Int32} : ∀ i, (mset (mset (mset (mset (mset (mset (mset (mset σ 1 q b0) 1 (q + 1) b1) 1 (q + 2) b2) 1 (q + 3) b3) 1 (q + 4) b4) 1 (q + 5) b5) 1 (q + 6) b6) 1 (q + 7) b7).1 1 i = s_sp q [b0, b1, b2, b3, b4, b5, b6, b7] (σ.1 1) i := by
  intro i
  unfold s_sp
  simp only [mset, upd2_at, true_and]
  by_cases h : q ≤ i ∧ i < q + 8
  · rw [if_pos h]
    have h8 : i = q ∨ i = q + 1 ∨ i = q + 2 ∨ i = q + 3 ∨ i = q + 4 ∨ i = q + 5 ∨ i = q + 6 ∨ i = q + 7 := by omega
    rcases h8 with rfl | rfl | rfl | rfl | rfl | rfl | rfl | rfl <;> simp
  · rw [if_neg h, if_neg (by omega), if_neg (by omega), if_neg (by omega), if_neg (by omega), if_neg (by omega), if_neg (by omega), if_neg (by omega), if_neg (by omega)]
theorem sp8k {σ : MS} {q k : Nat} {b0 b1 b2 b3 b4 b5 b6 b7 : Int32} (h : k ≠ 1) : (mset (mset (mset (mset (mset (mset (mset (mset σ 1 q b0) 1 (q + 1) b1) 1 (q + 2) b2) 1 (q + 3) b3) 1 (q + 4) b4) 1 (q + 5) b5) 1 (q + 6) b6) 1 (q + 7) b7).1 k = σ.1 k := by
  rw [mset_ne_k h, mset_ne_k h, mset_ne_k h, mset_ne_k h, mset_ne_k h, mset_ne_k h, mset_ne_k h, mset_ne_k h]
abbrev rmX8_init : Room := { frames := 2, cells := 19, slots := 1566, locals := 40 }
set_option maxHeartbeats 2000000 in
theorem kX8_init {KT : (Nat → Prop) → State → Heap → Prop} (hK : KTok KT) (l : Launch) (dC : Nat → ClassId) (dI : Nat → Nat → Nat) (ct : Nat → ClassId) (a : Nat) : MC KT (dC, dI) vwCl (tysF ct) l yX8_init cX8_init 2 none rmX8_init [.ref a] (fun ws => ((a, Sum.inr (0, m_fsP [] (fun _ => a) σz)) : Nat × va_E) ∈ ws) (QV_ (dC, dI) vwCl (fun (x : (Nat → Nat) × MS) ws => x.1 43 = a ∧ RM ct x.1 x.2 ws) (fun x => co x.2 = s_ini)) := by
  refine MC.ofV (own := RX8) pl_X8 rfl (Nat.le_of_ble_eq_true rfl) ?_
  intro pp ee ss mm aa bb hh cc AA QQ G hT hnm RET
  refine v_loc (L' := [(0, .ref a)]) rfl ?_
  obtain ⟨ad0, had0, hΦ⟩ : ∃ ad0 : Nat → Nat, ad0 43 = a ∧ (∀ ws, ((a, Sum.inr (0, m_fsP [] (fun _ => a) σz)) : Nat × va_E) ∈ ws → RMp [] ct ad0 σz ws) := ⟨fun _ => a, rfl, fun ws h => ⟨fun i hi j hj _ => by simp at hi hj; rw [hi, hj], fun i hi => absurd hi List.not_mem_nil, h⟩⟩
  refine V_.mono ?_ hΦ
  refine v_aload_n G 0 dX8_init_0 rfl ?_
  refine v_objInit G q1290 q179 q180 dX8_init_1 (Nat.le_of_ble_eq_true rfl) (by decide) (Nat.le_of_ble_eq_true rfl) ?_
  refine v_aload_n G 0 dX8_init_4 rfl ?_
  refine v_sipush (v := 960) G dX8_init_5 rfl ?_
  refine m_born (S := []) (atype := .int) G hnm 1 0 (by decide) (by decide) (by decide) (by decide) had0 (hcell := rfl) rfl q750 rfl (fun _ => z_I) rfl (Nat.le_of_ble_eq_true rfl) (Nat.le_of_ble_eq_true rfl) dX8_init_8 ⟨Nat.le_of_ble_eq_true rfl, Nat.le_of_ble_eq_true rfl⟩ (k1 := 1) (n1 := 960) rfl rfl q1295 rfl rfl rfl dX8_init_10 ?_
  intro ad1 had1
  refine v_aload_n G 0 dX8_init_13 rfl ?_
  refine v_bipush (v := 6) G dX8_init_14 rfl ?_
  refine m_born (S := [1]) (atype := .int) G hnm 2 0 (by decide) (by decide) (by decide) (by decide) had1 (hcell := rfl) rfl q750 rfl (fun _ => z_I) rfl (Nat.le_of_ble_eq_true rfl) (Nat.le_of_ble_eq_true rfl) dX8_init_16 ⟨Nat.le_of_ble_eq_true rfl, Nat.le_of_ble_eq_true rfl⟩ (k1 := 2) (n1 := 966) rfl rfl q1296 rfl rfl rfl dX8_init_18 ?_
  intro ad2 had2
  refine v_aload_n G 0 dX8_init_21 rfl ?_
  refine v_sipush (v := 160) G dX8_init_22 rfl ?_
  refine m_born (S := [2, 1]) (atype := .int) G hnm 5 0 (by decide) (by decide) (by decide) (by decide) had2 (hcell := rfl) rfl q750 rfl (fun _ => z_I) rfl (Nat.le_of_ble_eq_true rfl) (Nat.le_of_ble_eq_true rfl) dX8_init_25 ⟨Nat.le_of_ble_eq_true rfl, Nat.le_of_ble_eq_true rfl⟩ (k1 := 3) (n1 := 1126) rfl rfl q1299 rfl rfl rfl dX8_init_27 ?_
  intro ad3 had3
  refine v_aload_n G 0 dX8_init_30 rfl ?_
  refine v_bipush (v := 24) G dX8_init_31 rfl ?_
  refine m_born (S := [5, 2, 1]) (atype := .int) G hnm 8 0 (by decide) (by decide) (by decide) (by decide) had3 (hcell := rfl) rfl q750 rfl (fun _ => z_I) rfl (Nat.le_of_ble_eq_true rfl) (Nat.le_of_ble_eq_true rfl) dX8_init_33 ⟨Nat.le_of_ble_eq_true rfl, Nat.le_of_ble_eq_true rfl⟩ (k1 := 4) (n1 := 1150) rfl rfl q1302 rfl rfl rfl dX8_init_35 ?_
  intro ad4 had4
  refine v_aload_n G 0 dX8_init_38 rfl ?_
  refine v_bipush (v := 24) G dX8_init_39 rfl ?_
  refine m_born (S := [8, 5, 2, 1]) (atype := .int) G hnm 9 0 (by decide) (by decide) (by decide) (by decide) had4 (hcell := rfl) rfl q750 rfl (fun _ => z_I) rfl (Nat.le_of_ble_eq_true rfl) (Nat.le_of_ble_eq_true rfl) dX8_init_41 ⟨Nat.le_of_ble_eq_true rfl, Nat.le_of_ble_eq_true rfl⟩ (k1 := 5) (n1 := 1174) rfl rfl q1303 rfl rfl rfl dX8_init_43 ?_
  intro ad5 had5
  refine v_aload_n G 0 dX8_init_46 rfl ?_
  refine v_bipush (v := 25) G dX8_init_47 rfl ?_
  refine m_born (S := [9, 8, 5, 2, 1]) (atype := .int) G hnm 10 0 (by decide) (by decide) (by decide) (by decide) had5 (hcell := rfl) rfl q750 rfl (fun _ => z_I) rfl (Nat.le_of_ble_eq_true rfl) (Nat.le_of_ble_eq_true rfl) dX8_init_49 ⟨Nat.le_of_ble_eq_true rfl, Nat.le_of_ble_eq_true rfl⟩ (k1 := 6) (n1 := 1199) rfl rfl q1304 rfl rfl rfl dX8_init_51 ?_
  intro ad6 had6
  refine v_aload_n G 0 dX8_init_54 rfl ?_
  refine v_bipush (v := 50) G dX8_init_55 rfl ?_
  refine m_born (S := [10, 9, 8, 5, 2, 1]) (atype := .int) G hnm 27 0 (by decide) (by decide) (by decide) (by decide) had6 (hcell := rfl) rfl q750 rfl (fun _ => z_I) rfl (Nat.le_of_ble_eq_true rfl) (Nat.le_of_ble_eq_true rfl) dX8_init_57 ⟨Nat.le_of_ble_eq_true rfl, Nat.le_of_ble_eq_true rfl⟩ (k1 := 7) (n1 := 1249) rfl rfl q1321 rfl rfl rfl dX8_init_59 ?_
  intro ad7 had7
  refine v_aload_n G 0 dX8_init_62 rfl ?_
  refine v_bipush (v := 12) G dX8_init_63 rfl ?_
  refine m_born (S := [27, 10, 9, 8, 5, 2, 1]) (atype := .long) G hnm 28 1 (by decide) (by decide) (by decide) (by decide) had7 (hcell := rfl) rfl q780 rfl (fun _ => z_L) rfl (Nat.le_of_ble_eq_true rfl) (Nat.le_of_ble_eq_true rfl) dX8_init_65 ⟨Nat.le_of_ble_eq_true rfl, Nat.le_of_ble_eq_true rfl⟩ (k1 := 8) (n1 := 1261) rfl rfl q1322 rfl rfl rfl dX8_init_67 ?_
  intro ad8 had8
  refine v_aload_n G 0 dX8_init_70 rfl ?_
  refine v_bipush (v := 12) G dX8_init_71 rfl ?_
  refine m_born (S := [28, 27, 10, 9, 8, 5, 2, 1]) (atype := .long) G hnm 29 1 (by decide) (by decide) (by decide) (by decide) had8 (hcell := rfl) rfl q780 rfl (fun _ => z_L) rfl (Nat.le_of_ble_eq_true rfl) (Nat.le_of_ble_eq_true rfl) dX8_init_73 ⟨Nat.le_of_ble_eq_true rfl, Nat.le_of_ble_eq_true rfl⟩ (k1 := 9) (n1 := 1273) rfl rfl q1323 rfl rfl rfl dX8_init_75 ?_
  intro ad9 had9
  refine v_aload_n G 0 dX8_init_78 rfl ?_
  refine v_bipush (v := 12) G dX8_init_79 rfl ?_
  refine m_born (S := [29, 28, 27, 10, 9, 8, 5, 2, 1]) (atype := .int) G hnm 30 0 (by decide) (by decide) (by decide) (by decide) had9 (hcell := rfl) rfl q750 rfl (fun _ => z_I) rfl (Nat.le_of_ble_eq_true rfl) (Nat.le_of_ble_eq_true rfl) dX8_init_81 ⟨Nat.le_of_ble_eq_true rfl, Nat.le_of_ble_eq_true rfl⟩ (k1 := 10) (n1 := 1285) rfl rfl q1324 rfl rfl rfl dX8_init_83 ?_
  intro ad10 had10
  refine v_aload_n G 0 dX8_init_86 rfl ?_
  refine v_bipush (v := 12) G dX8_init_87 rfl ?_
  refine m_born (S := [30, 29, 28, 27, 10, 9, 8, 5, 2, 1]) (atype := .int) G hnm 31 0 (by decide) (by decide) (by decide) (by decide) had10 (hcell := rfl) rfl q750 rfl (fun _ => z_I) rfl (Nat.le_of_ble_eq_true rfl) (Nat.le_of_ble_eq_true rfl) dX8_init_89 ⟨Nat.le_of_ble_eq_true rfl, Nat.le_of_ble_eq_true rfl⟩ (k1 := 11) (n1 := 1297) rfl rfl q1325 rfl rfl rfl dX8_init_91 ?_
  intro ad11 had11
  refine v_aload_n G 0 dX8_init_94 rfl ?_
  refine v_bipush (v := 24) G dX8_init_95 rfl ?_
  refine m_born (S := [31, 30, 29, 28, 27, 10, 9, 8, 5, 2, 1]) (atype := .int) G hnm 32 0 (by decide) (by decide) (by decide) (by decide) had11 (hcell := rfl) rfl q750 rfl (fun _ => z_I) rfl (Nat.le_of_ble_eq_true rfl) (Nat.le_of_ble_eq_true rfl) dX8_init_97 ⟨Nat.le_of_ble_eq_true rfl, Nat.le_of_ble_eq_true rfl⟩ (k1 := 12) (n1 := 1321) rfl rfl q1326 rfl rfl rfl dX8_init_99 ?_
  intro ad12 had12
  refine v_aload_n G 0 dX8_init_102 rfl ?_
  refine v_bipush (v := 24) G dX8_init_103 rfl ?_
  refine m_born (S := [32, 31, 30, 29, 28, 27, 10, 9, 8, 5, 2, 1]) (atype := .int) G hnm 33 0 (by decide) (by decide) (by decide) (by decide) had12 (hcell := rfl) rfl q750 rfl (fun _ => z_I) rfl (Nat.le_of_ble_eq_true rfl) (Nat.le_of_ble_eq_true rfl) dX8_init_105 ⟨Nat.le_of_ble_eq_true rfl, Nat.le_of_ble_eq_true rfl⟩ (k1 := 13) (n1 := 1345) rfl rfl q1327 rfl rfl rfl dX8_init_107 ?_
  intro ad13 had13
  refine v_aload_n G 0 dX8_init_110 rfl ?_
  refine v_bipush (v := 24) G dX8_init_111 rfl ?_
  refine m_born (S := [33, 32, 31, 30, 29, 28, 27, 10, 9, 8, 5, 2, 1]) (atype := .int) G hnm 34 0 (by decide) (by decide) (by decide) (by decide) had13 (hcell := rfl) rfl q750 rfl (fun _ => z_I) rfl (Nat.le_of_ble_eq_true rfl) (Nat.le_of_ble_eq_true rfl) dX8_init_113 ⟨Nat.le_of_ble_eq_true rfl, Nat.le_of_ble_eq_true rfl⟩ (k1 := 14) (n1 := 1369) rfl rfl q1328 rfl rfl rfl dX8_init_115 ?_
  intro ad14 had14
  refine v_aload_n G 0 dX8_init_118 rfl ?_
  refine v_bipush (v := 25) G dX8_init_119 rfl ?_
  refine m_born (S := [34, 33, 32, 31, 30, 29, 28, 27, 10, 9, 8, 5, 2, 1]) (atype := .int) G hnm 35 0 (by decide) (by decide) (by decide) (by decide) had14 (hcell := rfl) rfl q750 rfl (fun _ => z_I) rfl (Nat.le_of_ble_eq_true rfl) (Nat.le_of_ble_eq_true rfl) dX8_init_121 ⟨Nat.le_of_ble_eq_true rfl, Nat.le_of_ble_eq_true rfl⟩ (k1 := 15) (n1 := 1394) rfl rfl q1329 rfl rfl rfl dX8_init_123 ?_
  intro ad15 had15
  refine v_aload_n G 0 dX8_init_126 rfl ?_
  refine v_iconst (v := (-1)) G dX8_init_127 rfl ?_
  refine m_pputI G 36 (by decide) (by decide) had15 q1330 rfl rfl rfl dX8_init_128 ?_
  refine v_aload_n G 0 dX8_init_131 rfl ?_
  refine v_iconst (v := 4) G dX8_init_132 rfl ?_
  refine m_born (S := [35, 34, 33, 32, 31, 30, 29, 28, 27, 10, 9, 8, 5, 2, 1]) (atype := .boolean) G hnm 39 2 (by decide) (by decide) (by decide) (by decide) had15 (hcell := rfl) rfl q1424 rfl (fun _ => z_Z) rfl (Nat.le_of_ble_eq_true rfl) (Nat.le_of_ble_eq_true rfl) dX8_init_133 ⟨Nat.le_of_ble_eq_true rfl, Nat.le_of_ble_eq_true rfl⟩ (k1 := 16) (n1 := 1398) rfl rfl q1333 rfl rfl rfl dX8_init_135 ?_
  intro ad16 had16
  refine v_aload_n G 0 dX8_init_138 rfl ?_
  refine v_iconst (v := 4) G dX8_init_139 rfl ?_
  refine m_born (S := [39, 35, 34, 33, 32, 31, 30, 29, 28, 27, 10, 9, 8, 5, 2, 1]) (atype := .int) G hnm 40 0 (by decide) (by decide) (by decide) (by decide) had16 (hcell := rfl) rfl q750 rfl (fun _ => z_I) rfl (Nat.le_of_ble_eq_true rfl) (Nat.le_of_ble_eq_true rfl) dX8_init_140 ⟨Nat.le_of_ble_eq_true rfl, Nat.le_of_ble_eq_true rfl⟩ (k1 := 17) (n1 := 1402) rfl rfl q1334 rfl rfl rfl dX8_init_142 ?_
  intro ad17 had17
  refine v_aload_n G 0 dX8_init_145 rfl ?_
  refine v_iconst (v := 4) G dX8_init_146 rfl ?_
  refine m_born (S := [40, 39, 35, 34, 33, 32, 31, 30, 29, 28, 27, 10, 9, 8, 5, 2, 1]) (atype := .int) G hnm 41 0 (by decide) (by decide) (by decide) (by decide) had17 (hcell := rfl) rfl q750 rfl (fun _ => z_I) rfl (Nat.le_of_ble_eq_true rfl) (Nat.le_of_ble_eq_true rfl) dX8_init_147 ⟨Nat.le_of_ble_eq_true rfl, Nat.le_of_ble_eq_true rfl⟩ (k1 := 18) (n1 := 1406) rfl rfl q1335 rfl rfl rfl dX8_init_149 ?_
  intro ad18 had18
  refine v_aload_n G 0 dX8_init_152 rfl ?_
  refine v_sipush (v := 160) G dX8_init_153 rfl ?_
  refine m_born (S := [41, 40, 39, 35, 34, 33, 32, 31, 30, 29, 28, 27, 10, 9, 8, 5, 2, 1]) (atype := .int) G hnm 42 0 (by decide) (by decide) (by decide) (by decide) had18 (hcell := rfl) rfl q750 rfl (fun _ => z_I) rfl (Nat.le_of_ble_eq_true rfl) (Nat.le_of_ble_eq_true rfl) dX8_init_156 ⟨Nat.le_of_ble_eq_true rfl, Nat.le_of_ble_eq_true rfl⟩ (k1 := 19) (n1 := 1566) rfl rfl q1336 rfl rfl rfl dX8_init_158 ?_
  intro ad19 had19
  refine V_.mono ?_ (fun ws h => RMp.done (by decide) (by decide) h)
  subst had19
  obtain ⟨ad, had⟩ : ∃ f, f = ad19 := ⟨_, rfl⟩
  rw [← had]
  obtain ⟨σ, hσ⟩ : ∃ x, x = (mset σz 36 0 (-1)) := ⟨_, rfl⟩
  rw [← hσ]
  have had43 : ad 43 = ad 43 := rfl
  have hz8 : ∀ k i, k ≠ 36 → σ.1 k i = 0 := fun k i hk => by rw [hσ]; exact (congrFun (mset_ne_k hk) i)
  have h36 : ∀ i, σ.1 36 i = if i = 0 then -1 else 0 := fun i => by rw [hσ]; show upd2 _ 36 0 _ 36 i = _; rw [upd2_at]; by_cases e : i = 0; rw [if_pos ⟨rfl, e⟩, if_pos e]; rw [if_neg (fun z => e z.2), if_neg e]; rfl
  refine v_iconst (v := 0) G dX8_init_161 rfl ?_
  refine v_istore_n (L' := [(1, .int 0), (0, .ref (ad 43))]) G dX8_init_162 (by decide) rfl ?_
  have loop163 : ∀ (dd : Nat) (q : Nat) (τ : MS), (q ≤ 24) → (∀ i, i < q → τ.1 8 i = nI ((i / 2 + 1 + i % 2) % 12)) → (∀ i, q ≤ i → τ.1 8 i = σ.1 8 i) → (ag [8] σ τ) → 24 - q < dd → V_ pp l ee rmX8_init ss mm aa bb hh cc 2 (dC, dI) vwCl AA QQ 19 1566 (RM ct ad τ) 163 [(1, .int (nI q)), (0, .ref (ad 43))] [] := by
    intro dd
    induction dd with
    | zero => intro q τ hq hlo hhi ha hdd; exact absurd hdd (Nat.not_lt_zero _)
    | succ dd ih163 =>
      intro q τ hq hlo hhi ha hdd
      refine v_iload_n G 0 dX8_init_163 rfl ?_
      refine v_bipush (v := 24) G dX8_init_164 rfl ?_
      refine v_icmp_ge (tgt := 193) G dX8_init_166 (by decide) (fun h166 => ?_) (fun h166 => ?_)
      · have n166 := (cmp_le (x := 24) (y := nI q) (a := 24) (b := q) (ix_lit 24 rfl) rfl (by omega) (by omega)).mp h166
        refine v_aload_n G 1 dX8_init_193 rfl ?_
        refine v_iconst (v := 0) G dX8_init_194 rfl ?_
        refine v_bipush (v := 116) G dX8_init_195 rfl ?_
        refine v_bipush (v := 97) G dX8_init_197 rfl ?_
        refine v_bipush (v := 107) G dX8_init_199 rfl ?_
        refine v_bipush (v := 101) G dX8_init_201 rfl ?_
        refine v_bipush (v := 115) G dX8_init_203 rfl ?_
        refine v_bipush (v := 32) G dX8_init_205 rfl ?_
        refine v_bipush (v := 99) G dX8_init_207 rfl ?_
        refine v_bipush (v := 114) G dX8_init_209 rfl ?_
        refine v_stk (st' := [.int 114, .int 99, .int 32, .int 115, .int 101, .int 107, .int 97, .int 116, .int (nI 0), .ref (ad 43)]) (by first | rfl | (have e0 : 0 = nI 0 := (ix_lit 0 rfl) ; simp only [e0])) ?_
        refine w_callVv G hK hT (kX8_spell hK l dC dI ct ad τ 0 116 97 107 101 115 32 99 114 (by first | assumption | omega)) (ck_X8_76 G.2.2.2.2.1 ⟨Nat.le_of_ble_eq_true rfl, Nat.le_of_ble_eq_true rfl⟩) m_recv (fun _ h => h) rfl [] rfl (Nat.le_of_ble_eq_true rfl) dX8_init_211 ⟨Nat.le_of_ble_eq_true rfl, Nat.le_of_ble_eq_true rfl⟩ (k1 := 19) (n1 := 1566) rfl rfl ?_
        rintro σ211 rfl
        obtain ⟨μ0, eμ0⟩ : ∃ x, x = (mset (mset (mset (mset (mset (mset (mset (mset τ 1 0 116) 1 (0 + 1) 97) 1 (0 + 2) 107) 1 (0 + 3) 101) 1 (0 + 4) 115) 1 (0 + 5) 32) 1 (0 + 6) 99) 1 (0 + 7) 114) := ⟨_, rfl⟩
        rw [← eμ0]
        have f0 : ∀ i, μ0.1 1 i = s_sp 0 [116, 97, 107, 101, 115, 32, 99, 114] (τ.1 1) i := by rw [eμ0]; exact sp8
        have k0 : ∀ k, k ≠ 1 → μ0.1 k = τ.1 k := fun k hk => by rw [eμ0]; exact sp8k hk
        refine v_aload_n G 1 dX8_init_214 rfl ?_
        refine v_bipush (v := 8) G dX8_init_215 rfl ?_
        refine v_bipush (v := 111) G dX8_init_217 rfl ?_
        refine v_bipush (v := 115) G dX8_init_219 rfl ?_
        refine v_bipush (v := 115) G dX8_init_221 rfl ?_
        refine v_bipush (v := 105) G dX8_init_223 rfl ?_
        refine v_bipush (v := 110) G dX8_init_225 rfl ?_
        refine v_bipush (v := 103) G dX8_init_227 rfl ?_
        refine v_bipush (v := 32) G dX8_init_229 rfl ?_
        refine v_bipush (v := 43) G dX8_init_231 rfl ?_
        refine v_stk (st' := [.int 43, .int 32, .int 103, .int 110, .int 105, .int 115, .int 115, .int 111, .int (nI 8), .ref (ad 43)]) (by first | rfl | (have e0 : 8 = nI 8 := (ix_lit 8 rfl) ; simp only [e0])) ?_
        refine w_callVv G hK hT (kX8_spell hK l dC dI ct ad μ0 8 111 115 115 105 110 103 32 43 (by first | assumption | omega)) (ck_X8_76 G.2.2.2.2.1 ⟨Nat.le_of_ble_eq_true rfl, Nat.le_of_ble_eq_true rfl⟩) m_recv (fun _ h => h) rfl [] rfl (Nat.le_of_ble_eq_true rfl) dX8_init_233 ⟨Nat.le_of_ble_eq_true rfl, Nat.le_of_ble_eq_true rfl⟩ (k1 := 19) (n1 := 1566) rfl rfl ?_
        rintro σ233 rfl
        obtain ⟨μ1, eμ1⟩ : ∃ x, x = (mset (mset (mset (mset (mset (mset (mset (mset μ0 1 8 111) 1 (8 + 1) 115) 1 (8 + 2) 115) 1 (8 + 3) 105) 1 (8 + 4) 110) 1 (8 + 5) 103) 1 (8 + 6) 32) 1 (8 + 7) 43) := ⟨_, rfl⟩
        rw [← eμ1]
        have f1 : ∀ i, μ1.1 1 i = s_sp 8 [111, 115, 115, 105, 110, 103, 32, 43] (μ0.1 1) i := by rw [eμ1]; exact sp8
        have k1 : ∀ k, k ≠ 1 → μ1.1 k = μ0.1 k := fun k hk => by rw [eμ1]; exact sp8k hk
        refine v_aload_n G 1 dX8_init_236 rfl ?_
        refine v_bipush (v := 16) G dX8_init_237 rfl ?_
        refine v_bipush (v := 32) G dX8_init_239 rfl ?_
        refine v_bipush (v := 121) G dX8_init_241 rfl ?_
        refine v_bipush (v := 101) G dX8_init_243 rfl ?_
        refine v_bipush (v := 97) G dX8_init_245 rfl ?_
        refine v_bipush (v := 114) G dX8_init_247 rfl ?_
        refine v_bipush (v := 32) G dX8_init_249 rfl ?_
        refine v_bipush (v := 59) G dX8_init_251 rfl ?_
        refine v_bipush (v := 32) G dX8_init_253 rfl ?_
        refine v_stk (st' := [.int 32, .int 59, .int 32, .int 114, .int 97, .int 101, .int 121, .int 32, .int (nI 16), .ref (ad 43)]) (by first | rfl | (have e0 : 16 = nI 16 := (ix_lit 16 rfl) ; simp only [e0])) ?_
        refine w_callVv G hK hT (kX8_spell hK l dC dI ct ad μ1 16 32 121 101 97 114 32 59 32 (by first | assumption | omega)) (ck_X8_76 G.2.2.2.2.1 ⟨Nat.le_of_ble_eq_true rfl, Nat.le_of_ble_eq_true rfl⟩) m_recv (fun _ h => h) rfl [] rfl (Nat.le_of_ble_eq_true rfl) dX8_init_255 ⟨Nat.le_of_ble_eq_true rfl, Nat.le_of_ble_eq_true rfl⟩ (k1 := 19) (n1 := 1566) rfl rfl ?_
        rintro σ255 rfl
        obtain ⟨μ2, eμ2⟩ : ∃ x, x = (mset (mset (mset (mset (mset (mset (mset (mset μ1 1 16 32) 1 (16 + 1) 121) 1 (16 + 2) 101) 1 (16 + 3) 97) 1 (16 + 4) 114) 1 (16 + 5) 32) 1 (16 + 6) 59) 1 (16 + 7) 32) := ⟨_, rfl⟩
        rw [← eμ2]
        have f2 : ∀ i, μ2.1 1 i = s_sp 16 [32, 121, 101, 97, 114, 32, 59, 32] (μ1.1 1) i := by rw [eμ2]; exact sp8
        have k2 : ∀ k, k ≠ 1 → μ2.1 k = μ1.1 k := fun k hk => by rw [eμ2]; exact sp8k hk
        refine v_aload_n G 1 dX8_init_258 rfl ?_
        refine v_bipush (v := 24) G dX8_init_259 rfl ?_
        refine v_bipush (v := 112) G dX8_init_261 rfl ?_
        refine v_bipush (v := 117) G dX8_init_263 rfl ?_
        refine v_bipush (v := 116) G dX8_init_265 rfl ?_
        refine v_bipush (v := 115) G dX8_init_267 rfl ?_
        refine v_bipush (v := 32) G dX8_init_269 rfl ?_
        refine v_bipush (v := 50) G dX8_init_271 rfl ?_
        refine v_bipush (v := 32) G dX8_init_273 rfl ?_
        refine v_bipush (v := 59) G dX8_init_275 rfl ?_
        refine v_stk (st' := [.int 59, .int 32, .int 50, .int 32, .int 115, .int 116, .int 117, .int 112, .int (nI 24), .ref (ad 43)]) (by first | rfl | (have e0 : 24 = nI 24 := (ix_lit 24 rfl) ; simp only [e0])) ?_
        refine w_callVv G hK hT (kX8_spell hK l dC dI ct ad μ2 24 112 117 116 115 32 50 32 59 (by first | assumption | omega)) (ck_X8_76 G.2.2.2.2.1 ⟨Nat.le_of_ble_eq_true rfl, Nat.le_of_ble_eq_true rfl⟩) m_recv (fun _ h => h) rfl [] rfl (Nat.le_of_ble_eq_true rfl) dX8_init_277 ⟨Nat.le_of_ble_eq_true rfl, Nat.le_of_ble_eq_true rfl⟩ (k1 := 19) (n1 := 1566) rfl rfl ?_
        rintro σ277 rfl
        obtain ⟨μ3, eμ3⟩ : ∃ x, x = (mset (mset (mset (mset (mset (mset (mset (mset μ2 1 24 112) 1 (24 + 1) 117) 1 (24 + 2) 116) 1 (24 + 3) 115) 1 (24 + 4) 32) 1 (24 + 5) 50) 1 (24 + 6) 32) 1 (24 + 7) 59) := ⟨_, rfl⟩
        rw [← eμ3]
        have f3 : ∀ i, μ3.1 1 i = s_sp 24 [112, 117, 116, 115, 32, 50, 32, 59] (μ2.1 1) i := by rw [eμ3]; exact sp8
        have k3 : ∀ k, k ≠ 1 → μ3.1 k = μ2.1 k := fun k hk => by rw [eμ3]; exact sp8k hk
        refine v_aload_n G 1 dX8_init_280 rfl ?_
        refine v_bipush (v := 32) G dX8_init_281 rfl ?_
        refine v_bipush (v := 32) G dX8_init_283 rfl ?_
        refine v_bipush (v := 102) G dX8_init_285 rfl ?_
        refine v_bipush (v := 101) G dX8_init_287 rfl ?_
        refine v_bipush (v := 101) G dX8_init_289 rfl ?_
        refine v_bipush (v := 108) G dX8_init_291 rfl ?_
        refine v_bipush (v := 115) G dX8_init_293 rfl ?_
        refine v_bipush (v := 32) G dX8_init_295 rfl ?_
        refine v_bipush (v := 53) G dX8_init_297 rfl ?_
        refine v_stk (st' := [.int 53, .int 32, .int 115, .int 108, .int 101, .int 101, .int 102, .int 32, .int (nI 32), .ref (ad 43)]) (by first | rfl | (have e0 : 32 = nI 32 := (ix_lit 32 rfl) ; simp only [e0])) ?_
        refine w_callVv G hK hT (kX8_spell hK l dC dI ct ad μ3 32 32 102 101 101 108 115 32 53 (by first | assumption | omega)) (ck_X8_76 G.2.2.2.2.1 ⟨Nat.le_of_ble_eq_true rfl, Nat.le_of_ble_eq_true rfl⟩) m_recv (fun _ h => h) rfl [] rfl (Nat.le_of_ble_eq_true rfl) dX8_init_299 ⟨Nat.le_of_ble_eq_true rfl, Nat.le_of_ble_eq_true rfl⟩ (k1 := 19) (n1 := 1566) rfl rfl ?_
        rintro σ299 rfl
        obtain ⟨μ4, eμ4⟩ : ∃ x, x = (mset (mset (mset (mset (mset (mset (mset (mset μ3 1 32 32) 1 (32 + 1) 102) 1 (32 + 2) 101) 1 (32 + 3) 101) 1 (32 + 4) 108) 1 (32 + 5) 115) 1 (32 + 6) 32) 1 (32 + 7) 53) := ⟨_, rfl⟩
        rw [← eμ4]
        have f4 : ∀ i, μ4.1 1 i = s_sp 32 [32, 102, 101, 101, 108, 115, 32, 53] (μ3.1 1) i := by rw [eμ4]; exact sp8
        have k4 : ∀ k, k ≠ 1 → μ4.1 k = μ3.1 k := fun k hk => by rw [eμ4]; exact sp8k hk
        refine v_aload_n G 1 dX8_init_302 rfl ?_
        refine v_bipush (v := 40) G dX8_init_303 rfl ?_
        refine v_bipush (v := 32) G dX8_init_305 rfl ?_
        refine v_bipush (v := 59) G dX8_init_307 rfl ?_
        refine v_bipush (v := 32) G dX8_init_309 rfl ?_
        refine v_bipush (v := 32) G dX8_init_311 rfl ?_
        refine v_bipush (v := 32) G dX8_init_313 rfl ?_
        refine v_bipush (v := 32) G dX8_init_315 rfl ?_
        refine v_bipush (v := 32) G dX8_init_317 rfl ?_
        refine v_bipush (v := 32) G dX8_init_319 rfl ?_
        refine v_stk (st' := [.int 32, .int 32, .int 32, .int 32, .int 32, .int 32, .int 59, .int 32, .int (nI 40), .ref (ad 43)]) (by first | rfl | (have e0 : 40 = nI 40 := (ix_lit 40 rfl) ; simp only [e0])) ?_
        refine w_callVv G hK hT (kX8_spell hK l dC dI ct ad μ4 40 32 59 32 32 32 32 32 32 (by first | assumption | omega)) (ck_X8_76 G.2.2.2.2.1 ⟨Nat.le_of_ble_eq_true rfl, Nat.le_of_ble_eq_true rfl⟩) m_recv (fun _ h => h) rfl [] rfl (Nat.le_of_ble_eq_true rfl) dX8_init_321 ⟨Nat.le_of_ble_eq_true rfl, Nat.le_of_ble_eq_true rfl⟩ (k1 := 19) (n1 := 1566) rfl rfl ?_
        rintro σ321 rfl
        obtain ⟨μ5, eμ5⟩ : ∃ x, x = (mset (mset (mset (mset (mset (mset (mset (mset μ4 1 40 32) 1 (40 + 1) 59) 1 (40 + 2) 32) 1 (40 + 3) 32) 1 (40 + 4) 32) 1 (40 + 5) 32) 1 (40 + 6) 32) 1 (40 + 7) 32) := ⟨_, rfl⟩
        rw [← eμ5]
        have f5 : ∀ i, μ5.1 1 i = s_sp 40 [32, 59, 32, 32, 32, 32, 32, 32] (μ4.1 1) i := by rw [eμ5]; exact sp8
        have k5 : ∀ k, k ≠ 1 → μ5.1 k = μ4.1 k := fun k hk => by rw [eμ5]; exact sp8k hk
        refine v_aload_n G 1 dX8_init_324 rfl ?_
        refine m_get (v := .ref (ad 2)) G 2 (by decide) rfl q1296 rfl dX8_init_325 ?_
        refine v_iconst (v := 0) G dX8_init_328 rfl ?_
        refine v_bipush (v := 48) G dX8_init_329 rfl ?_
        refine m_iast G 2 rfl (0) (ix_lit 0 rfl) (show 0 < 6 by first | omega | assumption | decide) dX8_init_331 ?_
        refine v_aload_n G 1 dX8_init_332 rfl ?_
        refine v_iconst (v := 1) G dX8_init_333 rfl ?_
        refine m_putI G 3 (by decide) q1297 rfl rfl rfl dX8_init_334 ?_
        refine RET _ _ _ _ _ (Nat.le_of_ble_eq_true rfl) (Nat.le_of_ble_eq_true rfl) dX8_init_337 (fun ws hws => ⟨(ad, _), ⟨congrFun had 43, hws⟩, ?_⟩)
        clear RET G hT hnm
        show co (mset (mset μ5 2 0 48) 3 0 1) = s_ini
        have hq24 : q = 24 := by omega
        subst hq24
        have hk : ∀ k, k ≠ 1 → μ5.1 k = τ.1 k := fun k hk => by rw [k5 k hk, k4 k hk, k3 k hk, k2 k hk, k1 k hk, k0 k hk]
        have h1 : ∀ i, μ5.1 1 i = s_ini 1 i := fun i => by
          rw [f5, show μ4.1 1 = _ from funext f4, show μ3.1 1 = _ from funext f3, show μ2.1 1 = _ from funext f2, show μ1.1 1 = _ from funext f1, show μ0.1 1 = _ from funext f0, show τ.1 1 = fun _ => 0 from funext (fun i => (ag_at ha (by decide)).trans (hz8 1 i (by decide)))]
          rfl
        funext k i
        rw [co_set (by decide), co_set (by decide), upd2_at, upd2_at]
        by_cases e3 : k = 3 ∧ i = 0
        · rw [if_pos e3, e3.1, e3.2]; rfl
        rw [if_neg e3]
        by_cases e2 : k = 2 ∧ i = 0
        · rw [if_pos e2, e2.1, e2.2]; rfl
        rw [if_neg e2]
        by_cases e1 : k = 1
        · subst e1; exact h1 i
        unfold co s_ini
        rw [if_neg e1, if_neg e2, if_neg e3, hk k e1]
        by_cases e8 : k = 8 ∧ i < 24
        · rw [if_pos e8, e8.1]; exact hlo i e8.2
        rw [if_neg e8]
        by_cases e36 : k = 36
        · subst e36
          rw [if_neg (show ¬ scr 36 = true by decide), ha 36 (by decide), h36]
          by_cases e0 : i = 0
          · rw [if_pos e0, if_pos ⟨rfl, e0⟩]
          · rw [if_neg e0, if_neg (fun z => e0 z.2)]
        · rw [if_neg (c := k = 36 ∧ i = 0) (fun z => e36 z.1)]
          have hz : τ.1 k i = 0 := by
            by_cases h8 : k = 8
            · subst h8; rw [hhi i (by omega)]; exact hz8 8 i (by decide)
            · rw [ha k (by simpa using h8)]; exact hz8 k i e36
          rw [hz]
          split <;> rfl
      · have n166 := (not_congr (cmp_le (x := 24) (y := nI q) (a := 24) (b := q) (ix_lit 24 rfl) rfl (by omega) (by omega))).mp h166
        refine v_aload_n G 1 dX8_init_169 rfl ?_
        refine m_get (v := .ref (ad 8)) G 8 (by decide) rfl q1302 rfl dX8_init_170 ?_
        refine v_iload_n G 0 dX8_init_173 rfl ?_
        refine v_iload_n G 0 dX8_init_174 rfl ?_
        refine v_iconst (v := 2) G dX8_init_175 rfl ?_
        refine v_idiv G dX8_init_176 (by decide) ?_
        refine v_iconst (v := 1) G dX8_init_177 rfl ?_
        refine v_iadd G dX8_init_178 ?_
        refine v_iload_n G 0 dX8_init_179 rfl ?_
        refine v_iconst (v := 2) G dX8_init_180 rfl ?_
        refine v_irem G dX8_init_181 (by decide) ?_
        refine v_iadd G dX8_init_182 ?_
        refine v_bipush (v := 12) G dX8_init_183 rfl ?_
        refine v_irem G dX8_init_185 (by decide) ?_
        refine m_iast G 8 rfl (q) rfl (show q < 24 by first | omega | assumption | decide) dX8_init_186 ?_
        refine v_iinc (v := nI (q + 1)) (L' := [(1, .int (nI (q + 1))), (0, .ref (ad 43))]) G 0 dX8_init_187 rfl (ix_add rfl (ix_lit 1 rfl)) (by decide) rfl ?_
        refine v_goto (tgt := 163) G dX8_init_190 (by decide) ?_
        refine V_.sub (L' := [(1, .int (nI (q + 1))), (0, .ref (ad 43))]) ?_ [0, 1] rfl
        exact ih163  (q + 1) (mset τ 8 q (((((nI q) / 2) + 1) + ((nI q) - (nI q) / 2 * 2)) - ((((nI q) / 2) + 1) + ((nI q) - (nI q) / 2 * 2)) / 12 * 12)) (by omega) (cpy0_lo (f := fun i => nI ((i / 2 + 1 + i % 2) % 12)) hlo (ix_rem (ix_add (ix_add (ix_div rfl (ix_lit 2 rfl) (by omega) (by decide) (by decide)) (ix_lit 1 rfl)) (ix_rem rfl (ix_lit 2 rfl) (by omega) (by decide) (by decide))) (ix_lit 12 rfl) (by omega) (by decide) (by decide))) (cpy0_hi hhi) (ag_tr ha (ag_set (by decide))) (by omega)
  refine V_.sub (L' := [(1, .int 0), (0, .ref (ad 43))]) ?_ [0, 1] rfl
  refine v_loc (L' := [(1, .int (nI 0)), (0, .ref (ad 43))]) (rfl) ?_
  exact loop163 _ 0 σ (Nat.zero_le _) (fun i hi => absurd hi (Nat.not_lt_zero i)) (fun _ _ => rfl) ag_rf (Nat.lt_succ_self _)
