set_option maxRecDepth 100000
abbrev rmX8_tells : Room := { frames := 48, cells := 0, slots := 0, locals := 1073 }
set_option maxHeartbeats 1000000 in
theorem kX8_tells {KT : (Nat → Prop) → State → Heap → Prop} (hK : KTok KT) (l : Launch) (dC : Nat → ClassId) (dI : Nat → Nat → Nat) (ct ad : Nat → Nat) (σ : MS) (x : Int32) (y : Int32) (w : Int32) (hO : Ok (co σ)) : MC KT (dC, dI) vwCl (tysF ct) l yX8_tells cX8_tells 11 (some .int) rmX8_tells [.ref (ad 43), .int x, .int y, .int w] (RM ct ad σ) (QI_ (dC, dI) vwCl (RM ct ad) (fun (r : Int32) (σ' : MS) => (s_tells (co σ) x y w) = r ∧ co σ' = co σ)) := by
  refine MC.ofI (own := RX8) pl_X8 rfl (Nat.le_of_ble_eq_true rfl) ?_
  intro pp ee ss mm aa bb hh cc AA QQ G hT hnm RET
  refine v_loc (L' := [(0, .ref (ad 43)), (1, .int x), (2, .int y), (3, .int w)]) rfl ?_
  obtain ⟨hm5, hm⟩ := many5 hO.1
  have hm : σ.1 11 0 = nI (s_many (co σ)) := hm
  refine v_iload_n G 1 dX8_tells_0 rfl ?_
  refine w_callSi G hK hT (kX8_isSheet hK l dC dI ct ad σ x) (ck_X8_410 G.2.2.2.2.1 ⟨Nat.le_of_ble_eq_true rfl, Nat.le_of_ble_eq_true rfl⟩) (fun _ h => h) rfl [] rfl (Nat.le_of_ble_eq_true rfl) dX8_tells_1 ⟨Nat.le_of_ble_eq_true rfl, Nat.le_of_ble_eq_true rfl⟩ (k1 := 0) (n1 := 0) rfl rfl ?_
  rintro r1 σ1 (⟨rfl, rfl, h1_h⟩ | ⟨rfl, rfl, h1_h⟩)
  · refine v_if_eq (tgt := 27) G dX8_tells_4 (by decide) (fun h4 => absurd h4 (by decide)) (fun h4 => ?_)
    refine v_aload_n G 0 dX8_tells_7 rfl ?_
    refine v_iload_n G 2 dX8_tells_8 rfl ?_
    refine w_callVi G hK hT (kX8_isOne hK l dC dI ct ad σ (s_many (co σ)) y hm5 hm) (ck_X8_101 G.2.2.2.2.1 ⟨Nat.le_of_ble_eq_true rfl, Nat.le_of_ble_eq_true rfl⟩) m_recv (fun _ h => h) rfl [] rfl (Nat.le_of_ble_eq_true rfl) dX8_tells_9 ⟨Nat.le_of_ble_eq_true rfl, Nat.le_of_ble_eq_true rfl⟩ (k1 := 0) (n1 := 0) rfl rfl ?_
    rintro r9 σ9 (⟨rfl, rfl, h9_h⟩ | ⟨rfl, rfl, h9_h⟩)
    · refine v_if_eq (tgt := 27) G dX8_tells_12 (by decide) (fun h12 => absurd h12 (by decide)) (fun h12 => ?_)
      refine v_iload_n G 3 dX8_tells_15 rfl ?_
      refine v_i2l (v := w.toInt64) G dX8_tells_16 rfl ?_
      refine v_lconst (v := 0) G dX8_tells_17 rfl ?_
      refine v_ldc2 G q1795 dX8_tells_18 ?_
      refine w_callSi G hK hT (kX8_in hK l dC dI ct ad σ w.toInt64 0 7) (ck_X8_86 G.2.2.2.2.1 ⟨Nat.le_of_ble_eq_true rfl, Nat.le_of_ble_eq_true rfl⟩) (fun _ h => h) rfl [] rfl (Nat.le_of_ble_eq_true rfl) dX8_tells_21 ⟨Nat.le_of_ble_eq_true rfl, Nat.le_of_ble_eq_true rfl⟩ (k1 := 0) (n1 := 0) rfl rfl ?_
      rintro r21 σ21 (⟨rfl, rfl, h21_h⟩ | ⟨rfl, rfl, h21_h⟩)
      · have g21 := (in_rg (c := w) (lo := 0) (hi := 7) (a := 0) (z := 7) (by decide) (by decide)).mp h21_h
        refine v_if_ne (tgt := 31) G dX8_tells_24 (by decide) (fun h24 => ?_) (fun h24 => absurd h24 (by decide))
        obtain ⟨s, hs_, rfl⟩ := rg_nat (n := 3) (x := x) h1_h (by decide)
        obtain ⟨p, hp_, rfl⟩ := rg_lt h9_h (by omega)
        have hs4 : s < 4 := by omega
        have hp5 : p < 5 := by omega
        have esn : n_ (nI s) = s := nI_clamp (by omega)
        have epn : n_ (nI p) = p := nI_clamp (by omega)
        refine v_aload_n G 0 dX8_tells_31 rfl ?_
        refine m_get (v := .ref (ad 39)) G 39 (by decide) rfl q1333 rfl dX8_tells_32 ?_
        refine v_iload_n G 1 dX8_tells_35 rfl ?_
        refine m_zald G (s) rfl (show s < 4 by first | omega | assumption | decide) dX8_tells_36 ?_
        refine v_if_ne (tgt := 44) G dX8_tells_37 (by decide) (fun h37 => ?_) (fun h37 => ?_)
        · obtain ⟨qs, zs, hqs, eqs_, hzs, ezs⟩ := sheet_is hO.2.2.2.1 hs4 (by exact h37)
          have ezs' : σ.1 41 s = nI zs := ezs
          refine v_aload_n G 0 dX8_tells_44 rfl ?_
          refine m_get (v := .ref (ad 41)) G 41 (by decide) rfl q1335 rfl dX8_tells_45 ?_
          refine v_iload_n G 1 dX8_tells_48 rfl ?_
          refine m_iald G 41 rfl (s) rfl (show s < 4 by first | omega | assumption | decide) dX8_tells_49 ?_
          refine v_bipush (v := 30) G dX8_tells_50 rfl ?_
          refine v_icmp_le (tgt := 59) G dX8_tells_52 (by decide) (fun h52 => ?_) (fun h52 => ?_)
          · refine v_iload_n G 3 dX8_tells_59 rfl ?_
            refine v_if_eq (tgt := 69) G dX8_tells_60 (by decide) (fun h60 => ?_) (fun h60 => ?_)
            · refine v_iload_n G 3 dX8_tells_69 rfl ?_
              refine v_if_ne (tgt := 82) G dX8_tells_70 (by decide) (fun h70 => False.elim (by exact h70 h60)) (fun h70 => ?_)
              refine v_aload_n G 0 dX8_tells_73 rfl ?_
              refine v_iload_n G 1 dX8_tells_74 rfl ?_
              refine v_iload_n G 2 dX8_tells_75 rfl ?_
              refine w_callVi G hK hT (kX8_firstOther hK l dC dI ct ad σ s p zs hO hs4 hp5 (by first | assumption | omega) ezs') (ck_X8_407 G.2.2.2.2.1 ⟨Nat.le_of_ble_eq_true rfl, Nat.le_of_ble_eq_true rfl⟩) m_recv (fun _ h => h) rfl [] rfl (Nat.le_of_ble_eq_true rfl) dX8_tells_76 ⟨Nat.le_of_ble_eq_true rfl, Nat.le_of_ble_eq_true rfl⟩ (k1 := 0) (n1 := 0) rfl rfl ?_
              rintro r76 σ76 ⟨rfl, h76_c, h76_a⟩
              refine v_goto (tgt := 87) G dX8_tells_79 (by decide) ?_
              refine RET _ _ _ _ _ _ rfl (Nat.le_of_ble_eq_true rfl) (Nat.le_of_ble_eq_true rfl) dX8_tells_87 (fun ws hws => ⟨_, hws, ?_⟩)
              clear RET G hT hnm
              exact ⟨by rw [s_tells, if_pos ⟨h1_h, h9_h, g21⟩, esn, epn, if_neg (by exact h37), if_neg (by exact Int32.not_lt.mpr h52), if_pos h70], h76_c⟩
            · refine v_iload_n G 3 dX8_tells_63 rfl ?_
              refine v_bipush (v := 7) G dX8_tells_64 rfl ?_
              refine v_icmp_ne (tgt := 88) G dX8_tells_66 (by decide) (fun h66 => ?_) (fun h66 => ?_)
              · refine v_iload_n G 3 dX8_tells_88 rfl ?_
                refine v_iconst (v := 1) G dX8_tells_89 rfl ?_
                refine v_icmp_ne (tgt := 98) G dX8_tells_90 (by decide) (fun h90 => ?_) (fun h90 => ?_)
                · refine v_iload_n G 3 dX8_tells_98 rfl ?_
                  refine v_iconst (v := 2) G dX8_tells_99 rfl ?_
                  refine v_icmp_ne (tgt := 107) G dX8_tells_100 (by decide) (fun h100 => ?_) (fun h100 => ?_)
                  · refine v_iload_n G 3 dX8_tells_107 rfl ?_
                    refine v_iconst (v := 3) G dX8_tells_108 rfl ?_
                    refine v_icmp_ne (tgt := 116) G dX8_tells_109 (by decide) (fun h109 => ?_) (fun h109 => ?_)
                    · refine v_iload_n G 3 dX8_tells_116 rfl ?_
                      refine v_bipush (v := 6) G dX8_tells_117 rfl ?_
                      refine v_icmp_ne (tgt := 127) G dX8_tells_119 (by decide) (fun h119 => ?_) (fun h119 => ?_)
                      · refine v_iconst (v := 5) G dX8_tells_127 rfl ?_
                        refine v_istore (L' := [(4, .int 5), (0, .ref (ad 43)), (1, .int (nI s)), (2, .int (nI p)), (3, .int w)]) G dX8_tells_128 (by decide) rfl ?_
                        refine v_iload G 0 dX8_tells_130 rfl ?_
                        refine v_bipush (v := 8) G dX8_tells_132 rfl ?_
                        refine v_icmp_ne (tgt := 144) G dX8_tells_134 (by decide) (fun h134 => ?_) (fun h134 => absurd h134 (by decide))
                        refine v_aload_n G 1 dX8_tells_144 rfl ?_
                        refine v_iload_n G 3 dX8_tells_145 rfl ?_
                        refine v_iload G 0 dX8_tells_146 rfl ?_
                        refine w_callVi G hK hT (kX8_told hK l dC dI ct ad σ (nI p) 5 hO) (ck_X8_116 G.2.2.2.2.1 ⟨Nat.le_of_ble_eq_true rfl, Nat.le_of_ble_eq_true rfl⟩) m_recv (fun _ h => h) rfl [] rfl (Nat.le_of_ble_eq_true rfl) dX8_tells_148 ⟨Nat.le_of_ble_eq_true rfl, Nat.le_of_ble_eq_true rfl⟩ (k1 := 0) (n1 := 0) rfl rfl ?_
                        rintro r148 σ148 ⟨rfl, h148_c, h148_a⟩
                        have told151 : s_told (co σ) (nI p) 5 = co σ 10 (5 * p + (5 - 3)) := told_is hp_ hm5 (by decide) (by decide)
                        refine v_topr (congrArg Value.int told151) ?_
                        refine v_istore (L' := [(5, .int (co σ 10 (5 * p + (5 - 3)))), (4, .int 5), (0, .ref (ad 43)), (1, .int (nI s)), (2, .int (nI p)), (3, .int w)]) G dX8_tells_151 (by decide) rfl ?_
                        refine v_iload G 1 dX8_tells_153 rfl ?_
                        refine v_bipush (v := 8) G dX8_tells_155 rfl ?_
                        refine v_icmp_ne (tgt := 169) G dX8_tells_157 (by decide) (fun h157 => ?_) (fun h157 => absurd h157 (by decide))
                        refine v_iload G 1 dX8_tells_169 rfl ?_
                        refine v_bipush (v := 7) G dX8_tells_171 rfl ?_
                        refine v_icmp_ne (tgt := 180) G dX8_tells_173 (by decide) (fun h173 => ?_) (fun h173 => absurd h173 (by decide))
                        refine v_iload G 1 dX8_tells_180 rfl ?_
                        refine v_iconst (v := 3) G dX8_tells_182 rfl ?_
                        refine v_icmp_ne (tgt := 191) G dX8_tells_183 (by decide) (fun h183 => ?_) (fun h183 => absurd h183 (by decide))
                        refine v_iload G 1 dX8_tells_191 rfl ?_
                        refine v_iconst (v := 4) G dX8_tells_193 rfl ?_
                        refine v_icmp_ne (tgt := 202) G dX8_tells_194 (by decide) (fun h194 => ?_) (fun h194 => absurd h194 (by decide))
                        refine v_bipush (v := 99) G dX8_tells_202 rfl ?_
                        refine v_istore (L' := [(6, .int 99), (5, .int (co σ 10 (5 * p + (5 - 3)))), (4, .int 5), (0, .ref (ad 43)), (1, .int (nI s)), (2, .int (nI p)), (3, .int w)]) G dX8_tells_204 (by decide) rfl ?_
                        refine v_iconst (v := 0) G dX8_tells_206 rfl ?_
                        refine v_istore (L' := [(7, .int 0), (6, .int 99), (5, .int (co σ 10 (5 * p + (5 - 3)))), (4, .int 5), (0, .ref (ad 43)), (1, .int (nI s)), (2, .int (nI p)), (3, .int w)]) G dX8_tells_207 (by decide) rfl ?_
                        refine v_iconst (v := 0) G dX8_tells_209 rfl ?_
                        refine v_istore (L' := [(8, .int 0), (7, .int 0), (6, .int 99), (5, .int (co σ 10 (5 * p + (5 - 3)))), (4, .int 5), (0, .ref (ad 43)), (1, .int (nI s)), (2, .int (nI p)), (3, .int w)]) G dX8_tells_210 (by decide) rfl ?_
                        refine v_bipush (v := (-100)) G dX8_tells_212 rfl ?_
                        refine v_istore (L' := [(9, .int (-100)), (8, .int 0), (7, .int 0), (6, .int 99), (5, .int (co σ 10 (5 * p + (5 - 3)))), (4, .int 5), (0, .ref (ad 43)), (1, .int (nI s)), (2, .int (nI p)), (3, .int w)]) G dX8_tells_214 (by decide) rfl ?_
                        refine v_iload G 3 dX8_tells_216 rfl ?_
                        refine v_istore (L' := [(10, .int 99), (9, .int (-100)), (8, .int 0), (7, .int 0), (6, .int 99), (5, .int (co σ 10 (5 * p + (5 - 3)))), (4, .int 5), (0, .ref (ad 43)), (1, .int (nI s)), (2, .int (nI p)), (3, .int w)]) G dX8_tells_218 (by decide) rfl ?_
                        have loop220 : ∀ (dd : Nat) (t : Nat) (τ : MS) (cur : Int32), (t ≤ 300) → ((s_tv (s_tla (co σ) 5) t).toInt = (s_tla (co σ) 5).toInt - t) → (t ≤ s_tN (co σ) 5) → (co τ = s_lay (co σ) 5 (nI p) cur) → 300 - t < dd → V_ pp l ee rmX8_tells ss mm aa bb hh cc 11 (dC, dI) vwCl AA QQ 0 0 (RM ct ad τ) 220 [(10, .int (s_tv (s_tla (co σ) 5) t)), (9, .int ((s_tl (co σ) s p 5 t).2.2)), (8, .int ((s_tl (co σ) s p 5 t).2.1)), (7, .int ((s_tl (co σ) s p 5 t).1)), (6, .int 99), (5, .int (co σ 10 (5 * p + (5 - 3)))), (4, .int 5), (0, .ref (ad 43)), (1, .int (nI s)), (2, .int (nI p)), (3, .int w)] [] := by
                          intro dd
                          induction dd with
                          | zero => intro t τ cur ht htl htN hc hdd; exact absurd hdd (Nat.not_lt_zero _)
                          | succ dd ih220 =>
                            intro t τ cur ht htl htN hc hdd
                            refine v_iload G 0 dX8_tells_220 rfl ?_
                            refine v_iload G 6 dX8_tells_222 rfl ?_
                            refine v_iconst (v := 5) G dX8_tells_224 rfl ?_
                            refine v_icmp_ne (tgt := 233) G dX8_tells_225 (by decide) (fun h225 => absurd h225 (by decide)) (fun h225 => ?_)
                            refine v_bipush (v := (-99)) G dX8_tells_228 rfl ?_
                            refine v_goto (tgt := 234) G dX8_tells_230 (by decide) ?_
                            refine v_icmp_lt (tgt := 295) G dX8_tells_234 (by decide) (fun h234 => ?_) (fun h234 => ?_)
                            · have e9 : (-99 : Int32).toInt = -99 := by decide
                              have hend : t = s_tN (co σ) 5 := by
                                have h1 := Int32.lt_iff_toInt_lt.mp h234
                                unfold s_tN at htN ⊢
                                rw [show s_tlo 5 = -99 from rfl] at htN ⊢
                                omega
                              refine v_aload_n G 7 dX8_tells_295 rfl ?_
                              refine v_iload G 6 dX8_tells_296 rfl ?_
                              refine v_iload_n G 9 dX8_tells_298 rfl ?_
                              refine v_iload G 5 dX8_tells_299 rfl ?_
                              refine v_stk (st' := [.int (co σ 10 (5 * p + (5 - 3))), .int (nI p), .int (nI 5), .ref (ad 43)]) (by first | rfl | (have e0 : 5 = nI 5 := (ix_lit 5 rfl) ; simp only [e0])) ?_
                              refine w_callVv G hK hT (kX8_lays hK l dC dI ct ad τ 5 (nI p) (co σ 10 (5 * p + (5 - 3))) (by decide) (fun h => absurd h (by decide)) (fun _ _ => ⟨p, hp5, rfl⟩)) (ck_X8_120 G.2.2.2.2.1 ⟨Nat.le_of_ble_eq_true rfl, Nat.le_of_ble_eq_true rfl⟩) m_recv (fun _ h => h) rfl [] rfl (Nat.le_of_ble_eq_true rfl) dX8_tells_301 ⟨Nat.le_of_ble_eq_true rfl, Nat.le_of_ble_eq_true rfl⟩ (k1 := 0) (n1 := 0) rfl rfl ?_
                              rintro σ301 ⟨h301_c, h301_a⟩
                              refine v_iload_n G 10 dX8_tells_304 rfl ?_
                              refine v_iconst (v := 4) G dX8_tells_305 rfl ?_
                              refine v_icmp_ne (tgt := 314) G dX8_tells_306 (by decide) (fun h306 => ?_) (fun h306 => ?_)
                              · refine v_iload_n G 10 dX8_tells_314 rfl ?_
                                refine v_iconst (v := 5) G dX8_tells_315 rfl ?_
                                refine v_icmp_ne (tgt := 324) G dX8_tells_316 (by decide) (fun h316 => ?_) (fun h316 => ?_)
                                · refine v_iload G 3 dX8_tells_324 rfl ?_
                                  refine RET _ _ _ _ _ _ rfl (Nat.le_of_ble_eq_true rfl) (Nat.le_of_ble_eq_true rfl) dX8_tells_326 (fun ws hws => ⟨_, hws, ?_⟩)
                                  clear RET G hT hnm
                                  have ek : s_tk w = 5 := by rw [s_tk, if_neg h90, if_neg h100, if_neg h109, if_neg h119]
                                  refine ⟨?_, by rw [h301_c, hc, lay_lay]; exact (lay_old (by decide) (by decide) hp5)⟩
                                  rw [s_tells, if_pos ⟨h1_h, h9_h, g21⟩, esn, epn, if_neg (by exact h37), if_neg (by exact Int32.not_lt.mpr h52), if_neg (by exact h60), if_neg (by exact h66), s_tres, ek, ← hend]
                                  first
                                    | (rw [if_pos h306]; done)
                                    | (rw [if_neg h306, if_pos h316]; done)
                                    | (rw [if_neg h306, if_neg h316]; done)
                                · refine v_iload G 1 dX8_tells_319 rfl ?_
                                  refine v_goto (tgt := 326) G dX8_tells_321 (by decide) ?_
                                  refine RET _ _ _ _ _ _ rfl (Nat.le_of_ble_eq_true rfl) (Nat.le_of_ble_eq_true rfl) dX8_tells_326 (fun ws hws => ⟨_, hws, ?_⟩)
                                  clear RET G hT hnm
                                  have ek : s_tk w = 5 := by rw [s_tk, if_neg h90, if_neg h100, if_neg h109, if_neg h119]
                                  refine ⟨?_, by rw [h301_c, hc, lay_lay]; exact (lay_old (by decide) (by decide) hp5)⟩
                                  rw [s_tells, if_pos ⟨h1_h, h9_h, g21⟩, esn, epn, if_neg (by exact h37), if_neg (by exact Int32.not_lt.mpr h52), if_neg (by exact h60), if_neg (by exact h66), s_tres, ek, ← hend]
                                  first
                                    | (rw [if_pos h306]; done)
                                    | (rw [if_neg h306, if_pos h316]; done)
                                    | (rw [if_neg h306, if_neg h316]; done)
                              · refine v_iload G 2 dX8_tells_309 rfl ?_
                                refine v_goto (tgt := 326) G dX8_tells_311 (by decide) ?_
                                refine RET _ _ _ _ _ _ rfl (Nat.le_of_ble_eq_true rfl) (Nat.le_of_ble_eq_true rfl) dX8_tells_326 (fun ws hws => ⟨_, hws, ?_⟩)
                                clear RET G hT hnm
                                have ek : s_tk w = 5 := by rw [s_tk, if_neg h90, if_neg h100, if_neg h109, if_neg h119]
                                refine ⟨?_, by rw [h301_c, hc, lay_lay]; exact (lay_old (by decide) (by decide) hp5)⟩
                                rw [s_tells, if_pos ⟨h1_h, h9_h, g21⟩, esn, epn, if_neg (by exact h37), if_neg (by exact Int32.not_lt.mpr h52), if_neg (by exact h60), if_neg (by exact h66), s_tres, ek, ← hend]
                                first
                                  | (rw [if_pos h306]; done)
                                  | (rw [if_neg h306, if_pos h316]; done)
                                  | (rw [if_neg h306, if_neg h316]; done)
                            · have e9 : (-99 : Int32).toInt = -99 := by decide
                              obtain ⟨tb0, tb1⟩ := tla_b (k := 5) hO
                              have hlo : s_tlo 5 ≤ (s_tv (s_tla (co σ) 5) t).toInt := by
                                have := Int32.le_iff_toInt_le.mp (Int32.not_lt.mp h234)
                                show (-99 : Int) ≤ _
                                omega
                              have hlo' : (-99 : Int) ≤ (s_tv (s_tla (co σ) 5) t).toInt := hlo
                              have elo : s_tlo 5 = -99 := rfl
                              have hlv : lvOk (co σ) 5 (s_tv (s_tla (co σ) 5) t) := lv_t hO (by decide) hlo (by omega)
                              refine v_aload_n G 7 dX8_tells_237 rfl ?_
                              refine v_iload G 6 dX8_tells_238 rfl ?_
                              refine v_iload_n G 9 dX8_tells_240 rfl ?_
                              refine v_iload G 0 dX8_tells_241 rfl ?_
                              refine v_stk (st' := [.int (s_tv (s_tla (co σ) 5) t), .int (nI p), .int (nI 5), .ref (ad 43)]) (by first | rfl | (have e0 : 5 = nI 5 := (ix_lit 5 rfl) ; simp only [e0])) ?_
                              refine w_callVv G hK hT (kX8_lays hK l dC dI ct ad τ 5 (nI p) (s_tv (s_tla (co σ) 5) t) (by decide) (fun h => absurd h (by decide)) (fun _ _ => ⟨p, hp5, rfl⟩)) (ck_X8_120 G.2.2.2.2.1 ⟨Nat.le_of_ble_eq_true rfl, Nat.le_of_ble_eq_true rfl⟩) m_recv (fun _ h => h) rfl [] rfl (Nat.le_of_ble_eq_true rfl) dX8_tells_243 ⟨Nat.le_of_ble_eq_true rfl, Nat.le_of_ble_eq_true rfl⟩ (k1 := 0) (n1 := 0) rfl rfl ?_
                              rintro σ243 ⟨h243_c, h243_a⟩
                              have hc243 : co σ243 = s_lay (co σ) 5 (nI p) (s_tv (s_tla (co σ) 5) t) := by rw [h243_c, hc, lay_lay]
                              have hO243 : Ok (s_lay (co σ) 5 (nI p) (s_tv (s_tla (co σ) 5) t)) := ok_lay hO (by decide) hlv
                              refine v_aload_n G 7 dX8_tells_246 rfl ?_
                              refine v_iload_n G 8 dX8_tells_247 rfl ?_
                              refine v_iload_n G 9 dX8_tells_248 rfl ?_
                              refine w_callVi G hK hT (kX8_firstOther hK l dC dI ct ad σ243 s p zs (by rw [hc243]; exact hO243) hs4 hp5 (by first | assumption | omega) (by rw [show σ243.1 41 s = co σ243 41 s from rfl, hc243, lay_k (by decide) (by decide) (by decide) (by decide) (by decide)]; exact ezs)) (ck_X8_407 G.2.2.2.2.1 ⟨Nat.le_of_ble_eq_true rfl, Nat.le_of_ble_eq_true rfl⟩) m_recv (fun _ h => h) rfl [] rfl (Nat.le_of_ble_eq_true rfl) dX8_tells_249 ⟨Nat.le_of_ble_eq_true rfl, Nat.le_of_ble_eq_true rfl⟩ (k1 := 0) (n1 := 0) rfl rfl ?_
                              rintro r249 σ249 ⟨rfl, h249_c, h249_a⟩
                              refine v_topr (congrArg Value.int (show s_fo (co σ243) s p = s_fo (s_lay (co σ) 5 (nI p) (s_tv (s_tla (co σ) 5) t)) s p from by rw [hc243])) ?_
                              have hcb : co σ249 = (s_lay (co σ) 5 (nI p) (s_tv (s_tla (co σ) 5) t)) := (h249_c.trans hc243)
                              refine v_iconst (v := (-1)) G dX8_tells_252 rfl ?_
                              refine v_icmp_ne (tgt := 289) G dX8_tells_253 (by decide) (fun h253 => ?_) (fun h253 => ?_)
                              · refine v_iinc (v := (s_tv (s_tla (co σ) 5) t) + (-1)) (L' := [(10, .int ((s_tv (s_tla (co σ) 5) t) + (-1))), (9, .int ((s_tl (co σ) s p 5 t).2.2)), (8, .int ((s_tl (co σ) s p 5 t).2.1)), (7, .int ((s_tl (co σ) s p 5 t).1)), (6, .int 99), (5, .int (co σ 10 (5 * p + (5 - 3)))), (4, .int 5), (0, .ref (ad 43)), (1, .int (nI s)), (2, .int (nI p)), (3, .int w)]) G 0 dX8_tells_289 rfl rfl (by decide) rfl ?_
                                refine v_goto (tgt := 220) G dX8_tells_292 (by decide) ?_
                                refine V_.sub (L' := [(10, .int ((s_tv (s_tla (co σ) 5) t) + (-1))), (9, .int ((s_tl (co σ) s p 5 t).2.2)), (8, .int ((s_tl (co σ) s p 5 t).2.1)), (7, .int ((s_tl (co σ) s p 5 t).1)), (6, .int 99), (5, .int (co σ 10 (5 * p + (5 - 3)))), (4, .int 5), (0, .ref (ad 43)), (1, .int (nI s)), (2, .int (nI p)), (3, .int w)]) ?_ [0, 1, 2, 3, 4, 5, 6, 7, 8, 9, 10] rfl
                                refine v_loc (L' := [(10, .int (s_tv (s_tla (co σ) 5) (t + 1))), (9, .int ((s_tl (co σ) s p 5 (t + 1)).2.2)), (8, .int ((s_tl (co σ) s p 5 (t + 1)).2.1)), (7, .int ((s_tl (co σ) s p 5 (t + 1)).1)), (6, .int 99), (5, .int (co σ 10 (5 * p + (5 - 3)))), (4, .int 5), (0, .ref (ad 43)), (1, .int (nI s)), (2, .int (nI p)), (3, .int w)]) (by rw [s_tl]; first | (rw [if_pos (by exact h253), if_pos (by exact g265)] <;> rfl) | (rw [if_pos (by exact h253), if_neg (by exact g265)] <;> rfl) | (rw [if_neg (by exact h253)] <;> rfl)) ?_
                                exact ih220  (t + 1) σ249 (s_tv (s_tla (co σ) 5) t) (by omega) (s_tv_i (by omega) (by omega) (by omega)) (by unfold s_tN; omega) hcb (by omega)
                              · refine v_iload G 3 dX8_tells_256 rfl ?_
                                refine v_iload G 0 dX8_tells_258 rfl ?_
                                refine v_i2l (v := (s_tv (s_tla (co σ) 5) t).toInt64) G dX8_tells_260 rfl ?_
                                refine v_lconst (v := 0) G dX8_tells_261 rfl ?_
                                refine v_ldc2 G q1444 dX8_tells_262 ?_
                                refine w_callSi G hK hT (kX8_in hK l dC dI ct ad σ249 ((s_tv (s_tla (co σ) 5) t).toInt64) 0 11) (ck_X8_86 G.2.2.2.2.1 ⟨Nat.le_of_ble_eq_true rfl, Nat.le_of_ble_eq_true rfl⟩) (fun _ h => h) rfl [.int ((s_tl (co σ) s p 5 t).1)] rfl (Nat.le_of_ble_eq_true rfl) dX8_tells_265 ⟨Nat.le_of_ble_eq_true rfl, Nat.le_of_ble_eq_true rfl⟩ (k1 := 0) (n1 := 0) rfl rfl ?_
                                rintro r265 σ265 (⟨rfl, rfl, h265_h⟩ | ⟨rfl, rfl, h265_h⟩)
                                · have g265 := (in_rg (c := (s_tv (s_tla (co σ) 5) t)) (lo := 0) (hi := 11) (a := 0) (z := 11) (by decide) (by decide)).mp h265_h
                                  refine v_if_eq (tgt := 278) G dX8_tells_268 (by decide) (fun h268 => absurd h268 (by decide)) (fun h268 => ?_)
                                  refine v_iconst (v := 1) G dX8_tells_271 rfl ?_
                                  refine v_iload G 0 dX8_tells_272 rfl ?_
                                  refine v_ishl G dX8_tells_274 ?_
                                  refine v_goto (tgt := 279) G dX8_tells_275 (by decide) ?_
                                  refine v_ior G dX8_tells_279 ?_
                                  refine v_istore (L' := [(7, .int (((s_tl (co σ) s p 5 t).1) ||| (1 <<< ((s_tv (s_tla (co σ) 5) t) &&& 31)))), (10, .int (s_tv (s_tla (co σ) 5) t)), (9, .int ((s_tl (co σ) s p 5 t).2.2)), (8, .int ((s_tl (co σ) s p 5 t).2.1)), (6, .int 99), (5, .int (co σ 10 (5 * p + (5 - 3)))), (4, .int 5), (0, .ref (ad 43)), (1, .int (nI s)), (2, .int (nI p)), (3, .int w)]) G dX8_tells_280 (by decide) rfl ?_
                                  refine v_iinc (v := ((s_tl (co σ) s p 5 t).2.1) + 1) (L' := [(8, .int (((s_tl (co σ) s p 5 t).2.1) + 1)), (7, .int (((s_tl (co σ) s p 5 t).1) ||| (1 <<< ((s_tv (s_tla (co σ) 5) t) &&& 31)))), (10, .int (s_tv (s_tla (co σ) 5) t)), (9, .int ((s_tl (co σ) s p 5 t).2.2)), (6, .int 99), (5, .int (co σ 10 (5 * p + (5 - 3)))), (4, .int 5), (0, .ref (ad 43)), (1, .int (nI s)), (2, .int (nI p)), (3, .int w)]) G 3 dX8_tells_282 rfl rfl (by decide) rfl ?_
                                  refine v_iload G 2 dX8_tells_285 rfl ?_
                                  refine v_istore (L' := [(9, .int (s_tv (s_tla (co σ) 5) t)), (8, .int (((s_tl (co σ) s p 5 t).2.1) + 1)), (7, .int (((s_tl (co σ) s p 5 t).1) ||| (1 <<< ((s_tv (s_tla (co σ) 5) t) &&& 31)))), (10, .int (s_tv (s_tla (co σ) 5) t)), (6, .int 99), (5, .int (co σ 10 (5 * p + (5 - 3)))), (4, .int 5), (0, .ref (ad 43)), (1, .int (nI s)), (2, .int (nI p)), (3, .int w)]) G dX8_tells_287 (by decide) rfl ?_
                                  refine v_iinc (v := (s_tv (s_tla (co σ) 5) t) + (-1)) (L' := [(10, .int ((s_tv (s_tla (co σ) 5) t) + (-1))), (9, .int (s_tv (s_tla (co σ) 5) t)), (8, .int (((s_tl (co σ) s p 5 t).2.1) + 1)), (7, .int (((s_tl (co σ) s p 5 t).1) ||| (1 <<< ((s_tv (s_tla (co σ) 5) t) &&& 31)))), (6, .int 99), (5, .int (co σ 10 (5 * p + (5 - 3)))), (4, .int 5), (0, .ref (ad 43)), (1, .int (nI s)), (2, .int (nI p)), (3, .int w)]) G 3 dX8_tells_289 rfl rfl (by decide) rfl ?_
                                  refine v_goto (tgt := 220) G dX8_tells_292 (by decide) ?_
                                  refine V_.sub (L' := [(10, .int ((s_tv (s_tla (co σ) 5) t) + (-1))), (9, .int (s_tv (s_tla (co σ) 5) t)), (8, .int (((s_tl (co σ) s p 5 t).2.1) + 1)), (7, .int (((s_tl (co σ) s p 5 t).1) ||| (1 <<< ((s_tv (s_tla (co σ) 5) t) &&& 31)))), (6, .int 99), (5, .int (co σ 10 (5 * p + (5 - 3)))), (4, .int 5), (0, .ref (ad 43)), (1, .int (nI s)), (2, .int (nI p)), (3, .int w)]) ?_ [0, 1, 2, 3, 4, 5, 6, 7, 8, 9, 10] rfl
                                  refine v_loc (L' := [(10, .int (s_tv (s_tla (co σ) 5) (t + 1))), (9, .int ((s_tl (co σ) s p 5 (t + 1)).2.2)), (8, .int ((s_tl (co σ) s p 5 (t + 1)).2.1)), (7, .int ((s_tl (co σ) s p 5 (t + 1)).1)), (6, .int 99), (5, .int (co σ 10 (5 * p + (5 - 3)))), (4, .int 5), (0, .ref (ad 43)), (1, .int (nI s)), (2, .int (nI p)), (3, .int w)]) (by rw [s_tl]; first | (rw [if_pos (by exact h253), if_pos (by exact g265)] <;> rfl) | (rw [if_pos (by exact h253), if_neg (by exact g265)] <;> rfl) | (rw [if_neg (by exact h253)] <;> rfl)) ?_
                                  exact ih220  (t + 1) σ249 (s_tv (s_tla (co σ) 5) t) (by omega) (s_tv_i (by omega) (by omega) (by omega)) (by unfold s_tN; omega) hcb (by omega)
                                · have g265 : ¬ rg (s_tv (s_tla (co σ) 5) t) 0 11 := fun zz => h265_h ((in_rg (c := (s_tv (s_tla (co σ) 5) t)) (lo := 0) (hi := 11) (a := 0) (z := 11) (by decide) (by decide)).mpr zz)
                                  refine v_if_eq (tgt := 278) G dX8_tells_268 (by decide) (fun h268 => ?_) (fun h268 => absurd h268 (by decide))
                                  refine v_iconst (v := 0) G dX8_tells_278 rfl ?_
                                  refine v_ior G dX8_tells_279 ?_
                                  refine v_istore (L' := [(7, .int (((s_tl (co σ) s p 5 t).1) ||| 0)), (10, .int (s_tv (s_tla (co σ) 5) t)), (9, .int ((s_tl (co σ) s p 5 t).2.2)), (8, .int ((s_tl (co σ) s p 5 t).2.1)), (6, .int 99), (5, .int (co σ 10 (5 * p + (5 - 3)))), (4, .int 5), (0, .ref (ad 43)), (1, .int (nI s)), (2, .int (nI p)), (3, .int w)]) G dX8_tells_280 (by decide) rfl ?_
                                  refine v_iinc (v := ((s_tl (co σ) s p 5 t).2.1) + 1) (L' := [(8, .int (((s_tl (co σ) s p 5 t).2.1) + 1)), (7, .int (((s_tl (co σ) s p 5 t).1) ||| 0)), (10, .int (s_tv (s_tla (co σ) 5) t)), (9, .int ((s_tl (co σ) s p 5 t).2.2)), (6, .int 99), (5, .int (co σ 10 (5 * p + (5 - 3)))), (4, .int 5), (0, .ref (ad 43)), (1, .int (nI s)), (2, .int (nI p)), (3, .int w)]) G 3 dX8_tells_282 rfl rfl (by decide) rfl ?_
                                  refine v_iload G 2 dX8_tells_285 rfl ?_
                                  refine v_istore (L' := [(9, .int (s_tv (s_tla (co σ) 5) t)), (8, .int (((s_tl (co σ) s p 5 t).2.1) + 1)), (7, .int (((s_tl (co σ) s p 5 t).1) ||| 0)), (10, .int (s_tv (s_tla (co σ) 5) t)), (6, .int 99), (5, .int (co σ 10 (5 * p + (5 - 3)))), (4, .int 5), (0, .ref (ad 43)), (1, .int (nI s)), (2, .int (nI p)), (3, .int w)]) G dX8_tells_287 (by decide) rfl ?_
                                  refine v_iinc (v := (s_tv (s_tla (co σ) 5) t) + (-1)) (L' := [(10, .int ((s_tv (s_tla (co σ) 5) t) + (-1))), (9, .int (s_tv (s_tla (co σ) 5) t)), (8, .int (((s_tl (co σ) s p 5 t).2.1) + 1)), (7, .int (((s_tl (co σ) s p 5 t).1) ||| 0)), (6, .int 99), (5, .int (co σ 10 (5 * p + (5 - 3)))), (4, .int 5), (0, .ref (ad 43)), (1, .int (nI s)), (2, .int (nI p)), (3, .int w)]) G 3 dX8_tells_289 rfl rfl (by decide) rfl ?_
                                  refine v_goto (tgt := 220) G dX8_tells_292 (by decide) ?_
                                  refine V_.sub (L' := [(10, .int ((s_tv (s_tla (co σ) 5) t) + (-1))), (9, .int (s_tv (s_tla (co σ) 5) t)), (8, .int (((s_tl (co σ) s p 5 t).2.1) + 1)), (7, .int (((s_tl (co σ) s p 5 t).1) ||| 0)), (6, .int 99), (5, .int (co σ 10 (5 * p + (5 - 3)))), (4, .int 5), (0, .ref (ad 43)), (1, .int (nI s)), (2, .int (nI p)), (3, .int w)]) ?_ [0, 1, 2, 3, 4, 5, 6, 7, 8, 9, 10] rfl
                                  refine v_loc (L' := [(10, .int (s_tv (s_tla (co σ) 5) (t + 1))), (9, .int ((s_tl (co σ) s p 5 (t + 1)).2.2)), (8, .int ((s_tl (co σ) s p 5 (t + 1)).2.1)), (7, .int ((s_tl (co σ) s p 5 (t + 1)).1)), (6, .int 99), (5, .int (co σ 10 (5 * p + (5 - 3)))), (4, .int 5), (0, .ref (ad 43)), (1, .int (nI s)), (2, .int (nI p)), (3, .int w)]) (by rw [s_tl]; first | (rw [if_pos (by exact h253), if_pos (by exact g265)] <;> rfl) | (rw [if_pos (by exact h253), if_neg (by exact g265)] <;> rfl) | (rw [if_neg (by exact h253)] <;> rfl)) ?_
                                  exact ih220  (t + 1) σ249 (s_tv (s_tla (co σ) 5) t) (by omega) (s_tv_i (by omega) (by omega) (by omega)) (by unfold s_tN; omega) hcb (by omega)
                        refine V_.sub (L' := [(10, .int 99), (9, .int (-100)), (8, .int 0), (7, .int 0), (6, .int 99), (5, .int (co σ 10 (5 * p + (5 - 3)))), (4, .int 5), (0, .ref (ad 43)), (1, .int (nI s)), (2, .int (nI p)), (3, .int w)]) ?_ [0, 1, 2, 3, 4, 5, 6, 7, 8, 9, 10] rfl
                        refine v_loc (L' := [(10, .int (s_tv (s_tla (co σ) 5) 0)), (9, .int ((s_tl (co σ) s p 5 0).2.2)), (8, .int ((s_tl (co σ) s p 5 0).2.1)), (7, .int ((s_tl (co σ) s p 5 0).1)), (6, .int 99), (5, .int (co σ 10 (5 * p + (5 - 3)))), (4, .int 5), (0, .ref (ad 43)), (1, .int (nI s)), (2, .int (nI p)), (3, .int w)]) (rfl) ?_
                        exact loop220 _ 0 σ148 (co σ 10 (5 * p + (5 - 3))) (by omega) (by show (s_tla (co σ) _).toInt = _; omega) (Nat.zero_le _) (by rw [lay_old (by decide) (by decide) hp5]; exact h148_c) (Nat.lt_succ_self _)
                      · refine v_bipush (v := 8) G dX8_tells_122 rfl ?_
                        refine v_goto (tgt := 128) G dX8_tells_124 (by decide) ?_
                        refine v_istore (L' := [(4, .int 8), (0, .ref (ad 43)), (1, .int (nI s)), (2, .int (nI p)), (3, .int w)]) G dX8_tells_128 (by decide) rfl ?_
                        refine v_iload G 0 dX8_tells_130 rfl ?_
                        refine v_bipush (v := 8) G dX8_tells_132 rfl ?_
                        refine v_icmp_ne (tgt := 144) G dX8_tells_134 (by decide) (fun h134 => absurd h134 (by decide)) (fun h134 => ?_)
                        refine v_aload_n G 1 dX8_tells_137 rfl ?_
                        refine m_get (v := .int (σ.1 4 0)) G 4 (by decide) rfl q1298 rfl dX8_tells_138 ?_
                        refine v_goto (tgt := 151) G dX8_tells_141 (by decide) ?_
                        refine v_istore (L' := [(5, .int (σ.1 4 0)), (4, .int 8), (0, .ref (ad 43)), (1, .int (nI s)), (2, .int (nI p)), (3, .int w)]) G dX8_tells_151 (by decide) rfl ?_
                        refine v_iload G 1 dX8_tells_153 rfl ?_
                        refine v_bipush (v := 8) G dX8_tells_155 rfl ?_
                        refine v_icmp_ne (tgt := 169) G dX8_tells_157 (by decide) (fun h157 => absurd h157 (by decide)) (fun h157 => ?_)
                        refine v_aload_n G 2 dX8_tells_160 rfl ?_
                        refine m_get (v := .int (σ.1 3 0)) G 3 (by decide) rfl q1297 rfl dX8_tells_161 ?_
                        refine v_iconst (v := 1) G dX8_tells_164 rfl ?_
                        refine v_isub G dX8_tells_165 ?_
                        refine v_goto (tgt := 204) G dX8_tells_166 (by decide) ?_
                        refine v_istore (L' := [(6, .int ((σ.1 3 0) - 1)), (5, .int (σ.1 4 0)), (4, .int 8), (0, .ref (ad 43)), (1, .int (nI s)), (2, .int (nI p)), (3, .int w)]) G dX8_tells_204 (by decide) rfl ?_
                        refine v_iconst (v := 0) G dX8_tells_206 rfl ?_
                        refine v_istore (L' := [(7, .int 0), (6, .int ((σ.1 3 0) - 1)), (5, .int (σ.1 4 0)), (4, .int 8), (0, .ref (ad 43)), (1, .int (nI s)), (2, .int (nI p)), (3, .int w)]) G dX8_tells_207 (by decide) rfl ?_
                        refine v_iconst (v := 0) G dX8_tells_209 rfl ?_
                        refine v_istore (L' := [(8, .int 0), (7, .int 0), (6, .int ((σ.1 3 0) - 1)), (5, .int (σ.1 4 0)), (4, .int 8), (0, .ref (ad 43)), (1, .int (nI s)), (2, .int (nI p)), (3, .int w)]) G dX8_tells_210 (by decide) rfl ?_
                        refine v_bipush (v := (-100)) G dX8_tells_212 rfl ?_
                        refine v_istore (L' := [(9, .int (-100)), (8, .int 0), (7, .int 0), (6, .int ((σ.1 3 0) - 1)), (5, .int (σ.1 4 0)), (4, .int 8), (0, .ref (ad 43)), (1, .int (nI s)), (2, .int (nI p)), (3, .int w)]) G dX8_tells_214 (by decide) rfl ?_
                        refine v_iload G 3 dX8_tells_216 rfl ?_
                        refine v_istore (L' := [(10, .int ((σ.1 3 0) - 1)), (9, .int (-100)), (8, .int 0), (7, .int 0), (6, .int ((σ.1 3 0) - 1)), (5, .int (σ.1 4 0)), (4, .int 8), (0, .ref (ad 43)), (1, .int (nI s)), (2, .int (nI p)), (3, .int w)]) G dX8_tells_218 (by decide) rfl ?_
                        have loop220 : ∀ (dd : Nat) (t : Nat) (τ : MS) (cur : Int32), (t ≤ 300) → ((s_tv (s_tla (co σ) 8) t).toInt = (s_tla (co σ) 8).toInt - t) → (t ≤ s_tN (co σ) 8) → (co τ = s_lay (co σ) 8 (nI p) cur) → 300 - t < dd → V_ pp l ee rmX8_tells ss mm aa bb hh cc 11 (dC, dI) vwCl AA QQ 0 0 (RM ct ad τ) 220 [(10, .int (s_tv (s_tla (co σ) 8) t)), (9, .int ((s_tl (co σ) s p 8 t).2.2)), (8, .int ((s_tl (co σ) s p 8 t).2.1)), (7, .int ((s_tl (co σ) s p 8 t).1)), (6, .int ((σ.1 3 0) - 1)), (5, .int (σ.1 4 0)), (4, .int 8), (0, .ref (ad 43)), (1, .int (nI s)), (2, .int (nI p)), (3, .int w)] [] := by
                          intro dd
                          induction dd with
                          | zero => intro t τ cur ht htl htN hc hdd; exact absurd hdd (Nat.not_lt_zero _)
                          | succ dd ih220 =>
                            intro t τ cur ht htl htN hc hdd
                            refine v_iload G 0 dX8_tells_220 rfl ?_
                            refine v_iload G 6 dX8_tells_222 rfl ?_
                            refine v_iconst (v := 5) G dX8_tells_224 rfl ?_
                            refine v_icmp_ne (tgt := 233) G dX8_tells_225 (by decide) (fun h225 => ?_) (fun h225 => absurd h225 (by decide))
                            refine v_iconst (v := 0) G dX8_tells_233 rfl ?_
                            refine v_icmp_lt (tgt := 295) G dX8_tells_234 (by decide) (fun h234 => ?_) (fun h234 => ?_)
                            · have e9 : (0 : Int32).toInt = 0 := by decide
                              have hend : t = s_tN (co σ) 8 := by
                                have h1 := Int32.lt_iff_toInt_lt.mp h234
                                unfold s_tN at htN ⊢
                                rw [show s_tlo 8 = 0 from rfl] at htN ⊢
                                omega
                              refine v_aload_n G 7 dX8_tells_295 rfl ?_
                              refine v_iload G 6 dX8_tells_296 rfl ?_
                              refine v_iload_n G 9 dX8_tells_298 rfl ?_
                              refine v_iload G 5 dX8_tells_299 rfl ?_
                              refine v_stk (st' := [.int (σ.1 4 0), .int (nI p), .int (nI 8), .ref (ad 43)]) (by first | rfl | (have e0 : 8 = nI 8 := (ix_lit 8 rfl) ; simp only [e0])) ?_
                              refine w_callVv G hK hT (kX8_lays hK l dC dI ct ad τ 8 (nI p) (σ.1 4 0) (by decide) (fun h => absurd h (by decide)) (fun _ _ => ⟨p, hp5, rfl⟩)) (ck_X8_120 G.2.2.2.2.1 ⟨Nat.le_of_ble_eq_true rfl, Nat.le_of_ble_eq_true rfl⟩) m_recv (fun _ h => h) rfl [] rfl (Nat.le_of_ble_eq_true rfl) dX8_tells_301 ⟨Nat.le_of_ble_eq_true rfl, Nat.le_of_ble_eq_true rfl⟩ (k1 := 0) (n1 := 0) rfl rfl ?_
                              rintro σ301 ⟨h301_c, h301_a⟩
                              refine v_iload_n G 10 dX8_tells_304 rfl ?_
                              refine v_iconst (v := 4) G dX8_tells_305 rfl ?_
                              refine v_icmp_ne (tgt := 314) G dX8_tells_306 (by decide) (fun h306 => ?_) (fun h306 => ?_)
                              · refine v_iload_n G 10 dX8_tells_314 rfl ?_
                                refine v_iconst (v := 5) G dX8_tells_315 rfl ?_
                                refine v_icmp_ne (tgt := 324) G dX8_tells_316 (by decide) (fun h316 => ?_) (fun h316 => ?_)
                                · refine v_iload G 3 dX8_tells_324 rfl ?_
                                  refine RET _ _ _ _ _ _ rfl (Nat.le_of_ble_eq_true rfl) (Nat.le_of_ble_eq_true rfl) dX8_tells_326 (fun ws hws => ⟨_, hws, ?_⟩)
                                  clear RET G hT hnm
                                  have ek : s_tk w = 8 := by rw [s_tk, if_neg h90, if_neg h100, if_neg h109, if_pos h119]
                                  refine ⟨?_, by rw [h301_c, hc, lay_lay]; exact lay_old8⟩
                                  rw [s_tells, if_pos ⟨h1_h, h9_h, g21⟩, esn, epn, if_neg (by exact h37), if_neg (by exact Int32.not_lt.mpr h52), if_neg (by exact h60), if_neg (by exact h66), s_tres, ek, ← hend]
                                  first
                                    | (rw [if_pos h306]; done)
                                    | (rw [if_neg h306, if_pos h316]; done)
                                    | (rw [if_neg h306, if_neg h316]; done)
                                · refine v_iload G 1 dX8_tells_319 rfl ?_
                                  refine v_goto (tgt := 326) G dX8_tells_321 (by decide) ?_
                                  refine RET _ _ _ _ _ _ rfl (Nat.le_of_ble_eq_true rfl) (Nat.le_of_ble_eq_true rfl) dX8_tells_326 (fun ws hws => ⟨_, hws, ?_⟩)
                                  clear RET G hT hnm
                                  have ek : s_tk w = 8 := by rw [s_tk, if_neg h90, if_neg h100, if_neg h109, if_pos h119]
                                  refine ⟨?_, by rw [h301_c, hc, lay_lay]; exact lay_old8⟩
                                  rw [s_tells, if_pos ⟨h1_h, h9_h, g21⟩, esn, epn, if_neg (by exact h37), if_neg (by exact Int32.not_lt.mpr h52), if_neg (by exact h60), if_neg (by exact h66), s_tres, ek, ← hend]
                                  first
                                    | (rw [if_pos h306]; done)
                                    | (rw [if_neg h306, if_pos h316]; done)
                                    | (rw [if_neg h306, if_neg h316]; done)
                              · refine v_iload G 2 dX8_tells_309 rfl ?_
                                refine v_goto (tgt := 326) G dX8_tells_311 (by decide) ?_
                                refine RET _ _ _ _ _ _ rfl (Nat.le_of_ble_eq_true rfl) (Nat.le_of_ble_eq_true rfl) dX8_tells_326 (fun ws hws => ⟨_, hws, ?_⟩)
                                clear RET G hT hnm
                                have ek : s_tk w = 8 := by rw [s_tk, if_neg h90, if_neg h100, if_neg h109, if_pos h119]
                                refine ⟨?_, by rw [h301_c, hc, lay_lay]; exact lay_old8⟩
                                rw [s_tells, if_pos ⟨h1_h, h9_h, g21⟩, esn, epn, if_neg (by exact h37), if_neg (by exact Int32.not_lt.mpr h52), if_neg (by exact h60), if_neg (by exact h66), s_tres, ek, ← hend]
                                first
                                  | (rw [if_pos h306]; done)
                                  | (rw [if_neg h306, if_pos h316]; done)
                                  | (rw [if_neg h306, if_neg h316]; done)
                            · have e9 : (0 : Int32).toInt = 0 := by decide
                              obtain ⟨tb0, tb1⟩ := tla_b (k := 8) hO
                              have hlo : s_tlo 8 ≤ (s_tv (s_tla (co σ) 8) t).toInt := by
                                have := Int32.le_iff_toInt_le.mp (Int32.not_lt.mp h234)
                                show (0 : Int) ≤ _
                                omega
                              have hlo' : (0 : Int) ≤ (s_tv (s_tla (co σ) 8) t).toInt := hlo
                              have elo : s_tlo 8 = 0 := rfl
                              have hlv : lvOk (co σ) 8 (s_tv (s_tla (co σ) 8) t) := lv_t hO (by decide) hlo (by omega)
                              refine v_aload_n G 7 dX8_tells_237 rfl ?_
                              refine v_iload G 6 dX8_tells_238 rfl ?_
                              refine v_iload_n G 9 dX8_tells_240 rfl ?_
                              refine v_iload G 0 dX8_tells_241 rfl ?_
                              refine v_stk (st' := [.int (s_tv (s_tla (co σ) 8) t), .int (nI p), .int (nI 8), .ref (ad 43)]) (by first | rfl | (have e0 : 8 = nI 8 := (ix_lit 8 rfl) ; simp only [e0])) ?_
                              refine w_callVv G hK hT (kX8_lays hK l dC dI ct ad τ 8 (nI p) (s_tv (s_tla (co σ) 8) t) (by decide) (fun h => absurd h (by decide)) (fun _ _ => ⟨p, hp5, rfl⟩)) (ck_X8_120 G.2.2.2.2.1 ⟨Nat.le_of_ble_eq_true rfl, Nat.le_of_ble_eq_true rfl⟩) m_recv (fun _ h => h) rfl [] rfl (Nat.le_of_ble_eq_true rfl) dX8_tells_243 ⟨Nat.le_of_ble_eq_true rfl, Nat.le_of_ble_eq_true rfl⟩ (k1 := 0) (n1 := 0) rfl rfl ?_
                              rintro σ243 ⟨h243_c, h243_a⟩
                              have hc243 : co σ243 = s_lay (co σ) 8 (nI p) (s_tv (s_tla (co σ) 8) t) := by rw [h243_c, hc, lay_lay]
                              have hO243 : Ok (s_lay (co σ) 8 (nI p) (s_tv (s_tla (co σ) 8) t)) := ok_lay hO (by decide) hlv
                              refine v_aload_n G 7 dX8_tells_246 rfl ?_
                              refine v_iload_n G 8 dX8_tells_247 rfl ?_
                              refine v_iload_n G 9 dX8_tells_248 rfl ?_
                              refine w_callVi G hK hT (kX8_firstOther hK l dC dI ct ad σ243 s p zs (by rw [hc243]; exact hO243) hs4 hp5 (by first | assumption | omega) (by rw [show σ243.1 41 s = co σ243 41 s from rfl, hc243, lay_k (by decide) (by decide) (by decide) (by decide) (by decide)]; exact ezs)) (ck_X8_407 G.2.2.2.2.1 ⟨Nat.le_of_ble_eq_true rfl, Nat.le_of_ble_eq_true rfl⟩) m_recv (fun _ h => h) rfl [] rfl (Nat.le_of_ble_eq_true rfl) dX8_tells_249 ⟨Nat.le_of_ble_eq_true rfl, Nat.le_of_ble_eq_true rfl⟩ (k1 := 0) (n1 := 0) rfl rfl ?_
                              rintro r249 σ249 ⟨rfl, h249_c, h249_a⟩
                              refine v_topr (congrArg Value.int (show s_fo (co σ243) s p = s_fo (s_lay (co σ) 8 (nI p) (s_tv (s_tla (co σ) 8) t)) s p from by rw [hc243])) ?_
                              have hcb : co σ249 = (s_lay (co σ) 8 (nI p) (s_tv (s_tla (co σ) 8) t)) := (h249_c.trans hc243)
                              refine v_iconst (v := (-1)) G dX8_tells_252 rfl ?_
                              refine v_icmp_ne (tgt := 289) G dX8_tells_253 (by decide) (fun h253 => ?_) (fun h253 => ?_)
                              · refine v_iinc (v := (s_tv (s_tla (co σ) 8) t) + (-1)) (L' := [(10, .int ((s_tv (s_tla (co σ) 8) t) + (-1))), (9, .int ((s_tl (co σ) s p 8 t).2.2)), (8, .int ((s_tl (co σ) s p 8 t).2.1)), (7, .int ((s_tl (co σ) s p 8 t).1)), (6, .int ((σ.1 3 0) - 1)), (5, .int (σ.1 4 0)), (4, .int 8), (0, .ref (ad 43)), (1, .int (nI s)), (2, .int (nI p)), (3, .int w)]) G 0 dX8_tells_289 rfl rfl (by decide) rfl ?_
                                refine v_goto (tgt := 220) G dX8_tells_292 (by decide) ?_
                                refine V_.sub (L' := [(10, .int ((s_tv (s_tla (co σ) 8) t) + (-1))), (9, .int ((s_tl (co σ) s p 8 t).2.2)), (8, .int ((s_tl (co σ) s p 8 t).2.1)), (7, .int ((s_tl (co σ) s p 8 t).1)), (6, .int ((σ.1 3 0) - 1)), (5, .int (σ.1 4 0)), (4, .int 8), (0, .ref (ad 43)), (1, .int (nI s)), (2, .int (nI p)), (3, .int w)]) ?_ [0, 1, 2, 3, 4, 5, 6, 7, 8, 9, 10] rfl
                                refine v_loc (L' := [(10, .int (s_tv (s_tla (co σ) 8) (t + 1))), (9, .int ((s_tl (co σ) s p 8 (t + 1)).2.2)), (8, .int ((s_tl (co σ) s p 8 (t + 1)).2.1)), (7, .int ((s_tl (co σ) s p 8 (t + 1)).1)), (6, .int ((σ.1 3 0) - 1)), (5, .int (σ.1 4 0)), (4, .int 8), (0, .ref (ad 43)), (1, .int (nI s)), (2, .int (nI p)), (3, .int w)]) (by rw [s_tl]; first | (rw [if_pos (by exact h253), if_pos (by exact g265)] <;> rfl) | (rw [if_pos (by exact h253), if_neg (by exact g265)] <;> rfl) | (rw [if_neg (by exact h253)] <;> rfl)) ?_
                                exact ih220  (t + 1) σ249 (s_tv (s_tla (co σ) 8) t) (by omega) (s_tv_i (by omega) (by omega) (by omega)) (by unfold s_tN; omega) hcb (by omega)
                              · refine v_iload G 3 dX8_tells_256 rfl ?_
                                refine v_iload G 0 dX8_tells_258 rfl ?_
                                refine v_i2l (v := (s_tv (s_tla (co σ) 8) t).toInt64) G dX8_tells_260 rfl ?_
                                refine v_lconst (v := 0) G dX8_tells_261 rfl ?_
                                refine v_ldc2 G q1444 dX8_tells_262 ?_
                                refine w_callSi G hK hT (kX8_in hK l dC dI ct ad σ249 ((s_tv (s_tla (co σ) 8) t).toInt64) 0 11) (ck_X8_86 G.2.2.2.2.1 ⟨Nat.le_of_ble_eq_true rfl, Nat.le_of_ble_eq_true rfl⟩) (fun _ h => h) rfl [.int ((s_tl (co σ) s p 8 t).1)] rfl (Nat.le_of_ble_eq_true rfl) dX8_tells_265 ⟨Nat.le_of_ble_eq_true rfl, Nat.le_of_ble_eq_true rfl⟩ (k1 := 0) (n1 := 0) rfl rfl ?_
                                rintro r265 σ265 (⟨rfl, rfl, h265_h⟩ | ⟨rfl, rfl, h265_h⟩)
                                · have g265 := (in_rg (c := (s_tv (s_tla (co σ) 8) t)) (lo := 0) (hi := 11) (a := 0) (z := 11) (by decide) (by decide)).mp h265_h
                                  refine v_if_eq (tgt := 278) G dX8_tells_268 (by decide) (fun h268 => absurd h268 (by decide)) (fun h268 => ?_)
                                  refine v_iconst (v := 1) G dX8_tells_271 rfl ?_
                                  refine v_iload G 0 dX8_tells_272 rfl ?_
                                  refine v_ishl G dX8_tells_274 ?_
                                  refine v_goto (tgt := 279) G dX8_tells_275 (by decide) ?_
                                  refine v_ior G dX8_tells_279 ?_
                                  refine v_istore (L' := [(7, .int (((s_tl (co σ) s p 8 t).1) ||| (1 <<< ((s_tv (s_tla (co σ) 8) t) &&& 31)))), (10, .int (s_tv (s_tla (co σ) 8) t)), (9, .int ((s_tl (co σ) s p 8 t).2.2)), (8, .int ((s_tl (co σ) s p 8 t).2.1)), (6, .int ((σ.1 3 0) - 1)), (5, .int (σ.1 4 0)), (4, .int 8), (0, .ref (ad 43)), (1, .int (nI s)), (2, .int (nI p)), (3, .int w)]) G dX8_tells_280 (by decide) rfl ?_
                                  refine v_iinc (v := ((s_tl (co σ) s p 8 t).2.1) + 1) (L' := [(8, .int (((s_tl (co σ) s p 8 t).2.1) + 1)), (7, .int (((s_tl (co σ) s p 8 t).1) ||| (1 <<< ((s_tv (s_tla (co σ) 8) t) &&& 31)))), (10, .int (s_tv (s_tla (co σ) 8) t)), (9, .int ((s_tl (co σ) s p 8 t).2.2)), (6, .int ((σ.1 3 0) - 1)), (5, .int (σ.1 4 0)), (4, .int 8), (0, .ref (ad 43)), (1, .int (nI s)), (2, .int (nI p)), (3, .int w)]) G 3 dX8_tells_282 rfl rfl (by decide) rfl ?_
                                  refine v_iload G 2 dX8_tells_285 rfl ?_
                                  refine v_istore (L' := [(9, .int (s_tv (s_tla (co σ) 8) t)), (8, .int (((s_tl (co σ) s p 8 t).2.1) + 1)), (7, .int (((s_tl (co σ) s p 8 t).1) ||| (1 <<< ((s_tv (s_tla (co σ) 8) t) &&& 31)))), (10, .int (s_tv (s_tla (co σ) 8) t)), (6, .int ((σ.1 3 0) - 1)), (5, .int (σ.1 4 0)), (4, .int 8), (0, .ref (ad 43)), (1, .int (nI s)), (2, .int (nI p)), (3, .int w)]) G dX8_tells_287 (by decide) rfl ?_
                                  refine v_iinc (v := (s_tv (s_tla (co σ) 8) t) + (-1)) (L' := [(10, .int ((s_tv (s_tla (co σ) 8) t) + (-1))), (9, .int (s_tv (s_tla (co σ) 8) t)), (8, .int (((s_tl (co σ) s p 8 t).2.1) + 1)), (7, .int (((s_tl (co σ) s p 8 t).1) ||| (1 <<< ((s_tv (s_tla (co σ) 8) t) &&& 31)))), (6, .int ((σ.1 3 0) - 1)), (5, .int (σ.1 4 0)), (4, .int 8), (0, .ref (ad 43)), (1, .int (nI s)), (2, .int (nI p)), (3, .int w)]) G 3 dX8_tells_289 rfl rfl (by decide) rfl ?_
                                  refine v_goto (tgt := 220) G dX8_tells_292 (by decide) ?_
                                  refine V_.sub (L' := [(10, .int ((s_tv (s_tla (co σ) 8) t) + (-1))), (9, .int (s_tv (s_tla (co σ) 8) t)), (8, .int (((s_tl (co σ) s p 8 t).2.1) + 1)), (7, .int (((s_tl (co σ) s p 8 t).1) ||| (1 <<< ((s_tv (s_tla (co σ) 8) t) &&& 31)))), (6, .int ((σ.1 3 0) - 1)), (5, .int (σ.1 4 0)), (4, .int 8), (0, .ref (ad 43)), (1, .int (nI s)), (2, .int (nI p)), (3, .int w)]) ?_ [0, 1, 2, 3, 4, 5, 6, 7, 8, 9, 10] rfl
                                  refine v_loc (L' := [(10, .int (s_tv (s_tla (co σ) 8) (t + 1))), (9, .int ((s_tl (co σ) s p 8 (t + 1)).2.2)), (8, .int ((s_tl (co σ) s p 8 (t + 1)).2.1)), (7, .int ((s_tl (co σ) s p 8 (t + 1)).1)), (6, .int ((σ.1 3 0) - 1)), (5, .int (σ.1 4 0)), (4, .int 8), (0, .ref (ad 43)), (1, .int (nI s)), (2, .int (nI p)), (3, .int w)]) (by rw [s_tl]; first | (rw [if_pos (by exact h253), if_pos (by exact g265)] <;> rfl) | (rw [if_pos (by exact h253), if_neg (by exact g265)] <;> rfl) | (rw [if_neg (by exact h253)] <;> rfl)) ?_
                                  exact ih220  (t + 1) σ249 (s_tv (s_tla (co σ) 8) t) (by omega) (s_tv_i (by omega) (by omega) (by omega)) (by unfold s_tN; omega) hcb (by omega)
                                · have g265 : ¬ rg (s_tv (s_tla (co σ) 8) t) 0 11 := fun zz => h265_h ((in_rg (c := (s_tv (s_tla (co σ) 8) t)) (lo := 0) (hi := 11) (a := 0) (z := 11) (by decide) (by decide)).mpr zz)
                                  refine v_if_eq (tgt := 278) G dX8_tells_268 (by decide) (fun h268 => ?_) (fun h268 => absurd h268 (by decide))
                                  refine v_iconst (v := 0) G dX8_tells_278 rfl ?_
                                  refine v_ior G dX8_tells_279 ?_
                                  refine v_istore (L' := [(7, .int (((s_tl (co σ) s p 8 t).1) ||| 0)), (10, .int (s_tv (s_tla (co σ) 8) t)), (9, .int ((s_tl (co σ) s p 8 t).2.2)), (8, .int ((s_tl (co σ) s p 8 t).2.1)), (6, .int ((σ.1 3 0) - 1)), (5, .int (σ.1 4 0)), (4, .int 8), (0, .ref (ad 43)), (1, .int (nI s)), (2, .int (nI p)), (3, .int w)]) G dX8_tells_280 (by decide) rfl ?_
                                  refine v_iinc (v := ((s_tl (co σ) s p 8 t).2.1) + 1) (L' := [(8, .int (((s_tl (co σ) s p 8 t).2.1) + 1)), (7, .int (((s_tl (co σ) s p 8 t).1) ||| 0)), (10, .int (s_tv (s_tla (co σ) 8) t)), (9, .int ((s_tl (co σ) s p 8 t).2.2)), (6, .int ((σ.1 3 0) - 1)), (5, .int (σ.1 4 0)), (4, .int 8), (0, .ref (ad 43)), (1, .int (nI s)), (2, .int (nI p)), (3, .int w)]) G 3 dX8_tells_282 rfl rfl (by decide) rfl ?_
                                  refine v_iload G 2 dX8_tells_285 rfl ?_
                                  refine v_istore (L' := [(9, .int (s_tv (s_tla (co σ) 8) t)), (8, .int (((s_tl (co σ) s p 8 t).2.1) + 1)), (7, .int (((s_tl (co σ) s p 8 t).1) ||| 0)), (10, .int (s_tv (s_tla (co σ) 8) t)), (6, .int ((σ.1 3 0) - 1)), (5, .int (σ.1 4 0)), (4, .int 8), (0, .ref (ad 43)), (1, .int (nI s)), (2, .int (nI p)), (3, .int w)]) G dX8_tells_287 (by decide) rfl ?_
                                  refine v_iinc (v := (s_tv (s_tla (co σ) 8) t) + (-1)) (L' := [(10, .int ((s_tv (s_tla (co σ) 8) t) + (-1))), (9, .int (s_tv (s_tla (co σ) 8) t)), (8, .int (((s_tl (co σ) s p 8 t).2.1) + 1)), (7, .int (((s_tl (co σ) s p 8 t).1) ||| 0)), (6, .int ((σ.1 3 0) - 1)), (5, .int (σ.1 4 0)), (4, .int 8), (0, .ref (ad 43)), (1, .int (nI s)), (2, .int (nI p)), (3, .int w)]) G 3 dX8_tells_289 rfl rfl (by decide) rfl ?_
                                  refine v_goto (tgt := 220) G dX8_tells_292 (by decide) ?_
                                  refine V_.sub (L' := [(10, .int ((s_tv (s_tla (co σ) 8) t) + (-1))), (9, .int (s_tv (s_tla (co σ) 8) t)), (8, .int (((s_tl (co σ) s p 8 t).2.1) + 1)), (7, .int (((s_tl (co σ) s p 8 t).1) ||| 0)), (6, .int ((σ.1 3 0) - 1)), (5, .int (σ.1 4 0)), (4, .int 8), (0, .ref (ad 43)), (1, .int (nI s)), (2, .int (nI p)), (3, .int w)]) ?_ [0, 1, 2, 3, 4, 5, 6, 7, 8, 9, 10] rfl
                                  refine v_loc (L' := [(10, .int (s_tv (s_tla (co σ) 8) (t + 1))), (9, .int ((s_tl (co σ) s p 8 (t + 1)).2.2)), (8, .int ((s_tl (co σ) s p 8 (t + 1)).2.1)), (7, .int ((s_tl (co σ) s p 8 (t + 1)).1)), (6, .int ((σ.1 3 0) - 1)), (5, .int (σ.1 4 0)), (4, .int 8), (0, .ref (ad 43)), (1, .int (nI s)), (2, .int (nI p)), (3, .int w)]) (by rw [s_tl]; first | (rw [if_pos (by exact h253), if_pos (by exact g265)] <;> rfl) | (rw [if_pos (by exact h253), if_neg (by exact g265)] <;> rfl) | (rw [if_neg (by exact h253)] <;> rfl)) ?_
                                  exact ih220  (t + 1) σ249 (s_tv (s_tla (co σ) 8) t) (by omega) (s_tv_i (by omega) (by omega) (by omega)) (by unfold s_tN; omega) hcb (by omega)
                        refine V_.sub (L' := [(10, .int ((σ.1 3 0) - 1)), (9, .int (-100)), (8, .int 0), (7, .int 0), (6, .int ((σ.1 3 0) - 1)), (5, .int (σ.1 4 0)), (4, .int 8), (0, .ref (ad 43)), (1, .int (nI s)), (2, .int (nI p)), (3, .int w)]) ?_ [0, 1, 2, 3, 4, 5, 6, 7, 8, 9, 10] rfl
                        refine v_loc (L' := [(10, .int (s_tv (s_tla (co σ) 8) 0)), (9, .int ((s_tl (co σ) s p 8 0).2.2)), (8, .int ((s_tl (co σ) s p 8 0).2.1)), (7, .int ((s_tl (co σ) s p 8 0).1)), (6, .int ((σ.1 3 0) - 1)), (5, .int (σ.1 4 0)), (4, .int 8), (0, .ref (ad 43)), (1, .int (nI s)), (2, .int (nI p)), (3, .int w)]) (rfl) ?_
                        exact loop220 _ 0 σ (σ.1 4 0) (by omega) (by show (s_tla (co σ) _).toInt = _; omega) (Nat.zero_le _) ((lay_old8 (K := co σ)).symm) (Nat.lt_succ_self _)
                    · refine v_iconst (v := 4) G dX8_tells_112 rfl ?_
                      refine v_goto (tgt := 128) G dX8_tells_113 (by decide) ?_
                      refine v_istore (L' := [(4, .int 4), (0, .ref (ad 43)), (1, .int (nI s)), (2, .int (nI p)), (3, .int w)]) G dX8_tells_128 (by decide) rfl ?_
                      refine v_iload G 0 dX8_tells_130 rfl ?_
                      refine v_bipush (v := 8) G dX8_tells_132 rfl ?_
                      refine v_icmp_ne (tgt := 144) G dX8_tells_134 (by decide) (fun h134 => ?_) (fun h134 => absurd h134 (by decide))
                      refine v_aload_n G 1 dX8_tells_144 rfl ?_
                      refine v_iload_n G 3 dX8_tells_145 rfl ?_
                      refine v_iload G 0 dX8_tells_146 rfl ?_
                      refine w_callVi G hK hT (kX8_told hK l dC dI ct ad σ (nI p) 4 hO) (ck_X8_116 G.2.2.2.2.1 ⟨Nat.le_of_ble_eq_true rfl, Nat.le_of_ble_eq_true rfl⟩) m_recv (fun _ h => h) rfl [] rfl (Nat.le_of_ble_eq_true rfl) dX8_tells_148 ⟨Nat.le_of_ble_eq_true rfl, Nat.le_of_ble_eq_true rfl⟩ (k1 := 0) (n1 := 0) rfl rfl ?_
                      rintro r148 σ148 ⟨rfl, h148_c, h148_a⟩
                      have told151 : s_told (co σ) (nI p) 4 = co σ 10 (5 * p + (4 - 3)) := told_is hp_ hm5 (by decide) (by decide)
                      refine v_topr (congrArg Value.int told151) ?_
                      refine v_istore (L' := [(5, .int (co σ 10 (5 * p + (4 - 3)))), (4, .int 4), (0, .ref (ad 43)), (1, .int (nI s)), (2, .int (nI p)), (3, .int w)]) G dX8_tells_151 (by decide) rfl ?_
                      refine v_iload G 1 dX8_tells_153 rfl ?_
                      refine v_bipush (v := 8) G dX8_tells_155 rfl ?_
                      refine v_icmp_ne (tgt := 169) G dX8_tells_157 (by decide) (fun h157 => ?_) (fun h157 => absurd h157 (by decide))
                      refine v_iload G 1 dX8_tells_169 rfl ?_
                      refine v_bipush (v := 7) G dX8_tells_171 rfl ?_
                      refine v_icmp_ne (tgt := 180) G dX8_tells_173 (by decide) (fun h173 => ?_) (fun h173 => absurd h173 (by decide))
                      refine v_iload G 1 dX8_tells_180 rfl ?_
                      refine v_iconst (v := 3) G dX8_tells_182 rfl ?_
                      refine v_icmp_ne (tgt := 191) G dX8_tells_183 (by decide) (fun h183 => ?_) (fun h183 => absurd h183 (by decide))
                      refine v_iload G 1 dX8_tells_191 rfl ?_
                      refine v_iconst (v := 4) G dX8_tells_193 rfl ?_
                      refine v_icmp_ne (tgt := 202) G dX8_tells_194 (by decide) (fun h194 => absurd h194 (by decide)) (fun h194 => ?_)
                      refine v_bipush (v := 11) G dX8_tells_197 rfl ?_
                      refine v_goto (tgt := 204) G dX8_tells_199 (by decide) ?_
                      refine v_istore (L' := [(6, .int 11), (5, .int (co σ 10 (5 * p + (4 - 3)))), (4, .int 4), (0, .ref (ad 43)), (1, .int (nI s)), (2, .int (nI p)), (3, .int w)]) G dX8_tells_204 (by decide) rfl ?_
                      refine v_iconst (v := 0) G dX8_tells_206 rfl ?_
                      refine v_istore (L' := [(7, .int 0), (6, .int 11), (5, .int (co σ 10 (5 * p + (4 - 3)))), (4, .int 4), (0, .ref (ad 43)), (1, .int (nI s)), (2, .int (nI p)), (3, .int w)]) G dX8_tells_207 (by decide) rfl ?_
                      refine v_iconst (v := 0) G dX8_tells_209 rfl ?_
                      refine v_istore (L' := [(8, .int 0), (7, .int 0), (6, .int 11), (5, .int (co σ 10 (5 * p + (4 - 3)))), (4, .int 4), (0, .ref (ad 43)), (1, .int (nI s)), (2, .int (nI p)), (3, .int w)]) G dX8_tells_210 (by decide) rfl ?_
                      refine v_bipush (v := (-100)) G dX8_tells_212 rfl ?_
                      refine v_istore (L' := [(9, .int (-100)), (8, .int 0), (7, .int 0), (6, .int 11), (5, .int (co σ 10 (5 * p + (4 - 3)))), (4, .int 4), (0, .ref (ad 43)), (1, .int (nI s)), (2, .int (nI p)), (3, .int w)]) G dX8_tells_214 (by decide) rfl ?_
                      refine v_iload G 3 dX8_tells_216 rfl ?_
                      refine v_istore (L' := [(10, .int 11), (9, .int (-100)), (8, .int 0), (7, .int 0), (6, .int 11), (5, .int (co σ 10 (5 * p + (4 - 3)))), (4, .int 4), (0, .ref (ad 43)), (1, .int (nI s)), (2, .int (nI p)), (3, .int w)]) G dX8_tells_218 (by decide) rfl ?_
                      have loop220 : ∀ (dd : Nat) (t : Nat) (τ : MS) (cur : Int32), (t ≤ 300) → ((s_tv (s_tla (co σ) 4) t).toInt = (s_tla (co σ) 4).toInt - t) → (t ≤ s_tN (co σ) 4) → (co τ = s_lay (co σ) 4 (nI p) cur) → 300 - t < dd → V_ pp l ee rmX8_tells ss mm aa bb hh cc 11 (dC, dI) vwCl AA QQ 0 0 (RM ct ad τ) 220 [(10, .int (s_tv (s_tla (co σ) 4) t)), (9, .int ((s_tl (co σ) s p 4 t).2.2)), (8, .int ((s_tl (co σ) s p 4 t).2.1)), (7, .int ((s_tl (co σ) s p 4 t).1)), (6, .int 11), (5, .int (co σ 10 (5 * p + (4 - 3)))), (4, .int 4), (0, .ref (ad 43)), (1, .int (nI s)), (2, .int (nI p)), (3, .int w)] [] := by
                        intro dd
                        induction dd with
                        | zero => intro t τ cur ht htl htN hc hdd; exact absurd hdd (Nat.not_lt_zero _)
                        | succ dd ih220 =>
                          intro t τ cur ht htl htN hc hdd
                          refine v_iload G 0 dX8_tells_220 rfl ?_
                          refine v_iload G 6 dX8_tells_222 rfl ?_
                          refine v_iconst (v := 5) G dX8_tells_224 rfl ?_
                          refine v_icmp_ne (tgt := 233) G dX8_tells_225 (by decide) (fun h225 => ?_) (fun h225 => absurd h225 (by decide))
                          refine v_iconst (v := 0) G dX8_tells_233 rfl ?_
                          refine v_icmp_lt (tgt := 295) G dX8_tells_234 (by decide) (fun h234 => ?_) (fun h234 => ?_)
                          · have e9 : (0 : Int32).toInt = 0 := by decide
                            have hend : t = s_tN (co σ) 4 := by
                              have h1 := Int32.lt_iff_toInt_lt.mp h234
                              unfold s_tN at htN ⊢
                              rw [show s_tlo 4 = 0 from rfl] at htN ⊢
                              omega
                            refine v_aload_n G 7 dX8_tells_295 rfl ?_
                            refine v_iload G 6 dX8_tells_296 rfl ?_
                            refine v_iload_n G 9 dX8_tells_298 rfl ?_
                            refine v_iload G 5 dX8_tells_299 rfl ?_
                            refine v_stk (st' := [.int (co σ 10 (5 * p + (4 - 3))), .int (nI p), .int (nI 4), .ref (ad 43)]) (by first | rfl | (have e0 : 4 = nI 4 := (ix_lit 4 rfl) ; simp only [e0])) ?_
                            refine w_callVv G hK hT (kX8_lays hK l dC dI ct ad τ 4 (nI p) (co σ 10 (5 * p + (4 - 3))) (by decide) (fun h => absurd h (by decide)) (fun _ _ => ⟨p, hp5, rfl⟩)) (ck_X8_120 G.2.2.2.2.1 ⟨Nat.le_of_ble_eq_true rfl, Nat.le_of_ble_eq_true rfl⟩) m_recv (fun _ h => h) rfl [] rfl (Nat.le_of_ble_eq_true rfl) dX8_tells_301 ⟨Nat.le_of_ble_eq_true rfl, Nat.le_of_ble_eq_true rfl⟩ (k1 := 0) (n1 := 0) rfl rfl ?_
                            rintro σ301 ⟨h301_c, h301_a⟩
                            refine v_iload_n G 10 dX8_tells_304 rfl ?_
                            refine v_iconst (v := 4) G dX8_tells_305 rfl ?_
                            refine v_icmp_ne (tgt := 314) G dX8_tells_306 (by decide) (fun h306 => ?_) (fun h306 => ?_)
                            · refine v_iload_n G 10 dX8_tells_314 rfl ?_
                              refine v_iconst (v := 5) G dX8_tells_315 rfl ?_
                              refine v_icmp_ne (tgt := 324) G dX8_tells_316 (by decide) (fun h316 => ?_) (fun h316 => ?_)
                              · refine v_iload G 3 dX8_tells_324 rfl ?_
                                refine RET _ _ _ _ _ _ rfl (Nat.le_of_ble_eq_true rfl) (Nat.le_of_ble_eq_true rfl) dX8_tells_326 (fun ws hws => ⟨_, hws, ?_⟩)
                                clear RET G hT hnm
                                have ek : s_tk w = 4 := by rw [s_tk, if_neg h90, if_neg h100, if_pos h109]
                                refine ⟨?_, by rw [h301_c, hc, lay_lay]; exact (lay_old (by decide) (by decide) hp5)⟩
                                rw [s_tells, if_pos ⟨h1_h, h9_h, g21⟩, esn, epn, if_neg (by exact h37), if_neg (by exact Int32.not_lt.mpr h52), if_neg (by exact h60), if_neg (by exact h66), s_tres, ek, ← hend]
                                first
                                  | (rw [if_pos h306]; done)
                                  | (rw [if_neg h306, if_pos h316]; done)
                                  | (rw [if_neg h306, if_neg h316]; done)
                              · refine v_iload G 1 dX8_tells_319 rfl ?_
                                refine v_goto (tgt := 326) G dX8_tells_321 (by decide) ?_
                                refine RET _ _ _ _ _ _ rfl (Nat.le_of_ble_eq_true rfl) (Nat.le_of_ble_eq_true rfl) dX8_tells_326 (fun ws hws => ⟨_, hws, ?_⟩)
                                clear RET G hT hnm
                                have ek : s_tk w = 4 := by rw [s_tk, if_neg h90, if_neg h100, if_pos h109]
                                refine ⟨?_, by rw [h301_c, hc, lay_lay]; exact (lay_old (by decide) (by decide) hp5)⟩
                                rw [s_tells, if_pos ⟨h1_h, h9_h, g21⟩, esn, epn, if_neg (by exact h37), if_neg (by exact Int32.not_lt.mpr h52), if_neg (by exact h60), if_neg (by exact h66), s_tres, ek, ← hend]
                                first
                                  | (rw [if_pos h306]; done)
                                  | (rw [if_neg h306, if_pos h316]; done)
                                  | (rw [if_neg h306, if_neg h316]; done)
                            · refine v_iload G 2 dX8_tells_309 rfl ?_
                              refine v_goto (tgt := 326) G dX8_tells_311 (by decide) ?_
                              refine RET _ _ _ _ _ _ rfl (Nat.le_of_ble_eq_true rfl) (Nat.le_of_ble_eq_true rfl) dX8_tells_326 (fun ws hws => ⟨_, hws, ?_⟩)
                              clear RET G hT hnm
                              have ek : s_tk w = 4 := by rw [s_tk, if_neg h90, if_neg h100, if_pos h109]
                              refine ⟨?_, by rw [h301_c, hc, lay_lay]; exact (lay_old (by decide) (by decide) hp5)⟩
                              rw [s_tells, if_pos ⟨h1_h, h9_h, g21⟩, esn, epn, if_neg (by exact h37), if_neg (by exact Int32.not_lt.mpr h52), if_neg (by exact h60), if_neg (by exact h66), s_tres, ek, ← hend]
                              first
                                | (rw [if_pos h306]; done)
                                | (rw [if_neg h306, if_pos h316]; done)
                                | (rw [if_neg h306, if_neg h316]; done)
                          · have e9 : (0 : Int32).toInt = 0 := by decide
                            obtain ⟨tb0, tb1⟩ := tla_b (k := 4) hO
                            have hlo : s_tlo 4 ≤ (s_tv (s_tla (co σ) 4) t).toInt := by
                              have := Int32.le_iff_toInt_le.mp (Int32.not_lt.mp h234)
                              show (0 : Int) ≤ _
                              omega
                            have hlo' : (0 : Int) ≤ (s_tv (s_tla (co σ) 4) t).toInt := hlo
                            have elo : s_tlo 4 = 0 := rfl
                            have hlv : lvOk (co σ) 4 (s_tv (s_tla (co σ) 4) t) := lv_t hO (by decide) hlo (by omega)
                            refine v_aload_n G 7 dX8_tells_237 rfl ?_
                            refine v_iload G 6 dX8_tells_238 rfl ?_
                            refine v_iload_n G 9 dX8_tells_240 rfl ?_
                            refine v_iload G 0 dX8_tells_241 rfl ?_
                            refine v_stk (st' := [.int (s_tv (s_tla (co σ) 4) t), .int (nI p), .int (nI 4), .ref (ad 43)]) (by first | rfl | (have e0 : 4 = nI 4 := (ix_lit 4 rfl) ; simp only [e0])) ?_
                            refine w_callVv G hK hT (kX8_lays hK l dC dI ct ad τ 4 (nI p) (s_tv (s_tla (co σ) 4) t) (by decide) (fun h => absurd h (by decide)) (fun _ _ => ⟨p, hp5, rfl⟩)) (ck_X8_120 G.2.2.2.2.1 ⟨Nat.le_of_ble_eq_true rfl, Nat.le_of_ble_eq_true rfl⟩) m_recv (fun _ h => h) rfl [] rfl (Nat.le_of_ble_eq_true rfl) dX8_tells_243 ⟨Nat.le_of_ble_eq_true rfl, Nat.le_of_ble_eq_true rfl⟩ (k1 := 0) (n1 := 0) rfl rfl ?_
                            rintro σ243 ⟨h243_c, h243_a⟩
                            have hc243 : co σ243 = s_lay (co σ) 4 (nI p) (s_tv (s_tla (co σ) 4) t) := by rw [h243_c, hc, lay_lay]
                            have hO243 : Ok (s_lay (co σ) 4 (nI p) (s_tv (s_tla (co σ) 4) t)) := ok_lay hO (by decide) hlv
                            refine v_aload_n G 7 dX8_tells_246 rfl ?_
                            refine v_iload_n G 8 dX8_tells_247 rfl ?_
                            refine v_iload_n G 9 dX8_tells_248 rfl ?_
                            refine w_callVi G hK hT (kX8_firstOther hK l dC dI ct ad σ243 s p zs (by rw [hc243]; exact hO243) hs4 hp5 (by first | assumption | omega) (by rw [show σ243.1 41 s = co σ243 41 s from rfl, hc243, lay_k (by decide) (by decide) (by decide) (by decide) (by decide)]; exact ezs)) (ck_X8_407 G.2.2.2.2.1 ⟨Nat.le_of_ble_eq_true rfl, Nat.le_of_ble_eq_true rfl⟩) m_recv (fun _ h => h) rfl [] rfl (Nat.le_of_ble_eq_true rfl) dX8_tells_249 ⟨Nat.le_of_ble_eq_true rfl, Nat.le_of_ble_eq_true rfl⟩ (k1 := 0) (n1 := 0) rfl rfl ?_
                            rintro r249 σ249 ⟨rfl, h249_c, h249_a⟩
                            refine v_topr (congrArg Value.int (show s_fo (co σ243) s p = s_fo (s_lay (co σ) 4 (nI p) (s_tv (s_tla (co σ) 4) t)) s p from by rw [hc243])) ?_
                            have hcb : co σ249 = (s_lay (co σ) 4 (nI p) (s_tv (s_tla (co σ) 4) t)) := (h249_c.trans hc243)
                            refine v_iconst (v := (-1)) G dX8_tells_252 rfl ?_
                            refine v_icmp_ne (tgt := 289) G dX8_tells_253 (by decide) (fun h253 => ?_) (fun h253 => ?_)
                            · refine v_iinc (v := (s_tv (s_tla (co σ) 4) t) + (-1)) (L' := [(10, .int ((s_tv (s_tla (co σ) 4) t) + (-1))), (9, .int ((s_tl (co σ) s p 4 t).2.2)), (8, .int ((s_tl (co σ) s p 4 t).2.1)), (7, .int ((s_tl (co σ) s p 4 t).1)), (6, .int 11), (5, .int (co σ 10 (5 * p + (4 - 3)))), (4, .int 4), (0, .ref (ad 43)), (1, .int (nI s)), (2, .int (nI p)), (3, .int w)]) G 0 dX8_tells_289 rfl rfl (by decide) rfl ?_
                              refine v_goto (tgt := 220) G dX8_tells_292 (by decide) ?_
                              refine V_.sub (L' := [(10, .int ((s_tv (s_tla (co σ) 4) t) + (-1))), (9, .int ((s_tl (co σ) s p 4 t).2.2)), (8, .int ((s_tl (co σ) s p 4 t).2.1)), (7, .int ((s_tl (co σ) s p 4 t).1)), (6, .int 11), (5, .int (co σ 10 (5 * p + (4 - 3)))), (4, .int 4), (0, .ref (ad 43)), (1, .int (nI s)), (2, .int (nI p)), (3, .int w)]) ?_ [0, 1, 2, 3, 4, 5, 6, 7, 8, 9, 10] rfl
                              refine v_loc (L' := [(10, .int (s_tv (s_tla (co σ) 4) (t + 1))), (9, .int ((s_tl (co σ) s p 4 (t + 1)).2.2)), (8, .int ((s_tl (co σ) s p 4 (t + 1)).2.1)), (7, .int ((s_tl (co σ) s p 4 (t + 1)).1)), (6, .int 11), (5, .int (co σ 10 (5 * p + (4 - 3)))), (4, .int 4), (0, .ref (ad 43)), (1, .int (nI s)), (2, .int (nI p)), (3, .int w)]) (by rw [s_tl]; first | (rw [if_pos (by exact h253), if_pos (by exact g265)] <;> rfl) | (rw [if_pos (by exact h253), if_neg (by exact g265)] <;> rfl) | (rw [if_neg (by exact h253)] <;> rfl)) ?_
                              exact ih220  (t + 1) σ249 (s_tv (s_tla (co σ) 4) t) (by omega) (s_tv_i (by omega) (by omega) (by omega)) (by unfold s_tN; omega) hcb (by omega)
                            · refine v_iload G 3 dX8_tells_256 rfl ?_
                              refine v_iload G 0 dX8_tells_258 rfl ?_
                              refine v_i2l (v := (s_tv (s_tla (co σ) 4) t).toInt64) G dX8_tells_260 rfl ?_
                              refine v_lconst (v := 0) G dX8_tells_261 rfl ?_
                              refine v_ldc2 G q1444 dX8_tells_262 ?_
                              refine w_callSi G hK hT (kX8_in hK l dC dI ct ad σ249 ((s_tv (s_tla (co σ) 4) t).toInt64) 0 11) (ck_X8_86 G.2.2.2.2.1 ⟨Nat.le_of_ble_eq_true rfl, Nat.le_of_ble_eq_true rfl⟩) (fun _ h => h) rfl [.int ((s_tl (co σ) s p 4 t).1)] rfl (Nat.le_of_ble_eq_true rfl) dX8_tells_265 ⟨Nat.le_of_ble_eq_true rfl, Nat.le_of_ble_eq_true rfl⟩ (k1 := 0) (n1 := 0) rfl rfl ?_
                              rintro r265 σ265 (⟨rfl, rfl, h265_h⟩ | ⟨rfl, rfl, h265_h⟩)
                              · have g265 := (in_rg (c := (s_tv (s_tla (co σ) 4) t)) (lo := 0) (hi := 11) (a := 0) (z := 11) (by decide) (by decide)).mp h265_h
                                refine v_if_eq (tgt := 278) G dX8_tells_268 (by decide) (fun h268 => absurd h268 (by decide)) (fun h268 => ?_)
                                refine v_iconst (v := 1) G dX8_tells_271 rfl ?_
                                refine v_iload G 0 dX8_tells_272 rfl ?_
                                refine v_ishl G dX8_tells_274 ?_
                                refine v_goto (tgt := 279) G dX8_tells_275 (by decide) ?_
                                refine v_ior G dX8_tells_279 ?_
                                refine v_istore (L' := [(7, .int (((s_tl (co σ) s p 4 t).1) ||| (1 <<< ((s_tv (s_tla (co σ) 4) t) &&& 31)))), (10, .int (s_tv (s_tla (co σ) 4) t)), (9, .int ((s_tl (co σ) s p 4 t).2.2)), (8, .int ((s_tl (co σ) s p 4 t).2.1)), (6, .int 11), (5, .int (co σ 10 (5 * p + (4 - 3)))), (4, .int 4), (0, .ref (ad 43)), (1, .int (nI s)), (2, .int (nI p)), (3, .int w)]) G dX8_tells_280 (by decide) rfl ?_
                                refine v_iinc (v := ((s_tl (co σ) s p 4 t).2.1) + 1) (L' := [(8, .int (((s_tl (co σ) s p 4 t).2.1) + 1)), (7, .int (((s_tl (co σ) s p 4 t).1) ||| (1 <<< ((s_tv (s_tla (co σ) 4) t) &&& 31)))), (10, .int (s_tv (s_tla (co σ) 4) t)), (9, .int ((s_tl (co σ) s p 4 t).2.2)), (6, .int 11), (5, .int (co σ 10 (5 * p + (4 - 3)))), (4, .int 4), (0, .ref (ad 43)), (1, .int (nI s)), (2, .int (nI p)), (3, .int w)]) G 3 dX8_tells_282 rfl rfl (by decide) rfl ?_
                                refine v_iload G 2 dX8_tells_285 rfl ?_
                                refine v_istore (L' := [(9, .int (s_tv (s_tla (co σ) 4) t)), (8, .int (((s_tl (co σ) s p 4 t).2.1) + 1)), (7, .int (((s_tl (co σ) s p 4 t).1) ||| (1 <<< ((s_tv (s_tla (co σ) 4) t) &&& 31)))), (10, .int (s_tv (s_tla (co σ) 4) t)), (6, .int 11), (5, .int (co σ 10 (5 * p + (4 - 3)))), (4, .int 4), (0, .ref (ad 43)), (1, .int (nI s)), (2, .int (nI p)), (3, .int w)]) G dX8_tells_287 (by decide) rfl ?_
                                refine v_iinc (v := (s_tv (s_tla (co σ) 4) t) + (-1)) (L' := [(10, .int ((s_tv (s_tla (co σ) 4) t) + (-1))), (9, .int (s_tv (s_tla (co σ) 4) t)), (8, .int (((s_tl (co σ) s p 4 t).2.1) + 1)), (7, .int (((s_tl (co σ) s p 4 t).1) ||| (1 <<< ((s_tv (s_tla (co σ) 4) t) &&& 31)))), (6, .int 11), (5, .int (co σ 10 (5 * p + (4 - 3)))), (4, .int 4), (0, .ref (ad 43)), (1, .int (nI s)), (2, .int (nI p)), (3, .int w)]) G 3 dX8_tells_289 rfl rfl (by decide) rfl ?_
                                refine v_goto (tgt := 220) G dX8_tells_292 (by decide) ?_
                                refine V_.sub (L' := [(10, .int ((s_tv (s_tla (co σ) 4) t) + (-1))), (9, .int (s_tv (s_tla (co σ) 4) t)), (8, .int (((s_tl (co σ) s p 4 t).2.1) + 1)), (7, .int (((s_tl (co σ) s p 4 t).1) ||| (1 <<< ((s_tv (s_tla (co σ) 4) t) &&& 31)))), (6, .int 11), (5, .int (co σ 10 (5 * p + (4 - 3)))), (4, .int 4), (0, .ref (ad 43)), (1, .int (nI s)), (2, .int (nI p)), (3, .int w)]) ?_ [0, 1, 2, 3, 4, 5, 6, 7, 8, 9, 10] rfl
                                refine v_loc (L' := [(10, .int (s_tv (s_tla (co σ) 4) (t + 1))), (9, .int ((s_tl (co σ) s p 4 (t + 1)).2.2)), (8, .int ((s_tl (co σ) s p 4 (t + 1)).2.1)), (7, .int ((s_tl (co σ) s p 4 (t + 1)).1)), (6, .int 11), (5, .int (co σ 10 (5 * p + (4 - 3)))), (4, .int 4), (0, .ref (ad 43)), (1, .int (nI s)), (2, .int (nI p)), (3, .int w)]) (by rw [s_tl]; first | (rw [if_pos (by exact h253), if_pos (by exact g265)] <;> rfl) | (rw [if_pos (by exact h253), if_neg (by exact g265)] <;> rfl) | (rw [if_neg (by exact h253)] <;> rfl)) ?_
                                exact ih220  (t + 1) σ249 (s_tv (s_tla (co σ) 4) t) (by omega) (s_tv_i (by omega) (by omega) (by omega)) (by unfold s_tN; omega) hcb (by omega)
                              · have g265 : ¬ rg (s_tv (s_tla (co σ) 4) t) 0 11 := fun zz => h265_h ((in_rg (c := (s_tv (s_tla (co σ) 4) t)) (lo := 0) (hi := 11) (a := 0) (z := 11) (by decide) (by decide)).mpr zz)
                                refine v_if_eq (tgt := 278) G dX8_tells_268 (by decide) (fun h268 => ?_) (fun h268 => absurd h268 (by decide))
                                refine v_iconst (v := 0) G dX8_tells_278 rfl ?_
                                refine v_ior G dX8_tells_279 ?_
                                refine v_istore (L' := [(7, .int (((s_tl (co σ) s p 4 t).1) ||| 0)), (10, .int (s_tv (s_tla (co σ) 4) t)), (9, .int ((s_tl (co σ) s p 4 t).2.2)), (8, .int ((s_tl (co σ) s p 4 t).2.1)), (6, .int 11), (5, .int (co σ 10 (5 * p + (4 - 3)))), (4, .int 4), (0, .ref (ad 43)), (1, .int (nI s)), (2, .int (nI p)), (3, .int w)]) G dX8_tells_280 (by decide) rfl ?_
                                refine v_iinc (v := ((s_tl (co σ) s p 4 t).2.1) + 1) (L' := [(8, .int (((s_tl (co σ) s p 4 t).2.1) + 1)), (7, .int (((s_tl (co σ) s p 4 t).1) ||| 0)), (10, .int (s_tv (s_tla (co σ) 4) t)), (9, .int ((s_tl (co σ) s p 4 t).2.2)), (6, .int 11), (5, .int (co σ 10 (5 * p + (4 - 3)))), (4, .int 4), (0, .ref (ad 43)), (1, .int (nI s)), (2, .int (nI p)), (3, .int w)]) G 3 dX8_tells_282 rfl rfl (by decide) rfl ?_
                                refine v_iload G 2 dX8_tells_285 rfl ?_
                                refine v_istore (L' := [(9, .int (s_tv (s_tla (co σ) 4) t)), (8, .int (((s_tl (co σ) s p 4 t).2.1) + 1)), (7, .int (((s_tl (co σ) s p 4 t).1) ||| 0)), (10, .int (s_tv (s_tla (co σ) 4) t)), (6, .int 11), (5, .int (co σ 10 (5 * p + (4 - 3)))), (4, .int 4), (0, .ref (ad 43)), (1, .int (nI s)), (2, .int (nI p)), (3, .int w)]) G dX8_tells_287 (by decide) rfl ?_
                                refine v_iinc (v := (s_tv (s_tla (co σ) 4) t) + (-1)) (L' := [(10, .int ((s_tv (s_tla (co σ) 4) t) + (-1))), (9, .int (s_tv (s_tla (co σ) 4) t)), (8, .int (((s_tl (co σ) s p 4 t).2.1) + 1)), (7, .int (((s_tl (co σ) s p 4 t).1) ||| 0)), (6, .int 11), (5, .int (co σ 10 (5 * p + (4 - 3)))), (4, .int 4), (0, .ref (ad 43)), (1, .int (nI s)), (2, .int (nI p)), (3, .int w)]) G 3 dX8_tells_289 rfl rfl (by decide) rfl ?_
                                refine v_goto (tgt := 220) G dX8_tells_292 (by decide) ?_
                                refine V_.sub (L' := [(10, .int ((s_tv (s_tla (co σ) 4) t) + (-1))), (9, .int (s_tv (s_tla (co σ) 4) t)), (8, .int (((s_tl (co σ) s p 4 t).2.1) + 1)), (7, .int (((s_tl (co σ) s p 4 t).1) ||| 0)), (6, .int 11), (5, .int (co σ 10 (5 * p + (4 - 3)))), (4, .int 4), (0, .ref (ad 43)), (1, .int (nI s)), (2, .int (nI p)), (3, .int w)]) ?_ [0, 1, 2, 3, 4, 5, 6, 7, 8, 9, 10] rfl
                                refine v_loc (L' := [(10, .int (s_tv (s_tla (co σ) 4) (t + 1))), (9, .int ((s_tl (co σ) s p 4 (t + 1)).2.2)), (8, .int ((s_tl (co σ) s p 4 (t + 1)).2.1)), (7, .int ((s_tl (co σ) s p 4 (t + 1)).1)), (6, .int 11), (5, .int (co σ 10 (5 * p + (4 - 3)))), (4, .int 4), (0, .ref (ad 43)), (1, .int (nI s)), (2, .int (nI p)), (3, .int w)]) (by rw [s_tl]; first | (rw [if_pos (by exact h253), if_pos (by exact g265)] <;> rfl) | (rw [if_pos (by exact h253), if_neg (by exact g265)] <;> rfl) | (rw [if_neg (by exact h253)] <;> rfl)) ?_
                                exact ih220  (t + 1) σ249 (s_tv (s_tla (co σ) 4) t) (by omega) (s_tv_i (by omega) (by omega) (by omega)) (by unfold s_tN; omega) hcb (by omega)
                      refine V_.sub (L' := [(10, .int 11), (9, .int (-100)), (8, .int 0), (7, .int 0), (6, .int 11), (5, .int (co σ 10 (5 * p + (4 - 3)))), (4, .int 4), (0, .ref (ad 43)), (1, .int (nI s)), (2, .int (nI p)), (3, .int w)]) ?_ [0, 1, 2, 3, 4, 5, 6, 7, 8, 9, 10] rfl
                      refine v_loc (L' := [(10, .int (s_tv (s_tla (co σ) 4) 0)), (9, .int ((s_tl (co σ) s p 4 0).2.2)), (8, .int ((s_tl (co σ) s p 4 0).2.1)), (7, .int ((s_tl (co σ) s p 4 0).1)), (6, .int 11), (5, .int (co σ 10 (5 * p + (4 - 3)))), (4, .int 4), (0, .ref (ad 43)), (1, .int (nI s)), (2, .int (nI p)), (3, .int w)]) (rfl) ?_
                      exact loop220 _ 0 σ148 (co σ 10 (5 * p + (4 - 3))) (by omega) (by show (s_tla (co σ) _).toInt = _; omega) (Nat.zero_le _) (by rw [lay_old (by decide) (by decide) hp5]; exact h148_c) (Nat.lt_succ_self _)
                  · refine v_iconst (v := 3) G dX8_tells_103 rfl ?_
                    refine v_goto (tgt := 128) G dX8_tells_104 (by decide) ?_
                    refine v_istore (L' := [(4, .int 3), (0, .ref (ad 43)), (1, .int (nI s)), (2, .int (nI p)), (3, .int w)]) G dX8_tells_128 (by decide) rfl ?_
                    refine v_iload G 0 dX8_tells_130 rfl ?_
                    refine v_bipush (v := 8) G dX8_tells_132 rfl ?_
                    refine v_icmp_ne (tgt := 144) G dX8_tells_134 (by decide) (fun h134 => ?_) (fun h134 => absurd h134 (by decide))
                    refine v_aload_n G 1 dX8_tells_144 rfl ?_
                    refine v_iload_n G 3 dX8_tells_145 rfl ?_
                    refine v_iload G 0 dX8_tells_146 rfl ?_
                    refine w_callVi G hK hT (kX8_told hK l dC dI ct ad σ (nI p) 3 hO) (ck_X8_116 G.2.2.2.2.1 ⟨Nat.le_of_ble_eq_true rfl, Nat.le_of_ble_eq_true rfl⟩) m_recv (fun _ h => h) rfl [] rfl (Nat.le_of_ble_eq_true rfl) dX8_tells_148 ⟨Nat.le_of_ble_eq_true rfl, Nat.le_of_ble_eq_true rfl⟩ (k1 := 0) (n1 := 0) rfl rfl ?_
                    rintro r148 σ148 ⟨rfl, h148_c, h148_a⟩
                    have told151 : s_told (co σ) (nI p) 3 = co σ 10 (5 * p + (3 - 3)) := told_is hp_ hm5 (by decide) (by decide)
                    refine v_topr (congrArg Value.int told151) ?_
                    refine v_istore (L' := [(5, .int (co σ 10 (5 * p + (3 - 3)))), (4, .int 3), (0, .ref (ad 43)), (1, .int (nI s)), (2, .int (nI p)), (3, .int w)]) G dX8_tells_151 (by decide) rfl ?_
                    refine v_iload G 1 dX8_tells_153 rfl ?_
                    refine v_bipush (v := 8) G dX8_tells_155 rfl ?_
                    refine v_icmp_ne (tgt := 169) G dX8_tells_157 (by decide) (fun h157 => ?_) (fun h157 => absurd h157 (by decide))
                    refine v_iload G 1 dX8_tells_169 rfl ?_
                    refine v_bipush (v := 7) G dX8_tells_171 rfl ?_
                    refine v_icmp_ne (tgt := 180) G dX8_tells_173 (by decide) (fun h173 => ?_) (fun h173 => absurd h173 (by decide))
                    refine v_iload G 1 dX8_tells_180 rfl ?_
                    refine v_iconst (v := 3) G dX8_tells_182 rfl ?_
                    refine v_icmp_ne (tgt := 191) G dX8_tells_183 (by decide) (fun h183 => absurd h183 (by decide)) (fun h183 => ?_)
                    refine v_bipush (v := 9) G dX8_tells_186 rfl ?_
                    refine v_goto (tgt := 204) G dX8_tells_188 (by decide) ?_
                    refine v_istore (L' := [(6, .int 9), (5, .int (co σ 10 (5 * p + (3 - 3)))), (4, .int 3), (0, .ref (ad 43)), (1, .int (nI s)), (2, .int (nI p)), (3, .int w)]) G dX8_tells_204 (by decide) rfl ?_
                    refine v_iconst (v := 0) G dX8_tells_206 rfl ?_
                    refine v_istore (L' := [(7, .int 0), (6, .int 9), (5, .int (co σ 10 (5 * p + (3 - 3)))), (4, .int 3), (0, .ref (ad 43)), (1, .int (nI s)), (2, .int (nI p)), (3, .int w)]) G dX8_tells_207 (by decide) rfl ?_
                    refine v_iconst (v := 0) G dX8_tells_209 rfl ?_
                    refine v_istore (L' := [(8, .int 0), (7, .int 0), (6, .int 9), (5, .int (co σ 10 (5 * p + (3 - 3)))), (4, .int 3), (0, .ref (ad 43)), (1, .int (nI s)), (2, .int (nI p)), (3, .int w)]) G dX8_tells_210 (by decide) rfl ?_
                    refine v_bipush (v := (-100)) G dX8_tells_212 rfl ?_
                    refine v_istore (L' := [(9, .int (-100)), (8, .int 0), (7, .int 0), (6, .int 9), (5, .int (co σ 10 (5 * p + (3 - 3)))), (4, .int 3), (0, .ref (ad 43)), (1, .int (nI s)), (2, .int (nI p)), (3, .int w)]) G dX8_tells_214 (by decide) rfl ?_
                    refine v_iload G 3 dX8_tells_216 rfl ?_
                    refine v_istore (L' := [(10, .int 9), (9, .int (-100)), (8, .int 0), (7, .int 0), (6, .int 9), (5, .int (co σ 10 (5 * p + (3 - 3)))), (4, .int 3), (0, .ref (ad 43)), (1, .int (nI s)), (2, .int (nI p)), (3, .int w)]) G dX8_tells_218 (by decide) rfl ?_
                    have loop220 : ∀ (dd : Nat) (t : Nat) (τ : MS) (cur : Int32), (t ≤ 300) → ((s_tv (s_tla (co σ) 3) t).toInt = (s_tla (co σ) 3).toInt - t) → (t ≤ s_tN (co σ) 3) → (co τ = s_lay (co σ) 3 (nI p) cur) → 300 - t < dd → V_ pp l ee rmX8_tells ss mm aa bb hh cc 11 (dC, dI) vwCl AA QQ 0 0 (RM ct ad τ) 220 [(10, .int (s_tv (s_tla (co σ) 3) t)), (9, .int ((s_tl (co σ) s p 3 t).2.2)), (8, .int ((s_tl (co σ) s p 3 t).2.1)), (7, .int ((s_tl (co σ) s p 3 t).1)), (6, .int 9), (5, .int (co σ 10 (5 * p + (3 - 3)))), (4, .int 3), (0, .ref (ad 43)), (1, .int (nI s)), (2, .int (nI p)), (3, .int w)] [] := by
                      intro dd
                      induction dd with
                      | zero => intro t τ cur ht htl htN hc hdd; exact absurd hdd (Nat.not_lt_zero _)
                      | succ dd ih220 =>
                        intro t τ cur ht htl htN hc hdd
                        refine v_iload G 0 dX8_tells_220 rfl ?_
                        refine v_iload G 6 dX8_tells_222 rfl ?_
                        refine v_iconst (v := 5) G dX8_tells_224 rfl ?_
                        refine v_icmp_ne (tgt := 233) G dX8_tells_225 (by decide) (fun h225 => ?_) (fun h225 => absurd h225 (by decide))
                        refine v_iconst (v := 0) G dX8_tells_233 rfl ?_
                        refine v_icmp_lt (tgt := 295) G dX8_tells_234 (by decide) (fun h234 => ?_) (fun h234 => ?_)
                        · have e9 : (0 : Int32).toInt = 0 := by decide
                          have hend : t = s_tN (co σ) 3 := by
                            have h1 := Int32.lt_iff_toInt_lt.mp h234
                            unfold s_tN at htN ⊢
                            rw [show s_tlo 3 = 0 from rfl] at htN ⊢
                            omega
                          refine v_aload_n G 7 dX8_tells_295 rfl ?_
                          refine v_iload G 6 dX8_tells_296 rfl ?_
                          refine v_iload_n G 9 dX8_tells_298 rfl ?_
                          refine v_iload G 5 dX8_tells_299 rfl ?_
                          refine v_stk (st' := [.int (co σ 10 (5 * p + (3 - 3))), .int (nI p), .int (nI 3), .ref (ad 43)]) (by first | rfl | (have e0 : 3 = nI 3 := (ix_lit 3 rfl) ; simp only [e0])) ?_
                          refine w_callVv G hK hT (kX8_lays hK l dC dI ct ad τ 3 (nI p) (co σ 10 (5 * p + (3 - 3))) (by decide) (fun h => absurd h (by decide)) (fun _ _ => ⟨p, hp5, rfl⟩)) (ck_X8_120 G.2.2.2.2.1 ⟨Nat.le_of_ble_eq_true rfl, Nat.le_of_ble_eq_true rfl⟩) m_recv (fun _ h => h) rfl [] rfl (Nat.le_of_ble_eq_true rfl) dX8_tells_301 ⟨Nat.le_of_ble_eq_true rfl, Nat.le_of_ble_eq_true rfl⟩ (k1 := 0) (n1 := 0) rfl rfl ?_
                          rintro σ301 ⟨h301_c, h301_a⟩
                          refine v_iload_n G 10 dX8_tells_304 rfl ?_
                          refine v_iconst (v := 4) G dX8_tells_305 rfl ?_
                          refine v_icmp_ne (tgt := 314) G dX8_tells_306 (by decide) (fun h306 => ?_) (fun h306 => ?_)
                          · refine v_iload_n G 10 dX8_tells_314 rfl ?_
                            refine v_iconst (v := 5) G dX8_tells_315 rfl ?_
                            refine v_icmp_ne (tgt := 324) G dX8_tells_316 (by decide) (fun h316 => ?_) (fun h316 => ?_)
                            · refine v_iload G 3 dX8_tells_324 rfl ?_
                              refine RET _ _ _ _ _ _ rfl (Nat.le_of_ble_eq_true rfl) (Nat.le_of_ble_eq_true rfl) dX8_tells_326 (fun ws hws => ⟨_, hws, ?_⟩)
                              clear RET G hT hnm
                              have ek : s_tk w = 3 := by rw [s_tk, if_neg h90, if_pos h100]
                              refine ⟨?_, by rw [h301_c, hc, lay_lay]; exact (lay_old (by decide) (by decide) hp5)⟩
                              rw [s_tells, if_pos ⟨h1_h, h9_h, g21⟩, esn, epn, if_neg (by exact h37), if_neg (by exact Int32.not_lt.mpr h52), if_neg (by exact h60), if_neg (by exact h66), s_tres, ek, ← hend]
                              first
                                | (rw [if_pos h306]; done)
                                | (rw [if_neg h306, if_pos h316]; done)
                                | (rw [if_neg h306, if_neg h316]; done)
                            · refine v_iload G 1 dX8_tells_319 rfl ?_
                              refine v_goto (tgt := 326) G dX8_tells_321 (by decide) ?_
                              refine RET _ _ _ _ _ _ rfl (Nat.le_of_ble_eq_true rfl) (Nat.le_of_ble_eq_true rfl) dX8_tells_326 (fun ws hws => ⟨_, hws, ?_⟩)
                              clear RET G hT hnm
                              have ek : s_tk w = 3 := by rw [s_tk, if_neg h90, if_pos h100]
                              refine ⟨?_, by rw [h301_c, hc, lay_lay]; exact (lay_old (by decide) (by decide) hp5)⟩
                              rw [s_tells, if_pos ⟨h1_h, h9_h, g21⟩, esn, epn, if_neg (by exact h37), if_neg (by exact Int32.not_lt.mpr h52), if_neg (by exact h60), if_neg (by exact h66), s_tres, ek, ← hend]
                              first
                                | (rw [if_pos h306]; done)
                                | (rw [if_neg h306, if_pos h316]; done)
                                | (rw [if_neg h306, if_neg h316]; done)
                          · refine v_iload G 2 dX8_tells_309 rfl ?_
                            refine v_goto (tgt := 326) G dX8_tells_311 (by decide) ?_
                            refine RET _ _ _ _ _ _ rfl (Nat.le_of_ble_eq_true rfl) (Nat.le_of_ble_eq_true rfl) dX8_tells_326 (fun ws hws => ⟨_, hws, ?_⟩)
                            clear RET G hT hnm
                            have ek : s_tk w = 3 := by rw [s_tk, if_neg h90, if_pos h100]
                            refine ⟨?_, by rw [h301_c, hc, lay_lay]; exact (lay_old (by decide) (by decide) hp5)⟩
                            rw [s_tells, if_pos ⟨h1_h, h9_h, g21⟩, esn, epn, if_neg (by exact h37), if_neg (by exact Int32.not_lt.mpr h52), if_neg (by exact h60), if_neg (by exact h66), s_tres, ek, ← hend]
                            first
                              | (rw [if_pos h306]; done)
                              | (rw [if_neg h306, if_pos h316]; done)
                              | (rw [if_neg h306, if_neg h316]; done)
                        · have e9 : (0 : Int32).toInt = 0 := by decide
                          obtain ⟨tb0, tb1⟩ := tla_b (k := 3) hO
                          have hlo : s_tlo 3 ≤ (s_tv (s_tla (co σ) 3) t).toInt := by
                            have := Int32.le_iff_toInt_le.mp (Int32.not_lt.mp h234)
                            show (0 : Int) ≤ _
                            omega
                          have hlo' : (0 : Int) ≤ (s_tv (s_tla (co σ) 3) t).toInt := hlo
                          have elo : s_tlo 3 = 0 := rfl
                          have hlv : lvOk (co σ) 3 (s_tv (s_tla (co σ) 3) t) := lv_t hO (by decide) hlo (by omega)
                          refine v_aload_n G 7 dX8_tells_237 rfl ?_
                          refine v_iload G 6 dX8_tells_238 rfl ?_
                          refine v_iload_n G 9 dX8_tells_240 rfl ?_
                          refine v_iload G 0 dX8_tells_241 rfl ?_
                          refine v_stk (st' := [.int (s_tv (s_tla (co σ) 3) t), .int (nI p), .int (nI 3), .ref (ad 43)]) (by first | rfl | (have e0 : 3 = nI 3 := (ix_lit 3 rfl) ; simp only [e0])) ?_
                          refine w_callVv G hK hT (kX8_lays hK l dC dI ct ad τ 3 (nI p) (s_tv (s_tla (co σ) 3) t) (by decide) (fun h => absurd h (by decide)) (fun _ _ => ⟨p, hp5, rfl⟩)) (ck_X8_120 G.2.2.2.2.1 ⟨Nat.le_of_ble_eq_true rfl, Nat.le_of_ble_eq_true rfl⟩) m_recv (fun _ h => h) rfl [] rfl (Nat.le_of_ble_eq_true rfl) dX8_tells_243 ⟨Nat.le_of_ble_eq_true rfl, Nat.le_of_ble_eq_true rfl⟩ (k1 := 0) (n1 := 0) rfl rfl ?_
                          rintro σ243 ⟨h243_c, h243_a⟩
                          have hc243 : co σ243 = s_lay (co σ) 3 (nI p) (s_tv (s_tla (co σ) 3) t) := by rw [h243_c, hc, lay_lay]
                          have hO243 : Ok (s_lay (co σ) 3 (nI p) (s_tv (s_tla (co σ) 3) t)) := ok_lay hO (by decide) hlv
                          refine v_aload_n G 7 dX8_tells_246 rfl ?_
                          refine v_iload_n G 8 dX8_tells_247 rfl ?_
                          refine v_iload_n G 9 dX8_tells_248 rfl ?_
                          refine w_callVi G hK hT (kX8_firstOther hK l dC dI ct ad σ243 s p zs (by rw [hc243]; exact hO243) hs4 hp5 (by first | assumption | omega) (by rw [show σ243.1 41 s = co σ243 41 s from rfl, hc243, lay_k (by decide) (by decide) (by decide) (by decide) (by decide)]; exact ezs)) (ck_X8_407 G.2.2.2.2.1 ⟨Nat.le_of_ble_eq_true rfl, Nat.le_of_ble_eq_true rfl⟩) m_recv (fun _ h => h) rfl [] rfl (Nat.le_of_ble_eq_true rfl) dX8_tells_249 ⟨Nat.le_of_ble_eq_true rfl, Nat.le_of_ble_eq_true rfl⟩ (k1 := 0) (n1 := 0) rfl rfl ?_
                          rintro r249 σ249 ⟨rfl, h249_c, h249_a⟩
                          refine v_topr (congrArg Value.int (show s_fo (co σ243) s p = s_fo (s_lay (co σ) 3 (nI p) (s_tv (s_tla (co σ) 3) t)) s p from by rw [hc243])) ?_
                          have hcb : co σ249 = (s_lay (co σ) 3 (nI p) (s_tv (s_tla (co σ) 3) t)) := (h249_c.trans hc243)
                          refine v_iconst (v := (-1)) G dX8_tells_252 rfl ?_
                          refine v_icmp_ne (tgt := 289) G dX8_tells_253 (by decide) (fun h253 => ?_) (fun h253 => ?_)
                          · refine v_iinc (v := (s_tv (s_tla (co σ) 3) t) + (-1)) (L' := [(10, .int ((s_tv (s_tla (co σ) 3) t) + (-1))), (9, .int ((s_tl (co σ) s p 3 t).2.2)), (8, .int ((s_tl (co σ) s p 3 t).2.1)), (7, .int ((s_tl (co σ) s p 3 t).1)), (6, .int 9), (5, .int (co σ 10 (5 * p + (3 - 3)))), (4, .int 3), (0, .ref (ad 43)), (1, .int (nI s)), (2, .int (nI p)), (3, .int w)]) G 0 dX8_tells_289 rfl rfl (by decide) rfl ?_
                            refine v_goto (tgt := 220) G dX8_tells_292 (by decide) ?_
                            refine V_.sub (L' := [(10, .int ((s_tv (s_tla (co σ) 3) t) + (-1))), (9, .int ((s_tl (co σ) s p 3 t).2.2)), (8, .int ((s_tl (co σ) s p 3 t).2.1)), (7, .int ((s_tl (co σ) s p 3 t).1)), (6, .int 9), (5, .int (co σ 10 (5 * p + (3 - 3)))), (4, .int 3), (0, .ref (ad 43)), (1, .int (nI s)), (2, .int (nI p)), (3, .int w)]) ?_ [0, 1, 2, 3, 4, 5, 6, 7, 8, 9, 10] rfl
                            refine v_loc (L' := [(10, .int (s_tv (s_tla (co σ) 3) (t + 1))), (9, .int ((s_tl (co σ) s p 3 (t + 1)).2.2)), (8, .int ((s_tl (co σ) s p 3 (t + 1)).2.1)), (7, .int ((s_tl (co σ) s p 3 (t + 1)).1)), (6, .int 9), (5, .int (co σ 10 (5 * p + (3 - 3)))), (4, .int 3), (0, .ref (ad 43)), (1, .int (nI s)), (2, .int (nI p)), (3, .int w)]) (by rw [s_tl]; first | (rw [if_pos (by exact h253), if_pos (by exact g265)] <;> rfl) | (rw [if_pos (by exact h253), if_neg (by exact g265)] <;> rfl) | (rw [if_neg (by exact h253)] <;> rfl)) ?_
                            exact ih220  (t + 1) σ249 (s_tv (s_tla (co σ) 3) t) (by omega) (s_tv_i (by omega) (by omega) (by omega)) (by unfold s_tN; omega) hcb (by omega)
                          · refine v_iload G 3 dX8_tells_256 rfl ?_
                            refine v_iload G 0 dX8_tells_258 rfl ?_
                            refine v_i2l (v := (s_tv (s_tla (co σ) 3) t).toInt64) G dX8_tells_260 rfl ?_
                            refine v_lconst (v := 0) G dX8_tells_261 rfl ?_
                            refine v_ldc2 G q1444 dX8_tells_262 ?_
                            refine w_callSi G hK hT (kX8_in hK l dC dI ct ad σ249 ((s_tv (s_tla (co σ) 3) t).toInt64) 0 11) (ck_X8_86 G.2.2.2.2.1 ⟨Nat.le_of_ble_eq_true rfl, Nat.le_of_ble_eq_true rfl⟩) (fun _ h => h) rfl [.int ((s_tl (co σ) s p 3 t).1)] rfl (Nat.le_of_ble_eq_true rfl) dX8_tells_265 ⟨Nat.le_of_ble_eq_true rfl, Nat.le_of_ble_eq_true rfl⟩ (k1 := 0) (n1 := 0) rfl rfl ?_
                            rintro r265 σ265 (⟨rfl, rfl, h265_h⟩ | ⟨rfl, rfl, h265_h⟩)
                            · have g265 := (in_rg (c := (s_tv (s_tla (co σ) 3) t)) (lo := 0) (hi := 11) (a := 0) (z := 11) (by decide) (by decide)).mp h265_h
                              refine v_if_eq (tgt := 278) G dX8_tells_268 (by decide) (fun h268 => absurd h268 (by decide)) (fun h268 => ?_)
                              refine v_iconst (v := 1) G dX8_tells_271 rfl ?_
                              refine v_iload G 0 dX8_tells_272 rfl ?_
                              refine v_ishl G dX8_tells_274 ?_
                              refine v_goto (tgt := 279) G dX8_tells_275 (by decide) ?_
                              refine v_ior G dX8_tells_279 ?_
                              refine v_istore (L' := [(7, .int (((s_tl (co σ) s p 3 t).1) ||| (1 <<< ((s_tv (s_tla (co σ) 3) t) &&& 31)))), (10, .int (s_tv (s_tla (co σ) 3) t)), (9, .int ((s_tl (co σ) s p 3 t).2.2)), (8, .int ((s_tl (co σ) s p 3 t).2.1)), (6, .int 9), (5, .int (co σ 10 (5 * p + (3 - 3)))), (4, .int 3), (0, .ref (ad 43)), (1, .int (nI s)), (2, .int (nI p)), (3, .int w)]) G dX8_tells_280 (by decide) rfl ?_
                              refine v_iinc (v := ((s_tl (co σ) s p 3 t).2.1) + 1) (L' := [(8, .int (((s_tl (co σ) s p 3 t).2.1) + 1)), (7, .int (((s_tl (co σ) s p 3 t).1) ||| (1 <<< ((s_tv (s_tla (co σ) 3) t) &&& 31)))), (10, .int (s_tv (s_tla (co σ) 3) t)), (9, .int ((s_tl (co σ) s p 3 t).2.2)), (6, .int 9), (5, .int (co σ 10 (5 * p + (3 - 3)))), (4, .int 3), (0, .ref (ad 43)), (1, .int (nI s)), (2, .int (nI p)), (3, .int w)]) G 3 dX8_tells_282 rfl rfl (by decide) rfl ?_
                              refine v_iload G 2 dX8_tells_285 rfl ?_
                              refine v_istore (L' := [(9, .int (s_tv (s_tla (co σ) 3) t)), (8, .int (((s_tl (co σ) s p 3 t).2.1) + 1)), (7, .int (((s_tl (co σ) s p 3 t).1) ||| (1 <<< ((s_tv (s_tla (co σ) 3) t) &&& 31)))), (10, .int (s_tv (s_tla (co σ) 3) t)), (6, .int 9), (5, .int (co σ 10 (5 * p + (3 - 3)))), (4, .int 3), (0, .ref (ad 43)), (1, .int (nI s)), (2, .int (nI p)), (3, .int w)]) G dX8_tells_287 (by decide) rfl ?_
                              refine v_iinc (v := (s_tv (s_tla (co σ) 3) t) + (-1)) (L' := [(10, .int ((s_tv (s_tla (co σ) 3) t) + (-1))), (9, .int (s_tv (s_tla (co σ) 3) t)), (8, .int (((s_tl (co σ) s p 3 t).2.1) + 1)), (7, .int (((s_tl (co σ) s p 3 t).1) ||| (1 <<< ((s_tv (s_tla (co σ) 3) t) &&& 31)))), (6, .int 9), (5, .int (co σ 10 (5 * p + (3 - 3)))), (4, .int 3), (0, .ref (ad 43)), (1, .int (nI s)), (2, .int (nI p)), (3, .int w)]) G 3 dX8_tells_289 rfl rfl (by decide) rfl ?_
                              refine v_goto (tgt := 220) G dX8_tells_292 (by decide) ?_
                              refine V_.sub (L' := [(10, .int ((s_tv (s_tla (co σ) 3) t) + (-1))), (9, .int (s_tv (s_tla (co σ) 3) t)), (8, .int (((s_tl (co σ) s p 3 t).2.1) + 1)), (7, .int (((s_tl (co σ) s p 3 t).1) ||| (1 <<< ((s_tv (s_tla (co σ) 3) t) &&& 31)))), (6, .int 9), (5, .int (co σ 10 (5 * p + (3 - 3)))), (4, .int 3), (0, .ref (ad 43)), (1, .int (nI s)), (2, .int (nI p)), (3, .int w)]) ?_ [0, 1, 2, 3, 4, 5, 6, 7, 8, 9, 10] rfl
                              refine v_loc (L' := [(10, .int (s_tv (s_tla (co σ) 3) (t + 1))), (9, .int ((s_tl (co σ) s p 3 (t + 1)).2.2)), (8, .int ((s_tl (co σ) s p 3 (t + 1)).2.1)), (7, .int ((s_tl (co σ) s p 3 (t + 1)).1)), (6, .int 9), (5, .int (co σ 10 (5 * p + (3 - 3)))), (4, .int 3), (0, .ref (ad 43)), (1, .int (nI s)), (2, .int (nI p)), (3, .int w)]) (by rw [s_tl]; first | (rw [if_pos (by exact h253), if_pos (by exact g265)] <;> rfl) | (rw [if_pos (by exact h253), if_neg (by exact g265)] <;> rfl) | (rw [if_neg (by exact h253)] <;> rfl)) ?_
                              exact ih220  (t + 1) σ249 (s_tv (s_tla (co σ) 3) t) (by omega) (s_tv_i (by omega) (by omega) (by omega)) (by unfold s_tN; omega) hcb (by omega)
                            · have g265 : ¬ rg (s_tv (s_tla (co σ) 3) t) 0 11 := fun zz => h265_h ((in_rg (c := (s_tv (s_tla (co σ) 3) t)) (lo := 0) (hi := 11) (a := 0) (z := 11) (by decide) (by decide)).mpr zz)
                              refine v_if_eq (tgt := 278) G dX8_tells_268 (by decide) (fun h268 => ?_) (fun h268 => absurd h268 (by decide))
                              refine v_iconst (v := 0) G dX8_tells_278 rfl ?_
                              refine v_ior G dX8_tells_279 ?_
                              refine v_istore (L' := [(7, .int (((s_tl (co σ) s p 3 t).1) ||| 0)), (10, .int (s_tv (s_tla (co σ) 3) t)), (9, .int ((s_tl (co σ) s p 3 t).2.2)), (8, .int ((s_tl (co σ) s p 3 t).2.1)), (6, .int 9), (5, .int (co σ 10 (5 * p + (3 - 3)))), (4, .int 3), (0, .ref (ad 43)), (1, .int (nI s)), (2, .int (nI p)), (3, .int w)]) G dX8_tells_280 (by decide) rfl ?_
                              refine v_iinc (v := ((s_tl (co σ) s p 3 t).2.1) + 1) (L' := [(8, .int (((s_tl (co σ) s p 3 t).2.1) + 1)), (7, .int (((s_tl (co σ) s p 3 t).1) ||| 0)), (10, .int (s_tv (s_tla (co σ) 3) t)), (9, .int ((s_tl (co σ) s p 3 t).2.2)), (6, .int 9), (5, .int (co σ 10 (5 * p + (3 - 3)))), (4, .int 3), (0, .ref (ad 43)), (1, .int (nI s)), (2, .int (nI p)), (3, .int w)]) G 3 dX8_tells_282 rfl rfl (by decide) rfl ?_
                              refine v_iload G 2 dX8_tells_285 rfl ?_
                              refine v_istore (L' := [(9, .int (s_tv (s_tla (co σ) 3) t)), (8, .int (((s_tl (co σ) s p 3 t).2.1) + 1)), (7, .int (((s_tl (co σ) s p 3 t).1) ||| 0)), (10, .int (s_tv (s_tla (co σ) 3) t)), (6, .int 9), (5, .int (co σ 10 (5 * p + (3 - 3)))), (4, .int 3), (0, .ref (ad 43)), (1, .int (nI s)), (2, .int (nI p)), (3, .int w)]) G dX8_tells_287 (by decide) rfl ?_
                              refine v_iinc (v := (s_tv (s_tla (co σ) 3) t) + (-1)) (L' := [(10, .int ((s_tv (s_tla (co σ) 3) t) + (-1))), (9, .int (s_tv (s_tla (co σ) 3) t)), (8, .int (((s_tl (co σ) s p 3 t).2.1) + 1)), (7, .int (((s_tl (co σ) s p 3 t).1) ||| 0)), (6, .int 9), (5, .int (co σ 10 (5 * p + (3 - 3)))), (4, .int 3), (0, .ref (ad 43)), (1, .int (nI s)), (2, .int (nI p)), (3, .int w)]) G 3 dX8_tells_289 rfl rfl (by decide) rfl ?_
                              refine v_goto (tgt := 220) G dX8_tells_292 (by decide) ?_
                              refine V_.sub (L' := [(10, .int ((s_tv (s_tla (co σ) 3) t) + (-1))), (9, .int (s_tv (s_tla (co σ) 3) t)), (8, .int (((s_tl (co σ) s p 3 t).2.1) + 1)), (7, .int (((s_tl (co σ) s p 3 t).1) ||| 0)), (6, .int 9), (5, .int (co σ 10 (5 * p + (3 - 3)))), (4, .int 3), (0, .ref (ad 43)), (1, .int (nI s)), (2, .int (nI p)), (3, .int w)]) ?_ [0, 1, 2, 3, 4, 5, 6, 7, 8, 9, 10] rfl
                              refine v_loc (L' := [(10, .int (s_tv (s_tla (co σ) 3) (t + 1))), (9, .int ((s_tl (co σ) s p 3 (t + 1)).2.2)), (8, .int ((s_tl (co σ) s p 3 (t + 1)).2.1)), (7, .int ((s_tl (co σ) s p 3 (t + 1)).1)), (6, .int 9), (5, .int (co σ 10 (5 * p + (3 - 3)))), (4, .int 3), (0, .ref (ad 43)), (1, .int (nI s)), (2, .int (nI p)), (3, .int w)]) (by rw [s_tl]; first | (rw [if_pos (by exact h253), if_pos (by exact g265)] <;> rfl) | (rw [if_pos (by exact h253), if_neg (by exact g265)] <;> rfl) | (rw [if_neg (by exact h253)] <;> rfl)) ?_
                              exact ih220  (t + 1) σ249 (s_tv (s_tla (co σ) 3) t) (by omega) (s_tv_i (by omega) (by omega) (by omega)) (by unfold s_tN; omega) hcb (by omega)
                    refine V_.sub (L' := [(10, .int 9), (9, .int (-100)), (8, .int 0), (7, .int 0), (6, .int 9), (5, .int (co σ 10 (5 * p + (3 - 3)))), (4, .int 3), (0, .ref (ad 43)), (1, .int (nI s)), (2, .int (nI p)), (3, .int w)]) ?_ [0, 1, 2, 3, 4, 5, 6, 7, 8, 9, 10] rfl
                    refine v_loc (L' := [(10, .int (s_tv (s_tla (co σ) 3) 0)), (9, .int ((s_tl (co σ) s p 3 0).2.2)), (8, .int ((s_tl (co σ) s p 3 0).2.1)), (7, .int ((s_tl (co σ) s p 3 0).1)), (6, .int 9), (5, .int (co σ 10 (5 * p + (3 - 3)))), (4, .int 3), (0, .ref (ad 43)), (1, .int (nI s)), (2, .int (nI p)), (3, .int w)]) (rfl) ?_
                    exact loop220 _ 0 σ148 (co σ 10 (5 * p + (3 - 3))) (by omega) (by show (s_tla (co σ) _).toInt = _; omega) (Nat.zero_le _) (by rw [lay_old (by decide) (by decide) hp5]; exact h148_c) (Nat.lt_succ_self _)
                · refine v_bipush (v := 7) G dX8_tells_93 rfl ?_
                  refine v_goto (tgt := 128) G dX8_tells_95 (by decide) ?_
                  refine v_istore (L' := [(4, .int 7), (0, .ref (ad 43)), (1, .int (nI s)), (2, .int (nI p)), (3, .int w)]) G dX8_tells_128 (by decide) rfl ?_
                  refine v_iload G 0 dX8_tells_130 rfl ?_
                  refine v_bipush (v := 8) G dX8_tells_132 rfl ?_
                  refine v_icmp_ne (tgt := 144) G dX8_tells_134 (by decide) (fun h134 => ?_) (fun h134 => absurd h134 (by decide))
                  refine v_aload_n G 1 dX8_tells_144 rfl ?_
                  refine v_iload_n G 3 dX8_tells_145 rfl ?_
                  refine v_iload G 0 dX8_tells_146 rfl ?_
                  refine w_callVi G hK hT (kX8_told hK l dC dI ct ad σ (nI p) 7 hO) (ck_X8_116 G.2.2.2.2.1 ⟨Nat.le_of_ble_eq_true rfl, Nat.le_of_ble_eq_true rfl⟩) m_recv (fun _ h => h) rfl [] rfl (Nat.le_of_ble_eq_true rfl) dX8_tells_148 ⟨Nat.le_of_ble_eq_true rfl, Nat.le_of_ble_eq_true rfl⟩ (k1 := 0) (n1 := 0) rfl rfl ?_
                  rintro r148 σ148 ⟨rfl, h148_c, h148_a⟩
                  have told151 : s_told (co σ) (nI p) 7 = co σ 10 (5 * p + (7 - 3)) := told_is hp_ hm5 (by decide) (by decide)
                  refine v_topr (congrArg Value.int told151) ?_
                  refine v_istore (L' := [(5, .int (co σ 10 (5 * p + (7 - 3)))), (4, .int 7), (0, .ref (ad 43)), (1, .int (nI s)), (2, .int (nI p)), (3, .int w)]) G dX8_tells_151 (by decide) rfl ?_
                  refine v_iload G 1 dX8_tells_153 rfl ?_
                  refine v_bipush (v := 8) G dX8_tells_155 rfl ?_
                  refine v_icmp_ne (tgt := 169) G dX8_tells_157 (by decide) (fun h157 => ?_) (fun h157 => absurd h157 (by decide))
                  refine v_iload G 1 dX8_tells_169 rfl ?_
                  refine v_bipush (v := 7) G dX8_tells_171 rfl ?_
                  refine v_icmp_ne (tgt := 180) G dX8_tells_173 (by decide) (fun h173 => absurd h173 (by decide)) (fun h173 => ?_)
                  refine v_iconst (v := 5) G dX8_tells_176 rfl ?_
                  refine v_goto (tgt := 204) G dX8_tells_177 (by decide) ?_
                  refine v_istore (L' := [(6, .int 5), (5, .int (co σ 10 (5 * p + (7 - 3)))), (4, .int 7), (0, .ref (ad 43)), (1, .int (nI s)), (2, .int (nI p)), (3, .int w)]) G dX8_tells_204 (by decide) rfl ?_
                  refine v_iconst (v := 0) G dX8_tells_206 rfl ?_
                  refine v_istore (L' := [(7, .int 0), (6, .int 5), (5, .int (co σ 10 (5 * p + (7 - 3)))), (4, .int 7), (0, .ref (ad 43)), (1, .int (nI s)), (2, .int (nI p)), (3, .int w)]) G dX8_tells_207 (by decide) rfl ?_
                  refine v_iconst (v := 0) G dX8_tells_209 rfl ?_
                  refine v_istore (L' := [(8, .int 0), (7, .int 0), (6, .int 5), (5, .int (co σ 10 (5 * p + (7 - 3)))), (4, .int 7), (0, .ref (ad 43)), (1, .int (nI s)), (2, .int (nI p)), (3, .int w)]) G dX8_tells_210 (by decide) rfl ?_
                  refine v_bipush (v := (-100)) G dX8_tells_212 rfl ?_
                  refine v_istore (L' := [(9, .int (-100)), (8, .int 0), (7, .int 0), (6, .int 5), (5, .int (co σ 10 (5 * p + (7 - 3)))), (4, .int 7), (0, .ref (ad 43)), (1, .int (nI s)), (2, .int (nI p)), (3, .int w)]) G dX8_tells_214 (by decide) rfl ?_
                  refine v_iload G 3 dX8_tells_216 rfl ?_
                  refine v_istore (L' := [(10, .int 5), (9, .int (-100)), (8, .int 0), (7, .int 0), (6, .int 5), (5, .int (co σ 10 (5 * p + (7 - 3)))), (4, .int 7), (0, .ref (ad 43)), (1, .int (nI s)), (2, .int (nI p)), (3, .int w)]) G dX8_tells_218 (by decide) rfl ?_
                  have loop220 : ∀ (dd : Nat) (t : Nat) (τ : MS) (cur : Int32), (t ≤ 300) → ((s_tv (s_tla (co σ) 7) t).toInt = (s_tla (co σ) 7).toInt - t) → (t ≤ s_tN (co σ) 7) → (co τ = s_lay (co σ) 7 (nI p) cur) → 300 - t < dd → V_ pp l ee rmX8_tells ss mm aa bb hh cc 11 (dC, dI) vwCl AA QQ 0 0 (RM ct ad τ) 220 [(10, .int (s_tv (s_tla (co σ) 7) t)), (9, .int ((s_tl (co σ) s p 7 t).2.2)), (8, .int ((s_tl (co σ) s p 7 t).2.1)), (7, .int ((s_tl (co σ) s p 7 t).1)), (6, .int 5), (5, .int (co σ 10 (5 * p + (7 - 3)))), (4, .int 7), (0, .ref (ad 43)), (1, .int (nI s)), (2, .int (nI p)), (3, .int w)] [] := by
                    intro dd
                    induction dd with
                    | zero => intro t τ cur ht htl htN hc hdd; exact absurd hdd (Nat.not_lt_zero _)
                    | succ dd ih220 =>
                      intro t τ cur ht htl htN hc hdd
                      refine v_iload G 0 dX8_tells_220 rfl ?_
                      refine v_iload G 6 dX8_tells_222 rfl ?_
                      refine v_iconst (v := 5) G dX8_tells_224 rfl ?_
                      refine v_icmp_ne (tgt := 233) G dX8_tells_225 (by decide) (fun h225 => ?_) (fun h225 => absurd h225 (by decide))
                      refine v_iconst (v := 0) G dX8_tells_233 rfl ?_
                      refine v_icmp_lt (tgt := 295) G dX8_tells_234 (by decide) (fun h234 => ?_) (fun h234 => ?_)
                      · have e9 : (0 : Int32).toInt = 0 := by decide
                        have hend : t = s_tN (co σ) 7 := by
                          have h1 := Int32.lt_iff_toInt_lt.mp h234
                          unfold s_tN at htN ⊢
                          rw [show s_tlo 7 = 0 from rfl] at htN ⊢
                          omega
                        refine v_aload_n G 7 dX8_tells_295 rfl ?_
                        refine v_iload G 6 dX8_tells_296 rfl ?_
                        refine v_iload_n G 9 dX8_tells_298 rfl ?_
                        refine v_iload G 5 dX8_tells_299 rfl ?_
                        refine v_stk (st' := [.int (co σ 10 (5 * p + (7 - 3))), .int (nI p), .int (nI 7), .ref (ad 43)]) (by first | rfl | (have e0 : 7 = nI 7 := (ix_lit 7 rfl) ; simp only [e0])) ?_
                        refine w_callVv G hK hT (kX8_lays hK l dC dI ct ad τ 7 (nI p) (co σ 10 (5 * p + (7 - 3))) (by decide) (fun h => absurd h (by decide)) (fun _ _ => ⟨p, hp5, rfl⟩)) (ck_X8_120 G.2.2.2.2.1 ⟨Nat.le_of_ble_eq_true rfl, Nat.le_of_ble_eq_true rfl⟩) m_recv (fun _ h => h) rfl [] rfl (Nat.le_of_ble_eq_true rfl) dX8_tells_301 ⟨Nat.le_of_ble_eq_true rfl, Nat.le_of_ble_eq_true rfl⟩ (k1 := 0) (n1 := 0) rfl rfl ?_
                        rintro σ301 ⟨h301_c, h301_a⟩
                        refine v_iload_n G 10 dX8_tells_304 rfl ?_
                        refine v_iconst (v := 4) G dX8_tells_305 rfl ?_
                        refine v_icmp_ne (tgt := 314) G dX8_tells_306 (by decide) (fun h306 => ?_) (fun h306 => ?_)
                        · refine v_iload_n G 10 dX8_tells_314 rfl ?_
                          refine v_iconst (v := 5) G dX8_tells_315 rfl ?_
                          refine v_icmp_ne (tgt := 324) G dX8_tells_316 (by decide) (fun h316 => ?_) (fun h316 => ?_)
                          · refine v_iload G 3 dX8_tells_324 rfl ?_
                            refine RET _ _ _ _ _ _ rfl (Nat.le_of_ble_eq_true rfl) (Nat.le_of_ble_eq_true rfl) dX8_tells_326 (fun ws hws => ⟨_, hws, ?_⟩)
                            clear RET G hT hnm
                            have ek : s_tk w = 7 := by rw [s_tk, if_pos h90]
                            refine ⟨?_, by rw [h301_c, hc, lay_lay]; exact (lay_old (by decide) (by decide) hp5)⟩
                            rw [s_tells, if_pos ⟨h1_h, h9_h, g21⟩, esn, epn, if_neg (by exact h37), if_neg (by exact Int32.not_lt.mpr h52), if_neg (by exact h60), if_neg (by exact h66), s_tres, ek, ← hend]
                            first
                              | (rw [if_pos h306]; done)
                              | (rw [if_neg h306, if_pos h316]; done)
                              | (rw [if_neg h306, if_neg h316]; done)
                          · refine v_iload G 1 dX8_tells_319 rfl ?_
                            refine v_goto (tgt := 326) G dX8_tells_321 (by decide) ?_
                            refine RET _ _ _ _ _ _ rfl (Nat.le_of_ble_eq_true rfl) (Nat.le_of_ble_eq_true rfl) dX8_tells_326 (fun ws hws => ⟨_, hws, ?_⟩)
                            clear RET G hT hnm
                            have ek : s_tk w = 7 := by rw [s_tk, if_pos h90]
                            refine ⟨?_, by rw [h301_c, hc, lay_lay]; exact (lay_old (by decide) (by decide) hp5)⟩
                            rw [s_tells, if_pos ⟨h1_h, h9_h, g21⟩, esn, epn, if_neg (by exact h37), if_neg (by exact Int32.not_lt.mpr h52), if_neg (by exact h60), if_neg (by exact h66), s_tres, ek, ← hend]
                            first
                              | (rw [if_pos h306]; done)
                              | (rw [if_neg h306, if_pos h316]; done)
                              | (rw [if_neg h306, if_neg h316]; done)
                        · refine v_iload G 2 dX8_tells_309 rfl ?_
                          refine v_goto (tgt := 326) G dX8_tells_311 (by decide) ?_
                          refine RET _ _ _ _ _ _ rfl (Nat.le_of_ble_eq_true rfl) (Nat.le_of_ble_eq_true rfl) dX8_tells_326 (fun ws hws => ⟨_, hws, ?_⟩)
                          clear RET G hT hnm
                          have ek : s_tk w = 7 := by rw [s_tk, if_pos h90]
                          refine ⟨?_, by rw [h301_c, hc, lay_lay]; exact (lay_old (by decide) (by decide) hp5)⟩
                          rw [s_tells, if_pos ⟨h1_h, h9_h, g21⟩, esn, epn, if_neg (by exact h37), if_neg (by exact Int32.not_lt.mpr h52), if_neg (by exact h60), if_neg (by exact h66), s_tres, ek, ← hend]
                          first
                            | (rw [if_pos h306]; done)
                            | (rw [if_neg h306, if_pos h316]; done)
                            | (rw [if_neg h306, if_neg h316]; done)
                      · have e9 : (0 : Int32).toInt = 0 := by decide
                        obtain ⟨tb0, tb1⟩ := tla_b (k := 7) hO
                        have hlo : s_tlo 7 ≤ (s_tv (s_tla (co σ) 7) t).toInt := by
                          have := Int32.le_iff_toInt_le.mp (Int32.not_lt.mp h234)
                          show (0 : Int) ≤ _
                          omega
                        have hlo' : (0 : Int) ≤ (s_tv (s_tla (co σ) 7) t).toInt := hlo
                        have elo : s_tlo 7 = 0 := rfl
                        have hlv : lvOk (co σ) 7 (s_tv (s_tla (co σ) 7) t) := lv_t hO (by decide) hlo (by omega)
                        refine v_aload_n G 7 dX8_tells_237 rfl ?_
                        refine v_iload G 6 dX8_tells_238 rfl ?_
                        refine v_iload_n G 9 dX8_tells_240 rfl ?_
                        refine v_iload G 0 dX8_tells_241 rfl ?_
                        refine v_stk (st' := [.int (s_tv (s_tla (co σ) 7) t), .int (nI p), .int (nI 7), .ref (ad 43)]) (by first | rfl | (have e0 : 7 = nI 7 := (ix_lit 7 rfl) ; simp only [e0])) ?_
                        refine w_callVv G hK hT (kX8_lays hK l dC dI ct ad τ 7 (nI p) (s_tv (s_tla (co σ) 7) t) (by decide) (fun h => absurd h (by decide)) (fun _ _ => ⟨p, hp5, rfl⟩)) (ck_X8_120 G.2.2.2.2.1 ⟨Nat.le_of_ble_eq_true rfl, Nat.le_of_ble_eq_true rfl⟩) m_recv (fun _ h => h) rfl [] rfl (Nat.le_of_ble_eq_true rfl) dX8_tells_243 ⟨Nat.le_of_ble_eq_true rfl, Nat.le_of_ble_eq_true rfl⟩ (k1 := 0) (n1 := 0) rfl rfl ?_
                        rintro σ243 ⟨h243_c, h243_a⟩
                        have hc243 : co σ243 = s_lay (co σ) 7 (nI p) (s_tv (s_tla (co σ) 7) t) := by rw [h243_c, hc, lay_lay]
                        have hO243 : Ok (s_lay (co σ) 7 (nI p) (s_tv (s_tla (co σ) 7) t)) := ok_lay hO (by decide) hlv
                        refine v_aload_n G 7 dX8_tells_246 rfl ?_
                        refine v_iload_n G 8 dX8_tells_247 rfl ?_
                        refine v_iload_n G 9 dX8_tells_248 rfl ?_
                        refine w_callVi G hK hT (kX8_firstOther hK l dC dI ct ad σ243 s p zs (by rw [hc243]; exact hO243) hs4 hp5 (by first | assumption | omega) (by rw [show σ243.1 41 s = co σ243 41 s from rfl, hc243, lay_k (by decide) (by decide) (by decide) (by decide) (by decide)]; exact ezs)) (ck_X8_407 G.2.2.2.2.1 ⟨Nat.le_of_ble_eq_true rfl, Nat.le_of_ble_eq_true rfl⟩) m_recv (fun _ h => h) rfl [] rfl (Nat.le_of_ble_eq_true rfl) dX8_tells_249 ⟨Nat.le_of_ble_eq_true rfl, Nat.le_of_ble_eq_true rfl⟩ (k1 := 0) (n1 := 0) rfl rfl ?_
                        rintro r249 σ249 ⟨rfl, h249_c, h249_a⟩
                        refine v_topr (congrArg Value.int (show s_fo (co σ243) s p = s_fo (s_lay (co σ) 7 (nI p) (s_tv (s_tla (co σ) 7) t)) s p from by rw [hc243])) ?_
                        have hcb : co σ249 = (s_lay (co σ) 7 (nI p) (s_tv (s_tla (co σ) 7) t)) := (h249_c.trans hc243)
                        refine v_iconst (v := (-1)) G dX8_tells_252 rfl ?_
                        refine v_icmp_ne (tgt := 289) G dX8_tells_253 (by decide) (fun h253 => ?_) (fun h253 => ?_)
                        · refine v_iinc (v := (s_tv (s_tla (co σ) 7) t) + (-1)) (L' := [(10, .int ((s_tv (s_tla (co σ) 7) t) + (-1))), (9, .int ((s_tl (co σ) s p 7 t).2.2)), (8, .int ((s_tl (co σ) s p 7 t).2.1)), (7, .int ((s_tl (co σ) s p 7 t).1)), (6, .int 5), (5, .int (co σ 10 (5 * p + (7 - 3)))), (4, .int 7), (0, .ref (ad 43)), (1, .int (nI s)), (2, .int (nI p)), (3, .int w)]) G 0 dX8_tells_289 rfl rfl (by decide) rfl ?_
                          refine v_goto (tgt := 220) G dX8_tells_292 (by decide) ?_
                          refine V_.sub (L' := [(10, .int ((s_tv (s_tla (co σ) 7) t) + (-1))), (9, .int ((s_tl (co σ) s p 7 t).2.2)), (8, .int ((s_tl (co σ) s p 7 t).2.1)), (7, .int ((s_tl (co σ) s p 7 t).1)), (6, .int 5), (5, .int (co σ 10 (5 * p + (7 - 3)))), (4, .int 7), (0, .ref (ad 43)), (1, .int (nI s)), (2, .int (nI p)), (3, .int w)]) ?_ [0, 1, 2, 3, 4, 5, 6, 7, 8, 9, 10] rfl
                          refine v_loc (L' := [(10, .int (s_tv (s_tla (co σ) 7) (t + 1))), (9, .int ((s_tl (co σ) s p 7 (t + 1)).2.2)), (8, .int ((s_tl (co σ) s p 7 (t + 1)).2.1)), (7, .int ((s_tl (co σ) s p 7 (t + 1)).1)), (6, .int 5), (5, .int (co σ 10 (5 * p + (7 - 3)))), (4, .int 7), (0, .ref (ad 43)), (1, .int (nI s)), (2, .int (nI p)), (3, .int w)]) (by rw [s_tl]; first | (rw [if_pos (by exact h253), if_pos (by exact g265)] <;> rfl) | (rw [if_pos (by exact h253), if_neg (by exact g265)] <;> rfl) | (rw [if_neg (by exact h253)] <;> rfl)) ?_
                          exact ih220  (t + 1) σ249 (s_tv (s_tla (co σ) 7) t) (by omega) (s_tv_i (by omega) (by omega) (by omega)) (by unfold s_tN; omega) hcb (by omega)
                        · refine v_iload G 3 dX8_tells_256 rfl ?_
                          refine v_iload G 0 dX8_tells_258 rfl ?_
                          refine v_i2l (v := (s_tv (s_tla (co σ) 7) t).toInt64) G dX8_tells_260 rfl ?_
                          refine v_lconst (v := 0) G dX8_tells_261 rfl ?_
                          refine v_ldc2 G q1444 dX8_tells_262 ?_
                          refine w_callSi G hK hT (kX8_in hK l dC dI ct ad σ249 ((s_tv (s_tla (co σ) 7) t).toInt64) 0 11) (ck_X8_86 G.2.2.2.2.1 ⟨Nat.le_of_ble_eq_true rfl, Nat.le_of_ble_eq_true rfl⟩) (fun _ h => h) rfl [.int ((s_tl (co σ) s p 7 t).1)] rfl (Nat.le_of_ble_eq_true rfl) dX8_tells_265 ⟨Nat.le_of_ble_eq_true rfl, Nat.le_of_ble_eq_true rfl⟩ (k1 := 0) (n1 := 0) rfl rfl ?_
                          rintro r265 σ265 (⟨rfl, rfl, h265_h⟩ | ⟨rfl, rfl, h265_h⟩)
                          · have g265 := (in_rg (c := (s_tv (s_tla (co σ) 7) t)) (lo := 0) (hi := 11) (a := 0) (z := 11) (by decide) (by decide)).mp h265_h
                            refine v_if_eq (tgt := 278) G dX8_tells_268 (by decide) (fun h268 => absurd h268 (by decide)) (fun h268 => ?_)
                            refine v_iconst (v := 1) G dX8_tells_271 rfl ?_
                            refine v_iload G 0 dX8_tells_272 rfl ?_
                            refine v_ishl G dX8_tells_274 ?_
                            refine v_goto (tgt := 279) G dX8_tells_275 (by decide) ?_
                            refine v_ior G dX8_tells_279 ?_
                            refine v_istore (L' := [(7, .int (((s_tl (co σ) s p 7 t).1) ||| (1 <<< ((s_tv (s_tla (co σ) 7) t) &&& 31)))), (10, .int (s_tv (s_tla (co σ) 7) t)), (9, .int ((s_tl (co σ) s p 7 t).2.2)), (8, .int ((s_tl (co σ) s p 7 t).2.1)), (6, .int 5), (5, .int (co σ 10 (5 * p + (7 - 3)))), (4, .int 7), (0, .ref (ad 43)), (1, .int (nI s)), (2, .int (nI p)), (3, .int w)]) G dX8_tells_280 (by decide) rfl ?_
                            refine v_iinc (v := ((s_tl (co σ) s p 7 t).2.1) + 1) (L' := [(8, .int (((s_tl (co σ) s p 7 t).2.1) + 1)), (7, .int (((s_tl (co σ) s p 7 t).1) ||| (1 <<< ((s_tv (s_tla (co σ) 7) t) &&& 31)))), (10, .int (s_tv (s_tla (co σ) 7) t)), (9, .int ((s_tl (co σ) s p 7 t).2.2)), (6, .int 5), (5, .int (co σ 10 (5 * p + (7 - 3)))), (4, .int 7), (0, .ref (ad 43)), (1, .int (nI s)), (2, .int (nI p)), (3, .int w)]) G 3 dX8_tells_282 rfl rfl (by decide) rfl ?_
                            refine v_iload G 2 dX8_tells_285 rfl ?_
                            refine v_istore (L' := [(9, .int (s_tv (s_tla (co σ) 7) t)), (8, .int (((s_tl (co σ) s p 7 t).2.1) + 1)), (7, .int (((s_tl (co σ) s p 7 t).1) ||| (1 <<< ((s_tv (s_tla (co σ) 7) t) &&& 31)))), (10, .int (s_tv (s_tla (co σ) 7) t)), (6, .int 5), (5, .int (co σ 10 (5 * p + (7 - 3)))), (4, .int 7), (0, .ref (ad 43)), (1, .int (nI s)), (2, .int (nI p)), (3, .int w)]) G dX8_tells_287 (by decide) rfl ?_
                            refine v_iinc (v := (s_tv (s_tla (co σ) 7) t) + (-1)) (L' := [(10, .int ((s_tv (s_tla (co σ) 7) t) + (-1))), (9, .int (s_tv (s_tla (co σ) 7) t)), (8, .int (((s_tl (co σ) s p 7 t).2.1) + 1)), (7, .int (((s_tl (co σ) s p 7 t).1) ||| (1 <<< ((s_tv (s_tla (co σ) 7) t) &&& 31)))), (6, .int 5), (5, .int (co σ 10 (5 * p + (7 - 3)))), (4, .int 7), (0, .ref (ad 43)), (1, .int (nI s)), (2, .int (nI p)), (3, .int w)]) G 3 dX8_tells_289 rfl rfl (by decide) rfl ?_
                            refine v_goto (tgt := 220) G dX8_tells_292 (by decide) ?_
                            refine V_.sub (L' := [(10, .int ((s_tv (s_tla (co σ) 7) t) + (-1))), (9, .int (s_tv (s_tla (co σ) 7) t)), (8, .int (((s_tl (co σ) s p 7 t).2.1) + 1)), (7, .int (((s_tl (co σ) s p 7 t).1) ||| (1 <<< ((s_tv (s_tla (co σ) 7) t) &&& 31)))), (6, .int 5), (5, .int (co σ 10 (5 * p + (7 - 3)))), (4, .int 7), (0, .ref (ad 43)), (1, .int (nI s)), (2, .int (nI p)), (3, .int w)]) ?_ [0, 1, 2, 3, 4, 5, 6, 7, 8, 9, 10] rfl
                            refine v_loc (L' := [(10, .int (s_tv (s_tla (co σ) 7) (t + 1))), (9, .int ((s_tl (co σ) s p 7 (t + 1)).2.2)), (8, .int ((s_tl (co σ) s p 7 (t + 1)).2.1)), (7, .int ((s_tl (co σ) s p 7 (t + 1)).1)), (6, .int 5), (5, .int (co σ 10 (5 * p + (7 - 3)))), (4, .int 7), (0, .ref (ad 43)), (1, .int (nI s)), (2, .int (nI p)), (3, .int w)]) (by rw [s_tl]; first | (rw [if_pos (by exact h253), if_pos (by exact g265)] <;> rfl) | (rw [if_pos (by exact h253), if_neg (by exact g265)] <;> rfl) | (rw [if_neg (by exact h253)] <;> rfl)) ?_
                            exact ih220  (t + 1) σ249 (s_tv (s_tla (co σ) 7) t) (by omega) (s_tv_i (by omega) (by omega) (by omega)) (by unfold s_tN; omega) hcb (by omega)
                          · have g265 : ¬ rg (s_tv (s_tla (co σ) 7) t) 0 11 := fun zz => h265_h ((in_rg (c := (s_tv (s_tla (co σ) 7) t)) (lo := 0) (hi := 11) (a := 0) (z := 11) (by decide) (by decide)).mpr zz)
                            refine v_if_eq (tgt := 278) G dX8_tells_268 (by decide) (fun h268 => ?_) (fun h268 => absurd h268 (by decide))
                            refine v_iconst (v := 0) G dX8_tells_278 rfl ?_
                            refine v_ior G dX8_tells_279 ?_
                            refine v_istore (L' := [(7, .int (((s_tl (co σ) s p 7 t).1) ||| 0)), (10, .int (s_tv (s_tla (co σ) 7) t)), (9, .int ((s_tl (co σ) s p 7 t).2.2)), (8, .int ((s_tl (co σ) s p 7 t).2.1)), (6, .int 5), (5, .int (co σ 10 (5 * p + (7 - 3)))), (4, .int 7), (0, .ref (ad 43)), (1, .int (nI s)), (2, .int (nI p)), (3, .int w)]) G dX8_tells_280 (by decide) rfl ?_
                            refine v_iinc (v := ((s_tl (co σ) s p 7 t).2.1) + 1) (L' := [(8, .int (((s_tl (co σ) s p 7 t).2.1) + 1)), (7, .int (((s_tl (co σ) s p 7 t).1) ||| 0)), (10, .int (s_tv (s_tla (co σ) 7) t)), (9, .int ((s_tl (co σ) s p 7 t).2.2)), (6, .int 5), (5, .int (co σ 10 (5 * p + (7 - 3)))), (4, .int 7), (0, .ref (ad 43)), (1, .int (nI s)), (2, .int (nI p)), (3, .int w)]) G 3 dX8_tells_282 rfl rfl (by decide) rfl ?_
                            refine v_iload G 2 dX8_tells_285 rfl ?_
                            refine v_istore (L' := [(9, .int (s_tv (s_tla (co σ) 7) t)), (8, .int (((s_tl (co σ) s p 7 t).2.1) + 1)), (7, .int (((s_tl (co σ) s p 7 t).1) ||| 0)), (10, .int (s_tv (s_tla (co σ) 7) t)), (6, .int 5), (5, .int (co σ 10 (5 * p + (7 - 3)))), (4, .int 7), (0, .ref (ad 43)), (1, .int (nI s)), (2, .int (nI p)), (3, .int w)]) G dX8_tells_287 (by decide) rfl ?_
                            refine v_iinc (v := (s_tv (s_tla (co σ) 7) t) + (-1)) (L' := [(10, .int ((s_tv (s_tla (co σ) 7) t) + (-1))), (9, .int (s_tv (s_tla (co σ) 7) t)), (8, .int (((s_tl (co σ) s p 7 t).2.1) + 1)), (7, .int (((s_tl (co σ) s p 7 t).1) ||| 0)), (6, .int 5), (5, .int (co σ 10 (5 * p + (7 - 3)))), (4, .int 7), (0, .ref (ad 43)), (1, .int (nI s)), (2, .int (nI p)), (3, .int w)]) G 3 dX8_tells_289 rfl rfl (by decide) rfl ?_
                            refine v_goto (tgt := 220) G dX8_tells_292 (by decide) ?_
                            refine V_.sub (L' := [(10, .int ((s_tv (s_tla (co σ) 7) t) + (-1))), (9, .int (s_tv (s_tla (co σ) 7) t)), (8, .int (((s_tl (co σ) s p 7 t).2.1) + 1)), (7, .int (((s_tl (co σ) s p 7 t).1) ||| 0)), (6, .int 5), (5, .int (co σ 10 (5 * p + (7 - 3)))), (4, .int 7), (0, .ref (ad 43)), (1, .int (nI s)), (2, .int (nI p)), (3, .int w)]) ?_ [0, 1, 2, 3, 4, 5, 6, 7, 8, 9, 10] rfl
                            refine v_loc (L' := [(10, .int (s_tv (s_tla (co σ) 7) (t + 1))), (9, .int ((s_tl (co σ) s p 7 (t + 1)).2.2)), (8, .int ((s_tl (co σ) s p 7 (t + 1)).2.1)), (7, .int ((s_tl (co σ) s p 7 (t + 1)).1)), (6, .int 5), (5, .int (co σ 10 (5 * p + (7 - 3)))), (4, .int 7), (0, .ref (ad 43)), (1, .int (nI s)), (2, .int (nI p)), (3, .int w)]) (by rw [s_tl]; first | (rw [if_pos (by exact h253), if_pos (by exact g265)] <;> rfl) | (rw [if_pos (by exact h253), if_neg (by exact g265)] <;> rfl) | (rw [if_neg (by exact h253)] <;> rfl)) ?_
                            exact ih220  (t + 1) σ249 (s_tv (s_tla (co σ) 7) t) (by omega) (s_tv_i (by omega) (by omega) (by omega)) (by unfold s_tN; omega) hcb (by omega)
                  refine V_.sub (L' := [(10, .int 5), (9, .int (-100)), (8, .int 0), (7, .int 0), (6, .int 5), (5, .int (co σ 10 (5 * p + (7 - 3)))), (4, .int 7), (0, .ref (ad 43)), (1, .int (nI s)), (2, .int (nI p)), (3, .int w)]) ?_ [0, 1, 2, 3, 4, 5, 6, 7, 8, 9, 10] rfl
                  refine v_loc (L' := [(10, .int (s_tv (s_tla (co σ) 7) 0)), (9, .int ((s_tl (co σ) s p 7 0).2.2)), (8, .int ((s_tl (co σ) s p 7 0).2.1)), (7, .int ((s_tl (co σ) s p 7 0).1)), (6, .int 5), (5, .int (co σ 10 (5 * p + (7 - 3)))), (4, .int 7), (0, .ref (ad 43)), (1, .int (nI s)), (2, .int (nI p)), (3, .int w)]) (rfl) ?_
                  exact loop220 _ 0 σ148 (co σ 10 (5 * p + (7 - 3))) (by omega) (by show (s_tla (co σ) _).toInt = _; omega) (Nat.zero_le _) (by rw [lay_old (by decide) (by decide) hp5]; exact h148_c) (Nat.lt_succ_self _)
              · refine v_iload_n G 3 dX8_tells_69 rfl ?_
                refine v_if_ne (tgt := 82) G dX8_tells_70 (by decide) (fun h70 => ?_) (fun h70 => False.elim (by exact h60 h70))
                refine v_aload_n G 0 dX8_tells_82 rfl ?_
                refine v_iload_n G 1 dX8_tells_83 rfl ?_
                refine w_callVi G hK hT (kX8_likeSet hK l dC dI ct ad σ s zs hO hs4 (by first | assumption | omega) ezs') (ck_X8_415 G.2.2.2.2.1 ⟨Nat.le_of_ble_eq_true rfl, Nat.le_of_ble_eq_true rfl⟩) m_recv (fun _ h => h) rfl [] rfl (Nat.le_of_ble_eq_true rfl) dX8_tells_84 ⟨Nat.le_of_ble_eq_true rfl, Nat.le_of_ble_eq_true rfl⟩ (k1 := 0) (n1 := 0) rfl rfl ?_
                rintro r84 σ84 ⟨rfl, h84_c, h84_a⟩
                refine RET _ _ _ _ _ _ rfl (Nat.le_of_ble_eq_true rfl) (Nat.le_of_ble_eq_true rfl) dX8_tells_87 (fun ws hws => ⟨_, hws, ?_⟩)
                clear RET G hT hnm
                exact ⟨by rw [s_tells, if_pos ⟨h1_h, h9_h, g21⟩, esn, epn, if_neg (by exact h37), if_neg (by exact Int32.not_lt.mpr h52), if_neg h70, if_pos (by first | exact h66 | exact absurd h60 h70)], h84_c⟩
          · refine v_sipush (v := (-1003)) G dX8_tells_55 rfl ?_
            refine RET _ _ _ _ _ _ rfl (Nat.le_of_ble_eq_true rfl) (Nat.le_of_ble_eq_true rfl) dX8_tells_58 (fun ws hws => ⟨_, hws, ?_⟩)
            clear RET G hT hnm
            exact ⟨by rw [s_tells, if_pos ⟨h1_h, h9_h, g21⟩, esn, epn, if_neg (by exact h37), if_pos (by exact Int32.not_le.mp h52)], rfl⟩
        · refine v_sipush (v := (-1011)) G dX8_tells_40 rfl ?_
          refine RET _ _ _ _ _ _ rfl (Nat.le_of_ble_eq_true rfl) (Nat.le_of_ble_eq_true rfl) dX8_tells_43 (fun ws hws => ⟨_, hws, ?_⟩)
          clear RET G hT hnm
          exact ⟨by rw [s_tells, if_pos ⟨h1_h, h9_h, g21⟩, esn, epn, if_pos (by exact h37)], rfl⟩
      · have g21 : ¬ rg w 0 7 := fun zz => h21_h ((in_rg (c := w) (lo := 0) (hi := 7) (a := 0) (z := 7) (by decide) (by decide)).mpr zz)
        refine v_if_ne (tgt := 31) G dX8_tells_24 (by decide) (fun h24 => absurd h24 (by decide)) (fun h24 => ?_)
        refine v_sipush (v := (-1002)) G dX8_tells_27 rfl ?_
        refine RET _ _ _ _ _ _ rfl (Nat.le_of_ble_eq_true rfl) (Nat.le_of_ble_eq_true rfl) dX8_tells_30 (fun ws hws => ⟨_, hws, ?_⟩)
        clear RET G hT hnm
        exact ⟨by rw [s_tells, if_neg (fun q => by first | exact h1_h q.1 | exact h9_h q.2.1 | exact g21 q.2.2)], rfl⟩
    · refine v_if_eq (tgt := 27) G dX8_tells_12 (by decide) (fun h12 => ?_) (fun h12 => absurd h12 (by decide))
      refine v_sipush (v := (-1002)) G dX8_tells_27 rfl ?_
      refine RET _ _ _ _ _ _ rfl (Nat.le_of_ble_eq_true rfl) (Nat.le_of_ble_eq_true rfl) dX8_tells_30 (fun ws hws => ⟨_, hws, ?_⟩)
      clear RET G hT hnm
      exact ⟨by rw [s_tells, if_neg (fun q => by first | exact h1_h q.1 | exact h9_h q.2.1 | exact g21 q.2.2)], rfl⟩
  · refine v_if_eq (tgt := 27) G dX8_tells_4 (by decide) (fun h4 => ?_) (fun h4 => absurd h4 (by decide))
    refine v_sipush (v := (-1002)) G dX8_tells_27 rfl ?_
    refine RET _ _ _ _ _ _ rfl (Nat.le_of_ble_eq_true rfl) (Nat.le_of_ble_eq_true rfl) dX8_tells_30 (fun ws hws => ⟨_, hws, ?_⟩)
    clear RET G hT hnm
    exact ⟨by rw [s_tells, if_neg (fun q => by first | exact h1_h q.1 | exact h9_h q.2.1 | exact g21 q.2.2)], rfl⟩
abbrev rmX8_spell : Room := { frames := 0, cells := 0, slots := 0, locals := 0 }
set_option maxHeartbeats 1000000 in
theorem kX8_spell {KT : (Nat → Prop) → State → Heap → Prop} (hK : KTok KT) (l : Launch) (dC : Nat → ClassId) (dI : Nat → Nat → Nat) (ct ad : Nat → Nat) (σ : MS) (q : Nat) (b0 : Int32) (b1 : Int32) (b2 : Int32) (b3 : Int32) (b4 : Int32) (b5 : Int32) (b6 : Int32) (b7 : Int32) (hq : q ≤ 152) : MC KT (dC, dI) vwCl (tysF ct) l yX8_spell cX8_spell 10 none rmX8_spell [.ref (ad 43), .int (nI q), .int b0, .int b1, .int b2, .int b3, .int b4, .int b5, .int b6, .int b7] (RM ct ad σ) (QV_ (dC, dI) vwCl (RM ct ad) (fun (σ' : MS) => (mset (mset (mset (mset (mset (mset (mset (mset σ 1 q b0) 1 (q + 1) b1) 1 (q + 2) b2) 1 (q + 3) b3) 1 (q + 4) b4) 1 (q + 5) b5) 1 (q + 6) b6) 1 (q + 7) b7) = σ')) := by
  refine MC.ofV (own := RX8) pl_X8 rfl (Nat.le_of_ble_eq_true rfl) ?_
  intro pp ee ss mm aa bb hh cc AA QQ G hT hnm RET
  refine v_loc (L' := [(0, .ref (ad 43)), (1, .int (nI q)), (2, .int b0), (3, .int b1), (4, .int b2), (5, .int b3), (6, .int b4), (7, .int b5), (8, .int b6), (9, .int b7)]) rfl ?_
  refine v_aload_n G 0 dX8_spell_0 rfl ?_
  refine m_get (v := .ref (ad 1)) G 1 (by decide) rfl q1295 rfl dX8_spell_1 ?_
  refine v_iload_n G 1 dX8_spell_4 rfl ?_
  refine v_iload_n G 2 dX8_spell_5 rfl ?_
  refine m_iast G 1 rfl (q) rfl (show q < 960 by first | omega | assumption | decide) dX8_spell_6 ?_
  refine v_aload_n G 0 dX8_spell_7 rfl ?_
  refine m_get (v := .ref (ad 1)) G 1 (by decide) rfl q1295 rfl dX8_spell_8 ?_
  refine v_iload_n G 1 dX8_spell_11 rfl ?_
  refine v_iconst (v := 1) G dX8_spell_12 rfl ?_
  refine v_iadd G dX8_spell_13 ?_
  refine v_iload_n G 3 dX8_spell_14 rfl ?_
  refine m_iast G 1 rfl (q + 1) (ix_add rfl (ix_lit 1 rfl)) (show q + 1 < 960 by first | omega | assumption | decide) dX8_spell_15 ?_
  refine v_aload_n G 0 dX8_spell_16 rfl ?_
  refine m_get (v := .ref (ad 1)) G 1 (by decide) rfl q1295 rfl dX8_spell_17 ?_
  refine v_iload_n G 1 dX8_spell_20 rfl ?_
  refine v_iconst (v := 2) G dX8_spell_21 rfl ?_
  refine v_iadd G dX8_spell_22 ?_
  refine v_iload G 4 dX8_spell_23 rfl ?_
  refine m_iast G 1 rfl (q + 2) (ix_add rfl (ix_lit 2 rfl)) (show q + 2 < 960 by first | omega | assumption | decide) dX8_spell_25 ?_
  refine v_aload_n G 0 dX8_spell_26 rfl ?_
  refine m_get (v := .ref (ad 1)) G 1 (by decide) rfl q1295 rfl dX8_spell_27 ?_
  refine v_iload_n G 1 dX8_spell_30 rfl ?_
  refine v_iconst (v := 3) G dX8_spell_31 rfl ?_
  refine v_iadd G dX8_spell_32 ?_
  refine v_iload G 5 dX8_spell_33 rfl ?_
  refine m_iast G 1 rfl (q + 3) (ix_add rfl (ix_lit 3 rfl)) (show q + 3 < 960 by first | omega | assumption | decide) dX8_spell_35 ?_
  refine v_aload_n G 0 dX8_spell_36 rfl ?_
  refine m_get (v := .ref (ad 1)) G 1 (by decide) rfl q1295 rfl dX8_spell_37 ?_
  refine v_iload_n G 1 dX8_spell_40 rfl ?_
  refine v_iconst (v := 4) G dX8_spell_41 rfl ?_
  refine v_iadd G dX8_spell_42 ?_
  refine v_iload G 6 dX8_spell_43 rfl ?_
  refine m_iast G 1 rfl (q + 4) (ix_add rfl (ix_lit 4 rfl)) (show q + 4 < 960 by first | omega | assumption | decide) dX8_spell_45 ?_
  refine v_aload_n G 0 dX8_spell_46 rfl ?_
  refine m_get (v := .ref (ad 1)) G 1 (by decide) rfl q1295 rfl dX8_spell_47 ?_
  refine v_iload_n G 1 dX8_spell_50 rfl ?_
  refine v_iconst (v := 5) G dX8_spell_51 rfl ?_
  refine v_iadd G dX8_spell_52 ?_
  refine v_iload G 7 dX8_spell_53 rfl ?_
  refine m_iast G 1 rfl (q + 5) (ix_add rfl (ix_lit 5 rfl)) (show q + 5 < 960 by first | omega | assumption | decide) dX8_spell_55 ?_
  refine v_aload_n G 0 dX8_spell_56 rfl ?_
  refine m_get (v := .ref (ad 1)) G 1 (by decide) rfl q1295 rfl dX8_spell_57 ?_
  refine v_iload_n G 1 dX8_spell_60 rfl ?_
  refine v_bipush (v := 6) G dX8_spell_61 rfl ?_
  refine v_iadd G dX8_spell_63 ?_
  refine v_iload G 8 dX8_spell_64 rfl ?_
  refine m_iast G 1 rfl (q + 6) (ix_add rfl (ix_lit 6 rfl)) (show q + 6 < 960 by first | omega | assumption | decide) dX8_spell_66 ?_
  refine v_aload_n G 0 dX8_spell_67 rfl ?_
  refine m_get (v := .ref (ad 1)) G 1 (by decide) rfl q1295 rfl dX8_spell_68 ?_
  refine v_iload_n G 1 dX8_spell_71 rfl ?_
  refine v_bipush (v := 7) G dX8_spell_72 rfl ?_
  refine v_iadd G dX8_spell_74 ?_
  refine v_iload G 9 dX8_spell_75 rfl ?_
  refine m_iast G 1 rfl (q + 7) (ix_add rfl (ix_lit 7 rfl)) (show q + 7 < 960 by first | omega | assumption | decide) dX8_spell_77 ?_
  refine RET _ _ _ _ _ (Nat.le_of_ble_eq_true rfl) (Nat.le_of_ble_eq_true rfl) dX8_spell_78 (fun ws hws => ⟨_, hws, ?_⟩)
  clear RET G hT hnm
  rfl
