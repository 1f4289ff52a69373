set_option maxRecDepth 100000
theorem x_lrecv {σ : MS} {q : Nat} (hq : q < n_ (σ.1 11 0)) (hkd : kdOk σ q) : ∃ C : String, ∀ (ct : Nat → ClassId) (ad : Nat → Nat) (F : List (Nat × va_E)) (ws : va_W), RX ct ad F σ ws → ∃ (ci : Nat) (fs : List Value) (r : vw_C), (ad (150 + q), Sum.inr (ci, fs)) ∈ ws ∧ vwCl[ci]? = some r ∧ r.1 = C := by
  obtain ⟨kd, h1, h2⟩ := hkd
  obtain ⟨C, hc, -⟩ := x_lcls h1
  have e : n_ (σ.1 10 (5 * q + 4)) = kd := by rw [h2]; exact nI_clamp (by omega)
  refine ⟨C, fun ct ad F ws h => ?_⟩
  have := RX.life hq h
  unfold x_life at this
  rw [e] at this
  exact ⟨2 + kd, _, _, this, hc, rfl⟩
theorem cs_X13_7 {R rm : Room} {s : State} {args : Array Value} (hts : ∀ w ∈ lw_all, w.before args s = true) (hR : rm.frames + 1 ≤ R.frames ∧ 8 + (1 + 11) + rm.locals ≤ R.locals) : va_CS R s args RX13 7 yX11_kind cX11_kind 1 (some .int) (ws_ yX11_kind cX11_kind 1 (some .int)) rm rm.cells rm.slots 0 := va_cwSU 0 hts (lw_SU q314 q1859 q248 q315 q144 q316) rfl rfl rfl (by decide +kernel) hR
theorem cs_X13_11 {R rm : Room} {s : State} {args : Array Value} (hts : ∀ w ∈ lw_all, w.before args s = true) (hR : rm.frames + 1 ≤ R.frames ∧ 8 + (5 + 11) + rm.locals ≤ R.locals) : va_CS R s args RX13 11 yX11_takes cX11_takes 5 (some .int) (ws_ yX11_takes cX11_takes 5 (some .int)) rm rm.cells rm.slots 4 := va_cwSU 4 hts (lw_SU q373 q1861 q248 q374 q144 q375) rfl rfl rfl (by decide +kernel) hR
theorem cs_X13_15 {R rm : Room} {s : State} {args : Array Value} (hts : ∀ w ∈ lw_all, w.before args s = true) (hR : rm.frames + 1 ≤ R.frames ∧ 8 + (2 + 11) + rm.locals ≤ R.locals) : va_CS R s args RX13 15 yX11_putsBy cX11_putsBy 2 (some .int) (ws_ yX11_putsBy cX11_putsBy 2 (some .int)) rm rm.cells rm.slots 1 := va_cwSU 1 hts (lw_SU q400 q1863 q248 q401 q144 q402) rfl rfl rfl (by decide +kernel) hR
theorem cs_X13_19 {R rm : Room} {s : State} {args : Array Value} (hts : ∀ w ∈ lw_all, w.before args s = true) (hR : rm.frames + 1 ≤ R.frames ∧ 8 + (2 + 11) + rm.locals ≤ R.locals) : va_CS R s args RX13 19 yX11_feels cX11_feels 2 (some .int) (ws_ yX11_feels cX11_feels 2 (some .int)) rm rm.cells rm.slots 1 := va_cwSU 1 hts (lw_SU q916 q1866 q248 q917 q144 q918) rfl rfl rfl (by decide +kernel) hR
theorem cs_X11_7 {R rm : Room} {s : State} {args : Array Value} (hts : ∀ w ∈ lw_all, w.before args s = true) (hR : rm.frames + 1 ≤ R.frames ∧ 8 + (1 + 11) + rm.locals ≤ R.locals) : va_CS R s args RX11 7 yX9_kind cX9_kind 1 (some .int) (ws_ yX9_kind cX9_kind 1 (some .int)) rm rm.cells rm.slots 0 := va_cwSU 0 hts (lw_SU q317 q310 q226 q308 q142 q318) rfl rfl rfl (by decide +kernel) hR
theorem cs_X11_11 {R rm : Room} {s : State} {args : Array Value} (hts : ∀ w ∈ lw_all, w.before args s = true) (hR : rm.frames + 1 ≤ R.frames ∧ 8 + (2 + 11) + rm.locals ≤ R.locals) : va_CS R s args RX11 11 yX9_putsBy cX9_putsBy 2 (some .int) (ws_ yX9_putsBy cX9_putsBy 2 (some .int)) rm rm.cells rm.slots 1 := va_cwSU 1 hts (lw_SU q403 q396 q226 q394 q142 q404) rfl rfl rfl (by decide +kernel) hR
theorem cs_X11_21 {R rm : Room} {s : State} {args : Array Value} (hts : ∀ w ∈ lw_all, w.before args s = true) (hR : rm.frames + 1 ≤ R.frames ∧ 8 + (2 + 11) + rm.locals ≤ R.locals) : va_CS R s args RX11 21 yX9_feels cX9_feels 2 (some .int) (ws_ yX9_feels cX9_feels 2 (some .int)) rm rm.cells rm.slots 1 := va_cwSU 1 hts (lw_SU q919 q912 q226 q910 q142 q920) rfl rfl rfl (by decide +kernel) hR
theorem cs_X10_7 {R rm : Room} {s : State} {args : Array Value} (hts : ∀ w ∈ lw_all, w.before args s = true) (hR : rm.frames + 1 ≤ R.frames ∧ 8 + (1 + 11) + rm.locals ≤ R.locals) : va_CS R s args RX10 7 yX9_kind cX9_kind 1 (some .int) (ws_ yX9_kind cX9_kind 1 (some .int)) rm rm.cells rm.slots 0 := va_cwSU 0 hts (lw_SU q323 q310 q215 q308 q142 q318) rfl rfl rfl (by decide +kernel) hR
theorem cs_X10_20 {R rm : Room} {s : State} {args : Array Value} (hts : ∀ w ∈ lw_all, w.before args s = true) (hR : rm.frames + 1 ≤ R.frames ∧ 8 + (5 + 11) + rm.locals ≤ R.locals) : va_CS R s args RX10 20 yX9_takes cX9_takes 5 (some .int) (ws_ yX9_takes cX9_takes 5 (some .int)) rm rm.cells rm.slots 4 := va_cwSU 4 hts (lw_SU q380 q369 q215 q367 q142 q381) rfl rfl rfl (by decide +kernel) hR
theorem cs_X10_24 {R rm : Room} {s : State} {args : Array Value} (hts : ∀ w ∈ lw_all, w.before args s = true) (hR : rm.frames + 1 ≤ R.frames ∧ 8 + (2 + 11) + rm.locals ≤ R.locals) : va_CS R s args RX10 24 yX9_putsBy cX9_putsBy 2 (some .int) (ws_ yX9_putsBy cX9_putsBy 2 (some .int)) rm rm.cells rm.slots 1 := va_cwSU 1 hts (lw_SU q409 q396 q215 q394 q142 q404) rfl rfl rfl (by decide +kernel) hR
theorem cs_X10_28 {R rm : Room} {s : State} {args : Array Value} (hts : ∀ w ∈ lw_all, w.before args s = true) (hR : rm.frames + 1 ≤ R.frames ∧ 8 + (2 + 11) + rm.locals ≤ R.locals) : va_CS R s args RX10 28 yX9_feels cX9_feels 2 (some .int) (ws_ yX9_feels cX9_feels 2 (some .int)) rm rm.cells rm.slots 1 := va_cwSU 1 hts (lw_SU q925 q912 q215 q910 q142 q920) rfl rfl rfl (by decide +kernel) hR
theorem cs_X12_7 {R rm : Room} {s : State} {args : Array Value} (hts : ∀ w ∈ lw_all, w.before args s = true) (hR : rm.frames + 1 ≤ R.frames ∧ 8 + (1 + 11) + rm.locals ≤ R.locals) : va_CS R s args RX12 7 yX10_kind cX10_kind 1 (some .int) (ws_ yX10_kind cX10_kind 1 (some .int)) rm rm.cells rm.slots 0 := va_cwSU 0 hts (lw_SU q327 q1860 q237 q321 q143 q322) rfl rfl rfl (by decide +kernel) hR
theorem cs_X12_11 {R rm : Room} {s : State} {args : Array Value} (hts : ∀ w ∈ lw_all, w.before args s = true) (hR : rm.frames + 1 ≤ R.frames ∧ 8 + (5 + 11) + rm.locals ≤ R.locals) : va_CS R s args RX12 11 yX10_takes cX10_takes 5 (some .int) (ws_ yX10_takes cX10_takes 5 (some .int)) rm rm.cells rm.slots 4 := va_cwSU 4 hts (lw_SU q385 q1862 q237 q378 q143 q379) rfl rfl rfl (by decide +kernel) hR
theorem cs_X12_21 {R rm : Room} {s : State} {args : Array Value} (hts : ∀ w ∈ lw_all, w.before args s = true) (hR : rm.frames + 1 ≤ R.frames ∧ 8 + (2 + 11) + rm.locals ≤ R.locals) : va_CS R s args RX12 21 yX10_putsBy cX10_putsBy 2 (some .int) (ws_ yX10_putsBy cX10_putsBy 2 (some .int)) rm rm.cells rm.slots 1 := va_cwSU 1 hts (lw_SU q413 q1864 q237 q407 q143 q408) rfl rfl rfl (by decide +kernel) hR
theorem cs_X12_28 {R rm : Room} {s : State} {args : Array Value} (hts : ∀ w ∈ lw_all, w.before args s = true) (hR : rm.frames + 1 ≤ R.frames ∧ 8 + (2 + 11) + rm.locals ≤ R.locals) : va_CS R s args RX12 28 yX10_feels cX10_feels 2 (some .int) (ws_ yX10_feels cX10_feels 2 (some .int)) rm rm.cells rm.slots 1 := va_cwSU 1 hts (lw_SU q930 q1867 q237 q923 q143 q924) rfl rfl rfl (by decide +kernel) hR
theorem cs_X14_7 {R rm : Room} {s : State} {args : Array Value} (hts : ∀ w ∈ lw_all, w.before args s = true) (hR : rm.frames + 1 ≤ R.frames ∧ 8 + (1 + 11) + rm.locals ≤ R.locals) : va_CS R s args RX14 7 yX9_kind cX9_kind 1 (some .int) (ws_ yX9_kind cX9_kind 1 (some .int)) rm rm.cells rm.slots 0 := va_cwSU 0 hts (lw_SU q331 q310 q259 q308 q142 q318) rfl rfl rfl (by decide +kernel) hR
abbrev rmX9_kind : Room := { frames := 0, cells := 0, slots := 0, locals := 0 }
set_option maxHeartbeats 1000000 in
theorem kX9_kind {KT : (Nat → Prop) → State → Heap → Prop} (hK : KTok KT) (l : Launch) (dC : Nat → ClassId) (dI : Nat → Nat → Nat) (ct ad : Nat → Nat) (F : List (Nat × va_E)) (σ : MS) (q : Nat) (hq : q < n_ (σ.1 11 0)) (hkd : kdOk σ q) : MC KT (dC, dI) vwCl (tysF ct) l yX9_kind cX9_kind 1 (some .int) rmX9_kind [.ref (ad (150 + q))] (RX ct ad F σ) (QI_ (dC, dI) vwCl (RX ct ad F) (fun (r : Int32) (σ' : MS) => 0 = r ∧ σ = σ')) := by
  refine MC.ofI (own := RX9) pl_X9 rfl (Nat.le_of_ble_eq_true rfl) ?_
  intro pp ee ss mm aa bb hh cc AA QQ G hT hnm RET
  refine v_loc (L' := [(0, .ref (ad (150 + q)))]) rfl ?_
  refine v_iconst (v := 0) G dX9_kind_0 rfl ?_
  refine RET _ _ _ _ _ _ rfl (Nat.le_of_ble_eq_true rfl) (Nat.le_of_ble_eq_true rfl) dX9_kind_1 (fun ws hws => ⟨_, hws, ?_⟩)
  clear RET G hT hnm
  exact ⟨by decide, rfl⟩
abbrev rmX10_kind : Room := { frames := 1, cells := 0, slots := 0, locals := 24 }
set_option maxHeartbeats 1000000 in
theorem kX10_kind {KT : (Nat → Prop) → State → Heap → Prop} (hK : KTok KT) (l : Launch) (dC : Nat → ClassId) (dI : Nat → Nat → Nat) (ct ad : Nat → Nat) (F : List (Nat × va_E)) (σ : MS) (q : Nat) (hq : q < n_ (σ.1 11 0)) (hkd : kdOk σ q) : MC KT (dC, dI) vwCl (tysF ct) l yX10_kind cX10_kind 1 (some .int) rmX10_kind [.ref (ad (150 + q))] (RX ct ad F σ) (QI_ (dC, dI) vwCl (RX ct ad F) (fun (r : Int32) (σ' : MS) => 1 = r ∧ σ = σ')) := by
  refine MC.ofI (own := RX10) pl_X10 rfl (Nat.le_of_ble_eq_true rfl) ?_
  intro pp ee ss mm aa bb hh cc AA QQ G hT hnm RET
  refine v_loc (L' := [(0, .ref (ad (150 + q)))]) rfl ?_
  refine v_aload_n G 0 dX10_kind_0 rfl ?_
  obtain ⟨C1, hC1⟩ := x_lrecv hq hkd
  refine w_callSUi G hK hT (kX9_kind hK l dC dI ct ad F σ q (by first | assumption | omega) (by first | assumption | omega)) (cs_X10_7 G.2.2.2.2.1 ⟨Nat.le_of_ble_eq_true rfl, Nat.le_of_ble_eq_true rfl⟩) (hC1 ct ad F) (fun _ h => h) rfl [] rfl (Nat.le_of_ble_eq_true rfl) dX10_kind_1 ⟨Nat.le_of_ble_eq_true rfl, Nat.le_of_ble_eq_true rfl⟩ (k1 := 0) (n1 := 0) rfl rfl ?_
  rintro r1 σ1 ⟨rfl, rfl⟩
  refine v_iconst (v := 1) G dX10_kind_4 rfl ?_
  refine v_iadd G dX10_kind_5 ?_
  refine RET _ _ _ _ _ _ rfl (Nat.le_of_ble_eq_true rfl) (Nat.le_of_ble_eq_true rfl) dX10_kind_6 (fun ws hws => ⟨_, hws, ?_⟩)
  clear RET G hT hnm
  exact ⟨by decide, rfl⟩
abbrev rmX11_kind : Room := { frames := 1, cells := 0, slots := 0, locals := 24 }
set_option maxHeartbeats 1000000 in
theorem kX11_kind {KT : (Nat → Prop) → State → Heap → Prop} (hK : KTok KT) (l : Launch) (dC : Nat → ClassId) (dI : Nat → Nat → Nat) (ct ad : Nat → Nat) (F : List (Nat × va_E)) (σ : MS) (q : Nat) (hq : q < n_ (σ.1 11 0)) (hkd : kdOk σ q) : MC KT (dC, dI) vwCl (tysF ct) l yX11_kind cX11_kind 1 (some .int) rmX11_kind [.ref (ad (150 + q))] (RX ct ad F σ) (QI_ (dC, dI) vwCl (RX ct ad F) (fun (r : Int32) (σ' : MS) => 2 = r ∧ σ = σ')) := by
  refine MC.ofI (own := RX11) pl_X11 rfl (Nat.le_of_ble_eq_true rfl) ?_
  intro pp ee ss mm aa bb hh cc AA QQ G hT hnm RET
  refine v_loc (L' := [(0, .ref (ad (150 + q)))]) rfl ?_
  refine v_aload_n G 0 dX11_kind_0 rfl ?_
  obtain ⟨C1, hC1⟩ := x_lrecv hq hkd
  refine w_callSUi G hK hT (kX9_kind hK l dC dI ct ad F σ q (by first | assumption | omega) (by first | assumption | omega)) (cs_X11_7 G.2.2.2.2.1 ⟨Nat.le_of_ble_eq_true rfl, Nat.le_of_ble_eq_true rfl⟩) (hC1 ct ad F) (fun _ h => h) rfl [] rfl (Nat.le_of_ble_eq_true rfl) dX11_kind_1 ⟨Nat.le_of_ble_eq_true rfl, Nat.le_of_ble_eq_true rfl⟩ (k1 := 0) (n1 := 0) rfl rfl ?_
  rintro r1 σ1 ⟨rfl, rfl⟩
  refine v_iconst (v := 2) G dX11_kind_4 rfl ?_
  refine v_iadd G dX11_kind_5 ?_
  refine RET _ _ _ _ _ _ rfl (Nat.le_of_ble_eq_true rfl) (Nat.le_of_ble_eq_true rfl) dX11_kind_6 (fun ws hws => ⟨_, hws, ?_⟩)
  clear RET G hT hnm
  exact ⟨by decide, rfl⟩
abbrev rmX12_kind : Room := { frames := 2, cells := 0, slots := 0, locals := 44 }
set_option maxHeartbeats 1000000 in
theorem kX12_kind {KT : (Nat → Prop) → State → Heap → Prop} (hK : KTok KT) (l : Launch) (dC : Nat → ClassId) (dI : Nat → Nat → Nat) (ct ad : Nat → Nat) (F : List (Nat × va_E)) (σ : MS) (q : Nat) (hq : q < n_ (σ.1 11 0)) (hkd : kdOk σ q) : MC KT (dC, dI) vwCl (tysF ct) l yX12_kind cX12_kind 1 (some .int) rmX12_kind [.ref (ad (150 + q))] (RX ct ad F σ) (QI_ (dC, dI) vwCl (RX ct ad F) (fun (r : Int32) (σ' : MS) => 3 = r ∧ σ = σ')) := by
  refine MC.ofI (own := RX12) pl_X12 rfl (Nat.le_of_ble_eq_true rfl) ?_
  intro pp ee ss mm aa bb hh cc AA QQ G hT hnm RET
  refine v_loc (L' := [(0, .ref (ad (150 + q)))]) rfl ?_
  refine v_aload_n G 0 dX12_kind_0 rfl ?_
  obtain ⟨C1, hC1⟩ := x_lrecv hq hkd
  refine w_callSUi G hK hT (kX10_kind hK l dC dI ct ad F σ q (by first | assumption | omega) (by first | assumption | omega)) (cs_X12_7 G.2.2.2.2.1 ⟨Nat.le_of_ble_eq_true rfl, Nat.le_of_ble_eq_true rfl⟩) (hC1 ct ad F) (fun _ h => h) rfl [] rfl (Nat.le_of_ble_eq_true rfl) dX12_kind_1 ⟨Nat.le_of_ble_eq_true rfl, Nat.le_of_ble_eq_true rfl⟩ (k1 := 0) (n1 := 0) rfl rfl ?_
  rintro r1 σ1 ⟨rfl, rfl⟩
  refine v_iconst (v := 2) G dX12_kind_4 rfl ?_
  refine v_iadd G dX12_kind_5 ?_
  refine RET _ _ _ _ _ _ rfl (Nat.le_of_ble_eq_true rfl) (Nat.le_of_ble_eq_true rfl) dX12_kind_6 (fun ws hws => ⟨_, hws, ?_⟩)
  clear RET G hT hnm
  exact ⟨by decide, rfl⟩
abbrev rmX13_kind : Room := { frames := 2, cells := 0, slots := 0, locals := 44 }
set_option maxHeartbeats 1000000 in
theorem kX13_kind {KT : (Nat → Prop) → State → Heap → Prop} (hK : KTok KT) (l : Launch) (dC : Nat → ClassId) (dI : Nat → Nat → Nat) (ct ad : Nat → Nat) (F : List (Nat × va_E)) (σ : MS) (q : Nat) (hq : q < n_ (σ.1 11 0)) (hkd : kdOk σ q) : MC KT (dC, dI) vwCl (tysF ct) l yX13_kind cX13_kind 1 (some .int) rmX13_kind [.ref (ad (150 + q))] (RX ct ad F σ) (QI_ (dC, dI) vwCl (RX ct ad F) (fun (r : Int32) (σ' : MS) => 4 = r ∧ σ = σ')) := by
  refine MC.ofI (own := RX13) pl_X13 rfl (Nat.le_of_ble_eq_true rfl) ?_
  intro pp ee ss mm aa bb hh cc AA QQ G hT hnm RET
  refine v_loc (L' := [(0, .ref (ad (150 + q)))]) rfl ?_
  refine v_aload_n G 0 dX13_kind_0 rfl ?_
  obtain ⟨C1, hC1⟩ := x_lrecv hq hkd
  refine w_callSUi G hK hT (kX11_kind hK l dC dI ct ad F σ q (by first | assumption | omega) (by first | assumption | omega)) (cs_X13_7 G.2.2.2.2.1 ⟨Nat.le_of_ble_eq_true rfl, Nat.le_of_ble_eq_true rfl⟩) (hC1 ct ad F) (fun _ h => h) rfl [] rfl (Nat.le_of_ble_eq_true rfl) dX13_kind_1 ⟨Nat.le_of_ble_eq_true rfl, Nat.le_of_ble_eq_true rfl⟩ (k1 := 0) (n1 := 0) rfl rfl ?_
  rintro r1 σ1 ⟨rfl, rfl⟩
  refine v_iconst (v := 2) G dX13_kind_4 rfl ?_
  refine v_iadd G dX13_kind_5 ?_
  refine RET _ _ _ _ _ _ rfl (Nat.le_of_ble_eq_true rfl) (Nat.le_of_ble_eq_true rfl) dX13_kind_6 (fun ws hws => ⟨_, hws, ?_⟩)
  clear RET G hT hnm
  exact ⟨by decide, rfl⟩
abbrev rmX14_kind : Room := { frames := 1, cells := 0, slots := 0, locals := 24 }
set_option maxHeartbeats 1000000 in
theorem kX14_kind {KT : (Nat → Prop) → State → Heap → Prop} (hK : KTok KT) (l : Launch) (dC : Nat → ClassId) (dI : Nat → Nat → Nat) (ct ad : Nat → Nat) (F : List (Nat × va_E)) (σ : MS) (q : Nat) (hq : q < n_ (σ.1 11 0)) (hkd : kdOk σ q) : MC KT (dC, dI) vwCl (tysF ct) l yX14_kind cX14_kind 1 (some .int) rmX14_kind [.ref (ad (150 + q))] (RX ct ad F σ) (QI_ (dC, dI) vwCl (RX ct ad F) (fun (r : Int32) (σ' : MS) => 5 = r ∧ σ = σ')) := by
  refine MC.ofI (own := RX14) pl_X14 rfl (Nat.le_of_ble_eq_true rfl) ?_
  intro pp ee ss mm aa bb hh cc AA QQ G hT hnm RET
  refine v_loc (L' := [(0, .ref (ad (150 + q)))]) rfl ?_
  refine v_aload_n G 0 dX14_kind_0 rfl ?_
  obtain ⟨C1, hC1⟩ := x_lrecv hq hkd
  refine w_callSUi G hK hT (kX9_kind hK l dC dI ct ad F σ q (by first | assumption | omega) (by first | assumption | omega)) (cs_X14_7 G.2.2.2.2.1 ⟨Nat.le_of_ble_eq_true rfl, Nat.le_of_ble_eq_true rfl⟩) (hC1 ct ad F) (fun _ h => h) rfl [] rfl (Nat.le_of_ble_eq_true rfl) dX14_kind_1 ⟨Nat.le_of_ble_eq_true rfl, Nat.le_of_ble_eq_true rfl⟩ (k1 := 0) (n1 := 0) rfl rfl ?_
  rintro r1 σ1 ⟨rfl, rfl⟩
  refine v_iconst (v := 5) G dX14_kind_4 rfl ?_
  refine v_iadd G dX14_kind_5 ?_
  refine RET _ _ _ _ _ _ rfl (Nat.le_of_ble_eq_true rfl) (Nat.le_of_ble_eq_true rfl) dX14_kind_6 (fun ws hws => ⟨_, hws, ?_⟩)
  clear RET G hT hnm
  exact ⟨by decide, rfl⟩
abbrev rmX9_takes : Room := { frames := 0, cells := 0, slots := 0, locals := 0 }
set_option maxHeartbeats 1000000 in
theorem kX9_takes {KT : (Nat → Prop) → State → Heap → Prop} (hK : KTok KT) (l : Launch) (dC : Nat → ClassId) (dI : Nat → Nat → Nat) (ct ad : Nat → Nat) (F : List (Nat × va_E)) (σ : MS) (q : Nat) (v : Int32) (one : Int32) (other : Int32) (yr : Int32) (hq : q < n_ (σ.1 11 0)) (hkd : kdOk σ q) : MC KT (dC, dI) vwCl (tysF ct) l yX9_takes cX9_takes 5 (some .int) rmX9_takes [.ref (ad (150 + q)), .int v, .int one, .int other, .int yr] (RX ct ad F σ) (QI_ (dC, dI) vwCl (RX ct ad F) (fun (r : Int32) (σ' : MS) => (if s_rem v 2 = 0 then 0 else 1) = r ∧ σ = σ')) := by
  refine MC.ofI (own := RX9) pl_X9 rfl (Nat.le_of_ble_eq_true rfl) ?_
  intro pp ee ss mm aa bb hh cc AA QQ G hT hnm RET
  refine v_loc (L' := [(0, .ref (ad (150 + q))), (1, .int v), (2, .int one), (3, .int other), (4, .int yr)]) rfl ?_
  refine v_iload_n G 1 dX9_takes_0 rfl ?_
  refine v_iconst (v := 2) G dX9_takes_1 rfl ?_
  refine v_irem G dX9_takes_2 (by decide) ?_
  refine v_if_ne (tgt := 10) G dX9_takes_3 (by decide) (fun h3 => ?_) (fun h3 => ?_)
  · refine v_iconst (v := 1) G dX9_takes_10 rfl ?_
    refine RET _ _ _ _ _ _ rfl (Nat.le_of_ble_eq_true rfl) (Nat.le_of_ble_eq_true rfl) dX9_takes_11 (fun ws hws => ⟨_, hws, ?_⟩)
    clear RET G hT hnm
    refine ⟨?_, rfl⟩
    try simp only [s_rem] at *
    grind
  · refine v_iconst (v := 0) G dX9_takes_6 rfl ?_
    refine v_goto (tgt := 11) G dX9_takes_7 (by decide) ?_
    refine RET _ _ _ _ _ _ rfl (Nat.le_of_ble_eq_true rfl) (Nat.le_of_ble_eq_true rfl) dX9_takes_11 (fun ws hws => ⟨_, hws, ?_⟩)
    clear RET G hT hnm
    refine ⟨?_, rfl⟩
    try simp only [s_rem] at *
    grind
abbrev rmX10_takes : Room := { frames := 1, cells := 0, slots := 0, locals := 24 }
set_option maxHeartbeats 1000000 in
theorem kX10_takes {KT : (Nat → Prop) → State → Heap → Prop} (hK : KTok KT) (l : Launch) (dC : Nat → ClassId) (dI : Nat → Nat → Nat) (ct ad : Nat → Nat) (F : List (Nat × va_E)) (σ : MS) (q : Nat) (v : Int32) (one : Int32) (other : Int32) (yr : Int32) (hq : q < n_ (σ.1 11 0)) (hkd : kdOk σ q) : MC KT (dC, dI) vwCl (tysF ct) l yX10_takes cX10_takes 5 (some .int) rmX10_takes [.ref (ad (150 + q)), .int v, .int one, .int other, .int yr] (RX ct ad F σ) (QI_ (dC, dI) vwCl (RX ct ad F) (fun (r : Int32) (σ' : MS) => (if σ.1 10 (5 * q + 1) = σ.1 10 (5 * q) then 1 else (if s_rem v 2 = 0 then 0 else 1)) = r ∧ σ = σ')) := by
  refine MC.ofI (own := RX10) pl_X10 rfl (Nat.le_of_ble_eq_true rfl) ?_
  intro pp ee ss mm aa bb hh cc AA QQ G hT hnm RET
  refine v_loc (L' := [(0, .ref (ad (150 + q))), (1, .int v), (2, .int one), (3, .int other), (4, .int yr)]) rfl ?_
  refine v_aload_n G 0 dX10_takes_0 rfl ?_
  obtain ⟨kd, hkd1, hkd2⟩ := id hkd
  refine x_lget G 1 q kd (by decide) hq hkd1 hkd2 q194 (fun x h => u_same (G.2.2.2.2.1 _ q195) x h) dX10_takes_1 ?_
  refine v_aload_n G 0 dX10_takes_4 rfl ?_
  obtain ⟨kd, hkd1, hkd2⟩ := id hkd
  refine x_lget G 0 q kd (by decide) hq hkd1 hkd2 q185 (fun x h => u_same (G.2.2.2.2.1 _ q186) x h) dX10_takes_5 ?_
  refine v_icmp_ne (tgt := 15) G dX10_takes_8 (by decide) (fun h8 => ?_) (fun h8 => ?_)
  · refine v_aload_n G 0 dX10_takes_15 rfl ?_
    refine v_iload_n G 1 dX10_takes_16 rfl ?_
    refine v_iload_n G 2 dX10_takes_17 rfl ?_
    refine v_iload_n G 3 dX10_takes_18 rfl ?_
    refine v_iload G 4 dX10_takes_19 rfl ?_
    obtain ⟨C21, hC21⟩ := x_lrecv hq hkd
    refine w_callSUi G hK hT (kX9_takes hK l dC dI ct ad F σ q v one other yr (by first | assumption | omega) (by first | assumption | omega)) (cs_X10_20 G.2.2.2.2.1 ⟨Nat.le_of_ble_eq_true rfl, Nat.le_of_ble_eq_true rfl⟩) (hC21 ct ad F) (fun _ h => h) rfl [] rfl (Nat.le_of_ble_eq_true rfl) dX10_takes_21 ⟨Nat.le_of_ble_eq_true rfl, Nat.le_of_ble_eq_true rfl⟩ (k1 := 0) (n1 := 0) rfl rfl ?_
    rintro r21 σ21 ⟨rfl, rfl⟩
    refine RET _ _ _ _ _ _ rfl (Nat.le_of_ble_eq_true rfl) (Nat.le_of_ble_eq_true rfl) dX10_takes_24 (fun ws hws => ⟨_, hws, ?_⟩)
    clear RET G hT hnm
    refine ⟨?_, rfl⟩
    try simp only [s_rem] at *
    grind
  · refine v_iconst (v := 1) G dX10_takes_11 rfl ?_
    refine v_goto (tgt := 24) G dX10_takes_12 (by decide) ?_
    refine RET _ _ _ _ _ _ rfl (Nat.le_of_ble_eq_true rfl) (Nat.le_of_ble_eq_true rfl) dX10_takes_24 (fun ws hws => ⟨_, hws, ?_⟩)
    clear RET G hT hnm
    refine ⟨?_, rfl⟩
    try simp only [s_rem] at *
    grind
abbrev rmX11_takes : Room := { frames := 0, cells := 0, slots := 0, locals := 0 }
set_option maxHeartbeats 1000000 in
theorem kX11_takes {KT : (Nat → Prop) → State → Heap → Prop} (hK : KTok KT) (l : Launch) (dC : Nat → ClassId) (dI : Nat → Nat → Nat) (ct ad : Nat → Nat) (F : List (Nat × va_E)) (σ : MS) (q : Nat) (v : Int32) (one : Int32) (other : Int32) (yr : Int32) (hq : q < n_ (σ.1 11 0)) (hkd : kdOk σ q) : MC KT (dC, dI) vwCl (tysF ct) l yX11_takes cX11_takes 5 (some .int) rmX11_takes [.ref (ad (150 + q)), .int v, .int one, .int other, .int yr] (RX ct ad F σ) (QI_ (dC, dI) vwCl (RX ct ad F) (fun (r : Int32) (σ' : MS) => (if one ≤ other then 0 else 1) = r ∧ σ = σ')) := by
  refine MC.ofI (own := RX11) pl_X11 rfl (Nat.le_of_ble_eq_true rfl) ?_
  intro pp ee ss mm aa bb hh cc AA QQ G hT hnm RET
  refine v_loc (L' := [(0, .ref (ad (150 + q))), (1, .int v), (2, .int one), (3, .int other), (4, .int yr)]) rfl ?_
  refine v_iload_n G 2 dX11_takes_0 rfl ?_
  refine v_iload_n G 3 dX11_takes_1 rfl ?_
  refine v_icmp_gt (tgt := 9) G dX11_takes_2 (by decide) (fun h2 => ?_) (fun h2 => ?_)
  · refine v_iconst (v := 1) G dX11_takes_9 rfl ?_
    refine RET _ _ _ _ _ _ rfl (Nat.le_of_ble_eq_true rfl) (Nat.le_of_ble_eq_true rfl) dX11_takes_10 (fun ws hws => ⟨_, hws, ?_⟩)
    clear RET G hT hnm
    refine ⟨?_, rfl⟩
    try simp only [s_rem] at *
    grind
  · refine v_iconst (v := 0) G dX11_takes_5 rfl ?_
    refine v_goto (tgt := 10) G dX11_takes_6 (by decide) ?_
    refine RET _ _ _ _ _ _ rfl (Nat.le_of_ble_eq_true rfl) (Nat.le_of_ble_eq_true rfl) dX11_takes_10 (fun ws hws => ⟨_, hws, ?_⟩)
    clear RET G hT hnm
    refine ⟨?_, rfl⟩
    try simp only [s_rem] at *
    grind
abbrev rmX12_takes : Room := { frames := 2, cells := 0, slots := 0, locals := 48 }
set_option maxHeartbeats 1000000 in
theorem kX12_takes {KT : (Nat → Prop) → State → Heap → Prop} (hK : KTok KT) (l : Launch) (dC : Nat → ClassId) (dI : Nat → Nat → Nat) (ct ad : Nat → Nat) (F : List (Nat × va_E)) (σ : MS) (q : Nat) (v : Int32) (one : Int32) (other : Int32) (yr : Int32) (hq : q < n_ (σ.1 11 0)) (hkd : kdOk σ q) : MC KT (dC, dI) vwCl (tysF ct) l yX12_takes cX12_takes 6 (some .int) rmX12_takes [.ref (ad (150 + q)), .int v, .int one, .int other, .int yr] (RX ct ad F σ) (QI_ (dC, dI) vwCl (RX ct ad F) (fun (r : Int32) (σ' : MS) => (if σ.1 10 (5 * q + 2) < 0 then 1 - (if σ.1 10 (5 * q + 1) = σ.1 10 (5 * q) then 1 else (if s_rem v 2 = 0 then 0 else 1)) else (if σ.1 10 (5 * q + 1) = σ.1 10 (5 * q) then 1 else (if s_rem v 2 = 0 then 0 else 1))) = r ∧ σ = σ')) := by
  refine MC.ofI (own := RX12) pl_X12 rfl (Nat.le_of_ble_eq_true rfl) ?_
  intro pp ee ss mm aa bb hh cc AA QQ G hT hnm RET
  refine v_loc (L' := [(0, .ref (ad (150 + q))), (1, .int v), (2, .int one), (3, .int other), (4, .int yr)]) rfl ?_
  refine v_aload_n G 0 dX12_takes_0 rfl ?_
  refine v_iload_n G 1 dX12_takes_1 rfl ?_
  refine v_iload_n G 2 dX12_takes_2 rfl ?_
  refine v_iload_n G 3 dX12_takes_3 rfl ?_
  refine v_iload G 4 dX12_takes_4 rfl ?_
  obtain ⟨C6, hC6⟩ := x_lrecv hq hkd
  refine w_callSUi G hK hT (kX10_takes hK l dC dI ct ad F σ q v one other yr (by first | assumption | omega) (by first | assumption | omega)) (cs_X12_11 G.2.2.2.2.1 ⟨Nat.le_of_ble_eq_true rfl, Nat.le_of_ble_eq_true rfl⟩) (hC6 ct ad F) (fun _ h => h) rfl [] rfl (Nat.le_of_ble_eq_true rfl) dX12_takes_6 ⟨Nat.le_of_ble_eq_true rfl, Nat.le_of_ble_eq_true rfl⟩ (k1 := 0) (n1 := 0) rfl rfl ?_
  rintro r6 σ6 ⟨rfl, rfl⟩
  refine v_istore (L' := [(5, .int (if σ.1 10 (5 * q + 1) = σ.1 10 (5 * q) then 1 else (if s_rem v 2 = 0 then 0 else 1))), (0, .ref (ad (150 + q))), (1, .int v), (2, .int one), (3, .int other), (4, .int yr)]) G dX12_takes_9 (by decide) rfl ?_
  refine v_aload_n G 1 dX12_takes_11 rfl ?_
  obtain ⟨kd, hkd1, hkd2⟩ := id hkd
  refine x_lget G 2 q kd (by decide) hq hkd1 hkd2 q198 (fun x h => u_same (G.2.2.2.2.1 _ q199) x h) dX12_takes_12 ?_
  refine v_if_ge (tgt := 25) G dX12_takes_15 (by decide) (fun h15 => ?_) (fun h15 => ?_)
  · refine v_iload G 0 dX12_takes_25 rfl ?_
    refine RET _ _ _ _ _ _ rfl (Nat.le_of_ble_eq_true rfl) (Nat.le_of_ble_eq_true rfl) dX12_takes_27 (fun ws hws => ⟨_, hws, ?_⟩)
    clear RET G hT hnm
    refine ⟨?_, rfl⟩
    try simp only [s_rem] at *
    grind
  · refine v_iconst (v := 1) G dX12_takes_18 rfl ?_
    refine v_iload G 0 dX12_takes_19 rfl ?_
    refine v_isub G dX12_takes_21 ?_
    refine v_goto (tgt := 27) G dX12_takes_22 (by decide) ?_
    refine RET _ _ _ _ _ _ rfl (Nat.le_of_ble_eq_true rfl) (Nat.le_of_ble_eq_true rfl) dX12_takes_27 (fun ws hws => ⟨_, hws, ?_⟩)
    clear RET G hT hnm
    refine ⟨?_, rfl⟩
    try simp only [s_rem] at *
    grind
abbrev rmX13_takes : Room := { frames := 1, cells := 0, slots := 0, locals := 24 }
set_option maxHeartbeats 1000000 in
theorem kX13_takes {KT : (Nat → Prop) → State → Heap → Prop} (hK : KTok KT) (l : Launch) (dC : Nat → ClassId) (dI : Nat → Nat → Nat) (ct ad : Nat → Nat) (F : List (Nat × va_E)) (σ : MS) (q : Nat) (v : Int32) (one : Int32) (other : Int32) (yr : Int32) (hq : q < n_ (σ.1 11 0)) (hkd : kdOk σ q) : MC KT (dC, dI) vwCl (tysF ct) l yX13_takes cX13_takes 5 (some .int) rmX13_takes [.ref (ad (150 + q)), .int v, .int one, .int other, .int yr] (RX ct ad F σ) (QI_ (dC, dI) vwCl (RX ct ad F) (fun (r : Int32) (σ' : MS) => (if s_rem yr 3 = 0 then 0 else (if one ≤ other then 0 else 1)) = r ∧ σ = σ')) := by
  refine MC.ofI (own := RX13) pl_X13 rfl (Nat.le_of_ble_eq_true rfl) ?_
  intro pp ee ss mm aa bb hh cc AA QQ G hT hnm RET
  refine v_loc (L' := [(0, .ref (ad (150 + q))), (1, .int v), (2, .int one), (3, .int other), (4, .int yr)]) rfl ?_
  refine v_iload G 4 dX13_takes_0 rfl ?_
  refine v_iconst (v := 3) G dX13_takes_2 rfl ?_
  refine v_irem G dX13_takes_3 (by decide) ?_
  refine v_if_ne (tgt := 11) G dX13_takes_4 (by decide) (fun h4 => ?_) (fun h4 => ?_)
  · refine v_aload_n G 0 dX13_takes_11 rfl ?_
    refine v_iload_n G 1 dX13_takes_12 rfl ?_
    refine v_iload_n G 2 dX13_takes_13 rfl ?_
    refine v_iload_n G 3 dX13_takes_14 rfl ?_
    refine v_iload G 4 dX13_takes_15 rfl ?_
    obtain ⟨C17, hC17⟩ := x_lrecv hq hkd
    refine w_callSUi G hK hT (kX11_takes hK l dC dI ct ad F σ q v one other yr (by first | assumption | omega) (by first | assumption | omega)) (cs_X13_11 G.2.2.2.2.1 ⟨Nat.le_of_ble_eq_true rfl, Nat.le_of_ble_eq_true rfl⟩) (hC17 ct ad F) (fun _ h => h) rfl [] rfl (Nat.le_of_ble_eq_true rfl) dX13_takes_17 ⟨Nat.le_of_ble_eq_true rfl, Nat.le_of_ble_eq_true rfl⟩ (k1 := 0) (n1 := 0) rfl rfl ?_
    rintro r17 σ17 ⟨rfl, rfl⟩
    refine RET _ _ _ _ _ _ rfl (Nat.le_of_ble_eq_true rfl) (Nat.le_of_ble_eq_true rfl) dX13_takes_20 (fun ws hws => ⟨_, hws, ?_⟩)
    clear RET G hT hnm
    refine ⟨?_, rfl⟩
    try simp only [s_rem] at *
    grind
  · refine v_iconst (v := 0) G dX13_takes_7 rfl ?_
    refine v_goto (tgt := 20) G dX13_takes_8 (by decide) ?_
    refine RET _ _ _ _ _ _ rfl (Nat.le_of_ble_eq_true rfl) (Nat.le_of_ble_eq_true rfl) dX13_takes_20 (fun ws hws => ⟨_, hws, ?_⟩)
    clear RET G hT hnm
    refine ⟨?_, rfl⟩
    try simp only [s_rem] at *
    grind
abbrev rmX14_takes : Room := { frames := 0, cells := 0, slots := 0, locals := 0 }
set_option maxHeartbeats 1000000 in
theorem kX14_takes {KT : (Nat → Prop) → State → Heap → Prop} (hK : KTok KT) (l : Launch) (dC : Nat → ClassId) (dI : Nat → Nat → Nat) (ct ad : Nat → Nat) (F : List (Nat × va_E)) (σ : MS) (q : Nat) (v : Int32) (one : Int32) (other : Int32) (yr : Int32) (hq : q < n_ (σ.1 11 0)) (hkd : kdOk σ q) : MC KT (dC, dI) vwCl (tysF ct) l yX14_takes cX14_takes 5 (some .int) rmX14_takes [.ref (ad (150 + q)), .int v, .int one, .int other, .int yr] (RX ct ad F σ) (QI_ (dC, dI) vwCl (RX ct ad F) (fun (r : Int32) (σ' : MS) => (s_rem (σ.1 10 (5 * q)) 2) = r ∧ σ = σ')) := by
  refine MC.ofI (own := RX14) pl_X14 rfl (Nat.le_of_ble_eq_true rfl) ?_
  intro pp ee ss mm aa bb hh cc AA QQ G hT hnm RET
  refine v_loc (L' := [(0, .ref (ad (150 + q))), (1, .int v), (2, .int one), (3, .int other), (4, .int yr)]) rfl ?_
  refine v_aload_n G 0 dX14_takes_0 rfl ?_
  obtain ⟨kd, hkd1, hkd2⟩ := id hkd
  refine x_lget G 0 q kd (by decide) hq hkd1 hkd2 q183 (fun x h => u_same (G.2.2.2.2.1 _ q184) x h) dX14_takes_1 ?_
  refine v_iconst (v := 2) G dX14_takes_4 rfl ?_
  refine v_irem G dX14_takes_5 (by decide) ?_
  refine RET _ _ _ _ _ _ rfl (Nat.le_of_ble_eq_true rfl) (Nat.le_of_ble_eq_true rfl) dX14_takes_6 (fun ws hws => ⟨_, hws, ?_⟩)
  clear RET G hT hnm
  exact ⟨rfl, rfl⟩
abbrev rmX9_putsBy : Room := { frames := 0, cells := 0, slots := 0, locals := 0 }
set_option maxHeartbeats 1000000 in
theorem kX9_putsBy {KT : (Nat → Prop) → State → Heap → Prop} (hK : KTok KT) (l : Launch) (dC : Nat → ClassId) (dI : Nat → Nat → Nat) (ct ad : Nat → Nat) (F : List (Nat × va_E)) (σ : MS) (q : Nat) (v : Int32) (hq : q < n_ (σ.1 11 0)) (hkd : kdOk σ q) : MC KT (dC, dI) vwCl (tysF ct) l yX9_putsBy cX9_putsBy 2 (some .int) rmX9_putsBy [.ref (ad (150 + q)), .int v] (RX ct ad F σ) (QI_ (dC, dI) vwCl (RX ct ad F) (fun (r : Int32) (σ' : MS) => v = r ∧ σ = σ')) := by
  refine MC.ofI (own := RX9) pl_X9 rfl (Nat.le_of_ble_eq_true rfl) ?_
  intro pp ee ss mm aa bb hh cc AA QQ G hT hnm RET
  refine v_loc (L' := [(0, .ref (ad (150 + q))), (1, .int v)]) rfl ?_
  refine v_iload_n G 1 dX9_putsBy_0 rfl ?_
  refine RET _ _ _ _ _ _ rfl (Nat.le_of_ble_eq_true rfl) (Nat.le_of_ble_eq_true rfl) dX9_putsBy_1 (fun ws hws => ⟨_, hws, ?_⟩)
  clear RET G hT hnm
  exact ⟨rfl, rfl⟩
abbrev rmX10_putsBy : Room := { frames := 1, cells := 0, slots := 0, locals := 24 }
set_option maxHeartbeats 1000000 in
theorem kX10_putsBy {KT : (Nat → Prop) → State → Heap → Prop} (hK : KTok KT) (l : Launch) (dC : Nat → ClassId) (dI : Nat → Nat → Nat) (ct ad : Nat → Nat) (F : List (Nat × va_E)) (σ : MS) (q : Nat) (v : Int32) (hq : q < n_ (σ.1 11 0)) (hkd : kdOk σ q) : MC KT (dC, dI) vwCl (tysF ct) l yX10_putsBy cX10_putsBy 2 (some .int) rmX10_putsBy [.ref (ad (150 + q)), .int v] (RX ct ad F σ) (QI_ (dC, dI) vwCl (RX ct ad F) (fun (r : Int32) (σ' : MS) => (2 * v) = r ∧ σ = σ')) := by
  refine MC.ofI (own := RX10) pl_X10 rfl (Nat.le_of_ble_eq_true rfl) ?_
  intro pp ee ss mm aa bb hh cc AA QQ G hT hnm RET
  refine v_loc (L' := [(0, .ref (ad (150 + q))), (1, .int v)]) rfl ?_
  refine v_iconst (v := 2) G dX10_putsBy_0 rfl ?_
  refine v_aload_n G 0 dX10_putsBy_1 rfl ?_
  refine v_iload_n G 1 dX10_putsBy_2 rfl ?_
  obtain ⟨C3, hC3⟩ := x_lrecv hq hkd
  refine w_callSUi G hK hT (kX9_putsBy hK l dC dI ct ad F σ q v (by first | assumption | omega) (by first | assumption | omega)) (cs_X10_24 G.2.2.2.2.1 ⟨Nat.le_of_ble_eq_true rfl, Nat.le_of_ble_eq_true rfl⟩) (hC3 ct ad F) (fun _ h => h) rfl [.int 2] rfl (Nat.le_of_ble_eq_true rfl) dX10_putsBy_3 ⟨Nat.le_of_ble_eq_true rfl, Nat.le_of_ble_eq_true rfl⟩ (k1 := 0) (n1 := 0) rfl rfl ?_
  rintro r3 σ3 ⟨rfl, rfl⟩
  refine v_imul G dX10_putsBy_6 ?_
  refine RET _ _ _ _ _ _ rfl (Nat.le_of_ble_eq_true rfl) (Nat.le_of_ble_eq_true rfl) dX10_putsBy_7 (fun ws hws => ⟨_, hws, ?_⟩)
  clear RET G hT hnm
  exact ⟨rfl, rfl⟩
abbrev rmX11_putsBy : Room := { frames := 1, cells := 0, slots := 0, locals := 24 }
set_option maxHeartbeats 1000000 in
theorem kX11_putsBy {KT : (Nat → Prop) → State → Heap → Prop} (hK : KTok KT) (l : Launch) (dC : Nat → ClassId) (dI : Nat → Nat → Nat) (ct ad : Nat → Nat) (F : List (Nat × va_E)) (σ : MS) (q : Nat) (v : Int32) (hq : q < n_ (σ.1 11 0)) (hkd : kdOk σ q) : MC KT (dC, dI) vwCl (tysF ct) l yX11_putsBy cX11_putsBy 2 (some .int) rmX11_putsBy [.ref (ad (150 + q)), .int v] (RX ct ad F σ) (QI_ (dC, dI) vwCl (RX ct ad F) (fun (r : Int32) (σ' : MS) => (v + 1) = r ∧ σ = σ')) := by
  refine MC.ofI (own := RX11) pl_X11 rfl (Nat.le_of_ble_eq_true rfl) ?_
  intro pp ee ss mm aa bb hh cc AA QQ G hT hnm RET
  refine v_loc (L' := [(0, .ref (ad (150 + q))), (1, .int v)]) rfl ?_
  refine v_aload_n G 0 dX11_putsBy_0 rfl ?_
  refine v_iload_n G 1 dX11_putsBy_1 rfl ?_
  obtain ⟨C2, hC2⟩ := x_lrecv hq hkd
  refine w_callSUi G hK hT (kX9_putsBy hK l dC dI ct ad F σ q v (by first | assumption | omega) (by first | assumption | omega)) (cs_X11_11 G.2.2.2.2.1 ⟨Nat.le_of_ble_eq_true rfl, Nat.le_of_ble_eq_true rfl⟩) (hC2 ct ad F) (fun _ h => h) rfl [] rfl (Nat.le_of_ble_eq_true rfl) dX11_putsBy_2 ⟨Nat.le_of_ble_eq_true rfl, Nat.le_of_ble_eq_true rfl⟩ (k1 := 0) (n1 := 0) rfl rfl ?_
  rintro r2 σ2 ⟨rfl, rfl⟩
  refine v_iconst (v := 1) G dX11_putsBy_5 rfl ?_
  refine v_iadd G dX11_putsBy_6 ?_
  refine RET _ _ _ _ _ _ rfl (Nat.le_of_ble_eq_true rfl) (Nat.le_of_ble_eq_true rfl) dX11_putsBy_7 (fun ws hws => ⟨_, hws, ?_⟩)
  clear RET G hT hnm
  exact ⟨rfl, rfl⟩
abbrev rmX12_putsBy : Room := { frames := 2, cells := 0, slots := 0, locals := 45 }
set_option maxHeartbeats 1000000 in
theorem kX12_putsBy {KT : (Nat → Prop) → State → Heap → Prop} (hK : KTok KT) (l : Launch) (dC : Nat → ClassId) (dI : Nat → Nat → Nat) (ct ad : Nat → Nat) (F : List (Nat × va_E)) (σ : MS) (q : Nat) (v : Int32) (hq : q < n_ (σ.1 11 0)) (hkd : kdOk σ q) : MC KT (dC, dI) vwCl (tysF ct) l yX12_putsBy cX12_putsBy 2 (some .int) rmX12_putsBy [.ref (ad (150 + q)), .int v] (RX ct ad F σ) (QI_ (dC, dI) vwCl (RX ct ad F) (fun (r : Int32) (σ' : MS) => (2 * v + σ.1 10 (5 * q)) = r ∧ σ = σ')) := by
  refine MC.ofI (own := RX12) pl_X12 rfl (Nat.le_of_ble_eq_true rfl) ?_
  intro pp ee ss mm aa bb hh cc AA QQ G hT hnm RET
  refine v_loc (L' := [(0, .ref (ad (150 + q))), (1, .int v)]) rfl ?_
  refine v_aload_n G 0 dX12_putsBy_0 rfl ?_
  refine v_iload_n G 1 dX12_putsBy_1 rfl ?_
  obtain ⟨C2, hC2⟩ := x_lrecv hq hkd
  refine w_callSUi G hK hT (kX10_putsBy hK l dC dI ct ad F σ q v (by first | assumption | omega) (by first | assumption | omega)) (cs_X12_21 G.2.2.2.2.1 ⟨Nat.le_of_ble_eq_true rfl, Nat.le_of_ble_eq_true rfl⟩) (hC2 ct ad F) (fun _ h => h) rfl [] rfl (Nat.le_of_ble_eq_true rfl) dX12_putsBy_2 ⟨Nat.le_of_ble_eq_true rfl, Nat.le_of_ble_eq_true rfl⟩ (k1 := 0) (n1 := 0) rfl rfl ?_
  rintro r2 σ2 ⟨rfl, rfl⟩
  refine v_aload_n G 0 dX12_putsBy_5 rfl ?_
  obtain ⟨kd, hkd1, hkd2⟩ := id hkd
  refine x_lget G 0 q kd (by decide) hq hkd1 hkd2 q187 (fun x h => u_same (G.2.2.2.2.1 _ q188) x h) dX12_putsBy_6 ?_
  refine v_iadd G dX12_putsBy_9 ?_
  refine RET _ _ _ _ _ _ rfl (Nat.le_of_ble_eq_true rfl) (Nat.le_of_ble_eq_true rfl) dX12_putsBy_10 (fun ws hws => ⟨_, hws, ?_⟩)
  clear RET G hT hnm
  exact ⟨rfl, rfl⟩
abbrev rmX13_putsBy : Room := { frames := 2, cells := 0, slots := 0, locals := 45 }
set_option maxHeartbeats 1000000 in
theorem kX13_putsBy {KT : (Nat → Prop) → State → Heap → Prop} (hK : KTok KT) (l : Launch) (dC : Nat → ClassId) (dI : Nat → Nat → Nat) (ct ad : Nat → Nat) (F : List (Nat × va_E)) (σ : MS) (q : Nat) (v : Int32) (hq : q < n_ (σ.1 11 0)) (hkd : kdOk σ q) : MC KT (dC, dI) vwCl (tysF ct) l yX13_putsBy cX13_putsBy 2 (some .int) rmX13_putsBy [.ref (ad (150 + q)), .int v] (RX ct ad F σ) (QI_ (dC, dI) vwCl (RX ct ad F) (fun (r : Int32) (σ' : MS) => ((v + 1) / 2) = r ∧ σ = σ')) := by
  refine MC.ofI (own := RX13) pl_X13 rfl (Nat.le_of_ble_eq_true rfl) ?_
  intro pp ee ss mm aa bb hh cc AA QQ G hT hnm RET
  refine v_loc (L' := [(0, .ref (ad (150 + q))), (1, .int v)]) rfl ?_
  refine v_aload_n G 0 dX13_putsBy_0 rfl ?_
  refine v_iload_n G 1 dX13_putsBy_1 rfl ?_
  obtain ⟨C2, hC2⟩ := x_lrecv hq hkd
  refine w_callSUi G hK hT (kX11_putsBy hK l dC dI ct ad F σ q v (by first | assumption | omega) (by first | assumption | omega)) (cs_X13_15 G.2.2.2.2.1 ⟨Nat.le_of_ble_eq_true rfl, Nat.le_of_ble_eq_true rfl⟩) (hC2 ct ad F) (fun _ h => h) rfl [] rfl (Nat.le_of_ble_eq_true rfl) dX13_putsBy_2 ⟨Nat.le_of_ble_eq_true rfl, Nat.le_of_ble_eq_true rfl⟩ (k1 := 0) (n1 := 0) rfl rfl ?_
  rintro r2 σ2 ⟨rfl, rfl⟩
  refine v_iconst (v := 2) G dX13_putsBy_5 rfl ?_
  refine v_idiv G dX13_putsBy_6 (by decide) ?_
  refine RET _ _ _ _ _ _ rfl (Nat.le_of_ble_eq_true rfl) (Nat.le_of_ble_eq_true rfl) dX13_putsBy_7 (fun ws hws => ⟨_, hws, ?_⟩)
  clear RET G hT hnm
  exact ⟨rfl, rfl⟩
abbrev rmX14_putsBy : Room := { frames := 0, cells := 0, slots := 0, locals := 0 }
set_option maxHeartbeats 1000000 in
theorem kX14_putsBy {KT : (Nat → Prop) → State → Heap → Prop} (hK : KTok KT) (l : Launch) (dC : Nat → ClassId) (dI : Nat → Nat → Nat) (ct ad : Nat → Nat) (F : List (Nat × va_E)) (σ : MS) (q : Nat) (v : Int32) (hq : q < n_ (σ.1 11 0)) (hkd : kdOk σ q) : MC KT (dC, dI) vwCl (tysF ct) l yX14_putsBy cX14_putsBy 2 (some .int) rmX14_putsBy [.ref (ad (150 + q)), .int v] (RX ct ad F σ) (QI_ (dC, dI) vwCl (RX ct ad F) (fun (r : Int32) (σ' : MS) => 0 = r ∧ σ = σ')) := by
  refine MC.ofI (own := RX14) pl_X14 rfl (Nat.le_of_ble_eq_true rfl) ?_
  intro pp ee ss mm aa bb hh cc AA QQ G hT hnm RET
  refine v_loc (L' := [(0, .ref (ad (150 + q))), (1, .int v)]) rfl ?_
  refine v_iconst (v := 0) G dX14_putsBy_0 rfl ?_
  refine RET _ _ _ _ _ _ rfl (Nat.le_of_ble_eq_true rfl) (Nat.le_of_ble_eq_true rfl) dX14_putsBy_1 (fun ws hws => ⟨_, hws, ?_⟩)
  clear RET G hT hnm
  exact ⟨rfl, rfl⟩
abbrev rmX9_feels : Room := { frames := 0, cells := 0, slots := 0, locals := 0 }
set_option maxHeartbeats 1000000 in
theorem kX9_feels {KT : (Nat → Prop) → State → Heap → Prop} (hK : KTok KT) (l : Launch) (dC : Nat → ClassId) (dI : Nat → Nat → Nat) (ct ad : Nat → Nat) (F : List (Nat × va_E)) (σ : MS) (q : Nat) (v : Int32) (hq : q < n_ (σ.1 11 0)) (hkd : kdOk σ q) : MC KT (dC, dI) vwCl (tysF ct) l yX9_feels cX9_feels 2 (some .int) rmX9_feels [.ref (ad (150 + q)), .int v] (RX ct ad F σ) (QI_ (dC, dI) vwCl (RX ct ad F) (fun (r : Int32) (σ' : MS) => v = r ∧ σ = σ')) := by
  refine MC.ofI (own := RX9) pl_X9 rfl (Nat.le_of_ble_eq_true rfl) ?_
  intro pp ee ss mm aa bb hh cc AA QQ G hT hnm RET
  refine v_loc (L' := [(0, .ref (ad (150 + q))), (1, .int v)]) rfl ?_
  refine v_iload_n G 1 dX9_feels_0 rfl ?_
  refine RET _ _ _ _ _ _ rfl (Nat.le_of_ble_eq_true rfl) (Nat.le_of_ble_eq_true rfl) dX9_feels_1 (fun ws hws => ⟨_, hws, ?_⟩)
  clear RET G hT hnm
  refine ⟨?_, rfl⟩
  grind
abbrev rmX10_feels : Room := { frames := 1, cells := 0, slots := 0, locals := 24 }
set_option maxHeartbeats 1000000 in
theorem kX10_feels {KT : (Nat → Prop) → State → Heap → Prop} (hK : KTok KT) (l : Launch) (dC : Nat → ClassId) (dI : Nat → Nat → Nat) (ct ad : Nat → Nat) (F : List (Nat × va_E)) (σ : MS) (q : Nat) (v : Int32) (hq : q < n_ (σ.1 11 0)) (hkd : kdOk σ q) : MC KT (dC, dI) vwCl (tysF ct) l yX10_feels cX10_feels 2 (some .int) rmX10_feels [.ref (ad (150 + q)), .int v] (RX ct ad F σ) (QI_ (dC, dI) vwCl (RX ct ad F) (fun (r : Int32) (σ' : MS) => (if v < 0 then 0 else v) = r ∧ σ = σ')) := by
  refine MC.ofI (own := RX10) pl_X10 rfl (Nat.le_of_ble_eq_true rfl) ?_
  intro pp ee ss mm aa bb hh cc AA QQ G hT hnm RET
  refine v_loc (L' := [(0, .ref (ad (150 + q))), (1, .int v)]) rfl ?_
  refine v_iconst (v := 0) G dX10_feels_0 rfl ?_
  refine v_aload_n G 0 dX10_feels_1 rfl ?_
  refine v_iload_n G 1 dX10_feels_2 rfl ?_
  obtain ⟨C3, hC3⟩ := x_lrecv hq hkd
  refine w_callSUi G hK hT (kX9_feels hK l dC dI ct ad F σ q v (by first | assumption | omega) (by first | assumption | omega)) (cs_X10_28 G.2.2.2.2.1 ⟨Nat.le_of_ble_eq_true rfl, Nat.le_of_ble_eq_true rfl⟩) (hC3 ct ad F) (fun _ h => h) rfl [.int 0] rfl (Nat.le_of_ble_eq_true rfl) dX10_feels_3 ⟨Nat.le_of_ble_eq_true rfl, Nat.le_of_ble_eq_true rfl⟩ (k1 := 0) (n1 := 0) rfl rfl ?_
  rintro r3 σ3 ⟨rfl, rfl⟩
  refine v_mmax G q926 dX10_feels_6 (Nat.le_of_ble_eq_true rfl) (Nat.le_of_ble_eq_true rfl) (Nat.le_of_ble_eq_true rfl) (Nat.le_of_ble_eq_true rfl) (Nat.le_of_ble_eq_true rfl) ?_
  refine RET _ _ _ _ _ _ rfl (Nat.le_of_ble_eq_true rfl) (Nat.le_of_ble_eq_true rfl) dX10_feels_9 (fun ws hws => ⟨_, hws, ?_⟩)
  clear RET G hT hnm
  refine ⟨?_, rfl⟩
  grind
abbrev rmX11_feels : Room := { frames := 1, cells := 0, slots := 0, locals := 24 }
set_option maxHeartbeats 1000000 in
theorem kX11_feels {KT : (Nat → Prop) → State → Heap → Prop} (hK : KTok KT) (l : Launch) (dC : Nat → ClassId) (dI : Nat → Nat → Nat) (ct ad : Nat → Nat) (F : List (Nat × va_E)) (σ : MS) (q : Nat) (v : Int32) (hq : q < n_ (σ.1 11 0)) (hkd : kdOk σ q) : MC KT (dC, dI) vwCl (tysF ct) l yX11_feels cX11_feels 2 (some .int) rmX11_feels [.ref (ad (150 + q)), .int v] (RX ct ad F σ) (QI_ (dC, dI) vwCl (RX ct ad F) (fun (r : Int32) (σ' : MS) => (if σ.1 10 (5 * q + 3) ≤ 2 then v else -v) = r ∧ σ = σ')) := by
  refine MC.ofI (own := RX11) pl_X11 rfl (Nat.le_of_ble_eq_true rfl) ?_
  intro pp ee ss mm aa bb hh cc AA QQ G hT hnm RET
  refine v_loc (L' := [(0, .ref (ad (150 + q))), (1, .int v)]) rfl ?_
  refine v_aload_n G 0 dX11_feels_0 rfl ?_
  obtain ⟨kd, hkd1, hkd2⟩ := id hkd
  refine x_lget G 3 q kd (by decide) hq hkd1 hkd2 q203 (fun x h => u_same (G.2.2.2.2.1 _ q204) x h) dX11_feels_1 ?_
  refine v_iconst (v := 3) G dX11_feels_4 rfl ?_
  refine v_icmp_lt (tgt := 17) G dX11_feels_5 (by decide) (fun h5 => ?_) (fun h5 => ?_)
  · refine v_aload_n G 0 dX11_feels_17 rfl ?_
    refine v_iload_n G 1 dX11_feels_18 rfl ?_
    obtain ⟨C19, hC19⟩ := x_lrecv hq hkd
    refine w_callSUi G hK hT (kX9_feels hK l dC dI ct ad F σ q v (by first | assumption | omega) (by first | assumption | omega)) (cs_X11_21 G.2.2.2.2.1 ⟨Nat.le_of_ble_eq_true rfl, Nat.le_of_ble_eq_true rfl⟩) (hC19 ct ad F) (fun _ h => h) rfl [] rfl (Nat.le_of_ble_eq_true rfl) dX11_feels_19 ⟨Nat.le_of_ble_eq_true rfl, Nat.le_of_ble_eq_true rfl⟩ (k1 := 0) (n1 := 0) rfl rfl ?_
    rintro r19 σ19 ⟨rfl, rfl⟩
    refine RET _ _ _ _ _ _ rfl (Nat.le_of_ble_eq_true rfl) (Nat.le_of_ble_eq_true rfl) dX11_feels_22 (fun ws hws => ⟨_, hws, ?_⟩)
    clear RET G hT hnm
    refine ⟨?_, rfl⟩
    grind
  · refine v_aload_n G 0 dX11_feels_8 rfl ?_
    refine v_iload_n G 1 dX11_feels_9 rfl ?_
    obtain ⟨C10, hC10⟩ := x_lrecv hq hkd
    refine w_callSUi G hK hT (kX9_feels hK l dC dI ct ad F σ q v (by first | assumption | omega) (by first | assumption | omega)) (cs_X11_21 G.2.2.2.2.1 ⟨Nat.le_of_ble_eq_true rfl, Nat.le_of_ble_eq_true rfl⟩) (hC10 ct ad F) (fun _ h => h) rfl [] rfl (Nat.le_of_ble_eq_true rfl) dX11_feels_10 ⟨Nat.le_of_ble_eq_true rfl, Nat.le_of_ble_eq_true rfl⟩ (k1 := 0) (n1 := 0) rfl rfl ?_
    rintro r10 σ10 ⟨rfl, rfl⟩
    refine v_ineg G dX11_feels_13 ?_
    refine v_goto (tgt := 22) G dX11_feels_14 (by decide) ?_
    refine RET _ _ _ _ _ _ rfl (Nat.le_of_ble_eq_true rfl) (Nat.le_of_ble_eq_true rfl) dX11_feels_22 (fun ws hws => ⟨_, hws, ?_⟩)
    clear RET G hT hnm
    refine ⟨?_, rfl⟩
    grind
abbrev rmX12_feels : Room := { frames := 2, cells := 0, slots := 0, locals := 45 }
set_option maxHeartbeats 1000000 in
theorem kX12_feels {KT : (Nat → Prop) → State → Heap → Prop} (hK : KTok KT) (l : Launch) (dC : Nat → ClassId) (dI : Nat → Nat → Nat) (ct ad : Nat → Nat) (F : List (Nat × va_E)) (σ : MS) (q : Nat) (v : Int32) (hq : q < n_ (σ.1 11 0)) (hkd : kdOk σ q) : MC KT (dC, dI) vwCl (tysF ct) l yX12_feels cX12_feels 2 (some .int) rmX12_feels [.ref (ad (150 + q)), .int v] (RX ct ad F σ) (QI_ (dC, dI) vwCl (RX ct ad F) (fun (r : Int32) (σ' : MS) => (2 * (if v < 0 then 0 else v)) = r ∧ σ = σ')) := by
  refine MC.ofI (own := RX12) pl_X12 rfl (Nat.le_of_ble_eq_true rfl) ?_
  intro pp ee ss mm aa bb hh cc AA QQ G hT hnm RET
  refine v_loc (L' := [(0, .ref (ad (150 + q))), (1, .int v)]) rfl ?_
  refine v_iconst (v := 2) G dX12_feels_0 rfl ?_
  refine v_aload_n G 0 dX12_feels_1 rfl ?_
  refine v_iload_n G 1 dX12_feels_2 rfl ?_
  obtain ⟨C3, hC3⟩ := x_lrecv hq hkd
  refine w_callSUi G hK hT (kX10_feels hK l dC dI ct ad F σ q v (by first | assumption | omega) (by first | assumption | omega)) (cs_X12_28 G.2.2.2.2.1 ⟨Nat.le_of_ble_eq_true rfl, Nat.le_of_ble_eq_true rfl⟩) (hC3 ct ad F) (fun _ h => h) rfl [.int 2] rfl (Nat.le_of_ble_eq_true rfl) dX12_feels_3 ⟨Nat.le_of_ble_eq_true rfl, Nat.le_of_ble_eq_true rfl⟩ (k1 := 0) (n1 := 0) rfl rfl ?_
  rintro r3 σ3 ⟨rfl, rfl⟩
  refine v_imul G dX12_feels_6 ?_
  refine RET _ _ _ _ _ _ rfl (Nat.le_of_ble_eq_true rfl) (Nat.le_of_ble_eq_true rfl) dX12_feels_7 (fun ws hws => ⟨_, hws, ?_⟩)
  clear RET G hT hnm
  refine ⟨?_, rfl⟩
  grind
abbrev rmX13_feels : Room := { frames := 2, cells := 0, slots := 0, locals := 45 }
set_option maxHeartbeats 1000000 in
theorem kX13_feels {KT : (Nat → Prop) → State → Heap → Prop} (hK : KTok KT) (l : Launch) (dC : Nat → ClassId) (dI : Nat → Nat → Nat) (ct ad : Nat → Nat) (F : List (Nat × va_E)) (σ : MS) (q : Nat) (v : Int32) (hq : q < n_ (σ.1 11 0)) (hkd : kdOk σ q) : MC KT (dC, dI) vwCl (tysF ct) l yX13_feels cX13_feels 2 (some .int) rmX13_feels [.ref (ad (150 + q)), .int v] (RX ct ad F σ) (QI_ (dC, dI) vwCl (RX ct ad F) (fun (r : Int32) (σ' : MS) => ((if σ.1 10 (5 * q + 3) ≤ 2 then v else -v) + σ.1 10 (5 * q)) = r ∧ σ = σ')) := by
  refine MC.ofI (own := RX13) pl_X13 rfl (Nat.le_of_ble_eq_true rfl) ?_
  intro pp ee ss mm aa bb hh cc AA QQ G hT hnm RET
  refine v_loc (L' := [(0, .ref (ad (150 + q))), (1, .int v)]) rfl ?_
  refine v_aload_n G 0 dX13_feels_0 rfl ?_
  refine v_iload_n G 1 dX13_feels_1 rfl ?_
  obtain ⟨C2, hC2⟩ := x_lrecv hq hkd
  refine w_callSUi G hK hT (kX11_feels hK l dC dI ct ad F σ q v (by first | assumption | omega) (by first | assumption | omega)) (cs_X13_19 G.2.2.2.2.1 ⟨Nat.le_of_ble_eq_true rfl, Nat.le_of_ble_eq_true rfl⟩) (hC2 ct ad F) (fun _ h => h) rfl [] rfl (Nat.le_of_ble_eq_true rfl) dX13_feels_2 ⟨Nat.le_of_ble_eq_true rfl, Nat.le_of_ble_eq_true rfl⟩ (k1 := 0) (n1 := 0) rfl rfl ?_
  rintro r2 σ2 ⟨rfl, rfl⟩
  refine v_aload_n G 0 dX13_feels_5 rfl ?_
  obtain ⟨kd, hkd1, hkd2⟩ := id hkd
  refine x_lget G 0 q kd (by decide) hq hkd1 hkd2 q189 (fun x h => u_same (G.2.2.2.2.1 _ q190) x h) dX13_feels_6 ?_
  refine v_iadd G dX13_feels_9 ?_
  refine RET _ _ _ _ _ _ rfl (Nat.le_of_ble_eq_true rfl) (Nat.le_of_ble_eq_true rfl) dX13_feels_10 (fun ws hws => ⟨_, hws, ?_⟩)
  clear RET G hT hnm
  refine ⟨?_, rfl⟩
  grind
abbrev rmX14_feels : Room := { frames := 0, cells := 0, slots := 0, locals := 0 }
set_option maxHeartbeats 1000000 in
theorem kX14_feels {KT : (Nat → Prop) → State → Heap → Prop} (hK : KTok KT) (l : Launch) (dC : Nat → ClassId) (dI : Nat → Nat → Nat) (ct ad : Nat → Nat) (F : List (Nat × va_E)) (σ : MS) (q : Nat) (v : Int32) (hq : q < n_ (σ.1 11 0)) (hkd : kdOk σ q) : MC KT (dC, dI) vwCl (tysF ct) l yX14_feels cX14_feels 2 (some .int) rmX14_feels [.ref (ad (150 + q)), .int v] (RX ct ad F σ) (QI_ (dC, dI) vwCl (RX ct ad F) (fun (r : Int32) (σ' : MS) => 0 = r ∧ σ = σ')) := by
  refine MC.ofI (own := RX14) pl_X14 rfl (Nat.le_of_ble_eq_true rfl) ?_
  intro pp ee ss mm aa bb hh cc AA QQ G hT hnm RET
  refine v_loc (L' := [(0, .ref (ad (150 + q))), (1, .int v)]) rfl ?_
  refine v_iconst (v := 0) G dX14_feels_0 rfl ?_
  refine RET _ _ _ _ _ _ rfl (Nat.le_of_ble_eq_true rfl) (Nat.le_of_ble_eq_true rfl) dX14_feels_1 (fun ws hws => ⟨_, hws, ?_⟩)
  clear RET G hT hnm
  refine ⟨?_, rfl⟩
  grind
