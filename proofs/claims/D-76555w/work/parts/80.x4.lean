set_option maxRecDepth 100000
theorem lw_O {own owner : String} {idx : Nat} {C : String} {x y : MethodName} {b : ByteArray} {L : Nat} {r : Option FieldType} (h1 : Cond.methodLink own idx x ∈ lw_all) (h2 : Cond.sameMethod x.cls owner x.name x.desc ∈ lw_all) (h0 : Cond.instanceMethod ⟨owner, x.name, x.desc⟩ ∈ lw_all) (h3 : Cond.selects C x y ∈ lw_all) (h4 : Cond.instanceMethod y ∈ lw_all) (h5 : Cond.initialized y.cls ∈ lw_all) (h6 : Cond.code y b L r ∈ lw_all) : GoodIn lw_all (va_wsO own idx C owner x y (ws_ y b L r)) := by
  refine lw_app ?_ (lw_meth h6)
  intro w hw
  simp only [List.mem_cons, List.not_mem_nil, or_false] at hw
  rcases hw with rfl | rfl | rfl | rfl | rfl | rfl <;> assumption
def x_tk (K : GS) (q : Nat) (v one other yr : Int32) : Int32 := if K 10 (5 * q + 4) = 5 then s_rem (K 10 (5 * q)) 2 else if K 10 (5 * q + 4) = 2 then (if one ≤ other then 0 else 1) else if K 10 (5 * q + 4) = 4 then (if s_rem yr 3 = 0 then 0 else if one ≤ other then 0 else 1) else if K 10 (5 * q + 4) = 0 then (if s_rem v 2 = 0 then 0 else 1) else if K 10 (5 * q + 4) = 3 then (if K 10 (5 * q + 2) < 0 then 1 - (if K 10 (5 * q + 1) = K 10 (5 * q) then 1 else (if s_rem v 2 = 0 then 0 else 1)) else (if K 10 (5 * q + 1) = K 10 (5 * q) then 1 else (if s_rem v 2 = 0 then 0 else 1))) else (if K 10 (5 * q + 1) = K 10 (5 * q) then 1 else (if s_rem v 2 = 0 then 0 else 1))
def x_pb (K : GS) (q : Nat) (v : Int32) : Int32 := if K 10 (5 * q + 4) = 5 then 0 else s_putv K q v
def x_fe (K : GS) (q : Nat) (v : Int32) : Int32 := if K 10 (5 * q + 4) = 5 then 0 else s_feelv K q v
theorem cu_kind_0 {R rm : Room} {s : State} {args : Array Value} (hts : ∀ w ∈ lw_all, w.before args s = true) (hR : rm.frames + 1 ≤ R.frames ∧ 8 + (1 + 11) + rm.locals ≤ R.locals) : va_CU R s args RX0 RX9 RX9 113 yX9_kind yX9_kind cX9_kind 1 (some .int) (ws_ yX9_kind cX9_kind 1 (some .int)) rm rm.cells rm.slots 0 := va_cwO 0 hts (lw_O q307 q310 q308 q309 q308 q142 q318) rfl rfl rfl q318 (by decide +kernel) hR
theorem cu_kind_1 {R rm : Room} {s : State} {args : Array Value} (hts : ∀ w ∈ lw_all, w.before args s = true) (hR : rm.frames + 1 ≤ R.frames ∧ 8 + (1 + 11) + rm.locals ≤ R.locals) : va_CU R s args RX0 RX10 RX9 113 yX9_kind yX10_kind cX10_kind 1 (some .int) (ws_ yX10_kind cX10_kind 1 (some .int)) rm rm.cells rm.slots 0 := va_cwO 0 hts (lw_O q307 q310 q308 q320 q321 q143 q322) rfl rfl rfl q318 (by decide +kernel) hR
theorem cu_kind_2 {R rm : Room} {s : State} {args : Array Value} (hts : ∀ w ∈ lw_all, w.before args s = true) (hR : rm.frames + 1 ≤ R.frames ∧ 8 + (1 + 11) + rm.locals ≤ R.locals) : va_CU R s args RX0 RX11 RX9 113 yX9_kind yX11_kind cX11_kind 1 (some .int) (ws_ yX11_kind cX11_kind 1 (some .int)) rm rm.cells rm.slots 0 := va_cwO 0 hts (lw_O q307 q310 q308 q319 q315 q144 q316) rfl rfl rfl q318 (by decide +kernel) hR
theorem cu_kind_3 {R rm : Room} {s : State} {args : Array Value} (hts : ∀ w ∈ lw_all, w.before args s = true) (hR : rm.frames + 1 ≤ R.frames ∧ 8 + (1 + 11) + rm.locals ≤ R.locals) : va_CU R s args RX0 RX12 RX9 113 yX9_kind yX12_kind cX12_kind 1 (some .int) (ws_ yX12_kind cX12_kind 1 (some .int)) rm rm.cells rm.slots 0 := va_cwO 0 hts (lw_O q307 q310 q308 q324 q325 q145 q326) rfl rfl rfl q318 (by decide +kernel) hR
theorem cu_kind_4 {R rm : Room} {s : State} {args : Array Value} (hts : ∀ w ∈ lw_all, w.before args s = true) (hR : rm.frames + 1 ≤ R.frames ∧ 8 + (1 + 11) + rm.locals ≤ R.locals) : va_CU R s args RX0 RX13 RX9 113 yX9_kind yX13_kind cX13_kind 1 (some .int) (ws_ yX13_kind cX13_kind 1 (some .int)) rm rm.cells rm.slots 0 := va_cwO 0 hts (lw_O q307 q310 q308 q311 q312 q146 q313) rfl rfl rfl q318 (by decide +kernel) hR
theorem cu_kind_5 {R rm : Room} {s : State} {args : Array Value} (hts : ∀ w ∈ lw_all, w.before args s = true) (hR : rm.frames + 1 ≤ R.frames ∧ 8 + (1 + 11) + rm.locals ≤ R.locals) : va_CU R s args RX0 RX14 RX9 113 yX9_kind yX14_kind cX14_kind 1 (some .int) (ws_ yX14_kind cX14_kind 1 (some .int)) rm rm.cells rm.slots 0 := va_cwO 0 hts (lw_O q307 q310 q308 q328 q329 q147 q330) rfl rfl rfl q318 (by decide +kernel) hR
theorem x_vkind {KT : (Nat → Prop) → State → Heap → Prop} {p : Program} {l : Launch} {e : Env} {R : Room} {s : State} {m : MethodId} {args : Array Value} {below : List Frame} {meth : Method} {c : Code} {nL : Nat} {dC : Nat → ClassId} {dI : Nat → Nat → Nat} {ct ad : Nat → Nat} {F : List (Nat × va_E)} {A : Nat → Prop} {Q : State → Prop} {cells slots : Nat} {σ : MS} {pc : Nat} {L : List (Nat × Value)} {st : List Value} {cc : ByteArray} (G : Gx p s m args meth c RX0 cc nL (dC, dI) vwCl (tysF ct) A) (hK : KTok KT) (hT : KT A s s.heap) (q : Nat) (hq : q < n_ (σ.1 11 0)) (hkd0 : kdOk σ q) (hst : (st.map fun v => v.category).sum ≤ 8) (hd : decode cc pc = .ok (.invokevirtual 113, 3)) (hRf : 3 ≤ R.frames) (hRl : 64 ≤ R.locals) (hcs : cells ≤ R.cells ∧ slots ≤ R.slots) (kk : V_ p l e R s m args below meth c nL (dC, dI) vwCl A Q cells slots (RX ct ad F σ) (pc + 3) L (.int (σ.1 10 (5 * q + 4)) :: st)) : V_ p l e R s m args below meth c nL (dC, dI) vwCl A Q cells slots (RX ct ad F σ) pc L (.ref (ad (150 + q)) :: st) := by
  obtain ⟨kd, h1, h2⟩ := id hkd0
  have e : n_ (σ.1 10 (5 * q + 4)) = kd := by rw [h2]; exact nI_clamp (by omega)
  rcases (show kd = 0 ∨ kd = 1 ∨ kd = 2 ∨ kd = 3 ∨ kd = 4 ∨ kd = 5 by omega) with rfl | rfl | rfl | rfl | rfl | rfl
  · refine w_callUi G hK hT (kX9_kind hK l dC dI ct ad F σ q  hq hkd0) (cu_kind_0 G.2.2.2.2.1 ⟨Nat.le_trans (Nat.le_of_ble_eq_true rfl) hRf, Nat.le_trans (Nat.le_of_ble_eq_true rfl) hRl⟩) (fun ws h => ⟨2, _, _, (by have := RX.life hq h; unfold x_life at this; rw [e] at this; exact this), rfl, rfl⟩) (fun _ h => h) rfl st rfl hst hd ⟨hcs.1, hcs.2⟩ (k1 := cells) (n1 := slots) rfl rfl ?_
    rintro r σ' ⟨rfl, rfl⟩
    have ek : co σ 10 (5 * q + 4) = 0 := h2
    refine v_topr (congrArg Value.int (show _ = (σ.1 10 (5 * q + 4)) from ?_)) kk
    rw [show σ.1 10 (5 * q + 4) = 0 from h2]
  · refine w_callUi G hK hT (kX10_kind hK l dC dI ct ad F σ q  hq hkd0) (cu_kind_1 G.2.2.2.2.1 ⟨Nat.le_trans (Nat.le_of_ble_eq_true rfl) hRf, Nat.le_trans (Nat.le_of_ble_eq_true rfl) hRl⟩) (fun ws h => ⟨3, _, _, (by have := RX.life hq h; unfold x_life at this; rw [e] at this; exact this), rfl, rfl⟩) (fun _ h => h) rfl st rfl hst hd ⟨hcs.1, hcs.2⟩ (k1 := cells) (n1 := slots) rfl rfl ?_
    rintro r σ' ⟨rfl, rfl⟩
    have ek : co σ 10 (5 * q + 4) = 1 := h2
    refine v_topr (congrArg Value.int (show _ = (σ.1 10 (5 * q + 4)) from ?_)) kk
    rw [show σ.1 10 (5 * q + 4) = 1 from h2]
  · refine w_callUi G hK hT (kX11_kind hK l dC dI ct ad F σ q  hq hkd0) (cu_kind_2 G.2.2.2.2.1 ⟨Nat.le_trans (Nat.le_of_ble_eq_true rfl) hRf, Nat.le_trans (Nat.le_of_ble_eq_true rfl) hRl⟩) (fun ws h => ⟨4, _, _, (by have := RX.life hq h; unfold x_life at this; rw [e] at this; exact this), rfl, rfl⟩) (fun _ h => h) rfl st rfl hst hd ⟨hcs.1, hcs.2⟩ (k1 := cells) (n1 := slots) rfl rfl ?_
    rintro r σ' ⟨rfl, rfl⟩
    have ek : co σ 10 (5 * q + 4) = 2 := h2
    refine v_topr (congrArg Value.int (show _ = (σ.1 10 (5 * q + 4)) from ?_)) kk
    rw [show σ.1 10 (5 * q + 4) = 2 from h2]
  · refine w_callUi G hK hT (kX12_kind hK l dC dI ct ad F σ q  hq hkd0) (cu_kind_3 G.2.2.2.2.1 ⟨Nat.le_trans (Nat.le_of_ble_eq_true rfl) hRf, Nat.le_trans (Nat.le_of_ble_eq_true rfl) hRl⟩) (fun ws h => ⟨5, _, _, (by have := RX.life hq h; unfold x_life at this; rw [e] at this; exact this), rfl, rfl⟩) (fun _ h => h) rfl st rfl hst hd ⟨hcs.1, hcs.2⟩ (k1 := cells) (n1 := slots) rfl rfl ?_
    rintro r σ' ⟨rfl, rfl⟩
    have ek : co σ 10 (5 * q + 4) = 3 := h2
    refine v_topr (congrArg Value.int (show _ = (σ.1 10 (5 * q + 4)) from ?_)) kk
    rw [show σ.1 10 (5 * q + 4) = 3 from h2]
  · refine w_callUi G hK hT (kX13_kind hK l dC dI ct ad F σ q  hq hkd0) (cu_kind_4 G.2.2.2.2.1 ⟨Nat.le_trans (Nat.le_of_ble_eq_true rfl) hRf, Nat.le_trans (Nat.le_of_ble_eq_true rfl) hRl⟩) (fun ws h => ⟨6, _, _, (by have := RX.life hq h; unfold x_life at this; rw [e] at this; exact this), rfl, rfl⟩) (fun _ h => h) rfl st rfl hst hd ⟨hcs.1, hcs.2⟩ (k1 := cells) (n1 := slots) rfl rfl ?_
    rintro r σ' ⟨rfl, rfl⟩
    have ek : co σ 10 (5 * q + 4) = 4 := h2
    refine v_topr (congrArg Value.int (show _ = (σ.1 10 (5 * q + 4)) from ?_)) kk
    rw [show σ.1 10 (5 * q + 4) = 4 from h2]
  · refine w_callUi G hK hT (kX14_kind hK l dC dI ct ad F σ q  hq hkd0) (cu_kind_5 G.2.2.2.2.1 ⟨Nat.le_trans (Nat.le_of_ble_eq_true rfl) hRf, Nat.le_trans (Nat.le_of_ble_eq_true rfl) hRl⟩) (fun ws h => ⟨7, _, _, (by have := RX.life hq h; unfold x_life at this; rw [e] at this; exact this), rfl, rfl⟩) (fun _ h => h) rfl st rfl hst hd ⟨hcs.1, hcs.2⟩ (k1 := cells) (n1 := slots) rfl rfl ?_
    rintro r σ' ⟨rfl, rfl⟩
    have ek : co σ 10 (5 * q + 4) = 5 := h2
    refine v_topr (congrArg Value.int (show _ = (σ.1 10 (5 * q + 4)) from ?_)) kk
    rw [show σ.1 10 (5 * q + 4) = 5 from h2]
theorem cu_takes_0 {R rm : Room} {s : State} {args : Array Value} (hts : ∀ w ∈ lw_all, w.before args s = true) (hR : rm.frames + 1 ≤ R.frames ∧ 8 + (5 + 11) + rm.locals ≤ R.locals) : va_CU R s args RX0 RX9 RX9 365 yX9_takes yX9_takes cX9_takes 5 (some .int) (ws_ yX9_takes cX9_takes 5 (some .int)) rm rm.cells rm.slots 4 := va_cwO 4 hts (lw_O q366 q369 q367 q368 q367 q142 q381) rfl rfl rfl q381 (by decide +kernel) hR
theorem cu_takes_1 {R rm : Room} {s : State} {args : Array Value} (hts : ∀ w ∈ lw_all, w.before args s = true) (hR : rm.frames + 1 ≤ R.frames ∧ 8 + (5 + 11) + rm.locals ≤ R.locals) : va_CU R s args RX0 RX10 RX9 365 yX9_takes yX10_takes cX10_takes 5 (some .int) (ws_ yX10_takes cX10_takes 5 (some .int)) rm rm.cells rm.slots 4 := va_cwO 4 hts (lw_O q366 q369 q367 q377 q378 q143 q379) rfl rfl rfl q381 (by decide +kernel) hR
theorem cu_takes_2 {R rm : Room} {s : State} {args : Array Value} (hts : ∀ w ∈ lw_all, w.before args s = true) (hR : rm.frames + 1 ≤ R.frames ∧ 8 + (5 + 11) + rm.locals ≤ R.locals) : va_CU R s args RX0 RX11 RX9 365 yX9_takes yX11_takes cX11_takes 5 (some .int) (ws_ yX11_takes cX11_takes 5 (some .int)) rm rm.cells rm.slots 4 := va_cwO 4 hts (lw_O q366 q369 q367 q376 q374 q144 q375) rfl rfl rfl q381 (by decide +kernel) hR
theorem cu_takes_3 {R rm : Room} {s : State} {args : Array Value} (hts : ∀ w ∈ lw_all, w.before args s = true) (hR : rm.frames + 1 ≤ R.frames ∧ 8 + (6 + 11) + rm.locals ≤ R.locals) : va_CU R s args RX0 RX12 RX9 365 yX9_takes yX12_takes cX12_takes 6 (some .int) (ws_ yX12_takes cX12_takes 6 (some .int)) rm rm.cells rm.slots 4 := va_cwO 4 hts (lw_O q366 q369 q367 q382 q383 q145 q384) rfl rfl rfl q381 (by decide +kernel) hR
theorem cu_takes_4 {R rm : Room} {s : State} {args : Array Value} (hts : ∀ w ∈ lw_all, w.before args s = true) (hR : rm.frames + 1 ≤ R.frames ∧ 8 + (5 + 11) + rm.locals ≤ R.locals) : va_CU R s args RX0 RX13 RX9 365 yX9_takes yX13_takes cX13_takes 5 (some .int) (ws_ yX13_takes cX13_takes 5 (some .int)) rm rm.cells rm.slots 4 := va_cwO 4 hts (lw_O q366 q369 q367 q370 q371 q146 q372) rfl rfl rfl q381 (by decide +kernel) hR
theorem cu_takes_5 {R rm : Room} {s : State} {args : Array Value} (hts : ∀ w ∈ lw_all, w.before args s = true) (hR : rm.frames + 1 ≤ R.frames ∧ 8 + (5 + 11) + rm.locals ≤ R.locals) : va_CU R s args RX0 RX14 RX9 365 yX9_takes yX14_takes cX14_takes 5 (some .int) (ws_ yX14_takes cX14_takes 5 (some .int)) rm rm.cells rm.slots 4 := va_cwO 4 hts (lw_O q366 q369 q367 q386 q387 q147 q388) rfl rfl rfl q381 (by decide +kernel) hR
theorem x_vtakes {KT : (Nat → Prop) → State → Heap → Prop} {p : Program} {l : Launch} {e : Env} {R : Room} {s : State} {m : MethodId} {args : Array Value} {below : List Frame} {meth : Method} {c : Code} {nL : Nat} {dC : Nat → ClassId} {dI : Nat → Nat → Nat} {ct ad : Nat → Nat} {F : List (Nat × va_E)} {A : Nat → Prop} {Q : State → Prop} {cells slots : Nat} {σ : MS} {pc : Nat} {L : List (Nat × Value)} {st : List Value} {cc : ByteArray} (G : Gx p s m args meth c RX0 cc nL (dC, dI) vwCl (tysF ct) A) (hK : KTok KT) (hT : KT A s s.heap) (q : Nat) (v one other yr : Int32) (hq : q < n_ (σ.1 11 0)) (hkd0 : kdOk σ q) (hst : (st.map fun v => v.category).sum ≤ 8) (hd : decode cc pc = .ok (.invokevirtual 365, 3)) (hRf : 3 ≤ R.frames) (hRl : 73 ≤ R.locals) (hcs : cells ≤ R.cells ∧ slots ≤ R.slots) (kk : V_ p l e R s m args below meth c nL (dC, dI) vwCl A Q cells slots (RX ct ad F σ) (pc + 3) L (.int (x_tk (co σ) q v one other yr) :: st)) : V_ p l e R s m args below meth c nL (dC, dI) vwCl A Q cells slots (RX ct ad F σ) pc L (.int yr :: .int other :: .int one :: .int v :: .ref (ad (150 + q)) :: st) := by
  obtain ⟨kd, h1, h2⟩ := id hkd0
  have e : n_ (σ.1 10 (5 * q + 4)) = kd := by rw [h2]; exact nI_clamp (by omega)
  rcases (show kd = 0 ∨ kd = 1 ∨ kd = 2 ∨ kd = 3 ∨ kd = 4 ∨ kd = 5 by omega) with rfl | rfl | rfl | rfl | rfl | rfl
  · refine w_callUi G hK hT (kX9_takes hK l dC dI ct ad F σ q v one other yr hq hkd0) (cu_takes_0 G.2.2.2.2.1 ⟨Nat.le_trans (Nat.le_of_ble_eq_true rfl) hRf, Nat.le_trans (Nat.le_of_ble_eq_true rfl) hRl⟩) (fun ws h => ⟨2, _, _, (by have := RX.life hq h; unfold x_life at this; rw [e] at this; exact this), rfl, rfl⟩) (fun _ h => h) rfl st rfl hst hd ⟨hcs.1, hcs.2⟩ (k1 := cells) (n1 := slots) rfl rfl ?_
    rintro r σ' ⟨rfl, rfl⟩
    have ek : co σ 10 (5 * q + 4) = 0 := h2
    refine v_topr (congrArg Value.int (show _ = (x_tk (co σ) q v one other yr) from ?_)) kk
    simp only [x_tk, x_pb, x_fe, s_putv, s_feelv, ek]; rfl
  · refine w_callUi G hK hT (kX10_takes hK l dC dI ct ad F σ q v one other yr hq hkd0) (cu_takes_1 G.2.2.2.2.1 ⟨Nat.le_trans (Nat.le_of_ble_eq_true rfl) hRf, Nat.le_trans (Nat.le_of_ble_eq_true rfl) hRl⟩) (fun ws h => ⟨3, _, _, (by have := RX.life hq h; unfold x_life at this; rw [e] at this; exact this), rfl, rfl⟩) (fun _ h => h) rfl st rfl hst hd ⟨hcs.1, hcs.2⟩ (k1 := cells) (n1 := slots) rfl rfl ?_
    rintro r σ' ⟨rfl, rfl⟩
    have ek : co σ 10 (5 * q + 4) = 1 := h2
    refine v_topr (congrArg Value.int (show _ = (x_tk (co σ) q v one other yr) from ?_)) kk
    simp only [x_tk, x_pb, x_fe, s_putv, s_feelv, ek]; rfl
  · refine w_callUi G hK hT (kX11_takes hK l dC dI ct ad F σ q v one other yr hq hkd0) (cu_takes_2 G.2.2.2.2.1 ⟨Nat.le_trans (Nat.le_of_ble_eq_true rfl) hRf, Nat.le_trans (Nat.le_of_ble_eq_true rfl) hRl⟩) (fun ws h => ⟨4, _, _, (by have := RX.life hq h; unfold x_life at this; rw [e] at this; exact this), rfl, rfl⟩) (fun _ h => h) rfl st rfl hst hd ⟨hcs.1, hcs.2⟩ (k1 := cells) (n1 := slots) rfl rfl ?_
    rintro r σ' ⟨rfl, rfl⟩
    have ek : co σ 10 (5 * q + 4) = 2 := h2
    refine v_topr (congrArg Value.int (show _ = (x_tk (co σ) q v one other yr) from ?_)) kk
    simp only [x_tk, x_pb, x_fe, s_putv, s_feelv, ek]; rfl
  · refine w_callUi G hK hT (kX12_takes hK l dC dI ct ad F σ q v one other yr hq hkd0) (cu_takes_3 G.2.2.2.2.1 ⟨Nat.le_trans (Nat.le_of_ble_eq_true rfl) hRf, Nat.le_trans (Nat.le_of_ble_eq_true rfl) hRl⟩) (fun ws h => ⟨5, _, _, (by have := RX.life hq h; unfold x_life at this; rw [e] at this; exact this), rfl, rfl⟩) (fun _ h => h) rfl st rfl hst hd ⟨hcs.1, hcs.2⟩ (k1 := cells) (n1 := slots) rfl rfl ?_
    rintro r σ' ⟨rfl, rfl⟩
    have ek : co σ 10 (5 * q + 4) = 3 := h2
    refine v_topr (congrArg Value.int (show _ = (x_tk (co σ) q v one other yr) from ?_)) kk
    simp only [x_tk, x_pb, x_fe, s_putv, s_feelv, ek]; rfl
  · refine w_callUi G hK hT (kX13_takes hK l dC dI ct ad F σ q v one other yr hq hkd0) (cu_takes_4 G.2.2.2.2.1 ⟨Nat.le_trans (Nat.le_of_ble_eq_true rfl) hRf, Nat.le_trans (Nat.le_of_ble_eq_true rfl) hRl⟩) (fun ws h => ⟨6, _, _, (by have := RX.life hq h; unfold x_life at this; rw [e] at this; exact this), rfl, rfl⟩) (fun _ h => h) rfl st rfl hst hd ⟨hcs.1, hcs.2⟩ (k1 := cells) (n1 := slots) rfl rfl ?_
    rintro r σ' ⟨rfl, rfl⟩
    have ek : co σ 10 (5 * q + 4) = 4 := h2
    refine v_topr (congrArg Value.int (show _ = (x_tk (co σ) q v one other yr) from ?_)) kk
    simp only [x_tk, x_pb, x_fe, s_putv, s_feelv, ek]; rfl
  · refine w_callUi G hK hT (kX14_takes hK l dC dI ct ad F σ q v one other yr hq hkd0) (cu_takes_5 G.2.2.2.2.1 ⟨Nat.le_trans (Nat.le_of_ble_eq_true rfl) hRf, Nat.le_trans (Nat.le_of_ble_eq_true rfl) hRl⟩) (fun ws h => ⟨7, _, _, (by have := RX.life hq h; unfold x_life at this; rw [e] at this; exact this), rfl, rfl⟩) (fun _ h => h) rfl st rfl hst hd ⟨hcs.1, hcs.2⟩ (k1 := cells) (n1 := slots) rfl rfl ?_
    rintro r σ' ⟨rfl, rfl⟩
    have ek : co σ 10 (5 * q + 4) = 5 := h2
    refine v_topr (congrArg Value.int (show _ = (x_tk (co σ) q v one other yr) from ?_)) kk
    simp only [x_tk, x_pb, x_fe, s_putv, s_feelv, ek]; rfl
theorem cu_putsBy_0 {R rm : Room} {s : State} {args : Array Value} (hts : ∀ w ∈ lw_all, w.before args s = true) (hR : rm.frames + 1 ≤ R.frames ∧ 8 + (2 + 11) + rm.locals ≤ R.locals) : va_CU R s args RX0 RX9 RX9 368 yX9_putsBy yX9_putsBy cX9_putsBy 2 (some .int) (ws_ yX9_putsBy cX9_putsBy 2 (some .int)) rm rm.cells rm.slots 1 := va_cwO 1 hts (lw_O q393 q396 q394 q395 q394 q142 q404) rfl rfl rfl q404 (by decide +kernel) hR
theorem cu_putsBy_1 {R rm : Room} {s : State} {args : Array Value} (hts : ∀ w ∈ lw_all, w.before args s = true) (hR : rm.frames + 1 ≤ R.frames ∧ 8 + (2 + 11) + rm.locals ≤ R.locals) : va_CU R s args RX0 RX10 RX9 368 yX9_putsBy yX10_putsBy cX10_putsBy 2 (some .int) (ws_ yX10_putsBy cX10_putsBy 2 (some .int)) rm rm.cells rm.slots 1 := va_cwO 1 hts (lw_O q393 q396 q394 q406 q407 q143 q408) rfl rfl rfl q404 (by decide +kernel) hR
theorem cu_putsBy_2 {R rm : Room} {s : State} {args : Array Value} (hts : ∀ w ∈ lw_all, w.before args s = true) (hR : rm.frames + 1 ≤ R.frames ∧ 8 + (2 + 11) + rm.locals ≤ R.locals) : va_CU R s args RX0 RX11 RX9 368 yX9_putsBy yX11_putsBy cX11_putsBy 2 (some .int) (ws_ yX11_putsBy cX11_putsBy 2 (some .int)) rm rm.cells rm.slots 1 := va_cwO 1 hts (lw_O q393 q396 q394 q405 q401 q144 q402) rfl rfl rfl q404 (by decide +kernel) hR
theorem cu_putsBy_3 {R rm : Room} {s : State} {args : Array Value} (hts : ∀ w ∈ lw_all, w.before args s = true) (hR : rm.frames + 1 ≤ R.frames ∧ 8 + (2 + 11) + rm.locals ≤ R.locals) : va_CU R s args RX0 RX12 RX9 368 yX9_putsBy yX12_putsBy cX12_putsBy 2 (some .int) (ws_ yX12_putsBy cX12_putsBy 2 (some .int)) rm rm.cells rm.slots 1 := va_cwO 1 hts (lw_O q393 q396 q394 q410 q411 q145 q412) rfl rfl rfl q404 (by decide +kernel) hR
theorem cu_putsBy_4 {R rm : Room} {s : State} {args : Array Value} (hts : ∀ w ∈ lw_all, w.before args s = true) (hR : rm.frames + 1 ≤ R.frames ∧ 8 + (2 + 11) + rm.locals ≤ R.locals) : va_CU R s args RX0 RX13 RX9 368 yX9_putsBy yX13_putsBy cX13_putsBy 2 (some .int) (ws_ yX13_putsBy cX13_putsBy 2 (some .int)) rm rm.cells rm.slots 1 := va_cwO 1 hts (lw_O q393 q396 q394 q397 q398 q146 q399) rfl rfl rfl q404 (by decide +kernel) hR
theorem cu_putsBy_5 {R rm : Room} {s : State} {args : Array Value} (hts : ∀ w ∈ lw_all, w.before args s = true) (hR : rm.frames + 1 ≤ R.frames ∧ 8 + (2 + 11) + rm.locals ≤ R.locals) : va_CU R s args RX0 RX14 RX9 368 yX9_putsBy yX14_putsBy cX14_putsBy 2 (some .int) (ws_ yX14_putsBy cX14_putsBy 2 (some .int)) rm rm.cells rm.slots 1 := va_cwO 1 hts (lw_O q393 q396 q394 q414 q415 q147 q416) rfl rfl rfl q404 (by decide +kernel) hR
theorem x_vputsBy {KT : (Nat → Prop) → State → Heap → Prop} {p : Program} {l : Launch} {e : Env} {R : Room} {s : State} {m : MethodId} {args : Array Value} {below : List Frame} {meth : Method} {c : Code} {nL : Nat} {dC : Nat → ClassId} {dI : Nat → Nat → Nat} {ct ad : Nat → Nat} {F : List (Nat × va_E)} {A : Nat → Prop} {Q : State → Prop} {cells slots : Nat} {σ : MS} {pc : Nat} {L : List (Nat × Value)} {st : List Value} {cc : ByteArray} (G : Gx p s m args meth c RX0 cc nL (dC, dI) vwCl (tysF ct) A) (hK : KTok KT) (hT : KT A s s.heap) (q : Nat) (v : Int32) (hq : q < n_ (σ.1 11 0)) (hkd0 : kdOk σ q) (hst : (st.map fun v => v.category).sum ≤ 8) (hd : decode cc pc = .ok (.invokevirtual 368, 3)) (hRf : 3 ≤ R.frames) (hRl : 66 ≤ R.locals) (hcs : cells ≤ R.cells ∧ slots ≤ R.slots) (kk : V_ p l e R s m args below meth c nL (dC, dI) vwCl A Q cells slots (RX ct ad F σ) (pc + 3) L (.int (x_pb (co σ) q v) :: st)) : V_ p l e R s m args below meth c nL (dC, dI) vwCl A Q cells slots (RX ct ad F σ) pc L (.int v :: .ref (ad (150 + q)) :: st) := by
  obtain ⟨kd, h1, h2⟩ := id hkd0
  have e : n_ (σ.1 10 (5 * q + 4)) = kd := by rw [h2]; exact nI_clamp (by omega)
  rcases (show kd = 0 ∨ kd = 1 ∨ kd = 2 ∨ kd = 3 ∨ kd = 4 ∨ kd = 5 by omega) with rfl | rfl | rfl | rfl | rfl | rfl
  · refine w_callUi G hK hT (kX9_putsBy hK l dC dI ct ad F σ q v hq hkd0) (cu_putsBy_0 G.2.2.2.2.1 ⟨Nat.le_trans (Nat.le_of_ble_eq_true rfl) hRf, Nat.le_trans (Nat.le_of_ble_eq_true rfl) hRl⟩) (fun ws h => ⟨2, _, _, (by have := RX.life hq h; unfold x_life at this; rw [e] at this; exact this), rfl, rfl⟩) (fun _ h => h) rfl st rfl hst hd ⟨hcs.1, hcs.2⟩ (k1 := cells) (n1 := slots) rfl rfl ?_
    rintro r σ' ⟨rfl, rfl⟩
    have ek : co σ 10 (5 * q + 4) = 0 := h2
    refine v_topr (congrArg Value.int (show _ = (x_pb (co σ) q v) from ?_)) kk
    simp only [x_tk, x_pb, x_fe, s_putv, s_feelv, ek]; rfl
  · refine w_callUi G hK hT (kX10_putsBy hK l dC dI ct ad F σ q v hq hkd0) (cu_putsBy_1 G.2.2.2.2.1 ⟨Nat.le_trans (Nat.le_of_ble_eq_true rfl) hRf, Nat.le_trans (Nat.le_of_ble_eq_true rfl) hRl⟩) (fun ws h => ⟨3, _, _, (by have := RX.life hq h; unfold x_life at this; rw [e] at this; exact this), rfl, rfl⟩) (fun _ h => h) rfl st rfl hst hd ⟨hcs.1, hcs.2⟩ (k1 := cells) (n1 := slots) rfl rfl ?_
    rintro r σ' ⟨rfl, rfl⟩
    have ek : co σ 10 (5 * q + 4) = 1 := h2
    refine v_topr (congrArg Value.int (show _ = (x_pb (co σ) q v) from ?_)) kk
    simp only [x_tk, x_pb, x_fe, s_putv, s_feelv, ek]; rfl
  · refine w_callUi G hK hT (kX11_putsBy hK l dC dI ct ad F σ q v hq hkd0) (cu_putsBy_2 G.2.2.2.2.1 ⟨Nat.le_trans (Nat.le_of_ble_eq_true rfl) hRf, Nat.le_trans (Nat.le_of_ble_eq_true rfl) hRl⟩) (fun ws h => ⟨4, _, _, (by have := RX.life hq h; unfold x_life at this; rw [e] at this; exact this), rfl, rfl⟩) (fun _ h => h) rfl st rfl hst hd ⟨hcs.1, hcs.2⟩ (k1 := cells) (n1 := slots) rfl rfl ?_
    rintro r σ' ⟨rfl, rfl⟩
    have ek : co σ 10 (5 * q + 4) = 2 := h2
    refine v_topr (congrArg Value.int (show _ = (x_pb (co σ) q v) from ?_)) kk
    simp only [x_tk, x_pb, x_fe, s_putv, s_feelv, ek]; rfl
  · refine w_callUi G hK hT (kX12_putsBy hK l dC dI ct ad F σ q v hq hkd0) (cu_putsBy_3 G.2.2.2.2.1 ⟨Nat.le_trans (Nat.le_of_ble_eq_true rfl) hRf, Nat.le_trans (Nat.le_of_ble_eq_true rfl) hRl⟩) (fun ws h => ⟨5, _, _, (by have := RX.life hq h; unfold x_life at this; rw [e] at this; exact this), rfl, rfl⟩) (fun _ h => h) rfl st rfl hst hd ⟨hcs.1, hcs.2⟩ (k1 := cells) (n1 := slots) rfl rfl ?_
    rintro r σ' ⟨rfl, rfl⟩
    have ek : co σ 10 (5 * q + 4) = 3 := h2
    refine v_topr (congrArg Value.int (show _ = (x_pb (co σ) q v) from ?_)) kk
    simp only [x_tk, x_pb, x_fe, s_putv, s_feelv, ek]; rfl
  · refine w_callUi G hK hT (kX13_putsBy hK l dC dI ct ad F σ q v hq hkd0) (cu_putsBy_4 G.2.2.2.2.1 ⟨Nat.le_trans (Nat.le_of_ble_eq_true rfl) hRf, Nat.le_trans (Nat.le_of_ble_eq_true rfl) hRl⟩) (fun ws h => ⟨6, _, _, (by have := RX.life hq h; unfold x_life at this; rw [e] at this; exact this), rfl, rfl⟩) (fun _ h => h) rfl st rfl hst hd ⟨hcs.1, hcs.2⟩ (k1 := cells) (n1 := slots) rfl rfl ?_
    rintro r σ' ⟨rfl, rfl⟩
    have ek : co σ 10 (5 * q + 4) = 4 := h2
    refine v_topr (congrArg Value.int (show _ = (x_pb (co σ) q v) from ?_)) kk
    simp only [x_tk, x_pb, x_fe, s_putv, s_feelv, ek]; rfl
  · refine w_callUi G hK hT (kX14_putsBy hK l dC dI ct ad F σ q v hq hkd0) (cu_putsBy_5 G.2.2.2.2.1 ⟨Nat.le_trans (Nat.le_of_ble_eq_true rfl) hRf, Nat.le_trans (Nat.le_of_ble_eq_true rfl) hRl⟩) (fun ws h => ⟨7, _, _, (by have := RX.life hq h; unfold x_life at this; rw [e] at this; exact this), rfl, rfl⟩) (fun _ h => h) rfl st rfl hst hd ⟨hcs.1, hcs.2⟩ (k1 := cells) (n1 := slots) rfl rfl ?_
    rintro r σ' ⟨rfl, rfl⟩
    have ek : co σ 10 (5 * q + 4) = 5 := h2
    refine v_topr (congrArg Value.int (show _ = (x_pb (co σ) q v) from ?_)) kk
    simp only [x_tk, x_pb, x_fe, s_putv, s_feelv, ek]; rfl
theorem cu_feels_0 {R rm : Room} {s : State} {args : Array Value} (hts : ∀ w ∈ lw_all, w.before args s = true) (hR : rm.frames + 1 ≤ R.frames ∧ 8 + (2 + 11) + rm.locals ≤ R.locals) : va_CU R s args RX0 RX9 RX9 371 yX9_feels yX9_feels cX9_feels 2 (some .int) (ws_ yX9_feels cX9_feels 2 (some .int)) rm rm.cells rm.slots 1 := va_cwO 1 hts (lw_O q909 q912 q910 q911 q910 q142 q920) rfl rfl rfl q920 (by decide +kernel) hR
theorem cu_feels_1 {R rm : Room} {s : State} {args : Array Value} (hts : ∀ w ∈ lw_all, w.before args s = true) (hR : rm.frames + 1 ≤ R.frames ∧ 8 + (2 + 11) + rm.locals ≤ R.locals) : va_CU R s args RX0 RX10 RX9 371 yX9_feels yX10_feels cX10_feels 2 (some .int) (ws_ yX10_feels cX10_feels 2 (some .int)) rm rm.cells rm.slots 1 := va_cwO 1 hts (lw_O q909 q912 q910 q922 q923 q143 q924) rfl rfl rfl q920 (by decide +kernel) hR
theorem cu_feels_2 {R rm : Room} {s : State} {args : Array Value} (hts : ∀ w ∈ lw_all, w.before args s = true) (hR : rm.frames + 1 ≤ R.frames ∧ 8 + (2 + 11) + rm.locals ≤ R.locals) : va_CU R s args RX0 RX11 RX9 371 yX9_feels yX11_feels cX11_feels 2 (some .int) (ws_ yX11_feels cX11_feels 2 (some .int)) rm rm.cells rm.slots 1 := va_cwO 1 hts (lw_O q909 q912 q910 q921 q917 q144 q918) rfl rfl rfl q920 (by decide +kernel) hR
theorem cu_feels_3 {R rm : Room} {s : State} {args : Array Value} (hts : ∀ w ∈ lw_all, w.before args s = true) (hR : rm.frames + 1 ≤ R.frames ∧ 8 + (2 + 11) + rm.locals ≤ R.locals) : va_CU R s args RX0 RX12 RX9 371 yX9_feels yX12_feels cX12_feels 2 (some .int) (ws_ yX12_feels cX12_feels 2 (some .int)) rm rm.cells rm.slots 1 := va_cwO 1 hts (lw_O q909 q912 q910 q927 q928 q145 q929) rfl rfl rfl q920 (by decide +kernel) hR
theorem cu_feels_4 {R rm : Room} {s : State} {args : Array Value} (hts : ∀ w ∈ lw_all, w.before args s = true) (hR : rm.frames + 1 ≤ R.frames ∧ 8 + (2 + 11) + rm.locals ≤ R.locals) : va_CU R s args RX0 RX13 RX9 371 yX9_feels yX13_feels cX13_feels 2 (some .int) (ws_ yX13_feels cX13_feels 2 (some .int)) rm rm.cells rm.slots 1 := va_cwO 1 hts (lw_O q909 q912 q910 q913 q914 q146 q915) rfl rfl rfl q920 (by decide +kernel) hR
theorem cu_feels_5 {R rm : Room} {s : State} {args : Array Value} (hts : ∀ w ∈ lw_all, w.before args s = true) (hR : rm.frames + 1 ≤ R.frames ∧ 8 + (2 + 11) + rm.locals ≤ R.locals) : va_CU R s args RX0 RX14 RX9 371 yX9_feels yX14_feels cX14_feels 2 (some .int) (ws_ yX14_feels cX14_feels 2 (some .int)) rm rm.cells rm.slots 1 := va_cwO 1 hts (lw_O q909 q912 q910 q931 q932 q147 q933) rfl rfl rfl q920 (by decide +kernel) hR
theorem x_vfeels {KT : (Nat → Prop) → State → Heap → Prop} {p : Program} {l : Launch} {e : Env} {R : Room} {s : State} {m : MethodId} {args : Array Value} {below : List Frame} {meth : Method} {c : Code} {nL : Nat} {dC : Nat → ClassId} {dI : Nat → Nat → Nat} {ct ad : Nat → Nat} {F : List (Nat × va_E)} {A : Nat → Prop} {Q : State → Prop} {cells slots : Nat} {σ : MS} {pc : Nat} {L : List (Nat × Value)} {st : List Value} {cc : ByteArray} (G : Gx p s m args meth c RX0 cc nL (dC, dI) vwCl (tysF ct) A) (hK : KTok KT) (hT : KT A s s.heap) (q : Nat) (v : Int32) (hq : q < n_ (σ.1 11 0)) (hkd0 : kdOk σ q) (hst : (st.map fun v => v.category).sum ≤ 8) (hd : decode cc pc = .ok (.invokevirtual 371, 3)) (hRf : 3 ≤ R.frames) (hRl : 66 ≤ R.locals) (hcs : cells ≤ R.cells ∧ slots ≤ R.slots) (kk : V_ p l e R s m args below meth c nL (dC, dI) vwCl A Q cells slots (RX ct ad F σ) (pc + 3) L (.int (x_fe (co σ) q v) :: st)) : V_ p l e R s m args below meth c nL (dC, dI) vwCl A Q cells slots (RX ct ad F σ) pc L (.int v :: .ref (ad (150 + q)) :: st) := by
  obtain ⟨kd, h1, h2⟩ := id hkd0
  have e : n_ (σ.1 10 (5 * q + 4)) = kd := by rw [h2]; exact nI_clamp (by omega)
  rcases (show kd = 0 ∨ kd = 1 ∨ kd = 2 ∨ kd = 3 ∨ kd = 4 ∨ kd = 5 by omega) with rfl | rfl | rfl | rfl | rfl | rfl
  · refine w_callUi G hK hT (kX9_feels hK l dC dI ct ad F σ q v hq hkd0) (cu_feels_0 G.2.2.2.2.1 ⟨Nat.le_trans (Nat.le_of_ble_eq_true rfl) hRf, Nat.le_trans (Nat.le_of_ble_eq_true rfl) hRl⟩) (fun ws h => ⟨2, _, _, (by have := RX.life hq h; unfold x_life at this; rw [e] at this; exact this), rfl, rfl⟩) (fun _ h => h) rfl st rfl hst hd ⟨hcs.1, hcs.2⟩ (k1 := cells) (n1 := slots) rfl rfl ?_
    rintro r σ' ⟨rfl, rfl⟩
    have ek : co σ 10 (5 * q + 4) = 0 := h2
    refine v_topr (congrArg Value.int (show _ = (x_fe (co σ) q v) from ?_)) kk
    simp only [x_tk, x_pb, x_fe, s_putv, s_feelv, ek]; rfl
  · refine w_callUi G hK hT (kX10_feels hK l dC dI ct ad F σ q v hq hkd0) (cu_feels_1 G.2.2.2.2.1 ⟨Nat.le_trans (Nat.le_of_ble_eq_true rfl) hRf, Nat.le_trans (Nat.le_of_ble_eq_true rfl) hRl⟩) (fun ws h => ⟨3, _, _, (by have := RX.life hq h; unfold x_life at this; rw [e] at this; exact this), rfl, rfl⟩) (fun _ h => h) rfl st rfl hst hd ⟨hcs.1, hcs.2⟩ (k1 := cells) (n1 := slots) rfl rfl ?_
    rintro r σ' ⟨rfl, rfl⟩
    have ek : co σ 10 (5 * q + 4) = 1 := h2
    refine v_topr (congrArg Value.int (show _ = (x_fe (co σ) q v) from ?_)) kk
    simp only [x_tk, x_pb, x_fe, s_putv, s_feelv, ek]; rfl
  · refine w_callUi G hK hT (kX11_feels hK l dC dI ct ad F σ q v hq hkd0) (cu_feels_2 G.2.2.2.2.1 ⟨Nat.le_trans (Nat.le_of_ble_eq_true rfl) hRf, Nat.le_trans (Nat.le_of_ble_eq_true rfl) hRl⟩) (fun ws h => ⟨4, _, _, (by have := RX.life hq h; unfold x_life at this; rw [e] at this; exact this), rfl, rfl⟩) (fun _ h => h) rfl st rfl hst hd ⟨hcs.1, hcs.2⟩ (k1 := cells) (n1 := slots) rfl rfl ?_
    rintro r σ' ⟨rfl, rfl⟩
    have ek : co σ 10 (5 * q + 4) = 2 := h2
    refine v_topr (congrArg Value.int (show _ = (x_fe (co σ) q v) from ?_)) kk
    simp only [x_tk, x_pb, x_fe, s_putv, s_feelv, ek]; rfl
  · refine w_callUi G hK hT (kX12_feels hK l dC dI ct ad F σ q v hq hkd0) (cu_feels_3 G.2.2.2.2.1 ⟨Nat.le_trans (Nat.le_of_ble_eq_true rfl) hRf, Nat.le_trans (Nat.le_of_ble_eq_true rfl) hRl⟩) (fun ws h => ⟨5, _, _, (by have := RX.life hq h; unfold x_life at this; rw [e] at this; exact this), rfl, rfl⟩) (fun _ h => h) rfl st rfl hst hd ⟨hcs.1, hcs.2⟩ (k1 := cells) (n1 := slots) rfl rfl ?_
    rintro r σ' ⟨rfl, rfl⟩
    have ek : co σ 10 (5 * q + 4) = 3 := h2
    refine v_topr (congrArg Value.int (show _ = (x_fe (co σ) q v) from ?_)) kk
    simp only [x_tk, x_pb, x_fe, s_putv, s_feelv, ek]; rfl
  · refine w_callUi G hK hT (kX13_feels hK l dC dI ct ad F σ q v hq hkd0) (cu_feels_4 G.2.2.2.2.1 ⟨Nat.le_trans (Nat.le_of_ble_eq_true rfl) hRf, Nat.le_trans (Nat.le_of_ble_eq_true rfl) hRl⟩) (fun ws h => ⟨6, _, _, (by have := RX.life hq h; unfold x_life at this; rw [e] at this; exact this), rfl, rfl⟩) (fun _ h => h) rfl st rfl hst hd ⟨hcs.1, hcs.2⟩ (k1 := cells) (n1 := slots) rfl rfl ?_
    rintro r σ' ⟨rfl, rfl⟩
    have ek : co σ 10 (5 * q + 4) = 4 := h2
    refine v_topr (congrArg Value.int (show _ = (x_fe (co σ) q v) from ?_)) kk
    simp only [x_tk, x_pb, x_fe, s_putv, s_feelv, ek]; rfl
  · refine w_callUi G hK hT (kX14_feels hK l dC dI ct ad F σ q v hq hkd0) (cu_feels_5 G.2.2.2.2.1 ⟨Nat.le_trans (Nat.le_of_ble_eq_true rfl) hRf, Nat.le_trans (Nat.le_of_ble_eq_true rfl) hRl⟩) (fun ws h => ⟨7, _, _, (by have := RX.life hq h; unfold x_life at this; rw [e] at this; exact this), rfl, rfl⟩) (fun _ h => h) rfl st rfl hst hd ⟨hcs.1, hcs.2⟩ (k1 := cells) (n1 := slots) rfl rfl ?_
    rintro r σ' ⟨rfl, rfl⟩
    have ek : co σ 10 (5 * q + 4) = 5 := h2
    refine v_topr (congrArg Value.int (show _ = (x_fe (co σ) q v) from ?_)) kk
    simp only [x_tk, x_pb, x_fe, s_putv, s_feelv, ek]; rfl
