/-! CALLS OF A SUPER METHOD, CALLS BY THE OBJECT'S OWN CLASS -/
set_option maxRecDepth 100000
theorem lw_SU {own : String} {idx : Nat} {y : MethodName} {b : ByteArray} {L : Nat} {r : Option FieldType} (h1 : Cond.methodLink own idx y ∈ lw_all) (h2 : Cond.sameMethod y.cls y.cls y.name y.desc ∈ lw_all) (h3 : Cond.superclass own y.cls ∈ lw_all) (h4 : Cond.instanceMethod y ∈ lw_all) (h5 : Cond.initialized y.cls ∈ lw_all) (h6 : Cond.code y b L r ∈ lw_all) : GoodIn lw_all (va_wsSU own idx y (ws_ y b L r)) := by
  refine lw_app ?_ (lw_meth h6)
  intro w hw
  simp only [List.mem_cons, List.not_mem_nil, or_false] at hw
  rcases hw with rfl | rfl | rfl | rfl | rfl <;> assumption
theorem lw_U {own owner : String} {idx : Nat} {C : String} {x y : MethodName} {b : ByteArray} {L : Nat} {r : Option FieldType} (h1 : Cond.methodLink own idx x ∈ lw_all) (h2 : Cond.sameMethod x.cls owner x.name x.desc ∈ lw_all) (h3 : Cond.selects C x y ∈ lw_all) (h4 : Cond.instanceMethod y ∈ lw_all) (h5 : Cond.initialized y.cls ∈ lw_all) (h6 : Cond.code y b L r ∈ lw_all) : GoodIn lw_all (va_wsU own idx C owner x y (ws_ y b L r)) := by
  refine lw_app ?_ (lw_meth h6)
  intro w hw
  simp only [List.mem_cons, List.not_mem_nil, or_false] at hw
  rcases hw with rfl | rfl | rfl | rfl | rfl <;> assumption
section VM
variable {KT : (Nat → Prop) → State → Heap → Prop} {p : Program} {l : Launch} {e : Env} {R : Room} {s : State} {m : MethodId} {args : Array Value} {below : List Frame} {meth : Method} {c : Code} {nL : Nat} {D : va_G} {cl : List vw_C} {A : Nat → Prop} {Q : State → Prop} {cells slots : Nat} {Φ Ψ : va_W → Prop} {pc : Nat} {L L' : List (Nat × Value)} {st stk : List Value} {own : String} {cc : ByteArray} {tys : List (ClassId × FieldType)}
theorem w_callSUi {y : MethodName} {bytes : ByteArray} {maxL n idx k1 n1 : Nat} {ret : Option FieldType} {rm : Room} {As : List Value} {b : Nat} {C : String} {S : Type} {Rep : S → va_W → Prop} {post : Int32 → S → Prop} {Ψ : va_W → Prop} (G : Gx p s m args meth c own cc nL D cl tys A) (hK : KTok KT) (hT : KT A s s.heap) (hM : MC KT D cl tys l y bytes maxL ret rm (.ref b :: As) Ψ (QI_ D cl Rep post)) (cw : va_CS R s args own idx y bytes maxL ret (ws_ y bytes maxL ret) rm rm.cells rm.slots n) (hrecv : ∀ ws, Φ ws → ∃ (ci : Nat) (fs : List Value) (q : vw_C), (b, Sum.inr (ci, fs)) ∈ ws ∧ cl[ci]? = some q ∧ q.1 = C) (hΦ : ∀ ws, Φ ws → Ψ ws) (hn : As.length = n) (st : List Value) (hstk : As.reverse ++ .ref b :: st = stk) (hst : (st.map fun v => v.category).sum ≤ 8) (hd : decode cc pc = .ok (.invokespecial idx, 3)) (hf : cells + rm.cells ≤ R.cells ∧ slots + rm.slots ≤ R.slots) (hc : cells + rm.cells = k1) (hs : slots + rm.slots = n1)
    (kk : ∀ (r : Int32) (σ' : S), post r σ' → V_ p l e R s m args below meth c nL D cl A Q k1 n1 (Rep σ') (pc + 3) L (.int r :: st)) : V_ p l e R s m args below meth c nL D cl A Q cells slots Φ pc L stk := by
  intro ls H locs ws h1 h2 h3 h4 h5
  subst hstk; subst hc; subst hs
  obtain ⟨ci, fs, q, hm, hcl, hq1⟩ := hrecv ws h5
  subst hq1
  obtain ⟨q0, hq⟩ := List.getElem?_of_mem hm
  have hF := wF G h3 h4
  refine va_calli (va_runSU (As := As) (rest := st) (G.2.2.2.2.2.1.1 ci q hcl).2 ⟨G.1, G.2.1, G.2.2.1, G.2.2.2.1, G.2.2.2.2.1⟩ (hM ws H.size (hΦ ws h5)) cw ⟨PB_blind hK, va_recv G.2.2.2.2.2.1 h2 hcl hq, wPre G hK hT h2 h3 h4⟩ rfl hn h1.1 rfl (lv_room hst) hd hf) h4 (fun q _ h => hF q h) hF (fun r u t H1 locs1 ht hvm hpost hB hz hk hS1 => ?_)
  obtain ⟨hP1, hD1, hR1⟩ := hB
  rw [ht] at hP1
  exact kk r u.1 hpost ls H1 locs1 u.2 h1 hP1 (hD1.weaken (fun k q _ h => hF q.1 h)) hS1 hR1
theorem w_callUi {x y : MethodName} {owner : String} {bytes : ByteArray} {maxL n idx k1 n1 : Nat} {ret : Option FieldType} {rm : Room} {As : List Value} {b : Nat} {C : String} {S : Type} {Rep : S → va_W → Prop} {post : Int32 → S → Prop} {Ψ : va_W → Prop} (G : Gx p s m args meth c own cc nL D cl tys A) (hK : KTok KT) (hT : KT A s s.heap) (hM : MC KT D cl tys l y bytes maxL ret rm (.ref b :: As) Ψ (QI_ D cl Rep post)) (cw : va_CU R s args own C owner idx x y bytes maxL ret (ws_ y bytes maxL ret) rm rm.cells rm.slots n) (hrecv : ∀ ws, Φ ws → ∃ (ci : Nat) (fs : List Value) (q : vw_C), (b, Sum.inr (ci, fs)) ∈ ws ∧ cl[ci]? = some q ∧ q.1 = C) (hΦ : ∀ ws, Φ ws → Ψ ws) (hn : As.length = n) (st : List Value) (hstk : As.reverse ++ .ref b :: st = stk) (hst : (st.map fun v => v.category).sum ≤ 8) (hd : decode cc pc = .ok (.invokevirtual idx, 3)) (hf : cells + rm.cells ≤ R.cells ∧ slots + rm.slots ≤ R.slots) (hc : cells + rm.cells = k1) (hs : slots + rm.slots = n1)
    (kk : ∀ (r : Int32) (σ' : S), post r σ' → V_ p l e R s m args below meth c nL D cl A Q k1 n1 (Rep σ') (pc + 3) L (.int r :: st)) : V_ p l e R s m args below meth c nL D cl A Q cells slots Φ pc L stk := by
  intro ls H locs ws h1 h2 h3 h4 h5
  subst hstk; subst hc; subst hs
  obtain ⟨ci, fs, q, hm, hcl, hq1⟩ := hrecv ws h5
  subst hq1
  obtain ⟨q0, hq⟩ := List.getElem?_of_mem hm
  have hF := wF G h3 h4
  refine va_calli (va_runU (As := As) (rest := st) ⟨G.1, G.2.1, G.2.2.1, G.2.2.2.1, G.2.2.2.2.1⟩ (hM ws H.size (hΦ ws h5)) cw ⟨PB_blind hK, va_recv G.2.2.2.2.2.1 h2 hcl hq, wPre G hK hT h2 h3 h4⟩ rfl hn h1.1 rfl (lv_room hst) hd hf) h4 (fun q _ h => hF q h) hF (fun r u t H1 locs1 ht hvm hpost hB hz hk hS1 => ?_)
  obtain ⟨hP1, hD1, hR1⟩ := hB
  rw [ht] at hP1
  exact kk r u.1 hpost ls H1 locs1 u.2 h1 hP1 (hD1.weaken (fun k q _ h => hF q.1 h)) hS1 hR1
end VM
