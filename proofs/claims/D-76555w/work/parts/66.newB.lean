/-! NEW OBJECTS AND ARRAYS, over worlds -/
set_option maxRecDepth 100000
section VN
variable {p : Program} {l : Launch} {e : Env} {R : Room} {s : State} {m : MethodId} {args : Array Value} {below : List Frame} {meth : Method} {c : Code} {nL : Nat} {D : va_G} {cl : List vw_C} {A : Nat → Prop} {Q : State → Prop} {cells slots : Nat} {Φ : va_W → Prop} {pc : Nat} {L : List (Nat × Value)} {st : List Value} {own : String} {cc : ByteArray} {tys : List (ClassId × FieldType)}
theorem v_objInit (G : Gx p s m args meth c own cc nL D cl tys A) {idx a : Nat} (h1 : Cond.methodLink own idx Lib.objectInit ∈ lw_all) (h2 : Cond.instanceMethod Lib.objectInit ∈ lw_all) (h3 : Cond.code Lib.objectInit ⟨#[0xb1]⟩ 1 none ∈ lw_all) (hd : decode cc pc = .ok (.invokespecial idx, 3)) (hf : 1 ≤ R.frames) (hst : (st.map fun v => v.category).sum ≤ 8) (hl : 20 ≤ R.locals) (k : V_ p l e R s m args below meth c nL D cl A Q cells slots Φ (pc + 3) L st) : V_ p l e R s m args below meth c nL D cl A Q cells slots Φ pc L (.ref a :: st) := fun ls H locs ws a1 a2 a3 a4 a5 =>
  W.objInit G.1 G.2.1 G.2.2.2.1 (G.2.2.2.2.1 _ h1) (G.2.2.2.2.1 _ h2) (G.2.2.2.2.1 _ h3) rfl (by rw [G.2.2.1]; exact a1.1) rfl hd hf (by have h0 : 2 * (F0 m pc ls (.ref a :: st)).monitorRoom = 0 := rfl; omega) (k ls H locs ws a1 a2 a3 a4 a5)
theorem w_newa (G : Gx p s m args meth c own cc nL D cl tys A) {atype : ArrayType} {ty : FieldType} {cA : ClassId} {n : Int32} {N' k1 n1 : Nat} {a0 : vp_A} {Ψ : Nat → va_W → Prop} (harr : Cond.arrayClass ty ∈ lw_all) (hty : newarray.typeOf atype = ty) (t0 : Nat) (ht : tys[t0]? = some (cA, ty)) (ha : ∀ cB : ClassId, vp_cell cB a0 = arrV cB N' (fun _ => defaultValue ty)) (hn : n = nI N') (hN : N' < 2 ^ 20) (hb8 : componentBytes ty ≤ 8) (hd : decode cc pc = .ok (.newarray atype, 2)) (hr : cells + 1 ≤ R.cells ∧ slots + N' ≤ R.slots) (hk1 : cells + 1 = k1) (hn1 : slots + N' = n1)
    (h : ∀ ws, Φ ws → ∀ q ws', N_ ws q (.inl (cA, a0)) ws' → Ψ q ws') (kk : ∀ q, V_ p l e R s m args below meth c nL D cl A Q k1 n1 (Ψ q) (pc + 2) L (.ref q :: st)) : V_ p l e R s m args below meth c nL D cl A Q cells slots Φ pc L (.int n :: st) := by
  intro ls H locs ws a1 a2 a3 a4 a5
  subst hk1 hn1 hty
  have hz : ¬ n < 0 := by rw [hn, Int32.lt_iff_toInt_lt, nI_toInt (by omega), show (0 : Int32).toInt = 0 by decide]; omega
  refine va_newa (N' := N') (a0 := a0) G.1 G.2.1 (G.2.2.2.2.1 _ harr) rfl G.2.2.2.2.2.1 a2 a3 a4 G.2.2.2.2.2.2.1 ha hz (by rw [hn]; exact nI_clamp (by omega)) ?_ hr.1 hr.2 hd (fun q cB H1 b1 b2 b3 b4 => ?_)
  · have : N' * componentBytes (newarray.typeOf atype) ≤ N' * 8 := Nat.mul_le_mul_left _ hb8
    omega
  · have e1 := (b1.2 tys.length (cB, newarray.typeOf atype) (by rw [List.getElem?_append_right (Nat.le_refl _), Nat.sub_self]; rfl)).2
    have e2 := (G.2.2.2.2.2.1.2 t0 (cA, newarray.typeOf atype) ht).2
    have e3 : cB = cA := by
      cases atype <;> exact Option.some.inj (Eq.trans (Eq.symm e1) e2)
    subst e3
    exact kk q ls H1 locs _ a1 b2 b3 b4 (h ws a5 q _ (N_app b3))
theorem w_new (G : Gx p s m args meth c own cc nL D cl tys A) {C : String} {T : u_T} {N ci idx k1 n1 : Nat} {fs : List Value} {Ψ : Nat → va_W → Prop} (hin : ∀ w ∈ u_ws C T N, w ∈ lw_all) (ty0 : Nat → FieldType) (hty : ∀ k, k < N → parseFieldDescriptor (T k).2.2.1 = some (ty0 k)) (hc : cl[ci]? = some (C, T, N)) (h1 : Cond.classLink own idx C ∈ lw_all) (h2 : Cond.instantiable C N ∈ lw_all) (h3 : Cond.initialized C ∈ lw_all) (hfs : ∀ j, j < N → defaultValue (ty0 j) = vp_V fs j) (hd : decode cc pc = .ok (.new idx, 3)) (hr : cells + 1 ≤ R.cells ∧ slots + N ≤ R.slots) (hk1 : cells + 1 = k1) (hn1 : slots + N = n1)
    (h : ∀ ws, Φ ws → ∀ q ws', N_ ws q (.inr (ci, fs)) ws' → Ψ q ws') (kk : ∀ q, V_ p l e R s m args below meth c nL D cl A Q k1 n1 (Ψ q) (pc + 3) L (.ref q :: st)) : V_ p l e R s m args below meth c nL D cl A Q cells slots Φ pc L st := by
  intro ls H locs ws a1 a2 a3 a4 a5
  subst hk1 hn1
  exact va_new G.1 G.2.1 G.2.2.2.2.1 hin ty0 hty G.2.2.2.1 (G.2.2.2.2.1 _ h1) (G.2.2.2.2.1 _ h2) (G.2.2.2.2.1 _ h3) G.2.2.2.2.2.1 a2 a3 a4 G.2.2.2.2.2.2.1 hc hfs hr.1 hr.2 hd (fun q H1 b2 b3 b4 => kk q ls H1 locs _ a1 b2 b3 b4 (h ws a5 q _ (N_app b3)))
end VN
/-! THE TWIN BEING BORN: the arrays S stand, the other array fields are null -/
def m_fsP (S : List Nat) (ad : Nat → Nat) (σ : MS) : List Value := (List.range 43).map (fun k => if m_arr k = true ∧ k ∉ S then .null else m_val ad σ k)
def RMp (S : List Nat) (ct ad : Nat → Nat) (σ : MS) (ws : va_W) : Prop := (∀ i ∈ 43 :: S, ∀ j ∈ 43 :: S, ad i = ad j → i = j) ∧ (∀ i ∈ S, (ad i, m_cell ct ad σ i) ∈ ws) ∧ (ad 43, Sum.inr (0, m_fsP S ad σ)) ∈ ws
theorem m_fsP_get {S : List Nat} {ad : Nat → Nat} {σ : MS} {k : Nat} (hk : k < 43) : (m_fsP S ad σ)[k]? = some (if m_arr k = true ∧ k ∉ S then .null else m_val ad σ k) := by
  unfold m_fsP
  rw [List.getElem?_map, List.getElem?_range hk]
  rfl
theorem m_fsP_len {S : List Nat} {ad : Nat → Nat} {σ : MS} : (m_fsP S ad σ).length = 43 := by simp [m_fsP]
theorem m_fsP_set {S S' : List Nat} {ad ad' : Nat → Nat} {σ σ' : MS} {k : Nat} {v : Value} (hk : k < 43) (hv : (if m_arr k = true ∧ k ∉ S' then Value.null else m_val ad' σ' k) = v) (h : ∀ j, j < 43 → j ≠ k → (if m_arr j = true ∧ j ∉ S' then Value.null else m_val ad' σ' j) = (if m_arr j = true ∧ j ∉ S then .null else m_val ad σ j)) : (m_fsP S ad σ).set k v = m_fsP S' ad' σ' := by
  apply List.ext_getElem?
  intro j
  by_cases hj : j < 43
  · rw [m_fsP_get hj]
    by_cases hjk : j = k
    · subst hjk
      rw [List.getElem?_set_self (by rw [m_fsP_len]; exact hj), hv]
    · rw [List.getElem?_set_ne (Ne.symm hjk), m_fsP_get hj, h j hj hjk]
  · rw [List.getElem?_eq_none (by rw [List.length_set, m_fsP_len]; omega), List.getElem?_eq_none (by rw [m_fsP_len]; omega)]
theorem m_cell_ad {ct ad ad' : Nat → Nat} {σ : MS} {i : Nat} (hi : i ≠ 43) : m_cell ct ad' σ i = m_cell ct ad σ i := by
  unfold m_cell
  rw [if_neg hi, if_neg hi]
theorem m_val_ad {ad ad' : Nat → Nat} {σ : MS} {k : Nat} (h : m_arr k = true → ad' k = ad k) : m_val ad' σ k = m_val ad σ k := by
  unfold m_arr at h
  unfold m_val
  revert h
  cases tyX8 k <;> intro h <;> first | rfl | (rw [h rfl])
/-- an array is born and put -/
theorem RMp.born {S : List Nat} {ct ad : Nat → Nat} {σ : MS} {ws ws1 ws2 : va_W} {k q : Nat} (hk : k < 43) (ha : m_arr k = true) (hS : k ∉ S) (hS43 : 43 ∉ S) (h : RMp S ct ad σ ws) (hN : N_ ws q (m_cell ct ad σ k) ws1) (hU : U_ ws1 (ad 43) (.inr (0, (m_fsP S ad σ).set k (.ref q))) ws2) : RMp (k :: S) ct (fun i => if i = k then q else ad i) σ ws2 := by
  obtain ⟨h1, h2, h3⟩ := h
  have hq : ∀ i ∈ 43 :: S, ad i ≠ q := by
    intro i hi
    rcases List.mem_cons.mp hi with rfl | hi
    · exact hN.2.2 _ h3
    · exact hN.2.2 _ (h2 i hi)
  have hk43 : k ≠ 43 := by omega
  refine ⟨?_, ?_, ?_⟩
  · intro i hi j hj he
    have hi' : i = k ∨ i ∈ 43 :: S := by
      rcases List.mem_cons.mp hi with rfl | hi
      · exact Or.inr List.mem_cons_self
      · rcases List.mem_cons.mp hi with rfl | hi
        · exact Or.inl rfl
        · exact Or.inr (List.mem_cons_of_mem _ hi)
    have hj' : j = k ∨ j ∈ 43 :: S := by
      rcases List.mem_cons.mp hj with rfl | hj
      · exact Or.inr List.mem_cons_self
      · rcases List.mem_cons.mp hj with rfl | hj
        · exact Or.inl rfl
        · exact Or.inr (List.mem_cons_of_mem _ hj)
    by_cases ei : i = k
    · by_cases ej : j = k
      · rw [ei, ej]
      · simp only [if_pos ei, if_neg ej] at he
        exact absurd he.symm (hq j (hj'.resolve_left ej))
    · by_cases ej : j = k
      · simp only [if_neg ei, if_pos ej] at he
        exact absurd he (hq i (hi'.resolve_left ei))
      · simp only [if_neg ei, if_neg ej] at he
        exact h1 i (hi'.resolve_left ei) j (hj'.resolve_left ej) he
  · intro i hi
    rcases List.mem_cons.mp hi with rfl | hi'
    · simp only [if_true]
      rw [m_cell_ad hk43]
      exact hU.2 _ _ (fun e => hq 43 List.mem_cons_self e.symm) hN.1
    · have hik : i ≠ k := fun e => hS (e ▸ hi')
      have hi43 : i ≠ 43 := fun e => hS43 (e ▸ hi')
      simp only [if_neg hik]
      rw [m_cell_ad hi43]
      refine hU.2 _ _ (fun e => hi43 (h1 i (List.mem_cons_of_mem _ hi') 43 List.mem_cons_self e)) (hN.2.1 _ (h2 i hi'))
  · have e43 : (if 43 = k then q else ad 43) = ad 43 := if_neg (fun e => hk43 e.symm)
    show ((if 43 = k then q else ad 43), _) ∈ ws2
    rw [e43, ← m_fsP_set (S := S) (ad := ad) (σ := σ) (k := k) (v := .ref q) hk ?_ ?_]
    · exact hU.1
    · rw [if_neg (fun z => z.2 List.mem_cons_self), m_val_arr ha, if_pos rfl]
    · intro j hj hjk
      by_cases ha2 : m_arr j = true ∧ j ∉ S
      · rw [if_pos ha2, if_pos ⟨ha2.1, fun z => by rcases List.mem_cons.mp z with z | z; exact hjk z; exact ha2.2 z⟩]
      · rw [if_neg ha2, if_neg (fun z => ha2 ⟨z.1, fun y => z.2 (List.mem_cons_of_mem _ y)⟩)]
        exact m_val_ad (fun _ => if_neg hjk)
/-- a number is put -/
theorem RMp.putI {S : List Nat} {ct ad : Nat → Nat} {σ : MS} {ws ws' : va_W} {k : Nat} {v : Int32} (hk : k < 43) (ht : tyX8 k = .int) (hS : ∀ i ∈ S, i ≠ k ∧ i ≠ 43) (h : RMp S ct ad σ ws) (hU : U_ ws (ad 43) (.inr (0, (m_fsP S ad σ).set k (.int v))) ws') : RMp S ct ad (mset σ k 0 v) ws' := by
  obtain ⟨h1, h2, h3⟩ := h
  have hna : m_arr k = false := by unfold m_arr; rw [ht]
  refine ⟨h1, fun i hi => ?_, ?_⟩
  · rw [m_cell_ne (σ := σ) (σ' := mset σ k 0 v) (hS i hi).2 (show (mset σ k 0 v).1 i = σ.1 i from upd2_ne _ _ _ (hS i hi).1) rfl]
    exact hU.2 _ _ (fun e => (hS i hi).2 (h1 i (List.mem_cons_of_mem _ hi) 43 List.mem_cons_self e)) (h2 i hi)
  · rw [← m_fsP_set (S := S) (ad := ad) (σ := σ) (k := k) (v := .int v) hk ?_ ?_]
    · exact hU.1
    · rw [if_neg (fun z => by rw [hna] at z; exact absurd z.1 (by decide))]
      unfold m_val
      rw [ht]
      simp [mset, upd2]
    · intro j hj hjk
      rw [m_val_ne (σ := σ) (σ' := mset σ k 0 v) (by show upd2 σ.1 k 0 v j 0 = _; rw [upd2_ne _ _ _ hjk]) rfl]
theorem RMp.done {S : List Nat} {ct ad : Nat → Nat} {σ : MS} {ws : va_W} (hS : ∀ k ∈ m_keys, k = 43 ∨ k ∈ S) (hA : ∀ k, k < 43 → m_arr k = true → k ∈ S) (h : RMp S ct ad σ ws) : RM ct ad σ ws := by
  obtain ⟨h1, h2, h3⟩ := h
  have hm : ∀ k ∈ m_keys, k ∈ 43 :: S := fun k hk => by
    rcases hS k hk with rfl | h
    · exact List.mem_cons_self
    · exact List.mem_cons_of_mem _ h
  refine ⟨fun i hi j hj he => h1 i (hm i hi) j (hm j hj) he, fun i hi => ?_⟩
  rcases hS i hi with rfl | hi'
  · show (ad 43, m_cell ct ad σ 43) ∈ ws
    have e : m_fsP S ad σ = m_fs ad σ := by
      unfold m_fsP m_fs
      apply List.map_congr_left
      intro k hk
      exact if_neg (fun z => z.2 (hA k (List.mem_range.mp hk) z.1))
    unfold m_cell
    rw [if_pos rfl, ← e]
    exact h3
  · exact h2 i hi'
