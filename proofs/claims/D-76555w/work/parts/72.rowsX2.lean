/-! ROWS OVER THE COMPONENT'S WORLD: lives -/
set_option maxRecDepth 100000
theorem tx10 : TX10 = TX9 := by funext k; rcases k with _ | _ | _ | k <;> rfl
theorem tx11 : TX11 = TX9 := by funext k; rcases k with _ | _ | _ | k <;> rfl
theorem tx12 : TX12 = TX9 := by funext k; rcases k with _ | _ | _ | k <;> rfl
theorem tx13 : TX13 = TX9 := by funext k; rcases k with _ | _ | _ | k <;> rfl
theorem tx14 : TX14 = TX9 := by funext k; rcases k with _ | _ | _ | k <;> rfl
theorem tx9_1 (j : Nat) : (TX9 j).1 = RX9 := by rcases j with _ | _ | _ | j <;> rfl
theorem tx9_f (j : Nat) : (TX9 j).2.2.2 = false := by rcases j with _ | _ | _ | j <;> rfl
theorem ty9_i (j : Nat) : tyX9 j = .int := by rcases j with _ | _ | _ | j <;> rfl
/-- the class at a life's place in the list -/
theorem x_lcls {kd : Nat} (hkd : kd ≤ 5) : ∃ C : String, vwCl[2 + kd]? = some (C, TX9, 4) ∧ ∀ w ∈ u_ws C TX9 4, w ∈ lw_all := by
  have h : kd = 0 ∨ kd = 1 ∨ kd = 2 ∨ kd = 3 ∨ kd = 4 ∨ kd = 5 := by omega
  rcases h with rfl | rfl | rfl | rfl | rfl | rfl
  · exact ⟨RX9, rfl, in_X9⟩
  · exact ⟨RX10, by rw [← tx10]; rfl, by rw [← tx10]; exact in_X10⟩
  · exact ⟨RX11, by rw [← tx11]; rfl, by rw [← tx11]; exact in_X11⟩
  · exact ⟨RX12, by rw [← tx12]; rfl, by rw [← tx12]; exact in_X12⟩
  · exact ⟨RX13, by rw [← tx13]; rfl, by rw [← tx13]; exact in_X13⟩
  · exact ⟨RX14, by rw [← tx14]; rfl, by rw [← tx14]; exact in_X14⟩
theorem x_cell_life {ct ad : Nat → Nat} {σ : MS} {p : Nat} : x_cell ct ad σ (150 + p) = x_life σ p := by
  unfold x_cell
  rw [if_neg (by omega), if_neg (by omega), if_neg (by omega), if_neg (by omega), if_neg (by omega), if_neg (by omega), if_neg (by omega), if_neg (by omega), if_neg (by omega), if_neg (by omega), if_neg (by omega), if_neg (by omega), if_neg (by omega), show 150 + p - 150 = p by omega]
theorem xk_life {σ : MS} {p : Nat} (h : p < n_ (σ.1 11 0)) : xk σ (150 + p) := Or.inr (Or.inl ⟨by omega, by omega⟩)
theorem RX.life {ct ad : Nat → Nat} {F : List (Nat × va_E)} {σ : MS} {ws : va_W} {p : Nat} (hp : p < n_ (σ.1 11 0)) (h : RX ct ad F σ ws) : (ad (150 + p), x_life σ p) ∈ ws := by
  have := h.2.1 (150 + p) (xk_life hp)
  rwa [x_cell_life] at this
theorem x_lfs {σ : MS} {p j : Nat} (hj : j < 4) : ([.int (σ.1 10 (5 * p)), .int (σ.1 10 (5 * p + 1)), .int (σ.1 10 (5 * p + 2)), .int (σ.1 10 (5 * p + 3))] : List Value)[j]? = some (.int (σ.1 10 (5 * p + j))) := by
  have h : j = 0 ∨ j = 1 ∨ j = 2 ∨ j = 3 := by omega
  rcases h with rfl | rfl | rfl | rfl <;> rfl
theorem x_lset {σ : MS} {p j : Nat} {v : Int32} (hj : j < 4) : x_life (mset σ 10 (5 * p + j) v) p = .inr (2 + n_ (σ.1 10 (5 * p + 4)), ([.int (σ.1 10 (5 * p)), .int (σ.1 10 (5 * p + 1)), .int (σ.1 10 (5 * p + 2)), .int (σ.1 10 (5 * p + 3))] : List Value).set j (.int v)) := by
  have h : j = 0 ∨ j = 1 ∨ j = 2 ∨ j = 3 := by omega
  unfold x_life
  rcases h with rfl | rfl | rfl | rfl <;> simp [mset, upd2]
theorem x_lne {σ : MS} {p q j : Nat} {v : Int32} (hj : j < 4) (h : q ≠ p) : x_life (mset σ 10 (5 * p + j) v) q = x_life σ q := by
  have e : ∀ a, a < 5 → (mset σ 10 (5 * p + j) v).1 10 (5 * q + a) = σ.1 10 (5 * q + a) := fun a ha => by
    show upd2 σ.1 10 (5 * p + j) v 10 (5 * q + a) = _
    rw [upd2_at, if_neg (by omega)]
  have e0 := e 0 (by omega)
  rw [Nat.add_zero] at e0
  unfold x_life
  rw [e0, e 1 (by omega), e 2 (by omega), e 3 (by omega), e 4 (by omega)]
theorem xdep10 : ∀ i ∈ xfix, 10 ∉ xdep i := by decide
theorem RX.lput {ct ad : Nat → Nat} {F : List (Nat × va_E)} {σ : MS} {ws ws' : va_W} {p j : Nat} {v : Int32} (hj : j < 4) (hp : p < n_ (σ.1 11 0)) (h : RX ct ad F σ ws) (hU : U_ ws (ad (150 + p)) (x_life (mset σ 10 (5 * p + j) v) p) ws') : RX ct ad F (mset σ 10 (5 * p + j) v) ws' := by
  have hm : ∀ k, k ≠ 10 → (mset σ 10 (5 * p + j) v).1 k = σ.1 k := fun k hk => upd2_ne _ _ _ hk
  refine RX.upd (xk_life hp) (by omega) (hm 11 (by decide)) (hm 39 (by decide)) h hU x_cell_life (fun i hi hne => ?_) (txR_cg (hm 1 (by decide)) (hm 2 (by decide)) (hm 3 (by decide)))
  rcases hi with hi | ⟨h150, -⟩ | ⟨h120, h124, -⟩
  · exact x_cell_cg (fun b hb => hm b (fun q => xdep10 i hi (q ▸ hb))) rfl
  · obtain ⟨q, rfl⟩ : ∃ q, i = 150 + q := ⟨i - 150, by omega⟩
    rw [x_cell_life, x_cell_life]
    exact x_lne hj (by omega)
  · refine x_cell_cg (fun b hb => hm b (fun q => ?_)) rfl
    subst q
    unfold xdep at hb
    rw [if_neg (by omega), if_neg (by omega), if_neg (by omega), if_neg (by omega), if_neg (by omega), if_neg (by omega), if_neg (by omega), if_neg (by omega), if_neg (by omega), if_neg (by omega), if_neg (by omega), if_pos (by omega)] at hb
    simp at hb
section VX2
variable {KT : (Nat → Prop) → State → Heap → Prop} {p : Program} {l : Launch} {e : Env} {R : Room} {s : State} {m : MethodId} {args : Array Value} {below : List Frame} {meth : Method} {c : Code} {nL : Nat} {dC : Nat → ClassId} {dI : Nat → Nat → Nat} {ct ad : Nat → Nat} {F : List (Nat × va_E)} {A : Nat → Prop} {Q : State → Prop} {cells slots : Nat} {σ : MS} {pc : Nat} {L : List (Nat × Value)} {st : List Value} {cc : ByteArray} {own : String}
theorem x_lget (G : Gx p s m args meth c own cc nL (dC, dI) vwCl (tysF ct) A) {idx : Nat} {ref : String} (j q kd : Nat) (hj : j < 4) (hq : q < n_ (σ.1 11 0)) (hkd : kd ≤ 5) (ek : σ.1 10 (5 * q + 4) = nI kd) (hlk : Cond.fieldLink own idx ref (TX9 j).2.1 (TX9 j).2.2.1 ∈ lw_all) (hsame : ∀ x, s.fieldFound? RX9 (TX9 j).2.1 (TX9 j).2.2.1 = some x → s.fieldFound? ref (TX9 j).2.1 (TX9 j).2.2.1 = some x) (hd : decode cc pc = .ok (.getfield idx, 3)) (kk : V_ p l e R s m args below meth c nL (dC, dI) vwCl A Q cells slots (RX ct ad F σ) (pc + 3) L (.int (σ.1 10 (5 * q + j)) :: st)) : V_ p l e R s m args below meth c nL (dC, dI) vwCl A Q cells slots (RX ct ad F σ) pc L (.ref (ad (150 + q)) :: st) := by
  obtain ⟨C, hc, hin⟩ := x_lcls hkd
  have e : n_ (σ.1 10 (5 * q + 4)) = kd := by rw [ek]; exact nI_clamp (by omega)
  exact w_get (C := C) (T := TX9) (N := 4) (ci := 2 + kd) G j hj hin hc hlk (fun x h9 => hsame x (tx9_1 j ▸ h9)) (fun ws h => ⟨_, by have := RX.life hq h; unfold x_life at this; rw [e] at this; exact this, x_lfs hj⟩) hd kk
theorem x_lput (G : Gx p s m args meth c own cc nL (dC, dI) vwCl (tysF ct) A) {idx : Nat} {ref : String} {v : Int32} (j q kd : Nat) (hj : j < 4) (hq : q < n_ (σ.1 11 0)) (hkd : kd ≤ 5) (ek : σ.1 10 (5 * q + 4) = nI kd) (hlk : Cond.fieldLink own idx ref (TX9 j).2.1 (TX9 j).2.2.1 ∈ lw_all) (hsame : ∀ x, s.fieldFound? RX9 (TX9 j).2.1 (TX9 j).2.2.1 = some x → s.fieldFound? ref (TX9 j).2.1 (TX9 j).2.2.1 = some x) (hd : decode cc pc = .ok (.putfield idx, 3)) (kk : V_ p l e R s m args below meth c nL (dC, dI) vwCl A Q cells slots (RX ct ad F (mset σ 10 (5 * q + j) v)) (pc + 3) L st) : V_ p l e R s m args below meth c nL (dC, dI) vwCl A Q cells slots (RX ct ad F σ) pc L (.int v :: .ref (ad (150 + q)) :: st) := by
  obtain ⟨C, hc, hin⟩ := x_lcls hkd
  have e : n_ (σ.1 10 (5 * q + 4)) = kd := by rw [ek]; exact nI_clamp (by omega)
  exact w_put (C := C) (T := TX9) (N := 4) (ci := 2 + kd) G j hj hin tyX9 tyX9_ok nmX9 hc hlk (fun x h9 => hsame x (tx9_1 j ▸ h9)) (tx9_f j) (ty9_i j) rfl rfl (fun ws h => ⟨_, by have := RX.life hq h; unfold x_life at this; rw [e] at this; exact this, by show j < 4; exact hj, fun ws' hU => RX.lput hj hq h (by rw [x_lset hj, e]; exact hU)⟩) hd kk
end VX2
