/-! ROWS OVER THE COMPONENT'S WORLD: a life's kind, as it is known -/
set_option maxRecDepth 100000
abbrev kdOk (σ : MS) (p : Nat) : Prop := ∃ kd, kd ≤ 5 ∧ σ.1 10 (5 * p + 4) = nI kd
theorem kd_of {σ : MS} {p : Nat} (h : Ok (co σ)) (hp : p < 5) : kdOk σ p := (h.1.2.1 p hp).2.2.2.2
theorem kd_ne {σ : MS} {p k i : Nat} {v : Int32} (hk : k ≠ 10) (h : kdOk σ p) : kdOk (mset σ k i v) p := by
  obtain ⟨kd, h1, h2⟩ := h
  exact ⟨kd, h1, by rw [show (mset σ k i v).1 10 = σ.1 10 from upd2_ne _ _ _ (fun e => hk e.symm)]; exact h2⟩
theorem kd_L {σ : MS} {p k i : Nat} {v : Int64} (h : kdOk σ p) : kdOk (msetL σ k i v) p := h
theorem kd_set {σ : MS} {p q j : Nat} {v : Int32} (hj : j < 4) (h : kdOk σ p) : kdOk (mset σ 10 (5 * q + j) v) p := by
  obtain ⟨kd, h1, h2⟩ := h
  exact ⟨kd, h1, by rw [show (mset σ 10 (5 * q + j) v).1 10 (5 * p + 4) = σ.1 10 (5 * p + 4) by show upd2 σ.1 10 (5 * q + j) v 10 (5 * p + 4) = _; rw [upd2_at, if_neg (by omega)]]; exact h2⟩
theorem kd_ag {S : List Nat} {σ σ' : MS} {p : Nat} (ha : ag S σ σ') (hS : 10 ∉ S) (h : kdOk σ p) : kdOk σ' p := by
  obtain ⟨kd, h1, h2⟩ := h
  exact ⟨kd, h1, by rw [ha 10 hS]; exact h2⟩
section VX4
variable {KT : (Nat → Prop) → State → Heap → Prop} {p : Program} {l : Launch} {e : Env} {R : Room} {s : State} {m : MethodId} {args : Array Value} {below : List Frame} {meth : Method} {c : Code} {nL : Nat} {dC : Nat → ClassId} {dI : Nat → Nat → Nat} {ct ad : Nat → Nat} {F : List (Nat × va_E)} {A : Nat → Prop} {Q : State → Prop} {cells slots : Nat} {σ : MS} {pc : Nat} {L : List (Nat × Value)} {st : List Value} {cc : ByteArray} {own : String}
theorem x_lg (G : Gx p s m args meth c own cc nL (dC, dI) vwCl (tysF ct) A) {idx : Nat} {v : Int32} (j q : Nat) (hj : j < 4) (hq : q < n_ (σ.1 11 0)) (hkd : kdOk σ q) (hv : σ.1 10 (5 * q + j) = v) (hlk : Cond.fieldLink own idx RX9 (TX9 j).2.1 (TX9 j).2.2.1 ∈ lw_all) (hd : decode cc pc = .ok (.getfield idx, 3)) (kk : V_ p l e R s m args below meth c nL (dC, dI) vwCl A Q cells slots (RX ct ad F σ) (pc + 3) L (.int v :: st)) : V_ p l e R s m args below meth c nL (dC, dI) vwCl A Q cells slots (RX ct ad F σ) pc L (.ref (ad (150 + q)) :: st) := by
  obtain ⟨kd, h1, h2⟩ := hkd
  subst hv
  exact x_lget G j q kd hj hq h1 h2 hlk (fun _ h => h) hd kk
theorem x_lp (G : Gx p s m args meth c own cc nL (dC, dI) vwCl (tysF ct) A) {idx : Nat} {v : Int32} (j q : Nat) (hj : j < 4) (hq : q < n_ (σ.1 11 0)) (hkd : kdOk σ q) (hlk : Cond.fieldLink own idx RX9 (TX9 j).2.1 (TX9 j).2.2.1 ∈ lw_all) (hd : decode cc pc = .ok (.putfield idx, 3)) (kk : V_ p l e R s m args below meth c nL (dC, dI) vwCl A Q cells slots (RX ct ad F (mset σ 10 (5 * q + j) v)) (pc + 3) L st) : V_ p l e R s m args below meth c nL (dC, dI) vwCl A Q cells slots (RX ct ad F σ) pc L (.int v :: .ref (ad (150 + q)) :: st) := by
  obtain ⟨kd, h1, h2⟩ := hkd
  exact x_lput G j q kd hj hq h1 h2 hlk (fun _ h => h) hd kk
end VX4
