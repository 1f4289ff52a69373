/-! ROWS OVER THE COMPONENT'S WORLD -/
set_option maxRecDepth 100000
section VA1
variable {p : Program} {l : Launch} {e : Env} {R : Room} {s : State} {m : MethodId} {args : Array Value} {below : List Frame} {meth : Method} {c : Code} {nL : Nat} {D : va_G} {cl : List vw_C} {A : Nat → Prop} {Q : State → Prop} {cells slots : Nat} {Φ Ψ : va_W → Prop} {pc : Nat} {L : List (Nat × Value)} {st : List Value} {own : String} {cc : ByteArray} {tys : List (ClassId × FieldType)}
theorem w_aldq (G : Gx p s m args meth c own cc nL D cl tys A) {cA : ClassId} {C : String} {n a : Nat} {r : Option Nat} {i : Int32} (t0 : Nat) (ht : tys[t0]? = some (cA, .object C)) (h : ∀ ws, Φ ws → ∃ f : Nat → Option Nat, (a, Sum.inl (cA, n, x_rf f)) ∈ ws ∧ f i.toNatClampNeg = r) (hin : vp_in i n) (hd : decode cc pc = .ok (.aaload, 1)) (kk : V_ p l e R s m args below meth c nL D cl A Q cells slots Φ (pc + 1) L (va_rf r :: st)) : V_ p l e R s m args below meth c nL D cl A Q cells slots Φ pc L (.int i :: .ref a :: st) := by
  intro ls H locs ws h1 h2 h3 h4 h5
  obtain ⟨f, hm, hv⟩ := h ws h5
  obtain ⟨q0, hq⟩ := List.getElem?_of_mem hm
  exact va_aldq G.1 G.2.1 G.2.2.2.2.2.1 h2 q0 t0 hq ht hin hd (by rw [hv]; exact kk ls H locs ws h1 h2 h3 h4 h5)
theorem w_aldA (G : Gx p s m args meth c own cc nL D cl tys A) {cA : ClassId} {T : FieldType} {n a : Nat} {r : Option Nat} {i : Int32} (t0 : Nat) (ht : tys[t0]? = some (cA, .array T)) (h : ∀ ws, Φ ws → ∃ f : Nat → Option Nat, (a, Sum.inl (cA, n, x_rf f)) ∈ ws ∧ f i.toNatClampNeg = r) (hin : vp_in i n) (hd : decode cc pc = .ok (.aaload, 1)) (kk : V_ p l e R s m args below meth c nL D cl A Q cells slots Φ (pc + 1) L (va_rf r :: st)) : V_ p l e R s m args below meth c nL D cl A Q cells slots Φ pc L (.int i :: .ref a :: st) := by
  intro ls H locs ws h1 h2 h3 h4 h5
  obtain ⟨f, hm, hv⟩ := h ws h5
  obtain ⟨q0, hq⟩ := List.getElem?_of_mem hm
  have hlt : i.toNatClampNeg < n := Nat.not_le.mp fun q => hin (Or.inr q)
  refine W.aald (v := va_rf (f i.toNatClampNeg)) (ty := .array T) G.1 G.2.1 (h2 q0 _ hq) ((G.2.2.2.2.2.1.2 t0 _ ht).1 n (fun j => va_rf (f j))) rfl (fun q => by cases q) (by show ¬ (i < 0 ∨ (arrV _ _ _).slots.size ≤ _); rw [arrV_size]; exact hin) (by show (arrV _ _ _).slots[_]? = _; rw [arrV_read _ _ hlt]) rfl rfl hd ?_
  rw [hv]
  exact kk ls H locs ws h1 h2 h3 h4 h5
/-- an object of class r is put into an array over its own class -/
theorem w_astq (G : Gx p s m args meth c own cc nL D cl tys A) {cA : ClassId} {r : vw_C} {n a v : Nat} {i : Int32} (t0 ci : Nat) (ht : tys[t0]? = some (cA, .object r.1)) (hc : cl[ci]? = some r) (h : ∀ ws, Φ ws → ∃ (f : Nat → Option Nat) (vs : List Value), (a, Sum.inl (cA, n, x_rf f)) ∈ ws ∧ (v, Sum.inr (ci, vs)) ∈ ws ∧ ∀ ws', U_ ws a (.inl (cA, n, x_rf (va_up f i.toNatClampNeg (some v)))) ws' → Ψ ws') (hin : vp_in i n) (hd : decode cc pc = .ok (.aastore, 1)) (kk : V_ p l e R s m args below meth c nL D cl A Q cells slots Ψ (pc + 1) L st) : V_ p l e R s m args below meth c nL D cl A Q cells slots Φ pc L (.ref v :: .int i :: .ref a :: st) := by
  intro ls H locs ws h1 h2 h3 h4 h5
  obtain ⟨f, vs, hm, hv, hu⟩ := h ws h5
  obtain ⟨q0, hq⟩ := List.getElem?_of_mem hm
  obtain ⟨qk, hqk⟩ := List.getElem?_of_mem hv
  exact va_astq G.1 G.2.1 G.2.2.2.2.2.1 h2 h3 h4 q0 t0 qk ci hq ht hqk hc hin hd (fun H1 locs1 a1 a2 a3 => kk ls H1 locs1 _ h1 a1 a2 a3 (hu _ (U_set hq)))
/-- an object of a class under the array's -/
theorem w_astqO (G : Gx p s m args meth c own cc nL D cl tys A) {cA : ClassId} {E : String} {n a v : Nat} {i : Int32} (t0 : Nat) (ht : tys[t0]? = some (cA, .object E)) (hca : ∀ ws, Φ ws → ∃ (f : Nat → Option Nat) (vs : List Value) (ci : Nat) (r : vw_C), (a, Sum.inl (cA, n, x_rf f)) ∈ ws ∧ (v, Sum.inr (ci, vs)) ∈ ws ∧ cl[ci]? = some r ∧ va_Nw (.castable r.1 E) s ∧ ∀ ws', U_ ws a (.inl (cA, n, x_rf (va_up f i.toNatClampNeg (some v)))) ws' → Ψ ws') (hin : vp_in i n) (hd : decode cc pc = .ok (.aastore, 1)) (kk : V_ p l e R s m args below meth c nL D cl A Q cells slots Ψ (pc + 1) L st) : V_ p l e R s m args below meth c nL D cl A Q cells slots Φ pc L (.ref v :: .int i :: .ref a :: st) := by
  intro ls H locs ws h1 h2 h3 h4 h5
  obtain ⟨f, vs, ci, r, hm, hv, hc, hw, hu⟩ := hca ws h5
  obtain ⟨q0, hq⟩ := List.getElem?_of_mem hm
  obtain ⟨qk, hqk⟩ := List.getElem?_of_mem hv
  exact va_astqO G.1 G.2.1 G.2.2.2.2.2.1 h2 h3 h4 q0 t0 qk ci hq ht hw hqk hc hin hd (fun H1 locs1 a1 a2 a3 => kk ls H1 locs1 _ h1 a1 a2 a3 (hu _ (U_set hq)))
theorem w_alen (G : Gx p s m args meth c own cc nL D cl tys A) {cA : ClassId} {ty : FieldType} {a : Nat} {x : vp_A} {v : Int32} (t0 : Nat) (ht : tys[t0]? = some (cA, ty)) (h : ∀ ws, Φ ws → (a, Sum.inl (cA, x)) ∈ ws) (hv : Int32.ofNat x.1 = v) (hd : decode cc pc = .ok (.arraylength, 1)) (kk : V_ p l e R s m args below meth c nL D cl A Q cells slots Φ (pc + 1) L (.int v :: st)) : V_ p l e R s m args below meth c nL D cl A Q cells slots Φ pc L (.ref a :: st) := by
  intro ls H locs ws h1 h2 h3 h4 h5
  obtain ⟨q0, hq⟩ := List.getElem?_of_mem (h ws h5)
  exact va_alen G.1 G.2.1 G.2.2.2.2.2.1 h2 q0 t0 hq ht hv hd (kk ls H locs ws h1 h2 h3 h4 h5)
end VA1
/-! banks that one cell alone reads -/
def xown (b k0 : Nat) : Bool := (xfix.all fun i => i == k0 || !(xdep i).contains b) && !([10, 40, 41, 42, 11, 39, 1, 2, 3].contains b)
theorem xown_spec {b k0 i : Nat} {σ : MS} (h : xown b k0 = true) (hi : xk σ i) (hne : i ≠ k0) : b ∉ xdep i := by
  unfold xown at h
  rw [Bool.and_eq_true, List.all_eq_true] at h
  obtain ⟨h1, h2⟩ := h
  have hb : b ∉ [10, 40, 41, 42, 11, 39, 1, 2, 3] := fun z => by rw [List.contains_iff_mem.mpr z] at h2; exact absurd h2 (by decide)
  rcases hi with hi | ⟨h150, -⟩ | ⟨h120, h124, -⟩
  · have := h1 i hi
    rw [Bool.or_eq_true] at this
    rcases this with q | q
    · exact absurd (by simpa using q) hne
    · intro z
      rw [List.contains_iff_mem.mpr z] at q
      exact absurd q (by decide)
  · have e : xdep i = [10] := by
      unfold xdep
      rw [if_neg (by omega), if_neg (by omega), if_neg (by omega), if_neg (by omega), if_neg (by omega), if_neg (by omega), if_neg (by omega), if_neg (by omega), if_neg (by omega), if_neg (by omega), if_neg (by omega), if_neg (by omega), if_neg (by omega)]
    rw [e]
    intro z
    exact hb (by rw [List.mem_singleton.mp z]; decide)
  · have e : xdep i = [40, 41, 42] := by
      unfold xdep
      rw [if_neg (by omega), if_neg (by omega), if_neg (by omega), if_neg (by omega), if_neg (by omega), if_neg (by omega), if_neg (by omega), if_neg (by omega), if_neg (by omega), if_neg (by omega), if_neg (by omega), if_pos (by omega)]
    rw [e]
    intro z
    simp at z hb
    omega
theorem xown_ne {b k0 k : Nat} (h : xown b k0 = true) (hk : k ∈ [10, 40, 41, 42, 11, 39, 1, 2, 3]) : k ≠ b := by
  unfold xown at h
  rw [Bool.and_eq_true] at h
  intro e
  subst e
  have h2 := h.2
  rw [List.contains_iff_mem.mpr hk] at h2
  exact absurd h2 (by decide)
/-- the cell k0 alone is written: bank b -/
theorem RX.own {ct ad : Nat → Nat} {F : List (Nat × va_E)} {σ : MS} {ws ws' : va_W} {b k0 i : Nat} {v : Int32} {e : va_E} (ho : xown b k0 = true) (hk : xk σ k0) (hk100 : k0 ≠ 100) (h : RX ct ad F σ ws) (hU : U_ ws (ad k0) e ws') (he : x_cell ct ad (mset σ b i v) k0 = e) : RX ct ad F (mset σ b i v) ws' := by
  have hm : ∀ k, k ≠ b → (mset σ b i v).1 k = σ.1 k := fun k hk => upd2_ne _ _ _ hk
  exact RX.upd hk hk100 (hm 11 (xown_ne ho (by decide))) (hm 39 (xown_ne ho (by decide))) h hU he (fun j hj hne => x_cell_cg (fun b' hb' => hm b' (fun q => xown_spec ho hj hne (q ▸ hb'))) rfl) (txR_cg (hm 1 (xown_ne ho (by decide))) (hm 2 (xown_ne ho (by decide))) (hm 3 (xown_ne ho (by decide))))
theorem RX.obj {ct ad : Nat → Nat} {F : List (Nat × va_E)} {σ : MS} {ws : va_W} (h : RX ct ad F σ ws) : (ad 0, Sum.inr (1, x_fs ad σ)) ∈ ws := h.2.1 0 (Or.inl (by decide))
def x_isI (k : Nat) : Bool := xfix.contains k && Nat.blt k 100 && !([0, 5, 28, 29].contains k)
theorem x_isI_cell {k : Nat} {ct ad : Nat → Nat} {σ : MS} (h : x_isI k = true) : k ∈ xfix ∧ k ≠ 100 ∧ x_cell ct ad σ k = .inl (ct 0, x_len k, .inl (σ.1 k)) ∧ x_len k < 2 ^ 31 := by
  unfold x_isI at h
  simp only [Bool.and_eq_true] at h
  obtain ⟨⟨h1, h2⟩, h3⟩ := h
  have h2 : k < 100 := Nat.blt_eq.mp h2
  have h4 : k ∉ [0, 5, 28, 29] := fun z => by rw [List.contains_iff_mem.mpr z] at h3; exact absurd h3 (by decide)
  simp at h4
  refine ⟨List.contains_iff_mem.mp h1, by omega, ?_, ?_⟩
  · unfold x_cell
    rw [if_neg (by omega), if_neg (by omega), if_neg (by omega), if_pos h2]
  · unfold x_len
    split <;> decide
section VX
variable {KT : (Nat → Prop) → State → Heap → Prop} {p : Program} {l : Launch} {e : Env} {R : Room} {s : State} {m : MethodId} {args : Array Value} {below : List Frame} {meth : Method} {c : Code} {nL : Nat} {dC : Nat → ClassId} {dI : Nat → Nat → Nat} {ct ad : Nat → Nat} {F : List (Nat × va_E)} {A : Nat → Prop} {Q : State → Prop} {cells slots : Nat} {σ : MS} {pc : Nat} {L : List (Nat × Value)} {st : List Value} {cc : ByteArray} {own : String}
theorem x_get (G : Gx p s m args meth c RX0 cc nL (dC, dI) vwCl (tysF ct) A) {idx : Nat} {v : Value} (k : Nat) (hk : k < 34) (hv : (x_fs ad σ)[k]? = some v) (hlk : Cond.fieldLink RX0 idx RX0 (TX0 k).2.1 (TX0 k).2.2.1 ∈ lw_all) (h1 : (TX0 k).1 = RX0) (hd : decode cc pc = .ok (.getfield idx, 3)) (kk : V_ p l e R s m args below meth c nL (dC, dI) vwCl A Q cells slots (RX ct ad F σ) (pc + 3) L (v :: st)) : V_ p l e R s m args below meth c nL (dC, dI) vwCl A Q cells slots (RX ct ad F σ) pc L (.ref (ad 0) :: st) :=
  w_get (C := RX0) (T := TX0) (N := 34) (ci := 1) G k hk in_X0 rfl hlk (fun _ h9 => h1 ▸ h9) (fun ws h => ⟨_, RX.obj h, hv⟩) hd kk
theorem x_putI (G : Gx p s m args meth c RX0 cc nL (dC, dI) vwCl (tysF ct) A) {idx : Nat} {v : Int32} (k b : Nat) (hk : k < 34) (ho : xown b 0 = true) (hset : (x_fs ad σ).set k (.int v) = x_fs ad (mset σ b 0 v)) (hlk : Cond.fieldLink RX0 idx RX0 (TX0 k).2.1 (TX0 k).2.2.1 ∈ lw_all) (h1 : (TX0 k).1 = RX0) (hf : (TX0 k).2.2.2 = false) (ht : tyX0 k = .int) (hd : decode cc pc = .ok (.putfield idx, 3)) (kk : V_ p l e R s m args below meth c nL (dC, dI) vwCl A Q cells slots (RX ct ad F (mset σ b 0 v)) (pc + 3) L st) : V_ p l e R s m args below meth c nL (dC, dI) vwCl A Q cells slots (RX ct ad F σ) pc L (.int v :: .ref (ad 0) :: st) :=
  w_put (C := RX0) (T := TX0) (N := 34) (ci := 1) G k hk in_X0 tyX0 tyX0_ok nmX0 rfl hlk (fun _ h9 => h1 ▸ h9) hf ht rfl rfl (fun ws h => ⟨_, RX.obj h, hk, fun ws' hU => RX.own (k0 := 0) ho (Or.inl (by decide)) (by decide) h hU (by rw [hset]; rfl)⟩) hd kk
theorem x_iald (G : Gx p s m args meth c own cc nL (dC, dI) vwCl (tysF ct) A) {i : Int32} (k : Nat) (hk : x_isI k = true) (j : Nat) (hi : i = nI j) (hj : j < x_len k) (hd : decode cc pc = .ok (.iaload, 1)) (kk : V_ p l e R s m args below meth c nL (dC, dI) vwCl A Q cells slots (RX ct ad F σ) (pc + 1) L (.int (σ.1 k j) :: st)) : V_ p l e R s m args below meth c nL (dC, dI) vwCl A Q cells slots (RX ct ad F σ) pc L (.int i :: .ref (ad k) :: st) := by
  obtain ⟨k1, k2, k3, k4⟩ := x_isI_cell (ct := ct) (ad := ad) (σ := σ) hk
  obtain ⟨i1, i2⟩ := ix_in hi hj k4
  exact w_iald (cA := ct 0) G 0 rfl (fun ws h => ⟨σ.1 k, by rw [← k3]; exact h.2.1 k (Or.inl k1), by rw [i2]⟩) i1 hd kk
theorem x_iast (G : Gx p s m args meth c own cc nL (dC, dI) vwCl (tysF ct) A) {i v : Int32} (k : Nat) (hk : x_isI k = true) (ho : xown k k = true) (j : Nat) (hi : i = nI j) (hj : j < x_len k) (hd : decode cc pc = .ok (.iastore, 1)) (kk : V_ p l e R s m args below meth c nL (dC, dI) vwCl A Q cells slots (RX ct ad F (mset σ k j v)) (pc + 1) L st) : V_ p l e R s m args below meth c nL (dC, dI) vwCl A Q cells slots (RX ct ad F σ) pc L (.int v :: .int i :: .ref (ad k) :: st) := by
  obtain ⟨k1, k2, k3, k4⟩ := x_isI_cell (ct := ct) (ad := ad) (σ := σ) hk
  obtain ⟨i1, i2⟩ := ix_in hi hj k4
  exact w_iast (cA := ct 0) G 0 rfl (fun ws h => ⟨σ.1 k, by rw [← k3]; exact h.2.1 k (Or.inl k1), fun ws' hU => RX.own ho (Or.inl k1) k2 h hU (by rw [(x_isI_cell hk).2.2.1, i2]; simp only [mset, upd2_eq])⟩) i1 hd kk
theorem x_bald (G : Gx p s m args meth c own cc nL (dC, dI) vwCl (tysF ct) A) {i : Int32} (j : Nat) (hi : i = nI j) (hj : j < 160) (hd : decode cc pc = .ok (.baload, 1)) (kk : V_ p l e R s m args below meth c nL (dC, dI) vwCl A Q cells slots (RX ct ad F σ) (pc + 1) L (.int (σ.1 5 j).toInt8.toInt32 :: st)) : V_ p l e R s m args below meth c nL (dC, dI) vwCl A Q cells slots (RX ct ad F σ) pc L (.int i :: .ref (ad 5) :: st) := by
  obtain ⟨i1, i2⟩ := ix_in hi hj (by decide)
  exact w_bald (cA := ct 3) G 3 rfl (fun ws h => ⟨fun i => (σ.1 5 i).toInt8.toInt32, h.2.1 5 (Or.inl (by decide)), by rw [i2]⟩) i1 hd kk
theorem x_bast (G : Gx p s m args meth c own cc nL (dC, dI) vwCl (tysF ct) A) {i v w : Int32} (j : Nat) (hi : i = nI j) (hj : j < 160) (hv : vp_nar .byte v = w.toInt8.toInt32) (hd : decode cc pc = .ok (.bastore, 1)) (kk : V_ p l e R s m args below meth c nL (dC, dI) vwCl A Q cells slots (RX ct ad F (mset σ 5 j w)) (pc + 1) L st) : V_ p l e R s m args below meth c nL (dC, dI) vwCl A Q cells slots (RX ct ad F σ) pc L (.int v :: .int i :: .ref (ad 5) :: st) := by
  obtain ⟨i1, i2⟩ := ix_in hi hj (by decide)
  refine w_bast (cA := ct 3) G 3 rfl (fun ws h => ⟨fun i => (σ.1 5 i).toInt8.toInt32, h.2.1 5 (Or.inl (by decide)), fun ws' hU => RX.own (k0 := 5) (by decide) (Or.inl (by decide)) (by decide) h hU ?_⟩) i1 hd kk
  rw [i2, hv]
  show (Sum.inl (ct 3, 160, .inl (fun i => ((mset σ 5 j w).1 5 i).toInt8.toInt32)) : va_E) = _
  congr 3
  refine congrArg Sum.inl (funext fun q => ?_)
  show (upd2 σ.1 5 j w 5 q).toInt8.toInt32 = upd _ j _ q
  rw [upd2_at]
  by_cases e : q = j
  · subst e; rw [if_pos ⟨rfl, rfl⟩, pk_us]
  · rw [if_neg (fun z => e z.2), pk_un e]
theorem x_fald (G : Gx p s m args meth c own cc nL (dC, dI) vwCl (tysF ct) A) {i : Int32} (j : Nat) (hi : i = nI j) (hj : j < n_ (σ.1 11 0)) (hj5 : j < 5) (hd : decode cc pc = .ok (.aaload, 1)) (kk : V_ p l e R s m args below meth c nL (dC, dI) vwCl A Q cells slots (RX ct ad F σ) (pc + 1) L (.ref (ad (150 + j)) :: st)) : V_ p l e R s m args below meth c nL (dC, dI) vwCl A Q cells slots (RX ct ad F σ) pc L (.int i :: .ref (ad 100) :: st) := by
  obtain ⟨i1, i2⟩ := ix_in hi hj5 (by decide)
  exact w_aldq (cA := ct 5) (r := some (ad (150 + j))) G 5 rfl (fun ws h => by obtain ⟨f, hf, hp⟩ := h.2.2.1; exact ⟨f, hf, by rw [i2]; exact hp j hj⟩) i1 hd kk
end VX
