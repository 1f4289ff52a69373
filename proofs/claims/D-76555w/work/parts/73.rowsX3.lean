/-! ROWS OVER THE COMPONENT'S WORLD: nest mates, texts, sheets, images, ways -/
set_option maxRecDepth 100000
section VA3
variable {p : Program} {l : Launch} {e : Env} {R : Room} {s : State} {m : MethodId} {args : Array Value} {below : List Frame} {meth : Method} {c : Code} {nL : Nat} {D : va_G} {cl : List vw_C} {A : Nat → Prop} {Q : State → Prop} {cells slots : Nat} {Φ Ψ : va_W → Prop} {pc : Nat} {L : List (Nat × Value)} {st : List Value} {own : String} {cc : ByteArray} {tys : List (ClassId × FieldType)}
theorem w_getN (G : Gx p s m args meth c own cc nL D cl tys A) {ref C host : String} {T : u_T} {N ci idx a : Nat} {v : Value} (k : Nat) (hk : k < N) (hin : ∀ w ∈ u_ws C T N, w ∈ lw_all) (hc : cl[ci]? = some (C, T, N)) (hlk : va_Nw (Cond.fieldLinkNest own idx ref (T k).2.1 (T k).2.2.1 host) s) (hsame : ∀ x, s.fieldFound? (T k).1 (T k).2.1 (T k).2.2.1 = some x → s.fieldFound? ref (T k).2.1 (T k).2.2.1 = some x)
    (h : ∀ ws, Φ ws → ∃ fs : List Value, (a, Sum.inr (ci, fs)) ∈ ws ∧ fs[k]? = some v) (hd : decode cc pc = .ok (.getfield idx, 3)) (kk : V_ p l e R s m args below meth c nL D cl A Q cells slots Φ (pc + 3) L (v :: st)) : V_ p l e R s m args below meth c nL D cl A Q cells slots Φ pc L (.ref a :: st) := by
  intro ls H locs ws h1 h2 h3 h4 h5
  obtain ⟨fs, hm, hv⟩ := h ws h5
  obtain ⟨q0, hq⟩ := List.getElem?_of_mem hm
  exact va_getN G.1 G.2.1 G.2.2.2.2.1 hin G.2.2.2.1 G.2.2.2.2.2.1 h2 q0 hq hc k hk (va_Nw.use rfl hlk) hsame hv hd (kk ls H locs ws h1 h2 h3 h4 h5)
theorem w_putN (G : Gx p s m args meth c own cc nL D cl tys A) {ref C host : String} {T : u_T} {N ci idx a : Nat} {v : Value} {ty : FieldType} (k : Nat) (hk : k < N) (hin : ∀ w ∈ u_ws C T N, w ∈ lw_all) (ty0 : Nat → FieldType) (hty : ∀ k, k < N → parseFieldDescriptor (T k).2.2.1 = some (ty0 k)) (hnm : ∀ a, a < N → ∀ b, b < N → a ≠ b → (T a).2.1 ≠ (T b).2.1) (hc : cl[ci]? = some (C, T, N)) (hlk : va_Nw (Cond.fieldLinkNest own idx ref (T k).2.1 (T k).2.2.1 host) s) (hsame : ∀ x, s.fieldFound? (T k).1 (T k).2.1 (T k).2.2.1 = some x → s.fieldFound? ref (T k).2.1 (T k).2.2.1 = some x) (hfin : (T k).2.2.2 = false) (hty2 : ty0 k = ty) (hn : narrow ty v = v) (hfit : fits ty v = true)
    (h : ∀ ws, Φ ws → ∃ fs : List Value, (a, Sum.inr (ci, fs)) ∈ ws ∧ k < fs.length ∧ ∀ ws', U_ ws a (.inr (ci, fs.set k v)) ws' → Ψ ws') (hd : decode cc pc = .ok (.putfield idx, 3)) (kk : V_ p l e R s m args below meth c nL D cl A Q cells slots Ψ (pc + 3) L st) : V_ p l e R s m args below meth c nL D cl A Q cells slots Φ pc L (v :: .ref a :: st) := by
  intro ls H locs ws h1 h2 h3 h4 h5
  obtain ⟨fs, hm, hl, hu⟩ := h ws h5
  obtain ⟨q0, hq⟩ := List.getElem?_of_mem hm
  exact va_putN G.1 G.2.1 G.2.2.2.2.1 hin ty0 hty hnm G.2.2.2.1 G.2.2.2.2.2.1 h2 h3 h4 q0 hq hc k hk (va_Nw.use rfl hlk) hsame hfin (by rw [hty k hk, hty2]) hn hfit hl hd (fun H1 locs1 a1 a2 a3 => kk ls H1 locs1 _ h1 a1 a2 a3 (hu _ (U_set hq)))
end VA3
theorem x_to_at {ad : Nat → Nat} {b n i : Nat} (h : i < n) : x_to ad b n i = some (ad (b + i)) := if_pos h
theorem x_cellC {ct ad : Nat → Nat} {σ : MS} {k : Nat} : (k = 101 → x_cell ct ad σ k = .inl (ct 9, 6, x_rf (x_to ad 130 (n_ (σ.1 3 0))))) ∧ (k = 102 → x_cell ct ad σ k = .inl (ct 6, 4, x_rf (x_to ad 110 4))) ∧ (k = 103 → x_cell ct ad σ k = .inl (ct 10, 2, x_rf (x_to ad 33 2))) ∧ (k = 104 → x_cell ct ad σ k = .inl (ct 10, 4, x_rf (x_to ad 140 4))) ∧ (k = 106 → x_cell ct ad σ k = .inl (ct 8, 6, x_rf (x_to ad 160 6))) ∧ (k = 107 → x_cell ct ad σ k = .inl (ct 8, 6, x_rf (x_to ad 170 6))) := by
  refine ⟨?_, ?_, ?_, ?_, ?_, ?_⟩ <;> (intro e; subst e; rfl)
theorem x_cell_she {ct ad : Nat → Nat} {σ : MS} {s : Nat} (h : s < 4) : x_cell ct ad σ (110 + s) = x_she ad σ s := by
  have h : s = 0 ∨ s = 1 ∨ s = 2 ∨ s = 3 := by omega
  rcases h with rfl | rfl | rfl | rfl <;> rfl
theorem x_cell_row {ct ad : Nat → Nat} {σ : MS} {s : Nat} (h : s < 4) : x_cell ct ad σ (120 + s) = x_row ct σ s := by
  have h : s = 0 ∨ s = 1 ∨ s = 2 ∨ s = 3 := by omega
  rcases h with rfl | rfl | rfl | rfl <;> rfl
theorem x_cell_img {ct ad : Nat → Nat} {σ : MS} {s : Nat} (h : s < 4) : x_cell ct ad σ (140 + s) = .inl (ct 0, 5, .inl (fun p => σ.1 35 (5 * p + s))) := by
  have h : s = 0 ∨ s = 1 ∨ s = 2 ∨ s = 3 := by omega
  rcases h with rfl | rfl | rfl | rfl <;> rfl
theorem xk_fix {σ : MS} {k : Nat} (h : k ∈ xfix) : xk σ k := Or.inl h
theorem xk_row {σ : MS} {s : Nat} (h : s < 4) (h0 : ¬ σ.1 39 s = 0) : xk σ (120 + s) := Or.inr (Or.inr ⟨by omega, by omega, by rw [show 120 + s - 120 = s by omega]; exact h0⟩)
theorem x_shk {s : Nat} (h : s < 4) : 110 + s ∈ xfix := by
  have h : s = 0 ∨ s = 1 ∨ s = 2 ∨ s = 3 := by omega
  rcases h with rfl | rfl | rfl | rfl <;> decide
theorem x_imk {s : Nat} (h : s < 4) : 140 + s ∈ xfix := by
  have h : s = 0 ∨ s = 1 ∨ s = 2 ∨ s = 3 := by omega
  rcases h with rfl | rfl | rfl | rfl <;> decide
theorem xdep35 : ∀ i ∈ xfix, 35 ∈ xdep i → 140 ≤ i ∧ i < 144 := by decide
theorem xdep42 : ∀ i ∈ xfix, 42 ∉ xdep i := by decide
theorem xdepL {i : Nat} (h : 150 ≤ i) : xdep i = [10] := by
  unfold xdep
  rw [if_neg (by omega), if_neg (by omega), if_neg (by omega), if_neg (by omega), if_neg (by omega), if_neg (by omega), if_neg (by omega), if_neg (by omega), if_neg (by omega), if_neg (by omega), if_neg (by omega), if_neg (by omega), if_neg (by omega)]
theorem xdepR {i : Nat} (h : 120 ≤ i) (h2 : i < 124) : xdep i = [40, 41, 42] := by
  unfold xdep
  rw [if_neg (by omega), if_neg (by omega), if_neg (by omega), if_neg (by omega), if_neg (by omega), if_neg (by omega), if_neg (by omega), if_neg (by omega), if_neg (by omega), if_neg (by omega), if_neg (by omega), if_pos (by omega)]
/-- a row of the image of the folk is written -/
theorem RX_iput {ct ad : Nat → Nat} {F : List (Nat × va_E)} {σ : MS} {ws ws' : va_W} {p k : Nat} {v : Int32} (hk : k < 4) (h : RX ct ad F σ ws) (hU : U_ ws (ad (140 + k)) (.inl (ct 0, 5, .inl (upd (fun p => σ.1 35 (5 * p + k)) p v))) ws') : RX ct ad F (mset σ 35 (5 * p + k) v) ws' := by
  have hm : ∀ b, b ≠ 35 → (mset σ 35 (5 * p + k) v).1 b = σ.1 b := fun b hb => upd2_ne _ _ _ hb
  refine RX.upd (xk_fix (x_imk hk)) (by omega) (hm 11 (by decide)) (hm 39 (by decide)) h hU ?_ (fun i hi hne => ?_) (txR_cg (hm 1 (by decide)) (hm 2 (by decide)) (hm 3 (by decide)))
  · rw [x_cell_img hk]
    refine congrArg (fun f : Nat → Int32 => (Sum.inl (ct 0, 5, .inl f) : va_E)) (funext fun q => ?_)
    show upd2 σ.1 35 (5 * p + k) v 35 (5 * q + k) = upd (fun p => σ.1 35 (5 * p + k)) p v q
    rw [upd2_at]
    by_cases e : q = p
    · subst e; rw [if_pos ⟨rfl, rfl⟩, pk_us]
    · rw [if_neg (by omega), pk_un e]
  · rcases hi with hi | ⟨h150, -⟩ | ⟨h120, h124, -⟩
    · by_cases hd : 35 ∈ xdep i
      · obtain ⟨h1, h2⟩ := xdep35 i hi hd
        obtain ⟨j, rfl⟩ : ∃ j, i = 140 + j := ⟨i - 140, by omega⟩
        rw [x_cell_img (by omega), x_cell_img (by omega)]
        refine congrArg (fun f : Nat → Int32 => (Sum.inl (ct 0, 5, .inl f) : va_E)) (funext fun q => ?_)
        show upd2 σ.1 35 (5 * p + k) v 35 (5 * q + j) = _
        rw [upd2_at, if_neg (by omega)]
      · exact x_cell_cg (fun b hb => hm b (fun q => hd (q ▸ hb))) rfl
    · exact x_cell_cg (fun b hb => hm b (fun q => by rw [xdepL h150] at hb; subst q; simp at hb)) rfl
    · exact x_cell_cg (fun b hb => hm b (fun q => by rw [xdepR h120 h124] at hb; subst q; simp at hb)) rfl
/-- an item of a row is written -/
theorem RX_rput {ct ad : Nat → Nat} {F : List (Nat × va_E)} {σ : MS} {ws ws' : va_W} {s j : Nat} {v : Int32} (hs : s < 4) (h0 : ¬ σ.1 39 s = 0) (hj : j < n_ (σ.1 41 s)) (hz : ∀ t, t < 4 → ¬ σ.1 39 t = 0 → n_ (σ.1 41 t) ≤ 40) (h : RX ct ad F σ ws) (hU : U_ ws (ad (120 + s)) (.inl (ct (x_srt (σ.1 40 s)), n_ (σ.1 41 s), .inl (upd (fun i => if i < n_ (σ.1 41 s) then σ.1 42 (40 * s + i) else 0) j v))) ws') : RX ct ad F (mset σ 42 (40 * s + j) v) ws' := by
  have hm : ∀ b, b ≠ 42 → (mset σ 42 (40 * s + j) v).1 b = σ.1 b := fun b hb => upd2_ne _ _ _ hb
  have hzs := hz s hs h0
  refine RX.upd (xk_row hs h0) (by omega) (hm 11 (by decide)) (hm 39 (by decide)) h hU ?_ (fun i hi hne => ?_) (txR_cg (hm 1 (by decide)) (hm 2 (by decide)) (hm 3 (by decide)))
  · rw [x_cell_row hs]
    unfold x_row
    rw [hm 40 (by decide), hm 41 (by decide)]
    refine congrArg (fun f : Nat → Int32 => (Sum.inl (ct (x_srt (σ.1 40 s)), n_ (σ.1 41 s), .inl f) : va_E)) (funext fun q => ?_)
    show (if q < n_ (σ.1 41 s) then upd2 σ.1 42 (40 * s + j) v 42 (40 * s + q) else 0) = upd (fun i => if i < n_ (σ.1 41 s) then σ.1 42 (40 * s + i) else 0) j v q
    rw [upd2_at]
    by_cases e : q = j
    · subst e; rw [if_pos hj, if_pos ⟨rfl, rfl⟩, pk_us]
    · rw [if_neg (c := 42 = 42 ∧ _) (by omega), pk_un e]
  · rcases hi with hi | ⟨h150, -⟩ | ⟨h120, h124, h39⟩
    · exact x_cell_cg (fun b hb => hm b (fun q => xdep42 i hi (q ▸ hb))) rfl
    · exact x_cell_cg (fun b hb => hm b (fun q => by rw [xdepL h150] at hb; subst q; simp at hb)) rfl
    · obtain ⟨t, rfl⟩ : ∃ t, i = 120 + t := ⟨i - 120, by omega⟩
      rw [show 120 + t - 120 = t by omega] at h39
      have hzt := hz t (by omega) h39
      rw [x_cell_row (by omega), x_cell_row (by omega)]
      unfold x_row
      rw [hm 40 (by decide), hm 41 (by decide)]
      refine congrArg (fun f : Nat → Int32 => (Sum.inl (ct (x_srt (σ.1 40 t)), n_ (σ.1 41 t), .inl f) : va_E)) (funext fun q => ?_)
      show (if q < n_ (σ.1 41 t) then upd2 σ.1 42 (40 * s + j) v 42 (40 * t + q) else 0) = if q < n_ (σ.1 41 t) then σ.1 42 (40 * t + q) else 0
      by_cases hq : q < n_ (σ.1 41 t)
      · rw [if_pos hq, if_pos hq, upd2_at, if_neg (by omega)]
      · rw [if_neg hq, if_neg hq]
section VX3
variable {KT : (Nat → Prop) → State → Heap → Prop} {p : Program} {l : Launch} {e : Env} {R : Room} {s : State} {m : MethodId} {args : Array Value} {below : List Frame} {meth : Method} {c : Code} {nL : Nat} {dC : Nat → ClassId} {dI : Nat → Nat → Nat} {ct ad : Nat → Nat} {F : List (Nat × va_E)} {A : Nat → Prop} {Q : State → Prop} {cells slots : Nat} {σ : MS} {pc : Nat} {L : List (Nat × Value)} {st : List Value} {cc : ByteArray} {own : String}
/-- a row of the image of the folk -/
theorem x_imald (G : Gx p s m args meth c own cc nL (dC, dI) vwCl (tysF ct) A) {i : Int32} (k j : Nat) (hk : k < 4) (hi : i = nI j) (hj : j < 5) (hd : decode cc pc = .ok (.iaload, 1)) (kk : V_ p l e R s m args below meth c nL (dC, dI) vwCl A Q cells slots (RX ct ad F σ) (pc + 1) L (.int (σ.1 35 (5 * j + k)) :: st)) : V_ p l e R s m args below meth c nL (dC, dI) vwCl A Q cells slots (RX ct ad F σ) pc L (.int i :: .ref (ad (140 + k)) :: st) := by
  obtain ⟨i1, i2⟩ := ix_in hi hj (by decide)
  exact w_iald (cA := ct 0) G 0 rfl (fun ws h => ⟨fun p => σ.1 35 (5 * p + k), by rw [← x_cell_img (ad := ad) hk]; exact h.2.1 _ (xk_fix (x_imk hk)), by rw [i2]⟩) i1 hd kk
theorem x_imast (G : Gx p s m args meth c own cc nL (dC, dI) vwCl (tysF ct) A) {i v : Int32} (k j : Nat) (hk : k < 4) (hi : i = nI j) (hj : j < 5) (hd : decode cc pc = .ok (.iastore, 1)) (kk : V_ p l e R s m args below meth c nL (dC, dI) vwCl A Q cells slots (RX ct ad F (mset σ 35 (5 * j + k) v)) (pc + 1) L st) : V_ p l e R s m args below meth c nL (dC, dI) vwCl A Q cells slots (RX ct ad F σ) pc L (.int v :: .int i :: .ref (ad (140 + k)) :: st) := by
  obtain ⟨i1, i2⟩ := ix_in hi hj (by decide)
  exact w_iast (cA := ct 0) G 0 rfl (fun ws h => ⟨fun p => σ.1 35 (5 * p + k), by rw [← x_cell_img (ad := ad) hk]; exact h.2.1 _ (xk_fix (x_imk hk)), fun ws' hU => RX_iput hk h (by rw [i2] at hU; exact hU)⟩) i1 hd kk
/-- an array out of an array of arrays -/
theorem x_aldC (G : Gx p s m args meth c own cc nL (dC, dI) vwCl (tysF ct) A) {i : Int32} (k b n j : Nat) (hc : (k = 103 ∧ b = 33 ∧ n = 2) ∨ (k = 104 ∧ b = 140 ∧ n = 4)) (hi : i = nI j) (hj : j < n) (hd : decode cc pc = .ok (.aaload, 1)) (kk : V_ p l e R s m args below meth c nL (dC, dI) vwCl A Q cells slots (RX ct ad F σ) (pc + 1) L (.ref (ad (b + j)) :: st)) : V_ p l e R s m args below meth c nL (dC, dI) vwCl A Q cells slots (RX ct ad F σ) pc L (.int i :: .ref (ad k) :: st) := by
  rcases hc with ⟨rfl, rfl, rfl⟩ | ⟨rfl, rfl, rfl⟩
  · obtain ⟨i1, i2⟩ := ix_in hi hj (by decide)
    exact w_aldA (cA := ct 10) (r := some (ad (33 + j))) G 10 rfl (fun ws h => ⟨x_to ad 33 2, h.2.1 103 (xk_fix (by decide)), by rw [i2]; exact x_to_at hj⟩) i1 hd kk
  · obtain ⟨i1, i2⟩ := ix_in hi hj (by decide)
    exact w_aldA (cA := ct 10) (r := some (ad (140 + j))) G 10 rfl (fun ws h => ⟨x_to ad 140 4, h.2.1 104 (xk_fix (by decide)), by rw [i2]; exact x_to_at hj⟩) i1 hd kk
/-- a sheet's object -/
theorem x_sald (G : Gx p s m args meth c own cc nL (dC, dI) vwCl (tysF ct) A) {i : Int32} (j : Nat) (hi : i = nI j) (hj : j < 4) (hd : decode cc pc = .ok (.aaload, 1)) (kk : V_ p l e R s m args below meth c nL (dC, dI) vwCl A Q cells slots (RX ct ad F σ) (pc + 1) L (.ref (ad (110 + j)) :: st)) : V_ p l e R s m args below meth c nL (dC, dI) vwCl A Q cells slots (RX ct ad F σ) pc L (.int i :: .ref (ad 102) :: st) := by
  obtain ⟨i1, i2⟩ := ix_in hi hj (by decide)
  exact w_aldq (cA := ct 6) (r := some (ad (110 + j))) G 6 rfl (fun ws h => ⟨x_to ad 110 4, h.2.1 102 (xk_fix (by decide)), by rw [i2]; exact x_to_at hj⟩) i1 hd kk
/-- a text's row -/
theorem x_tald (G : Gx p s m args meth c own cc nL (dC, dI) vwCl (tysF ct) A) {i : Int32} (j : Nat) (hi : i = nI j) (hj : j < n_ (σ.1 3 0)) (hj6 : j < 6) (hd : decode cc pc = .ok (.aaload, 1)) (kk : V_ p l e R s m args below meth c nL (dC, dI) vwCl A Q cells slots (RX ct ad F σ) (pc + 1) L (.ref (ad (130 + j)) :: st)) : V_ p l e R s m args below meth c nL (dC, dI) vwCl A Q cells slots (RX ct ad F σ) pc L (.int i :: .ref (ad 101) :: st) := by
  obtain ⟨i1, i2⟩ := ix_in hi hj6 (by decide)
  exact w_aldA (cA := ct 9) (r := some (ad (130 + j))) G 9 rfl (fun ws h => ⟨x_to ad 130 (n_ (σ.1 3 0)), h.2.1 101 (xk_fix (by decide)), by rw [i2]; exact x_to_at hj⟩) i1 hd kk
theorem x_lald (G : Gx p s m args meth c own cc nL (dC, dI) vwCl (tysF ct) A) {i : Int32} (k j : Nat) (hk : k = 28 ∨ k = 29) (hi : i = nI j) (hj : j < 12) (hd : decode cc pc = .ok (.laload, 1)) (kk : V_ p l e R s m args below meth c nL (dC, dI) vwCl A Q cells slots (RX ct ad F σ) (pc + 1) L (.long (σ.2 k j) :: st)) : V_ p l e R s m args below meth c nL (dC, dI) vwCl A Q cells slots (RX ct ad F σ) pc L (.int i :: .ref (ad k) :: st) := by
  obtain ⟨i1, i2⟩ := ix_in hi hj (by decide)
  exact w_lald (cA := ct 1) G 1 rfl (fun ws h => ⟨σ.2 k, by rcases hk with rfl | rfl <;> exact h.2.1 _ (xk_fix (by decide)), by rw [i2]⟩) i1 hd kk
theorem x_last (G : Gx p s m args meth c own cc nL (dC, dI) vwCl (tysF ct) A) {i : Int32} {v : Int64} (k j : Nat) (hk : k = 28 ∨ k = 29) (hi : i = nI j) (hj : j < 12) (hd : decode cc pc = .ok (.lastore, 1)) (kk : V_ p l e R s m args below meth c nL (dC, dI) vwCl A Q cells slots (RX ct ad F (msetL σ k j v)) (pc + 1) L st) : V_ p l e R s m args below meth c nL (dC, dI) vwCl A Q cells slots (RX ct ad F σ) pc L (.long v :: .int i :: .ref (ad k) :: st) := by
  obtain ⟨i1, i2⟩ := ix_in hi hj (by decide)
  have hxk : k ∈ xfix ∧ k ≠ 100 := by rcases hk with rfl | rfl <;> decide
  refine w_last (cA := ct 1) G 1 rfl (fun ws h => ⟨σ.2 k, by rcases hk with rfl | rfl <;> exact h.2.1 _ (xk_fix (by decide)), fun ws' hU => RX.upd (σ := σ) (σ' := msetL σ k j v) (k := k) (xk_fix hxk.1) hxk.2 rfl rfl h hU ?_ (fun i hi hne => x_cell_cg (fun _ _ => rfl) (show (msetL σ k j v).2 i = σ.2 i from upd2_ne _ _ _ hne)) (txR_cg rfl rfl rfl)⟩) i1 hd kk
  rw [i2]
  rcases hk with rfl | rfl
  · show (Sum.inl (ct 1, 12, .inr (.inl (upd2 σ.2 28 j v 28))) : va_E) = _
    rw [upd2_eqL]
  · show (Sum.inl (ct 1, 12, .inr (.inl (upd2 σ.2 29 j v 29))) : va_E) = _
    rw [upd2_eqL]
end VX3
