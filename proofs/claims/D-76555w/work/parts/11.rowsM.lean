/-! ROWS OVER THE TWIN'S WORLD -/
set_option maxRecDepth 100000
theorem ix_lit {x : Int32} (n : Nat) (h : x = nI n) : x = nI n := h
theorem ix_add {x y : Int32} {a b : Nat} (hx : x = nI a) (hy : y = nI b) : x + y = nI (a + b) := by rw [hx, hy, nI_add]
theorem ix_mul {x y : Int32} {a b : Nat} (hx : x = nI a) (hy : y = nI b) : x * y = nI (a * b) := by rw [hx, hy, pk_mul]
theorem ix_sub {x y : Int32} {a b : Nat} (hx : x = nI a) (hy : y = nI b) (h : b ≤ a) : x - y = nI (a - b) := by rw [hx, hy, pk_sub h]
theorem ix_div {x y : Int32} {a b : Nat} (hx : x = nI a) (hy : y = nI b) (ha : a < 2 ^ 31) (h0 : 0 < b) (hb : b < 2 ^ 31) : x / y = nI (a / b) := by rw [hx, hy, pk_div ha h0 hb]
theorem ix_rem {x y : Int32} {a b : Nat} (hx : x = nI a) (hy : y = nI b) (ha : a < 2 ^ 31) (h0 : 0 < b) (hb : b < 2 ^ 31) : x - x / y * y = nI (a % b) := by rw [hx, hy, pk_rem ha h0 hb]
theorem ix_eq {x : Int32} {a b : Nat} (hx : x = nI a) (h : a = b) : x = nI b := h ▸ hx
theorem ix_in {i : Int32} {j n : Nat} (hi : i = nI j) (hj : j < n) (hn : n < 2 ^ 31) : vp_in i n ∧ i.toNatClampNeg = j := by
  rw [hi]
  exact ⟨vp_in_nI hj hn, nI_clamp (by omega)⟩
section VR
variable {KT : (Nat → Prop) → State → Heap → Prop} {p : Program} {l : Launch} {e : Env} {R : Room} {s : State} {m : MethodId} {args : Array Value} {below : List Frame} {meth : Method} {c : Code} {nL : Nat} {dC : Nat → ClassId} {dI : Nat → Nat → Nat} {ct ad : Nat → Nat} {A : Nat → Prop} {Q : State → Prop} {cells slots : Nat} {σ : MS} {Φ : va_W → Prop} {pc : Nat} {L L' : List (Nat × Value)} {st st' stk : List Value} {cc : ByteArray} {own : String}
theorem v_stk {D : va_G} {cl : List vw_C} (h : st = st') (k : V_ p l e R s m args below meth c nL D cl A Q cells slots Φ pc L st') : V_ p l e R s m args below meth c nL D cl A Q cells slots Φ pc L st := h ▸ k
theorem v_loc {D : va_G} {cl : List vw_C} (h : L = L') (k : V_ p l e R s m args below meth c nL D cl A Q cells slots Φ pc L' st) : V_ p l e R s m args below meth c nL D cl A Q cells slots Φ pc L st := h ▸ k
theorem v_wld {Ψ : va_W → Prop} {D : va_G} {cl : List vw_C} (h : Φ = Ψ) (k : V_ p l e R s m args below meth c nL D cl A Q cells slots Ψ pc L st) : V_ p l e R s m args below meth c nL D cl A Q cells slots Φ pc L st := h ▸ k
theorem m_get (G : Gx p s m args meth c RX8 cc nL (dC, dI) vwCl (tysF ct) A) {idx : Nat} {v : Value} (k : Nat) (hk : k < 43) (hv : m_val ad σ k = v) (hlk : Cond.fieldLink RX8 idx RX8 (TX8 k).2.1 (TX8 k).2.2.1 ∈ lw_all) (h1 : (TX8 k).1 = RX8) (hd : decode cc pc = .ok (.getfield idx, 3)) (kk : V_ p l e R s m args below meth c nL (dC, dI) vwCl A Q cells slots (RM ct ad σ) (pc + 3) L (v :: st)) : V_ p l e R s m args below meth c nL (dC, dI) vwCl A Q cells slots (RM ct ad σ) pc L (.ref (ad 43) :: st) :=
  w_get (C := RX8) (T := TX8) (N := 43) (ci := 0) G k hk in_X8 rfl hlk (fun _ h9 => h1 ▸ h9) (fun ws h => ⟨_, RM.obj h, by rw [m_fs_get hk, hv]⟩) hd kk
theorem m_putI (G : Gx p s m args meth c RX8 cc nL (dC, dI) vwCl (tysF ct) A) {idx : Nat} {v : Int32} (k : Nat) (hk : k < 43) (hlk : Cond.fieldLink RX8 idx RX8 (TX8 k).2.1 (TX8 k).2.2.1 ∈ lw_all) (h1 : (TX8 k).1 = RX8) (hf : (TX8 k).2.2.2 = false) (ht : tyX8 k = .int) (hd : decode cc pc = .ok (.putfield idx, 3)) (kk : V_ p l e R s m args below meth c nL (dC, dI) vwCl A Q cells slots (RM ct ad (mset σ k 0 v)) (pc + 3) L st) : V_ p l e R s m args below meth c nL (dC, dI) vwCl A Q cells slots (RM ct ad σ) pc L (.int v :: .ref (ad 43) :: st) :=
  w_put (C := RX8) (T := TX8) (N := 43) (ci := 0) G k hk in_X8 tyX8 tyX8_ok nmX8 rfl hlk (fun _ h9 => h1 ▸ h9) hf ht rfl rfl (fun ws h => ⟨_, RM.obj h, by rw [m_fs_len]; exact hk, fun ws' hU => RM.putI hk (Or.inl ht) h hU⟩) hd kk
theorem m_putZ (G : Gx p s m args meth c RX8 cc nL (dC, dI) vwCl (tysF ct) A) {idx : Nat} {v : Int32} (k : Nat) (hk : k < 43) (hlk : Cond.fieldLink RX8 idx RX8 (TX8 k).2.1 (TX8 k).2.2.1 ∈ lw_all) (h1 : (TX8 k).1 = RX8) (hf : (TX8 k).2.2.2 = false) (ht : tyX8 k = .boolean) (hn : narrow .boolean (.int v) = .int v) (hft : fits .boolean (.int v) = true) (hd : decode cc pc = .ok (.putfield idx, 3)) (kk : V_ p l e R s m args below meth c nL (dC, dI) vwCl A Q cells slots (RM ct ad (mset σ k 0 v)) (pc + 3) L st) : V_ p l e R s m args below meth c nL (dC, dI) vwCl A Q cells slots (RM ct ad σ) pc L (.int v :: .ref (ad 43) :: st) :=
  w_put (C := RX8) (T := TX8) (N := 43) (ci := 0) G k hk in_X8 tyX8 tyX8_ok nmX8 rfl hlk (fun _ h9 => h1 ▸ h9) hf ht hn hft (fun ws h => ⟨_, RM.obj h, by rw [m_fs_len]; exact hk, fun ws' hU => RM.putI hk (Or.inr ht) h hU⟩) hd kk
theorem m_putL (G : Gx p s m args meth c RX8 cc nL (dC, dI) vwCl (tysF ct) A) {idx : Nat} {v : Int64} (k : Nat) (hk : k < 43) (hlk : Cond.fieldLink RX8 idx RX8 (TX8 k).2.1 (TX8 k).2.2.1 ∈ lw_all) (h1 : (TX8 k).1 = RX8) (hf : (TX8 k).2.2.2 = false) (ht : tyX8 k = .long) (hd : decode cc pc = .ok (.putfield idx, 3)) (kk : V_ p l e R s m args below meth c nL (dC, dI) vwCl A Q cells slots (RM ct ad (msetL σ k 0 v)) (pc + 3) L st) : V_ p l e R s m args below meth c nL (dC, dI) vwCl A Q cells slots (RM ct ad σ) pc L (.long v :: .ref (ad 43) :: st) :=
  w_put (C := RX8) (T := TX8) (N := 43) (ci := 0) G k hk in_X8 tyX8 tyX8_ok nmX8 rfl hlk (fun _ h9 => h1 ▸ h9) hf ht rfl rfl (fun ws h => ⟨_, RM.obj h, by rw [m_fs_len]; exact hk, fun ws' hU => RM.putL hk ht h hU⟩) hd kk
def m_isI (k : Nat) : Bool := decide (k ∈ m_keys) && decide (k ≠ 43) && decide (k ≠ 28) && decide (k ≠ 29) && decide (k ≠ 39)
theorem m_isI_spec {k : Nat} (h : m_isI k = true) : k ∈ m_keys ∧ k ≠ 43 ∧ ¬ (k = 28 ∨ k = 29) ∧ k ≠ 39 ∧ m_len k < 2 ^ 31 := by
  unfold m_isI at h
  simp only [Bool.and_eq_true, decide_eq_true_eq] at h
  refine ⟨h.1.1.1.1, h.1.1.1.2, fun q => q.elim h.1.1.2 h.1.2, h.2, ?_⟩
  unfold m_len
  split <;> decide
theorem m_iald (G : Gx p s m args meth c RX8 cc nL (dC, dI) vwCl (tysF ct) A) {i : Int32} (k : Nat) (hk : m_isI k = true) (j : Nat) (hi : i = nI j) (hj : j < m_len k) (hd : decode cc pc = .ok (.iaload, 1)) (kk : V_ p l e R s m args below meth c nL (dC, dI) vwCl A Q cells slots (RM ct ad σ) (pc + 1) L (.int (σ.1 k j) :: st)) : V_ p l e R s m args below meth c nL (dC, dI) vwCl A Q cells slots (RM ct ad σ) pc L (.int i :: .ref (ad k) :: st) := by
  obtain ⟨k1, k2, k3, k4, k5⟩ := m_isI_spec hk
  obtain ⟨i1, i2⟩ := ix_in hi hj k5
  exact w_iald (cA := ct 0) G 0 rfl (fun ws h => ⟨_, RM.arr k1 k2 k3 k4 h, by rw [i2]⟩) i1 hd kk
theorem m_iast (G : Gx p s m args meth c RX8 cc nL (dC, dI) vwCl (tysF ct) A) {i v : Int32} (k : Nat) (hk : m_isI k = true) (j : Nat) (hi : i = nI j) (hj : j < m_len k) (hd : decode cc pc = .ok (.iastore, 1)) (kk : V_ p l e R s m args below meth c nL (dC, dI) vwCl A Q cells slots (RM ct ad (mset σ k j v)) (pc + 1) L st) : V_ p l e R s m args below meth c nL (dC, dI) vwCl A Q cells slots (RM ct ad σ) pc L (.int v :: .int i :: .ref (ad k) :: st) := by
  obtain ⟨k1, k2, k3, k4, k5⟩ := m_isI_spec hk
  obtain ⟨i1, i2⟩ := ix_in hi hj k5
  exact w_iast (cA := ct 0) G 0 rfl (fun ws h => ⟨_, RM.arr k1 k2 k3 k4 h, fun ws' hU => RM.stI k1 k2 k3 k4 h (by rw [i2] at hU; exact hU)⟩) i1 hd kk
theorem m_zald (G : Gx p s m args meth c RX8 cc nL (dC, dI) vwCl (tysF ct) A) {i : Int32} (j : Nat) (hi : i = nI j) (hj : j < 4) (hd : decode cc pc = .ok (.baload, 1)) (kk : V_ p l e R s m args below meth c nL (dC, dI) vwCl A Q cells slots (RM ct ad σ) (pc + 1) L (.int (σ.1 39 j) :: st)) : V_ p l e R s m args below meth c nL (dC, dI) vwCl A Q cells slots (RM ct ad σ) pc L (.int i :: .ref (ad 39) :: st) := by
  obtain ⟨i1, i2⟩ := ix_in hi hj (by decide)
  exact w_zald (cA := ct 2) G 2 rfl (fun ws h => ⟨σ.1 39, by have := h.2 39 (by decide); simpa [m_cell, m_len] using this, by rw [i2]⟩) i1 hd kk
theorem m_zast (G : Gx p s m args meth c RX8 cc nL (dC, dI) vwCl (tysF ct) A) {i v : Int32} (j : Nat) (hi : i = nI j) (hj : j < 4) (hn : vp_nar .boolean v = v) (hd : decode cc pc = .ok (.bastore, 1)) (kk : V_ p l e R s m args below meth c nL (dC, dI) vwCl A Q cells slots (RM ct ad (mset σ 39 j v)) (pc + 1) L st) : V_ p l e R s m args below meth c nL (dC, dI) vwCl A Q cells slots (RM ct ad σ) pc L (.int v :: .int i :: .ref (ad 39) :: st) := by
  obtain ⟨i1, i2⟩ := ix_in hi hj (by decide)
  exact w_zast (cA := ct 2) G 2 rfl (fun ws h => ⟨σ.1 39, by have := h.2 39 (by decide); simpa [m_cell, m_len] using this, fun ws' hU => RM.stZ h (by rw [i2, hn] at hU; exact hU)⟩) i1 hd kk
theorem m_lald (G : Gx p s m args meth c RX8 cc nL (dC, dI) vwCl (tysF ct) A) {i : Int32} (k : Nat) (hk : k = 28 ∨ k = 29) (j : Nat) (hi : i = nI j) (hj : j < 12) (hd : decode cc pc = .ok (.laload, 1)) (kk : V_ p l e R s m args below meth c nL (dC, dI) vwCl A Q cells slots (RM ct ad σ) (pc + 1) L (.long (σ.2 k j) :: st)) : V_ p l e R s m args below meth c nL (dC, dI) vwCl A Q cells slots (RM ct ad σ) pc L (.int i :: .ref (ad k) :: st) := by
  obtain ⟨i1, i2⟩ := ix_in hi hj (by decide)
  refine w_lald (cA := ct 1) G 1 rfl (fun ws h => ⟨σ.2 k, ?_, by rw [i2]⟩) i1 hd kk
  rcases hk with rfl | rfl
  · have := h.2 28 (by decide); simpa [m_cell, m_len] using this
  · have := h.2 29 (by decide); simpa [m_cell, m_len] using this
theorem m_last (G : Gx p s m args meth c RX8 cc nL (dC, dI) vwCl (tysF ct) A) {i : Int32} {v : Int64} (k : Nat) (hk : k = 28 ∨ k = 29) (j : Nat) (hi : i = nI j) (hj : j < 12) (hd : decode cc pc = .ok (.lastore, 1)) (kk : V_ p l e R s m args below meth c nL (dC, dI) vwCl A Q cells slots (RM ct ad (msetL σ k j v)) (pc + 1) L st) : V_ p l e R s m args below meth c nL (dC, dI) vwCl A Q cells slots (RM ct ad σ) pc L (.long v :: .int i :: .ref (ad k) :: st) := by
  obtain ⟨i1, i2⟩ := ix_in hi hj (by decide)
  refine w_last (cA := ct 1) G 1 rfl (fun ws h => ⟨σ.2 k, ?_, fun ws' hU => RM.stJ hk h (by rw [i2] at hU; exact hU)⟩) i1 hd kk
  rcases hk with rfl | rfl
  · have := h.2 28 (by decide); simpa [m_cell, m_len] using this
  · have := h.2 29 (by decide); simpa [m_cell, m_len] using this
end VR
section VE
variable {KT : (Nat → Prop) → State → Heap → Prop} {l : Launch} {nL : Nat} {D : va_G} {cl : List vw_C} {Φ : va_W → Prop} {own : String} {cc : ByteArray} {tys : List (ClassId × FieldType)} {y : MethodName} {rm : Room} {As : List Value}
theorem MC.ofI {S : Type} {Rep : S → va_W → Prop} {post : Int32 → S → Prop} {rt : FieldType} (hy : plainName y.cls = true) (hown : y.cls = own) (hsl : (lg_sl As).length ≤ nL)
    (body : ∀ (p : Program) (e : Env) (s : State) (m : MethodId) (args : Array Value) (below : List Frame) (meth : Method) (c : Code) (A : Nat → Prop) (Q : State → Prop), Gx p s m args meth c own cc nL D cl tys A → KT A s s.heap → meth.name = y.name → (∀ (cells slots : Nat) (Ψ : va_W → Prop) (pc : Nat) (L : List (Nat × Value)) (v : Int32), narrow rt (.int v) = .int v → cells ≤ rm.cells → slots ≤ rm.slots → decode cc pc = .ok (.ireturn, 1) → (∀ ws, Ψ ws → ∃ σ' : S, Rep σ' ws ∧ post v σ') → V_ p l e rm s m args below meth c nL D cl A Q cells slots Ψ pc L [.int v]) → V_ p l e rm s m args below meth c nL D cl A Q 0 0 Φ 0 (lv_args 0 As) []) : MC KT D cl tys l y cc nL (some rt) rm As Φ (QI_ D cl Rep post) :=
  MC.of hy hown hsl fun p e s m args below meth c A G hT hr hnm => body p e s m args below meth c A _ G hT hnm (fun cells slots Ψ pc L v hn hc hs hd h => v_iret G hr hn hc hs hd h)
theorem MC.ofL {S : Type} {Rep : S → va_W → Prop} {post : Int64 → S → Prop} (hy : plainName y.cls = true) (hown : y.cls = own) (hsl : (lg_sl As).length ≤ nL)
    (body : ∀ (p : Program) (e : Env) (s : State) (m : MethodId) (args : Array Value) (below : List Frame) (meth : Method) (c : Code) (A : Nat → Prop) (Q : State → Prop), Gx p s m args meth c own cc nL D cl tys A → KT A s s.heap → meth.name = y.name → (∀ (cells slots : Nat) (Ψ : va_W → Prop) (pc : Nat) (L : List (Nat × Value)) (v : Int64), cells ≤ rm.cells → slots ≤ rm.slots → decode cc pc = .ok (.lreturn, 1) → (∀ ws, Ψ ws → ∃ σ' : S, Rep σ' ws ∧ post v σ') → V_ p l e rm s m args below meth c nL D cl A Q cells slots Ψ pc L [.long v]) → V_ p l e rm s m args below meth c nL D cl A Q 0 0 Φ 0 (lv_args 0 As) []) : MC KT D cl tys l y cc nL (some .long) rm As Φ (QL_ D cl Rep post) :=
  MC.of hy hown hsl fun p e s m args below meth c A G hT hr hnm => body p e s m args below meth c A _ G hT hnm (fun cells slots Ψ pc L v hc hs hd h => v_lret G hr hc hs hd h)
theorem MC.ofV {S : Type} {Rep : S → va_W → Prop} {post : S → Prop} (hy : plainName y.cls = true) (hown : y.cls = own) (hsl : (lg_sl As).length ≤ nL)
    (body : ∀ (p : Program) (e : Env) (s : State) (m : MethodId) (args : Array Value) (below : List Frame) (meth : Method) (c : Code) (A : Nat → Prop) (Q : State → Prop), Gx p s m args meth c own cc nL D cl tys A → KT A s s.heap → meth.name = y.name → (∀ (cells slots : Nat) (Ψ : va_W → Prop) (pc : Nat) (L : List (Nat × Value)), cells ≤ rm.cells → slots ≤ rm.slots → decode cc pc = .ok (.return_, 1) → (∀ ws, Ψ ws → ∃ σ' : S, Rep σ' ws ∧ post σ') → V_ p l e rm s m args below meth c nL D cl A Q cells slots Ψ pc L []) → V_ p l e rm s m args below meth c nL D cl A Q 0 0 Φ 0 (lv_args 0 As) []) : MC KT D cl tys l y cc nL none rm As Φ (QV_ D cl Rep post) :=
  MC.of hy hown hsl fun p e s m args below meth c A G hT hr hnm => body p e s m args below meth c A _ G hT hnm (fun cells slots Ψ pc L hc hs hd h => v_vret G hr hc hs hd h)
theorem MC.ofQ {S : Type} {Rep : S → va_W → Prop} {post : Option Nat → S → Prop} {rt : FieldType} (hy : plainName y.cls = true) (hown : y.cls = own) (hsl : (lg_sl As).length ≤ nL) (hrt : (∃ n, rt = .object n) ∨ ∃ t, rt = .array t)
    (body : ∀ (p : Program) (e : Env) (s : State) (m : MethodId) (args : Array Value) (below : List Frame) (meth : Method) (c : Code) (A : Nat → Prop) (Q : State → Prop), Gx p s m args meth c own cc nL D cl tys A → KT A s s.heap → meth.name = y.name → (∀ (cells slots : Nat) (Ψ : va_W → Prop) (pc : Nat) (L : List (Nat × Value)) (v : Value) (r : Option Nat), va_rf r = v → cells ≤ rm.cells → slots ≤ rm.slots → decode cc pc = .ok (.areturn, 1) → (∀ ws, Ψ ws → ∃ σ' : S, Rep σ' ws ∧ post r σ') → V_ p l e rm s m args below meth c nL D cl A Q cells slots Ψ pc L [v]) → V_ p l e rm s m args below meth c nL D cl A Q 0 0 Φ 0 (lv_args 0 As) []) : MC KT D cl tys l y cc nL (some rt) rm As Φ (QQ_ D cl Rep post) :=
  MC.of hy hown hsl fun p e s m args below meth c A G hT hr hnm => body p e s m args below meth c A _ G hT hnm (fun cells slots Ψ pc L v r hn hc hs hd h => v_aret r hn G hr hrt hc hs hd h)
end VE
