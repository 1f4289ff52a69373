/-! THE TWIN IS BORN -/
set_option maxRecDepth 100000
section VM1
variable {p : Program} {l : Launch} {e : Env} {R : Room} {s : State} {m : MethodId} {args : Array Value} {below : List Frame} {meth : Method} {c : Code} {nL : Nat} {dC : Nat → ClassId} {dI : Nat → Nat → Nat} {A : Nat → Prop} {Q : State → Prop} {cells slots : Nat} {pc : Nat} {L : List (Nat × Value)} {st : List Value} {cc : ByteArray} {ct ad : Nat → Nat} {σ : MS}
theorem m_born (G : Gx p s m args meth c RX8 cc nL (dC, dI) vwCl (tysF ct) A) {S : List Nat} {a : Nat} {atype : ArrayType} {n : Int32} {k1 n1 idx : Nat} (hin2 : meth.name = "<init>") (k t0 : Nat) (hk : k < 43) (ha : m_arr k = true) (hS : k ∉ S) (hS43 : 43 ∉ S) (had : ad 43 = a) {ty : FieldType} {a0 : vp_A} {cA : ClassId} (hcell : m_cell ct ad σ k = .inl (cA, a0)) (ht : (tysF ct)[t0]? = some (cA, ty)) (harr : Cond.arrayClass ty ∈ lw_all) (hty : newarray.typeOf atype = ty) (hzero : ∀ cB : ClassId, vp_cell cB a0 = arrV cB (m_len k) (fun _ => defaultValue ty)) (hn : n = nI (m_len k)) (hN : m_len k < 2 ^ 20) (hb8 : componentBytes ty ≤ 8) (hd : decode cc pc = .ok (.newarray atype, 2)) (hr : cells + 1 ≤ R.cells ∧ slots + m_len k ≤ R.slots) (hk1 : cells + 1 = k1) (hn1 : slots + m_len k = n1)
    (hlk : Cond.fieldLink RX8 idx RX8 (TX8 k).2.1 (TX8 k).2.2.1 ∈ lw_all) (h1 : (TX8 k).1 = RX8) (hf : (TX8 k).2.2.2 = true) {t2 : FieldType} (ht2 : tyX8 k = .array t2) (hd2 : decode cc (pc + 2) = .ok (.putfield idx, 3))
    (kk : ∀ ad' : Nat → Nat, ad' 43 = a → V_ p l e R s m args below meth c nL (dC, dI) vwCl A Q k1 n1 (RMp (k :: S) ct ad' σ) (pc + 5) L st) : V_ p l e R s m args below meth c nL (dC, dI) vwCl A Q cells slots (RMp S ct ad σ) pc L (.int n :: .ref a :: st) := by
  subst had
  refine w_newa (Ψ := fun q ws' => ∃ ws, RMp S ct ad σ ws ∧ N_ ws q (m_cell ct ad σ k) ws') G harr hty t0 ht hzero hn hN hb8 hd hr hk1 hn1 (fun ws h q ws' hN => ⟨ws, h, by rw [hcell]; exact hN⟩) (fun q => ?_)
  refine w_putF (C := RX8) (T := TX8) (N := 43) (ci := 0) (v := .ref q) (ty := .array t2) (Ψ := RMp (k :: S) ct (fun i => if i = k then q else ad i) σ) G hin2 k hk in_X8 tyX8 tyX8_ok nmX8 rfl hlk (fun _ h9 => h1 ▸ h9) hf h1 ht2 rfl rfl ?_ hd2 (kk _ (if_neg (by omega)))
  rintro ws1 ⟨ws, h, hNw⟩
  exact ⟨_, hNw.2.1 _ h.2.2, by rw [m_fsP_len]; exact hk, fun ws' hU => RMp.born hk ha hS hS43 h hNw hU⟩
theorem m_pputI (G : Gx p s m args meth c RX8 cc nL (dC, dI) vwCl (tysF ct) A) {S : List Nat} {a idx : Nat} {v : Int32} (k : Nat) (hk : k < 43) (hS : ∀ i ∈ S, i ≠ k ∧ i ≠ 43) (had : ad 43 = a) (hlk : Cond.fieldLink RX8 idx RX8 (TX8 k).2.1 (TX8 k).2.2.1 ∈ lw_all) (h1 : (TX8 k).1 = RX8) (hf : (TX8 k).2.2.2 = false) (ht : tyX8 k = .int) (hd : decode cc pc = .ok (.putfield idx, 3)) (kk : V_ p l e R s m args below meth c nL (dC, dI) vwCl A Q cells slots (RMp S ct ad (mset σ k 0 v)) (pc + 3) L st) : V_ p l e R s m args below meth c nL (dC, dI) vwCl A Q cells slots (RMp S ct ad σ) pc L (.int v :: .ref a :: st) := by
  subst had
  exact w_put (C := RX8) (T := TX8) (N := 43) (ci := 0) G k hk in_X8 tyX8 tyX8_ok nmX8 rfl hlk (fun _ h9 => h1 ▸ h9) hf ht rfl rfl (fun ws h => ⟨_, h.2.2, by rw [m_fsP_len]; exact hk, fun ws' hU => RMp.putI hk ht hS h hU⟩) hd kk
end VM1
def σz : MS := (fun _ _ => 0, fun _ _ => 0)
theorem z_I {n : Nat} {cB : ClassId} : vp_cell cB (n, .inl ((fun _ => 0) : Nat → Int32)) = arrV cB n (fun _ => defaultValue .int) := by rw [vp_cell_i] <;> rfl
theorem z_L {n : Nat} {cB : ClassId} : vp_cell cB (n, .inr (.inl ((fun _ => 0) : Nat → Int64))) = arrV cB n (fun _ => defaultValue .long) := by rw [vp_cell_l] <;> rfl
theorem z_Z {n : Nat} {cB : ClassId} : vp_cell cB (n, .inl ((fun _ => 0) : Nat → Int32)) = arrV cB n (fun _ => defaultValue .boolean) := by rw [vp_cell_i] <;> rfl
def s_sp (q : Nat) (L : List Int32) (g : Nat → Int32) : Nat → Int32 := fun i => if q ≤ i ∧ i < q + 8 then L.getD (i - q) 0 else g i
def s_ini : GS := fun k i => if k = 1 then s_sp 40 [32, 59, 32, 32, 32, 32, 32, 32] (s_sp 32 [32, 102, 101, 101, 108, 115, 32, 53] (s_sp 24 [112, 117, 116, 115, 32, 50, 32, 59] (s_sp 16 [32, 121, 101, 97, 114, 32, 59, 32] (s_sp 8 [111, 115, 115, 105, 110, 103, 32, 43] (s_sp 0 [116, 97, 107, 101, 115, 32, 99, 114] (fun _ => 0)))))) i else if k = 2 ∧ i = 0 then 48 else if k = 3 ∧ i = 0 then 1 else if k = 8 ∧ i < 24 then nI ((i / 2 + 1 + i % 2) % 12) else if k = 36 ∧ i = 0 then -1 else 0
theorem ini_text : ∃ w, p_text (fun i => s_ini 1 (160 * 0 + i)) 48 = .inr w := by
  have h : (match p_text (fun i => s_ini 1 (160 * 0 + i)) 48 with | .inr _ => true | .inl _ => false) = true := by decide +kernel
  revert h
  cases p_text (fun i => s_ini 1 (160 * 0 + i)) 48 with
  | inl e => intro h; exact absurd h Bool.false_ne_true
  | inr t => intro _; exact ⟨t, rfl⟩
theorem ini_z {k i : Nat} (h1 : k ≠ 1) (h2 : k ≠ 2) (h3 : k ≠ 3) (h8 : k ≠ 8) (h36 : k ≠ 36) : s_ini k i = 0 := by
  unfold s_ini
  rw [if_neg h1, if_neg (fun q => h2 q.1), if_neg (fun q => h3 q.1), if_neg (fun q => h8 q.1), if_neg (fun q => h36 q.1)]
theorem ok_ini : Ok s_ini := by
  have z : ∀ k i, k ≠ 1 → k ≠ 2 → k ≠ 3 → k ≠ 8 → k ≠ 36 → s_ini k i = nI 0 := fun k i h1 h2 h3 h8 h36 => ini_z h1 h2 h3 h8 h36
  have zr : ∀ k, k ≠ 1 → k ≠ 2 → k ≠ 3 → k ≠ 8 → k ≠ 36 → rowsOk (s_ini k) := fun k h1 h2 h3 h8 h36 p hp => ⟨⟨0, by omega, z _ _ h1 h2 h3 h8 h36⟩, ⟨0, by omega, z _ _ h1 h2 h3 h8 h36⟩, by rw [z _ _ h1 h2 h3 h8 h36]; decide, ⟨0, by omega, z _ _ h1 h2 h3 h8 h36⟩, 0, by omega, z _ _ h1 h2 h3 h8 h36⟩
  have zj : ∀ k, k ≠ 1 → k ≠ 2 → k ≠ 3 → k ≠ 8 → k ≠ 36 → jarsOk (s_ini k) := fun k h1 h2 h3 h8 h36 r hr => ⟨0, by omega, z _ _ h1 h2 h3 h8 h36⟩
  have hb : ∀ i, i < 48 → rg (s_ini 1 (160 * 0 + i)) 0 255 := by decide +kernel
  refine ⟨⟨⟨0, by omega, rfl⟩, zr 10 (by decide) (by decide) (by decide) (by decide) (by decide), fun r hr => ⟨(r / 2 + 1 + r % 2) % 12, by omega, ?_⟩, zj 9 (by decide) (by decide) (by decide) (by decide) (by decide)⟩, ⟨1, by omega, rfl, fun t ht => ?_, ⟨0, by omega, rfl⟩, 0, by omega, rfl⟩, ⟨⟨0, by omega, rfl⟩, fun i => ?_⟩, fun s hs => Or.inl rfl, Or.inl rfl, zr 35 (by decide) (by decide) (by decide) (by decide) (by decide), fun r hr => ⟨0, by omega, z 33 r (by decide) (by decide) (by decide) (by decide) (by decide)⟩, zj 34 (by decide) (by decide) (by decide) (by decide) (by decide)⟩
  · unfold s_ini
    rw [if_neg (by decide), if_neg (by omega), if_neg (by omega), if_pos ⟨rfl, hr⟩]
  · have e : t = 0 := by omega
    subst e
    exact ⟨48, by omega, rfl, hb, ini_text⟩
  · rw [z 5 i (by decide) (by decide) (by decide) (by decide) (by decide)]; decide
