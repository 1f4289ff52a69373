/-! THE WORLD OF THE COMPONENT: its memory σ by the twin's banks (scratch banks 12..32 for what it keeps for itself), its cells at the addresses ad, beside the unchanging cells F (texts, nodes, what a caller keeps) -/
set_option maxRecDepth 100000
def x_fs (ad : Nat → Nat) (σ : MS) : List Value := [.ref (ad 100), .int (σ.1 11 0), .int (σ.1 7 0), .ref (ad 8), .ref (ad 9), .ref (ad 105), .int (σ.1 12 0), .int (σ.1 13 0), .ref (ad 101), .int (σ.1 3 0), .ref (ad 106), .ref (ad 107), .ref (ad 5), .int (σ.1 6 0), .int (σ.1 14 0), .int (σ.1 15 0), .int (σ.1 16 0), .int (σ.1 17 0), .int (σ.1 18 0), .int (σ.1 19 0), .int (σ.1 4 0), .ref (ad 20), .ref (ad 21), .int (σ.1 22 0), .ref (ad (n_ (σ.1 23 0))), .ref (ad (n_ (σ.1 23 1))), .ref (ad (n_ (σ.1 24 0))), .ref (ad (n_ (σ.1 24 1))), .ref (ad 32), .int (σ.1 26 0), .ref (ad 103), .ref (ad 104), .ref (ad 25), .ref (ad 102)]
def x_len (k : Nat) : Nat := match k with
  | 21 => 5
  | 25 => 3
  | 30 => 12
  | 31 => 12
  | _ => 24
abbrev x_rf (f : Nat → Option Nat) : (Nat → Int32) ⊕ (Nat → Int64) ⊕ (Nat → UInt32) ⊕ (Nat → UInt64) ⊕ (Nat → Option Nat) := .inr (.inr (.inr (.inr f)))
def x_to (ad : Nat → Nat) (b n : Nat) : Nat → Option Nat := fun i => if i < n then some (ad (b + i)) else none
def x_srt (q : Int32) : Nat := if q = 0 then 3 else if q = 1 then 4 else 0
def x_life (σ : MS) (p : Nat) : va_E := .inr (2 + n_ (σ.1 10 (5 * p + 4)), [.int (σ.1 10 (5 * p)), .int (σ.1 10 (5 * p + 1)), .int (σ.1 10 (5 * p + 2)), .int (σ.1 10 (5 * p + 3))])
def x_row (ct : Nat → ClassId) (σ : MS) (s : Nat) : va_E := .inl (ct (x_srt (σ.1 40 s)), n_ (σ.1 41 s), .inl (fun i => if i < n_ (σ.1 41 s) then σ.1 42 (40 * s + i) else 0))
def x_she (ad : Nat → Nat) (σ : MS) (s : Nat) : va_E := .inr (8, [va_rf (if σ.1 39 s = 0 then none else some (ad (120 + s)))])
def x_cell (ct ad : Nat → Nat) (σ : MS) (k : Nat) : va_E :=
  if k = 0 then .inr (1, x_fs ad σ)
  else if k = 5 then .inl (ct 3, 160, .inl (fun i => (σ.1 5 i).toInt8.toInt32))
  else if k = 28 ∨ k = 29 then .inl (ct 1, 12, .inr (.inl (σ.2 k)))
  else if k < 100 then .inl (ct 0, x_len k, .inl (σ.1 k))
  else if k = 101 then .inl (ct 9, 6, x_rf (x_to ad 130 (n_ (σ.1 3 0))))
  else if k = 102 then .inl (ct 6, 4, x_rf (x_to ad 110 4))
  else if k = 103 then .inl (ct 10, 2, x_rf (x_to ad 33 2))
  else if k = 104 then .inl (ct 10, 4, x_rf (x_to ad 140 4))
  else if k = 106 then .inl (ct 8, 6, x_rf (x_to ad 160 6))
  else if k = 107 then .inl (ct 8, 6, x_rf (x_to ad 170 6))
  else if k < 114 then x_she ad σ (k - 110)
  else if k < 124 then x_row ct σ (k - 120)
  else if k < 144 then .inl (ct 0, 5, .inl (fun p => σ.1 35 (5 * p + (k - 140))))
  else x_life σ (k - 150)
def xdep (k : Nat) : List Nat :=
  if k = 0 then [11, 7, 12, 13, 3, 6, 14, 15, 16, 17, 18, 19, 4, 22, 23, 24, 26]
  else if k = 5 then [5]
  else if k = 28 ∨ k = 29 then []
  else if k < 100 then [k]
  else if k = 101 then [3]
  else if k = 102 then [] else if k = 103 then [] else if k = 104 then [] else if k = 106 then [] else if k = 107 then []
  else if k < 114 then [39]
  else if k < 124 then [40, 41, 42]
  else if k < 144 then [35]
  else [10]
theorem x_cell_cg {ct ad : Nat → Nat} {σ σ' : MS} {k : Nat} (h : ∀ b ∈ xdep k, σ'.1 b = σ.1 b) (hL : σ'.2 k = σ.2 k) : x_cell ct ad σ' k = x_cell ct ad σ k := by
  unfold xdep at h
  unfold x_cell
  by_cases h0 : k = 0
  · rw [if_pos h0] at h ⊢
    rw [if_pos h0]
    unfold x_fs
    rw [h 11 (by decide), h 7 (by decide), h 12 (by decide), h 13 (by decide), h 3 (by decide), h 6 (by decide), h 14 (by decide), h 15 (by decide), h 16 (by decide), h 17 (by decide), h 18 (by decide), h 19 (by decide), h 4 (by decide), h 22 (by decide), h 23 (by decide), h 24 (by decide), h 26 (by decide)]
  rw [if_neg h0] at h ⊢
  rw [if_neg h0]
  by_cases h5 : k = 5
  · rw [if_pos h5] at h ⊢
    rw [if_pos h5, h 5 (by decide)]
  rw [if_neg h5] at h ⊢
  rw [if_neg h5]
  by_cases h28 : k = 28 ∨ k = 29
  · rw [if_pos h28, if_pos h28, hL]
  rw [if_neg h28] at h ⊢
  rw [if_neg h28]
  by_cases h100 : k < 100
  · rw [if_pos h100] at h ⊢
    rw [if_pos h100, h k List.mem_cons_self]
  rw [if_neg h100] at h ⊢
  rw [if_neg h100]
  by_cases e101 : k = 101
  · rw [if_pos e101] at h ⊢
    rw [if_pos e101, h 3 (by decide)]
  rw [if_neg e101] at h ⊢
  rw [if_neg e101]
  by_cases e102 : k = 102
  · rw [if_pos e102, if_pos e102]
  rw [if_neg e102] at h ⊢
  rw [if_neg e102]
  by_cases e103 : k = 103
  · rw [if_pos e103, if_pos e103]
  rw [if_neg e103] at h ⊢
  rw [if_neg e103]
  by_cases e104 : k = 104
  · rw [if_pos e104, if_pos e104]
  rw [if_neg e104] at h ⊢
  rw [if_neg e104]
  by_cases e106 : k = 106
  · rw [if_pos e106, if_pos e106]
  rw [if_neg e106] at h ⊢
  rw [if_neg e106]
  by_cases e107 : k = 107
  · rw [if_pos e107, if_pos e107]
  rw [if_neg e107] at h ⊢
  rw [if_neg e107]
  by_cases e114 : k < 114
  · rw [if_pos e114] at h ⊢
    rw [if_pos e114]
    unfold x_she
    rw [h 39 (by decide)]
  rw [if_neg e114] at h ⊢
  rw [if_neg e114]
  by_cases e124 : k < 124
  · rw [if_pos e124] at h ⊢
    rw [if_pos e124]
    unfold x_row
    rw [h 40 (by decide), h 41 (by decide), h 42 (by decide)]
  rw [if_neg e124] at h ⊢
  rw [if_neg e124]
  by_cases e144 : k < 144
  · rw [if_pos e144] at h ⊢
    rw [if_pos e144, h 35 (by decide)]
  rw [if_neg e144] at h ⊢
  rw [if_neg e144]
  unfold x_life
  rw [h 10 (by decide)]
def xfix : List Nat := [0, 5, 8, 9, 20, 21, 25, 28, 29, 30, 31, 32, 33, 34, 101, 102, 103, 104, 106, 107, 110, 111, 112, 113, 140, 141, 142, 143]
/-- the keys of the cells that stand and may change -/
def xk (σ : MS) (k : Nat) : Prop := k ∈ xfix ∨ (150 ≤ k ∧ k < 150 + n_ (σ.1 11 0)) ∨ (120 ≤ k ∧ k < 124 ∧ ¬ σ.1 39 (k - 120) = 0)
/-! what a node says -/
def opN (s : Int32) (f g : SF) : SF := fun e => if s = 43 then f e + g e else if s = 45 then f e - g e else if s = 42 then f e * g e else if s = 60 then (if f e < g e then 1 else 0) else if s = 61 then (if f e = g e then 1 else 0) else if s = 38 then (if f e ≠ 0 ∧ g e ≠ 0 then 1 else 0) else (if f e ≠ 0 ∨ g e ≠ 0 then 1 else 0)
def NR (ad : Nat → Nat) (F : List (Nat × va_E)) : Nat → Nat → SF → Prop
  | 0, _, _ => False
  | d + 1, a, f => (∃ v : Int32, (a, Sum.inr (9, [.int v])) ∈ F ∧ f = fun _ => v) ∨ (∃ w : Nat, w ≤ 5 ∧ (a, Sum.inr (10, [.int (nI w), .ref (ad 0)])) ∈ F ∧ f = fun e => e w) ∨ (∃ (b : Nat) (g : SF), (a, Sum.inr (11, [.ref b, .int 1])) ∈ F ∧ NR ad F d b g ∧ f = fun e => - g e) ∨ (∃ (b : Nat) (g : SF), (a, Sum.inr (11, [.ref b, .int 0])) ∈ F ∧ NR ad F d b g ∧ f = fun e => if g e = 0 then 1 else 0) ∨ ∃ (s : Int32) (b c : Nat) (g h : SF), (s = 43 ∨ s = 45 ∨ s = 42 ∨ s = 60 ∨ s = 61 ∨ s = 38 ∨ s = 124) ∧ (a, Sum.inr (12, [.int s, .ref b, .ref c])) ∈ F ∧ NR ad F d b g ∧ NR ad F d c h ∧ f = opN s g h
theorem NR.mono {ad : Nat → Nat} {F F' : List (Nat × va_E)} (hF : ∀ c ∈ F, c ∈ F') : ∀ {d d' a : Nat} {f : SF}, d ≤ d' → NR ad F d a f → NR ad F' d' a f
  | 0, _, _, _, _, h => False.elim h
  | d + 1, 0, _, _, hd, _ => absurd hd (by omega)
  | d + 1, d' + 1, a, f, hd, h => by
    have hd' : d ≤ d' := by omega
    rcases h with ⟨v, hm, e⟩ | ⟨w, hw, hm, e⟩ | ⟨b, g, hm, hb, e⟩ | ⟨b, g, hm, hb, e⟩ | ⟨s, b, c, g, h, hs, hm, hb, hc, e⟩
    · exact Or.inl ⟨v, hF _ hm, e⟩
    · exact Or.inr (Or.inl ⟨w, hw, hF _ hm, e⟩)
    · exact Or.inr (Or.inr (Or.inl ⟨b, g, hF _ hm, NR.mono hF hd' hb, e⟩))
    · exact Or.inr (Or.inr (Or.inr (Or.inl ⟨b, g, hF _ hm, NR.mono hF hd' hb, e⟩)))
    · exact Or.inr (Or.inr (Or.inr (Or.inr ⟨s, b, c, g, h, hs, hF _ hm, NR.mono hF hd' hb, NR.mono hF hd' hc, e⟩)))
/-- the texts that stand -/
def txR (ct ad : Nat → Nat) (F : List (Nat × va_E)) (σ : MS) : Prop := ∀ t, t < n_ (σ.1 3 0) → ∃ g : Nat → Nat, (ad (130 + t), Sum.inl (ct 7, 3, x_rf (fun w => if w < 3 then some (g w) else none))) ∈ F ∧ ∀ w, w < 3 → NR ad F 400 (g w) (p_sem (fun i => σ.1 1 (160 * t + i)) (n_ (σ.1 2 t)) w)
def RX (ct ad : Nat → Nat) (F : List (Nat × va_E)) (σ : MS) (ws : va_W) : Prop :=
  (∀ i j, (i = 100 ∨ xk σ i) → (j = 100 ∨ xk σ j) → ad i = ad j → i = j) ∧ (∀ k, xk σ k → (ad k, x_cell ct ad σ k) ∈ ws) ∧ (∃ f : Nat → Option Nat, (ad 100, Sum.inl (ct 5, 5, x_rf f)) ∈ ws ∧ ∀ p, p < n_ (σ.1 11 0) → f p = some (ad (150 + p))) ∧ (∀ c ∈ F, c ∈ ws ∧ ∀ k, (k = 100 ∨ xk σ k) → c.1 ≠ ad k) ∧ txR ct ad F σ
theorem RX.upd {ct ad : Nat → Nat} {F : List (Nat × va_E)} {σ σ' : MS} {ws ws' : va_W} {k : Nat} {e : va_E} (hk : xk σ k) (hk100 : k ≠ 100) (h11 : σ'.1 11 = σ.1 11) (h39 : σ'.1 39 = σ.1 39) (h : RX ct ad F σ ws) (hU : U_ ws (ad k) e ws') (he : x_cell ct ad σ' k = e) (ho : ∀ i, xk σ i → i ≠ k → x_cell ct ad σ' i = x_cell ct ad σ i) (ht : txR ct ad F σ → txR ct ad F σ') : RX ct ad F σ' ws' := by
  have hx : ∀ i, xk σ' i ↔ xk σ i := fun i => by unfold xk; rw [h11, h39]
  obtain ⟨h1, h2, ⟨f, h3, h4⟩, h5, h6⟩ := h
  refine ⟨fun i j hi hj => h1 i j (hi.imp_right (hx i).mp) (hj.imp_right (hx j).mp), fun i hi => ?_, ⟨f, hU.2 _ _ (fun q => hk100 (h1 k 100 (Or.inr hk) (Or.inl rfl) q.symm)) h3, fun p hp => h4 p (by rw [← h11]; exact hp)⟩, fun c hc => ⟨hU.2 _ _ ((h5 c hc).2 k (Or.inr hk)) (h5 c hc).1, fun i hi => (h5 c hc).2 i (hi.imp_right (hx i).mp)⟩, ht h6⟩
  have hi := (hx i).mp hi
  by_cases hik : i = k
  · subst hik
    rw [he]
    exact hU.1
  · rw [ho i hi hik]
    exact hU.2 _ _ (fun q => hik (h1 i k (Or.inr hi) (Or.inr hk) q)) (h2 i hi)
theorem txR_cg {ct ad : Nat → Nat} {F : List (Nat × va_E)} {σ σ' : MS} (h1 : σ'.1 1 = σ.1 1) (h2 : σ'.1 2 = σ.1 2) (h3 : σ'.1 3 = σ.1 3) (h : txR ct ad F σ) : txR ct ad F σ' := by
  unfold txR
  rw [h1, h2, h3]
  exact h
