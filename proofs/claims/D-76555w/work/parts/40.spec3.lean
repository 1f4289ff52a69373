/-! THE CALLS, PURE: what a state (by the twin's fields) answers and becomes -/
set_option maxRecDepth 100000
theorem cq1 {σ : MS} {i : Nat} : co σ 1 i = σ.1 1 i := rfl
theorem cq2 {σ : MS} {i : Nat} : co σ 2 i = σ.1 2 i := rfl
theorem cq3 {σ : MS} {i : Nat} : co σ 3 i = σ.1 3 i := rfl
theorem cq4 {σ : MS} {i : Nat} : co σ 4 i = σ.1 4 i := rfl
theorem cq5 {σ : MS} {i : Nat} : co σ 5 i = σ.1 5 i := rfl
theorem cq6 {σ : MS} {i : Nat} : co σ 6 i = σ.1 6 i := rfl
theorem cq7 {σ : MS} {i : Nat} : co σ 7 i = σ.1 7 i := rfl
theorem cq8 {σ : MS} {i : Nat} : co σ 8 i = σ.1 8 i := rfl
theorem cq9 {σ : MS} {i : Nat} : co σ 9 i = σ.1 9 i := rfl
theorem cq10 {σ : MS} {i : Nat} : co σ 10 i = σ.1 10 i := rfl
theorem cq11 {σ : MS} {i : Nat} : co σ 11 i = σ.1 11 i := rfl
theorem cq33 {σ : MS} {i : Nat} : co σ 33 i = σ.1 33 i := rfl
theorem cq34 {σ : MS} {i : Nat} : co σ 34 i = σ.1 34 i := rfl
theorem cq35 {σ : MS} {i : Nat} : co σ 35 i = σ.1 35 i := rfl
theorem cq36 {σ : MS} {i : Nat} : co σ 36 i = σ.1 36 i := rfl
theorem cq37 {σ : MS} {i : Nat} : co σ 37 i = σ.1 37 i := rfl
theorem cq38 {σ : MS} {i : Nat} : co σ 38 i = σ.1 38 i := rfl
theorem cq39 {σ : MS} {i : Nat} : co σ 39 i = σ.1 39 i := rfl
theorem cq40 {σ : MS} {i : Nat} : co σ 40 i = σ.1 40 i := rfl
theorem cq41 {σ : MS} {i : Nat} : co σ 41 i = σ.1 41 i := rfl
theorem cq42 {σ : MS} {i : Nat} : co σ 42 i = σ.1 42 i := rfl
/-! what always holds of a state -/
def rowsOk (f : Nat → Int32) : Prop := ∀ p, p < 5 → (∃ v, v ≤ 9 ∧ f (5 * p) = nI v) ∧ (∃ c, c < 12 ∧ f (5 * p + 1) = nI c) ∧ rg (f (5 * p + 2)) (-99) 99 ∧ (∃ v, v ≤ 999 ∧ f (5 * p + 3) = nI v) ∧ ∃ v, v ≤ 5 ∧ f (5 * p + 4) = nI v
def leadsOk (f : Nat → Int32) : Prop := ∀ r, r < 24 → ∃ c, c < 12 ∧ f r = nI c
def jarsOk (f : Nat → Int32) : Prop := ∀ r, r < 24 → ∃ v, v ≤ 999 ∧ f r = nI v
def textOk (K : GS) (t : Nat) : Prop := ∃ n, n ≤ 160 ∧ K 2 t = nI n ∧ (∀ i, i < n → rg (K 1 (160 * t + i)) 0 255) ∧ ∃ w, p_text (fun i => K 1 (160 * t + i)) n = .inr w
def textsOk (K : GS) : Prop := ∃ m, m ≤ 6 ∧ K 3 0 = nI m ∧ (∀ t, t < m → textOk K t) ∧ (∃ r, r < m ∧ K 4 0 = nI r) ∧ ∃ r, r < m ∧ K 38 0 = nI r
def tapeOk (K : GS) : Prop := (∃ n, n ≤ 160 ∧ K 6 0 = nI n) ∧ ∀ i, rg (K 5 i) 0 255
def sheetsOk (K : GS) : Prop := ∀ s, s < 4 → K 39 s = 0 ∨ (K 39 s = 1 ∧ (∃ q, q ≤ 2 ∧ K 40 s = nI q) ∧ ∃ z, z ≤ 40 ∧ K 41 s = nI z)
def keptOk (K : GS) : Prop := (K 36 0 = -1 ∨ ∃ m, m ≤ 5 ∧ K 36 0 = nI m) ∧ rowsOk (K 35) ∧ leadsOk (K 33) ∧ jarsOk (K 34)
def nowOk (K : GS) : Prop := (∃ m, m ≤ 5 ∧ K 11 0 = nI m) ∧ rowsOk (K 10) ∧ leadsOk (K 8) ∧ jarsOk (K 9)
def Ok (K : GS) : Prop := nowOk K ∧ textsOk K ∧ tapeOk K ∧ sheetsOk K ∧ keptOk K
/-! pieces -/
abbrev s_many (K : GS) : Nat := n_ (K 11 0)
abbrev s_rem (x y : Int32) : Int32 := x - x / y * y
abbrev s_clamp (v lo hi : Int32) : Int32 := if v < lo then lo else if hi < v then hi else v
def s_env (K : GS) (p : Nat) (jar : Int32) : Nat → Int32 := fun i => if i = 0 then K 10 (5 * p + 1) else if i = 1 then jar else if i = 2 then K 10 (5 * p) else if i = 3 then K 7 0 else if i = 4 then K 10 (5 * p + 2) else if i = 5 then K 10 (5 * p + 3) else 0
def s_sem (K : GS) (t w : Nat) : SF := p_sem (fun i => K 1 (160 * t + i)) (n_ (K 2 t)) w
def s_says (K : GS) (w p : Nat) (jar : Int32) : Int32 := s_clamp (s_sem K (n_ (K 4 0)) w (s_env K p jar)) (if w = 1 then 0 else -99) 99
def s_c (K : GS) (p : Nat) : Nat := n_ (K 10 (5 * p + 1))
def s_jar2 (K : GS) (p : Nat) : Int32 := K 9 (2 * s_c K p) + K 9 (2 * s_c K p + 1)
def s_way (K : GS) (p : Nat) : Int32 := if s_rem (s_says K 0 p (s_jar2 K p)) 2 = 0 then 0 else 1
def s_eng (K : GS) (p : Nat) : Int32 := if K 10 (5 * p + 1) = K 10 (5 * p) then 1 else s_way K p
def s_road (K : GS) (p : Nat) : Int32 :=
  if K 10 (5 * p + 4) = 5 then s_rem (K 10 (5 * p)) 2
  else if K 10 (5 * p + 4) = 2 then (if K 9 (2 * s_c K p) ≤ K 9 (2 * s_c K p + 1) then 0 else 1)
  else if K 10 (5 * p + 4) = 4 then (if s_rem (K 7 0) 3 = 0 then 0 else if K 9 (2 * s_c K p) ≤ K 9 (2 * s_c K p + 1) then 0 else 1)
  else if K 10 (5 * p + 4) = 0 then s_way K p
  else if K 10 (5 * p + 4) = 3 then (if K 10 (5 * p + 2) < 0 then 1 - s_eng K p else s_eng K p)
  else s_eng K p
def s_putv (K : GS) (p : Nat) (v : Int32) : Int32 :=
  if K 10 (5 * p + 4) = 1 then 2 * v else if K 10 (5 * p + 4) = 2 then v + 1 else if K 10 (5 * p + 4) = 3 then 2 * v + K 10 (5 * p) else if K 10 (5 * p + 4) = 4 then (v + 1) / 2 else v
def s_puts (K : GS) (p : Nat) : Int32 := if K 10 (5 * p + 4) = 5 then 0 else s_clamp (s_putv K p (s_says K 1 p (s_jar2 K p))) 0 99
def s_feelv (K : GS) (p : Nat) (v : Int32) : Int32 :=
  if K 10 (5 * p + 4) = 1 then (if v < 0 then 0 else v)
  else if K 10 (5 * p + 4) = 3 then 2 * (if v < 0 then 0 else v)
  else if K 10 (5 * p + 4) = 2 then (if K 10 (5 * p + 3) ≤ 2 then v else -v)
  else if K 10 (5 * p + 4) = 4 then (if K 10 (5 * p + 3) ≤ 2 then v else -v) + K 10 (5 * p)
  else v
def s_feels (K : GS) (p j : Nat) : Int32 := if K 10 (5 * p + 4) = 5 then 0 else s_feelv K p (s_says K 2 p (K 9 j))
def s_all (K : GS) : Nat → Int32
  | 0 => 0
  | n + 1 => s_all K n + K 9 n
/-- one goes (o: 1 the other way) -/
def s_rn (K : GS) (p o : Nat) : Nat := if s_road K p = nI o then 0 else 1
def s_goes (K : GS) (p o : Nat) : GS :=
  upd2 (upd2 K 9 (2 * s_c K p + 1 - s_rn K p o) (s_clamp (K 9 (2 * s_c K p + 1 - s_rn K p o) + s_puts K p) 0 999)) 10 (5 * p + 1) (K 8 (2 * s_c K p + s_rn K p o))
def s_passN (K : GS) (o : Nat → Nat) : Nat → GS
  | 0 => K
  | n + 1 => s_goes (s_passN K o n) n (o n)
def s_pass (K : GS) (o : Nat → Nat) : GS := upd2 (s_passN K o (s_many K)) 7 0 (K 7 0 + 1)
def o0 : Nat → Nat := fun _ => 0
def s_iter (K : GS) : Nat → GS
  | 0 => K
  | n + 1 => s_pass (s_iter K n) o0
/-! a state keeps well -/
theorem s_road01 {K : GS} {p : Nat} (h : nowOk K) (hp : p < 5) : s_road K p = nI 0 ∨ s_road K p = nI 1 := by
  obtain ⟨-, hr, -, -⟩ := h
  obtain ⟨⟨v, hv, ev⟩, -, -, -, -⟩ := hr p hp
  have hw : s_way K p = nI 0 ∨ s_way K p = nI 1 := by
    unfold s_way
    split
    · exact Or.inl rfl
    · exact Or.inr rfl
  have he : s_eng K p = nI 0 ∨ s_eng K p = nI 1 := by
    unfold s_eng
    split
    · exact Or.inr rfl
    · exact hw
  unfold s_road
  split
  · rw [ev, show (2 : Int32) = nI 2 from rfl, s_rem, pk_rem (by omega) (by decide) (by decide)]
    have : v % 2 = 0 ∨ v % 2 = 1 := by omega
    rcases this with h | h <;> rw [h]
    · exact Or.inl rfl
    · exact Or.inr rfl
  · split
    · split
      · exact Or.inl rfl
      · exact Or.inr rfl
    · split
      · split
        · exact Or.inl rfl
        · split
          · exact Or.inl rfl
          · exact Or.inr rfl
      · split
        · exact hw
        · split
          · split
            · rcases he with h | h <;> rw [h]
              · exact Or.inr rfl
              · exact Or.inl rfl
            · exact he
          · exact he
theorem s_rn1 {K : GS} {p o : Nat} : s_rn K p o ≤ 1 := by
  unfold s_rn
  split <;> omega
theorem clamp_rg {v : Int32} {lo hi : Int32} (h : lo ≤ hi) : lo ≤ s_clamp v lo hi ∧ s_clamp v lo hi ≤ hi := by
  simp only [Int32.le_iff_toInt_le] at *
  unfold s_clamp
  split
  · exact ⟨Int.le_refl _, h⟩
  · next h1 =>
    rw [Int32.lt_iff_toInt_lt] at h1
    split
    · exact ⟨h, Int.le_refl _⟩
    · next h2 =>
      rw [Int32.lt_iff_toInt_lt] at h2
      exact ⟨by omega, by omega⟩
theorem clamp_nI {v : Int32} {n : Nat} (hn : n < 2 ^ 31) : ∃ k, k ≤ n ∧ s_clamp v 0 (nI n) = nI k := by
  obtain ⟨h1, h2⟩ := clamp_rg (v := v) (lo := 0) (hi := nI n) (nI_pos' hn)
  rw [Int32.le_iff_toInt_le] at h1 h2
  rw [nI_toInt hn] at h2
  exact rg_nat ⟨h1, h2⟩ hn
theorem leads_set {f : Nat → Int32} {r c : Nat} (h : leadsOk f) (hc : c < 12) : leadsOk (upd f r (nI c)) := by
  intro q hq
  by_cases e : q = r
  · subst e; exact ⟨c, hc, pk_us⟩
  · rw [pk_un e]; exact h q hq
theorem jars_set {f : Nat → Int32} {r v : Nat} (h : jarsOk f) (hv : v ≤ 999) : jarsOk (upd f r (nI v)) := by
  intro q hq
  by_cases e : q = r
  · subst e; exact ⟨v, hv, pk_us⟩
  · rw [pk_un e]; exact h q hq
theorem rows_at {f : Nat → Int32} {p c : Nat} (h : rowsOk f) (hc : c < 12) : rowsOk (upd f (5 * p + 1) (nI c)) := by
  intro q hq
  obtain ⟨h1, h2, h3, h4, h5⟩ := h q hq
  refine ⟨by rw [pk_un (by omega)]; exact h1, ?_, by rw [pk_un (by omega)]; exact h3, by rw [pk_un (by omega)]; exact h4, by rw [pk_un (by omega)]; exact h5⟩
  by_cases e : q = p
  · subst e; exact ⟨c, hc, pk_us⟩
  · rw [pk_un (by omega)]; exact h2
theorem now_goes {K : GS} {p o : Nat} (h : nowOk K) (hp : p < 5) : nowOk (s_goes K p o) := by
  obtain ⟨hm, hr, hl, hj⟩ := h
  have hrn := s_rn1 (K := K) (p := p) (o := o)
  obtain ⟨-, ⟨c, hc, ec⟩, -⟩ := hr p hp
  have hcc : s_c K p = c := by unfold s_c; rw [ec]; exact nI_clamp (by omega)
  obtain ⟨d, hd, ed⟩ := hl (2 * s_c K p + s_rn K p o) (by omega)
  obtain ⟨v, hv, ev⟩ := clamp_nI (v := K 9 (2 * s_c K p + 1 - s_rn K p o) + s_puts K p) (n := 999) (by decide)
  unfold s_goes
  rw [ed, show s_clamp (K 9 (2 * s_c K p + 1 - s_rn K p o) + s_puts K p) 0 999 = nI v from ev]
  refine ⟨?_, ?_, ?_, ?_⟩
  · rw [upd2_ne _ _ _ (by decide), upd2_ne _ _ _ (by decide)]; exact hm
  · rw [upd2_eq, upd2_ne _ _ _ (by decide)]; exact rows_at hr hd
  · rw [upd2_ne _ _ _ (by decide), upd2_ne _ _ _ (by decide)]; exact hl
  · rw [upd2_ne _ _ _ (by decide), upd2_eq]; exact jars_set hj hv
theorem s_goes_k {K : GS} {p o k : Nat} (h9 : k ≠ 9) (h10 : k ≠ 10) : s_goes K p o k = K k := by
  unfold s_goes
  rw [upd2_ne _ _ _ h10, upd2_ne _ _ _ h9]
theorem s_goes_10 {K : GS} {p o q j : Nat} (hj : j ≠ 1) (hj5 : j < 5) : s_goes K p o 10 (5 * q + j) = K 10 (5 * q + j) := by
  unfold s_goes
  rw [upd2_eq, pk_un (by omega), upd2_ne _ _ _ (by decide)]
theorem now_passN {K : GS} {o : Nat → Nat} (h : nowOk K) : ∀ n, n ≤ 5 → nowOk (s_passN K o n)
  | 0, _ => h
  | n + 1, hn => now_goes (now_passN h n (by omega)) (by omega)
theorem s_passN_k {K : GS} {o : Nat → Nat} {k : Nat} (h9 : k ≠ 9) (h10 : k ≠ 10) : ∀ n, s_passN K o n k = K k
  | 0 => rfl
  | n + 1 => (s_goes_k h9 h10).trans (s_passN_k h9 h10 n)
theorem now_of {K K' : GS} (h : nowOk K) (h11 : K' 11 = K 11) (h10 : K' 10 = K 10) (h8 : K' 8 = K 8) (h9 : K' 9 = K 9) : nowOk K' := by
  unfold nowOk
  rw [h11, h10, h8, h9]
  exact h
theorem many5 {K : GS} (h : nowOk K) : s_many K ≤ 5 ∧ K 11 0 = nI (s_many K) := by
  obtain ⟨⟨m, hm, em⟩, -⟩ := h
  have : s_many K = m := by rw [s_many, em]; exact nI_clamp (by omega)
  rw [this]
  exact ⟨hm, em⟩
theorem now_pass {K : GS} {o : Nat → Nat} (h : nowOk K) : nowOk (s_pass K o) := by
  unfold s_pass
  exact now_of (now_passN h (s_many K) (many5 h).1) (upd2_ne _ _ _ (by decide)) (upd2_ne _ _ _ (by decide)) (upd2_ne _ _ _ (by decide)) (upd2_ne _ _ _ (by decide))
theorem s_pass_k {K : GS} {o : Nat → Nat} {k : Nat} (h7 : k ≠ 7) (h9 : k ≠ 9) (h10 : k ≠ 10) : s_pass K o k = K k := by
  unfold s_pass
  rw [upd2_ne _ _ _ h7, s_passN_k h9 h10]
theorem now_iter {K : GS} (h : nowOk K) : ∀ n, nowOk (s_iter K n)
  | 0 => h
  | n + 1 => now_pass (now_iter h n)
theorem s_iter_k {K : GS} {k : Nat} (h7 : k ≠ 7) (h9 : k ≠ 9) (h10 : k ≠ 10) : ∀ n, s_iter K n k = K k
  | 0 => rfl
  | n + 1 => (s_pass_k h7 h9 h10).trans (s_iter_k h7 h9 h10 n)
theorem texts_of {K K' : GS} (h : textsOk K) (h1 : K' 1 = K 1) (h2 : K' 2 = K 2) (h3 : K' 3 = K 3) (h4 : K' 4 = K 4) (h38 : K' 38 = K 38) : textsOk K' := by
  unfold textsOk textOk
  rw [h1, h2, h3, h4, h38]
  exact h
theorem rest_of {K K' : GS} (h : Ok K) (hn : nowOk K') (hk : ∀ k, k ≠ 7 → k ≠ 8 → k ≠ 9 → k ≠ 10 → k ≠ 11 → K' k = K k) : Ok K' := by
  obtain ⟨-, ht, ⟨ha, hb⟩, hs, hq⟩ := h
  refine ⟨hn, texts_of ht (hk _ (by decide) (by decide) (by decide) (by decide) (by decide)) (hk _ (by decide) (by decide) (by decide) (by decide) (by decide)) (hk _ (by decide) (by decide) (by decide) (by decide) (by decide)) (hk _ (by decide) (by decide) (by decide) (by decide) (by decide)) (hk _ (by decide) (by decide) (by decide) (by decide) (by decide)), ⟨?_, ?_⟩, ?_, ?_⟩
  · rw [hk 6 (by decide) (by decide) (by decide) (by decide) (by decide)]; exact ha
  · rw [hk 5 (by decide) (by decide) (by decide) (by decide) (by decide)]; exact hb
  · unfold sheetsOk
    rw [hk 39 (by decide) (by decide) (by decide) (by decide) (by decide), hk 40 (by decide) (by decide) (by decide) (by decide) (by decide), hk 41 (by decide) (by decide) (by decide) (by decide) (by decide)]
    exact hs
  · unfold keptOk
    rw [hk 36 (by decide) (by decide) (by decide) (by decide) (by decide), hk 35 (by decide) (by decide) (by decide) (by decide) (by decide), hk 33 (by decide) (by decide) (by decide) (by decide) (by decide), hk 34 (by decide) (by decide) (by decide) (by decide) (by decide)]
    exact hq
theorem ok_goes {K : GS} {p o : Nat} (h : Ok K) (hp : p < 5) : Ok (s_goes K p o) := rest_of h (now_goes h.1 hp) (fun k _ _ h9 h10 _ => s_goes_k h9 h10)
theorem ok_passN {K : GS} {o : Nat → Nat} {n : Nat} (h : Ok K) (hn : n ≤ 5) : Ok (s_passN K o n) := rest_of h (now_passN h.1 n hn) (fun k _ _ h9 h10 _ => s_passN_k h9 h10 n)
theorem ok_pass {K : GS} {o : Nat → Nat} (h : Ok K) : Ok (s_pass K o) := rest_of h (now_pass h.1) (fun k h7 _ h9 h10 _ => s_pass_k h7 h9 h10)
theorem ok_iter {K : GS} {n : Nat} (h : Ok K) : Ok (s_iter K n) := rest_of h (now_iter h.1 n) (fun k h7 _ h9 h10 _ => s_iter_k h7 h9 h10 n)
/-- the text that rules is well -/
theorem ok_rule {K : GS} (h : Ok K) : ∃ t n, t < 6 ∧ n ≤ 160 ∧ K 4 0 = nI t ∧ n_ (K 4 0) = t ∧ K 2 t = nI n ∧ n_ (K 2 t) = n ∧ (∀ i, i < n → rg (K 1 (160 * t + i)) 0 255) ∧ ∃ w, p_text (fun i => K 1 (160 * t + i)) n = .inr w := by
  obtain ⟨-, ⟨m, hm, em, ht, ⟨r, hr, er⟩, -⟩, -⟩ := h
  obtain ⟨n, hn, en, hb, hw⟩ := ht r hr
  exact ⟨r, n, by omega, hn, er, by rw [er]; exact nI_clamp (by omega), en, by rw [en]; exact nI_clamp (by omega), hb, hw⟩
