/-! THE TWIN'S READING OF A TEXT: what its fields hold at a state of reading -/
set_option maxRecDepth 100000
def TX (F n : Nat) (b : Nat → Int32) (σ : MS) : Prop := σ.1 18 0 = nI F ∧ σ.1 19 0 = nI n ∧ F + n ≤ 960 ∧ n ≤ 160 ∧ (∀ i, i < n → σ.1 1 (F + i) = b i) ∧ ∀ i, i < n → rg (b i) 0 255
def tk (b : Nat → Int32) (n : Nat) (s : PS) (σ : MS) : Prop := match s with
  | .inl e => e ≤ n ∧ ((σ.1 25 0 = 1 ∧ σ.1 26 0 = nI e) ∨ (σ.1 25 0 = 0 ∧ σ.1 22 0 = nI e ∧ (σ.1 21 0 = 4 ∨ (σ.1 21 0 = 1 ∧ ∃ j : Nat, j ≤ n ∧ σ.1 20 0 = nI j ∧ (wc b n e j).1 = 0))))
  | .inr t => wf n (.inr t) ∧ σ.1 25 0 = 0 ∧ σ.1 22 0 = nI t.2.2.1 ∧ σ.1 20 0 = nI t.2.2.2 ∧ ((t.1 = 0 ∧ σ.1 21 0 = 0) ∨ ((t.1 = 1 ∨ t.1 = 2) ∧ σ.1 21 0 = 1 ∧ t.1 = (wc b n t.2.2.1 t.2.2.2).1 ∧ t.2.1 = nI (wc b n t.2.2.1 t.2.2.2).2) ∨ (t.1 = 3 ∧ σ.1 21 0 = 2 ∧ σ.2 23 0 = t.2.1.toInt64) ∨ (t.1 = 4 ∧ σ.1 21 0 = 3 ∧ σ.2 23 0 = t.2.1.toInt64))
abbrev pfr : List Nat := [20, 21, 22, 24, 25, 26]
def ST (F n : Nat) (b : Nat → Int32) (k : Nat) (s : PS) (σ : MS) : Prop := TX F n b σ ∧ tk b n s σ ∧ σ.1 24 0 = nI k
def envM (σ : MS) : Nat → Int32 := fun i => σ.1 (12 + i) 0
theorem envM_ag {σ σ' : MS} (h : ag pfr σ σ') (hk : ∀ i, i < 6 → True := fun _ _ => trivial) : ∀ i, i < 6 → envM σ' i = envM σ i := by
  intro i hi
  unfold envM
  rw [h]
  simp only [List.mem_cons, List.not_mem_nil, or_false, not_or]
  omega
theorem TX_ag {F n : Nat} {b : Nat → Int32} {σ σ' : MS} (h : ag pfr σ σ') (hT : TX F n b σ) : TX F n b σ' := by
  obtain ⟨h1, h2, h3, h4, h5, h6⟩ := hT
  refine ⟨by rw [ag_at h (by decide)]; exact h1, by rw [ag_at h (by decide)]; exact h2, h3, h4, fun i hi => ?_, h6⟩
  rw [h 1 (by decide)]
  exact h5 i hi
/-- what the token field says of the state -/
theorem tk_bad {b : Nat → Int32} {n : Nat} {s : PS} {σ : MS} (h : tk b n s σ) (hb : ¬ σ.1 25 0 = 0) : ∃ e, s = .inl e ∧ e ≤ n ∧ σ.1 25 0 = 1 ∧ σ.1 26 0 = nI e := by
  cases s with
  | inl e =>
    obtain ⟨he, h | h⟩ := h
    · exact ⟨e, rfl, he, h.1, h.2⟩
    · exact absurd h.1 hb
  | inr t => exact absurd h.2.1 hb
theorem tk_bad01 {b : Nat → Int32} {n : Nat} {s : PS} {σ : MS} (h : tk b n s σ) : σ.1 25 0 = 0 ∨ σ.1 25 0 = 1 := by
  by_cases hb : σ.1 25 0 = 0
  · exact Or.inl hb
  · obtain ⟨e, -, -, h1, -⟩ := tk_bad h hb
    exact Or.inr h1
theorem tk_at {b : Nat → Int32} {n : Nat} {s : PS} {σ : MS} (h : tk b n s σ) (hb : σ.1 25 0 = 0) : ∃ a : Nat, a ≤ n ∧ σ.1 22 0 = nI a ∧ faS s = .inl a := by
  cases s with
  | inl e =>
    obtain ⟨he, h | h⟩ := h
    · rw [h.1] at hb; exact absurd hb (by decide)
    · exact ⟨e, he, h.2.1, rfl⟩
  | inr t =>
    obtain ⟨w, h1, h2, h3, h4⟩ := h
    exact ⟨t.2.2.1, Nat.le_trans w.1 w.2.1, h2, rfl⟩
theorem tk_wf {b : Nat → Int32} {n : Nat} {s : PS} {σ : MS} (h : tk b n s σ) : wf n s := by
  cases s with
  | inl e => trivial
  | inr t => exact h.1
theorem tk_num {b : Nat → Int32} {n : Nat} {s : PS} {σ : MS} (h : tk b n s σ) (hb : σ.1 25 0 = 0) (ht : σ.1 21 0 = 2) : kd s = 3 ∧ σ.2 23 0 = (vl s).toInt64 := by
  cases s with
  | inl e =>
    obtain ⟨he, h | ⟨h1, h2, h3 | h3⟩⟩ := h
    · rw [h.1] at hb; exact absurd hb (by decide)
    · rw [h3] at ht; exact absurd ht (by decide)
    · rw [h3.1] at ht; exact absurd ht (by decide)
  | inr t =>
    obtain ⟨w, h1, h2, h3, h4 | h4 | h4 | h4⟩ := h
    · rw [h4.2] at ht; exact absurd ht (by decide)
    · rw [h4.2.1] at ht; exact absurd ht (by decide)
    · exact ⟨h4.1, h4.2.2⟩
    · rw [h4.2.1] at ht; exact absurd ht (by decide)
theorem tk_nnum {b : Nat → Int32} {n : Nat} {s : PS} {σ : MS} (h : tk b n s σ) (hn : ¬ (σ.1 25 0 = 0 ∧ σ.1 21 0 = 2)) : ¬ kd s = 3 := by
  cases s with
  | inl e => exact fun q => by cases q
  | inr t =>
    intro q
    obtain ⟨w, h1, h2, h3, h4 | h4 | h4 | h4⟩ := h
    · exact absurd (h4.1.symm.trans q) (by decide)
    · rcases h4.1 with z | z <;> exact absurd (z.symm.trans q) (by decide)
    · exact hn ⟨h1, h4.2.1⟩
    · exact absurd (h4.1.symm.trans q) (by decide)
theorem tk_nwd {b : Nat → Int32} {n : Nat} {s : PS} {σ : MS} (h : tk b n s σ) (hn : ¬ (σ.1 25 0 = 0 ∧ σ.1 21 0 = 1)) : ¬ kd s = 2 ∧ ¬ kd s = 1 := by
  cases s with
  | inl e => exact ⟨fun q => (by cases q), fun q => (by cases q)⟩
  | inr t =>
    obtain ⟨w, h1, h2, h3, h4 | h4 | h4 | h4⟩ := h
    · exact ⟨fun q => absurd (h4.1.symm.trans q) (by decide), fun q => absurd (h4.1.symm.trans q) (by decide)⟩
    · exact absurd ⟨h1, h4.2.1⟩ hn
    · exact ⟨fun q => absurd (h4.1.symm.trans q) (by decide), fun q => absurd (h4.1.symm.trans q) (by decide)⟩
    · exact ⟨fun q => absurd (h4.1.symm.trans q) (by decide), fun q => absurd (h4.1.symm.trans q) (by decide)⟩
theorem tk_end {b : Nat → Int32} {n : Nat} {s : PS} {σ : MS} (h : tk b n s σ) (hb : σ.1 25 0 = 0) : kd s = 0 ↔ σ.1 21 0 = 0 := by
  cases s with
  | inl e =>
    obtain ⟨he, h | ⟨h1, h2, h3 | h3⟩⟩ := h
    · rw [h.1] at hb; exact absurd hb (by decide)
    · rw [h3]; exact ⟨fun q => (by cases q), fun q => absurd q (by decide)⟩
    · rw [h3.1]; exact ⟨fun q => (by cases q), fun q => absurd q (by decide)⟩
  | inr t =>
    obtain ⟨w, h1, h2, h3, h4 | h4 | h4 | h4⟩ := h
    · exact ⟨fun _ => h4.2, fun _ => h4.1⟩
    · rw [h4.2.1]
      refine ⟨fun q => ?_, fun q => absurd q (by decide)⟩
      rcases h4.1 with z | z <;> exact absurd (z.symm.trans q) (by decide)
    · rw [h4.2.1]; exact ⟨fun q => absurd (h4.1.symm.trans q) (by decide), fun q => absurd q (by decide)⟩
    · rw [h4.2.1]; exact ⟨fun q => absurd (h4.1.symm.trans q) (by decide), fun q => absurd q (by decide)⟩
theorem i64_inj {x y : Int32} (h : x.toInt64 = y.toInt64) : x = y := by
  apply Int32.toInt_inj.mp
  have := congrArg Int64.toInt h
  rwa [i64_toInt, i64_toInt] at this
theorem tk_sg1 {b : Nat → Int32} {n : Nat} {s : PS} {σ : MS} {c : Int32} (h : tk b n s σ) (hb : σ.1 25 0 = 0) (ht : σ.1 21 0 = 3) (hw : σ.2 23 0 = c.toInt64) : isTk s 4 c = true := by
  cases s with
  | inl e =>
    obtain ⟨he, h | ⟨h1, h2, h3 | h3⟩⟩ := h
    · rw [h.1] at hb; exact absurd hb (by decide)
    · rw [h3] at ht; exact absurd ht (by decide)
    · rw [h3.1] at ht; exact absurd ht (by decide)
  | inr t =>
    obtain ⟨w, h1, h2, h3, h4 | h4 | h4 | h4⟩ := h
    · rw [h4.2] at ht; exact absurd ht (by decide)
    · rw [h4.2.1] at ht; exact absurd ht (by decide)
    · rw [h4.2.1] at ht; exact absurd ht (by decide)
    · simp only [isTk, Bool.and_eq_true, decide_eq_true_eq]
      exact ⟨h4.1, i64_inj (h4.2.2.symm.trans hw)⟩
theorem tk_sg0 {b : Nat → Int32} {n : Nat} {s : PS} {σ : MS} {c : Int32} (h : tk b n s σ) (hn : ¬ (σ.1 25 0 = 0 ∧ σ.1 21 0 = 3 ∧ σ.2 23 0 = c.toInt64)) : isTk s 4 c = false := by
  cases s with
  | inl e => rfl
  | inr t =>
    apply Bool.eq_false_iff.mpr
    intro q
    simp only [isTk, Bool.and_eq_true, decide_eq_true_eq] at q
    obtain ⟨w, h1, h2, h3, h4 | h4 | h4 | h4⟩ := h
    · exact absurd (h4.1.symm.trans q.1) (by decide)
    · rcases h4.1 with z | z <;> exact absurd (z.symm.trans q.1) (by decide)
    · exact absurd (h4.1.symm.trans q.1) (by decide)
    · exact hn ⟨h1, h4.2.1, by rw [h4.2.2, q.2]⟩
theorem tk_wd {b : Nat → Int32} {n : Nat} {s : PS} {σ : MS} (h : tk b n s σ) (hb : σ.1 25 0 = 0) (ht : σ.1 21 0 = 1) : ∃ a e : Nat, a ≤ n ∧ e ≤ n ∧ σ.1 22 0 = nI a ∧ σ.1 20 0 = nI e ∧ faS s = .inl a ∧ (∀ x ∈ wtab, isTk s x.1 (nI x.2.1) = true ↔ wc b n a e = (x.1, x.2.1)) := by
  have hx : ∀ x ∈ wtab, x.1 ≠ 0 ∧ x.2.1 < 10 := by decide +kernel
  cases s with
  | inl e =>
    obtain ⟨he, h | ⟨h1, h2, h3 | ⟨h3, j, hj, h4, h5⟩⟩⟩ := h
    · rw [h.1] at hb; exact absurd hb (by decide)
    · rw [h3] at ht; exact absurd ht (by decide)
    · refine ⟨e, j, he, hj, h2, h4, rfl, fun x hm => ⟨fun q => (by cases q), fun q => ?_⟩⟩
      rw [q] at h5
      exact absurd h5 (hx x hm).1
  | inr t =>
    obtain ⟨w, h1, h2, h3, h4 | h4 | h4 | h4⟩ := h
    · rw [h4.2] at ht; exact absurd ht (by decide)
    · refine ⟨t.2.2.1, t.2.2.2, Nat.le_trans w.1 w.2.1, w.2.1, h2, h3, rfl, fun x hm => ?_⟩
      simp only [isTk, Bool.and_eq_true, decide_eq_true_eq]
      rw [h4.2.2.1, h4.2.2.2]
      constructor
      · rintro ⟨q1, q2⟩
        have hb2 : (wc b n t.2.2.1 t.2.2.2).2 < 10 := by
          unfold wc
          split
          · unfold wfind
            split
            next z hz => exact (hx z (List.mem_of_find?_eq_some hz)).2
            next => decide
          · decide
        exact Prod.ext q1 (nI_inj (by omega) (by have := (hx x hm).2; omega) q2)
      · intro q
        rw [q]
        exact ⟨rfl, rfl⟩
    · rw [h4.2.1] at ht; exact absurd ht (by decide)
    · rw [h4.2.1] at ht; exact absurd ht (by decide)
theorem isTk_false_of_kd {s : PS} {k : Nat} {v : Int32} (h : ¬ kd s = k) : isTk s k v = false := by
  cases s with
  | inl e => rfl
  | inr t =>
    apply Bool.eq_false_iff.mpr
    intro q
    exact h (isTk_kd q).1
theorem mset_eq {σ : MS} {k i : Nat} {v : Int32} : (mset σ k i v).1 k i = v := by simp [mset, upd2]
theorem mset_ne {σ : MS} {k i : Nat} {v : Int32} {k' i' : Nat} (h : k' ≠ k) : (mset σ k i v).1 k' i' = σ.1 k' i' := by rw [show (mset σ k i v).1 k' = σ.1 k' from upd2_ne _ _ _ h]
theorem msetL_eq {σ : MS} {k i : Nat} {v : Int64} : (msetL σ k i v).2 k i = v := by simp [msetL, upd2]
theorem cmp_eq {x y : Int32} {a b : Nat} (hx : x = nI a) (hy : y = nI b) (ha : a < 2 ^ 31) (hb : b < 2 ^ 31) : x = y ↔ a = b := by rw [hx, hy]; exact nI_eq ha hb
theorem cmp_le {x y : Int32} {a b : Nat} (hx : x = nI a) (hy : y = nI b) (ha : a < 2 ^ 31) (hb : b < 2 ^ 31) : x ≤ y ↔ a ≤ b := by rw [hx, hy]; exact nI_leI ha hb
theorem cmp_lt {x y : Int32} {a b : Nat} (hx : x = nI a) (hy : y = nI b) (ha : a < 2 ^ 31) (hb : b < 2 ^ 31) : x < y ↔ a < b := by rw [hx, hy]; exact nI_ltI ha hb
theorem in_rg {c : Int32} {lo hi : Int64} {a z : Int} (hl : lo.toInt = a) (hh : hi.toInt = z) : (lo.toInt ≤ c.toInt64.toInt ∧ c.toInt64.toInt ≤ hi.toInt) ↔ rg c a z := by rw [hl, hh, i64_toInt]
theorem l43 : lN 43 = 43 := rfl
theorem by_lt {b : Nat → Int32} {n i : Nat} (hb : ∀ i, i < n → rg (b i) 0 255) : (by_ b n i = -1 ∧ n ≤ i) ∨ (i < n ∧ ∃ c : Nat, c ≤ 255 ∧ by_ b n i = nI c) := by
  unfold by_
  by_cases h : i < n
  · rw [if_pos h]
    exact Or.inr ⟨h, rg_nat (hb i h) (by decide)⟩
  · rw [if_neg h]
    exact Or.inl ⟨rfl, by omega⟩
theorem dg_step {v c : Nat} (h1 : 48 ≤ c) (h2 : c ≤ 57) : (10 : Int64) * lN v + (nI c).toInt64 - 48 = lN (10 * v + (c - 48)) := by
  rw [nI_l (by omega), show (10 : Int64) = lN 10 from rfl, lN_mul, lN_add, show (48 : Int64) = lN 48 from rfl, lN_sub (by omega), show 10 * v + c - 48 = 10 * v + (c - 48) by omega]
