/-! TEXTS, PURE: tokens and what a text says. A state of reading: an error at a place (it stays), or a token (kind, value, where it begins, where it ends); kinds 0 end, 1 key, 2 name, 3 number, 4 sign -/
set_option maxRecDepth 100000
abbrev n_ (x : Int32) : Nat := x.toNatClampNeg
def by_ (b : Nat → Int32) (n i : Nat) : Int32 := if i < n then b i else -1
def sk (b : Nat → Int32) (n : Nat) : Nat → Nat → Nat
  | 0, i => i
  | f + 1, i => if by_ b n i = 32 ∨ by_ b n i = 10 then sk b n f (i + 1) else i
def wd (b : Nat → Int32) (n : Nat) : Nat → Nat → Nat
  | 0, i => i
  | f + 1, i => if rg (by_ b n i) 97 122 then wd b n f (i + 1) else i
def dg (b : Nat → Int32) (n : Nat) : Nat → Nat → Nat → Nat → Nat × Nat × Nat
  | 0, v, k, i => (v, k, i)
  | f + 1, v, k, i => if rg (by_ b n i) 48 57 then dg b n f (if k < 4 then 10 * v + (n_ (by_ b n i) - 48) else v) (k + 1) (i + 1) else (v, k, i)
def wl (b : Nat → Int32) (n a e : Nat) : List Int32 := (List.range 8).map (fun i => if a + i < e then by_ b n (a + i) else 0)
def wtab : List (Nat × Nat × List Int32) := [(1, 0, [116, 97, 107, 101, 115, 0, 0, 0]), (1, 1, [112, 117, 116, 115, 0, 0, 0, 0]), (1, 2, [102, 101, 101, 108, 115, 0, 0, 0]), (1, 3, [111, 114, 0, 0, 0, 0, 0, 0]), (1, 4, [97, 110, 100, 0, 0, 0, 0, 0]), (1, 5, [110, 111, 116, 0, 0, 0, 0, 0]), (2, 0, [99, 114, 111, 115, 115, 105, 110, 103]), (2, 1, [106, 97, 114, 0, 0, 0, 0, 0]), (2, 2, [110, 117, 109, 98, 101, 114, 0, 0]), (2, 3, [121, 101, 97, 114, 0, 0, 0, 0]), (2, 4, [109, 111, 111, 100, 0, 0, 0, 0]), (2, 5, [101, 97, 116, 101, 110, 0, 0, 0])]
def wfind (L : List Int32) : Nat × Nat := match wtab.find? (fun x => decide (x.2.2 = L)) with
  | some x => (x.1, x.2.1)
  | none => (0, 0)
def wc (b : Nat → Int32) (n a e : Nat) : Nat × Nat := if e ≤ a + 8 then wfind (wl b n a e) else (0, 0)
theorem wfind_tab : ∀ x ∈ wtab, ∀ L, (wfind L = (x.1, x.2.1) ↔ L = x.2.2) := by
  intro x hx L
  have hn : ∀ y ∈ wtab, wfind y.2.2 = (y.1, y.2.1) := by decide +kernel
  have hi : ∀ y ∈ wtab, ∀ z ∈ wtab, (y.1, y.2.1) = (z.1, z.2.1) → y.2.2 = z.2.2 := by decide +kernel
  have h0 : ∀ y ∈ wtab, y.1 ≠ 0 := by decide +kernel
  constructor
  · intro h
    unfold wfind at h
    split at h
    next z hz =>
      have hm := List.mem_of_find?_eq_some hz
      have hd := List.find?_some hz
      have hL : z.2.2 = L := of_decide_eq_true hd
      rw [← hL]
      exact hi z hm x hx h
    next => exact absurd (congrArg Prod.fst h).symm (h0 x hx)
  · intro h
    rw [h]
    exact hn x hx
abbrev T4 : Type := Nat × Int32 × Nat × Nat
abbrev PS : Type := Nat ⊕ T4
abbrev SF : Type := (Nat → Int32) → Int32
def nx (b : Nat → Int32) (n i : Nat) : PS :=
  if by_ b n (sk b n (n + 1) i) = -1 then .inr (0, 0, sk b n (n + 1) i, sk b n (n + 1) i)
  else if rg (by_ b n (sk b n (n + 1) i)) 97 122 then
    (if (wc b n (sk b n (n + 1) i) (wd b n (n + 1) (sk b n (n + 1) i))).1 = 0 then .inl (sk b n (n + 1) i)
     else .inr ((wc b n (sk b n (n + 1) i) (wd b n (n + 1) (sk b n (n + 1) i))).1, nI (wc b n (sk b n (n + 1) i) (wd b n (n + 1) (sk b n (n + 1) i))).2, sk b n (n + 1) i, wd b n (n + 1) (sk b n (n + 1) i)))
  else if rg (by_ b n (sk b n (n + 1) i)) 48 57 then
    (if 4 < (dg b n (n + 1) 0 0 (sk b n (n + 1) i)).2.1 then .inl (sk b n (n + 1) i) else .inr (3, nI (dg b n (n + 1) 0 0 (sk b n (n + 1) i)).1, sk b n (n + 1) i, (dg b n (n + 1) 0 0 (sk b n (n + 1) i)).2.2))
  else if by_ b n (sk b n (n + 1) i) ∈ ([40, 41, 59, 43, 45, 42, 60, 61] : List Int32) then .inr (4, by_ b n (sk b n (n + 1) i), sk b n (n + 1) i, sk b n (n + 1) i + 1)
  else .inl (sk b n (n + 1) i)
def nxS (b : Nat → Int32) (n : Nat) (s : PS) : PS := match s with
  | .inl e => .inl e
  | .inr t => nx b n t.2.2.2
def faS (s : PS) : PS := match s with
  | .inl e => .inl e
  | .inr t => .inl t.2.2.1
def isTk (s : PS) (k : Nat) (v : Int32) : Bool := match s with
  | .inl _ => false
  | .inr t => decide (t.1 = k) && decide (t.2.1 = v)
def kd (s : PS) : Nat := match s with
  | .inl _ => 9
  | .inr t => t.1
def vl (s : PS) : Int32 := match s with
  | .inl _ => 0
  | .inr t => t.2.1
abbrev PF : Type := PS → SF × PS
abbrev P3 : Type := PF × PF × PF
def p_atom (b : Nat → Int32) (n : Nat) (lo : Option P3) : PF := fun s =>
  if isTk s 4 45 = true then (match lo with
    | none => (fun _ => 0, faS s)
    | some lo => (fun e => -((lo.1 (nxS b n s)).1 e), (lo.1 (nxS b n s)).2))
  else if isTk s 4 40 = true then (match lo with
    | none => (fun _ => 0, faS s)
    | some lo => ((lo.2.2 (nxS b n s)).1, if isTk (lo.2.2 (nxS b n s)).2 4 41 = true then nxS b n (lo.2.2 (nxS b n s)).2 else faS (lo.2.2 (nxS b n s)).2))
  else if kd s = 3 then (fun _ => vl s, nxS b n s)
  else if kd s = 2 then (fun e => e (n_ (vl s)), nxS b n s)
  else (fun _ => 0, faS s)
def p_termL (b : Nat → Int32) (n : Nat) (at_ : PF) : Nat → SF → PF
  | 0, v, s => (v, s)
  | f + 1, v, s => if isTk s 4 42 = true then p_termL b n at_ f (fun e => v e * (at_ (nxS b n s)).1 e) (at_ (nxS b n s)).2 else (v, s)
def p_term (b : Nat → Int32) (n : Nat) (at_ : PF) : PF := fun s => p_termL b n at_ (n + 2) (at_ s).1 (at_ s).2
def p_addL (b : Nat → Int32) (n : Nat) (tm : PF) : Nat → SF → PF
  | 0, v, s => (v, s)
  | f + 1, v, s => if isTk s 4 43 = true then p_addL b n tm f (fun e => v e + (tm (nxS b n s)).1 e) (tm (nxS b n s)).2 else if isTk s 4 45 = true then p_addL b n tm f (fun e => v e - (tm (nxS b n s)).1 e) (tm (nxS b n s)).2 else (v, s)
def p_add (b : Nat → Int32) (n : Nat) (tm : PF) : PF := fun s => p_addL b n tm (n + 2) (tm s).1 (tm s).2
def p_not (b : Nat → Int32) (n : Nat) (lo : Option P3) (ad : PF) : PF := fun s =>
  if isTk s 1 5 = true then (match lo with
    | none => (fun _ => 0, faS s)
    | some lo => (fun e => if (lo.2.1 (nxS b n s)).1 e = 0 then 1 else 0, (lo.2.1 (nxS b n s)).2))
  else if isTk (ad s).2 4 60 = true then (fun e => if (ad s).1 e < (ad (nxS b n (ad s).2)).1 e then 1 else 0, (ad (nxS b n (ad s).2)).2)
  else if isTk (ad s).2 4 61 = true then (fun e => if (ad s).1 e = (ad (nxS b n (ad s).2)).1 e then 1 else 0, (ad (nxS b n (ad s).2)).2)
  else ad s
def p_bothL (b : Nat → Int32) (n : Nat) (nt : PF) : Nat → SF → PF
  | 0, v, s => (v, s)
  | f + 1, v, s => if isTk s 1 4 = true then p_bothL b n nt f (fun e => if v e ≠ 0 ∧ (nt (nxS b n s)).1 e ≠ 0 then 1 else 0) (nt (nxS b n s)).2 else (v, s)
def p_both (b : Nat → Int32) (n : Nat) (nt : PF) : PF := fun s => p_bothL b n nt (n + 2) (nt s).1 (nt s).2
def p_eithL (b : Nat → Int32) (n : Nat) (bo : PF) : Nat → SF → PF
  | 0, v, s => (v, s)
  | f + 1, v, s => if isTk s 1 3 = true then p_eithL b n bo f (fun e => if v e ≠ 0 ∨ (bo (nxS b n s)).1 e ≠ 0 then 1 else 0) (bo (nxS b n s)).2 else (v, s)
def p_eith (b : Nat → Int32) (n : Nat) (bo : PF) : PF := fun s => p_eithL b n bo (n + 2) (bo s).1 (bo s).2
def p_A (b : Nat → Int32) (n : Nat) (lo : Option P3) : PF := p_add b n (p_term b n (p_atom b n lo))
def p_N (b : Nat → Int32) (n : Nat) (lo : Option P3) : PF := p_not b n lo (p_A b n lo)
def p_B (b : Nat → Int32) (n : Nat) (lo : Option P3) : PF := p_both b n (p_N b n lo)
def p_E (b : Nat → Int32) (n : Nat) (lo : Option P3) : PF := p_eith b n (p_B b n lo)
def p_lev (b : Nat → Int32) (n : Nat) : Nat → Option P3
  | 0 => none
  | d + 1 => some (p_atom b n (p_lev b n d), p_N b n (p_lev b n d), p_E b n (p_lev b n d))
def p_part (b : Nat → Int32) (n : Nat) (k : Int32) : PF := fun s =>
  if isTk s 1 k = true then ((p_E b n (p_lev b n 5) (nxS b n s)).1, if isTk (p_E b n (p_lev b n 5) (nxS b n s)).2 4 59 = true then nxS b n (p_E b n (p_lev b n 5) (nxS b n s)).2 else faS (p_E b n (p_lev b n 5) (nxS b n s)).2)
  else (fun _ => 0, faS s)
def p_fin (s : PS) : PS := if kd s = 0 then s else faS s
def p_s1 (b : Nat → Int32) (n : Nat) : PS := (p_part b n 0 (nx b n 0)).2
def p_s2 (b : Nat → Int32) (n : Nat) : PS := (p_part b n 1 (p_s1 b n)).2
def p_s3 (b : Nat → Int32) (n : Nat) : PS := (p_part b n 2 (p_s2 b n)).2
/-- how the reading of a text ends: with an error at a place, or well -/
def p_text (b : Nat → Int32) (n : Nat) : PS := p_fin (p_s3 b n)
/-- what its parts say -/
def p_sem (b : Nat → Int32) (n w : Nat) : SF := if w = 0 then (p_part b n 0 (nx b n 0)).1 else if w = 1 then (p_part b n 1 (p_s1 b n)).1 else (p_part b n 2 (p_s2 b n)).1
/-! an error stays -/
theorem nxS_e {b : Nat → Int32} {n e : Nat} : nxS b n (.inl e) = .inl e := rfl
theorem faS_e {e : Nat} : faS (.inl e) = .inl e := rfl
theorem isTk_e {e k : Nat} {v : Int32} : isTk (.inl e) k v = false := rfl
def p_ab (f : PF) : Prop := ∀ e, (f (.inl e)).2 = .inl e
theorem p_atom_ab {b : Nat → Int32} {n : Nat} {lo : Option P3} : p_ab (p_atom b n lo) := by
  intro e
  simp [p_atom, isTk, kd, faS]
theorem p_term_ab {b : Nat → Int32} {n : Nat} {f : PF} (h : p_ab f) : p_ab (p_term b n f) := by
  intro e
  simp [p_term, p_termL, h e, isTk]
theorem p_add_ab {b : Nat → Int32} {n : Nat} {f : PF} (h : p_ab f) : p_ab (p_add b n f) := by
  intro e
  simp [p_add, p_addL, h e, isTk]
theorem p_not_ab {b : Nat → Int32} {n : Nat} {lo : Option P3} {f : PF} (h : p_ab f) : p_ab (p_not b n lo f) := by
  intro e
  simp [p_not, h e, isTk]
theorem p_both_ab {b : Nat → Int32} {n : Nat} {f : PF} (h : p_ab f) : p_ab (p_both b n f) := by
  intro e
  simp [p_both, p_bothL, h e, isTk]
theorem p_eith_ab {b : Nat → Int32} {n : Nat} {f : PF} (h : p_ab f) : p_ab (p_eith b n f) := by
  intro e
  simp [p_eith, p_eithL, h e, isTk]
theorem p_A_ab {b : Nat → Int32} {n : Nat} {lo : Option P3} : p_ab (p_A b n lo) := p_add_ab (p_term_ab p_atom_ab)
theorem p_N_ab {b : Nat → Int32} {n : Nat} {lo : Option P3} : p_ab (p_N b n lo) := p_not_ab p_A_ab
theorem p_B_ab {b : Nat → Int32} {n : Nat} {lo : Option P3} : p_ab (p_B b n lo) := p_both_ab p_N_ab
theorem p_E_ab {b : Nat → Int32} {n : Nat} {lo : Option P3} : p_ab (p_E b n lo) := p_eith_ab p_B_ab
/-! tokens lie within the text, and reading goes on -/
def wf (n : Nat) (s : PS) : Prop := match s with
  | .inl _ => True
  | .inr t => t.2.2.1 ≤ t.2.2.2 ∧ t.2.2.2 ≤ n ∧ (t.1 ≠ 0 → t.2.2.1 < t.2.2.2)
def mu (n : Nat) (s : PS) : Nat := match s with
  | .inl _ => 0
  | .inr t => n + 1 - t.2.2.1
theorem by_ne {b : Nat → Int32} {n i : Nat} (h : by_ b n i ≠ -1) : i < n := by
  unfold by_ at h
  by_cases hi : i < n
  · exact hi
  · rw [if_neg hi] at h
    exact absurd rfl h
theorem sk_le {b : Nat → Int32} {n : Nat} : ∀ (f i : Nat), i ≤ n → i ≤ sk b n f i ∧ sk b n f i ≤ n := by
  intro f
  induction f with
  | zero => intro i h; exact ⟨Nat.le_refl _, h⟩
  | succ f ih =>
    intro i h
    unfold sk
    split
    next hc =>
      have hi : i < n := by_ne (fun q => by rw [q] at hc; exact absurd hc (by decide))
      obtain ⟨h1, h2⟩ := ih (i + 1) (by omega)
      exact ⟨by omega, h2⟩
    next => exact ⟨Nat.le_refl _, h⟩
theorem wd_le {b : Nat → Int32} {n : Nat} : ∀ (f i : Nat), i ≤ n → i ≤ wd b n f i ∧ wd b n f i ≤ n := by
  intro f
  induction f with
  | zero => intro i h; exact ⟨Nat.le_refl _, h⟩
  | succ f ih =>
    intro i h
    unfold wd
    split
    next hc =>
      have hi : i < n := by_ne (fun q => by rw [q] at hc; exact absurd hc (by decide))
      obtain ⟨h1, h2⟩ := ih (i + 1) (by omega)
      exact ⟨by omega, h2⟩
    next => exact ⟨Nat.le_refl _, h⟩
theorem dg_le {b : Nat → Int32} {n : Nat} : ∀ (f v k i : Nat), i ≤ n → i ≤ (dg b n f v k i).2.2 ∧ (dg b n f v k i).2.2 ≤ n := by
  intro f
  induction f with
  | zero => intro v k i h; exact ⟨Nat.le_refl _, h⟩
  | succ f ih =>
    intro v k i h
    unfold dg
    split
    next hc =>
      have hi : i < n := by_ne (fun q => by rw [q] at hc; exact absurd hc (by decide))
      obtain ⟨h1, h2⟩ := ih _ (k + 1) (i + 1) (by omega)
      exact ⟨by omega, h2⟩
    next => exact ⟨Nat.le_refl _, h⟩
theorem nx_wf {b : Nat → Int32} {n i : Nat} (hi : i ≤ n) : wf n (nx b n i) ∧ mu n (nx b n i) ≤ n + 1 - i := by
  obtain ⟨h1, h2⟩ := sk_le (b := b) (n + 1) i hi
  unfold nx
  generalize sk b n (n + 1) i = j at h1 h2
  by_cases c0 : by_ b n j = -1
  · rw [if_pos c0]
    exact ⟨⟨Nat.le_refl _, h2, fun q => absurd rfl q⟩, by show n + 1 - j ≤ _; omega⟩
  · rw [if_neg c0]
    have hj : j < n := by_ne c0
    by_cases c1 : rg (by_ b n j) 97 122
    · rw [if_pos c1]
      have hw : j + 1 ≤ wd b n (n + 1) j ∧ wd b n (n + 1) j ≤ n := by
        unfold wd
        rw [if_pos c1]
        exact wd_le n (j + 1) (by omega)
      by_cases c2 : (wc b n j (wd b n (n + 1) j)).1 = 0
      · rw [if_pos c2]
        exact ⟨trivial, Nat.zero_le _⟩
      · rw [if_neg c2]
        exact ⟨⟨by show j ≤ wd b n (n + 1) j; omega, hw.2, fun _ => hw.1⟩, by show n + 1 - j ≤ _; omega⟩
    · rw [if_neg c1]
      by_cases c3 : rg (by_ b n j) 48 57
      · rw [if_pos c3]
        have hw : j + 1 ≤ (dg b n (n + 1) 0 0 j).2.2 ∧ (dg b n (n + 1) 0 0 j).2.2 ≤ n := by
          unfold dg
          rw [if_pos c3]
          exact dg_le n _ _ (j + 1) (by omega)
        by_cases c2 : 4 < (dg b n (n + 1) 0 0 j).2.1
        · rw [if_pos c2]
          exact ⟨trivial, Nat.zero_le _⟩
        · rw [if_neg c2]
          exact ⟨⟨by show j ≤ (dg b n (n + 1) 0 0 j).2.2; omega, hw.2, fun _ => hw.1⟩, by show n + 1 - j ≤ _; omega⟩
      · rw [if_neg c3]
        by_cases c4 : by_ b n j ∈ ([40, 41, 59, 43, 45, 42, 60, 61] : List Int32)
        · rw [if_pos c4]
          exact ⟨⟨by show j ≤ j + 1; omega, by show j + 1 ≤ n; omega, fun _ => by show j < j + 1; omega⟩, by show n + 1 - j ≤ _; omega⟩
        · rw [if_neg c4]
          exact ⟨trivial, Nat.zero_le _⟩
theorem nxS_wf {b : Nat → Int32} {n : Nat} {s : PS} (h : wf n s) : wf n (nxS b n s) ∧ mu n (nxS b n s) ≤ mu n s ∧ (kd s ≠ 9 → kd s ≠ 0 → mu n (nxS b n s) < mu n s) := by
  cases s with
  | inl e => exact ⟨trivial, Nat.le_refl _, fun q => absurd rfl q⟩
  | inr t =>
    obtain ⟨h1, h2, h3⟩ := h
    obtain ⟨g1, g2⟩ := nx_wf (b := b) h2
    exact ⟨g1, by show mu n (nx b n t.2.2.2) ≤ n + 1 - t.2.2.1; omega, fun _ q => by have := h3 q; show mu n (nx b n t.2.2.2) < n + 1 - t.2.2.1; omega⟩
theorem faS_wf {n : Nat} {s : PS} : wf n (faS s) ∧ mu n (faS s) = 0 := by
  cases s <;> exact ⟨trivial, rfl⟩
theorem isTk_kd {s : PS} {k : Nat} {v : Int32} (h : isTk s k v = true) : kd s = k ∧ vl s = v := by
  cases s with
  | inl e => cases h
  | inr t =>
    simp only [isTk, Bool.and_eq_true, decide_eq_true_eq] at h
    exact h
/-- a part of the reading that goes no way back -/
def p_ok (n : Nat) (f : PF) : Prop := ∀ s, wf n s → wf n (f s).2 ∧ mu n (f s).2 ≤ mu n s
def p_ok3 (n : Nat) (lo : Option P3) : Prop := ∀ l, lo = some l → p_ok n l.1 ∧ p_ok n l.2.1 ∧ p_ok n l.2.2
theorem p_atom_ok {b : Nat → Int32} {n : Nat} {lo : Option P3} (hl : p_ok3 n lo) : p_ok n (p_atom b n lo) := by
  intro s h
  obtain ⟨g1, g2, -⟩ := nxS_wf (b := b) h
  have hf : wf n (faS s) ∧ mu n (faS s) ≤ mu n s := ⟨faS_wf.1, by rw [faS_wf.2]; exact Nat.zero_le _⟩
  unfold p_atom
  split
  · cases lo with
    | none => exact hf
    | some l =>
      obtain ⟨k1, k2⟩ := (hl l rfl).1 _ g1
      exact ⟨k1, Nat.le_trans k2 g2⟩
  · split
    · cases lo with
      | none => exact hf
      | some l =>
        obtain ⟨k1, k2⟩ := (hl l rfl).2.2 _ g1
        dsimp only
        split
        · obtain ⟨m1, m2, -⟩ := nxS_wf (b := b) k1
          exact ⟨m1, by omega⟩
        · exact ⟨faS_wf.1, by rw [faS_wf.2]; exact Nat.zero_le _⟩
    · split
      · exact ⟨g1, g2⟩
      · split
        · exact ⟨g1, g2⟩
        · exact hf
theorem p_termL_ok {b : Nat → Int32} {n : Nat} {f : PF} (hf : p_ok n f) : ∀ (k : Nat) (v : SF), p_ok n (p_termL b n f k v) := by
  intro k
  induction k with
  | zero => intro v s h; exact ⟨h, Nat.le_refl _⟩
  | succ k ih =>
    intro v s h
    unfold p_termL
    split
    · obtain ⟨g1, g2, -⟩ := nxS_wf (b := b) h
      obtain ⟨k1, k2⟩ := hf _ g1
      obtain ⟨m1, m2⟩ := ih (fun e => v e * (f (nxS b n s)).1 e) _ k1
      exact ⟨m1, by omega⟩
    · exact ⟨h, Nat.le_refl _⟩
theorem p_addL_ok {b : Nat → Int32} {n : Nat} {f : PF} (hf : p_ok n f) : ∀ (k : Nat) (v : SF), p_ok n (p_addL b n f k v) := by
  intro k
  induction k with
  | zero => intro v s h; exact ⟨h, Nat.le_refl _⟩
  | succ k ih =>
    intro v s h
    unfold p_addL
    obtain ⟨g1, g2, -⟩ := nxS_wf (b := b) h
    obtain ⟨k1, k2⟩ := hf _ g1
    split
    · obtain ⟨m1, m2⟩ := ih (fun e => v e + (f (nxS b n s)).1 e) _ k1
      exact ⟨m1, by omega⟩
    · split
      · obtain ⟨m1, m2⟩ := ih (fun e => v e - (f (nxS b n s)).1 e) _ k1
        exact ⟨m1, by omega⟩
      · exact ⟨h, Nat.le_refl _⟩
theorem p_bothL_ok {b : Nat → Int32} {n : Nat} {f : PF} (hf : p_ok n f) : ∀ (k : Nat) (v : SF), p_ok n (p_bothL b n f k v) := by
  intro k
  induction k with
  | zero => intro v s h; exact ⟨h, Nat.le_refl _⟩
  | succ k ih =>
    intro v s h
    unfold p_bothL
    split
    · obtain ⟨g1, g2, -⟩ := nxS_wf (b := b) h
      obtain ⟨k1, k2⟩ := hf _ g1
      obtain ⟨m1, m2⟩ := ih (fun e => if v e ≠ 0 ∧ (f (nxS b n s)).1 e ≠ 0 then 1 else 0) _ k1
      exact ⟨m1, by omega⟩
    · exact ⟨h, Nat.le_refl _⟩
theorem p_eithL_ok {b : Nat → Int32} {n : Nat} {f : PF} (hf : p_ok n f) : ∀ (k : Nat) (v : SF), p_ok n (p_eithL b n f k v) := by
  intro k
  induction k with
  | zero => intro v s h; exact ⟨h, Nat.le_refl _⟩
  | succ k ih =>
    intro v s h
    unfold p_eithL
    split
    · obtain ⟨g1, g2, -⟩ := nxS_wf (b := b) h
      obtain ⟨k1, k2⟩ := hf _ g1
      obtain ⟨m1, m2⟩ := ih (fun e => if v e ≠ 0 ∨ (f (nxS b n s)).1 e ≠ 0 then 1 else 0) _ k1
      exact ⟨m1, by omega⟩
    · exact ⟨h, Nat.le_refl _⟩
theorem p_then {n : Nat} {f g : PF} (hf : p_ok n f) {s : PS} (h : wf n s) (hg : p_ok n g) : wf n (g (f s).2).2 ∧ mu n (g (f s).2).2 ≤ mu n s := by
  obtain ⟨k1, k2⟩ := hf s h
  obtain ⟨m1, m2⟩ := hg _ k1
  exact ⟨m1, Nat.le_trans m2 k2⟩
theorem p_term_ok {b : Nat → Int32} {n : Nat} {f : PF} (hf : p_ok n f) : p_ok n (p_term b n f) := fun s h => p_then hf h (p_termL_ok hf _ _)
theorem p_add_ok {b : Nat → Int32} {n : Nat} {f : PF} (hf : p_ok n f) : p_ok n (p_add b n f) := fun s h => p_then hf h (p_addL_ok hf _ _)
theorem p_both_ok {b : Nat → Int32} {n : Nat} {f : PF} (hf : p_ok n f) : p_ok n (p_both b n f) := fun s h => p_then hf h (p_bothL_ok hf _ _)
theorem p_eith_ok {b : Nat → Int32} {n : Nat} {f : PF} (hf : p_ok n f) : p_ok n (p_eith b n f) := fun s h => p_then hf h (p_eithL_ok hf _ _)
theorem p_not_ok {b : Nat → Int32} {n : Nat} {lo : Option P3} {f : PF} (hl : p_ok3 n lo) (hf : p_ok n f) : p_ok n (p_not b n lo f) := by
  intro s h
  obtain ⟨g1, g2, -⟩ := nxS_wf (b := b) h
  unfold p_not
  split
  · cases lo with
    | none => exact ⟨faS_wf.1, by show mu n (faS s) ≤ _; rw [faS_wf.2]; exact Nat.zero_le _⟩
    | some l =>
      obtain ⟨k1, k2⟩ := (hl l rfl).2.1 _ g1
      exact ⟨k1, Nat.le_trans k2 g2⟩
  · obtain ⟨k1, k2⟩ := hf s h
    obtain ⟨m1, m2, -⟩ := nxS_wf (b := b) k1
    obtain ⟨q1, q2⟩ := hf _ m1
    split
    · exact ⟨q1, by show mu n (f (nxS b n (f s).2)).2 ≤ _; omega⟩
    · split
      · exact ⟨q1, by show mu n (f (nxS b n (f s).2)).2 ≤ _; omega⟩
      · exact ⟨k1, k2⟩
theorem p_A_ok {b : Nat → Int32} {n : Nat} {lo : Option P3} (hl : p_ok3 n lo) : p_ok n (p_A b n lo) := p_add_ok (p_term_ok (p_atom_ok hl))
theorem p_N_ok {b : Nat → Int32} {n : Nat} {lo : Option P3} (hl : p_ok3 n lo) : p_ok n (p_N b n lo) := p_not_ok hl (p_A_ok hl)
theorem p_B_ok {b : Nat → Int32} {n : Nat} {lo : Option P3} (hl : p_ok3 n lo) : p_ok n (p_B b n lo) := p_both_ok (p_N_ok hl)
theorem p_E_ok {b : Nat → Int32} {n : Nat} {lo : Option P3} (hl : p_ok3 n lo) : p_ok n (p_E b n lo) := p_eith_ok (p_B_ok hl)
theorem p_lev_ok {b : Nat → Int32} {n : Nat} : ∀ d, p_ok3 n (p_lev b n d) := by
  intro d
  induction d with
  | zero => intro l h; cases h
  | succ d ih =>
    intro l h
    cases h
    exact ⟨p_atom_ok ih, p_N_ok ih, p_E_ok ih⟩
