/-! THE PURE SIDE: what a state says (by the twin's fields), and what the calls answer -/
set_option maxRecDepth 100000
abbrev GS : Type := Nat → Nat → Int32
/-- fields that only hold something during a call -/
def scr (k : Nat) : Bool := k == 0 || (Nat.ble 12 k && Nat.ble k 32)
def co (σ : MS) : GS := fun k i => if scr k = true then 0 else σ.1 k i
theorem co_at {σ : MS} {k i : Nat} (h : scr k = false) : co σ k i = σ.1 k i := by simp [co, h]
theorem co_scr {σ : MS} {k i : Nat} {v : Int32} (h : scr k = true) : co (mset σ k i v) = co σ := by
  funext a b
  unfold co
  by_cases ha : a = k
  · subst ha
    rw [if_pos h, if_pos h]
  · rw [show (mset σ k i v).1 a = σ.1 a from upd2_ne _ _ _ ha]
theorem co_set {σ : MS} {k i : Nat} {v : Int32} (h : scr k = false) : co (mset σ k i v) = upd2 (co σ) k i v := by
  funext a b
  rw [upd2_at]
  show (if scr a = true then (0 : Int32) else upd2 σ.1 k i v a b) = if a = k ∧ b = i then v else if scr a = true then 0 else σ.1 a b
  rw [upd2_at]
  by_cases ha : a = k
  · subst ha
    simp [h]
  · simp [ha]
theorem co_L {σ : MS} {k i : Nat} {v : Int64} : co (msetL σ k i v) = co σ := rfl
/-- the same but for what the fields in S hold -/
def ag (S : List Nat) (σ σ' : MS) : Prop := ∀ k, k ∉ S → σ'.1 k = σ.1 k
theorem ag_rf {S : List Nat} {σ : MS} : ag S σ σ := fun _ _ => rfl
theorem ag_set {S : List Nat} {σ : MS} {k i : Nat} {v : Int32} (h : k ∈ S) : ag S σ (mset σ k i v) := fun j hj => upd2_ne _ _ _ (fun e => hj (e ▸ h))
theorem ag_L {S : List Nat} {σ : MS} {k i : Nat} {v : Int64} : ag S σ (msetL σ k i v) := fun _ _ => rfl
theorem ag_tr {S : List Nat} {a b c : MS} (h1 : ag S a b) (h2 : ag S b c) : ag S a c := fun k hk => (h2 k hk).trans (h1 k hk)
theorem ag_mono {S T : List Nat} {a b : MS} (h : ag S a b) (hs : ∀ k ∈ S, k ∈ T) : ag T a b := fun k hk => h k (fun q => hk (hs k q))
theorem ag_co {S : List Nat} {a b : MS} (h : ag S a b) (hs : ∀ k ∈ S, scr k = true) : co b = co a := by
  funext k i
  unfold co
  by_cases hk : scr k = true
  · rw [if_pos hk, if_pos hk]
  · rw [if_neg hk, if_neg hk, h k (fun q => hk (hs k q))]
theorem ag_at {S : List Nat} {a b : MS} {k i : Nat} (h : ag S a b) (hk : k ∉ S) : b.1 k i = a.1 k i := by rw [h k hk]
/-- a number in a range -/
abbrev rg (x : Int32) (lo hi : Int) : Prop := lo ≤ x.toInt ∧ x.toInt ≤ hi
theorem rg_nat {x : Int32} {n : Nat} (h : rg x 0 n) (hn : n < 2 ^ 31) : ∃ j : Nat, j ≤ n ∧ x = nI j := by
  obtain ⟨h1, h2⟩ := h
  refine ⟨x.toInt.toNat, by omega, ?_⟩
  apply Int32.toInt_inj.mp
  rw [nI_toInt (by omega)]
  omega
theorem rg_lt {x : Int32} {n : Nat} (h : rg x 0 ((n : Int) - 1)) (hn : n < 2 ^ 31) : ∃ j : Nat, j < n ∧ x = nI j := by
  obtain ⟨h1, h2⟩ := h
  refine ⟨x.toInt.toNat, by omega, ?_⟩
  apply Int32.toInt_inj.mp
  rw [nI_toInt (by omega)]
  omega
theorem nI_rg {j : Nat} {lo hi : Int} (hj : j < 2 ^ 31) : rg (nI j) lo hi ↔ lo ≤ (j : Int) ∧ (j : Int) ≤ hi := by
  unfold rg
  rw [nI_toInt hj]
theorem nI_inj {a b : Nat} (ha : a < 2 ^ 31) (hb : b < 2 ^ 31) (h : nI a = nI b) : a = b := (nI_eq ha hb).mp h
theorem i64_toInt (x : Int32) : x.toInt64.toInt = x.toInt := Int32.toInt_toInt64 x
theorem nI_m1 {k : Nat} (h : k < 2 ^ 31) : (nI k - 1).toInt = (k : Int) - 1 := by
  cases k with
  | zero => decide
  | succ k => rw [nI_pred, nI_toInt (by omega)]; omega
theorem le_of_lcmp (x y : Int64) : (lg_cmp x y = 0 ↔ x = y) ∧ (lg_cmp x y < 0 ↔ x < y) ∧ (0 < lg_cmp x y ↔ y < x) := by
  unfold lg_cmp
  by_cases h1 : y < x
  · rw [if_pos h1]
    refine ⟨⟨fun h => absurd h (by decide), fun h => absurd h1 (by rw [h]; exact Int64.lt_irrefl)⟩, ⟨fun h => absurd h (by decide), fun h => absurd h1 (by have := Int64.lt_iff_toInt_lt.mp h; rw [Int64.lt_iff_toInt_lt]; omega)⟩, ⟨fun _ => h1, fun _ => by decide⟩⟩
  · rw [if_neg h1]
    by_cases h2 : x = y
    · rw [if_pos h2]
      subst h2
      refine ⟨⟨fun _ => rfl, fun _ => rfl⟩, ⟨fun h => absurd h (by decide), fun h => absurd h Int64.lt_irrefl⟩, ⟨fun h => absurd h (by decide), fun h => absurd h Int64.lt_irrefl⟩⟩
    · rw [if_neg h2]
      have h3 : x < y := by
        rw [Int64.lt_iff_toInt_lt] at h1 ⊢
        have : x.toInt ≠ y.toInt := fun q => h2 (Int64.toInt_inj.mp q)
        omega
      exact ⟨⟨fun h => absurd h (by decide), fun h => absurd h h2⟩, ⟨fun _ => h3, fun _ => by decide⟩, ⟨fun h => absurd h (by decide), fun h => absurd h h1⟩⟩
theorem lc_ge {x y : Int64} (h : ¬ lg_cmp x y < 0) : y.toInt ≤ x.toInt := by
  rw [(le_of_lcmp x y).2.1, Int64.lt_iff_toInt_lt] at h
  omega
theorem lc_lt {x y : Int64} (h : lg_cmp x y < 0) : x.toInt < y.toInt := Int64.lt_iff_toInt_lt.mp ((le_of_lcmp x y).2.1.mp h)
theorem lc_le {x y : Int64} (h : ¬ 0 < lg_cmp x y) : x.toInt ≤ y.toInt := by
  rw [(le_of_lcmp x y).2.2, Int64.lt_iff_toInt_lt] at h
  omega
theorem lc_gt {x y : Int64} (h : 0 < lg_cmp x y) : y.toInt < x.toInt := Int64.lt_iff_toInt_lt.mp ((le_of_lcmp x y).2.2.mp h)
