/-! THE CALLS, PURE: what would be -/
set_option maxRecDepth 100000
def s_set (K : GS) (p : Nat) : Nat → Int32
  | 0 => 1 <<< (K 10 (5 * p + 1) &&& 31)
  | n + 1 => s_set K p n ||| (1 <<< (s_iter K (n + 1) 10 (5 * p + 1) &&& 31))
abbrev isOneS (K : GS) (x : Int32) : Prop := rg x 0 ((s_many K : Int) - 1)
def s_runV (K : GS) (p n : Nat) (what : Int32) : Int32 := if what = 0 then s_iter K n 10 (5 * p + 1) else if what = 1 then s_set K p n else if what = 2 then s_all (s_iter K n) 24 else s_iter K n 9 (n_ what - 10)
def s_run (K : GS) (x n what : Int32) : Int32 := if isOneS K x ∧ rg n 0 60 ∧ (rg what 0 2 ∨ rg what 10 33) then s_runV K (n_ x) (n_ n) what else -2
def oT (one k q : Nat) : Nat → Nat := fun p => if p = one ∧ q = k then 1 else 0
def s_iterO (K : GS) (one k : Nat) : Nat → GS
  | 0 => K
  | n + 1 => s_pass (s_iterO K one k n) (oT one k n)
def s_otherwise (K : GS) (x n k : Int32) : Int32 := if isOneS K x ∧ rg n 1 40 ∧ rg k 0 (n.toInt - 1) then s_iterO K (n_ x) (n_ k) (n_ n) 10 (5 * n_ x + 1) else -2
def s_mt (K : GS) (a b : Nat) : Nat → Nat → Int32
  | 0, _ => -1
  | f + 1, n => if s_iter K n 10 (5 * a + 1) = s_iter K n 10 (5 * b + 1) then nI n else s_mt K a b f (n + 1)
def s_meet (K : GS) (x y : Int32) : Int32 := if isOneS K x ∧ isOneS K y ∧ ¬ x = y then s_mt K (n_ x) (n_ y) 61 0 else -2
def s_shutK (K : GS) (c : Nat) : GS := fun k i => if k = 8 ∧ i < 24 ∧ K 8 i = nI c then nI ((c + 1) % 12) else K k i
def s_shutV (K : GS) (n c : Nat) : Int32 := s_all (s_iter (s_shutK K c) n) 24
def s_shutF (K : GS) (n : Nat) : Nat → Int32 × Int32
  | 0 => (-1, s_all (s_iter K n) 24)
  | c + 1 => if (s_shutF K n c).2 < s_shutV K n c then (nI c, s_shutV K n c) else s_shutF K n c
def s_shut (K : GS) (n what : Int32) : Int32 := if rg n 0 40 ∧ rg what 0 1 then (if what = 0 then (s_shutF K (n_ n) 12).1 else (s_shutF K (n_ n) 12).2) else -2
def s_spF (K : GS) (p : Nat) : Nat → Int32 × Int32
  | 0 => (-1, 0)
  | k + 1 => if 0 < K 9 k then (if (s_spF K p k).1 = -1 ∨ (s_spF K p k).2 < s_feels K p k then (nI k, s_feels K p k) else s_spF K p k) else s_spF K p k
def s_shF (K : GS) : Nat → Int32 × Int32
  | 0 => (-1, 0)
  | k + 1 => if (s_shF K k).2 < K 9 k then (nI k, K 9 k) else s_shF K k
def s_best (K : GS) (x what : Int32) : Int32 := if isOneS K x ∧ rg what 0 2 then (if what = 2 then (s_shF K 24).1 else if what = 0 then (s_spF K (n_ x) 24).1 else (s_spF K (n_ x) 24).2) else -1000
def s_foN (K : GS) (s p : Nat) : Nat → Nat → Int32
  | 0, _ => -1
  | f + 1, t => if s_iter K (t + 1) 10 (5 * p + 1) = K 42 (40 * s + t) then s_foN K s p f (t + 1) else nI t
def s_fo (K : GS) (s p : Nat) : Int32 := s_foN K s p (n_ (K 41 s)) 0
def s_ls (K : GS) (s : Nat) : Nat → Int32
  | 0 => 0
  | p + 1 => s_ls K s p ||| ((if s_fo K s p = -1 then 1 else 0) <<< (nI p &&& 31))
theorem ok_iterO {K : GS} {one k : Nat} (h : Ok K) : ∀ n, Ok (s_iterO K one k n)
  | 0 => h
  | n + 1 => ok_pass (ok_iterO h n)
theorem oT1 {one k q p : Nat} : oT one k q p ≤ 1 := by unfold oT; split <;> omega
theorem near_iterO {K : GS} {one k : Nat} (hn : Ok K) : ∀ n, near K (s_iterO K one k n)
  | 0 => near_rf
  | n + 1 => near_pass (near_iterO hn n) (ok_iterO hn n).1
theorem s_iterO_k {K : GS} {one q k : Nat} (h7 : k ≠ 7) (h9 : k ≠ 9) (h10 : k ≠ 10) : ∀ n, s_iterO K one q n k = K k
  | 0 => rfl
  | n + 1 => (s_pass_k h7 h9 h10).trans (s_iterO_k h7 h9 h10 n)
theorem ok_shut {K : GS} {c : Nat} (h : Ok K) : Ok (s_shutK K c) := by
  refine rest_of h ?_ (fun k _ h8 _ _ _ => by funext i; simp [s_shutK, h8])
  obtain ⟨h11, h10, h8, h9⟩ := h.1
  refine ⟨h11, h10, fun r hr => ?_, h9⟩
  by_cases e : K 8 r = nI c
  · exact ⟨(c + 1) % 12, by omega, by simp [s_shutK, hr, e]⟩
  · obtain ⟨d, hd, ed⟩ := h8 r hr
    exact ⟨d, hd, by show (if _ then _ else _) = _; rw [if_neg (fun q => e q.2.2)]; exact ed⟩
