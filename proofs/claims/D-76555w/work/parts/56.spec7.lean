/-! THE CALLS, PURE: the fewest turnings -/
set_option maxRecDepth 100000
abbrev fwr : List Nat := [7, 10, 12, 13, 14, 15, 16, 17, 18, 19, 20, 21, 22, 23, 24, 25, 26, 27, 30, 31]
def s_ey (K : GS) : Nat → Int32
  | 0 => K 7 0
  | y + 1 => s_ey K y + 1
def s_fK (K : GS) (p y : Nat) (v : Int32) : GS := upd2 (upd2 K 7 0 (s_ey K y)) 10 (5 * p + 1) v
def s_ft (K : GS) (p y : Nat) (f : Nat → Int32) (r : Nat) : Int32 := f (r / 2) + (if s_road (s_fK K p y (nI (r / 2))) p = nI (r % 2) then 0 else 1)
def s_fst (K : GS) (p y : Nat) (f : Nat → Int32) : Nat → Nat → Int32
  | 0 => fun _ => 1000
  | r + 1 => upd (s_fst K p y f r) (n_ (K 8 r)) (if s_ft K p y f r < s_fst K p y f r (n_ (K 8 r)) then s_ft K p y f r else s_fst K p y f r (n_ (K 8 r)))
def s_fw (K : GS) (p : Nat) : Nat → Nat → Int32
  | 0 => fun c => if nI c = K 10 (5 * p + 1) then 0 else 1000
  | y + 1 => s_fst K p y (s_fw K p y) 24
def s_fewest (K : GS) (x b n : Int32) : Int32 := if isOneS K x ∧ rg b 0 11 ∧ rg n 0 30 then (if s_fw K (n_ x) (n_ n) (n_ b) < 1000 then s_fw K (n_ x) (n_ n) (n_ b) else -1) else -2
theorem upd2_self {g : GS} {k i : Nat} : upd2 g k i (g k i) = g := by
  funext a b
  rw [upd2_at]
  split
  · next h => rw [h.1, h.2]
  · rfl
theorem upd2_upd2 {g : GS} {k i : Nat} {v w : Int32} : upd2 (upd2 g k i v) k i w = upd2 g k i w := by
  funext a b
  simp only [upd2_at]
  split <;> rfl
theorem upd2_cm {g : GS} {k i k' i' : Nat} {v w : Int32} (h : k ≠ k') : upd2 (upd2 g k i v) k' i' w = upd2 (upd2 g k' i' w) k i v := by
  funext a b
  simp only [upd2_at]
  by_cases h1 : a = k' ∧ b = i'
  · rw [if_pos h1, if_neg (fun q => h (q.1.symm.trans h1.1)), if_pos h1]
  · rw [if_neg h1, if_neg h1]
theorem s_fK_0 {K : GS} {p : Nat} : s_fK K p 0 (K 10 (5 * p + 1)) = K := by
  unfold s_fK s_ey
  rw [upd2_self]
  exact upd2_self
theorem s_fK_v {K : GS} {p y : Nat} {v w : Int32} : upd2 (s_fK K p y v) 10 (5 * p + 1) w = s_fK K p y w := upd2_upd2
theorem s_fK_7 {K : GS} {p y : Nat} {v : Int32} : s_fK K p y v 7 0 = s_ey K y := by
  unfold s_fK
  rw [upd2_at, if_neg (by omega), upd2_at, if_pos ⟨rfl, rfl⟩]
theorem s_fK_y {K : GS} {p y : Nat} {v : Int32} : upd2 (s_fK K p y v) 7 0 (s_ey K y + 1) = s_fK K p (y + 1) v := by
  unfold s_fK
  rw [upd2_cm (k := 10) (k' := 7) (by decide), upd2_upd2]
  rfl
theorem now_fK {K : GS} {p y c : Nat} (h : nowOk K) (hc : c < 12) : nowOk (s_fK K p y (nI c)) := by
  obtain ⟨h11, h10, h8, h9⟩ := h
  unfold s_fK
  refine ⟨?_, ?_, ?_, ?_⟩
  · rw [upd2_ne _ _ _ (by decide), upd2_ne _ _ _ (by decide)]; exact h11
  · rw [upd2_eq, upd2_ne _ _ _ (by decide)]; exact rows_at h10 hc
  · rw [upd2_ne _ _ _ (by decide), upd2_ne _ _ _ (by decide)]; exact h8
  · rw [upd2_ne _ _ _ (by decide), upd2_ne _ _ _ (by decide)]; exact h9
theorem ok_fK {K : GS} {p y c : Nat} (h : Ok K) (hc : c < 12) : Ok (s_fK K p y (nI c)) := rest_of h (now_fK h.1 hc) (fun k h7 _ _ h10 _ => by unfold s_fK; rw [upd2_ne _ _ _ h10, upd2_ne _ _ _ h7])
theorem near_fK {K : GS} {p y : Nat} {v : Int32} (hp : p < 5) : near K (s_fK K p y v) := by
  unfold s_fK
  refine ⟨fun i hi => ?_, fun i hi => ?_, fun i hi => ?_, fun k h7 h9 h10 => ?_⟩
  · rw [upd2_ne _ _ _ (by decide), upd2_ne _ _ _ (by decide)]
  · rw [upd2_at, if_neg (by omega), upd2_ne _ _ _ (by decide)]
  · rw [upd2_ne _ _ _ (by decide), upd2_at, if_neg (by omega)]
  · rw [upd2_ne _ _ _ h10, upd2_ne _ _ _ h7]
