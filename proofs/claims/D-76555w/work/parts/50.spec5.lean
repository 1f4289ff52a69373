/-! THE CALLS, PURE: told, laid, born, fed -/
set_option maxRecDepth 100000
def s_who (K : GS) (x : Int32) : Nat → Int32
  | 0 => 0
  | n + 1 => s_who K x n ||| ((if K 10 (5 * n + 1) = x then 1 else 0) <<< (nI n &&& 31))
abbrev s_isOf (K : GS) (k : Nat) (x : Int32) : Prop := if k < 3 then (k = 2 ∨ rg x 0 23) else if k = 10 then rg x 0 11 else isOneS K x
theorem isOf_jar {K : GS} {k : Nat} {x : Int32} (h : s_isOf K k x) (h3 : k < 3) (h2 : k ≠ 2) : rg x 0 23 := by
  unfold s_isOf at h
  rw [if_pos h3] at h
  exact h.resolve_left h2
theorem isOf_one {K : GS} {k : Nat} {x : Int32} (h : s_isOf K k x) (h3 : ¬ k < 3) (h2 : k ≠ 10) : isOneS K x := by
  unfold s_isOf at h
  rwa [if_neg h3, if_neg h2] at h
def s_told1 (K : GS) (x : Int32) (k : Nat) : Int32 := if k = 0 then K 8 (n_ x) else if k = 1 then K 9 (n_ x) else if k < 3 then K 7 0 else if k < 8 then K 10 (5 * n_ x + k - 3) else if k = 8 then s_road K (n_ x) else if k = 9 then s_puts K (n_ x) else s_who K x (s_many K)
def s_told (K : GS) (x k : Int32) : Int32 := if rg k 0 10 ∧ s_isOf K (n_ k) x then s_told1 K x (n_ k) else -1000
def s_most (k : Nat) : Int32 := if k = 0 ∨ k = 4 then 11 else if k = 3 then 9 else if k = 5 then 99 else 999
def s_lay (K : GS) (k : Nat) (x v : Int32) : GS := if k = 0 then upd2 K 8 (n_ x) v else if k = 1 then upd2 K 9 (n_ x) v else if k = 2 then upd2 K 7 0 v else if k < 8 then upd2 K 10 (5 * n_ x + k - 3) v else upd2 K 4 0 v
abbrev s_setOk (K : GS) (k x v : Int32) : Prop := rg k 0 6 ∧ s_isOf K (n_ k) x ∧ rg v (if n_ k = 5 then -99 else 0) (s_most (n_ k)).toInt
def s_put (K : GS) (k x v : Int32) : Int32 × GS := if s_setOk K k x v then (s_told K x k, s_lay K (n_ k) x v) else (-1000, K)
def s_born (K : GS) (kd nm c : Int32) : GS := upd2 (upd2 (upd2 (upd2 (upd2 (upd2 K 10 (5 * s_many K) nm) 10 (5 * s_many K + 1) c) 10 (5 * s_many K + 2) 0) 10 (5 * s_many K + 3) 0) 10 (5 * s_many K + 4) kd) 11 0 (K 11 0 + 1)
def s_life (K : GS) (kd nm c : Int32) : Int32 × GS := if rg kd 0 5 ∧ rg nm 0 9 ∧ rg c 0 11 then (if K 11 0 = 5 then (-4, K) else (K 11 0, s_born K kd nm c)) else (-2, K)
def s_feed (K : GS) (b : Int32) : Int32 × GS := if rg b 0 255 then (if K 6 0 = 160 then (-4, K) else (K 6 0 + 1, upd2 (upd2 K 5 (n_ (K 6 0)) b) 6 0 (K 6 0 + 1))) else (-2, K)
def s_copyT (K : GS) (t n : Nat) : GS := fun k i => if k = 1 ∧ 160 * t ≤ i ∧ i < 160 * t + n then K 5 (i - 160 * t) else if k = 2 ∧ i = t then nI n else if k = 6 ∧ i = 0 then 0 else K k i
abbrev s_tx (K : GS) : PS := p_text (fun i => s_copyT K (n_ (K 3 0)) (n_ (K 6 0)) 1 (160 * n_ (K 3 0) + i)) (n_ (K 6 0))
def s_text (K : GS) : Int32 × GS := if K 3 0 = 6 then (-4, K) else match s_tx K with
  | .inl e => (-100 - nI e, s_copyT K (n_ (K 3 0)) (n_ (K 6 0)))
  | .inr _ => (K 3 0, upd2 (s_copyT K (n_ (K 3 0)) (n_ (K 6 0))) 3 0 (K 3 0 + 1))
def s_force (K : GS) (t : Int32) : Int32 × GS := if rg t 0 ((n_ (K 3 0) : Int) - 1) then (K 4 0, upd2 K 4 0 t) else (-2, K)
def s_count (K : GS) (w : Int32) : Int32 := if rg w 0 5 then (if w = 0 then K 11 0 else if w = 1 then s_all K 24 else if w = 2 then K 7 0 else if w = 3 then K 3 0 else if w = 4 then K 6 0 else K 4 0) else -2
theorem texts3 {K : GS} (h : Ok K) : ∃ m, m ≤ 6 ∧ K 3 0 = nI m ∧ n_ (K 3 0) = m := by
  obtain ⟨-, ⟨m, hm, em, -⟩, -⟩ := h
  exact ⟨m, hm, em, by rw [em]; exact nI_clamp (by omega)⟩
theorem tape6 {K : GS} (h : Ok K) : ∃ n, n ≤ 160 ∧ K 6 0 = nI n ∧ n_ (K 6 0) = n := by
  obtain ⟨-, -, ⟨⟨n, hn, en⟩, -⟩, -⟩ := h
  exact ⟨n, hn, en, by rw [en]; exact nI_clamp (by omega)⟩
