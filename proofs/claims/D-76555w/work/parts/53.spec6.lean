/-! THE CALLS, PURE: ways, and a share of two numbers -/
set_option maxRecDepth 100000
theorem lN_div {a d : Nat} (ha : a < 2 ^ 31) (h0 : 0 < d) (hd : d < 2 ^ 31) : lN a / lN d = lN (a / d) := by
  apply Int64.toInt_inj.mp
  rw [lg_ldiv_nonneg (by rw [lN_toInt ha]; omega) (by rw [lN_toInt hd]; omega), lN_toInt ha, lN_toInt hd, lN_toInt (Nat.lt_of_le_of_lt (Nat.div_le_self a d) ha)]
  first | rfl | exact (Int.natCast_ediv _ _).symm
theorem lN_rem {a d : Nat} (ha : a < 2 ^ 31) (h0 : 0 < d) (hd : d < 2 ^ 31) : lN a - lN a / lN d * lN d = lN (a % d) := by
  rw [lN_div ha h0 hd, lN_mul, lN_sub (Nat.div_mul_le_self a d)]
  exact congrArg lN (by have := Nat.div_add_mod' a d; omega)
theorem lN_z {a : Nat} (ha : a < 2 ^ 31) : lN a = 0 ↔ a = 0 := lN_eq ha (by decide)
def w_st (L : Nat → Int32) (f : Nat → Nat) : Nat → Nat → Nat
  | 0 => fun _ => 0
  | r + 1 => fun c => if c = n_ (L r) then w_st L f r c + f (r / 2) else w_st L f r c
def s_wy (L : Nat → Int32) (a : Nat) : Nat → Nat → Nat
  | 0 => fun c => if c = a then 1 else 0
  | n + 1 => w_st L (s_wy L a n) 24
def sm (f : Nat → Nat) : Nat → Nat
  | 0 => 0
  | n + 1 => sm f n + f n
theorem sm_le {f : Nat → Nat} {c : Nat} : ∀ n, c < n → f c ≤ sm f n
  | 0, h => absurd h (Nat.not_lt_zero _)
  | n + 1, h => by
    show f c ≤ sm f n + f n
    by_cases e : c = n
    · subst e; omega
    · have := sm_le (f := f) (c := c) n (by omega); omega
theorem sm_0 {f : Nat → Nat} : ∀ n, (∀ i, i < n → f i = 0) → sm f n = 0
  | 0, _ => rfl
  | n + 1, h => by
    show sm f n + f n = 0
    rw [sm_0 n (fun i hi => h i (by omega)), h n (by omega)]
theorem sm_cg {f g : Nat → Nat} : ∀ n, (∀ i, i < n → f i = g i) → sm f n = sm g n
  | 0, _ => rfl
  | n + 1, h => by
    show sm f n + f n = sm g n + g n
    rw [sm_cg n (fun i hi => h i (by omega)), h n (by omega)]
theorem sm_up {g : Nat → Nat} {d v : Nat} : ∀ n, d < n → sm (fun c => if c = d then g c + v else g c) n = sm g n + v
  | 0, h => absurd h (Nat.not_lt_zero _)
  | n + 1, h => by
    show sm (fun c => if c = d then g c + v else g c) n + (if n = d then g n + v else g n) = sm g n + g n + v
    by_cases e : n = d
    · rw [if_pos e, sm_cg (g := g) n (fun i hi => if_neg (by omega))]; omega
    · rw [if_neg e, sm_up n (by omega)]; omega
theorem w_st_sm {L : Nat → Int32} {f : Nat → Nat} (h : leadsOk L) : ∀ r, r ≤ 24 → sm (w_st L f r) 12 = sm (fun k => f (k / 2)) r
  | 0, _ => sm_0 12 (fun _ _ => rfl)
  | r + 1, hr => by
    obtain ⟨d, hd, ed⟩ := h r (by omega)
    have e : n_ (L r) = d := by rw [ed]; exact nI_clamp (by omega)
    show sm (fun c => if c = n_ (L r) then w_st L f r c + f (r / 2) else w_st L f r c) 12 = sm (fun k => f (k / 2)) r + f (r / 2)
    rw [e, sm_up 12 hd, w_st_sm h r (by omega)]
theorem sm_24 {f : Nat → Nat} : sm (fun k => f (k / 2)) 24 = 2 * sm f 12 := by
  simp only [sm]
  simp only [show (23 : Nat) / 2 = 11 from rfl, show (22 : Nat) / 2 = 11 from rfl, show (21 : Nat) / 2 = 10 from rfl, show (20 : Nat) / 2 = 10 from rfl, show (19 : Nat) / 2 = 9 from rfl, show (18 : Nat) / 2 = 9 from rfl, show (17 : Nat) / 2 = 8 from rfl, show (16 : Nat) / 2 = 8 from rfl, show (15 : Nat) / 2 = 7 from rfl, show (14 : Nat) / 2 = 7 from rfl, show (13 : Nat) / 2 = 6 from rfl, show (12 : Nat) / 2 = 6 from rfl, show (11 : Nat) / 2 = 5 from rfl, show (10 : Nat) / 2 = 5 from rfl, show (9 : Nat) / 2 = 4 from rfl, show (8 : Nat) / 2 = 4 from rfl, show (7 : Nat) / 2 = 3 from rfl, show (6 : Nat) / 2 = 3 from rfl, show (5 : Nat) / 2 = 2 from rfl, show (4 : Nat) / 2 = 2 from rfl, show (3 : Nat) / 2 = 1 from rfl, show (2 : Nat) / 2 = 1 from rfl, show (1 : Nat) / 2 = 0 from rfl, show (0 : Nat) / 2 = 0 from rfl]
  omega
theorem s_wy_sm {L : Nat → Int32} {a : Nat} (h : leadsOk L) (ha : a < 12) : ∀ n, sm (s_wy L a n) 12 = 2 ^ n
  | 0 => by
    have := sm_up (g := fun _ => 0) (d := a) (v := 1) 12 ha
    rw [sm_0 (f := fun _ => 0) 12 (fun _ _ => rfl)] at this
    exact this
  | n + 1 => by
    show sm (w_st L (s_wy L a n) 24) 12 = 2 ^ (n + 1)
    rw [w_st_sm h 24 (by omega), sm_24, s_wy_sm h ha n, Nat.pow_succ]; omega
theorem s_wy_le {L : Nat → Int32} {a c n : Nat} (h : leadsOk L) (ha : a < 12) (hc : c < 12) : s_wy L a n c ≤ 2 ^ n := by rw [← s_wy_sm h ha n]; exact sm_le 12 hc
theorem w_st_ne {L : Nat → Int32} {f : Nat → Nat} {r c : Nat} (h : c ≠ n_ (L r)) : w_st L f (r + 1) c = w_st L f r c := if_neg h
theorem w_st_eq {L : Nat → Int32} {f : Nat → Nat} {r c : Nat} (h : c = n_ (L r)) : w_st L f (r + 1) c = w_st L f r c + f (r / 2) := if_pos h
def s_turns (K : GS) (x y n : Int32) : Int64 := if rg x 0 11 ∧ rg y 0 11 ∧ rg n 0 30 then lN (s_wy (K 8) (n_ x) (n_ n) (n_ y)) else -4611686018427387904
def s_low (p q : Nat) (w : Int32) : Int64 := if w = 0 then lN (p / Nat.gcd p q) else lN (q / Nat.gcd p q)
def s_likely (K : GS) (x y n w : Int32) : Int64 := if rg x 0 11 ∧ rg y 0 11 ∧ rg n 0 30 ∧ rg w 0 1 then s_low (s_wy (K 8) (n_ x) (n_ n) (n_ y)) (2 ^ n_ n) w else -4611686018427387904
theorem pow_l : ∀ n, n < 31 → (1 : Int64) <<< ((nI n).toInt64 &&& 63) = lN (2 ^ n) := by decide +kernel
theorem pow_b {n : Nat} (h : n ≤ 30) : 2 ^ n < 2 ^ 31 := Nat.pow_lt_pow_right (by decide) (by omega)
theorem gcd_st {y z p q : Nat} (h : Nat.gcd y z = Nat.gcd p q) : Nat.gcd z (y % z) = Nat.gcd p q := by rw [← h, Nat.gcd_comm y z, Nat.gcd_rec z y, Nat.gcd_comm]
/-- copies of longs -/
theorem cpL_lo {τ : MS} {k q : Nat} {v : Int64} {f : Nat → Int64} (h : ∀ i, i < q → τ.2 k i = f i) (hv : v = f q) : ∀ i, i < q + 1 → (msetL τ k q v).2 k i = f i := by
  intro i hi
  show upd2 τ.2 k q v k i = f i
  rw [upd2_at]
  by_cases e : i = q
  · subst e; rw [if_pos ⟨rfl, rfl⟩]; exact hv
  · rw [if_neg (by omega)]; exact h i (by omega)
theorem cpL_ne {τ : MS} {k q k' : Nat} {v : Int64} (h : k' ≠ k) : (msetL τ k q v).2 k' = τ.2 k' := upd2_ne _ _ _ h
