/-! THE CALLS, PURE: sheets, what is drawn, images -/
set_option maxRecDepth 100000
def s_narrow (q v : Int32) : Int32 := if q = 0 then v.toInt8.toInt32 else if q = 1 then v.toInt16.toInt32 else v
/-- a sheet s of sort q and size z (its items 0); q below 0: none -/
def s_newK (K : GS) (s : Nat) (q : Int32) (z : Int32) : GS := fun k i => if k = 39 ∧ i = s then (if q < 0 then 0 else 1) else if k = 40 ∧ i = s then q else if k = 41 ∧ i = s then z else if k = 42 ∧ 0 ≤ q ∧ 40 * s ≤ i ∧ i < 40 * s + n_ z then 0 else K k i
def s_sheet (K : GS) (x q z : Int32) : Int32 × GS := if rg x 0 3 ∧ rg q (-1) 2 ∧ (q < 0 ∨ z ≤ 40) then (if ¬ q < 0 ∧ z < 0 then (-14, K) else (1, s_newK K (n_ x) q z)) else (-2, K)
def s_cell (K : GS) (x y v : Int32) : Int32 × GS := if rg x 0 3 then (if K 39 (n_ x) = 0 then (-11, K) else if rg y 0 ((n_ (K 41 (n_ x)) : Int) - 1) then (1, upd2 K 42 (40 * n_ x + n_ y) (s_narrow (K 40 (n_ x)) v)) else (-12, K)) else (-2, K)
def s_film1 (K : GS) (s p n : Nat) : Nat → GS
  | 0 => s_newK K s 0 (nI n)
  | y + 1 => upd2 (s_film1 K s p n y) 42 (40 * s + y) (s_iter K (y + 1) 10 (5 * p + 1))
def s_film (K : GS) (x y n : Int32) : Int32 × GS := if rg x 0 3 ∧ isOneS K y ∧ rg n 0 30 then (n, s_film1 K (n_ x) (n_ y) (n_ n) (n_ n)) else (-2, K)
def s_rnd (r : Int32) : Int32 := r * 1103515245 + 12345
def s_bit (r : Int32) : Int32 := s_rem (r.toUInt32 >>> ((9 : Int32).toUInt32 &&& Int32.toUInt32 31)).toInt32 2
def s_dr (L : Nat → Int32) (r a : Int32) : Nat → Int32 × Int32
  | 0 => (r, a)
  | n + 1 => (s_rnd (s_dr L r a n).1, L (n_ (2 * (s_dr L r a n).2 + s_bit (s_rnd (s_dr L r a n).1))))
def s_drawn (K : GS) (r x n : Int32) : Int32 := if isOneS K x ∧ rg n 0 40 then (s_dr (K 8) r (K 10 (5 * n_ x + 1)) (n_ n)).2 else -2
def s_hit (K : GS) (r : Int32) (p : Nat) (c : Int32) : Nat → Nat
  | 0 => 0
  | q + 1 => s_hit K r p c q + (if (s_dr (K 8) (r + nI q) (K 10 (5 * p + 1)) 8).2 = c then 1 else 0)
def s_chance (K : GS) (r n x c w : Int32) : Int64 := if rg n 1 40 ∧ isOneS K x ∧ rg c 0 11 ∧ rg w 0 1 then s_low (s_hit K r (n_ x) c (n_ n)) (n_ n) w else -4611686018427387904
def s_imageK (K : GS) : GS := fun k i => if k = 33 ∧ i < 24 then K 8 i else if k = 34 ∧ i < 24 then K 9 i else if k = 35 ∧ i < 25 then K 10 i else if k = 36 ∧ i = 0 then K 11 0 else if k = 37 ∧ i = 0 then K 7 0 else if k = 38 ∧ i = 0 then K 4 0 else K k i
def s_backK (K : GS) : GS := fun k i => if k = 8 ∧ i < 24 then K 33 i else if k = 9 ∧ i < 24 then K 34 i else if k = 10 ∧ i < 25 then K 35 i else if k = 11 ∧ i = 0 then K 36 0 else if k = 7 ∧ i = 0 then K 37 0 else if k = 4 ∧ i = 0 then K 38 0 else K k i
def s_back (K : GS) : Int32 × GS := if K 36 0 = -1 then (-3, K) else (K 36 0, s_backK K)
def s_copyV (K : GS) (a i b j : Nat) (n : Nat) : GS := fun k z => if k = 42 ∧ 40 * b + j ≤ z ∧ z < 40 * b + j + n then K 42 (40 * a + i + (z - (40 * b + j))) else K k z
abbrev s_copyOk (K : GS) (a b : Nat) (i j n : Int32) : Prop := 0 ≤ n.toInt ∧ 0 ≤ i.toInt ∧ 0 ≤ j.toInt ∧ i.toInt + n.toInt ≤ (K 41 a).toInt ∧ j.toInt + n.toInt ≤ (K 41 b).toInt
def s_copy (K : GS) (x i y j n : Int32) : Int32 × GS := if rg x 0 3 ∧ rg y 0 3 then (if K 39 (n_ x) = 0 ∨ K 39 (n_ y) = 0 then (-11, K) else if K 40 (n_ x) = K 40 (n_ y) then (if s_copyOk K (n_ x) (n_ y) i j n then (n, s_copyV K (n_ x) (n_ i) (n_ y) (n_ j) (n_ n)) else (-12, K)) else (-13, K)) else (-2, K)
def s_liv (K0 : GS) (s a : Nat) : Nat → Int32 × GS
  | 0 => (0, K0)
  | y + 1 => ((s_liv K0 s a y).1 + (if (s_life (s_liv K0 s a y).2 (K0 42 (40 * s + a + 3 * y)) (K0 42 (40 * s + a + 3 * y + 1)) (K0 42 (40 * s + a + 3 * y + 2))).1 < 0 then 0 else 1), (s_life (s_liv K0 s a y).2 (K0 42 (40 * s + a + 3 * y)) (K0 42 (40 * s + a + 3 * y + 1)) (K0 42 (40 * s + a + 3 * y + 2))).2)
def s_over (k : Int32) : Int32 := if k = 0 then -1 else if k = 3 then 1 else if k = 4 then 2 else 0
def s_tkn (k : Int32) : Nat → Int32 → Int32
  | 0, v => v
  | f + 1, v => if v = -1 ∨ v = k then v else s_tkn k f (s_over v)
def s_taken (K : GS) (x k : Int32) : Int32 := if rg k 0 5 then (if isOneS K x then (if s_tkn k 4 (K 10 (5 * n_ x + 4)) = k then K 10 (5 * n_ x) else -13) else -11) else -2
def s_lvL (K : GS) (s : Nat) (a z : Int32) : Nat → Nat → Int32 × GS
  | 0, y => s_liv K s (n_ a) y
  | f + 1, y => if a < 0 ∨ z.toInt - 3 * (y : Int) - 3 < a.toInt then (-12, (s_liv K s (n_ a) y).2) else s_lvL K s a z f (y + 1)
def s_lives (K : GS) (x q a n : Int32) : Int32 × GS := if rg x 0 3 ∧ rg q 0 2 ∧ rg n 0 5 then (if K 39 (n_ x) = 0 then (-11, K) else if K 40 (n_ x) = q then s_lvL K (n_ x) a (K 41 (n_ x)) (n_ n) 0 else (-13, K)) else (-2, K)
theorem s_bit01 {r : Int32} : ∃ z, z ≤ 1 ∧ s_bit r = nI z := by
  have e : (r.toUInt32 >>> ((9 : Int32).toUInt32 &&& Int32.toUInt32 31)).toInt32 = nI (r.toUInt32 >>> ((9 : Int32).toUInt32 &&& Int32.toUInt32 31)).toNat := by
    apply Int32.toBitVec_inj.mp
    apply BitVec.eq_of_toNat_eq
    rw [show (nI (r.toUInt32 >>> ((9 : Int32).toUInt32 &&& Int32.toUInt32 31)).toNat).toBitVec = BitVec.ofNat 32 (r.toUInt32 >>> ((9 : Int32).toUInt32 &&& Int32.toUInt32 31)).toNat from rfl]
    rw [BitVec.toNat_ofNat, Nat.mod_eq_of_lt (UInt32.toNat_lt _)]
    rfl
  have hb : (r.toUInt32 >>> ((9 : Int32).toUInt32 &&& Int32.toUInt32 31)).toNat < 2 ^ 31 := by
    rw [UInt32.toNat_shiftRight, show ((9 : Int32).toUInt32 &&& Int32.toUInt32 31).toNat % 32 = 9 by decide, Nat.shiftRight_eq_div_pow]
    have := UInt32.toNat_lt r.toUInt32
    omega
  refine ⟨(r.toUInt32 >>> ((9 : Int32).toUInt32 &&& Int32.toUInt32 31)).toNat % 2, by omega, ?_⟩
  unfold s_bit s_rem
  rw [e, show (2 : Int32) = nI 2 from rfl]
  exact pk_rem hb (by decide) (by decide)
theorem s_dr_c {L : Nat → Int32} {r : Int32} {c0 : Nat} (h : leadsOk L) (h0 : c0 < 12) : ∀ n, ∃ c, c < 12 ∧ (s_dr L r (nI c0) n).2 = nI c
  | 0 => ⟨c0, h0, rfl⟩
  | n + 1 => by
    obtain ⟨c, hc, ec⟩ := s_dr_c (r := r) h h0 n
    obtain ⟨z, hz, ez⟩ := s_bit01 (r := s_rnd (s_dr L r (nI c0) n).1)
    show ∃ c', c' < 12 ∧ L (n_ (2 * (s_dr L r (nI c0) n).2 + s_bit (s_rnd (s_dr L r (nI c0) n).1))) = nI c'
    rw [ec, ez, show (2 : Int32) * nI c + nI z = nI (2 * c + z) from (ix_add (ix_mul (ix_lit 2 rfl) rfl) rfl), show n_ (nI (2 * c + z)) = 2 * c + z from nI_clamp (by omega)]
    exact h _ (by omega)
theorem s_hit_le {K : GS} {r : Int32} {p : Nat} {c : Int32} : ∀ n, s_hit K r p c n ≤ n
  | 0 => Nat.le_refl _
  | n + 1 => by
    have := s_hit_le (K := K) (r := r) (p := p) (c := c) n
    show s_hit K r p c n + (if _ then 1 else 0) ≤ n + 1
    split <;> omega
