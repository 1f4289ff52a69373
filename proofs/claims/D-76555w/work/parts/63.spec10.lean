/-! THE CALLS, PURE: films, what a film tells -/
set_option maxRecDepth 100000
def eqs (K K' : GS) : Prop := ∀ k, k < 39 → K k = K' k
theorem env_eqs {K K' : GS} {p : Nat} (h : eqs K K') : s_env K p = s_env K' p := by
  unfold s_env
  rw [h 7 (by decide), h 10 (by decide)]
theorem says_eqs {K K' : GS} {w p : Nat} {j : Int32} (h : eqs K K') : s_says K w p j = s_says K' w p j := by
  unfold s_says s_sem
  rw [h 1 (by decide), h 2 (by decide), h 4 (by decide), env_eqs h]
theorem c_eqs {K K' : GS} {p : Nat} (h : eqs K K') : s_c K p = s_c K' p := by
  unfold s_c
  rw [h 10 (by decide)]
theorem jar2_eqs {K K' : GS} {p : Nat} (h : eqs K K') : s_jar2 K p = s_jar2 K' p := by
  unfold s_jar2
  rw [h 9 (by decide), c_eqs h]
theorem way_eqs {K K' : GS} {p : Nat} (h : eqs K K') : s_way K p = s_way K' p := by
  unfold s_way
  rw [jar2_eqs h, says_eqs h]
theorem eng_eqs {K K' : GS} {p : Nat} (h : eqs K K') : s_eng K p = s_eng K' p := by
  unfold s_eng
  rw [h 10 (by decide), way_eqs h]
theorem road_eqs {K K' : GS} {p : Nat} (h : eqs K K') : s_road K p = s_road K' p := by
  unfold s_road
  rw [h 7 (by decide), h 9 (by decide), h 10 (by decide), c_eqs h, way_eqs h, eng_eqs h]
theorem puts_eqs {K K' : GS} {p : Nat} (h : eqs K K') : s_puts K p = s_puts K' p := by
  unfold s_puts s_putv
  rw [h 10 (by decide), jar2_eqs h, says_eqs h]
theorem goes_eqs {K K' : GS} {p o : Nat} (h : eqs K K') : eqs (s_goes K p o) (s_goes K' p o) := by
  intro k hk
  simp only [s_goes, s_rn, road_eqs h, puts_eqs h, s_c, h 10 (by decide), h 9 (by decide), h 8 (by decide)]
  funext i
  simp only [upd2_at, h k hk]
theorem passN_eqs {K K' : GS} {o : Nat → Nat} (h : eqs K K') : ∀ n, eqs (s_passN K o n) (s_passN K' o n)
  | 0 => h
  | n + 1 => goes_eqs (passN_eqs h n)
theorem pass_eqs {K K' : GS} {o : Nat → Nat} (h : eqs K K') : eqs (s_pass K o) (s_pass K' o) := by
  intro k hk
  unfold s_pass
  rw [show s_many K = s_many K' by rw [s_many, s_many, h 11 (by decide)], h 7 (by decide)]
  funext i
  simp only [upd2_at, passN_eqs h (s_many K') k hk]
theorem film_back {K M : GS} {s p n : Nat} (hw : nowOk K) (hl : ∀ k, k < 39 → M k = s_iter K n k) (hh : ∀ k, 39 ≤ k → M k = s_film1 K s p n n k) : near (s_film1 K s p n n) M := by
  obtain ⟨n9, n10, n7, nk⟩ := near_iter (K0 := K) hw n
  refine ⟨fun i hi => ?_, fun i hi => ?_, fun i hi => ?_, fun k h7 h9 h10 => ?_⟩
  · rw [hl 9 (by decide), film1_k (by decide)]; exact n9 i hi
  · rw [hl 10 (by decide), film1_k (by decide)]; exact n10 i hi
  · rw [hl 7 (by decide), film1_k (by decide)]; exact n7 i hi
  · by_cases hk : k < 39
    · rw [hl k hk, film1_k hk]; exact nk k h7 h9 h10
    · exact hh k (by omega)
theorem aside_of {K K' : GS} {w : Nat → Int32} (h : aside K w) (h9 : K' 9 = K 9) (h10 : K' 10 = K 10) (h7 : K' 7 = K 7) : aside K' w := by
  unfold aside
  rw [h9, h10, h7]
  exact h
/-! tells -/
def s_tk (w : Int32) : Nat := if w = 1 then 7 else if w = 2 then 3 else if w = 3 then 4 else if w = 6 then 8 else 5
def s_tla (K : GS) (k : Nat) : Int32 := if k = 8 then K 3 0 - 1 else if k = 7 then 5 else if k = 3 then 9 else if k = 4 then 11 else 99
def s_tlo (k : Nat) : Int := if k = 5 then -99 else 0
def s_tN (K : GS) (k : Nat) : Nat := ((s_tla K k).toInt - s_tlo k + 1).toNat
def s_tv (v : Int32) : Nat → Int32
  | 0 => v
  | t + 1 => s_tv v t + (-1)
def s_tl (K : GS) (s p k : Nat) : Nat → Int32 × Int32 × Int32
  | 0 => (0, 0, -100)
  | t + 1 => if s_fo (s_lay K k (nI p) (s_tv (s_tla K k) t)) s p = -1 then ((s_tl K s p k t).1 ||| (if rg (s_tv (s_tla K k) t) 0 11 then 1 <<< (s_tv (s_tla K k) t &&& 31) else 0), (s_tl K s p k t).2.1 + 1, s_tv (s_tla K k) t) else s_tl K s p k t
def s_tres (K : GS) (s p : Nat) (w : Int32) : Int32 := if w = 4 then (s_tl K s p (s_tk w) (s_tN K (s_tk w))).2.1 else if w = 5 then (s_tl K s p (s_tk w) (s_tN K (s_tk w))).2.2 else (s_tl K s p (s_tk w) (s_tN K (s_tk w))).1
def s_tells (K : GS) (x y w : Int32) : Int32 := if rg x 0 3 ∧ isOneS K y ∧ rg w 0 7 then (if K 39 (n_ x) = 0 then -1011 else if 30 < K 41 (n_ x) then -1003 else if w = 0 then s_fo K (n_ x) (n_ y) else if w = 7 then s_ls K (n_ x) (s_many K) else s_tres K (n_ x) (n_ y) w) else -1002
theorem s_tv_i {v : Int32} {t : Nat} (h1 : -1 ≤ v.toInt) (h2 : v.toInt ≤ 1000) : t ≤ 2000 → (s_tv v t).toInt = v.toInt - t := by
  induction t with
  | zero => intro _; show v.toInt = _; omega
  | succ t ih =>
    intro h
    show (s_tv v t + (-1)).toInt = _
    rw [Int32.toInt_add, ih (by omega), show (-1 : Int32).toInt = -1 by decide]
    rw [Int.bmod_eq_of_le (by omega) (by omega)]
    omega
theorem tla_b {K : GS} {k : Nat} (h : Ok K) : 0 ≤ (s_tla K k).toInt ∧ (s_tla K k).toInt ≤ 99 := by
  obtain ⟨-, ⟨m, hm, em, -, ⟨r, hr, -⟩, -⟩, -⟩ := h
  unfold s_tla
  split
  · rw [em, nI_m1 (by omega)]; omega
  · repeat' split
    all_goals decide
theorem lv_t {K : GS} {k : Nat} {v : Int32} (h : Ok K) (hk : k = 3 ∨ k = 4 ∨ k = 5 ∨ k = 7 ∨ k = 8) (h1 : s_tlo k ≤ v.toInt) (h2 : v.toInt ≤ (s_tla K k).toInt) : lvOk K k v := by
  have hg : ∀ n : Nat, n < 2 ^ 31 → k ≠ 5 → (s_tla K k).toInt ≤ n → ∃ w, w ≤ n ∧ v = nI w := fun n hn h5 hl => by
    unfold s_tlo at h1
    rw [if_neg h5] at h1
    exact rg_nat ⟨h1, by omega⟩ hn
  refine ⟨fun e => by omega, fun e => by omega, fun e => ?_, fun e => ?_, fun e => ?_, fun e => by omega, fun e => ?_, fun e => ?_⟩
  · exact hg 9 (by decide) (by omega) (by subst e; show (9 : Int32).toInt ≤ _; decide)
  · obtain ⟨w, hw, ew⟩ := hg 11 (by decide) (by omega) (by subst e; show (11 : Int32).toInt ≤ _; decide)
    exact ⟨w, by omega, ew⟩
  · subst e
    exact ⟨h1, h2⟩
  · exact hg 5 (by decide) (by omega) (by subst e; show (5 : Int32).toInt ≤ _; decide)
  · subst e
    obtain ⟨m, hm, em, enm⟩ := texts3 h
    rw [enm]
    have h2' : v.toInt ≤ (K 3 0 - 1).toInt := h2
    rw [em, nI_m1 (by omega)] at h2'
    have h1' : 0 ≤ v.toInt := h1
    obtain ⟨w, hw, ew⟩ := rg_lt (n := m) ⟨h1', h2'⟩ (by omega)
    exact ⟨w, hw, ew⟩
theorem lay_k {K : GS} {k : Nat} {x v : Int32} {k' : Nat} (h4 : k' ≠ 4) (h7 : k' ≠ 7) (h8 : k' ≠ 8) (h9 : k' ≠ 9) (h10 : k' ≠ 10) : s_lay K k x v k' = K k' := by
  unfold s_lay
  (repeat' split) <;> exact upd2_ne _ _ _ (by assumption)
theorem lay_lay {K : GS} {k : Nat} {x v w : Int32} : s_lay (s_lay K k x v) k x w = s_lay K k x w := by
  unfold s_lay
  by_cases h0 : k = 0
  · rw [if_pos h0, if_pos h0, if_pos h0, upd2_upd2]
  · rw [if_neg h0, if_neg h0, if_neg h0]
    by_cases h1 : k = 1
    · rw [if_pos h1, if_pos h1, if_pos h1, upd2_upd2]
    · rw [if_neg h1, if_neg h1, if_neg h1]
      by_cases h2 : k = 2
      · rw [if_pos h2, if_pos h2, if_pos h2, upd2_upd2]
      · rw [if_neg h2, if_neg h2, if_neg h2]
        by_cases h8 : k < 8
        · rw [if_pos h8, if_pos h8, if_pos h8, upd2_upd2]
        · rw [if_neg h8, if_neg h8, if_neg h8, upd2_upd2]
theorem lay_old {K : GS} {k p : Nat} (h3 : 3 ≤ k) (h8 : k < 8) (hp : p < 5) : s_lay K k (nI p) (K 10 (5 * p + (k - 3))) = K := by
  unfold s_lay
  rw [if_neg (by omega), if_neg (by omega), if_neg (by omega), if_pos h8, show n_ (nI p) = p from nI_clamp (by omega), show 5 * p + k - 3 = 5 * p + (k - 3) by omega]
  exact upd2_self
theorem lay_old8 {K : GS} {x : Int32} : s_lay K 8 x (K 4 0) = K := upd2_self
theorem told_is {K : GS} {p k : Nat} (hp : p < s_many K) (h5 : s_many K ≤ 5) (h3 : 3 ≤ k) (h8 : k < 8) : s_told K (nI p) (nI k) = K 10 (5 * p + (k - 3)) := by
  have e : n_ (nI k) = k := nI_clamp (by omega)
  have ep : n_ (nI p) = p := nI_clamp (by omega)
  have hi : s_isOf K k (nI p) := by
    unfold s_isOf
    rw [if_neg (by omega), if_neg (by omega)]
    exact (nI_rg (by omega)).mpr (by omega)
  rw [s_told, e, if_pos ⟨(nI_rg (by omega)).mpr (by omega), hi⟩]
  unfold s_told1
  rw [if_neg (by omega), if_neg (by omega), if_neg (by omega), if_pos h8, ep, show 5 * p + k - 3 = 5 * p + (k - 3) by omega]
