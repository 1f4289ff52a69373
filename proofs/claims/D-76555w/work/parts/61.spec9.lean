/-! A STATE KEEPS WELL: every call -/
set_option maxRecDepth 100000
/-! what a text says hangs on its bytes alone -/
section
variable {b b' : Nat → Int32} {n : Nat}
theorem by_cg (h : ∀ i, i < n → b i = b' i) : by_ b n = by_ b' n := by
  funext i
  unfold by_
  split
  · next hi => exact h i hi
  · rfl
theorem sk_cg (h : by_ b n = by_ b' n) : sk b n = sk b' n := by
  funext f
  induction f with
  | zero => rfl
  | succ f ih => funext i; simp only [sk, h, ih]
theorem wd_cg (h : by_ b n = by_ b' n) : wd b n = wd b' n := by
  funext f
  induction f with
  | zero => rfl
  | succ f ih => funext i; simp only [wd, h, ih]
theorem dg_cg (h : by_ b n = by_ b' n) : dg b n = dg b' n := by
  funext f
  induction f with
  | zero => rfl
  | succ f ih => funext v k i; simp only [dg, h, ih]
theorem wc_cg (h : by_ b n = by_ b' n) : wc b n = wc b' n := by
  funext a e
  simp only [wc, wl, h]
theorem nx_cg (h : by_ b n = by_ b' n) : nx b n = nx b' n := by
  funext i
  simp only [nx, h, sk_cg h, wd_cg h, dg_cg h, wc_cg h]
theorem nxS_cg (h : by_ b n = by_ b' n) : nxS b n = nxS b' n := by
  funext s
  simp only [nxS, nx_cg h]
theorem p_atom_cg (h : by_ b n = by_ b' n) : p_atom b n = p_atom b' n := by
  funext lo s
  simp only [p_atom, nxS_cg h]
theorem p_termL_cg (h : by_ b n = by_ b' n) : p_termL b n = p_termL b' n := by
  funext a f
  induction f with
  | zero => rfl
  | succ f ih => funext v s; simp only [p_termL, nxS_cg h, ih]
theorem p_addL_cg (h : by_ b n = by_ b' n) : p_addL b n = p_addL b' n := by
  funext a f
  induction f with
  | zero => rfl
  | succ f ih => funext v s; simp only [p_addL, nxS_cg h, ih]
theorem p_bothL_cg (h : by_ b n = by_ b' n) : p_bothL b n = p_bothL b' n := by
  funext a f
  induction f with
  | zero => rfl
  | succ f ih => funext v s; simp only [p_bothL, nxS_cg h, ih]
theorem p_eithL_cg (h : by_ b n = by_ b' n) : p_eithL b n = p_eithL b' n := by
  funext a f
  induction f with
  | zero => rfl
  | succ f ih => funext v s; simp only [p_eithL, nxS_cg h, ih]
theorem p_term_cg (h : by_ b n = by_ b' n) : p_term b n = p_term b' n := by
  funext a s
  simp only [p_term, p_termL_cg h]
theorem p_add_cg (h : by_ b n = by_ b' n) : p_add b n = p_add b' n := by
  funext a s
  simp only [p_add, p_addL_cg h]
theorem p_both_cg (h : by_ b n = by_ b' n) : p_both b n = p_both b' n := by
  funext a s
  simp only [p_both, p_bothL_cg h]
theorem p_eith_cg (h : by_ b n = by_ b' n) : p_eith b n = p_eith b' n := by
  funext a s
  simp only [p_eith, p_eithL_cg h]
theorem p_A_cg (h : by_ b n = by_ b' n) : p_A b n = p_A b' n := by
  funext lo s
  simp only [p_A, p_atom_cg h, p_term_cg h, p_add_cg h]
theorem p_N_cg (h : by_ b n = by_ b' n) : p_N b n = p_N b' n := by
  funext lo s
  simp only [p_N, p_not, p_A_cg h, nxS_cg h]
theorem p_E_cg (h : by_ b n = by_ b' n) : p_E b n = p_E b' n := by
  funext lo s
  simp only [p_E, p_B, p_N_cg h, p_both_cg h, p_eith_cg h]
theorem p_lev_cg (h : by_ b n = by_ b' n) : p_lev b n = p_lev b' n := by
  funext d
  induction d with
  | zero => rfl
  | succ d ih => simp only [p_lev, ih, p_atom_cg h, p_N_cg h, p_E_cg h]
theorem p_part_cg (h : by_ b n = by_ b' n) : p_part b n = p_part b' n := by
  funext k s
  simp only [p_part, p_E_cg h, p_lev_cg h, nxS_cg h]
theorem p_text_cg (h : ∀ i, i < n → b i = b' i) : p_text b n = p_text b' n := by
  have h := by_cg h
  simp only [p_text, p_s3, p_s2, p_s1, p_part_cg h, nx_cg h]
theorem p_sem_cg (h : ∀ i, i < n → b i = b' i) : p_sem b n = p_sem b' n := by
  have h := by_cg h
  funext w
  simp only [p_sem, p_s2, p_s1, p_part_cg h, nx_cg h]
end
def lvOk (K : GS) (k : Nat) (v : Int32) : Prop := (k = 0 → ∃ c, c < 12 ∧ v = nI c) ∧ (k = 1 → ∃ w, w ≤ 999 ∧ v = nI w) ∧ (k = 3 → ∃ w, w ≤ 9 ∧ v = nI w) ∧ (k = 4 → ∃ c, c < 12 ∧ v = nI c) ∧ (k = 5 → rg v (-99) 99) ∧ (k = 6 → ∃ w, w ≤ 999 ∧ v = nI w) ∧ (k = 7 → ∃ w, w ≤ 5 ∧ v = nI w) ∧ (k = 8 → ∃ r, r < n_ (K 3 0) ∧ v = nI r)
theorem rows_set {f : Nat → Int32} {p j : Nat} {v : Int32} (h : rowsOk f) (hj : j < 5) (h0 : j = 0 → ∃ w, w ≤ 9 ∧ v = nI w) (h1 : j = 1 → ∃ c, c < 12 ∧ v = nI c) (h2 : j = 2 → rg v (-99) 99) (h3 : j = 3 → ∃ w, w ≤ 999 ∧ v = nI w) (h4 : j = 4 → ∃ w, w ≤ 5 ∧ v = nI w) : rowsOk (upd f (5 * p + j) v) := by
  intro q hq
  obtain ⟨g0, g1, g2, g3, g4⟩ := h q hq
  refine ⟨?_, ?_, ?_, ?_, ?_⟩
  · by_cases e : 5 * q = 5 * p + j
    · rw [e, pk_us]; exact h0 (by omega)
    · rw [pk_un e]; exact g0
  · by_cases e : 5 * q + 1 = 5 * p + j
    · rw [e, pk_us]; exact h1 (by omega)
    · rw [pk_un e]; exact g1
  · by_cases e : 5 * q + 2 = 5 * p + j
    · rw [e, pk_us]; exact h2 (by omega)
    · rw [pk_un e]; exact g2
  · by_cases e : 5 * q + 3 = 5 * p + j
    · rw [e, pk_us]; exact h3 (by omega)
    · rw [pk_un e]; exact g3
  · by_cases e : 5 * q + 4 = 5 * p + j
    · rw [e, pk_us]; exact h4 (by omega)
    · rw [pk_un e]; exact g4
theorem now_8 {K : GS} {r : Nat} {v : Int32} (h : nowOk K) (hv : ∃ c, c < 12 ∧ v = nI c) : nowOk (upd2 K 8 r v) := by
  obtain ⟨h11, h10, h8, h9⟩ := h
  obtain ⟨c, hc, rfl⟩ := hv
  exact ⟨by rw [upd2_ne _ _ _ (by decide)]; exact h11, by rw [upd2_ne _ _ _ (by decide)]; exact h10, by rw [upd2_eq]; exact leads_set h8 hc, by rw [upd2_ne _ _ _ (by decide)]; exact h9⟩
theorem now_9 {K : GS} {r : Nat} {v : Int32} (h : nowOk K) (hv : ∃ w, w ≤ 999 ∧ v = nI w) : nowOk (upd2 K 9 r v) := by
  obtain ⟨h11, h10, h8, h9⟩ := h
  obtain ⟨c, hc, rfl⟩ := hv
  exact ⟨by rw [upd2_ne _ _ _ (by decide)]; exact h11, by rw [upd2_ne _ _ _ (by decide)]; exact h10, by rw [upd2_ne _ _ _ (by decide)]; exact h8, by rw [upd2_eq]; exact jars_set h9 hc⟩
theorem now_10 {K : GS} {i : Nat} {v : Int32} (h : nowOk K) (hv : rowsOk (upd (K 10) i v)) : nowOk (upd2 K 10 i v) := by
  obtain ⟨h11, h10, h8, h9⟩ := h
  exact ⟨by rw [upd2_ne _ _ _ (by decide)]; exact h11, by rw [upd2_eq]; exact hv, by rw [upd2_ne _ _ _ (by decide)]; exact h8, by rw [upd2_ne _ _ _ (by decide)]; exact h9⟩
theorem now_7 {K : GS} {v : Int32} (h : nowOk K) : nowOk (upd2 K 7 0 v) := now_of h (upd2_ne _ _ _ (by decide)) (upd2_ne _ _ _ (by decide)) (upd2_ne _ _ _ (by decide)) (upd2_ne _ _ _ (by decide))
theorem ok_4 {K : GS} {v : Int32} (h : Ok K) (hv : ∃ r, r < n_ (K 3 0) ∧ v = nI r) : Ok (upd2 K 4 0 v) := by
  obtain ⟨hn, ⟨m, hm, em, ht, hr, hq⟩, hta, hs, hk⟩ := h
  obtain ⟨r, hr', rfl⟩ := hv
  have e3 : n_ (K 3 0) = m := by rw [em]; exact nI_clamp (by omega)
  refine ⟨now_of hn (upd2_ne _ _ _ (by decide)) (upd2_ne _ _ _ (by decide)) (upd2_ne _ _ _ (by decide)) (upd2_ne _ _ _ (by decide)), ⟨m, hm, ?_, ?_, ⟨r, by omega, ?_⟩, ?_⟩, ?_, ?_, ?_⟩
  · rw [upd2_ne _ _ _ (by decide)]; exact em
  · intro t hlt
    have := ht t hlt
    unfold textOk at this ⊢
    rwa [upd2_ne _ _ _ (by decide), upd2_ne _ _ _ (by decide)]
  · rw [upd2_at, if_pos ⟨rfl, rfl⟩]
  · rw [upd2_ne _ _ _ (by decide)]; exact hq
  · unfold tapeOk; rwa [upd2_ne _ _ _ (by decide), upd2_ne _ _ _ (by decide)]
  · unfold sheetsOk; rwa [upd2_ne _ _ _ (by decide), upd2_ne _ _ _ (by decide), upd2_ne _ _ _ (by decide)]
  · unfold keptOk; rwa [upd2_ne _ _ _ (by decide), upd2_ne _ _ _ (by decide), upd2_ne _ _ _ (by decide), upd2_ne _ _ _ (by decide)]
theorem ok_lay {K : GS} {k : Nat} {x v : Int32} (h : Ok K) (hk : k ≤ 8) (hv : lvOk K k v) : Ok (s_lay K k x v) := by
  obtain ⟨v0, v1, v3, v4, v5, v6, v7, v8⟩ := hv
  unfold s_lay
  split
  · next e => exact rest_of h (now_8 h.1 (v0 e)) (fun k _ h8 _ _ _ => upd2_ne _ _ _ h8)
  · split
    · next e => exact rest_of h (now_9 h.1 (v1 e)) (fun k _ _ h9 _ _ => upd2_ne _ _ _ h9)
    · split
      · exact rest_of h (now_7 h.1) (fun k h7 _ _ _ _ => upd2_ne _ _ _ h7)
      · split
        · next e0 e1 e2 e3 =>
          refine rest_of h (now_10 h.1 ?_) (fun k _ _ _ h10 _ => upd2_ne _ _ _ h10)
          rw [show 5 * n_ x + k - 3 = 5 * n_ x + (k - 3) by omega]
          exact rows_set h.1.2.1 (by omega) (fun e => v3 (by omega)) (fun e => v4 (by omega)) (fun e => v5 (by omega)) (fun e => v6 (by omega)) (fun e => v7 (by omega))
        · next e0 e1 e2 e3 => exact ok_4 h (v8 (by omega))
theorem ok_put {K : GS} {k x v : Int32} (h : Ok K) : Ok (s_put K k x v).2 := by
  unfold s_put
  split
  · next hs =>
    obtain ⟨hk, hx, hv⟩ := hs
    obtain ⟨j, hj, rfl⟩ := rg_nat (n := 6) hk (by decide)
    have e : n_ (nI j) = j := nI_clamp (by omega)
    rw [e] at hv ⊢
    have hv0 : ∀ m : Nat, m < 2 ^ 31 → (s_most j).toInt = m → j ≠ 5 → ∃ w, w ≤ m ∧ v = nI w := fun m hm em h5 => by
      rw [if_neg h5, em] at hv
      exact rg_nat hv hm
    refine ok_lay h (by omega) ⟨fun e0 => ?_, fun e1 => ?_, fun e3 => ?_, fun e4 => ?_, fun e5 => ?_, fun e6 => ?_, fun e7 => by omega, fun e8 => by omega⟩
    · obtain ⟨w, hw, ew⟩ := hv0 11 (by decide) (by subst e0; decide) (by omega); exact ⟨w, by omega, ew⟩
    · exact hv0 999 (by decide) (by subst e1; decide) (by omega)
    · exact hv0 9 (by decide) (by subst e3; decide) (by omega)
    · obtain ⟨w, hw, ew⟩ := hv0 11 (by decide) (by subst e4; decide) (by omega); exact ⟨w, by omega, ew⟩
    · subst e5; exact hv
    · exact hv0 999 (by decide) (by subst e6; decide) (by omega)
  · exact h
theorem ok_year {K : GS} (h : Ok K) : Ok (s_year K).2 := by
  unfold s_year
  split
  · exact h
  · exact ok_pass h
theorem clamp_rg2 {v : Int32} : rg (s_clamp v (-99) 99) (-99) 99 := by
  obtain ⟨h1, h2⟩ := clamp_rg (v := v) (lo := -99) (hi := 99) (by decide)
  rw [Int32.le_iff_toInt_le] at h1 h2
  exact ⟨h1, h2⟩
theorem ok_spoon {K : GS} {x y : Int32} (h : Ok K) : Ok (s_spoon K x y).2 := by
  unfold s_spoon
  split
  · next hxy =>
    split
    · exact h
    · next h9 =>
      obtain ⟨j, hj, ej⟩ := rg_nat (n := 23) hxy.2 (by decide)
      have ejn : n_ y = j := by rw [ej]; exact nI_clamp (by omega)
      rw [ejn] at h9
      obtain ⟨w, hw, ew⟩ := h.1.2.2.2 j (by omega)
      have hw0 : w ≠ 0 := fun e => h9 (by rw [ew, e]; rfl)
      show Ok (s_spoonK K (n_ x) (n_ y))
      unfold s_spoonK
      rw [ejn]
      refine rest_of h (now_9 (now_10 (now_10 h.1 ?_) ?_) ⟨w - 1, by omega, ?_⟩) (fun k _ _ h9 h10 _ => by rw [upd2_ne _ _ _ h9, upd2_ne _ _ _ h10, upd2_ne _ _ _ h10])
      · exact rows_set h.1.2.1 (by omega) (fun e => by omega) (fun e => by omega) (fun _ => clamp_rg2) (fun e => by omega) (fun e => by omega)
      · rw [upd2_eq]
        refine rows_set ?_ (by omega) (fun e => by omega) (fun e => by omega) (fun e => by omega) (fun _ => clamp_nI (n := 999) (by decide)) (fun e => by omega)
        exact rows_set h.1.2.1 (by omega) (fun e => by omega) (fun e => by omega) (fun _ => clamp_rg2) (fun e => by omega) (fun e => by omega)
      · rw [ew, show w = (w - 1) + 1 by omega, nI_pred]; rfl
  · exact h
theorem ok_born {K : GS} {kd nm c : Int32} (h : Ok K) (h4 : s_many K < 5) (hkd : rg kd 0 5) (hnm : rg nm 0 9) (hc : rg c 0 11) : Ok (s_born K kd nm c) := by
  obtain ⟨w, hw, ew⟩ := rg_nat (n := 5) hkd (by decide)
  obtain ⟨a, ha, ea⟩ := rg_nat (n := 9) hnm (by decide)
  obtain ⟨d, hd, ed⟩ := rg_nat (n := 11) hc (by decide)
  have e11 := (many5 h.1).2
  unfold s_born
  refine rest_of h ?_ (fun k _ _ _ h10 h11 => by rw [upd2_ne _ _ _ h11, upd2_ne _ _ _ h10, upd2_ne _ _ _ h10, upd2_ne _ _ _ h10, upd2_ne _ _ _ h10, upd2_ne _ _ _ h10])
  obtain ⟨-, h10, h8, h9⟩ := h.1
  refine ⟨⟨s_many K + 1, by omega, ?_⟩, ?_, ?_, ?_⟩
  · rw [upd2_at, if_pos ⟨rfl, rfl⟩, e11]; exact ix_add rfl (ix_lit 1 rfl)
  · rw [upd2_ne _ _ _ (by decide), upd2_eq, upd2_eq, upd2_eq, upd2_eq, upd2_eq]
    have r0 : rowsOk (upd (K 10) (5 * s_many K + 0) nm) := rows_set h10 (by omega) (fun _ => ⟨a, ha, ea⟩) (fun e => by omega) (fun e => by omega) (fun e => by omega) (fun e => by omega)
    have r1 : rowsOk (upd _ (5 * s_many K + 1) c) := rows_set r0 (by omega) (fun e => by omega) (fun _ => ⟨d, by omega, ed⟩) (fun e => by omega) (fun e => by omega) (fun e => by omega)
    have r2 : rowsOk (upd _ (5 * s_many K + 2) 0) := rows_set r1 (by omega) (fun e => by omega) (fun e => by omega) (fun _ => by decide) (fun e => by omega) (fun e => by omega)
    have r3 : rowsOk (upd _ (5 * s_many K + 3) 0) := rows_set r2 (by omega) (fun e => by omega) (fun e => by omega) (fun e => by omega) (fun _ => ⟨0, by omega, rfl⟩) (fun e => by omega)
    exact rows_set r3 (by omega) (fun e => by omega) (fun e => by omega) (fun e => by omega) (fun e => by omega) (fun _ => ⟨w, hw, ew⟩)
  · rw [upd2_ne _ _ _ (by decide), upd2_ne _ _ _ (by decide), upd2_ne _ _ _ (by decide), upd2_ne _ _ _ (by decide), upd2_ne _ _ _ (by decide), upd2_ne _ _ _ (by decide)]; exact h8
  · rw [upd2_ne _ _ _ (by decide), upd2_ne _ _ _ (by decide), upd2_ne _ _ _ (by decide), upd2_ne _ _ _ (by decide), upd2_ne _ _ _ (by decide), upd2_ne _ _ _ (by decide)]; exact h9
theorem ok_life {K : GS} {kd nm c : Int32} (h : Ok K) : Ok (s_life K kd nm c).2 := by
  unfold s_life
  split
  · next hr =>
    split
    · exact h
    · next h5 =>
      refine ok_born h ?_ hr.1 hr.2.1 hr.2.2
      obtain ⟨m5, e5⟩ := many5 h.1
      have : s_many K ≠ 5 := fun e => h5 (by rw [e5, e]; rfl)
      omega
  · exact h
theorem ok_feed {K : GS} {b : Int32} (h : Ok K) : Ok (s_feed K b).2 := by
  unfold s_feed
  split
  · next hb =>
    split
    · exact h
    · next h6 =>
      obtain ⟨n, hn, en, enn⟩ := tape6 h
      have hn' : n ≠ 160 := fun e => h6 (by rw [en, e]; rfl)
      obtain ⟨hno, ht, ⟨-, hby⟩, hs, hk⟩ := h
      show Ok (upd2 (upd2 K 5 (n_ (K 6 0)) b) 6 0 (K 6 0 + 1))
      refine ⟨now_of hno ?_ ?_ ?_ ?_, texts_of ht ?_ ?_ ?_ ?_ ?_, ⟨⟨n + 1, by omega, ?_⟩, fun i => ?_⟩, ?_, ?_⟩
      case refine_10 => rw [upd2_at, if_pos ⟨rfl, rfl⟩, en]; exact ix_add rfl (ix_lit 1 rfl)
      case refine_11 =>
        rw [upd2_ne _ _ _ (by decide), upd2_at]
        split
        · exact hb
        · exact hby i
      case refine_12 =>
        unfold sheetsOk
        rw [upd2_ne _ _ _ (by decide), upd2_ne _ _ _ (by decide), upd2_ne _ _ _ (by decide), upd2_ne _ _ _ (by decide), upd2_ne _ _ _ (by decide), upd2_ne _ _ _ (by decide)]
        exact hs
      case refine_13 =>
        unfold keptOk
        rw [upd2_ne _ _ _ (by decide), upd2_ne _ _ _ (by decide), upd2_ne _ _ _ (by decide), upd2_ne _ _ _ (by decide), upd2_ne _ _ _ (by decide), upd2_ne _ _ _ (by decide), upd2_ne _ _ _ (by decide), upd2_ne _ _ _ (by decide)]
        exact hk
      all_goals rw [upd2_ne _ _ _ (by decide), upd2_ne _ _ _ (by decide)]
  · exact h
theorem ok_force {K : GS} {t : Int32} (h : Ok K) : Ok (s_force K t).2 := by
  unfold s_force
  split
  · next ht =>
    obtain ⟨m, hm, em, enm⟩ := texts3 h
    exact ok_4 h (rg_lt ht (by omega))
  · exact h
theorem s_copyT_k {K : GS} {t n k : Nat} (h1 : k ≠ 1) (h2 : k ≠ 2) (h6 : k ≠ 6) : s_copyT K t n k = K k := by
  funext i
  unfold s_copyT
  rw [if_neg (fun q => h1 q.1), if_neg (fun q => h2 q.1), if_neg (fun q => h6 q.1)]
theorem copyT_old {K : GS} {t n t' : Nat} (h : t' < t) (ho : textOk K t') : textOk (s_copyT K t n) t' := by
  obtain ⟨m, hm, em, hb, w, hw⟩ := ho
  have e1 : ∀ i, i < m → s_copyT K t n 1 (160 * t' + i) = K 1 (160 * t' + i) := fun i hi => by
    unfold s_copyT
    rw [if_neg (by omega), if_neg (by omega), if_neg (by omega)]
  refine ⟨m, hm, ?_, fun i hi => by rw [e1 i hi]; exact hb i hi, w, ?_⟩
  · unfold s_copyT
    rw [if_neg (by omega), if_neg (by omega), if_neg (by omega)]
    exact em
  · rw [← hw]
    exact p_text_cg (fun i hi => e1 i hi)
theorem ok_copyT {K : GS} (h : Ok K) : Ok (s_copyT K (n_ (K 3 0)) (n_ (K 6 0))) := by
  obtain ⟨m, hm, em, enm⟩ := texts3 h
  obtain ⟨hno, ⟨m', hm', em', ht, hr, hq⟩, ⟨-, hby⟩, hs, hk⟩ := h
  rw [enm]
  have e : m' = m := nI_inj (by omega) (by omega) (em'.symm.trans em)
  subst e
  refine ⟨now_of hno (s_copyT_k (by decide) (by decide) (by decide)) (s_copyT_k (by decide) (by decide) (by decide)) (s_copyT_k (by decide) (by decide) (by decide)) (s_copyT_k (by decide) (by decide) (by decide)), ⟨m', hm, ?_, fun t hlt => copyT_old hlt (ht t hlt), ?_, ?_⟩, ⟨⟨0, by omega, ?_⟩, fun i => ?_⟩, ?_, ?_⟩
  · rw [s_copyT_k (by decide) (by decide) (by decide)]; exact em
  · rw [s_copyT_k (by decide) (by decide) (by decide)]; exact hr
  · rw [s_copyT_k (by decide) (by decide) (by decide)]; exact hq
  · unfold s_copyT
    rw [if_neg (by omega), if_neg (by omega), if_pos ⟨rfl, rfl⟩]
    rfl
  · rw [s_copyT_k (by decide) (by decide) (by decide)]; exact hby i
  · unfold sheetsOk
    rw [s_copyT_k (by decide) (by decide) (by decide), s_copyT_k (by decide) (by decide) (by decide), s_copyT_k (by decide) (by decide) (by decide)]
    exact hs
  · unfold keptOk
    rw [s_copyT_k (by decide) (by decide) (by decide), s_copyT_k (by decide) (by decide) (by decide), s_copyT_k (by decide) (by decide) (by decide), s_copyT_k (by decide) (by decide) (by decide)]
    exact hk
theorem ok_text {K : GS} (h : Ok K) : Ok (s_text K).2 := by
  unfold s_text
  split
  · exact h
  · next h3 =>
    have h0 := ok_copyT h
    split
    · exact h0
    · next w hw =>
      obtain ⟨m, hm, em, enm⟩ := texts3 h
      obtain ⟨n, hn, en, enn⟩ := tape6 h
      have hm6 : m ≠ 6 := fun e => h3 (by rw [em, e]; rfl)
      have hb := h.2.2.1.2
      unfold s_tx at hw
      show Ok (upd2 (s_copyT K (n_ (K 3 0)) (n_ (K 6 0))) 3 0 (K 3 0 + 1))
      rw [enm, enn] at h0 hw ⊢
      obtain ⟨hno, ⟨m', hm', em', ht, ⟨r, hr, er⟩, r2, hr2, er2⟩, hta, hs, hk⟩ := h0
      rw [s_copyT_k (by decide) (by decide) (by decide)] at em'
      have e : m' = m := nI_inj (by omega) (by omega) (em'.symm.trans em)
      subst e
      refine ⟨now_of hno ?_ ?_ ?_ ?_, ⟨m' + 1, by omega, ?_, fun t hlt => ?_, ⟨r, by omega, ?_⟩, r2, by omega, ?_⟩, ?_, ?_, ?_⟩
      case refine_5 => rw [upd2_at, if_pos ⟨rfl, rfl⟩, em]; exact ix_add rfl (ix_lit 1 rfl)
      case refine_6 =>
        unfold textOk
        rw [upd2_ne _ _ _ (by decide), upd2_ne _ _ _ (by decide)]
        by_cases e : t = m'
        · subst e
          refine ⟨n, hn, ?_, fun i hi => ?_, w, hw⟩
          · unfold s_copyT
            rw [if_neg (by omega), if_pos ⟨rfl, rfl⟩]
          · unfold s_copyT
            rw [if_pos ⟨rfl, by omega, by omega⟩]
            exact hb _
        · exact ht t (by omega)
      case refine_7 => rw [upd2_ne _ _ _ (by decide)]; exact er
      case refine_8 => rw [upd2_ne _ _ _ (by decide)]; exact er2
      case refine_9 => unfold tapeOk; rw [upd2_ne _ _ _ (by decide), upd2_ne _ _ _ (by decide)]; exact hta
      case refine_10 => unfold sheetsOk; rw [upd2_ne _ _ _ (by decide), upd2_ne _ _ _ (by decide), upd2_ne _ _ _ (by decide)]; exact hs
      case refine_11 => unfold keptOk; rw [upd2_ne _ _ _ (by decide), upd2_ne _ _ _ (by decide), upd2_ne _ _ _ (by decide), upd2_ne _ _ _ (by decide)]; exact hk
      all_goals exact upd2_ne _ _ _ (by decide)
/-- sheets alone -/
theorem ok_sh {K K' : GS} (h : Ok K) (hk : ∀ k, k < 39 → K' k = K k) (hs : sheetsOk K') : Ok K' := by
  obtain ⟨hno, ht, hta, -, hke⟩ := h
  refine ⟨now_of hno (hk _ (by decide)) (hk _ (by decide)) (hk _ (by decide)) (hk _ (by decide)), texts_of ht (hk _ (by decide)) (hk _ (by decide)) (hk _ (by decide)) (hk _ (by decide)) (hk _ (by decide)), ?_, hs, ?_⟩
  · unfold tapeOk; rw [hk 6 (by decide), hk 5 (by decide)]; exact hta
  · unfold keptOk; rw [hk 36 (by decide), hk 35 (by decide), hk 33 (by decide), hk 34 (by decide)]; exact hke
theorem newK_k {K : GS} {s k : Nat} {q z : Int32} (h : k < 39) : s_newK K s q z k = K k := by
  funext i
  unfold s_newK
  rw [if_neg (by omega), if_neg (by omega), if_neg (by omega), if_neg (by omega)]
theorem sheets_new {K : GS} {s : Nat} {q z : Int32} (h : sheetsOk K) (hq : q < 0 ∨ ((∃ w, w ≤ 2 ∧ q = nI w) ∧ ∃ w, w ≤ 40 ∧ z = nI w)) : sheetsOk (s_newK K s q z) := by
  intro t ht
  by_cases e : t = s
  · subst e
    have e39 : s_newK K t q z 39 t = if q < 0 then 0 else 1 := by unfold s_newK; rw [if_pos ⟨rfl, rfl⟩]
    have e40 : s_newK K t q z 40 t = q := by unfold s_newK; rw [if_neg (by omega), if_pos ⟨rfl, rfl⟩]
    have e41 : s_newK K t q z 41 t = z := by unfold s_newK; rw [if_neg (by omega), if_neg (by omega), if_pos ⟨rfl, rfl⟩]
    rw [e39, e40, e41]
    rcases hq with hq | hq
    · exact Or.inl (if_pos hq)
    · by_cases hq0 : q < 0
      · exact Or.inl (if_pos hq0)
      · exact Or.inr ⟨if_neg hq0, hq.1, hq.2⟩
  · have e39 : s_newK K s q z 39 t = K 39 t := by unfold s_newK; rw [if_neg (by omega), if_neg (by omega), if_neg (by omega), if_neg (by omega)]
    have e40 : s_newK K s q z 40 t = K 40 t := by unfold s_newK; rw [if_neg (by omega), if_neg (by omega), if_neg (by omega), if_neg (by omega)]
    have e41 : s_newK K s q z 41 t = K 41 t := by unfold s_newK; rw [if_neg (by omega), if_neg (by omega), if_neg (by omega), if_neg (by omega)]
    rw [e39, e40, e41]
    exact h t ht
theorem ok_new {K : GS} {s : Nat} {q z : Int32} (h : Ok K) (hq : q < 0 ∨ ((∃ w, w ≤ 2 ∧ q = nI w) ∧ ∃ w, w ≤ 40 ∧ z = nI w)) : Ok (s_newK K s q z) := ok_sh h (fun k hk => newK_k hk) (sheets_new h.2.2.2.1 hq)
theorem sheets_42 {K : GS} {i : Nat} {v : Int32} (h : sheetsOk K) : sheetsOk (upd2 K 42 i v) := by
  unfold sheetsOk
  rw [upd2_ne _ _ _ (by decide), upd2_ne _ _ _ (by decide), upd2_ne _ _ _ (by decide)]
  exact h
theorem ok_sheet {K : GS} {x q z : Int32} (h : Ok K) : Ok (s_sheet K x q z).2 := by
  unfold s_sheet
  split
  · next hs =>
    split
    · exact h
    · next hn =>
      refine ok_new h ?_
      by_cases hq : q < 0
      · exact Or.inl hq
      · have hz : z ≤ 40 := hs.2.2.resolve_left hq
        have hz0 : ¬ z < 0 := fun e => hn ⟨hq, e⟩
        rw [Int32.le_iff_toInt_le] at hz
        rw [Int32.lt_iff_toInt_lt] at hz0 hq
        have e40 : (40 : Int32).toInt = 40 := by decide
        have e0 : (0 : Int32).toInt = 0 := by decide
        have hq2 := hs.2.1.2
        exact Or.inr ⟨rg_nat (n := 2) ⟨by omega, hq2⟩ (by decide), rg_nat (n := 40) ⟨by omega, by omega⟩ (by decide)⟩
  · exact h
theorem ok_cell {K : GS} {x y v : Int32} (h : Ok K) : Ok (s_cell K x y v).2 := by
  unfold s_cell
  split
  · split
    · exact h
    · split
      · exact ok_sh h (fun k hk => upd2_ne _ _ _ (by omega)) (sheets_42 h.2.2.2.1)
      · exact h
  · exact h
theorem film1_k {K : GS} {s p n k : Nat} (h : k < 39) : ∀ y, s_film1 K s p n y k = K k
  | 0 => newK_k h
  | y + 1 => (upd2_ne _ _ _ (by omega)).trans (film1_k h y)
theorem film1_s {K : GS} {s p n : Nat} (h : sheetsOk K) (hn : n ≤ 40) : ∀ y, sheetsOk (s_film1 K s p n y)
  | 0 => sheets_new h (Or.inr ⟨⟨0, by omega, rfl⟩, n, hn, rfl⟩)
  | y + 1 => sheets_42 (film1_s h hn y)
theorem ok_film1 {K : GS} {s p n y : Nat} (h : Ok K) (hn : n ≤ 40) : Ok (s_film1 K s p n y) := ok_sh h (fun k hk => film1_k hk y) (film1_s h.2.2.2.1 hn y)
theorem ok_film {K : GS} {x y n : Int32} (h : Ok K) : Ok (s_film K x y n).2 := by
  unfold s_film
  split
  · next hx =>
    obtain ⟨w, hw, ew⟩ := rg_nat (n := 30) hx.2.2 (by decide)
    have : n_ n = w := by rw [ew]; exact nI_clamp (by omega)
    exact ok_film1 h (by omega)
  · exact h
theorem ok_copy {K : GS} {x i y j n : Int32} (h : Ok K) : Ok (s_copy K x i y j n).2 := by
  unfold s_copy
  split
  · split
    · exact h
    · split
      · split
        · have hne : ∀ k, k ≠ 42 → s_copyV K (n_ x) (n_ i) (n_ y) (n_ j) (n_ n) k = K k := fun k hk => by funext z; unfold s_copyV; rw [if_neg (fun q => hk q.1)]
          refine ok_sh h (fun k hk => hne k (by omega)) ?_
          show sheetsOk (s_copyV K (n_ x) (n_ i) (n_ y) (n_ j) (n_ n))
          unfold sheetsOk
          rw [hne 39 (by decide), hne 40 (by decide), hne 41 (by decide)]
          exact h.2.2.2.1
        · exact h
      · exact h
  · exact h
theorem ok_liv {K : GS} {s a : Nat} (h : Ok K) : ∀ y, Ok (s_liv K s a y).2
  | 0 => h
  | y + 1 => ok_life (ok_liv h y)
theorem ok_lvL {K : GS} {s : Nat} {a z : Int32} (h : Ok K) : ∀ f y, Ok (s_lvL K s a z f y).2
  | 0, y => ok_liv h y
  | f + 1, y => by
    rw [s_lvL]
    split
    · exact ok_liv h y
    · exact ok_lvL h f (y + 1)
theorem ok_lives {K : GS} {x q a n : Int32} (h : Ok K) : Ok (s_lives K x q a n).2 := by
  unfold s_lives
  split
  · split
    · exact h
    · split
      · exact ok_lvL h _ _
      · exact h
  · exact h
theorem life_k {K : GS} {kd nm c : Int32} {k : Nat} (h10 : k ≠ 10) (h11 : k ≠ 11) : (s_life K kd nm c).2 k = K k := by
  unfold s_life
  split
  · split
    · rfl
    · show s_born K kd nm c k = K k
      unfold s_born
      rw [upd2_ne _ _ _ h11, upd2_ne _ _ _ h10, upd2_ne _ _ _ h10, upd2_ne _ _ _ h10, upd2_ne _ _ _ h10, upd2_ne _ _ _ h10]
  · rfl
theorem liv_k {K : GS} {s a k : Nat} (h10 : k ≠ 10) (h11 : k ≠ 11) : ∀ y, (s_liv K s a y).2 k = K k
  | 0 => rfl
  | y + 1 => (life_k h10 h11).trans (liv_k h10 h11 y)
theorem ok_image {K : GS} (h : Ok K) : Ok (s_imageK K) := by
  obtain ⟨⟨h11, h10, h8, h9⟩, ⟨m, hm, em, ht, ⟨r, hr, er⟩, r2, hr2, er2⟩, hta, hs, hk⟩ := h
  have hl : ∀ k, k < 33 ∨ 38 < k → s_imageK K k = K k := fun k hk => by
    funext i
    unfold s_imageK
    rw [if_neg (by omega), if_neg (by omega), if_neg (by omega), if_neg (by omega), if_neg (by omega), if_neg (by omega)]
  have e33 : ∀ i, i < 24 → s_imageK K 33 i = K 8 i := fun i hi => by unfold s_imageK; rw [if_pos ⟨rfl, hi⟩]
  have e34 : ∀ i, i < 24 → s_imageK K 34 i = K 9 i := fun i hi => by unfold s_imageK; rw [if_neg (by omega), if_pos ⟨rfl, hi⟩]
  have e35 : ∀ i, i < 25 → s_imageK K 35 i = K 10 i := fun i hi => by unfold s_imageK; rw [if_neg (by omega), if_neg (by omega), if_pos ⟨rfl, hi⟩]
  have e36 : s_imageK K 36 0 = K 11 0 := by unfold s_imageK; rw [if_neg (by omega), if_neg (by omega), if_neg (by omega), if_pos ⟨rfl, rfl⟩]
  have e38 : s_imageK K 38 0 = K 4 0 := by unfold s_imageK; rw [if_neg (by omega), if_neg (by omega), if_neg (by omega), if_neg (by omega), if_neg (by omega), if_pos ⟨rfl, rfl⟩]
  refine ⟨now_of ⟨h11, h10, h8, h9⟩ (hl _ (by decide)) (hl _ (by decide)) (hl _ (by decide)) (hl _ (by decide)), ⟨m, hm, by rw [hl 3 (by decide)]; exact em, fun t hlt => by unfold textOk; rw [hl 1 (by decide), hl 2 (by decide)]; exact ht t hlt, ⟨r, hr, by rw [hl 4 (by decide)]; exact er⟩, r, hr, by rw [e38]; exact er⟩, ?_, ?_, ?_, ?_, ?_, ?_⟩
  · unfold tapeOk; rw [hl 6 (by decide), hl 5 (by decide)]; exact hta
  · unfold sheetsOk; rw [hl 39 (by decide), hl 40 (by decide), hl 41 (by decide)]; exact hs
  · rw [e36]; exact Or.inr h11
  · intro p hp
    rw [e35 _ (by omega), e35 _ (by omega), e35 _ (by omega), e35 _ (by omega), e35 _ (by omega)]
    exact h10 p hp
  · intro i hi
    rw [e33 i hi]; exact h8 i hi
  · intro i hi
    rw [e34 i hi]; exact h9 i hi
theorem ok_back {K : GS} (h : Ok K) : Ok (s_back K).2 := by
  unfold s_back
  split
  · exact h
  · next h36 =>
    obtain ⟨hno, ⟨m, hm, em, ht, ⟨r, hr, er⟩, r2, hr2, er2⟩, hta, hs, k36, k35, k33, k34⟩ := h
    have hl : ∀ k, k ≠ 4 → k ≠ 7 → k ≠ 8 → k ≠ 9 → k ≠ 10 → k ≠ 11 → s_backK K k = K k := fun k h4 h7 h8 h9 h10 h11 => by
      funext i
      unfold s_backK
      rw [if_neg (by omega), if_neg (by omega), if_neg (by omega), if_neg (by omega), if_neg (by omega), if_neg (by omega)]
    have e8 : ∀ i, i < 24 → s_backK K 8 i = K 33 i := fun i hi => by unfold s_backK; rw [if_pos ⟨rfl, hi⟩]
    have e9 : ∀ i, i < 24 → s_backK K 9 i = K 34 i := fun i hi => by unfold s_backK; rw [if_neg (by omega), if_pos ⟨rfl, hi⟩]
    have e10 : ∀ i, i < 25 → s_backK K 10 i = K 35 i := fun i hi => by unfold s_backK; rw [if_neg (by omega), if_neg (by omega), if_pos ⟨rfl, hi⟩]
    have e11 : s_backK K 11 0 = K 36 0 := by unfold s_backK; rw [if_neg (by omega), if_neg (by omega), if_neg (by omega), if_pos ⟨rfl, rfl⟩]
    have e4 : s_backK K 4 0 = K 38 0 := by unfold s_backK; rw [if_neg (by omega), if_neg (by omega), if_neg (by omega), if_neg (by omega), if_neg (by omega), if_pos ⟨rfl, rfl⟩]
    show Ok (s_backK K)
    refine ⟨⟨?_, ?_, ?_, ?_⟩, ⟨m, hm, by rw [hl 3 (by decide) (by decide) (by decide) (by decide) (by decide) (by decide)]; exact em, fun t hlt => by unfold textOk; rw [hl 1 (by decide) (by decide) (by decide) (by decide) (by decide) (by decide), hl 2 (by decide) (by decide) (by decide) (by decide) (by decide) (by decide)]; exact ht t hlt, ⟨r2, hr2, by rw [e4]; exact er2⟩, r2, hr2, by rw [hl 38 (by decide) (by decide) (by decide) (by decide) (by decide) (by decide)]; exact er2⟩, ?_, ?_, ?_⟩
    · rw [e11]; exact k36.resolve_left h36
    · intro p hp
      rw [e10 _ (by omega), e10 _ (by omega), e10 _ (by omega), e10 _ (by omega), e10 _ (by omega)]
      exact k35 p hp
    · intro i hi
      rw [e8 i hi]; exact k33 i hi
    · intro i hi
      rw [e9 i hi]; exact k34 i hi
    · unfold tapeOk; rw [hl 6 (by decide) (by decide) (by decide) (by decide) (by decide) (by decide), hl 5 (by decide) (by decide) (by decide) (by decide) (by decide) (by decide)]; exact hta
    · unfold sheetsOk; rw [hl 39 (by decide) (by decide) (by decide) (by decide) (by decide) (by decide), hl 40 (by decide) (by decide) (by decide) (by decide) (by decide) (by decide), hl 41 (by decide) (by decide) (by decide) (by decide) (by decide) (by decide)]; exact hs
    · unfold keptOk; rw [hl 36 (by decide) (by decide) (by decide) (by decide) (by decide) (by decide), hl 35 (by decide) (by decide) (by decide) (by decide) (by decide) (by decide), hl 33 (by decide) (by decide) (by decide) (by decide) (by decide) (by decide), hl 34 (by decide) (by decide) (by decide) (by decide) (by decide) (by decide)]; exact ⟨k36, k35, k33, k34⟩
