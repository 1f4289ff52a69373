/-! weaker ends -/
set_option maxRecDepth 100000
section WK
variable {KT : (Nat → Prop) → State → Heap → Prop} {D : va_G} {cl : List vw_C} {tys : List (ClassId × FieldType)} {l : Launch} {y : MethodName} {cc : ByteArray} {nL : Nat} {ret : Option FieldType} {rm : Room} {As : List Value} {Φ : va_W → Prop}
theorem MC.wk {Qf Qf' : (Nat → Prop) → Array Value → State → Outcome → State → Prop} (h : MC KT D cl tys l y cc nL ret rm As Φ Qf) (hq : ∀ A a st o t, Qf A a st o t → Qf' A a st o t) : MC KT D cl tys l y cc nL ret rm As Φ Qf' :=
  fun ws sz hR => MetFree.mono (h ws sz hR) (fun _ _ q => q) (fun _ _ _ _ _ q => q) (fun a st o t _ q => ⟨hq _ a st o t q.1, q.2⟩)
theorem MC.wkV {S : Type} {Rep : S → va_W → Prop} {post post' : S → Prop} (h : MC KT D cl tys l y cc nL ret rm As Φ (QV_ D cl Rep post)) (hp : ∀ u, post u → post' u) : MC KT D cl tys l y cc nL ret rm As Φ (QV_ D cl Rep post') := by
  refine h.wk (fun A a st o t q => ?_)
  obtain ⟨⟨u, h1, h2, h3⟩, h4⟩ := q
  exact ⟨⟨u, h1, hp _ h2, h3⟩, h4⟩
theorem MC.wkI {S : Type} {Rep : S → va_W → Prop} {post post' : Int32 → S → Prop} (h : MC KT D cl tys l y cc nL ret rm As Φ (QI_ D cl Rep post)) (hp : ∀ r u, post r u → post' r u) : MC KT D cl tys l y cc nL ret rm As Φ (QI_ D cl Rep post') := by
  refine h.wk (fun A a st o t q => ?_)
  obtain ⟨⟨r, u, h1, h2, h3⟩, h4⟩ := q
  exact ⟨⟨r, u, h1, hp _ _ h2, h3⟩, h4⟩
theorem MC.wkL {S : Type} {Rep : S → va_W → Prop} {post post' : Int64 → S → Prop} (h : MC KT D cl tys l y cc nL ret rm As Φ (QL_ D cl Rep post)) (hp : ∀ r u, post r u → post' r u) : MC KT D cl tys l y cc nL ret rm As Φ (QL_ D cl Rep post') := by
  refine h.wk (fun A a st o t q => ?_)
  obtain ⟨⟨r, u, h1, h2, h3⟩, h4⟩ := q
  exact ⟨⟨r, u, h1, hp _ _ h2, h3⟩, h4⟩
end WK
/-- where a token ends -/
def en (s : PS) : Nat := match s with
  | .inl _ => 0
  | .inr t => t.2.2.2
theorem ST_n1 {F n k : Nat} {b : Nat → Int32} {s : PS} {σ : MS} (h : ST F n b k s σ) (hk : kd s ≠ 9) : σ.1 25 0 = 0 ∧ σ.1 20 0 = nI (en s) ∧ en s ≤ n ∧ nx b n (en s) = nxS b n s := by
  cases s with
  | inl e => exact absurd rfl hk
  | inr t =>
    obtain ⟨-, ⟨w, h1, h2, h3, h4⟩, -⟩ := h
    exact ⟨h1, h3, w.2.1, rfl⟩
theorem ST_n2 {F n k : Nat} {b : Nat → Int32} {s s' : PS} {σ σ' : MS} {S : List Nat} (h : ST F n b k s σ) (ht : tk b n s' σ') (ha : ag S σ σ') (hS : ∀ x ∈ S, x ∈ pfr ∧ x ≠ 24) : ST F n b k s' σ' ∧ ag pfr σ σ' := by
  have h1 : ag pfr σ σ' := ag_mono ha (fun x hx => (hS x hx).1)
  refine ⟨⟨TX_ag h1 h.1, ht, ?_⟩, h1⟩
  rw [ha 24 (fun q => (hS 24 q).2 rfl)]
  exact h.2.2
theorem kd_tk {s : PS} {k : Nat} {v : Int32} (h : isTk s k v = true) (hk : k ≠ 9) : kd s ≠ 9 := by
  rw [(isTk_kd h).1]
  exact hk
theorem ST_bad {F n k : Nat} {b : Nat → Int32} {s : PS} {σ : MS} (h : ST F n b k s σ) (hk : kd s ≠ 9) : σ.1 25 0 = 0 := (ST_n1 h hk).1
theorem kd_e {s : PS} {e : Nat} (h : s = .inl e) : ¬ kd s = 3 ∧ ¬ kd s = 2 ∧ faS s = s ∧ ∀ k v, isTk s k v = false := by
  subst h
  exact ⟨fun q => (by cases q), fun q => (by cases q), rfl, fun _ _ => rfl⟩
theorem tk_wk {b : Nat → Int32} {n : Nat} {s : PS} {σ : MS} (h : tk b n s σ) (hb : σ.1 25 0 = 0) (ht : σ.1 21 0 = 1) (hk : ¬ kd s = 2) : ∀ i, i < 6 → isTk s 2 (nI i) = false := fun i _ => isTk_false_of_kd hk
theorem tk_nm {b : Nat → Int32} {n : Nat} {s : PS} {σ : MS} (h : tk b n s σ) (hk : kd s = 2) : ∃ i, i < 6 ∧ vl s = nI i ∧ n_ (vl s) = i ∧ isTk s 2 (nI i) = true := by
  cases s with
  | inl e => cases hk
  | inr t =>
    have hk : t.1 = 2 := hk
    have hx : ∀ x ∈ wtab, x.1 = 2 → x.2.1 < 6 := by decide +kernel
    obtain ⟨w, h1, h2, h3, h4 | h4 | h4 | h4⟩ := h
    · exact absurd (h4.1.symm.trans hk) (by decide)
    · refine ⟨(wc b n t.2.2.1 t.2.2.2).2, ?_, h4.2.2.2, ?_, ?_⟩
      · have h5 := h4.2.2.1.symm.trans hk
        revert h5
        unfold wc
        split
        · unfold wfind
          split
          next z hz => exact fun q => hx z (List.mem_of_find?_eq_some hz) q
          next => exact fun q => absurd q (by decide)
        · exact fun q => absurd q (by decide)
      · show n_ t.2.1 = _
        rw [h4.2.2.2]
        refine nI_clamp ?_
        have hb2 : (wc b n t.2.2.1 t.2.2.2).2 < 10 := by
          have hx2 : ∀ x ∈ wtab, x.2.1 < 10 := by decide +kernel
          unfold wc
          split
          · unfold wfind
            split
            next z hz => exact hx2 z (List.mem_of_find?_eq_some hz)
            next => decide
          · decide
        omega
      · simp only [isTk, Bool.and_eq_true, decide_eq_true_eq]
        exact ⟨hk, h4.2.2.2⟩
    · exact absurd (h4.1.symm.trans hk) (by decide)
    · exact absurd (h4.1.symm.trans hk) (by decide)
theorem envM_eq {σ σ' : MS} (h : ag pfr σ σ') : envM σ' = fun i => σ'.1 (12 + i) 0 := rfl
/-- what the names say stays -/
def envS (σ : MS) : Nat → Int32 := fun i => if i < 6 then σ.1 (12 + i) 0 else 0
theorem envS_ag {σ σ' : MS} (h : ag pfr σ σ') : envS σ' = envS σ := by
  funext i
  unfold envS
  by_cases hi : i < 6
  · rw [if_pos hi, if_pos hi, h]
    simp only [List.mem_cons, List.not_mem_nil, or_false, not_or]
    omega
  · rw [if_neg hi, if_neg hi]
section KS
variable {KT : (Nat → Prop) → State → Heap → Prop}
theorem kX8_nextS (hK : KTok KT) (l : Launch) (dC : Nat → ClassId) (dI : Nat → Nat → Nat) (ct ad : Nat → Nat) (σ : MS) (F n : Nat) (b : Nat → Int32) (k : Nat) (t : PS) (hS : ST F n b k t σ) (hk : kd t ≠ 9) : MC KT (dC, dI) vwCl (tysF ct) l yX8_next cX8_next 3 none rmX8_next [.ref (ad 43)] (RM ct ad σ) (QV_ (dC, dI) vwCl (RM ct ad) (fun (σ' : MS) => ST F n b k (nxS b n t) σ' ∧ ag pfr σ σ' ∧ σ'.1 25 0 = 0)) :=
  (kX8_next hK l dC dI ct ad σ F n b (en t) hS.1 (ST_n1 hS hk).1 (ST_n1 hS hk).2.1 (ST_n1 hS hk).2.2.1).wkV (fun u q => by
    have h := q.1
    rw [(ST_n1 hS hk).2.2.2] at h
    obtain ⟨h1, h2⟩ := ST_n2 hS h q.2 (by decide)
    exact ⟨h1, h2, (ag_at q.2 (by decide)).trans (ST_n1 hS hk).1⟩)
theorem kX8_failS (hK : KTok KT) (l : Launch) (dC : Nat → ClassId) (dI : Nat → Nat → Nat) (ct ad : Nat → Nat) (σ : MS) (F n : Nat) (b : Nat → Int32) (k : Nat) (t : PS) (hS : ST F n b k t σ) : MC KT (dC, dI) vwCl (tysF ct) l yX8_fail cX8_fail 1 none rmX8_fail [.ref (ad 43)] (RM ct ad σ) (QV_ (dC, dI) vwCl (RM ct ad) (fun (σ' : MS) => ST F n b k (faS t) σ' ∧ ag pfr σ σ' ∧ σ'.1 25 0 = 1)) :=
  (kX8_fail hK l dC dI ct ad σ n b t hS.2.1).wkV (fun u q => by
    obtain ⟨h1, h2⟩ := ST_n2 hS q.1 q.2.2 (by decide)
    exact ⟨h1, h2, q.2.1⟩)
theorem kX8_isSignS (hK : KTok KT) (l : Launch) (dC : Nat → ClassId) (dI : Nat → Nat → Nat) (ct ad : Nat → Nat) (σ : MS) (F n : Nat) (b : Nat → Int32) (k : Nat) (t : PS) (z : Int32) (hS : ST F n b k t σ) : MC KT (dC, dI) vwCl (tysF ct) l yX8_isSign cX8_isSign 2 (some .boolean) rmX8_isSign [.ref (ad 43), .int z] (RM ct ad σ) (QI_ (dC, dI) vwCl (RM ct ad) (fun (r : Int32) (σ' : MS) => (1 = r ∧ σ = σ' ∧ isTk t 4 z = true) ∨ (0 = r ∧ σ = σ' ∧ isTk t 4 z = false))) :=
  kX8_isSign hK l dC dI ct ad σ n b t z hS.2.1
theorem kX8_isWordS (hK : KTok KT) (l : Launch) (dC : Nat → ClassId) (dI : Nat → Nat → Nat) (ct ad : Nat → Nat) (σ : MS) (F n : Nat) (b : Nat → Int32) (k : Nat) (t : PS) (kk : Nat) (vv : Int32) (la lb lc ld le lf lg lh : Int32) (hS : ST F n b k t σ) (hx : ∃ x ∈ wtab, x.1 = kk ∧ nI x.2.1 = vv ∧ x.2.2 = [la, lb, lc, ld, le, lf, lg, lh]) : MC KT (dC, dI) vwCl (tysF ct) l yX8_isWord cX8_isWord 9 (some .boolean) rmX8_isWord [.ref (ad 43), .int la, .int lb, .int lc, .int ld, .int le, .int lf, .int lg, .int lh] (RM ct ad σ) (QI_ (dC, dI) vwCl (RM ct ad) (fun (r : Int32) (σ' : MS) => (1 = r ∧ σ = σ' ∧ isTk t kk vv = true) ∨ (0 = r ∧ σ = σ' ∧ isTk t kk vv = false))) := by
  obtain ⟨x, h1, rfl, rfl, h4⟩ := hx
  exact kX8_isWord hK l dC dI ct ad σ F n b t x la lb lc ld le lf lg lh hS.1 hS.2.1 h1 h4
theorem kX8_isWordV (hK : KTok KT) (l : Launch) (dC : Nat → ClassId) (dI : Nat → Nat → Nat) (ct ad : Nat → Nat) (σ : MS) (F n : Nat) (b : Nat → Int32) (k : Nat) (t : PS) (kk : Nat) (vv : Int32) (la lb lc ld le lf lg lh : Int32) (hS : ST F n b k t σ) (hx : ∃ x ∈ wtab, x.1 = kk ∧ nI x.2.1 = vv ∧ x.2.2 = [la, lb, lc, ld, le, lf, lg, lh]) : MC KT (dC, dI) vwCl (tysF ct) l yX8_isWord cX8_isWord 9 (some .boolean) rmX8_isWord [.ref (ad 43), .int la, .int lb, .int lc, .int ld, .int le, .int lf, .int lg, .int lh] (RM ct ad σ) (QI_ (dC, dI) vwCl (RM ct ad) (fun (r : Int32) (σ' : MS) => (if isTk t kk vv = true then 1 else 0) = r ∧ σ = σ')) :=
  (kX8_isWordS hK l dC dI ct ad σ F n b k t kk vv la lb lc ld le lf lg lh hS hx).wkI (fun r u q => by
    rcases q with ⟨h1, h2, h3⟩ | ⟨h1, h2, h3⟩
    · rw [if_pos h3]; exact ⟨h1, h2⟩
    · rw [if_neg (by rw [h3]; decide)]; exact ⟨h1, h2⟩)
end KS
theorem faS_faS {s : PS} : faS (faS s) = faS s := by cases s <;> rfl
theorem faS_no {s : PS} {k : Nat} {v : Int32} : isTk (faS s) k v = false := by cases s <;> rfl
abbrev rfr : List Nat := [18, 19, 20, 21, 22, 24, 25, 26]
theorem envS_agr {σ σ' : MS} (h : ag rfr σ σ') : envS σ' = envS σ := by
  funext i
  unfold envS
  by_cases hi : i < 6
  · rw [if_pos hi, if_pos hi, h]
    simp only [List.mem_cons, List.not_mem_nil, or_false, not_or]
    omega
  · rw [if_neg hi, if_neg hi]
theorem p_part_e {b : Nat → Int32} {n e : Nat} {k : Int32} : (p_part b n k (.inl e)).2 = .inl e := by simp [p_part, isTk, faS]
theorem p_text_1 {b : Nat → Int32} {n e : Nat} (h : p_s1 b n = .inl e) : p_text b n = .inl e := by
  simp [p_text, p_s3, p_s2, h, p_part_e, p_fin, kd, faS]
theorem p_text_2 {b : Nat → Int32} {n e : Nat} (h : p_s2 b n = .inl e) : p_text b n = .inl e := by
  simp [p_text, p_s3, h, p_part_e, p_fin, kd, faS]
theorem p_text_3 {b : Nat → Int32} {n e : Nat} (h : p_s3 b n = .inl e) : p_text b n = .inl e := by
  simp [p_text, h, p_fin, kd, faS]
theorem p_text_4 {b : Nat → Int32} {n : Nat} (h : ¬ kd (p_s3 b n) = 0) : p_text b n = faS (p_s3 b n) := by
  simp [p_text, p_fin, h]
theorem p_text_5 {b : Nat → Int32} {n : Nat} (h : kd (p_s3 b n) = 0) : p_text b n = p_s3 b n ∧ ∃ t, p_s3 b n = .inr t := by
  refine ⟨by simp [p_text, p_fin, h], ?_⟩
  cases hs : p_s3 b n with
  | inl e => rw [hs] at h; cases h
  | inr t => exact ⟨t, rfl⟩
theorem ST_cl {F n k : Nat} {b : Nat → Int32} {s : PS} {σ : MS} {v : Int32} (h : ST F n b (k + 1) s σ) (hv : v = nI k) : ST F n b k s (mset σ 24 0 v) := by
  obtain ⟨h1, h2, h3⟩ := h
  refine ⟨TX_ag (ag_set (by decide)) h1, ?_, by rw [mset_eq]; exact hv⟩
  cases s with
  | inl e => exact h2
  | inr t => exact h2
theorem ST_op {F n k j : Nat} {b : Nat → Int32} {s : PS} {σ : MS} {v : Int32} (h : ST F n b k s σ) (hv : v = nI j) : ST F n b j s (mset σ 24 0 v) := by
  obtain ⟨h1, h2, h3⟩ := h
  refine ⟨TX_ag (ag_set (by decide)) h1, ?_, by rw [mset_eq]; exact hv⟩
  cases s with
  | inl e => exact h2
  | inr t => exact h2
section PE
variable {b : Nat → Int32} {n : Nat} {s : PS} {lo : P3}
theorem p_atom_m (h : isTk s 4 45 = true) : p_atom b n (some lo) s = (fun e => -((lo.1 (nxS b n s)).1 e), (lo.1 (nxS b n s)).2) := by simp [p_atom, h]
theorem p_atom_m0 (h : isTk s 4 45 = true) : p_atom b n none s = (fun _ => 0, faS s) := by simp [p_atom, h]
theorem p_atom_o0 (h0 : isTk s 4 45 = false) (h : isTk s 4 40 = true) : p_atom b n none s = (fun _ => 0, faS s) := by simp [p_atom, h, h0]
theorem p_atom_oy (h0 : isTk s 4 45 = false) (h : isTk s 4 40 = true) (h2 : isTk (lo.2.2 (nxS b n s)).2 4 41 = true) : p_atom b n (some lo) s = ((lo.2.2 (nxS b n s)).1, nxS b n (lo.2.2 (nxS b n s)).2) := by simp [p_atom, h, h0, h2]
theorem p_atom_on (h0 : isTk s 4 45 = false) (h : isTk s 4 40 = true) (h2 : isTk (lo.2.2 (nxS b n s)).2 4 41 = false) : p_atom b n (some lo) s = ((lo.2.2 (nxS b n s)).1, faS (lo.2.2 (nxS b n s)).2) := by simp [p_atom, h, h0, h2]
theorem p_atom_3 {lo : Option P3} (h0 : isTk s 4 45 = false) (h : isTk s 4 40 = false) (h2 : kd s = 3) : p_atom b n lo s = (fun _ => vl s, nxS b n s) := by simp [p_atom, h, h0, h2]
theorem p_atom_2 {lo : Option P3} (h0 : isTk s 4 45 = false) (h : isTk s 4 40 = false) (h2 : kd s = 2) : p_atom b n lo s = (fun e => e (n_ (vl s)), nxS b n s) := by simp [p_atom, h, h0, h2]
theorem p_atom_f {lo : Option P3} (h0 : isTk s 4 45 = false) (h : isTk s 4 40 = false) (h2 : ¬ kd s = 3) (h3 : ¬ kd s = 2) : p_atom b n lo s = (fun _ => 0, faS s) := by simp [p_atom, h, h0, h2, h3]
theorem p_not_0 {f : PF} (h : isTk s 1 5 = true) : p_not b n none f s = (fun _ => 0, faS s) := by simp [p_not, h]
theorem p_not_1 {f : PF} (h : isTk s 1 5 = true) : p_not b n (some lo) f s = (fun e => if (lo.2.1 (nxS b n s)).1 e = 0 then 1 else 0, (lo.2.1 (nxS b n s)).2) := by simp [p_not, h]
theorem p_not_l {lo : Option P3} {f : PF} (h : isTk s 1 5 = false) (h2 : isTk (f s).2 4 60 = true) : p_not b n lo f s = (fun e => if (f s).1 e < (f (nxS b n (f s).2)).1 e then 1 else 0, (f (nxS b n (f s).2)).2) := by simp [p_not, h, h2]
theorem p_not_e {lo : Option P3} {f : PF} (h : isTk s 1 5 = false) (h2 : isTk (f s).2 4 60 = false) (h3 : isTk (f s).2 4 61 = true) : p_not b n lo f s = (fun e => if (f s).1 e = (f (nxS b n (f s).2)).1 e then 1 else 0, (f (nxS b n (f s).2)).2) := by simp [p_not, h, h2, h3]
theorem p_not_x {lo : Option P3} {f : PF} (h : isTk s 1 5 = false) (h2 : isTk (f s).2 4 60 = false) (h3 : isTk (f s).2 4 61 = false) : p_not b n lo f s = f s := by simp [p_not, h, h2, h3]
end PE
theorem mu_le {n : Nat} {s : PS} : mu n s ≤ n + 1 := by
  cases s with
  | inl e => exact Nat.zero_le _
  | inr t => exact Nat.sub_le _ _
theorem tk_sgv {b : Nat → Int32} {n : Nat} {s : PS} {σ : MS} {c : Int32} (h : tk b n s σ) (hs : isTk s 4 c = true) : σ.2 23 0 = c.toInt64 := by
  cases s with
  | inl e => cases hs
  | inr t =>
    simp only [isTk, Bool.and_eq_true, decide_eq_true_eq] at hs
    obtain ⟨w, h1, h2, h3, h4 | h4 | h4 | h4⟩ := h
    · exact absurd (h4.1.symm.trans hs.1) (by decide)
    · rcases h4.1 with z | z <;> exact absurd (z.symm.trans hs.1) (by decide)
    · exact absurd (h4.1.symm.trans hs.1) (by decide)
    · rw [h4.2.2, hs.2]
/-- reading on from a token of kind k, then a part f: less is left -/
theorem mu_step {b : Nat → Int32} {n k m : Nat} {s : PS} {v : Int32} {f : PF} (h : wf n s) (ht : isTk s k v = true) (hk : k ≠ 9 ∧ k ≠ 0) (hf : p_ok n f) (hm : mu n s < m + 1) : mu n (f (nxS b n s)).2 < m := by
  obtain ⟨h1, h2, h3⟩ := nxS_wf (b := b) h
  obtain ⟨g1, g2⟩ := hf _ h1
  have := h3 (by rw [(isTk_kd ht).1]; exact hk.1) (by rw [(isTk_kd ht).1]; exact hk.2)
  omega
