/-! THE WORLD OF THE TWIN: its memory σ (ints and longs, by field and place), its cells at the addresses ad -/
set_option maxRecDepth 100000
abbrev vwCl : List vw_C := [(RX8, TX8, 43), (RX0, TX0, 34), (RX9, TX9, 4), (RX10, TX10, 4), (RX11, TX11, 4), (RX12, TX12, 4), (RX13, TX13, 4), (RX14, TX14, 4), (RX2, TX2, 1), (RX5, TX5, 1), (RX6, TX6, 2), (RX4, TX4, 2), (RX7, TX7, 3), (RX1, TX1, 6)]
abbrev tysF (ct : Nat → ClassId) : List (ClassId × FieldType) := [(ct 0, .int), (ct 1, .long), (ct 2, .boolean), (ct 3, .byte), (ct 4, .short), (ct 5, .object "RoadsNotGoneBy$Life"), (ct 6, .object "RoadsNotGoneBy$Sheet"), (ct 7, .object "RoadsNotGoneBy$Node"), (ct 8, .object "java/lang/String"), (ct 9, .array (.object "RoadsNotGoneBy$Node")), (ct 10, .array .int)]
abbrev MS : Type := (Nat → Nat → Int32) × (Nat → Nat → Int64)
def upd2 {α : Type} (g : Nat → Nat → α) (k i : Nat) (v : α) : Nat → Nat → α := fun k' i' => if k' = k then (if i' = i then v else g k' i') else g k' i'
theorem upd2_ne {α : Type} (g : Nat → Nat → α) {k k' : Nat} (i : Nat) (v : α) (h : k' ≠ k) : upd2 g k i v k' = g k' := by
  funext j
  simp [upd2, h]
theorem upd2_eq (g : Nat → Nat → Int32) (k i : Nat) (v : Int32) : upd2 g k i v k = upd (g k) i v := by
  funext j
  simp [upd2, upd]
theorem upd2_eqL (g : Nat → Nat → Int64) (k i : Nat) (v : Int64) : upd2 g k i v k = vp_updL (g k) i v := by
  funext j
  simp [upd2, vp_updL]
theorem upd2_at {α : Type} (g : Nat → Nat → α) (k i : Nat) (v : α) (k' i' : Nat) : upd2 g k i v k' i' = if k' = k ∧ i' = i then v else g k' i' := by
  by_cases h : k' = k
  · by_cases h2 : i' = i <;> simp [upd2, h, h2]
  · simp [upd2, h]
def mset (σ : MS) (k i : Nat) (v : Int32) : MS := (upd2 σ.1 k i v, σ.2)
def msetL (σ : MS) (k i : Nat) (v : Int64) : MS := (σ.1, upd2 σ.2 k i v)
def m_val (ad : Nat → Nat) (σ : MS) (k : Nat) : Value := match tyX8 k with
  | .int => .int (σ.1 k 0)
  | .boolean => .int (σ.1 k 0)
  | .long => .long (σ.2 k 0)
  | _ => .ref (ad k)
def m_fs (ad : Nat → Nat) (σ : MS) : List Value := (List.range 43).map (m_val ad σ)
def m_len (k : Nat) : Nat := match k with
  | 1 => 960
  | 2 => 6
  | 5 => 160
  | 8 => 24
  | 9 => 24
  | 10 => 25
  | 27 => 50
  | 28 => 12
  | 29 => 12
  | 30 => 12
  | 31 => 12
  | 32 => 24
  | 33 => 24
  | 34 => 24
  | 35 => 25
  | 39 => 4
  | 40 => 4
  | 41 => 4
  | _ => 160
def m_cell (ct ad : Nat → Nat) (σ : MS) (k : Nat) : va_E := if k = 43 then .inr (0, m_fs ad σ) else if k = 28 ∨ k = 29 then .inl (ct 1, m_len k, .inr (.inl (σ.2 k))) else if k = 39 then .inl (ct 2, m_len k, .inl (σ.1 k)) else .inl (ct 0, m_len k, .inl (σ.1 k))
def m_keys : List Nat := [43, 1, 2, 5, 8, 9, 10, 27, 28, 29, 30, 31, 32, 33, 34, 35, 39, 40, 41, 42]
/-- the list holds the twin's cells, with the memory σ -/
def RM (ct ad : Nat → Nat) (σ : MS) (ws : va_W) : Prop := (∀ i ∈ m_keys, ∀ j ∈ m_keys, ad i = ad j → i = j) ∧ ∀ i ∈ m_keys, (ad i, m_cell ct ad σ i) ∈ ws
theorem RM.of {ct ad : Nat → Nat} {σ σ' : MS} {ws ws' : va_W} {k : Nat} (hk : k ∈ m_keys) (h : RM ct ad σ ws) (hU : U_ ws (ad k) (m_cell ct ad σ' k) ws') (he : ∀ i ∈ m_keys, i ≠ k → m_cell ct ad σ' i = m_cell ct ad σ i) : RM ct ad σ' ws' := by
  refine ⟨h.1, fun i hi => ?_⟩
  by_cases hik : i = k
  · subst hik
    exact hU.1
  · rw [he i hi hik]
    exact hU.2 _ _ (fun q => hik (h.1 i hi k hk q)) (h.2 i hi)
theorem m_fs_get {ad : Nat → Nat} {σ : MS} {k : Nat} (hk : k < 43) : (m_fs ad σ)[k]? = some (m_val ad σ k) := by
  unfold m_fs
  rw [List.getElem?_map, List.getElem?_range hk]
  rfl
theorem m_fs_len {ad : Nat → Nat} {σ : MS} : (m_fs ad σ).length = 43 := by simp [m_fs]
theorem m_val_ne {ad : Nat → Nat} {σ σ' : MS} {j : Nat} (h1 : σ'.1 j 0 = σ.1 j 0) (h2 : σ'.2 j 0 = σ.2 j 0) : m_val ad σ' j = m_val ad σ j := by
  unfold m_val
  rw [h1, h2]
theorem m_fs_set {ad : Nat → Nat} {σ σ' : MS} {k : Nat} {v : Value} (hk : k < 43) (hv : m_val ad σ' k = v) (h : ∀ j, j < 43 → j ≠ k → m_val ad σ' j = m_val ad σ j) : (m_fs ad σ).set k v = m_fs ad σ' := by
  apply List.ext_getElem?
  intro j
  by_cases hj : j < 43
  · rw [m_fs_get hj]
    by_cases hjk : j = k
    · subst hjk
      rw [List.getElem?_set_self (by rw [m_fs_len]; exact hj), hv]
    · rw [List.getElem?_set_ne (Ne.symm hjk), m_fs_get hj, h j hj hjk]
  · rw [List.getElem?_eq_none (by rw [List.length_set, m_fs_len]; omega), List.getElem?_eq_none (by rw [m_fs_len]; omega)]
theorem m_cell_ne {ct ad : Nat → Nat} {σ σ' : MS} {i : Nat} (hi : i ≠ 43) (h1 : σ'.1 i = σ.1 i) (h2 : σ'.2 i = σ.2 i) : m_cell ct ad σ' i = m_cell ct ad σ i := by
  unfold m_cell
  rw [if_neg hi, if_neg hi, h1, h2]
def m_arr (k : Nat) : Bool := match tyX8 k with
  | .int => false
  | .boolean => false
  | .long => false
  | _ => true
theorem m_keys_arr : ∀ k ∈ m_keys, k ≠ 43 → k < 43 ∧ m_arr k = true := by decide +kernel
theorem m_val_arr {ad : Nat → Nat} {σ : MS} {k : Nat} (h : m_arr k = true) : m_val ad σ k = .ref (ad k) := by
  unfold m_arr at h
  unfold m_val
  revert h
  cases tyX8 k <;> intro h <;> first | rfl | cases h
/-- a scalar int field is written -/
theorem RM.putI {ct ad : Nat → Nat} {σ : MS} {ws ws' : va_W} {k : Nat} {v : Int32} (hk : k < 43) (ht : tyX8 k = .int ∨ tyX8 k = .boolean) (h : RM ct ad σ ws) (hU : U_ ws (ad 43) (.inr (0, (m_fs ad σ).set k (.int v))) ws') : RM ct ad (mset σ k 0 v) ws' := by
  have hna : m_arr k = false := by unfold m_arr; rcases ht with e | e <;> rw [e]
  refine RM.of (k := 43) (by decide) h ?_ (fun i hi hik => ?_)
  · rw [m_fs_set (σ' := mset σ k 0 v) hk ?_ ?_] at hU
    · simpa [m_cell] using hU
    · unfold m_val
      rcases ht with e | e <;> rw [e] <;> simp [mset, upd2]
    · intro j hj hjk
      refine m_val_ne ?_ rfl
      show upd2 σ.1 k 0 v j 0 = _
      rw [upd2_ne _ _ _ hjk]
  · refine m_cell_ne hik ?_ rfl
    refine upd2_ne _ _ _ (fun e => ?_)
    subst e
    have := (m_keys_arr i hi hik).2
    rw [hna] at this
    cases this
theorem RM.putL {ct ad : Nat → Nat} {σ : MS} {ws ws' : va_W} {k : Nat} {v : Int64} (hk : k < 43) (ht : tyX8 k = .long) (h : RM ct ad σ ws) (hU : U_ ws (ad 43) (.inr (0, (m_fs ad σ).set k (.long v))) ws') : RM ct ad (msetL σ k 0 v) ws' := by
  have hna : m_arr k = false := by unfold m_arr; rw [ht]
  refine RM.of (k := 43) (by decide) h ?_ (fun i hi hik => ?_)
  · rw [m_fs_set (σ' := msetL σ k 0 v) hk ?_ ?_] at hU
    · simpa [m_cell] using hU
    · unfold m_val
      rw [ht]
      simp [msetL, upd2]
    · intro j hj hjk
      refine m_val_ne rfl ?_
      show upd2 σ.2 k 0 v j 0 = _
      rw [upd2_ne _ _ _ hjk]
  · refine m_cell_ne hik rfl ?_
    refine upd2_ne _ _ _ (fun e => ?_)
    subst e
    have := (m_keys_arr i hi hik).2
    rw [hna] at this
    cases this
/-- a place of an array is written -/
theorem RM.stA {ct ad : Nat → Nat} {σ σ' : MS} {ws ws' : va_W} {k : Nat} {e : va_E} (hk : k ∈ m_keys) (hk43 : k ≠ 43) (h : RM ct ad σ ws) (h1 : ∀ j, j ≠ k → σ'.1 j = σ.1 j) (h2 : ∀ j, j ≠ k → σ'.2 j = σ.2 j) (he : m_cell ct ad σ' k = e) (hU : U_ ws (ad k) e ws') : RM ct ad σ' ws' := by
  subst he
  refine RM.of hk h hU (fun i hi hik => ?_)
  by_cases h43 : i = 43
  · subst h43
    have hf : m_fs ad σ' = m_fs ad σ := by
      unfold m_fs
      apply List.map_congr_left
      intro j hj
      by_cases hjk : j = k
      · subst hjk
        have := (m_keys_arr j hk hk43).2
        rw [m_val_arr this, m_val_arr this]
      · exact m_val_ne (by rw [h1 j hjk]) (by rw [h2 j hjk])
    unfold m_cell
    rw [if_pos rfl, if_pos rfl, hf]
  · exact m_cell_ne h43 (h1 i hik) (h2 i hik)
theorem RM.stI {ct ad : Nat → Nat} {σ : MS} {ws ws' : va_W} {k i : Nat} {v : Int32} (hk : k ∈ m_keys) (hk43 : k ≠ 43) (hL : ¬ (k = 28 ∨ k = 29)) (hB : k ≠ 39) (h : RM ct ad σ ws) (hU : U_ ws (ad k) (.inl (ct 0, m_len k, .inl (upd (σ.1 k) i v))) ws') : RM ct ad (mset σ k i v) ws' :=
  RM.stA hk hk43 h (fun j hj => upd2_ne _ _ _ hj) (fun _ _ => rfl) (by simp only [m_cell, if_neg hk43, if_neg hL, if_neg hB, mset, upd2_eq]) hU
theorem RM.stZ {ct ad : Nat → Nat} {σ : MS} {ws ws' : va_W} {i : Nat} {v : Int32} (h : RM ct ad σ ws) (hU : U_ ws (ad 39) (.inl (ct 2, 4, .inl (upd (σ.1 39) i v))) ws') : RM ct ad (mset σ 39 i v) ws' :=
  RM.stA (k := 39) (by decide) (by decide) h (fun j hj => upd2_ne _ _ _ hj) (fun _ _ => rfl) (by simp [m_cell, mset, upd2_eq, m_len]) hU
theorem RM.stJ {ct ad : Nat → Nat} {σ : MS} {ws ws' : va_W} {k i : Nat} {v : Int64} (hL : k = 28 ∨ k = 29) (h : RM ct ad σ ws) (hU : U_ ws (ad k) (.inl (ct 1, 12, .inr (.inl (vp_updL (σ.2 k) i v)))) ws') : RM ct ad (msetL σ k i v) ws' := by
  refine RM.stA (k := k) ?_ ?_ h (fun _ _ => rfl) (fun j hj => upd2_ne _ _ _ hj) ?_ hU
  · rcases hL with rfl | rfl <;> decide
  · rcases hL with rfl | rfl <;> decide
  · rcases hL with rfl | rfl <;> simp [m_cell, msetL, upd2_eqL, m_len]
theorem RM.arr {ct ad : Nat → Nat} {σ : MS} {ws : va_W} {k : Nat} (hk : k ∈ m_keys) (hk43 : k ≠ 43) (hL : ¬ (k = 28 ∨ k = 29)) (hB : k ≠ 39) (h : RM ct ad σ ws) : (ad k, Sum.inl (ct 0, m_len k, .inl (σ.1 k))) ∈ ws := by
  have := h.2 k hk
  simpa only [m_cell, if_neg hk43, if_neg hL, if_neg hB] using this
theorem RM.obj {ct ad : Nat → Nat} {σ : MS} {ws : va_W} (h : RM ct ad σ ws) : (ad 43, Sum.inr (0, m_fs ad σ)) ∈ ws := by
  have := h.2 43 (by decide)
  simpa only [m_cell, if_true] using this
