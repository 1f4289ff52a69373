set_option maxRecDepth 100000
/-- words that are not of the one list: they ride in KT -/
def xwords : List Cond := [Cond.declares ({ cls := "java/lang/Throwable", name := "<init>", desc := "()V" } : MethodName), Cond.declares ({ cls := "java/lang/Throwable", name := "<init>", desc := "(Ljava/lang/String;)V" } : MethodName), Cond.declares ({ cls := "java/lang/Throwable", name := "fillInStackTrace", desc := "()Ljava/lang/Throwable;" } : MethodName), Cond.declares ({ cls := "java/lang/Exception", name := "<init>", desc := "()V" } : MethodName), Cond.declares ({ cls := "java/lang/Exception", name := "<init>", desc := "(Ljava/lang/String;)V" } : MethodName), Cond.castable "java/lang/NegativeArraySizeException" "java/lang/NegativeArraySizeException", Cond.castable "java/lang/NullPointerException" "java/lang/NullPointerException", Cond.castable "java/lang/ArrayIndexOutOfBoundsException" "java/lang/ArrayIndexOutOfBoundsException", Cond.castable "java/lang/ArrayIndexOutOfBoundsException" "java/lang/IndexOutOfBoundsException", Cond.castable "java/lang/ClassCastException" "java/lang/ClassCastException", Cond.declares ({ cls := "java/lang/RuntimeException", name := "<init>", desc := "()V" } : MethodName), Cond.declares ({ cls := "java/lang/RuntimeException", name := "<init>", desc := "(Ljava/lang/String;)V" } : MethodName), Cond.castable "java/lang/RuntimeException" "java/lang/Throwable", Cond.castable "java/lang/IndexOutOfBoundsException" "java/lang/IndexOutOfBoundsException", Cond.declares ({ cls := "java/lang/IndexOutOfBoundsException", name := "<init>", desc := "()V" } : MethodName), Cond.declares ({ cls := "java/lang/IndexOutOfBoundsException", name := "<init>", desc := "(Ljava/lang/String;)V" } : MethodName), Cond.methodLinkNest "RoadsNotGoneBy" (332 : Nat) ({ cls := "RoadsNotGoneBy$Sheet", name := "<init>", desc := "()V" } : MethodName) "RoadsNotGoneBy", Cond.fieldLinkNest "RoadsNotGoneBy" (487 : Nat) "RoadsNotGoneBy$Sheet" "row" "Ljava/lang/Object;" "RoadsNotGoneBy", Cond.castable "RoadsNotGoneBy$Faulty" "RoadsNotGoneBy$Faulty", Cond.castable "RoadsNotGoneBy$Engineer" "RoadsNotGoneBy$Life", Cond.castable "RoadsNotGoneBy$Clergyman" "RoadsNotGoneBy$Life", Cond.castable "RoadsNotGoneBy$Girl" "RoadsNotGoneBy$Engineer", Cond.castable "RoadsNotGoneBy$Girl" "RoadsNotGoneBy$Life", Cond.castable "RoadsNotGoneBy$Bishop" "RoadsNotGoneBy$Clergyman", Cond.castable "RoadsNotGoneBy$Bishop" "RoadsNotGoneBy$Life", Cond.castable "RoadsNotGoneBy$Woman" "RoadsNotGoneBy$Life", Cond.declares ({ cls := "RoadsNotGoneBy$Node", name := "worth", desc := "()I" } : MethodName), Cond.methodLinkNest "RoadsNotGoneBy$Turned" (1 : Nat) ({ cls := "RoadsNotGoneBy$Node", name := "<init>", desc := "()V" } : MethodName) "RoadsNotGoneBy", Cond.castable "RoadsNotGoneBy$Turned" "RoadsNotGoneBy$Node", Cond.methodLinkNest "RoadsNotGoneBy$Number" (1 : Nat) ({ cls := "RoadsNotGoneBy$Node", name := "<init>", desc := "()V" } : MethodName) "RoadsNotGoneBy", Cond.castable "RoadsNotGoneBy$Number" "RoadsNotGoneBy$Node", Cond.methodLinkNest "RoadsNotGoneBy$Name" (7 : Nat) ({ cls := "RoadsNotGoneBy$Node", name := "<init>", desc := "()V" } : MethodName) "RoadsNotGoneBy", Cond.fieldLinkNest "RoadsNotGoneBy$Name" (17 : Nat) "RoadsNotGoneBy" "folk" "[LRoadsNotGoneBy$Life;" "RoadsNotGoneBy", Cond.fieldLinkNest "RoadsNotGoneBy$Name" (37 : Nat) "RoadsNotGoneBy" "year" "I" "RoadsNotGoneBy", Cond.fieldLinkNest "RoadsNotGoneBy$Name" (23 : Nat) "RoadsNotGoneBy" "forOne" "I" "RoadsNotGoneBy", Cond.fieldLinkNest "RoadsNotGoneBy$Name" (31 : Nat) "RoadsNotGoneBy" "forJar" "I" "RoadsNotGoneBy", Cond.castable "RoadsNotGoneBy$Name" "RoadsNotGoneBy$Node", Cond.methodLinkNest "RoadsNotGoneBy$Two" (1 : Nat) ({ cls := "RoadsNotGoneBy$Node", name := "<init>", desc := "()V" } : MethodName) "RoadsNotGoneBy", Cond.castable "RoadsNotGoneBy$Two" "RoadsNotGoneBy$Node", Cond.arrayOver (FieldType.object "RoadsNotGoneBy$Node"), Cond.arrayOver (FieldType.object "RoadsNotGoneBy$Life"), Cond.arrayOver (FieldType.array (FieldType.object "RoadsNotGoneBy$Node")), Cond.arrayOver (FieldType.object "java/lang/String"), Cond.arrayOver (FieldType.array FieldType.int), Cond.arrayOver (FieldType.object "RoadsNotGoneBy$Sheet")]
def KTx (KT : (Nat → Prop) → State → Heap → Prop) : Prop := KTok KT ∧ ∀ A u H, KT A u H → ∀ w ∈ xwords, va_Nw w u
theorem KTx.at {KT : (Nat → Prop) → State → Heap → Prop} {A : Nat → Prop} {u : State} {H : Heap} {w : Cond} (h : KTx KT) (hT : KT A u H) (i : Nat) (hi : xwords[i]? = some w) : va_Nw w u := h.2 A u H hT w (List.mem_of_getElem? hi)
abbrev x_env (σ : MS) (p : Nat) : Nat → Int32 := s_env (co σ) p (σ.1 13 0)
abbrev rmX5_worth : Room := { frames := 0, cells := 0, slots := 0, locals := 0 }
set_option maxHeartbeats 1000000 in
theorem kX5_worth {KT : (Nat → Prop) → State → Heap → Prop} (hK : KTx KT) (l : Launch) (dC : Nat → ClassId) (dI : Nat → Nat → Nat) (ct ad : Nat → Nat) (F : List (Nat × va_E)) (σ : MS) (a : Nat) (p : Nat) (v : Int32) (hO : Ok (co σ)) (hp1 : σ.1 12 0 = nI p) (hp : p < s_many (co σ)) (hm : ((a, Sum.inr (9, [.int v])) : Nat × va_E) ∈ F) : MC KT (dC, dI) vwCl (tysF ct) l yX5_worth cX5_worth 1 (some .int) rmX5_worth [.ref a] (RX ct ad F σ) (QI_ (dC, dI) vwCl (RX ct ad F) (fun (r : Int32) (σ' : MS) => v = r ∧ σ = σ')) := by
  refine MC.ofI (own := RX5) pl_X5 rfl (Nat.le_of_ble_eq_true rfl) ?_
  intro pp ee ss mm aa bb hh cc AA QQ G hT hnm RET
  refine v_loc (L' := [(0, .ref a)]) rfl ?_
  refine v_aload_n G 0 dX5_worth_0 rfl ?_
  refine w_get (C := RX5) (T := TX5) (N := 1) (ci := 9) (v := .int v) G 0 (by decide) in_X5 rfl q626 (fun _ h => h) (fun ws h => ⟨_, (h.2.2.2.1 _ hm).1, rfl⟩) dX5_worth_1 ?_
  refine RET _ _ _ _ _ _ rfl (Nat.le_of_ble_eq_true rfl) (Nat.le_of_ble_eq_true rfl) dX5_worth_4 (fun ws hws => ⟨_, hws, ?_⟩)
  clear RET G hT hnm
  exact ⟨rfl, rfl⟩
abbrev rmX6_worth : Room := { frames := 0, cells := 0, slots := 0, locals := 0 }
set_option maxHeartbeats 1000000 in
theorem kX6_worth {KT : (Nat → Prop) → State → Heap → Prop} (hK : KTx KT) (l : Launch) (dC : Nat → ClassId) (dI : Nat → Nat → Nat) (ct ad : Nat → Nat) (F : List (Nat × va_E)) (σ : MS) (a : Nat) (p : Nat) (w : Nat) (hw_ : w ≤ 5) (hO : Ok (co σ)) (hp1 : σ.1 12 0 = nI p) (hp : p < s_many (co σ)) (hm : ((a, Sum.inr (10, [.int (nI w), .ref (ad 0)])) : Nat × va_E) ∈ F) : MC KT (dC, dI) vwCl (tysF ct) l yX6_worth cX6_worth 1 (some .int) rmX6_worth [.ref a] (RX ct ad F σ) (QI_ (dC, dI) vwCl (RX ct ad F) (fun (r : Int32) (σ' : MS) => (x_env σ p w) = r ∧ σ = σ')) := by
  refine MC.ofI (own := RX6) pl_X6 rfl (Nat.le_of_ble_eq_true rfl) ?_
  intro pp ee ss mm aa bb hh cc AA QQ G hT hnm RET
  refine v_loc (L' := [(0, .ref a)]) rfl ?_
  obtain ⟨hm5, -⟩ := many5 hO.1
  refine v_aload_n G 0 dX6_worth_0 rfl ?_
  refine w_get (C := RX6) (T := TX6) (N := 2) (ci := 10) (v := .int (nI w)) G 0 (by decide) in_X6 rfl q636 (fun _ h => h) (fun ws h => ⟨_, (h.2.2.2.1 _ hm).1, rfl⟩) dX6_worth_1 ?_
  rcases (show w = 0 ∨ w = 1 ∨ w = 2 ∨ w = 3 ∨ w = 4 ∨ w = 5 by omega) with rfl | rfl | rfl | rfl | rfl | rfl
  · refine v_topr (x2 := .int 0) (congrArg Value.int (show nI 0 = 0 from rfl)) ?_
    refine v_tableIn (tgt := 40) G dX6_worth_4 (by decide) (by decide) rfl (by decide) ?_
    refine v_aload_n G 0 dX6_worth_40 rfl ?_
    refine w_get (C := RX6) (T := TX6) (N := 2) (ci := 10) (v := .ref (ad 0)) G 1 (by decide) in_X6 rfl q637 (fun _ h => h) (fun ws h => ⟨_, (h.2.2.2.1 _ hm).1, rfl⟩) dX6_worth_41 ?_
    refine w_getN (C := RX0) (T := TX0) (N := 34) (ci := 1) (v := .ref (ad 100)) G 0 (by decide) in_X0 rfl (hK.at hT 32 rfl) (fun _ h => h) (fun ws h => ⟨_, RX.obj h, rfl⟩) dX6_worth_44 ?_
    refine v_aload_n G 0 dX6_worth_47 rfl ?_
    refine w_get (C := RX6) (T := TX6) (N := 2) (ci := 10) (v := .ref (ad 0)) G 1 (by decide) in_X6 rfl q637 (fun _ h => h) (fun ws h => ⟨_, (h.2.2.2.1 _ hm).1, rfl⟩) dX6_worth_48 ?_
    refine w_getN (C := RX0) (T := TX0) (N := 34) (ci := 1) (v := .int (σ.1 12 0)) G 6 (by decide) in_X0 rfl (hK.at hT 34 rfl) (fun _ h => h) (fun ws h => ⟨_, RX.obj h, rfl⟩) dX6_worth_51 ?_
    refine x_fald G (p) hp1 (show p < n_ (σ.1 11 0) from (by exact (show p < s_many (co σ) by omega))) (by omega) dX6_worth_54 ?_
    refine x_lg (v := σ.1 10 (5 * p + 1)) G 1 p (by decide) (show p < n_ (σ.1 11 0) from (by exact (show p < s_many (co σ) by omega))) (kd_of hO (by omega)) (rfl) q193 dX6_worth_55 ?_
    refine RET _ _ _ _ _ _ rfl (Nat.le_of_ble_eq_true rfl) (Nat.le_of_ble_eq_true rfl) dX6_worth_58 (fun ws hws => ⟨_, hws, ?_⟩)
    clear RET G hT hnm
    exact ⟨rfl, rfl⟩
  · refine v_topr (x2 := .int 1) (congrArg Value.int (show nI 1 = 1 from rfl)) ?_
    refine v_tableIn (tgt := 59) G dX6_worth_4 (by decide) (by decide) rfl (by decide) ?_
    refine v_aload_n G 0 dX6_worth_59 rfl ?_
    refine w_get (C := RX6) (T := TX6) (N := 2) (ci := 10) (v := .ref (ad 0)) G 1 (by decide) in_X6 rfl q637 (fun _ h => h) (fun ws h => ⟨_, (h.2.2.2.1 _ hm).1, rfl⟩) dX6_worth_60 ?_
    refine w_getN (C := RX0) (T := TX0) (N := 34) (ci := 1) (v := .int (σ.1 13 0)) G 7 (by decide) in_X0 rfl (hK.at hT 35 rfl) (fun _ h => h) (fun ws h => ⟨_, RX.obj h, rfl⟩) dX6_worth_63 ?_
    refine RET _ _ _ _ _ _ rfl (Nat.le_of_ble_eq_true rfl) (Nat.le_of_ble_eq_true rfl) dX6_worth_66 (fun ws hws => ⟨_, hws, ?_⟩)
    clear RET G hT hnm
    exact ⟨rfl, rfl⟩
  · refine v_topr (x2 := .int 2) (congrArg Value.int (show nI 2 = 2 from rfl)) ?_
    refine v_tableIn (tgt := 67) G dX6_worth_4 (by decide) (by decide) rfl (by decide) ?_
    refine v_aload_n G 0 dX6_worth_67 rfl ?_
    refine w_get (C := RX6) (T := TX6) (N := 2) (ci := 10) (v := .ref (ad 0)) G 1 (by decide) in_X6 rfl q637 (fun _ h => h) (fun ws h => ⟨_, (h.2.2.2.1 _ hm).1, rfl⟩) dX6_worth_68 ?_
    refine w_getN (C := RX0) (T := TX0) (N := 34) (ci := 1) (v := .ref (ad 100)) G 0 (by decide) in_X0 rfl (hK.at hT 32 rfl) (fun _ h => h) (fun ws h => ⟨_, RX.obj h, rfl⟩) dX6_worth_71 ?_
    refine v_aload_n G 0 dX6_worth_74 rfl ?_
    refine w_get (C := RX6) (T := TX6) (N := 2) (ci := 10) (v := .ref (ad 0)) G 1 (by decide) in_X6 rfl q637 (fun _ h => h) (fun ws h => ⟨_, (h.2.2.2.1 _ hm).1, rfl⟩) dX6_worth_75 ?_
    refine w_getN (C := RX0) (T := TX0) (N := 34) (ci := 1) (v := .int (σ.1 12 0)) G 6 (by decide) in_X0 rfl (hK.at hT 34 rfl) (fun _ h => h) (fun ws h => ⟨_, RX.obj h, rfl⟩) dX6_worth_78 ?_
    refine x_fald G (p) hp1 (show p < n_ (σ.1 11 0) from (by exact (show p < s_many (co σ) by omega))) (by omega) dX6_worth_81 ?_
    refine x_lg (v := σ.1 10 (5 * p)) G 0 p (by decide) (show p < n_ (σ.1 11 0) from (by exact (show p < s_many (co σ) by omega))) (kd_of hO (by omega)) (rfl) q182 dX6_worth_82 ?_
    refine RET _ _ _ _ _ _ rfl (Nat.le_of_ble_eq_true rfl) (Nat.le_of_ble_eq_true rfl) dX6_worth_85 (fun ws hws => ⟨_, hws, ?_⟩)
    clear RET G hT hnm
    exact ⟨rfl, rfl⟩
  · refine v_topr (x2 := .int 3) (congrArg Value.int (show nI 3 = 3 from rfl)) ?_
    refine v_tableIn (tgt := 86) G dX6_worth_4 (by decide) (by decide) rfl (by decide) ?_
    refine v_aload_n G 0 dX6_worth_86 rfl ?_
    refine w_get (C := RX6) (T := TX6) (N := 2) (ci := 10) (v := .ref (ad 0)) G 1 (by decide) in_X6 rfl q637 (fun _ h => h) (fun ws h => ⟨_, (h.2.2.2.1 _ hm).1, rfl⟩) dX6_worth_87 ?_
    refine w_getN (C := RX0) (T := TX0) (N := 34) (ci := 1) (v := .int (σ.1 7 0)) G 2 (by decide) in_X0 rfl (hK.at hT 33 rfl) (fun _ h => h) (fun ws h => ⟨_, RX.obj h, rfl⟩) dX6_worth_90 ?_
    refine RET _ _ _ _ _ _ rfl (Nat.le_of_ble_eq_true rfl) (Nat.le_of_ble_eq_true rfl) dX6_worth_93 (fun ws hws => ⟨_, hws, ?_⟩)
    clear RET G hT hnm
    exact ⟨rfl, rfl⟩
  · refine v_topr (x2 := .int 4) (congrArg Value.int (show nI 4 = 4 from rfl)) ?_
    refine v_tableIn (tgt := 94) G dX6_worth_4 (by decide) (by decide) rfl (by decide) ?_
    refine v_aload_n G 0 dX6_worth_94 rfl ?_
    refine w_get (C := RX6) (T := TX6) (N := 2) (ci := 10) (v := .ref (ad 0)) G 1 (by decide) in_X6 rfl q637 (fun _ h => h) (fun ws h => ⟨_, (h.2.2.2.1 _ hm).1, rfl⟩) dX6_worth_95 ?_
    refine w_getN (C := RX0) (T := TX0) (N := 34) (ci := 1) (v := .ref (ad 100)) G 0 (by decide) in_X0 rfl (hK.at hT 32 rfl) (fun _ h => h) (fun ws h => ⟨_, RX.obj h, rfl⟩) dX6_worth_98 ?_
    refine v_aload_n G 0 dX6_worth_101 rfl ?_
    refine w_get (C := RX6) (T := TX6) (N := 2) (ci := 10) (v := .ref (ad 0)) G 1 (by decide) in_X6 rfl q637 (fun _ h => h) (fun ws h => ⟨_, (h.2.2.2.1 _ hm).1, rfl⟩) dX6_worth_102 ?_
    refine w_getN (C := RX0) (T := TX0) (N := 34) (ci := 1) (v := .int (σ.1 12 0)) G 6 (by decide) in_X0 rfl (hK.at hT 34 rfl) (fun _ h => h) (fun ws h => ⟨_, RX.obj h, rfl⟩) dX6_worth_105 ?_
    refine x_fald G (p) hp1 (show p < n_ (σ.1 11 0) from (by exact (show p < s_many (co σ) by omega))) (by omega) dX6_worth_108 ?_
    refine x_lg (v := σ.1 10 (5 * p + 2)) G 2 p (by decide) (show p < n_ (σ.1 11 0) from (by exact (show p < s_many (co σ) by omega))) (kd_of hO (by omega)) (rfl) q197 dX6_worth_109 ?_
    refine RET _ _ _ _ _ _ rfl (Nat.le_of_ble_eq_true rfl) (Nat.le_of_ble_eq_true rfl) dX6_worth_112 (fun ws hws => ⟨_, hws, ?_⟩)
    clear RET G hT hnm
    exact ⟨rfl, rfl⟩
  · refine v_topr (x2 := .int 5) (congrArg Value.int (show nI 5 = 5 from rfl)) ?_
    refine v_tableOut (tgt := 113) G dX6_worth_4 (by decide) (by decide) ?_
    refine v_aload_n G 0 dX6_worth_113 rfl ?_
    refine w_get (C := RX6) (T := TX6) (N := 2) (ci := 10) (v := .ref (ad 0)) G 1 (by decide) in_X6 rfl q637 (fun _ h => h) (fun ws h => ⟨_, (h.2.2.2.1 _ hm).1, rfl⟩) dX6_worth_114 ?_
    refine w_getN (C := RX0) (T := TX0) (N := 34) (ci := 1) (v := .ref (ad 100)) G 0 (by decide) in_X0 rfl (hK.at hT 32 rfl) (fun _ h => h) (fun ws h => ⟨_, RX.obj h, rfl⟩) dX6_worth_117 ?_
    refine v_aload_n G 0 dX6_worth_120 rfl ?_
    refine w_get (C := RX6) (T := TX6) (N := 2) (ci := 10) (v := .ref (ad 0)) G 1 (by decide) in_X6 rfl q637 (fun _ h => h) (fun ws h => ⟨_, (h.2.2.2.1 _ hm).1, rfl⟩) dX6_worth_121 ?_
    refine w_getN (C := RX0) (T := TX0) (N := 34) (ci := 1) (v := .int (σ.1 12 0)) G 6 (by decide) in_X0 rfl (hK.at hT 34 rfl) (fun _ h => h) (fun ws h => ⟨_, RX.obj h, rfl⟩) dX6_worth_124 ?_
    refine x_fald G (p) hp1 (show p < n_ (σ.1 11 0) from (by exact (show p < s_many (co σ) by omega))) (by omega) dX6_worth_127 ?_
    refine x_lg (v := σ.1 10 (5 * p + 3)) G 3 p (by decide) (show p < n_ (σ.1 11 0) from (by exact (show p < s_many (co σ) by omega))) (kd_of hO (by omega)) (rfl) q202 dX6_worth_128 ?_
    refine RET _ _ _ _ _ _ rfl (Nat.le_of_ble_eq_true rfl) (Nat.le_of_ble_eq_true rfl) dX6_worth_131 (fun ws hws => ⟨_, hws, ?_⟩)
    clear RET G hT hnm
    exact ⟨rfl, rfl⟩
