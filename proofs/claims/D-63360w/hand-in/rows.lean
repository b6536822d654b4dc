section
-- ===== PART A: goes FIRST, ahead of the names: the tables' words, and 'selects' of the private methods out of them =====
/-- a private method of a class that the tables say can be made, by its rows of tables_1 -/
def lw_okq (q : MethodName × Nat) : Prop := (q.1.cls ≠ "java/lang/invoke/MethodHandle" ∧ q.1.cls ≠ "java/lang/invoke/VarHandle") ∧ Cond.instantiable q.1.cls q.2 ∈ tables_1 ∧ Cond.privateMethod q.1 ∈ tables_1 ∧ Cond.instanceMethod q.1 ∈ tables_1
set_option maxRecDepth 100000
theorem lw_t1 {w : Cond} (h : w ∈ tables_1_1) : w ∈ tables_1 := List.mem_append_left _ h
theorem lw_t2 {w : Cond} (h : w ∈ tables_1_2) : w ∈ tables_1 := List.mem_append_right _ h
theorem lw_p0 : lw_okq (⟨"CubeViews", "enter", "(III)V"⟩, 10) := ⟨⟨by decide +kernel, by decide +kernel⟩, lw_t1 (List.mem_of_getElem? (i := 4) rfl), lw_t1 (List.mem_of_getElem? (i := 51) rfl), lw_t1 (List.mem_of_getElem? (i := 52) rfl)⟩
theorem lw_p1 : lw_okq (⟨"CubeViews", "group", "(II)I"⟩, 10) := ⟨⟨by decide +kernel, by decide +kernel⟩, lw_t1 (List.mem_of_getElem? (i := 4) rfl), lw_t1 (List.mem_of_getElem? (i := 55) rfl), lw_t1 (List.mem_of_getElem? (i := 56) rfl)⟩
theorem lw_p2 : lw_okq (⟨"CubeViews", "region", "(I)I"⟩, 10) := ⟨⟨by decide +kernel, by decide +kernel⟩, lw_t1 (List.mem_of_getElem? (i := 4) rfl), lw_t1 (List.mem_of_getElem? (i := 59) rfl), lw_t1 (List.mem_of_getElem? (i := 60) rfl)⟩
theorem lw_p3 : lw_okq (⟨"CubeViews", "kind", "(I)I"⟩, 10) := ⟨⟨by decide +kernel, by decide +kernel⟩, lw_t1 (List.mem_of_getElem? (i := 4) rfl), lw_t1 (List.mem_of_getElem? (i := 63) rfl), lw_t1 (List.mem_of_getElem? (i := 64) rfl)⟩
theorem lw_p4 : lw_okq (⟨"CubeViews", "month", "(I)I"⟩, 10) := ⟨⟨by decide +kernel, by decide +kernel⟩, lw_t1 (List.mem_of_getElem? (i := 4) rfl), lw_t1 (List.mem_of_getElem? (i := 67) rfl), lw_t1 (List.mem_of_getElem? (i := 68) rfl)⟩
theorem lw_p5 : lw_okq (⟨"CubeViews", "badFilter", "(I)Z"⟩, 10) := ⟨⟨by decide +kernel, by decide +kernel⟩, lw_t1 (List.mem_of_getElem? (i := 4) rfl), lw_t1 (List.mem_of_getElem? (i := 88) rfl), lw_t1 (List.mem_of_getElem? (i := 89) rfl)⟩
theorem lw_p6 : lw_okq (⟨"CubeViews", "gather", "(II)V"⟩, 10) := ⟨⟨by decide +kernel, by decide +kernel⟩, lw_t1 (List.mem_of_getElem? (i := 4) rfl), lw_t1 (List.mem_of_getElem? (i := 92) rfl), lw_t1 (List.mem_of_getElem? (i := 93) rfl)⟩
theorem lw_p7 : lw_okq (⟨"CubeViews", "cuts", "(I)I"⟩, 10) := ⟨⟨by decide +kernel, by decide +kernel⟩, lw_t1 (List.mem_of_getElem? (i := 4) rfl), lw_t1 (List.mem_of_getElem? (i := 96) rfl), lw_t1 (List.mem_of_getElem? (i := 97) rfl)⟩
theorem lw_p8 : lw_okq (⟨"CubeViews", "smallest", "(I)I"⟩, 10) := ⟨⟨by decide +kernel, by decide +kernel⟩, lw_t1 (List.mem_of_getElem? (i := 4) rfl), lw_t1 (List.mem_of_getElem? (i := 100) rfl), lw_t1 (List.mem_of_getElem? (i := 101) rfl)⟩
theorem lw_p9 : lw_okq (⟨"CubeViews", "cells", "(I)I"⟩, 10) := ⟨⟨by decide +kernel, by decide +kernel⟩, lw_t1 (List.mem_of_getElem? (i := 4) rfl), lw_t1 (List.mem_of_getElem? (i := 104) rfl), lw_t1 (List.mem_of_getElem? (i := 105) rfl)⟩
theorem lw_p10 : lw_okq (⟨"CubeViews", "passes", "(III)Z"⟩, 10) := ⟨⟨by decide +kernel, by decide +kernel⟩, lw_t1 (List.mem_of_getElem? (i := 4) rfl), lw_t1 (List.mem_of_getElem? (i := 108) rfl), lw_t1 (List.mem_of_getElem? (i := 109) rfl)⟩
theorem lw_p11 : lw_okq (⟨"CubeViews", "note", "(III)V"⟩, 10) := ⟨⟨by decide +kernel, by decide +kernel⟩, lw_t1 (List.mem_of_getElem? (i := 4) rfl), lw_t1 (List.mem_of_getElem? (i := 112) rfl), lw_t1 (List.mem_of_getElem? (i := 113) rfl)⟩
theorem lw_p12 : lw_okq (⟨"CubeViews", "greatestAt", "(I)I"⟩, 10) := ⟨⟨by decide +kernel, by decide +kernel⟩, lw_t1 (List.mem_of_getElem? (i := 4) rfl), lw_t1 (List.mem_of_getElem? (i := 124) rfl), lw_t1 (List.mem_of_getElem? (i := 125) rfl)⟩
theorem lw_p13 : lw_okq (⟨"CubeViews", "badGrouping", "(I)Z"⟩, 10) := ⟨⟨by decide +kernel, by decide +kernel⟩, lw_t1 (List.mem_of_getElem? (i := 4) rfl), lw_t1 (List.mem_of_getElem? (i := 132) rfl), lw_t1 (List.mem_of_getElem? (i := 133) rfl)⟩
theorem lw_p14 : lw_okq (⟨"CubeViews", "top", "(II)I"⟩, 10) := ⟨⟨by decide +kernel, by decide +kernel⟩, lw_t1 (List.mem_of_getElem? (i := 4) rfl), lw_t1 (List.mem_of_getElem? (i := 140) rfl), lw_t1 (List.mem_of_getElem? (i := 141) rfl)⟩
theorem lw_p15 : lw_okq (⟨"CubeViews", "workWith", "(I)I"⟩, 10) := ⟨⟨by decide +kernel, by decide +kernel⟩, lw_t1 (List.mem_of_getElem? (i := 4) rfl), lw_t1 (List.mem_of_getElem? (i := 164) rfl), lw_t1 (List.mem_of_getElem? (i := 165) rfl)⟩
def lw_privs_1 : List (MethodName × Nat) := [(⟨"CubeViews", "enter", "(III)V"⟩, 10), (⟨"CubeViews", "group", "(II)I"⟩, 10), (⟨"CubeViews", "region", "(I)I"⟩, 10), (⟨"CubeViews", "kind", "(I)I"⟩, 10), (⟨"CubeViews", "month", "(I)I"⟩, 10), (⟨"CubeViews", "badFilter", "(I)Z"⟩, 10), (⟨"CubeViews", "gather", "(II)V"⟩, 10), (⟨"CubeViews", "cuts", "(I)I"⟩, 10), (⟨"CubeViews", "smallest", "(I)I"⟩, 10), (⟨"CubeViews", "cells", "(I)I"⟩, 10), (⟨"CubeViews", "passes", "(III)Z"⟩, 10), (⟨"CubeViews", "note", "(III)V"⟩, 10), (⟨"CubeViews", "greatestAt", "(I)I"⟩, 10), (⟨"CubeViews", "badGrouping", "(I)Z"⟩, 10), (⟨"CubeViews", "top", "(II)I"⟩, 10), (⟨"CubeViews", "workWith", "(I)I"⟩, 10)]
theorem lw_r1 : ∀ q ∈ lw_privs_1, lw_okq q := List.forall_mem_cons.mpr ⟨lw_p0, List.forall_mem_cons.mpr ⟨lw_p1, List.forall_mem_cons.mpr ⟨lw_p2, List.forall_mem_cons.mpr ⟨lw_p3, List.forall_mem_cons.mpr ⟨lw_p4, List.forall_mem_cons.mpr ⟨lw_p5, List.forall_mem_cons.mpr ⟨lw_p6, List.forall_mem_cons.mpr ⟨lw_p7, List.forall_mem_cons.mpr ⟨lw_p8, List.forall_mem_cons.mpr ⟨lw_p9, List.forall_mem_cons.mpr ⟨lw_p10, List.forall_mem_cons.mpr ⟨lw_p11, List.forall_mem_cons.mpr ⟨lw_p12, List.forall_mem_cons.mpr ⟨lw_p13, List.forall_mem_cons.mpr ⟨lw_p14, List.forall_mem_cons.mpr ⟨lw_p15, fun _ h => absurd h List.not_mem_nil⟩⟩⟩⟩⟩⟩⟩⟩⟩⟩⟩⟩⟩⟩⟩⟩
theorem lw_p16 : lw_okq (⟨"CubeViews", "fill", "(I)V"⟩, 10) := ⟨⟨by decide +kernel, by decide +kernel⟩, lw_t1 (List.mem_of_getElem? (i := 4) rfl), lw_t1 (List.mem_of_getElem? (i := 168) rfl), lw_t1 (List.mem_of_getElem? (i := 169) rfl)⟩
theorem lw_p17 : lw_okq (⟨"CubeViewsModel", "isAmount", "(I)Z"⟩, 5) := ⟨⟨by decide +kernel, by decide +kernel⟩, lw_t1 (List.mem_of_getElem? (i := 172) rfl), lw_t1 (List.mem_of_getElem? (i := 198) rfl), lw_t1 (List.mem_of_getElem? (i := 199) rfl)⟩
theorem lw_p18 : lw_okq (⟨"CubeViewsModel", "isFilter", "(I)Z"⟩, 5) := ⟨⟨by decide +kernel, by decide +kernel⟩, lw_t1 (List.mem_of_getElem? (i := 172) rfl), lw_t1 (List.mem_of_getElem? (i := 221) rfl), lw_t1 (List.mem_of_getElem? (i := 222) rfl)⟩
theorem lw_p19 : lw_okq (⟨"CubeViewsModel", "look", "(III)V"⟩, 5) := ⟨⟨by decide +kernel, by decide +kernel⟩, lw_t1 (List.mem_of_getElem? (i := 172) rfl), lw_t1 (List.mem_of_getElem? (i := 225) rfl), lw_t1 (List.mem_of_getElem? (i := 226) rfl)⟩
theorem lw_p20 : lw_okq (⟨"CubeViewsModel", "groupOf", "(II)I"⟩, 5) := ⟨⟨by decide +kernel, by decide +kernel⟩, lw_t1 (List.mem_of_getElem? (i := 172) rfl), lw_t1 (List.mem_of_getElem? (i := 229) rfl), lw_t1 (List.mem_of_getElem? (i := 230) rfl)⟩
theorem lw_p21 : lw_okq (⟨"CubeViewsModel", "has", "(II)Z"⟩, 5) := ⟨⟨by decide +kernel, by decide +kernel⟩, lw_t1 (List.mem_of_getElem? (i := 172) rfl), lw_t1 (List.mem_of_getElem? (i := 233) rfl), lw_t1 (List.mem_of_getElem? (i := 234) rfl)⟩
theorem lw_p22 : lw_okq (⟨"CubeViewsModel", "region", "(I)I"⟩, 5) := ⟨⟨by decide +kernel, by decide +kernel⟩, lw_t1 (List.mem_of_getElem? (i := 172) rfl), lw_t1 (List.mem_of_getElem? (i := 237) rfl), lw_t1 (List.mem_of_getElem? (i := 238) rfl)⟩
theorem lw_p23 : lw_okq (⟨"CubeViewsModel", "kind", "(I)I"⟩, 5) := ⟨⟨by decide +kernel, by decide +kernel⟩, lw_t1 (List.mem_of_getElem? (i := 172) rfl), lw_t2 (List.mem_of_getElem? (i := 1) rfl), lw_t2 (List.mem_of_getElem? (i := 2) rfl)⟩
theorem lw_p24 : lw_okq (⟨"CubeViewsModel", "month", "(I)I"⟩, 5) := ⟨⟨by decide +kernel, by decide +kernel⟩, lw_t1 (List.mem_of_getElem? (i := 172) rfl), lw_t2 (List.mem_of_getElem? (i := 5) rfl), lw_t2 (List.mem_of_getElem? (i := 6) rfl)⟩
theorem lw_p25 : lw_okq (⟨"CubeViewsModel", "passes", "(II)Z"⟩, 5) := ⟨⟨by decide +kernel, by decide +kernel⟩, lw_t1 (List.mem_of_getElem? (i := 172) rfl), lw_t2 (List.mem_of_getElem? (i := 9) rfl), lw_t2 (List.mem_of_getElem? (i := 10) rfl)⟩
theorem lw_p26 : lw_okq (⟨"CubeViewsModel", "isGrouping", "(I)Z"⟩, 5) := ⟨⟨by decide +kernel, by decide +kernel⟩, lw_t1 (List.mem_of_getElem? (i := 172) rfl), lw_t2 (List.mem_of_getElem? (i := 25) rfl), lw_t2 (List.mem_of_getElem? (i := 26) rfl)⟩
def lw_privs_2 : List (MethodName × Nat) := [(⟨"CubeViews", "fill", "(I)V"⟩, 10), (⟨"CubeViewsModel", "isAmount", "(I)Z"⟩, 5), (⟨"CubeViewsModel", "isFilter", "(I)Z"⟩, 5), (⟨"CubeViewsModel", "look", "(III)V"⟩, 5), (⟨"CubeViewsModel", "groupOf", "(II)I"⟩, 5), (⟨"CubeViewsModel", "has", "(II)Z"⟩, 5), (⟨"CubeViewsModel", "region", "(I)I"⟩, 5), (⟨"CubeViewsModel", "kind", "(I)I"⟩, 5), (⟨"CubeViewsModel", "month", "(I)I"⟩, 5), (⟨"CubeViewsModel", "passes", "(II)Z"⟩, 5), (⟨"CubeViewsModel", "isGrouping", "(I)Z"⟩, 5)]
theorem lw_r2 : ∀ q ∈ lw_privs_2, lw_okq q := List.forall_mem_cons.mpr ⟨lw_p16, List.forall_mem_cons.mpr ⟨lw_p17, List.forall_mem_cons.mpr ⟨lw_p18, List.forall_mem_cons.mpr ⟨lw_p19, List.forall_mem_cons.mpr ⟨lw_p20, List.forall_mem_cons.mpr ⟨lw_p21, List.forall_mem_cons.mpr ⟨lw_p22, List.forall_mem_cons.mpr ⟨lw_p23, List.forall_mem_cons.mpr ⟨lw_p24, List.forall_mem_cons.mpr ⟨lw_p25, List.forall_mem_cons.mpr ⟨lw_p26, fun _ h => absurd h List.not_mem_nil⟩⟩⟩⟩⟩⟩⟩⟩⟩⟩⟩
def lw_privs : List (MethodName × Nat) := lw_privs_1 ++ (lw_privs_2)
def lw_tbl : List Cond := k2_sels lw_privs ++ tables_1
theorem lw_privs_ok : ∀ q ∈ lw_privs, lw_okq q := by
  show ∀ q ∈ lw_privs_1 ++ (lw_privs_2), lw_okq q
  exact List.forall_mem_append.mpr ⟨lw_r1, lw_r2⟩
-- ===== ONE list of words for every method: the tables' words that hold all through a run =====
def lw_all : List Cond := lw_tbl.filter goodWord
/-- a word of the tables by its place: claim/WORDS.tsv -/
theorem lw_w {w : Cond} (i : Nat) (h : lw_tbl[i]? = some w) (g : goodWord w = true) : w ∈ lw_all := List.mem_filter.mpr ⟨List.mem_of_getElem? h, g⟩
theorem lw_all_tbl {w : Cond} (h : w ∈ lw_all) : w ∈ lw_tbl := (List.mem_filter.mp h).1
theorem lw_self : GoodIn lw_all lw_all := fun w h => ⟨h, good_of_word (List.mem_filter.mp h).2⟩
/-- a class's field words, by their places -/
theorem lw_in (ws : List Cond) (ps : List Nat) (hp : ws = ps.filterMap (fun i => lw_tbl[i]?)) (hg : ws.all goodWord = true) : ∀ w ∈ ws, w ∈ lw_all := by
  intro w h
  have h1 := List.all_eq_true.mp hg w h
  rw [hp] at h
  obtain ⟨i, -, hi⟩ := List.mem_filterMap.mp h
  exact lw_w i hi h1
/-- the words of a contract for the method y with code b, L locals, answer r -/
abbrev ws_ (y : MethodName) (b : ByteArray) (L : Nat) (r : Option FieldType) : List Cond := Cond.code y b L r :: lw_all
theorem lw_meth {y : MethodName} {b : ByteArray} {L : Nat} {r : Option FieldType} (h : Cond.code y b L r ∈ lw_all) : GoodIn lw_all (ws_ y b L r) := by
  intro w hw
  rcases List.mem_cons.mp hw with e | e
  · rw [e]
    exact lw_self _ h
  · exact lw_self _ e
theorem lw_app {a c : List Cond} (ha : ∀ w ∈ a, w ∈ lw_all) (hc : GoodIn lw_all c) : GoodIn lw_all (a ++ c) := by
  intro w hw
  rcases List.mem_append.mp hw with e | e
  · exact lw_self w (ha w e)
  · exact hc w e
/-- what a call through an object asks: cwV n hts (lw_V ..) -/
theorem lw_V {own : String} {idx : Nat} {C : String} {y : MethodName} {b : ByteArray} {L : Nat} {r : Option FieldType} (h1 : Cond.methodLink own idx y ∈ lw_all) (h2 : Cond.instanceMethod y ∈ lw_all) (h3 : Cond.selects C y y ∈ lw_all) (h4 : Cond.initialized C ∈ lw_all) (h5 : Cond.code y b L r ∈ lw_all) : GoodIn lw_all (wsV own idx C y (ws_ y b L r)) := by
  refine lw_app ?_ (lw_meth h5)
  intro w hw
  simp only [List.mem_cons, List.not_mem_nil, or_false] at hw
  rcases hw with e | e | e | e
  · rw [e]; exact h1
  · rw [e]; exact h2
  · rw [e]; exact h3
  · rw [e]; exact h4
/-- what a static call asks: va_cwS n hts (lw_S ..) -/
theorem lw_S {own : String} {idx : Nat} {y : MethodName} {b : ByteArray} {L : Nat} {r : Option FieldType} (h1 : Cond.methodLink own idx y ∈ lw_all) (h2 : Cond.static y ∈ lw_all) (h3 : Cond.initialized y.cls ∈ lw_all) (h4 : Cond.code y b L r ∈ lw_all) : GoodIn lw_all (va_wsS own idx y (ws_ y b L r)) := by
  refine lw_app ?_ (lw_meth h4)
  intro w hw
  simp only [List.mem_cons, List.not_mem_nil, or_false] at hw
  rcases hw with e | e | e
  · rw [e]; exact h1
  · rw [e]; exact h2
  · rw [e]; exact h3
/-- the words of a contract for a method WITH HANDLERS (hh: its table) -/
abbrev wsW_ (y : MethodName) (b : ByteArray) (L : Nat) (r : Option FieldType) (hh : List (Nat × Nat × Nat × Nat)) : List Cond := Cond.codeWith y b L r hh :: lw_all
theorem lw_methW {y : MethodName} {b : ByteArray} {L : Nat} {r : Option FieldType} {hh : List (Nat × Nat × Nat × Nat)} (h : Cond.codeWith y b L r hh ∈ lw_all) : GoodIn lw_all (wsW_ y b L r hh) := by
  intro w hw
  rcases List.mem_cons.mp hw with e | e
  · rw [e]
    exact lw_self _ h
  · exact lw_self _ e
/-- any list of words by their places (lw_in), good -/
theorem lw_good {ws : List Cond} (h : ∀ w ∈ ws, w ∈ lw_all) : GoodIn lw_all ws := fun w hw => lw_self w (h w hw)
/-- what a call of a method with handlers asks: vx_cwVW n hts (lw_VW ..), vx_cwSW n hts (lw_SW ..) -/
theorem lw_VW {own : String} {idx : Nat} {C : String} {y : MethodName} {b : ByteArray} {L : Nat} {r : Option FieldType} {hh : List (Nat × Nat × Nat × Nat)} (h1 : Cond.methodLink own idx y ∈ lw_all) (h2 : Cond.instanceMethod y ∈ lw_all) (h3 : Cond.selects C y y ∈ lw_all) (h4 : Cond.initialized C ∈ lw_all) (h5 : Cond.codeWith y b L r hh ∈ lw_all) : GoodIn lw_all (wsV own idx C y (wsW_ y b L r hh)) := by
  refine lw_app ?_ (lw_methW h5)
  intro w hw
  simp only [List.mem_cons, List.not_mem_nil, or_false] at hw
  rcases hw with e | e | e | e
  · rw [e]; exact h1
  · rw [e]; exact h2
  · rw [e]; exact h3
  · rw [e]; exact h4
theorem lw_SW {own : String} {idx : Nat} {y : MethodName} {b : ByteArray} {L : Nat} {r : Option FieldType} {hh : List (Nat × Nat × Nat × Nat)} (h1 : Cond.methodLink own idx y ∈ lw_all) (h2 : Cond.static y ∈ lw_all) (h3 : Cond.initialized y.cls ∈ lw_all) (h4 : Cond.codeWith y b L r hh ∈ lw_all) : GoodIn lw_all (va_wsS own idx y (wsW_ y b L r hh)) := by
  refine lw_app ?_ (lw_methW h4)
  intro w hw
  simp only [List.mem_cons, List.not_mem_nil, or_false] at hw
  rcases hw with e | e | e
  · rw [e]; exact h1
  · rw [e]; exact h2
  · rw [e]; exact h3
/-- a word by its place in its run of the tables -/
theorem lw_at {r : List Cond} (hr : ∀ w ∈ r, w ∈ lw_tbl) {w : Cond} (i : Nat) (h : r[i]? = some w) : w ∈ lw_tbl := hr w (List.mem_of_getElem? h)
theorem lw_g {w : Cond} (h : w ∈ lw_tbl) (g : goodWord w = true) : w ∈ lw_all := List.mem_filter.mpr ⟨h, g⟩
theorem lw_ms : ∀ w ∈ k2_sels lw_privs, w ∈ lw_tbl := fun w h => show w ∈ k2_sels lw_privs ++ tables_1 from List.mem_append_left _ h
theorem lw_m1 : ∀ w ∈ tables_1_1, w ∈ lw_tbl := fun w h => show w ∈ k2_sels lw_privs ++ tables_1 from List.mem_append_right (k2_sels lw_privs) (show w ∈ tables_1 from List.mem_append_left _ h)
theorem lw_m2 : ∀ w ∈ tables_1_2, w ∈ lw_tbl := fun w h => show w ∈ k2_sels lw_privs ++ tables_1 from List.mem_append_right (k2_sels lw_privs) (show w ∈ tables_1 from List.mem_append_right _ h)
theorem qs0 : (Cond.selects "CubeViews" ⟨"CubeViews", "enter", "(III)V"⟩ ⟨"CubeViews", "enter", "(III)V"⟩) ∈ lw_all := lw_g (lw_at lw_ms 0 rfl) rfl
theorem qs1 : (Cond.selects "CubeViews" ⟨"CubeViews", "group", "(II)I"⟩ ⟨"CubeViews", "group", "(II)I"⟩) ∈ lw_all := lw_g (lw_at lw_ms 1 rfl) rfl
theorem qs2 : (Cond.selects "CubeViews" ⟨"CubeViews", "region", "(I)I"⟩ ⟨"CubeViews", "region", "(I)I"⟩) ∈ lw_all := lw_g (lw_at lw_ms 2 rfl) rfl
theorem qs3 : (Cond.selects "CubeViews" ⟨"CubeViews", "kind", "(I)I"⟩ ⟨"CubeViews", "kind", "(I)I"⟩) ∈ lw_all := lw_g (lw_at lw_ms 3 rfl) rfl
theorem qs4 : (Cond.selects "CubeViews" ⟨"CubeViews", "month", "(I)I"⟩ ⟨"CubeViews", "month", "(I)I"⟩) ∈ lw_all := lw_g (lw_at lw_ms 4 rfl) rfl
theorem qs5 : (Cond.selects "CubeViews" ⟨"CubeViews", "badFilter", "(I)Z"⟩ ⟨"CubeViews", "badFilter", "(I)Z"⟩) ∈ lw_all := lw_g (lw_at lw_ms 5 rfl) rfl
theorem qs6 : (Cond.selects "CubeViews" ⟨"CubeViews", "gather", "(II)V"⟩ ⟨"CubeViews", "gather", "(II)V"⟩) ∈ lw_all := lw_g (lw_at lw_ms 6 rfl) rfl
theorem qs7 : (Cond.selects "CubeViews" ⟨"CubeViews", "cuts", "(I)I"⟩ ⟨"CubeViews", "cuts", "(I)I"⟩) ∈ lw_all := lw_g (lw_at lw_ms 7 rfl) rfl
theorem qs8 : (Cond.selects "CubeViews" ⟨"CubeViews", "smallest", "(I)I"⟩ ⟨"CubeViews", "smallest", "(I)I"⟩) ∈ lw_all := lw_g (lw_at lw_ms 8 rfl) rfl
theorem qs9 : (Cond.selects "CubeViews" ⟨"CubeViews", "cells", "(I)I"⟩ ⟨"CubeViews", "cells", "(I)I"⟩) ∈ lw_all := lw_g (lw_at lw_ms 9 rfl) rfl
theorem qs10 : (Cond.selects "CubeViews" ⟨"CubeViews", "passes", "(III)Z"⟩ ⟨"CubeViews", "passes", "(III)Z"⟩) ∈ lw_all := lw_g (lw_at lw_ms 10 rfl) rfl
theorem qs11 : (Cond.selects "CubeViews" ⟨"CubeViews", "note", "(III)V"⟩ ⟨"CubeViews", "note", "(III)V"⟩) ∈ lw_all := lw_g (lw_at lw_ms 11 rfl) rfl
theorem qs12 : (Cond.selects "CubeViews" ⟨"CubeViews", "greatestAt", "(I)I"⟩ ⟨"CubeViews", "greatestAt", "(I)I"⟩) ∈ lw_all := lw_g (lw_at lw_ms 12 rfl) rfl
theorem qs13 : (Cond.selects "CubeViews" ⟨"CubeViews", "badGrouping", "(I)Z"⟩ ⟨"CubeViews", "badGrouping", "(I)Z"⟩) ∈ lw_all := lw_g (lw_at lw_ms 13 rfl) rfl
theorem qs14 : (Cond.selects "CubeViews" ⟨"CubeViews", "top", "(II)I"⟩ ⟨"CubeViews", "top", "(II)I"⟩) ∈ lw_all := lw_g (lw_at lw_ms 14 rfl) rfl
theorem qs15 : (Cond.selects "CubeViews" ⟨"CubeViews", "workWith", "(I)I"⟩ ⟨"CubeViews", "workWith", "(I)I"⟩) ∈ lw_all := lw_g (lw_at lw_ms 15 rfl) rfl
theorem qs16 : (Cond.selects "CubeViews" ⟨"CubeViews", "fill", "(I)V"⟩ ⟨"CubeViews", "fill", "(I)V"⟩) ∈ lw_all := lw_g (lw_at lw_ms 16 rfl) rfl
theorem qs17 : (Cond.selects "CubeViewsModel" ⟨"CubeViewsModel", "isAmount", "(I)Z"⟩ ⟨"CubeViewsModel", "isAmount", "(I)Z"⟩) ∈ lw_all := lw_g (lw_at lw_ms 17 rfl) rfl
theorem qs18 : (Cond.selects "CubeViewsModel" ⟨"CubeViewsModel", "isFilter", "(I)Z"⟩ ⟨"CubeViewsModel", "isFilter", "(I)Z"⟩) ∈ lw_all := lw_g (lw_at lw_ms 18 rfl) rfl
theorem qs19 : (Cond.selects "CubeViewsModel" ⟨"CubeViewsModel", "look", "(III)V"⟩ ⟨"CubeViewsModel", "look", "(III)V"⟩) ∈ lw_all := lw_g (lw_at lw_ms 19 rfl) rfl
theorem qs20 : (Cond.selects "CubeViewsModel" ⟨"CubeViewsModel", "groupOf", "(II)I"⟩ ⟨"CubeViewsModel", "groupOf", "(II)I"⟩) ∈ lw_all := lw_g (lw_at lw_ms 20 rfl) rfl
theorem qs21 : (Cond.selects "CubeViewsModel" ⟨"CubeViewsModel", "has", "(II)Z"⟩ ⟨"CubeViewsModel", "has", "(II)Z"⟩) ∈ lw_all := lw_g (lw_at lw_ms 21 rfl) rfl
theorem qs22 : (Cond.selects "CubeViewsModel" ⟨"CubeViewsModel", "region", "(I)I"⟩ ⟨"CubeViewsModel", "region", "(I)I"⟩) ∈ lw_all := lw_g (lw_at lw_ms 22 rfl) rfl
theorem qs23 : (Cond.selects "CubeViewsModel" ⟨"CubeViewsModel", "kind", "(I)I"⟩ ⟨"CubeViewsModel", "kind", "(I)I"⟩) ∈ lw_all := lw_g (lw_at lw_ms 23 rfl) rfl
theorem qs24 : (Cond.selects "CubeViewsModel" ⟨"CubeViewsModel", "month", "(I)I"⟩ ⟨"CubeViewsModel", "month", "(I)I"⟩) ∈ lw_all := lw_g (lw_at lw_ms 24 rfl) rfl
theorem qs25 : (Cond.selects "CubeViewsModel" ⟨"CubeViewsModel", "passes", "(II)Z"⟩ ⟨"CubeViewsModel", "passes", "(II)Z"⟩) ∈ lw_all := lw_g (lw_at lw_ms 25 rfl) rfl
theorem qs26 : (Cond.selects "CubeViewsModel" ⟨"CubeViewsModel", "isGrouping", "(I)Z"⟩ ⟨"CubeViewsModel", "isGrouping", "(I)Z"⟩) ∈ lw_all := lw_g (lw_at lw_ms 26 rfl) rfl
end
section
set_option maxRecDepth 100000
/-! java/lang/Object -/
def RJ0 : String := "java/lang/Object"
abbrev cJ0_init : ByteArray := object_method_1_code
def yJ0_init : MethodName := ⟨RJ0, "<init>", "()V"⟩
theorem dJ0_init_0 : decode cJ0_init 0 = .ok (.return_, 1) := by decide +kernel
theorem q36 : (Jvm.Cond.instanceMethod ({ cls := "java/lang/Object", name := "<init>", desc := "()V" } : Jvm.MethodName)) ∈ lw_all := lw_g (lw_at lw_m1 9 rfl) rfl
theorem q37 : (Jvm.Cond.code ({ cls := "java/lang/Object", name := "<init>", desc := "()V" } : Jvm.MethodName) object_method_1_code (1 : Nat) (Option.none : Option Jvm.ClassFile.FieldType)) ∈ lw_all := lw_g (lw_at lw_m1 10 rfl) rfl
theorem q69 : (Jvm.Cond.arrayClass Jvm.ClassFile.FieldType.int) ∈ lw_all := lw_g (lw_at lw_m1 42 rfl) rfl
theorem q70 : (Jvm.Cond.arrayClass Jvm.ClassFile.FieldType.boolean) ∈ lw_all := lw_g (lw_at lw_m1 43 rfl) rfl
end
section
set_option maxRecDepth 100000
/-! CubeViews -/
def RX0 : String := "CubeViews"
def TX0 : u_T := fun k => match k with
  | 0 => ("CubeViews", "count", "I", false)
  | 1 => ("CubeViews", "placeOf", "[I", true)
  | 2 => ("CubeViews", "amountOf", "[I", true)
  | 3 => ("CubeViews", "firstAt", "[I", true)
  | 4 => ("CubeViews", "nextAt", "[I", true)
  | 5 => ("CubeViews", "kept", "[Z", true)
  | 6 => ("CubeViews", "cellCount", "[I", true)
  | 7 => ("CubeViews", "cellSum", "[I", true)
  | 8 => ("CubeViews", "groupCount", "[I", true)
  | _ => ("CubeViews", "groupSum", "[I", true)
def tyX0 : Nat → FieldType := fun k => match k with
  | 0 => .int
  | 1 => .array .int
  | 2 => .array .int
  | 3 => .array .int
  | 4 => .array .int
  | 5 => .array .boolean
  | 6 => .array .int
  | 7 => .array .int
  | 8 => .array .int
  | _ => .array .int
abbrev wsX00 : List Cond := u_ws RX0 TX0 10
theorem nmX0 : ∀ a, a < 10 → ∀ b, b < 10 → a ≠ b → (TX0 a).2.1 ≠ (TX0 b).2.1 := by decide +kernel
theorem tyX0_ok : ∀ k, k < 10 → parseFieldDescriptor (TX0 k).2.2.1 = some (tyX0 k) := by decide +kernel
abbrev cX0_init : ByteArray := prog_1_method_1_code
def yX0_init : MethodName := ⟨RX0, "<init>", "()V"⟩
abbrev cX0_add : ByteArray := prog_1_method_10_code
def yX0_add : MethodName := ⟨RX0, "add", "(II)I"⟩
abbrev cX0_enter : ByteArray := prog_1_method_7_code
def yX0_enter : MethodName := ⟨RX0, "enter", "(III)V"⟩
abbrev cX0_group : ByteArray := prog_1_method_5_code
def yX0_group : MethodName := ⟨RX0, "group", "(II)I"⟩
abbrev cX0_region : ByteArray := prog_1_method_2_code
def yX0_region : MethodName := ⟨RX0, "region", "(I)I"⟩
abbrev cX0_kind : ByteArray := prog_1_method_3_code
def yX0_kind : MethodName := ⟨RX0, "kind", "(I)I"⟩
abbrev cX0_month : ByteArray := prog_1_method_4_code
def yX0_month : MethodName := ⟨RX0, "month", "(I)I"⟩
abbrev cX0_remove : ByteArray := prog_1_method_11_code
def yX0_remove : MethodName := ⟨RX0, "remove", "()I"⟩
abbrev cX0_change : ByteArray := prog_1_method_12_code
def yX0_change : MethodName := ⟨RX0, "change", "(II)I"⟩
abbrev cX0_facts : ByteArray := prog_1_method_13_code
def yX0_facts : MethodName := ⟨RX0, "facts", "()I"⟩
abbrev cX0_count : ByteArray := prog_1_method_20_code
def yX0_count : MethodName := ⟨RX0, "count", "(I)I"⟩
abbrev cX0_badFilter : ByteArray := prog_1_method_14_code
def yX0_badFilter : MethodName := ⟨RX0, "badFilter", "(I)Z"⟩
abbrev cX0_gather : ByteArray := prog_1_method_19_code
def yX0_gather : MethodName := ⟨RX0, "gather", "(II)V"⟩
abbrev cX0_cuts : ByteArray := prog_1_method_15_code
def yX0_cuts : MethodName := ⟨RX0, "cuts", "(I)I"⟩
abbrev cX0_smallest : ByteArray := prog_1_method_17_code
def yX0_smallest : MethodName := ⟨RX0, "smallest", "(I)I"⟩
abbrev cX0_cells : ByteArray := prog_1_method_6_code
def yX0_cells : MethodName := ⟨RX0, "cells", "(I)I"⟩
abbrev cX0_passes : ByteArray := prog_1_method_16_code
def yX0_passes : MethodName := ⟨RX0, "passes", "(III)Z"⟩
abbrev cX0_note : ByteArray := prog_1_method_18_code
def yX0_note : MethodName := ⟨RX0, "note", "(III)V"⟩
abbrev cX0_sum : ByteArray := prog_1_method_21_code
def yX0_sum : MethodName := ⟨RX0, "sum", "(I)I"⟩
abbrev cX0_greatest : ByteArray := prog_1_method_22_code
def yX0_greatest : MethodName := ⟨RX0, "greatest", "(I)I"⟩
abbrev cX0_greatestAt : ByteArray := prog_1_method_23_code
def yX0_greatestAt : MethodName := ⟨RX0, "greatestAt", "(I)I"⟩
abbrev cX0_groups : ByteArray := prog_1_method_25_code
def yX0_groups : MethodName := ⟨RX0, "groups", "(II)I"⟩
abbrev cX0_badGrouping : ByteArray := prog_1_method_24_code
def yX0_badGrouping : MethodName := ⟨RX0, "badGrouping", "(I)Z"⟩
abbrev cX0_topSum : ByteArray := prog_1_method_27_code
def yX0_topSum : MethodName := ⟨RX0, "topSum", "(II)I"⟩
abbrev cX0_top : ByteArray := prog_1_method_26_code
def yX0_top : MethodName := ⟨RX0, "top", "(II)I"⟩
abbrev cX0_topGroup : ByteArray := prog_1_method_28_code
def yX0_topGroup : MethodName := ⟨RX0, "topGroup", "(II)I"⟩
abbrev cX0_quarter : ByteArray := prog_1_method_29_code
def yX0_quarter : MethodName := ⟨RX0, "quarter", "(II)I"⟩
abbrev cX0_growth : ByteArray := prog_1_method_30_code
def yX0_growth : MethodName := ⟨RX0, "growth", "(I)I"⟩
abbrev cX0_atLeast : ByteArray := prog_1_method_31_code
def yX0_atLeast : MethodName := ⟨RX0, "atLeast", "(II)I"⟩
abbrev cX0_plan : ByteArray := prog_1_method_32_code
def yX0_plan : MethodName := ⟨RX0, "plan", "(I)I"⟩
abbrev cX0_workWith : ByteArray := prog_1_method_9_code
def yX0_workWith : MethodName := ⟨RX0, "workWith", "(I)I"⟩
abbrev cX0_fill : ByteArray := prog_1_method_8_code
def yX0_fill : MethodName := ⟨RX0, "fill", "(I)V"⟩
theorem q28 : (Jvm.Cond.initialized "CubeViews") ∈ lw_all := lw_g (lw_at lw_m1 1 rfl) rfl
theorem q31 : (Jvm.Cond.instantiable "CubeViews" (10 : Nat)) ∈ lw_all := lw_g (lw_at lw_m1 4 rfl) rfl
theorem q33 : (Jvm.Cond.instanceMethod ({ cls := "CubeViews", name := "<init>", desc := "()V" } : Jvm.MethodName)) ∈ lw_all := lw_g (lw_at lw_m1 6 rfl) rfl
theorem q34 : (Jvm.Cond.code ({ cls := "CubeViews", name := "<init>", desc := "()V" } : Jvm.MethodName) prog_1_method_1_code (2 : Nat) (Option.none : Option Jvm.ClassFile.FieldType)) ∈ lw_all := lw_g (lw_at lw_m1 7 rfl) rfl
theorem q35 : (Jvm.Cond.methodLink "CubeViews" (1 : Nat) ({ cls := "java/lang/Object", name := "<init>", desc := "()V" } : Jvm.MethodName)) ∈ lw_all := lw_g (lw_at lw_m1 8 rfl) rfl
theorem q38 : (Jvm.Cond.fieldLink "CubeViews" (52 : Nat) "CubeViews" "count" "I") ∈ lw_all := lw_g (lw_at lw_m1 11 rfl) rfl
theorem q39 : (Jvm.Cond.fieldLink "CubeViews" (7 : Nat) "CubeViews" "placeOf" "[I") ∈ lw_all := lw_g (lw_at lw_m1 12 rfl) rfl
theorem q40 : (Jvm.Cond.fieldLink "CubeViews" (13 : Nat) "CubeViews" "amountOf" "[I") ∈ lw_all := lw_g (lw_at lw_m1 13 rfl) rfl
theorem q41 : (Jvm.Cond.fieldLink "CubeViews" (16 : Nat) "CubeViews" "firstAt" "[I") ∈ lw_all := lw_g (lw_at lw_m1 14 rfl) rfl
theorem q42 : (Jvm.Cond.fieldLink "CubeViews" (19 : Nat) "CubeViews" "nextAt" "[I") ∈ lw_all := lw_g (lw_at lw_m1 15 rfl) rfl
theorem q43 : (Jvm.Cond.fieldLink "CubeViews" (22 : Nat) "CubeViews" "kept" "[Z") ∈ lw_all := lw_g (lw_at lw_m1 16 rfl) rfl
theorem q44 : (Jvm.Cond.fieldLink "CubeViews" (26 : Nat) "CubeViews" "cellCount" "[I") ∈ lw_all := lw_g (lw_at lw_m1 17 rfl) rfl
theorem q45 : (Jvm.Cond.fieldLink "CubeViews" (29 : Nat) "CubeViews" "cellSum" "[I") ∈ lw_all := lw_g (lw_at lw_m1 18 rfl) rfl
theorem q46 : (Jvm.Cond.fieldLink "CubeViews" (32 : Nat) "CubeViews" "groupCount" "[I") ∈ lw_all := lw_g (lw_at lw_m1 19 rfl) rfl
theorem q47 : (Jvm.Cond.fieldLink "CubeViews" (35 : Nat) "CubeViews" "groupSum" "[I") ∈ lw_all := lw_g (lw_at lw_m1 20 rfl) rfl
theorem q48 : (Jvm.Cond.lays "CubeViews" "CubeViews" "count" "I") ∈ lw_all := lw_g (lw_at lw_m1 21 rfl) rfl
theorem q49 : (Jvm.Cond.soleField "CubeViews" "count") ∈ lw_all := lw_g (lw_at lw_m1 22 rfl) rfl
theorem q50 : (Jvm.Cond.laysFinal "CubeViews" "CubeViews" "placeOf" "[I") ∈ lw_all := lw_g (lw_at lw_m1 23 rfl) rfl
theorem q51 : (Jvm.Cond.soleField "CubeViews" "placeOf") ∈ lw_all := lw_g (lw_at lw_m1 24 rfl) rfl
theorem q52 : (Jvm.Cond.laysFinal "CubeViews" "CubeViews" "amountOf" "[I") ∈ lw_all := lw_g (lw_at lw_m1 25 rfl) rfl
theorem q53 : (Jvm.Cond.soleField "CubeViews" "amountOf") ∈ lw_all := lw_g (lw_at lw_m1 26 rfl) rfl
theorem q54 : (Jvm.Cond.laysFinal "CubeViews" "CubeViews" "firstAt" "[I") ∈ lw_all := lw_g (lw_at lw_m1 27 rfl) rfl
theorem q55 : (Jvm.Cond.soleField "CubeViews" "firstAt") ∈ lw_all := lw_g (lw_at lw_m1 28 rfl) rfl
theorem q56 : (Jvm.Cond.laysFinal "CubeViews" "CubeViews" "nextAt" "[I") ∈ lw_all := lw_g (lw_at lw_m1 29 rfl) rfl
theorem q57 : (Jvm.Cond.soleField "CubeViews" "nextAt") ∈ lw_all := lw_g (lw_at lw_m1 30 rfl) rfl
theorem q58 : (Jvm.Cond.laysFinal "CubeViews" "CubeViews" "kept" "[Z") ∈ lw_all := lw_g (lw_at lw_m1 31 rfl) rfl
theorem q59 : (Jvm.Cond.soleField "CubeViews" "kept") ∈ lw_all := lw_g (lw_at lw_m1 32 rfl) rfl
theorem q60 : (Jvm.Cond.laysFinal "CubeViews" "CubeViews" "cellCount" "[I") ∈ lw_all := lw_g (lw_at lw_m1 33 rfl) rfl
theorem q61 : (Jvm.Cond.soleField "CubeViews" "cellCount") ∈ lw_all := lw_g (lw_at lw_m1 34 rfl) rfl
theorem q62 : (Jvm.Cond.laysFinal "CubeViews" "CubeViews" "cellSum" "[I") ∈ lw_all := lw_g (lw_at lw_m1 35 rfl) rfl
theorem q63 : (Jvm.Cond.soleField "CubeViews" "cellSum") ∈ lw_all := lw_g (lw_at lw_m1 36 rfl) rfl
theorem q64 : (Jvm.Cond.laysFinal "CubeViews" "CubeViews" "groupCount" "[I") ∈ lw_all := lw_g (lw_at lw_m1 37 rfl) rfl
theorem q65 : (Jvm.Cond.soleField "CubeViews" "groupCount") ∈ lw_all := lw_g (lw_at lw_m1 38 rfl) rfl
theorem q66 : (Jvm.Cond.laysFinal "CubeViews" "CubeViews" "groupSum" "[I") ∈ lw_all := lw_g (lw_at lw_m1 39 rfl) rfl
theorem q67 : (Jvm.Cond.soleField "CubeViews" "groupSum") ∈ lw_all := lw_g (lw_at lw_m1 40 rfl) rfl
theorem q68 : (Jvm.Cond.superclass "CubeViews" "java/lang/Object") ∈ lw_all := lw_g (lw_at lw_m1 41 rfl) rfl
theorem q72 : (Jvm.Cond.instanceMethod ({ cls := "CubeViews", name := "add", desc := "(II)I" } : Jvm.MethodName)) ∈ lw_all := lw_g (lw_at lw_m1 45 rfl) rfl
theorem q73 : (Jvm.Cond.selects "CubeViews" ({ cls := "CubeViews", name := "add", desc := "(II)I" } : Jvm.MethodName) ({ cls := "CubeViews", name := "add", desc := "(II)I" } : Jvm.MethodName)) ∈ lw_all := lw_g (lw_at lw_m1 46 rfl) rfl
theorem q74 : (Jvm.Cond.code ({ cls := "CubeViews", name := "add", desc := "(II)I" } : Jvm.MethodName) prog_1_method_10_code (3 : Nat) (Option.some Jvm.ClassFile.FieldType.int)) ∈ lw_all := lw_g (lw_at lw_m1 47 rfl) rfl
theorem q75 : (Jvm.Cond.constant "CubeViews" (59 : Nat) (-1000000 : Int32)) ∈ lw_all := lw_g (lw_at lw_m1 48 rfl) rfl
theorem q76 : (Jvm.Cond.constant "CubeViews" (60 : Nat) (-2000000 : Int32)) ∈ lw_all := lw_g (lw_at lw_m1 49 rfl) rfl
theorem q77 : (Jvm.Cond.methodLink "CubeViews" (61 : Nat) ({ cls := "CubeViews", name := "enter", desc := "(III)V" } : Jvm.MethodName)) ∈ lw_all := lw_g (lw_at lw_m1 50 rfl) rfl
theorem q78 : (Jvm.Cond.privateMethod ({ cls := "CubeViews", name := "enter", desc := "(III)V" } : Jvm.MethodName)) ∈ lw_tbl := lw_at lw_m1 51 rfl
theorem q79 : (Jvm.Cond.instanceMethod ({ cls := "CubeViews", name := "enter", desc := "(III)V" } : Jvm.MethodName)) ∈ lw_all := lw_g (lw_at lw_m1 52 rfl) rfl
theorem q80 : (Jvm.Cond.code ({ cls := "CubeViews", name := "enter", desc := "(III)V" } : Jvm.MethodName) prog_1_method_7_code (6 : Nat) (Option.none : Option Jvm.ClassFile.FieldType)) ∈ lw_all := lw_g (lw_at lw_m1 53 rfl) rfl
theorem q81 : (Jvm.Cond.methodLink "CubeViews" (48 : Nat) ({ cls := "CubeViews", name := "group", desc := "(II)I" } : Jvm.MethodName)) ∈ lw_all := lw_g (lw_at lw_m1 54 rfl) rfl
theorem q82 : (Jvm.Cond.privateMethod ({ cls := "CubeViews", name := "group", desc := "(II)I" } : Jvm.MethodName)) ∈ lw_tbl := lw_at lw_m1 55 rfl
theorem q83 : (Jvm.Cond.instanceMethod ({ cls := "CubeViews", name := "group", desc := "(II)I" } : Jvm.MethodName)) ∈ lw_all := lw_g (lw_at lw_m1 56 rfl) rfl
theorem q84 : (Jvm.Cond.code ({ cls := "CubeViews", name := "group", desc := "(II)I" } : Jvm.MethodName) prog_1_method_5_code (6 : Nat) (Option.some Jvm.ClassFile.FieldType.int)) ∈ lw_all := lw_g (lw_at lw_m1 57 rfl) rfl
theorem q85 : (Jvm.Cond.methodLink "CubeViews" (38 : Nat) ({ cls := "CubeViews", name := "region", desc := "(I)I" } : Jvm.MethodName)) ∈ lw_all := lw_g (lw_at lw_m1 58 rfl) rfl
theorem q86 : (Jvm.Cond.privateMethod ({ cls := "CubeViews", name := "region", desc := "(I)I" } : Jvm.MethodName)) ∈ lw_tbl := lw_at lw_m1 59 rfl
theorem q87 : (Jvm.Cond.instanceMethod ({ cls := "CubeViews", name := "region", desc := "(I)I" } : Jvm.MethodName)) ∈ lw_all := lw_g (lw_at lw_m1 60 rfl) rfl
theorem q88 : (Jvm.Cond.code ({ cls := "CubeViews", name := "region", desc := "(I)I" } : Jvm.MethodName) prog_1_method_2_code (2 : Nat) (Option.some Jvm.ClassFile.FieldType.int)) ∈ lw_all := lw_g (lw_at lw_m1 61 rfl) rfl
theorem q89 : (Jvm.Cond.methodLink "CubeViews" (42 : Nat) ({ cls := "CubeViews", name := "kind", desc := "(I)I" } : Jvm.MethodName)) ∈ lw_all := lw_g (lw_at lw_m1 62 rfl) rfl
theorem q90 : (Jvm.Cond.privateMethod ({ cls := "CubeViews", name := "kind", desc := "(I)I" } : Jvm.MethodName)) ∈ lw_tbl := lw_at lw_m1 63 rfl
theorem q91 : (Jvm.Cond.instanceMethod ({ cls := "CubeViews", name := "kind", desc := "(I)I" } : Jvm.MethodName)) ∈ lw_all := lw_g (lw_at lw_m1 64 rfl) rfl
theorem q92 : (Jvm.Cond.code ({ cls := "CubeViews", name := "kind", desc := "(I)I" } : Jvm.MethodName) prog_1_method_3_code (2 : Nat) (Option.some Jvm.ClassFile.FieldType.int)) ∈ lw_all := lw_g (lw_at lw_m1 65 rfl) rfl
theorem q93 : (Jvm.Cond.methodLink "CubeViews" (45 : Nat) ({ cls := "CubeViews", name := "month", desc := "(I)I" } : Jvm.MethodName)) ∈ lw_all := lw_g (lw_at lw_m1 66 rfl) rfl
theorem q94 : (Jvm.Cond.privateMethod ({ cls := "CubeViews", name := "month", desc := "(I)I" } : Jvm.MethodName)) ∈ lw_tbl := lw_at lw_m1 67 rfl
theorem q95 : (Jvm.Cond.instanceMethod ({ cls := "CubeViews", name := "month", desc := "(I)I" } : Jvm.MethodName)) ∈ lw_all := lw_g (lw_at lw_m1 68 rfl) rfl
theorem q96 : (Jvm.Cond.code ({ cls := "CubeViews", name := "month", desc := "(I)I" } : Jvm.MethodName) prog_1_method_4_code (2 : Nat) (Option.some Jvm.ClassFile.FieldType.int)) ∈ lw_all := lw_g (lw_at lw_m1 69 rfl) rfl
theorem q98 : (Jvm.Cond.instanceMethod ({ cls := "CubeViews", name := "remove", desc := "()I" } : Jvm.MethodName)) ∈ lw_all := lw_g (lw_at lw_m1 71 rfl) rfl
theorem q99 : (Jvm.Cond.selects "CubeViews" ({ cls := "CubeViews", name := "remove", desc := "()I" } : Jvm.MethodName) ({ cls := "CubeViews", name := "remove", desc := "()I" } : Jvm.MethodName)) ∈ lw_all := lw_g (lw_at lw_m1 72 rfl) rfl
theorem q100 : (Jvm.Cond.code ({ cls := "CubeViews", name := "remove", desc := "()I" } : Jvm.MethodName) prog_1_method_11_code (2 : Nat) (Option.some Jvm.ClassFile.FieldType.int)) ∈ lw_all := lw_g (lw_at lw_m1 73 rfl) rfl
theorem q101 : (Jvm.Cond.constant "CubeViews" (65 : Nat) (-4000000 : Int32)) ∈ lw_all := lw_g (lw_at lw_m1 74 rfl) rfl
theorem q103 : (Jvm.Cond.instanceMethod ({ cls := "CubeViews", name := "change", desc := "(II)I" } : Jvm.MethodName)) ∈ lw_all := lw_g (lw_at lw_m1 76 rfl) rfl
theorem q104 : (Jvm.Cond.selects "CubeViews" ({ cls := "CubeViews", name := "change", desc := "(II)I" } : Jvm.MethodName) ({ cls := "CubeViews", name := "change", desc := "(II)I" } : Jvm.MethodName)) ∈ lw_all := lw_g (lw_at lw_m1 77 rfl) rfl
theorem q105 : (Jvm.Cond.code ({ cls := "CubeViews", name := "change", desc := "(II)I" } : Jvm.MethodName) prog_1_method_12_code (4 : Nat) (Option.some Jvm.ClassFile.FieldType.int)) ∈ lw_all := lw_g (lw_at lw_m1 78 rfl) rfl
theorem q107 : (Jvm.Cond.instanceMethod ({ cls := "CubeViews", name := "facts", desc := "()I" } : Jvm.MethodName)) ∈ lw_all := lw_g (lw_at lw_m1 80 rfl) rfl
theorem q108 : (Jvm.Cond.selects "CubeViews" ({ cls := "CubeViews", name := "facts", desc := "()I" } : Jvm.MethodName) ({ cls := "CubeViews", name := "facts", desc := "()I" } : Jvm.MethodName)) ∈ lw_all := lw_g (lw_at lw_m1 81 rfl) rfl
theorem q109 : (Jvm.Cond.code ({ cls := "CubeViews", name := "facts", desc := "()I" } : Jvm.MethodName) prog_1_method_13_code (1 : Nat) (Option.some Jvm.ClassFile.FieldType.int)) ∈ lw_all := lw_g (lw_at lw_m1 82 rfl) rfl
theorem q111 : (Jvm.Cond.instanceMethod ({ cls := "CubeViews", name := "count", desc := "(I)I" } : Jvm.MethodName)) ∈ lw_all := lw_g (lw_at lw_m1 84 rfl) rfl
theorem q112 : (Jvm.Cond.selects "CubeViews" ({ cls := "CubeViews", name := "count", desc := "(I)I" } : Jvm.MethodName) ({ cls := "CubeViews", name := "count", desc := "(I)I" } : Jvm.MethodName)) ∈ lw_all := lw_g (lw_at lw_m1 85 rfl) rfl
theorem q113 : (Jvm.Cond.code ({ cls := "CubeViews", name := "count", desc := "(I)I" } : Jvm.MethodName) prog_1_method_20_code (2 : Nat) (Option.some Jvm.ClassFile.FieldType.int)) ∈ lw_all := lw_g (lw_at lw_m1 86 rfl) rfl
theorem q114 : (Jvm.Cond.methodLink "CubeViews" (79 : Nat) ({ cls := "CubeViews", name := "badFilter", desc := "(I)Z" } : Jvm.MethodName)) ∈ lw_all := lw_g (lw_at lw_m1 87 rfl) rfl
theorem q115 : (Jvm.Cond.privateMethod ({ cls := "CubeViews", name := "badFilter", desc := "(I)Z" } : Jvm.MethodName)) ∈ lw_tbl := lw_at lw_m1 88 rfl
theorem q116 : (Jvm.Cond.instanceMethod ({ cls := "CubeViews", name := "badFilter", desc := "(I)Z" } : Jvm.MethodName)) ∈ lw_all := lw_g (lw_at lw_m1 89 rfl) rfl
theorem q117 : (Jvm.Cond.code ({ cls := "CubeViews", name := "badFilter", desc := "(I)Z" } : Jvm.MethodName) prog_1_method_14_code (2 : Nat) (Option.some Jvm.ClassFile.FieldType.boolean)) ∈ lw_all := lw_g (lw_at lw_m1 90 rfl) rfl
theorem q118 : (Jvm.Cond.methodLink "CubeViews" (83 : Nat) ({ cls := "CubeViews", name := "gather", desc := "(II)V" } : Jvm.MethodName)) ∈ lw_all := lw_g (lw_at lw_m1 91 rfl) rfl
theorem q119 : (Jvm.Cond.privateMethod ({ cls := "CubeViews", name := "gather", desc := "(II)V" } : Jvm.MethodName)) ∈ lw_tbl := lw_at lw_m1 92 rfl
theorem q120 : (Jvm.Cond.instanceMethod ({ cls := "CubeViews", name := "gather", desc := "(II)V" } : Jvm.MethodName)) ∈ lw_all := lw_g (lw_at lw_m1 93 rfl) rfl
theorem q121 : (Jvm.Cond.code ({ cls := "CubeViews", name := "gather", desc := "(II)V" } : Jvm.MethodName) prog_1_method_19_code (7 : Nat) (Option.none : Option Jvm.ClassFile.FieldType)) ∈ lw_all := lw_g (lw_at lw_m1 94 rfl) rfl
theorem q122 : (Jvm.Cond.methodLink "CubeViews" (66 : Nat) ({ cls := "CubeViews", name := "cuts", desc := "(I)I" } : Jvm.MethodName)) ∈ lw_all := lw_g (lw_at lw_m1 95 rfl) rfl
theorem q123 : (Jvm.Cond.privateMethod ({ cls := "CubeViews", name := "cuts", desc := "(I)I" } : Jvm.MethodName)) ∈ lw_tbl := lw_at lw_m1 96 rfl
theorem q124 : (Jvm.Cond.instanceMethod ({ cls := "CubeViews", name := "cuts", desc := "(I)I" } : Jvm.MethodName)) ∈ lw_all := lw_g (lw_at lw_m1 97 rfl) rfl
theorem q125 : (Jvm.Cond.code ({ cls := "CubeViews", name := "cuts", desc := "(I)I" } : Jvm.MethodName) prog_1_method_15_code (3 : Nat) (Option.some Jvm.ClassFile.FieldType.int)) ∈ lw_all := lw_g (lw_at lw_m1 98 rfl) rfl
theorem q126 : (Jvm.Cond.methodLink "CubeViews" (69 : Nat) ({ cls := "CubeViews", name := "smallest", desc := "(I)I" } : Jvm.MethodName)) ∈ lw_all := lw_g (lw_at lw_m1 99 rfl) rfl
theorem q127 : (Jvm.Cond.privateMethod ({ cls := "CubeViews", name := "smallest", desc := "(I)I" } : Jvm.MethodName)) ∈ lw_tbl := lw_at lw_m1 100 rfl
theorem q128 : (Jvm.Cond.instanceMethod ({ cls := "CubeViews", name := "smallest", desc := "(I)I" } : Jvm.MethodName)) ∈ lw_all := lw_g (lw_at lw_m1 101 rfl) rfl
theorem q129 : (Jvm.Cond.code ({ cls := "CubeViews", name := "smallest", desc := "(I)I" } : Jvm.MethodName) prog_1_method_17_code (4 : Nat) (Option.some Jvm.ClassFile.FieldType.int)) ∈ lw_all := lw_g (lw_at lw_m1 102 rfl) rfl
theorem q130 : (Jvm.Cond.methodLink "CubeViews" (56 : Nat) ({ cls := "CubeViews", name := "cells", desc := "(I)I" } : Jvm.MethodName)) ∈ lw_all := lw_g (lw_at lw_m1 103 rfl) rfl
theorem q131 : (Jvm.Cond.privateMethod ({ cls := "CubeViews", name := "cells", desc := "(I)I" } : Jvm.MethodName)) ∈ lw_tbl := lw_at lw_m1 104 rfl
theorem q132 : (Jvm.Cond.instanceMethod ({ cls := "CubeViews", name := "cells", desc := "(I)I" } : Jvm.MethodName)) ∈ lw_all := lw_g (lw_at lw_m1 105 rfl) rfl
theorem q133 : (Jvm.Cond.code ({ cls := "CubeViews", name := "cells", desc := "(I)I" } : Jvm.MethodName) prog_1_method_6_code (3 : Nat) (Option.some Jvm.ClassFile.FieldType.int)) ∈ lw_all := lw_g (lw_at lw_m1 106 rfl) rfl
theorem q134 : (Jvm.Cond.methodLink "CubeViews" (72 : Nat) ({ cls := "CubeViews", name := "passes", desc := "(III)Z" } : Jvm.MethodName)) ∈ lw_all := lw_g (lw_at lw_m1 107 rfl) rfl
theorem q135 : (Jvm.Cond.privateMethod ({ cls := "CubeViews", name := "passes", desc := "(III)Z" } : Jvm.MethodName)) ∈ lw_tbl := lw_at lw_m1 108 rfl
theorem q136 : (Jvm.Cond.instanceMethod ({ cls := "CubeViews", name := "passes", desc := "(III)Z" } : Jvm.MethodName)) ∈ lw_all := lw_g (lw_at lw_m1 109 rfl) rfl
theorem q137 : (Jvm.Cond.code ({ cls := "CubeViews", name := "passes", desc := "(III)Z" } : Jvm.MethodName) prog_1_method_16_code (7 : Nat) (Option.some Jvm.ClassFile.FieldType.boolean)) ∈ lw_all := lw_g (lw_at lw_m1 110 rfl) rfl
theorem q138 : (Jvm.Cond.methodLink "CubeViews" (76 : Nat) ({ cls := "CubeViews", name := "note", desc := "(III)V" } : Jvm.MethodName)) ∈ lw_all := lw_g (lw_at lw_m1 111 rfl) rfl
theorem q139 : (Jvm.Cond.privateMethod ({ cls := "CubeViews", name := "note", desc := "(III)V" } : Jvm.MethodName)) ∈ lw_tbl := lw_at lw_m1 112 rfl
theorem q140 : (Jvm.Cond.instanceMethod ({ cls := "CubeViews", name := "note", desc := "(III)V" } : Jvm.MethodName)) ∈ lw_all := lw_g (lw_at lw_m1 113 rfl) rfl
theorem q141 : (Jvm.Cond.code ({ cls := "CubeViews", name := "note", desc := "(III)V" } : Jvm.MethodName) prog_1_method_18_code (4 : Nat) (Option.none : Option Jvm.ClassFile.FieldType)) ∈ lw_all := lw_g (lw_at lw_m1 114 rfl) rfl
theorem q143 : (Jvm.Cond.instanceMethod ({ cls := "CubeViews", name := "sum", desc := "(I)I" } : Jvm.MethodName)) ∈ lw_all := lw_g (lw_at lw_m1 116 rfl) rfl
theorem q144 : (Jvm.Cond.selects "CubeViews" ({ cls := "CubeViews", name := "sum", desc := "(I)I" } : Jvm.MethodName) ({ cls := "CubeViews", name := "sum", desc := "(I)I" } : Jvm.MethodName)) ∈ lw_all := lw_g (lw_at lw_m1 117 rfl) rfl
theorem q145 : (Jvm.Cond.code ({ cls := "CubeViews", name := "sum", desc := "(I)I" } : Jvm.MethodName) prog_1_method_21_code (2 : Nat) (Option.some Jvm.ClassFile.FieldType.int)) ∈ lw_all := lw_g (lw_at lw_m1 118 rfl) rfl
theorem q147 : (Jvm.Cond.instanceMethod ({ cls := "CubeViews", name := "greatest", desc := "(I)I" } : Jvm.MethodName)) ∈ lw_all := lw_g (lw_at lw_m1 120 rfl) rfl
theorem q148 : (Jvm.Cond.selects "CubeViews" ({ cls := "CubeViews", name := "greatest", desc := "(I)I" } : Jvm.MethodName) ({ cls := "CubeViews", name := "greatest", desc := "(I)I" } : Jvm.MethodName)) ∈ lw_all := lw_g (lw_at lw_m1 121 rfl) rfl
theorem q149 : (Jvm.Cond.code ({ cls := "CubeViews", name := "greatest", desc := "(I)I" } : Jvm.MethodName) prog_1_method_22_code (5 : Nat) (Option.some Jvm.ClassFile.FieldType.int)) ∈ lw_all := lw_g (lw_at lw_m1 122 rfl) rfl
theorem q150 : (Jvm.Cond.methodLink "CubeViews" (87 : Nat) ({ cls := "CubeViews", name := "greatestAt", desc := "(I)I" } : Jvm.MethodName)) ∈ lw_all := lw_g (lw_at lw_m1 123 rfl) rfl
theorem q151 : (Jvm.Cond.privateMethod ({ cls := "CubeViews", name := "greatestAt", desc := "(I)I" } : Jvm.MethodName)) ∈ lw_tbl := lw_at lw_m1 124 rfl
theorem q152 : (Jvm.Cond.instanceMethod ({ cls := "CubeViews", name := "greatestAt", desc := "(I)I" } : Jvm.MethodName)) ∈ lw_all := lw_g (lw_at lw_m1 125 rfl) rfl
theorem q153 : (Jvm.Cond.code ({ cls := "CubeViews", name := "greatestAt", desc := "(I)I" } : Jvm.MethodName) prog_1_method_23_code (5 : Nat) (Option.some Jvm.ClassFile.FieldType.int)) ∈ lw_all := lw_g (lw_at lw_m1 126 rfl) rfl
theorem q155 : (Jvm.Cond.instanceMethod ({ cls := "CubeViews", name := "groups", desc := "(II)I" } : Jvm.MethodName)) ∈ lw_all := lw_g (lw_at lw_m1 128 rfl) rfl
theorem q156 : (Jvm.Cond.selects "CubeViews" ({ cls := "CubeViews", name := "groups", desc := "(II)I" } : Jvm.MethodName) ({ cls := "CubeViews", name := "groups", desc := "(II)I" } : Jvm.MethodName)) ∈ lw_all := lw_g (lw_at lw_m1 129 rfl) rfl
theorem q157 : (Jvm.Cond.code ({ cls := "CubeViews", name := "groups", desc := "(II)I" } : Jvm.MethodName) prog_1_method_25_code (5 : Nat) (Option.some Jvm.ClassFile.FieldType.int)) ∈ lw_all := lw_g (lw_at lw_m1 130 rfl) rfl
theorem q158 : (Jvm.Cond.methodLink "CubeViews" (90 : Nat) ({ cls := "CubeViews", name := "badGrouping", desc := "(I)Z" } : Jvm.MethodName)) ∈ lw_all := lw_g (lw_at lw_m1 131 rfl) rfl
theorem q159 : (Jvm.Cond.privateMethod ({ cls := "CubeViews", name := "badGrouping", desc := "(I)Z" } : Jvm.MethodName)) ∈ lw_tbl := lw_at lw_m1 132 rfl
theorem q160 : (Jvm.Cond.instanceMethod ({ cls := "CubeViews", name := "badGrouping", desc := "(I)Z" } : Jvm.MethodName)) ∈ lw_all := lw_g (lw_at lw_m1 133 rfl) rfl
theorem q161 : (Jvm.Cond.code ({ cls := "CubeViews", name := "badGrouping", desc := "(I)Z" } : Jvm.MethodName) prog_1_method_24_code (2 : Nat) (Option.some Jvm.ClassFile.FieldType.boolean)) ∈ lw_all := lw_g (lw_at lw_m1 134 rfl) rfl
theorem q163 : (Jvm.Cond.instanceMethod ({ cls := "CubeViews", name := "topSum", desc := "(II)I" } : Jvm.MethodName)) ∈ lw_all := lw_g (lw_at lw_m1 136 rfl) rfl
theorem q164 : (Jvm.Cond.selects "CubeViews" ({ cls := "CubeViews", name := "topSum", desc := "(II)I" } : Jvm.MethodName) ({ cls := "CubeViews", name := "topSum", desc := "(II)I" } : Jvm.MethodName)) ∈ lw_all := lw_g (lw_at lw_m1 137 rfl) rfl
theorem q165 : (Jvm.Cond.code ({ cls := "CubeViews", name := "topSum", desc := "(II)I" } : Jvm.MethodName) prog_1_method_27_code (4 : Nat) (Option.some Jvm.ClassFile.FieldType.int)) ∈ lw_all := lw_g (lw_at lw_m1 138 rfl) rfl
theorem q166 : (Jvm.Cond.methodLink "CubeViews" (93 : Nat) ({ cls := "CubeViews", name := "top", desc := "(II)I" } : Jvm.MethodName)) ∈ lw_all := lw_g (lw_at lw_m1 139 rfl) rfl
theorem q167 : (Jvm.Cond.privateMethod ({ cls := "CubeViews", name := "top", desc := "(II)I" } : Jvm.MethodName)) ∈ lw_tbl := lw_at lw_m1 140 rfl
theorem q168 : (Jvm.Cond.instanceMethod ({ cls := "CubeViews", name := "top", desc := "(II)I" } : Jvm.MethodName)) ∈ lw_all := lw_g (lw_at lw_m1 141 rfl) rfl
theorem q169 : (Jvm.Cond.code ({ cls := "CubeViews", name := "top", desc := "(II)I" } : Jvm.MethodName) prog_1_method_26_code (5 : Nat) (Option.some Jvm.ClassFile.FieldType.int)) ∈ lw_all := lw_g (lw_at lw_m1 142 rfl) rfl
theorem q171 : (Jvm.Cond.instanceMethod ({ cls := "CubeViews", name := "topGroup", desc := "(II)I" } : Jvm.MethodName)) ∈ lw_all := lw_g (lw_at lw_m1 144 rfl) rfl
theorem q172 : (Jvm.Cond.selects "CubeViews" ({ cls := "CubeViews", name := "topGroup", desc := "(II)I" } : Jvm.MethodName) ({ cls := "CubeViews", name := "topGroup", desc := "(II)I" } : Jvm.MethodName)) ∈ lw_all := lw_g (lw_at lw_m1 145 rfl) rfl
theorem q173 : (Jvm.Cond.code ({ cls := "CubeViews", name := "topGroup", desc := "(II)I" } : Jvm.MethodName) prog_1_method_28_code (4 : Nat) (Option.some Jvm.ClassFile.FieldType.int)) ∈ lw_all := lw_g (lw_at lw_m1 146 rfl) rfl
theorem q175 : (Jvm.Cond.instanceMethod ({ cls := "CubeViews", name := "quarter", desc := "(II)I" } : Jvm.MethodName)) ∈ lw_all := lw_g (lw_at lw_m1 148 rfl) rfl
theorem q176 : (Jvm.Cond.selects "CubeViews" ({ cls := "CubeViews", name := "quarter", desc := "(II)I" } : Jvm.MethodName) ({ cls := "CubeViews", name := "quarter", desc := "(II)I" } : Jvm.MethodName)) ∈ lw_all := lw_g (lw_at lw_m1 149 rfl) rfl
theorem q177 : (Jvm.Cond.code ({ cls := "CubeViews", name := "quarter", desc := "(II)I" } : Jvm.MethodName) prog_1_method_29_code (3 : Nat) (Option.some Jvm.ClassFile.FieldType.int)) ∈ lw_all := lw_g (lw_at lw_m1 150 rfl) rfl
theorem q179 : (Jvm.Cond.instanceMethod ({ cls := "CubeViews", name := "growth", desc := "(I)I" } : Jvm.MethodName)) ∈ lw_all := lw_g (lw_at lw_m1 152 rfl) rfl
theorem q180 : (Jvm.Cond.selects "CubeViews" ({ cls := "CubeViews", name := "growth", desc := "(I)I" } : Jvm.MethodName) ({ cls := "CubeViews", name := "growth", desc := "(I)I" } : Jvm.MethodName)) ∈ lw_all := lw_g (lw_at lw_m1 153 rfl) rfl
theorem q181 : (Jvm.Cond.code ({ cls := "CubeViews", name := "growth", desc := "(I)I" } : Jvm.MethodName) prog_1_method_30_code (2 : Nat) (Option.some Jvm.ClassFile.FieldType.int)) ∈ lw_all := lw_g (lw_at lw_m1 154 rfl) rfl
theorem q183 : (Jvm.Cond.instanceMethod ({ cls := "CubeViews", name := "atLeast", desc := "(II)I" } : Jvm.MethodName)) ∈ lw_all := lw_g (lw_at lw_m1 156 rfl) rfl
theorem q184 : (Jvm.Cond.selects "CubeViews" ({ cls := "CubeViews", name := "atLeast", desc := "(II)I" } : Jvm.MethodName) ({ cls := "CubeViews", name := "atLeast", desc := "(II)I" } : Jvm.MethodName)) ∈ lw_all := lw_g (lw_at lw_m1 157 rfl) rfl
theorem q185 : (Jvm.Cond.code ({ cls := "CubeViews", name := "atLeast", desc := "(II)I" } : Jvm.MethodName) prog_1_method_31_code (5 : Nat) (Option.some Jvm.ClassFile.FieldType.int)) ∈ lw_all := lw_g (lw_at lw_m1 158 rfl) rfl
theorem q187 : (Jvm.Cond.instanceMethod ({ cls := "CubeViews", name := "plan", desc := "(I)I" } : Jvm.MethodName)) ∈ lw_all := lw_g (lw_at lw_m1 160 rfl) rfl
theorem q188 : (Jvm.Cond.selects "CubeViews" ({ cls := "CubeViews", name := "plan", desc := "(I)I" } : Jvm.MethodName) ({ cls := "CubeViews", name := "plan", desc := "(I)I" } : Jvm.MethodName)) ∈ lw_all := lw_g (lw_at lw_m1 161 rfl) rfl
theorem q189 : (Jvm.Cond.code ({ cls := "CubeViews", name := "plan", desc := "(I)I" } : Jvm.MethodName) prog_1_method_32_code (10 : Nat) (Option.some Jvm.ClassFile.FieldType.int)) ∈ lw_all := lw_g (lw_at lw_m1 162 rfl) rfl
theorem q190 : (Jvm.Cond.methodLink "CubeViews" (96 : Nat) ({ cls := "CubeViews", name := "workWith", desc := "(I)I" } : Jvm.MethodName)) ∈ lw_all := lw_g (lw_at lw_m1 163 rfl) rfl
theorem q191 : (Jvm.Cond.privateMethod ({ cls := "CubeViews", name := "workWith", desc := "(I)I" } : Jvm.MethodName)) ∈ lw_tbl := lw_at lw_m1 164 rfl
theorem q192 : (Jvm.Cond.instanceMethod ({ cls := "CubeViews", name := "workWith", desc := "(I)I" } : Jvm.MethodName)) ∈ lw_all := lw_g (lw_at lw_m1 165 rfl) rfl
theorem q193 : (Jvm.Cond.code ({ cls := "CubeViews", name := "workWith", desc := "(I)I" } : Jvm.MethodName) prog_1_method_9_code (6 : Nat) (Option.some Jvm.ClassFile.FieldType.int)) ∈ lw_all := lw_g (lw_at lw_m1 166 rfl) rfl
theorem q194 : (Jvm.Cond.methodLink "CubeViews" (99 : Nat) ({ cls := "CubeViews", name := "fill", desc := "(I)V" } : Jvm.MethodName)) ∈ lw_all := lw_g (lw_at lw_m1 167 rfl) rfl
theorem q195 : (Jvm.Cond.privateMethod ({ cls := "CubeViews", name := "fill", desc := "(I)V" } : Jvm.MethodName)) ∈ lw_tbl := lw_at lw_m1 168 rfl
theorem q196 : (Jvm.Cond.instanceMethod ({ cls := "CubeViews", name := "fill", desc := "(I)V" } : Jvm.MethodName)) ∈ lw_all := lw_g (lw_at lw_m1 169 rfl) rfl
theorem q197 : (Jvm.Cond.code ({ cls := "CubeViews", name := "fill", desc := "(I)V" } : Jvm.MethodName) prog_1_method_8_code (4 : Nat) (Option.none : Option Jvm.ClassFile.FieldType)) ∈ lw_all := lw_g (lw_at lw_m1 170 rfl) rfl
theorem in_X0 : ∀ w ∈ wsX00, w ∈ lw_all := lw_in wsX00 [48, 50, 52, 54, 56, 58, 60, 62, 64, 66] (by decide +kernel) (by decide +kernel)
end
section
set_option maxRecDepth 100000
theorem dX0_init_0 : decode cX0_init 0 = .ok (.aload_n 0, 1) := by decide +kernel
theorem dX0_init_1 : decode cX0_init 1 = .ok (.invokespecial 1, 3) := by decide +kernel
theorem dX0_init_4 : decode cX0_init 4 = .ok (.aload_n 0, 1) := by decide +kernel
theorem dX0_init_5 : decode cX0_init 5 = .ok (.bipush 40, 2) := by decide +kernel
theorem dX0_init_7 : decode cX0_init 7 = .ok (.newarray .int, 2) := by decide +kernel
theorem dX0_init_9 : decode cX0_init 9 = .ok (.putfield 7, 3) := by decide +kernel
theorem dX0_init_12 : decode cX0_init 12 = .ok (.aload_n 0, 1) := by decide +kernel
theorem dX0_init_13 : decode cX0_init 13 = .ok (.bipush 40, 2) := by decide +kernel
theorem dX0_init_15 : decode cX0_init 15 = .ok (.newarray .int, 2) := by decide +kernel
theorem dX0_init_17 : decode cX0_init 17 = .ok (.putfield 13, 3) := by decide +kernel
theorem dX0_init_20 : decode cX0_init 20 = .ok (.aload_n 0, 1) := by decide +kernel
theorem dX0_init_21 : decode cX0_init 21 = .ok (.bipush 120, 2) := by decide +kernel
theorem dX0_init_23 : decode cX0_init 23 = .ok (.newarray .int, 2) := by decide +kernel
theorem dX0_init_25 : decode cX0_init 25 = .ok (.putfield 16, 3) := by decide +kernel
theorem dX0_init_28 : decode cX0_init 28 = .ok (.aload_n 0, 1) := by decide +kernel
theorem dX0_init_29 : decode cX0_init 29 = .ok (.bipush 40, 2) := by decide +kernel
theorem dX0_init_31 : decode cX0_init 31 = .ok (.newarray .int, 2) := by decide +kernel
theorem dX0_init_33 : decode cX0_init 33 = .ok (.putfield 19, 3) := by decide +kernel
theorem dX0_init_36 : decode cX0_init 36 = .ok (.aload_n 0, 1) := by decide +kernel
theorem dX0_init_37 : decode cX0_init 37 = .ok (.bipush 8, 2) := by decide +kernel
theorem dX0_init_39 : decode cX0_init 39 = .ok (.newarray .boolean, 2) := by decide +kernel
theorem dX0_init_41 : decode cX0_init 41 = .ok (.putfield 22, 3) := by decide +kernel
theorem dX0_init_44 : decode cX0_init 44 = .ok (.aload_n 0, 1) := by decide +kernel
theorem dX0_init_45 : decode cX0_init 45 = .ok (.sipush 960, 3) := by decide +kernel
theorem dX0_init_48 : decode cX0_init 48 = .ok (.newarray .int, 2) := by decide +kernel
theorem dX0_init_50 : decode cX0_init 50 = .ok (.putfield 26, 3) := by decide +kernel
theorem dX0_init_53 : decode cX0_init 53 = .ok (.aload_n 0, 1) := by decide +kernel
theorem dX0_init_54 : decode cX0_init 54 = .ok (.sipush 960, 3) := by decide +kernel
theorem dX0_init_57 : decode cX0_init 57 = .ok (.newarray .int, 2) := by decide +kernel
theorem dX0_init_59 : decode cX0_init 59 = .ok (.putfield 29, 3) := by decide +kernel
theorem dX0_init_62 : decode cX0_init 62 = .ok (.aload_n 0, 1) := by decide +kernel
theorem dX0_init_63 : decode cX0_init 63 = .ok (.bipush 120, 2) := by decide +kernel
theorem dX0_init_65 : decode cX0_init 65 = .ok (.newarray .int, 2) := by decide +kernel
theorem dX0_init_67 : decode cX0_init 67 = .ok (.putfield 32, 3) := by decide +kernel
theorem dX0_init_70 : decode cX0_init 70 = .ok (.aload_n 0, 1) := by decide +kernel
theorem dX0_init_71 : decode cX0_init 71 = .ok (.bipush 120, 2) := by decide +kernel
theorem dX0_init_73 : decode cX0_init 73 = .ok (.newarray .int, 2) := by decide +kernel
theorem dX0_init_75 : decode cX0_init 75 = .ok (.putfield 35, 3) := by decide +kernel
theorem dX0_init_78 : decode cX0_init 78 = .ok (.iconst 0, 1) := by decide +kernel
theorem dX0_init_79 : decode cX0_init 79 = .ok (.istore_n 1, 1) := by decide +kernel
theorem dX0_init_80 : decode cX0_init 80 = .ok (.iload_n 1, 1) := by decide +kernel
theorem dX0_init_81 : decode cX0_init 81 = .ok (.bipush 120, 2) := by decide +kernel
theorem dX0_init_83 : decode cX0_init 83 = .ok (.if_icmp .ge 16, 3) := by decide +kernel
theorem dX0_init_86 : decode cX0_init 86 = .ok (.aload_n 0, 1) := by decide +kernel
theorem dX0_init_87 : decode cX0_init 87 = .ok (.getfield 16, 3) := by decide +kernel
theorem dX0_init_90 : decode cX0_init 90 = .ok (.iload_n 1, 1) := by decide +kernel
theorem dX0_init_91 : decode cX0_init 91 = .ok (.iconst (-1), 1) := by decide +kernel
theorem dX0_init_92 : decode cX0_init 92 = .ok (.iastore, 1) := by decide +kernel
theorem dX0_init_93 : decode cX0_init 93 = .ok (.iinc 1 1, 3) := by decide +kernel
theorem dX0_init_96 : decode cX0_init 96 = .ok (.goto (-16), 3) := by decide +kernel
theorem dX0_init_99 : decode cX0_init 99 = .ok (.return_, 1) := by decide +kernel
theorem dX0_add_0 : decode cX0_add 0 = .ok (.iload_n 1, 1) := by decide +kernel
theorem dX0_add_1 : decode cX0_add 1 = .ok (.ifCond .lt 21, 3) := by decide +kernel
theorem dX0_add_4 : decode cX0_add 4 = .ok (.iload_n 1, 1) := by decide +kernel
theorem dX0_add_5 : decode cX0_add 5 = .ok (.bipush 120, 2) := by decide +kernel
theorem dX0_add_7 : decode cX0_add 7 = .ok (.if_icmp .ge 15, 3) := by decide +kernel
theorem dX0_add_10 : decode cX0_add 10 = .ok (.iload_n 2, 1) := by decide +kernel
theorem dX0_add_11 : decode cX0_add 11 = .ok (.bipush (-50), 2) := by decide +kernel
theorem dX0_add_13 : decode cX0_add 13 = .ok (.if_icmp .lt 9, 3) := by decide +kernel
theorem dX0_add_16 : decode cX0_add 16 = .ok (.iload_n 2, 1) := by decide +kernel
theorem dX0_add_17 : decode cX0_add 17 = .ok (.bipush 50, 2) := by decide +kernel
theorem dX0_add_19 : decode cX0_add 19 = .ok (.if_icmp .le 6, 3) := by decide +kernel
theorem dX0_add_22 : decode cX0_add 22 = .ok (.ldc 59, 2) := by decide +kernel
theorem dX0_add_24 : decode cX0_add 24 = .ok (.ireturn, 1) := by decide +kernel
theorem dX0_add_25 : decode cX0_add 25 = .ok (.aload_n 0, 1) := by decide +kernel
theorem dX0_add_26 : decode cX0_add 26 = .ok (.getfield 52, 3) := by decide +kernel
theorem dX0_add_29 : decode cX0_add 29 = .ok (.bipush 40, 2) := by decide +kernel
theorem dX0_add_31 : decode cX0_add 31 = .ok (.if_icmp .ne 6, 3) := by decide +kernel
theorem dX0_add_34 : decode cX0_add 34 = .ok (.ldc 60, 2) := by decide +kernel
theorem dX0_add_36 : decode cX0_add 36 = .ok (.ireturn, 1) := by decide +kernel
theorem dX0_add_37 : decode cX0_add 37 = .ok (.aload_n 0, 1) := by decide +kernel
theorem dX0_add_38 : decode cX0_add 38 = .ok (.getfield 7, 3) := by decide +kernel
theorem dX0_add_41 : decode cX0_add 41 = .ok (.aload_n 0, 1) := by decide +kernel
theorem dX0_add_42 : decode cX0_add 42 = .ok (.getfield 52, 3) := by decide +kernel
theorem dX0_add_45 : decode cX0_add 45 = .ok (.iload_n 1, 1) := by decide +kernel
theorem dX0_add_46 : decode cX0_add 46 = .ok (.iastore, 1) := by decide +kernel
theorem dX0_add_47 : decode cX0_add 47 = .ok (.aload_n 0, 1) := by decide +kernel
theorem dX0_add_48 : decode cX0_add 48 = .ok (.getfield 13, 3) := by decide +kernel
theorem dX0_add_51 : decode cX0_add 51 = .ok (.aload_n 0, 1) := by decide +kernel
theorem dX0_add_52 : decode cX0_add 52 = .ok (.getfield 52, 3) := by decide +kernel
theorem dX0_add_55 : decode cX0_add 55 = .ok (.iload_n 2, 1) := by decide +kernel
theorem dX0_add_56 : decode cX0_add 56 = .ok (.iastore, 1) := by decide +kernel
theorem dX0_add_57 : decode cX0_add 57 = .ok (.aload_n 0, 1) := by decide +kernel
theorem dX0_add_58 : decode cX0_add 58 = .ok (.getfield 19, 3) := by decide +kernel
theorem dX0_add_61 : decode cX0_add 61 = .ok (.aload_n 0, 1) := by decide +kernel
theorem dX0_add_62 : decode cX0_add 62 = .ok (.getfield 52, 3) := by decide +kernel
theorem dX0_add_65 : decode cX0_add 65 = .ok (.aload_n 0, 1) := by decide +kernel
theorem dX0_add_66 : decode cX0_add 66 = .ok (.getfield 16, 3) := by decide +kernel
theorem dX0_add_69 : decode cX0_add 69 = .ok (.iload_n 1, 1) := by decide +kernel
theorem dX0_add_70 : decode cX0_add 70 = .ok (.iaload, 1) := by decide +kernel
theorem dX0_add_71 : decode cX0_add 71 = .ok (.iastore, 1) := by decide +kernel
theorem dX0_add_72 : decode cX0_add 72 = .ok (.aload_n 0, 1) := by decide +kernel
theorem dX0_add_73 : decode cX0_add 73 = .ok (.getfield 16, 3) := by decide +kernel
theorem dX0_add_76 : decode cX0_add 76 = .ok (.iload_n 1, 1) := by decide +kernel
theorem dX0_add_77 : decode cX0_add 77 = .ok (.aload_n 0, 1) := by decide +kernel
theorem dX0_add_78 : decode cX0_add 78 = .ok (.getfield 52, 3) := by decide +kernel
theorem dX0_add_81 : decode cX0_add 81 = .ok (.iastore, 1) := by decide +kernel
theorem dX0_add_82 : decode cX0_add 82 = .ok (.aload_n 0, 1) := by decide +kernel
theorem dX0_add_83 : decode cX0_add 83 = .ok (.dup, 1) := by decide +kernel
theorem dX0_add_84 : decode cX0_add 84 = .ok (.getfield 52, 3) := by decide +kernel
theorem dX0_add_87 : decode cX0_add 87 = .ok (.iconst 1, 1) := by decide +kernel
theorem dX0_add_88 : decode cX0_add 88 = .ok (.iadd, 1) := by decide +kernel
theorem dX0_add_89 : decode cX0_add 89 = .ok (.putfield 52, 3) := by decide +kernel
theorem dX0_add_92 : decode cX0_add 92 = .ok (.aload_n 0, 1) := by decide +kernel
theorem dX0_add_93 : decode cX0_add 93 = .ok (.iload_n 1, 1) := by decide +kernel
theorem dX0_add_94 : decode cX0_add 94 = .ok (.iconst 1, 1) := by decide +kernel
theorem dX0_add_95 : decode cX0_add 95 = .ok (.iload_n 2, 1) := by decide +kernel
theorem dX0_add_96 : decode cX0_add 96 = .ok (.invokevirtual 61, 3) := by decide +kernel
theorem dX0_add_99 : decode cX0_add 99 = .ok (.aload_n 0, 1) := by decide +kernel
theorem dX0_add_100 : decode cX0_add 100 = .ok (.getfield 52, 3) := by decide +kernel
theorem dX0_add_103 : decode cX0_add 103 = .ok (.iconst 1, 1) := by decide +kernel
theorem dX0_add_104 : decode cX0_add 104 = .ok (.isub, 1) := by decide +kernel
theorem dX0_add_105 : decode cX0_add 105 = .ok (.ireturn, 1) := by decide +kernel
theorem dX0_enter_0 : decode cX0_enter 0 = .ok (.iconst 0, 1) := by decide +kernel
theorem dX0_enter_1 : decode cX0_enter 1 = .ok (.istore 4, 2) := by decide +kernel
theorem dX0_enter_3 : decode cX0_enter 3 = .ok (.iload 4, 2) := by decide +kernel
theorem dX0_enter_5 : decode cX0_enter 5 = .ok (.bipush 8, 2) := by decide +kernel
theorem dX0_enter_7 : decode cX0_enter 7 = .ok (.if_icmp .ge 66, 3) := by decide +kernel
theorem dX0_enter_10 : decode cX0_enter 10 = .ok (.aload_n 0, 1) := by decide +kernel
theorem dX0_enter_11 : decode cX0_enter 11 = .ok (.getfield 22, 3) := by decide +kernel
theorem dX0_enter_14 : decode cX0_enter 14 = .ok (.iload 4, 2) := by decide +kernel
theorem dX0_enter_16 : decode cX0_enter 16 = .ok (.baload, 1) := by decide +kernel
theorem dX0_enter_17 : decode cX0_enter 17 = .ok (.ifCond .eq 50, 3) := by decide +kernel
theorem dX0_enter_20 : decode cX0_enter 20 = .ok (.bipush 120, 2) := by decide +kernel
theorem dX0_enter_22 : decode cX0_enter 22 = .ok (.iload 4, 2) := by decide +kernel
theorem dX0_enter_24 : decode cX0_enter 24 = .ok (.imul, 1) := by decide +kernel
theorem dX0_enter_25 : decode cX0_enter 25 = .ok (.aload_n 0, 1) := by decide +kernel
theorem dX0_enter_26 : decode cX0_enter 26 = .ok (.iload_n 1, 1) := by decide +kernel
theorem dX0_enter_27 : decode cX0_enter 27 = .ok (.iload 4, 2) := by decide +kernel
theorem dX0_enter_29 : decode cX0_enter 29 = .ok (.invokevirtual 48, 3) := by decide +kernel
theorem dX0_enter_32 : decode cX0_enter 32 = .ok (.iadd, 1) := by decide +kernel
theorem dX0_enter_33 : decode cX0_enter 33 = .ok (.istore 5, 2) := by decide +kernel
theorem dX0_enter_35 : decode cX0_enter 35 = .ok (.aload_n 0, 1) := by decide +kernel
theorem dX0_enter_36 : decode cX0_enter 36 = .ok (.getfield 26, 3) := by decide +kernel
theorem dX0_enter_39 : decode cX0_enter 39 = .ok (.iload 5, 2) := by decide +kernel
theorem dX0_enter_41 : decode cX0_enter 41 = .ok (.aload_n 0, 1) := by decide +kernel
theorem dX0_enter_42 : decode cX0_enter 42 = .ok (.getfield 26, 3) := by decide +kernel
theorem dX0_enter_45 : decode cX0_enter 45 = .ok (.iload 5, 2) := by decide +kernel
theorem dX0_enter_47 : decode cX0_enter 47 = .ok (.iaload, 1) := by decide +kernel
theorem dX0_enter_48 : decode cX0_enter 48 = .ok (.iload_n 2, 1) := by decide +kernel
theorem dX0_enter_49 : decode cX0_enter 49 = .ok (.iadd, 1) := by decide +kernel
theorem dX0_enter_50 : decode cX0_enter 50 = .ok (.iastore, 1) := by decide +kernel
theorem dX0_enter_51 : decode cX0_enter 51 = .ok (.aload_n 0, 1) := by decide +kernel
theorem dX0_enter_52 : decode cX0_enter 52 = .ok (.getfield 29, 3) := by decide +kernel
theorem dX0_enter_55 : decode cX0_enter 55 = .ok (.iload 5, 2) := by decide +kernel
theorem dX0_enter_57 : decode cX0_enter 57 = .ok (.aload_n 0, 1) := by decide +kernel
theorem dX0_enter_58 : decode cX0_enter 58 = .ok (.getfield 29, 3) := by decide +kernel
theorem dX0_enter_61 : decode cX0_enter 61 = .ok (.iload 5, 2) := by decide +kernel
theorem dX0_enter_63 : decode cX0_enter 63 = .ok (.iaload, 1) := by decide +kernel
theorem dX0_enter_64 : decode cX0_enter 64 = .ok (.iload_n 3, 1) := by decide +kernel
theorem dX0_enter_65 : decode cX0_enter 65 = .ok (.iadd, 1) := by decide +kernel
theorem dX0_enter_66 : decode cX0_enter 66 = .ok (.iastore, 1) := by decide +kernel
theorem dX0_enter_67 : decode cX0_enter 67 = .ok (.iinc 4 1, 3) := by decide +kernel
theorem dX0_enter_70 : decode cX0_enter 70 = .ok (.goto (-67), 3) := by decide +kernel
theorem dX0_enter_73 : decode cX0_enter 73 = .ok (.return_, 1) := by decide +kernel
theorem dX0_group_0 : decode cX0_group 0 = .ok (.iload_n 2, 1) := by decide +kernel
theorem dX0_group_1 : decode cX0_group 1 = .ok (.iconst 1, 1) := by decide +kernel
theorem dX0_group_2 : decode cX0_group 2 = .ok (.iand, 1) := by decide +kernel
theorem dX0_group_3 : decode cX0_group 3 = .ok (.ifCond .ne 7, 3) := by decide +kernel
theorem dX0_group_6 : decode cX0_group 6 = .ok (.iconst 0, 1) := by decide +kernel
theorem dX0_group_7 : decode cX0_group 7 = .ok (.goto 8, 3) := by decide +kernel
theorem dX0_group_10 : decode cX0_group 10 = .ok (.aload_n 0, 1) := by decide +kernel
theorem dX0_group_11 : decode cX0_group 11 = .ok (.iload_n 1, 1) := by decide +kernel
theorem dX0_group_12 : decode cX0_group 12 = .ok (.invokevirtual 38, 3) := by decide +kernel
theorem dX0_group_15 : decode cX0_group 15 = .ok (.istore_n 3, 1) := by decide +kernel
theorem dX0_group_16 : decode cX0_group 16 = .ok (.iload_n 2, 1) := by decide +kernel
theorem dX0_group_17 : decode cX0_group 17 = .ok (.iconst 2, 1) := by decide +kernel
theorem dX0_group_18 : decode cX0_group 18 = .ok (.iand, 1) := by decide +kernel
theorem dX0_group_19 : decode cX0_group 19 = .ok (.ifCond .ne 7, 3) := by decide +kernel
theorem dX0_group_22 : decode cX0_group 22 = .ok (.iconst 0, 1) := by decide +kernel
theorem dX0_group_23 : decode cX0_group 23 = .ok (.goto 8, 3) := by decide +kernel
theorem dX0_group_26 : decode cX0_group 26 = .ok (.aload_n 0, 1) := by decide +kernel
theorem dX0_group_27 : decode cX0_group 27 = .ok (.iload_n 1, 1) := by decide +kernel
theorem dX0_group_28 : decode cX0_group 28 = .ok (.invokevirtual 42, 3) := by decide +kernel
theorem dX0_group_31 : decode cX0_group 31 = .ok (.istore 4, 2) := by decide +kernel
theorem dX0_group_33 : decode cX0_group 33 = .ok (.iload_n 2, 1) := by decide +kernel
theorem dX0_group_34 : decode cX0_group 34 = .ok (.iconst 4, 1) := by decide +kernel
theorem dX0_group_35 : decode cX0_group 35 = .ok (.iand, 1) := by decide +kernel
theorem dX0_group_36 : decode cX0_group 36 = .ok (.ifCond .ne 7, 3) := by decide +kernel
theorem dX0_group_39 : decode cX0_group 39 = .ok (.iconst 0, 1) := by decide +kernel
theorem dX0_group_40 : decode cX0_group 40 = .ok (.goto 8, 3) := by decide +kernel
theorem dX0_group_43 : decode cX0_group 43 = .ok (.aload_n 0, 1) := by decide +kernel
theorem dX0_group_44 : decode cX0_group 44 = .ok (.iload_n 1, 1) := by decide +kernel
theorem dX0_group_45 : decode cX0_group 45 = .ok (.invokevirtual 45, 3) := by decide +kernel
theorem dX0_group_48 : decode cX0_group 48 = .ok (.istore 5, 2) := by decide +kernel
theorem dX0_group_50 : decode cX0_group 50 = .ok (.iload_n 3, 1) := by decide +kernel
theorem dX0_group_51 : decode cX0_group 51 = .ok (.iconst 4, 1) := by decide +kernel
theorem dX0_group_52 : decode cX0_group 52 = .ok (.iload 4, 2) := by decide +kernel
theorem dX0_group_54 : decode cX0_group 54 = .ok (.imul, 1) := by decide +kernel
theorem dX0_group_55 : decode cX0_group 55 = .ok (.iadd, 1) := by decide +kernel
theorem dX0_group_56 : decode cX0_group 56 = .ok (.bipush 20, 2) := by decide +kernel
theorem dX0_group_58 : decode cX0_group 58 = .ok (.iload 5, 2) := by decide +kernel
theorem dX0_group_60 : decode cX0_group 60 = .ok (.imul, 1) := by decide +kernel
theorem dX0_group_61 : decode cX0_group 61 = .ok (.iadd, 1) := by decide +kernel
theorem dX0_group_62 : decode cX0_group 62 = .ok (.ireturn, 1) := by decide +kernel
theorem dX0_region_0 : decode cX0_region 0 = .ok (.iload_n 1, 1) := by decide +kernel
theorem dX0_region_1 : decode cX0_region 1 = .ok (.iconst 4, 1) := by decide +kernel
theorem dX0_region_2 : decode cX0_region 2 = .ok (.irem, 1) := by decide +kernel
theorem dX0_region_3 : decode cX0_region 3 = .ok (.ireturn, 1) := by decide +kernel
theorem dX0_kind_0 : decode cX0_kind 0 = .ok (.iload_n 1, 1) := by decide +kernel
theorem dX0_kind_1 : decode cX0_kind 1 = .ok (.iconst 4, 1) := by decide +kernel
theorem dX0_kind_2 : decode cX0_kind 2 = .ok (.idiv, 1) := by decide +kernel
theorem dX0_kind_3 : decode cX0_kind 3 = .ok (.iconst 5, 1) := by decide +kernel
theorem dX0_kind_4 : decode cX0_kind 4 = .ok (.irem, 1) := by decide +kernel
theorem dX0_kind_5 : decode cX0_kind 5 = .ok (.ireturn, 1) := by decide +kernel
theorem dX0_month_0 : decode cX0_month 0 = .ok (.iload_n 1, 1) := by decide +kernel
theorem dX0_month_1 : decode cX0_month 1 = .ok (.bipush 20, 2) := by decide +kernel
theorem dX0_month_3 : decode cX0_month 3 = .ok (.idiv, 1) := by decide +kernel
theorem dX0_month_4 : decode cX0_month 4 = .ok (.ireturn, 1) := by decide +kernel
theorem dX0_remove_0 : decode cX0_remove 0 = .ok (.aload_n 0, 1) := by decide +kernel
theorem dX0_remove_1 : decode cX0_remove 1 = .ok (.getfield 52, 3) := by decide +kernel
theorem dX0_remove_4 : decode cX0_remove 4 = .ok (.ifCond .ne 6, 3) := by decide +kernel
theorem dX0_remove_7 : decode cX0_remove 7 = .ok (.ldc 65, 2) := by decide +kernel
theorem dX0_remove_9 : decode cX0_remove 9 = .ok (.ireturn, 1) := by decide +kernel
theorem dX0_remove_10 : decode cX0_remove 10 = .ok (.aload_n 0, 1) := by decide +kernel
theorem dX0_remove_11 : decode cX0_remove 11 = .ok (.dup, 1) := by decide +kernel
theorem dX0_remove_12 : decode cX0_remove 12 = .ok (.getfield 52, 3) := by decide +kernel
theorem dX0_remove_15 : decode cX0_remove 15 = .ok (.iconst 1, 1) := by decide +kernel
theorem dX0_remove_16 : decode cX0_remove 16 = .ok (.isub, 1) := by decide +kernel
theorem dX0_remove_17 : decode cX0_remove 17 = .ok (.putfield 52, 3) := by decide +kernel
theorem dX0_remove_20 : decode cX0_remove 20 = .ok (.aload_n 0, 1) := by decide +kernel
theorem dX0_remove_21 : decode cX0_remove 21 = .ok (.getfield 7, 3) := by decide +kernel
theorem dX0_remove_24 : decode cX0_remove 24 = .ok (.aload_n 0, 1) := by decide +kernel
theorem dX0_remove_25 : decode cX0_remove 25 = .ok (.getfield 52, 3) := by decide +kernel
theorem dX0_remove_28 : decode cX0_remove 28 = .ok (.iaload, 1) := by decide +kernel
theorem dX0_remove_29 : decode cX0_remove 29 = .ok (.istore_n 1, 1) := by decide +kernel
theorem dX0_remove_30 : decode cX0_remove 30 = .ok (.aload_n 0, 1) := by decide +kernel
theorem dX0_remove_31 : decode cX0_remove 31 = .ok (.getfield 16, 3) := by decide +kernel
theorem dX0_remove_34 : decode cX0_remove 34 = .ok (.iload_n 1, 1) := by decide +kernel
theorem dX0_remove_35 : decode cX0_remove 35 = .ok (.aload_n 0, 1) := by decide +kernel
theorem dX0_remove_36 : decode cX0_remove 36 = .ok (.getfield 19, 3) := by decide +kernel
theorem dX0_remove_39 : decode cX0_remove 39 = .ok (.aload_n 0, 1) := by decide +kernel
theorem dX0_remove_40 : decode cX0_remove 40 = .ok (.getfield 52, 3) := by decide +kernel
theorem dX0_remove_43 : decode cX0_remove 43 = .ok (.iaload, 1) := by decide +kernel
theorem dX0_remove_44 : decode cX0_remove 44 = .ok (.iastore, 1) := by decide +kernel
theorem dX0_remove_45 : decode cX0_remove 45 = .ok (.aload_n 0, 1) := by decide +kernel
theorem dX0_remove_46 : decode cX0_remove 46 = .ok (.iload_n 1, 1) := by decide +kernel
theorem dX0_remove_47 : decode cX0_remove 47 = .ok (.iconst (-1), 1) := by decide +kernel
theorem dX0_remove_48 : decode cX0_remove 48 = .ok (.aload_n 0, 1) := by decide +kernel
theorem dX0_remove_49 : decode cX0_remove 49 = .ok (.getfield 13, 3) := by decide +kernel
theorem dX0_remove_52 : decode cX0_remove 52 = .ok (.aload_n 0, 1) := by decide +kernel
theorem dX0_remove_53 : decode cX0_remove 53 = .ok (.getfield 52, 3) := by decide +kernel
theorem dX0_remove_56 : decode cX0_remove 56 = .ok (.iaload, 1) := by decide +kernel
theorem dX0_remove_57 : decode cX0_remove 57 = .ok (.ineg, 1) := by decide +kernel
theorem dX0_remove_58 : decode cX0_remove 58 = .ok (.invokevirtual 61, 3) := by decide +kernel
theorem dX0_remove_61 : decode cX0_remove 61 = .ok (.aload_n 0, 1) := by decide +kernel
theorem dX0_remove_62 : decode cX0_remove 62 = .ok (.getfield 13, 3) := by decide +kernel
theorem dX0_remove_65 : decode cX0_remove 65 = .ok (.aload_n 0, 1) := by decide +kernel
theorem dX0_remove_66 : decode cX0_remove 66 = .ok (.getfield 52, 3) := by decide +kernel
theorem dX0_remove_69 : decode cX0_remove 69 = .ok (.iaload, 1) := by decide +kernel
theorem dX0_remove_70 : decode cX0_remove 70 = .ok (.ireturn, 1) := by decide +kernel
theorem dX0_change_0 : decode cX0_change 0 = .ok (.iload_n 1, 1) := by decide +kernel
theorem dX0_change_1 : decode cX0_change 1 = .ok (.ifCond .lt 23, 3) := by decide +kernel
theorem dX0_change_4 : decode cX0_change 4 = .ok (.iload_n 1, 1) := by decide +kernel
theorem dX0_change_5 : decode cX0_change 5 = .ok (.aload_n 0, 1) := by decide +kernel
theorem dX0_change_6 : decode cX0_change 6 = .ok (.getfield 52, 3) := by decide +kernel
theorem dX0_change_9 : decode cX0_change 9 = .ok (.if_icmp .ge 15, 3) := by decide +kernel
theorem dX0_change_12 : decode cX0_change 12 = .ok (.iload_n 2, 1) := by decide +kernel
theorem dX0_change_13 : decode cX0_change 13 = .ok (.bipush (-50), 2) := by decide +kernel
theorem dX0_change_15 : decode cX0_change 15 = .ok (.if_icmp .lt 9, 3) := by decide +kernel
theorem dX0_change_18 : decode cX0_change 18 = .ok (.iload_n 2, 1) := by decide +kernel
theorem dX0_change_19 : decode cX0_change 19 = .ok (.bipush 50, 2) := by decide +kernel
theorem dX0_change_21 : decode cX0_change 21 = .ok (.if_icmp .le 6, 3) := by decide +kernel
theorem dX0_change_24 : decode cX0_change 24 = .ok (.ldc 59, 2) := by decide +kernel
theorem dX0_change_26 : decode cX0_change 26 = .ok (.ireturn, 1) := by decide +kernel
theorem dX0_change_27 : decode cX0_change 27 = .ok (.aload_n 0, 1) := by decide +kernel
theorem dX0_change_28 : decode cX0_change 28 = .ok (.getfield 13, 3) := by decide +kernel
theorem dX0_change_31 : decode cX0_change 31 = .ok (.iload_n 1, 1) := by decide +kernel
theorem dX0_change_32 : decode cX0_change 32 = .ok (.iaload, 1) := by decide +kernel
theorem dX0_change_33 : decode cX0_change 33 = .ok (.istore_n 3, 1) := by decide +kernel
theorem dX0_change_34 : decode cX0_change 34 = .ok (.aload_n 0, 1) := by decide +kernel
theorem dX0_change_35 : decode cX0_change 35 = .ok (.getfield 13, 3) := by decide +kernel
theorem dX0_change_38 : decode cX0_change 38 = .ok (.iload_n 1, 1) := by decide +kernel
theorem dX0_change_39 : decode cX0_change 39 = .ok (.iload_n 2, 1) := by decide +kernel
theorem dX0_change_40 : decode cX0_change 40 = .ok (.iastore, 1) := by decide +kernel
theorem dX0_change_41 : decode cX0_change 41 = .ok (.aload_n 0, 1) := by decide +kernel
theorem dX0_change_42 : decode cX0_change 42 = .ok (.aload_n 0, 1) := by decide +kernel
theorem dX0_change_43 : decode cX0_change 43 = .ok (.getfield 7, 3) := by decide +kernel
theorem dX0_change_46 : decode cX0_change 46 = .ok (.iload_n 1, 1) := by decide +kernel
theorem dX0_change_47 : decode cX0_change 47 = .ok (.iaload, 1) := by decide +kernel
theorem dX0_change_48 : decode cX0_change 48 = .ok (.iconst 0, 1) := by decide +kernel
theorem dX0_change_49 : decode cX0_change 49 = .ok (.iload_n 2, 1) := by decide +kernel
theorem dX0_change_50 : decode cX0_change 50 = .ok (.iload_n 3, 1) := by decide +kernel
theorem dX0_change_51 : decode cX0_change 51 = .ok (.isub, 1) := by decide +kernel
theorem dX0_change_52 : decode cX0_change 52 = .ok (.invokevirtual 61, 3) := by decide +kernel
theorem dX0_change_55 : decode cX0_change 55 = .ok (.iload_n 3, 1) := by decide +kernel
theorem dX0_change_56 : decode cX0_change 56 = .ok (.ireturn, 1) := by decide +kernel
theorem dX0_facts_0 : decode cX0_facts 0 = .ok (.aload_n 0, 1) := by decide +kernel
theorem dX0_facts_1 : decode cX0_facts 1 = .ok (.getfield 52, 3) := by decide +kernel
theorem dX0_facts_4 : decode cX0_facts 4 = .ok (.ireturn, 1) := by decide +kernel
theorem dX0_count_0 : decode cX0_count 0 = .ok (.aload_n 0, 1) := by decide +kernel
theorem dX0_count_1 : decode cX0_count 1 = .ok (.iload_n 1, 1) := by decide +kernel
theorem dX0_count_2 : decode cX0_count 2 = .ok (.invokevirtual 79, 3) := by decide +kernel
theorem dX0_count_5 : decode cX0_count 5 = .ok (.ifCond .eq 6, 3) := by decide +kernel
theorem dX0_count_8 : decode cX0_count 8 = .ok (.ldc 59, 2) := by decide +kernel
theorem dX0_count_10 : decode cX0_count 10 = .ok (.ireturn, 1) := by decide +kernel
theorem dX0_count_11 : decode cX0_count 11 = .ok (.aload_n 0, 1) := by decide +kernel
theorem dX0_count_12 : decode cX0_count 12 = .ok (.iconst 0, 1) := by decide +kernel
theorem dX0_count_13 : decode cX0_count 13 = .ok (.iload_n 1, 1) := by decide +kernel
theorem dX0_count_14 : decode cX0_count 14 = .ok (.invokevirtual 83, 3) := by decide +kernel
end
section
set_option maxRecDepth 100000
theorem dX0_count_17 : decode cX0_count 17 = .ok (.aload_n 0, 1) := by decide +kernel
theorem dX0_count_18 : decode cX0_count 18 = .ok (.getfield 32, 3) := by decide +kernel
theorem dX0_count_21 : decode cX0_count 21 = .ok (.iconst 0, 1) := by decide +kernel
theorem dX0_count_22 : decode cX0_count 22 = .ok (.iaload, 1) := by decide +kernel
theorem dX0_count_23 : decode cX0_count 23 = .ok (.ireturn, 1) := by decide +kernel
theorem dX0_badFilter_0 : decode cX0_badFilter 0 = .ok (.iload_n 1, 1) := by decide +kernel
theorem dX0_badFilter_1 : decode cX0_badFilter 1 = .ok (.ifCond .lt 10, 3) := by decide +kernel
theorem dX0_badFilter_4 : decode cX0_badFilter 4 = .ok (.iload_n 1, 1) := by decide +kernel
theorem dX0_badFilter_5 : decode cX0_badFilter 5 = .ok (.sipush 32767, 3) := by decide +kernel
theorem dX0_badFilter_8 : decode cX0_badFilter 8 = .ok (.if_icmp .le 7, 3) := by decide +kernel
theorem dX0_badFilter_11 : decode cX0_badFilter 11 = .ok (.iconst 1, 1) := by decide +kernel
theorem dX0_badFilter_12 : decode cX0_badFilter 12 = .ok (.goto 4, 3) := by decide +kernel
theorem dX0_badFilter_15 : decode cX0_badFilter 15 = .ok (.iconst 0, 1) := by decide +kernel
theorem dX0_badFilter_16 : decode cX0_badFilter 16 = .ok (.ireturn, 1) := by decide +kernel
theorem dX0_gather_0 : decode cX0_gather 0 = .ok (.iconst 0, 1) := by decide +kernel
theorem dX0_gather_1 : decode cX0_gather 1 = .ok (.istore_n 3, 1) := by decide +kernel
theorem dX0_gather_2 : decode cX0_gather 2 = .ok (.iload_n 3, 1) := by decide +kernel
theorem dX0_gather_3 : decode cX0_gather 3 = .ok (.bipush 120, 2) := by decide +kernel
theorem dX0_gather_5 : decode cX0_gather 5 = .ok (.if_icmp .ge 23, 3) := by decide +kernel
theorem dX0_gather_8 : decode cX0_gather 8 = .ok (.aload_n 0, 1) := by decide +kernel
theorem dX0_gather_9 : decode cX0_gather 9 = .ok (.getfield 32, 3) := by decide +kernel
theorem dX0_gather_12 : decode cX0_gather 12 = .ok (.iload_n 3, 1) := by decide +kernel
theorem dX0_gather_13 : decode cX0_gather 13 = .ok (.iconst 0, 1) := by decide +kernel
theorem dX0_gather_14 : decode cX0_gather 14 = .ok (.iastore, 1) := by decide +kernel
theorem dX0_gather_15 : decode cX0_gather 15 = .ok (.aload_n 0, 1) := by decide +kernel
theorem dX0_gather_16 : decode cX0_gather 16 = .ok (.getfield 35, 3) := by decide +kernel
theorem dX0_gather_19 : decode cX0_gather 19 = .ok (.iload_n 3, 1) := by decide +kernel
theorem dX0_gather_20 : decode cX0_gather 20 = .ok (.iconst 0, 1) := by decide +kernel
theorem dX0_gather_21 : decode cX0_gather 21 = .ok (.iastore, 1) := by decide +kernel
theorem dX0_gather_22 : decode cX0_gather 22 = .ok (.iinc 3 1, 3) := by decide +kernel
theorem dX0_gather_25 : decode cX0_gather 25 = .ok (.goto (-23), 3) := by decide +kernel
theorem dX0_gather_28 : decode cX0_gather 28 = .ok (.aload_n 0, 1) := by decide +kernel
theorem dX0_gather_29 : decode cX0_gather 29 = .ok (.iload_n 2, 1) := by decide +kernel
theorem dX0_gather_30 : decode cX0_gather 30 = .ok (.invokevirtual 66, 3) := by decide +kernel
theorem dX0_gather_33 : decode cX0_gather 33 = .ok (.iload_n 1, 1) := by decide +kernel
theorem dX0_gather_34 : decode cX0_gather 34 = .ok (.ior, 1) := by decide +kernel
theorem dX0_gather_35 : decode cX0_gather 35 = .ok (.istore_n 3, 1) := by decide +kernel
theorem dX0_gather_36 : decode cX0_gather 36 = .ok (.aload_n 0, 1) := by decide +kernel
theorem dX0_gather_37 : decode cX0_gather 37 = .ok (.iload_n 3, 1) := by decide +kernel
theorem dX0_gather_38 : decode cX0_gather 38 = .ok (.invokevirtual 69, 3) := by decide +kernel
theorem dX0_gather_41 : decode cX0_gather 41 = .ok (.istore 4, 2) := by decide +kernel
theorem dX0_gather_43 : decode cX0_gather 43 = .ok (.iload 4, 2) := by decide +kernel
theorem dX0_gather_45 : decode cX0_gather 45 = .ok (.ifCond .ge 67, 3) := by decide +kernel
theorem dX0_gather_48 : decode cX0_gather 48 = .ok (.iconst 0, 1) := by decide +kernel
theorem dX0_gather_49 : decode cX0_gather 49 = .ok (.istore 5, 2) := by decide +kernel
theorem dX0_gather_51 : decode cX0_gather 51 = .ok (.iload 5, 2) := by decide +kernel
theorem dX0_gather_53 : decode cX0_gather 53 = .ok (.aload_n 0, 1) := by decide +kernel
theorem dX0_gather_54 : decode cX0_gather 54 = .ok (.getfield 52, 3) := by decide +kernel
theorem dX0_gather_57 : decode cX0_gather 57 = .ok (.if_icmp .ge 54, 3) := by decide +kernel
theorem dX0_gather_60 : decode cX0_gather 60 = .ok (.aload_n 0, 1) := by decide +kernel
theorem dX0_gather_61 : decode cX0_gather 61 = .ok (.aload_n 0, 1) := by decide +kernel
theorem dX0_gather_62 : decode cX0_gather 62 = .ok (.getfield 7, 3) := by decide +kernel
theorem dX0_gather_65 : decode cX0_gather 65 = .ok (.iload 5, 2) := by decide +kernel
theorem dX0_gather_67 : decode cX0_gather 67 = .ok (.iaload, 1) := by decide +kernel
theorem dX0_gather_68 : decode cX0_gather 68 = .ok (.iload_n 2, 1) := by decide +kernel
theorem dX0_gather_69 : decode cX0_gather 69 = .ok (.bipush 7, 2) := by decide +kernel
theorem dX0_gather_71 : decode cX0_gather 71 = .ok (.invokevirtual 72, 3) := by decide +kernel
theorem dX0_gather_74 : decode cX0_gather 74 = .ok (.ifCond .eq 31, 3) := by decide +kernel
theorem dX0_gather_77 : decode cX0_gather 77 = .ok (.aload_n 0, 1) := by decide +kernel
theorem dX0_gather_78 : decode cX0_gather 78 = .ok (.aload_n 0, 1) := by decide +kernel
theorem dX0_gather_79 : decode cX0_gather 79 = .ok (.getfield 7, 3) := by decide +kernel
theorem dX0_gather_82 : decode cX0_gather 82 = .ok (.iload 5, 2) := by decide +kernel
theorem dX0_gather_84 : decode cX0_gather 84 = .ok (.iaload, 1) := by decide +kernel
theorem dX0_gather_85 : decode cX0_gather 85 = .ok (.iload_n 1, 1) := by decide +kernel
theorem dX0_gather_86 : decode cX0_gather 86 = .ok (.invokevirtual 48, 3) := by decide +kernel
theorem dX0_gather_89 : decode cX0_gather 89 = .ok (.istore 6, 2) := by decide +kernel
theorem dX0_gather_91 : decode cX0_gather 91 = .ok (.aload_n 0, 1) := by decide +kernel
theorem dX0_gather_92 : decode cX0_gather 92 = .ok (.iload 6, 2) := by decide +kernel
theorem dX0_gather_94 : decode cX0_gather 94 = .ok (.iconst 1, 1) := by decide +kernel
theorem dX0_gather_95 : decode cX0_gather 95 = .ok (.aload_n 0, 1) := by decide +kernel
theorem dX0_gather_96 : decode cX0_gather 96 = .ok (.getfield 13, 3) := by decide +kernel
theorem dX0_gather_99 : decode cX0_gather 99 = .ok (.iload 5, 2) := by decide +kernel
theorem dX0_gather_101 : decode cX0_gather 101 = .ok (.iaload, 1) := by decide +kernel
theorem dX0_gather_102 : decode cX0_gather 102 = .ok (.invokevirtual 76, 3) := by decide +kernel
theorem dX0_gather_105 : decode cX0_gather 105 = .ok (.iinc 5 1, 3) := by decide +kernel
theorem dX0_gather_108 : decode cX0_gather 108 = .ok (.goto (-57), 3) := by decide +kernel
theorem dX0_gather_111 : decode cX0_gather 111 = .ok (.return_, 1) := by decide +kernel
theorem dX0_gather_112 : decode cX0_gather 112 = .ok (.iconst 0, 1) := by decide +kernel
theorem dX0_gather_113 : decode cX0_gather 113 = .ok (.istore 5, 2) := by decide +kernel
theorem dX0_gather_115 : decode cX0_gather 115 = .ok (.iload 5, 2) := by decide +kernel
theorem dX0_gather_117 : decode cX0_gather 117 = .ok (.bipush 120, 2) := by decide +kernel
theorem dX0_gather_119 : decode cX0_gather 119 = .ok (.if_icmp .ge 77, 3) := by decide +kernel
theorem dX0_gather_122 : decode cX0_gather 122 = .ok (.aload_n 0, 1) := by decide +kernel
theorem dX0_gather_123 : decode cX0_gather 123 = .ok (.getfield 26, 3) := by decide +kernel
theorem dX0_gather_126 : decode cX0_gather 126 = .ok (.bipush 120, 2) := by decide +kernel
theorem dX0_gather_128 : decode cX0_gather 128 = .ok (.iload 4, 2) := by decide +kernel
theorem dX0_gather_130 : decode cX0_gather 130 = .ok (.imul, 1) := by decide +kernel
theorem dX0_gather_131 : decode cX0_gather 131 = .ok (.iload 5, 2) := by decide +kernel
theorem dX0_gather_133 : decode cX0_gather 133 = .ok (.iadd, 1) := by decide +kernel
theorem dX0_gather_134 : decode cX0_gather 134 = .ok (.iaload, 1) := by decide +kernel
theorem dX0_gather_135 : decode cX0_gather 135 = .ok (.ifCond .le 55, 3) := by decide +kernel
theorem dX0_gather_138 : decode cX0_gather 138 = .ok (.aload_n 0, 1) := by decide +kernel
theorem dX0_gather_139 : decode cX0_gather 139 = .ok (.iload 5, 2) := by decide +kernel
theorem dX0_gather_141 : decode cX0_gather 141 = .ok (.iload_n 2, 1) := by decide +kernel
theorem dX0_gather_142 : decode cX0_gather 142 = .ok (.iload_n 3, 1) := by decide +kernel
theorem dX0_gather_143 : decode cX0_gather 143 = .ok (.invokevirtual 72, 3) := by decide +kernel
theorem dX0_gather_146 : decode cX0_gather 146 = .ok (.ifCond .eq 44, 3) := by decide +kernel
theorem dX0_gather_149 : decode cX0_gather 149 = .ok (.aload_n 0, 1) := by decide +kernel
theorem dX0_gather_150 : decode cX0_gather 150 = .ok (.iload 5, 2) := by decide +kernel
theorem dX0_gather_152 : decode cX0_gather 152 = .ok (.iload_n 1, 1) := by decide +kernel
theorem dX0_gather_153 : decode cX0_gather 153 = .ok (.invokevirtual 48, 3) := by decide +kernel
theorem dX0_gather_156 : decode cX0_gather 156 = .ok (.istore 6, 2) := by decide +kernel
theorem dX0_gather_158 : decode cX0_gather 158 = .ok (.aload_n 0, 1) := by decide +kernel
theorem dX0_gather_159 : decode cX0_gather 159 = .ok (.iload 6, 2) := by decide +kernel
theorem dX0_gather_161 : decode cX0_gather 161 = .ok (.aload_n 0, 1) := by decide +kernel
theorem dX0_gather_162 : decode cX0_gather 162 = .ok (.getfield 26, 3) := by decide +kernel
theorem dX0_gather_165 : decode cX0_gather 165 = .ok (.bipush 120, 2) := by decide +kernel
theorem dX0_gather_167 : decode cX0_gather 167 = .ok (.iload 4, 2) := by decide +kernel
theorem dX0_gather_169 : decode cX0_gather 169 = .ok (.imul, 1) := by decide +kernel
theorem dX0_gather_170 : decode cX0_gather 170 = .ok (.iload 5, 2) := by decide +kernel
theorem dX0_gather_172 : decode cX0_gather 172 = .ok (.iadd, 1) := by decide +kernel
theorem dX0_gather_173 : decode cX0_gather 173 = .ok (.iaload, 1) := by decide +kernel
theorem dX0_gather_174 : decode cX0_gather 174 = .ok (.aload_n 0, 1) := by decide +kernel
theorem dX0_gather_175 : decode cX0_gather 175 = .ok (.getfield 29, 3) := by decide +kernel
theorem dX0_gather_178 : decode cX0_gather 178 = .ok (.bipush 120, 2) := by decide +kernel
theorem dX0_gather_180 : decode cX0_gather 180 = .ok (.iload 4, 2) := by decide +kernel
theorem dX0_gather_182 : decode cX0_gather 182 = .ok (.imul, 1) := by decide +kernel
theorem dX0_gather_183 : decode cX0_gather 183 = .ok (.iload 5, 2) := by decide +kernel
theorem dX0_gather_185 : decode cX0_gather 185 = .ok (.iadd, 1) := by decide +kernel
theorem dX0_gather_186 : decode cX0_gather 186 = .ok (.iaload, 1) := by decide +kernel
theorem dX0_gather_187 : decode cX0_gather 187 = .ok (.invokevirtual 76, 3) := by decide +kernel
theorem dX0_gather_190 : decode cX0_gather 190 = .ok (.iinc 5 1, 3) := by decide +kernel
theorem dX0_gather_193 : decode cX0_gather 193 = .ok (.goto (-78), 3) := by decide +kernel
theorem dX0_gather_196 : decode cX0_gather 196 = .ok (.return_, 1) := by decide +kernel
theorem dX0_cuts_0 : decode cX0_cuts 0 = .ok (.iload_n 1, 1) := by decide +kernel
theorem dX0_cuts_1 : decode cX0_cuts 1 = .ok (.bipush 15, 2) := by decide +kernel
theorem dX0_cuts_3 : decode cX0_cuts 3 = .ok (.iand, 1) := by decide +kernel
theorem dX0_cuts_4 : decode cX0_cuts 4 = .ok (.bipush 15, 2) := by decide +kernel
theorem dX0_cuts_6 : decode cX0_cuts 6 = .ok (.if_icmp .ne 7, 3) := by decide +kernel
theorem dX0_cuts_9 : decode cX0_cuts 9 = .ok (.iconst 0, 1) := by decide +kernel
theorem dX0_cuts_10 : decode cX0_cuts 10 = .ok (.goto 4, 3) := by decide +kernel
theorem dX0_cuts_13 : decode cX0_cuts 13 = .ok (.iconst 1, 1) := by decide +kernel
theorem dX0_cuts_14 : decode cX0_cuts 14 = .ok (.istore_n 2, 1) := by decide +kernel
theorem dX0_cuts_15 : decode cX0_cuts 15 = .ok (.iload_n 1, 1) := by decide +kernel
theorem dX0_cuts_16 : decode cX0_cuts 16 = .ok (.iconst 4, 1) := by decide +kernel
theorem dX0_cuts_17 : decode cX0_cuts 17 = .ok (.ishr, 1) := by decide +kernel
theorem dX0_cuts_18 : decode cX0_cuts 18 = .ok (.bipush 31, 2) := by decide +kernel
theorem dX0_cuts_20 : decode cX0_cuts 20 = .ok (.iand, 1) := by decide +kernel
theorem dX0_cuts_21 : decode cX0_cuts 21 = .ok (.bipush 31, 2) := by decide +kernel
theorem dX0_cuts_23 : decode cX0_cuts 23 = .ok (.if_icmp .ne 7, 3) := by decide +kernel
theorem dX0_cuts_26 : decode cX0_cuts 26 = .ok (.iload_n 2, 1) := by decide +kernel
theorem dX0_cuts_27 : decode cX0_cuts 27 = .ok (.goto 6, 3) := by decide +kernel
theorem dX0_cuts_30 : decode cX0_cuts 30 = .ok (.iload_n 2, 1) := by decide +kernel
theorem dX0_cuts_31 : decode cX0_cuts 31 = .ok (.iconst 2, 1) := by decide +kernel
theorem dX0_cuts_32 : decode cX0_cuts 32 = .ok (.ior, 1) := by decide +kernel
theorem dX0_cuts_33 : decode cX0_cuts 33 = .ok (.istore_n 2, 1) := by decide +kernel
theorem dX0_cuts_34 : decode cX0_cuts 34 = .ok (.iload_n 1, 1) := by decide +kernel
theorem dX0_cuts_35 : decode cX0_cuts 35 = .ok (.bipush 9, 2) := by decide +kernel
theorem dX0_cuts_37 : decode cX0_cuts 37 = .ok (.ishr, 1) := by decide +kernel
theorem dX0_cuts_38 : decode cX0_cuts 38 = .ok (.bipush 63, 2) := by decide +kernel
theorem dX0_cuts_40 : decode cX0_cuts 40 = .ok (.if_icmp .ne 7, 3) := by decide +kernel
theorem dX0_cuts_43 : decode cX0_cuts 43 = .ok (.iload_n 2, 1) := by decide +kernel
theorem dX0_cuts_44 : decode cX0_cuts 44 = .ok (.goto 6, 3) := by decide +kernel
theorem dX0_cuts_47 : decode cX0_cuts 47 = .ok (.iload_n 2, 1) := by decide +kernel
theorem dX0_cuts_48 : decode cX0_cuts 48 = .ok (.iconst 4, 1) := by decide +kernel
theorem dX0_cuts_49 : decode cX0_cuts 49 = .ok (.ior, 1) := by decide +kernel
theorem dX0_cuts_50 : decode cX0_cuts 50 = .ok (.ireturn, 1) := by decide +kernel
theorem dX0_smallest_0 : decode cX0_smallest 0 = .ok (.iconst (-1), 1) := by decide +kernel
theorem dX0_smallest_1 : decode cX0_smallest 1 = .ok (.istore_n 2, 1) := by decide +kernel
theorem dX0_smallest_2 : decode cX0_smallest 2 = .ok (.iconst 0, 1) := by decide +kernel
theorem dX0_smallest_3 : decode cX0_smallest 3 = .ok (.istore_n 3, 1) := by decide +kernel
theorem dX0_smallest_4 : decode cX0_smallest 4 = .ok (.iload_n 3, 1) := by decide +kernel
theorem dX0_smallest_5 : decode cX0_smallest 5 = .ok (.bipush 8, 2) := by decide +kernel
theorem dX0_smallest_7 : decode cX0_smallest 7 = .ok (.if_icmp .ge 44, 3) := by decide +kernel
theorem dX0_smallest_10 : decode cX0_smallest 10 = .ok (.aload_n 0, 1) := by decide +kernel
theorem dX0_smallest_11 : decode cX0_smallest 11 = .ok (.getfield 22, 3) := by decide +kernel
theorem dX0_smallest_14 : decode cX0_smallest 14 = .ok (.iload_n 3, 1) := by decide +kernel
theorem dX0_smallest_15 : decode cX0_smallest 15 = .ok (.baload, 1) := by decide +kernel
theorem dX0_smallest_16 : decode cX0_smallest 16 = .ok (.ifCond .eq 29, 3) := by decide +kernel
theorem dX0_smallest_19 : decode cX0_smallest 19 = .ok (.iload_n 3, 1) := by decide +kernel
theorem dX0_smallest_20 : decode cX0_smallest 20 = .ok (.iload_n 1, 1) := by decide +kernel
theorem dX0_smallest_21 : decode cX0_smallest 21 = .ok (.iand, 1) := by decide +kernel
theorem dX0_smallest_22 : decode cX0_smallest 22 = .ok (.iload_n 1, 1) := by decide +kernel
theorem dX0_smallest_23 : decode cX0_smallest 23 = .ok (.if_icmp .ne 22, 3) := by decide +kernel
theorem dX0_smallest_26 : decode cX0_smallest 26 = .ok (.iload_n 2, 1) := by decide +kernel
theorem dX0_smallest_27 : decode cX0_smallest 27 = .ok (.ifCond .lt 16, 3) := by decide +kernel
theorem dX0_smallest_30 : decode cX0_smallest 30 = .ok (.aload_n 0, 1) := by decide +kernel
theorem dX0_smallest_31 : decode cX0_smallest 31 = .ok (.iload_n 3, 1) := by decide +kernel
theorem dX0_smallest_32 : decode cX0_smallest 32 = .ok (.invokevirtual 56, 3) := by decide +kernel
theorem dX0_smallest_35 : decode cX0_smallest 35 = .ok (.aload_n 0, 1) := by decide +kernel
theorem dX0_smallest_36 : decode cX0_smallest 36 = .ok (.iload_n 2, 1) := by decide +kernel
theorem dX0_smallest_37 : decode cX0_smallest 37 = .ok (.invokevirtual 56, 3) := by decide +kernel
theorem dX0_smallest_40 : decode cX0_smallest 40 = .ok (.if_icmp .ge 5, 3) := by decide +kernel
theorem dX0_smallest_43 : decode cX0_smallest 43 = .ok (.iload_n 3, 1) := by decide +kernel
theorem dX0_smallest_44 : decode cX0_smallest 44 = .ok (.istore_n 2, 1) := by decide +kernel
theorem dX0_smallest_45 : decode cX0_smallest 45 = .ok (.iinc 3 1, 3) := by decide +kernel
theorem dX0_smallest_48 : decode cX0_smallest 48 = .ok (.goto (-44), 3) := by decide +kernel
theorem dX0_smallest_51 : decode cX0_smallest 51 = .ok (.iload_n 2, 1) := by decide +kernel
theorem dX0_smallest_52 : decode cX0_smallest 52 = .ok (.ireturn, 1) := by decide +kernel
theorem dX0_cells_0 : decode cX0_cells 0 = .ok (.iload_n 1, 1) := by decide +kernel
theorem dX0_cells_1 : decode cX0_cells 1 = .ok (.iconst 1, 1) := by decide +kernel
theorem dX0_cells_2 : decode cX0_cells 2 = .ok (.iand, 1) := by decide +kernel
theorem dX0_cells_3 : decode cX0_cells 3 = .ok (.ifCond .ne 7, 3) := by decide +kernel
theorem dX0_cells_6 : decode cX0_cells 6 = .ok (.iconst 1, 1) := by decide +kernel
theorem dX0_cells_7 : decode cX0_cells 7 = .ok (.goto 4, 3) := by decide +kernel
theorem dX0_cells_10 : decode cX0_cells 10 = .ok (.iconst 4, 1) := by decide +kernel
theorem dX0_cells_11 : decode cX0_cells 11 = .ok (.istore_n 2, 1) := by decide +kernel
theorem dX0_cells_12 : decode cX0_cells 12 = .ok (.iload_n 1, 1) := by decide +kernel
theorem dX0_cells_13 : decode cX0_cells 13 = .ok (.iconst 2, 1) := by decide +kernel
theorem dX0_cells_14 : decode cX0_cells 14 = .ok (.iand, 1) := by decide +kernel
theorem dX0_cells_15 : decode cX0_cells 15 = .ok (.ifCond .ne 7, 3) := by decide +kernel
theorem dX0_cells_18 : decode cX0_cells 18 = .ok (.iload_n 2, 1) := by decide +kernel
theorem dX0_cells_19 : decode cX0_cells 19 = .ok (.goto 6, 3) := by decide +kernel
theorem dX0_cells_22 : decode cX0_cells 22 = .ok (.iload_n 2, 1) := by decide +kernel
theorem dX0_cells_23 : decode cX0_cells 23 = .ok (.iconst 5, 1) := by decide +kernel
theorem dX0_cells_24 : decode cX0_cells 24 = .ok (.imul, 1) := by decide +kernel
theorem dX0_cells_25 : decode cX0_cells 25 = .ok (.istore_n 2, 1) := by decide +kernel
theorem dX0_cells_26 : decode cX0_cells 26 = .ok (.iload_n 1, 1) := by decide +kernel
theorem dX0_cells_27 : decode cX0_cells 27 = .ok (.iconst 4, 1) := by decide +kernel
theorem dX0_cells_28 : decode cX0_cells 28 = .ok (.iand, 1) := by decide +kernel
theorem dX0_cells_29 : decode cX0_cells 29 = .ok (.ifCond .ne 7, 3) := by decide +kernel
theorem dX0_cells_32 : decode cX0_cells 32 = .ok (.iload_n 2, 1) := by decide +kernel
theorem dX0_cells_33 : decode cX0_cells 33 = .ok (.goto 7, 3) := by decide +kernel
theorem dX0_cells_36 : decode cX0_cells 36 = .ok (.iload_n 2, 1) := by decide +kernel
theorem dX0_cells_37 : decode cX0_cells 37 = .ok (.bipush 6, 2) := by decide +kernel
theorem dX0_cells_39 : decode cX0_cells 39 = .ok (.imul, 1) := by decide +kernel
theorem dX0_cells_40 : decode cX0_cells 40 = .ok (.ireturn, 1) := by decide +kernel
theorem dX0_passes_0 : decode cX0_passes 0 = .ok (.iload_n 3, 1) := by decide +kernel
theorem dX0_passes_1 : decode cX0_passes 1 = .ok (.iconst 1, 1) := by decide +kernel
theorem dX0_passes_2 : decode cX0_passes 2 = .ok (.iand, 1) := by decide +kernel
theorem dX0_passes_3 : decode cX0_passes 3 = .ok (.ifCond .eq 16, 3) := by decide +kernel
theorem dX0_passes_6 : decode cX0_passes 6 = .ok (.iload_n 2, 1) := by decide +kernel
theorem dX0_passes_7 : decode cX0_passes 7 = .ok (.aload_n 0, 1) := by decide +kernel
theorem dX0_passes_8 : decode cX0_passes 8 = .ok (.iload_n 1, 1) := by decide +kernel
theorem dX0_passes_9 : decode cX0_passes 9 = .ok (.invokevirtual 38, 3) := by decide +kernel
theorem dX0_passes_12 : decode cX0_passes 12 = .ok (.ishr, 1) := by decide +kernel
theorem dX0_passes_13 : decode cX0_passes 13 = .ok (.iconst 1, 1) := by decide +kernel
theorem dX0_passes_14 : decode cX0_passes 14 = .ok (.iand, 1) := by decide +kernel
theorem dX0_passes_15 : decode cX0_passes 15 = .ok (.iconst 1, 1) := by decide +kernel
theorem dX0_passes_16 : decode cX0_passes 16 = .ok (.if_icmp .ne 7, 3) := by decide +kernel
theorem dX0_passes_19 : decode cX0_passes 19 = .ok (.iconst 1, 1) := by decide +kernel
theorem dX0_passes_20 : decode cX0_passes 20 = .ok (.goto 4, 3) := by decide +kernel
theorem dX0_passes_23 : decode cX0_passes 23 = .ok (.iconst 0, 1) := by decide +kernel
theorem dX0_passes_24 : decode cX0_passes 24 = .ok (.istore 4, 2) := by decide +kernel
theorem dX0_passes_26 : decode cX0_passes 26 = .ok (.iload_n 3, 1) := by decide +kernel
theorem dX0_passes_27 : decode cX0_passes 27 = .ok (.iconst 2, 1) := by decide +kernel
theorem dX0_passes_28 : decode cX0_passes 28 = .ok (.iand, 1) := by decide +kernel
theorem dX0_passes_29 : decode cX0_passes 29 = .ok (.ifCond .eq 18, 3) := by decide +kernel
theorem dX0_passes_32 : decode cX0_passes 32 = .ok (.iload_n 2, 1) := by decide +kernel
theorem dX0_passes_33 : decode cX0_passes 33 = .ok (.iconst 4, 1) := by decide +kernel
theorem dX0_passes_34 : decode cX0_passes 34 = .ok (.aload_n 0, 1) := by decide +kernel
theorem dX0_passes_35 : decode cX0_passes 35 = .ok (.iload_n 1, 1) := by decide +kernel
theorem dX0_passes_36 : decode cX0_passes 36 = .ok (.invokevirtual 42, 3) := by decide +kernel
theorem dX0_passes_39 : decode cX0_passes 39 = .ok (.iadd, 1) := by decide +kernel
theorem dX0_passes_40 : decode cX0_passes 40 = .ok (.ishr, 1) := by decide +kernel
theorem dX0_passes_41 : decode cX0_passes 41 = .ok (.iconst 1, 1) := by decide +kernel
theorem dX0_passes_42 : decode cX0_passes 42 = .ok (.iand, 1) := by decide +kernel
theorem dX0_passes_43 : decode cX0_passes 43 = .ok (.iconst 1, 1) := by decide +kernel
theorem dX0_passes_44 : decode cX0_passes 44 = .ok (.if_icmp .ne 7, 3) := by decide +kernel
theorem dX0_passes_47 : decode cX0_passes 47 = .ok (.iconst 1, 1) := by decide +kernel
theorem dX0_passes_48 : decode cX0_passes 48 = .ok (.goto 4, 3) := by decide +kernel
theorem dX0_passes_51 : decode cX0_passes 51 = .ok (.iconst 0, 1) := by decide +kernel
theorem dX0_passes_52 : decode cX0_passes 52 = .ok (.istore 5, 2) := by decide +kernel
theorem dX0_passes_54 : decode cX0_passes 54 = .ok (.iload_n 3, 1) := by decide +kernel
theorem dX0_passes_55 : decode cX0_passes 55 = .ok (.iconst 4, 1) := by decide +kernel
theorem dX0_passes_56 : decode cX0_passes 56 = .ok (.iand, 1) := by decide +kernel
theorem dX0_passes_57 : decode cX0_passes 57 = .ok (.ifCond .eq 19, 3) := by decide +kernel
theorem dX0_passes_60 : decode cX0_passes 60 = .ok (.iload_n 2, 1) := by decide +kernel
theorem dX0_passes_61 : decode cX0_passes 61 = .ok (.bipush 9, 2) := by decide +kernel
theorem dX0_passes_63 : decode cX0_passes 63 = .ok (.aload_n 0, 1) := by decide +kernel
theorem dX0_passes_64 : decode cX0_passes 64 = .ok (.iload_n 1, 1) := by decide +kernel
theorem dX0_passes_65 : decode cX0_passes 65 = .ok (.invokevirtual 45, 3) := by decide +kernel
theorem dX0_passes_68 : decode cX0_passes 68 = .ok (.iadd, 1) := by decide +kernel
theorem dX0_passes_69 : decode cX0_passes 69 = .ok (.ishr, 1) := by decide +kernel
theorem dX0_passes_70 : decode cX0_passes 70 = .ok (.iconst 1, 1) := by decide +kernel
theorem dX0_passes_71 : decode cX0_passes 71 = .ok (.iand, 1) := by decide +kernel
theorem dX0_passes_72 : decode cX0_passes 72 = .ok (.iconst 1, 1) := by decide +kernel
theorem dX0_passes_73 : decode cX0_passes 73 = .ok (.if_icmp .ne 7, 3) := by decide +kernel
theorem dX0_passes_76 : decode cX0_passes 76 = .ok (.iconst 1, 1) := by decide +kernel
theorem dX0_passes_77 : decode cX0_passes 77 = .ok (.goto 4, 3) := by decide +kernel
theorem dX0_passes_80 : decode cX0_passes 80 = .ok (.iconst 0, 1) := by decide +kernel
theorem dX0_passes_81 : decode cX0_passes 81 = .ok (.istore 6, 2) := by decide +kernel
theorem dX0_passes_83 : decode cX0_passes 83 = .ok (.iload 4, 2) := by decide +kernel
theorem dX0_passes_85 : decode cX0_passes 85 = .ok (.ifCond .eq 17, 3) := by decide +kernel
theorem dX0_passes_88 : decode cX0_passes 88 = .ok (.iload 5, 2) := by decide +kernel
theorem dX0_passes_90 : decode cX0_passes 90 = .ok (.ifCond .eq 12, 3) := by decide +kernel
theorem dX0_passes_93 : decode cX0_passes 93 = .ok (.iload 6, 2) := by decide +kernel
theorem dX0_passes_95 : decode cX0_passes 95 = .ok (.ifCond .eq 7, 3) := by decide +kernel
theorem dX0_passes_98 : decode cX0_passes 98 = .ok (.iconst 1, 1) := by decide +kernel
theorem dX0_passes_99 : decode cX0_passes 99 = .ok (.goto 4, 3) := by decide +kernel
theorem dX0_passes_102 : decode cX0_passes 102 = .ok (.iconst 0, 1) := by decide +kernel
theorem dX0_passes_103 : decode cX0_passes 103 = .ok (.ireturn, 1) := by decide +kernel
theorem dX0_note_0 : decode cX0_note 0 = .ok (.aload_n 0, 1) := by decide +kernel
theorem dX0_note_1 : decode cX0_note 1 = .ok (.getfield 32, 3) := by decide +kernel
theorem dX0_note_4 : decode cX0_note 4 = .ok (.iload_n 1, 1) := by decide +kernel
theorem dX0_note_5 : decode cX0_note 5 = .ok (.aload_n 0, 1) := by decide +kernel
theorem dX0_note_6 : decode cX0_note 6 = .ok (.getfield 32, 3) := by decide +kernel
theorem dX0_note_9 : decode cX0_note 9 = .ok (.iload_n 1, 1) := by decide +kernel
theorem dX0_note_10 : decode cX0_note 10 = .ok (.iaload, 1) := by decide +kernel
theorem dX0_note_11 : decode cX0_note 11 = .ok (.iload_n 2, 1) := by decide +kernel
theorem dX0_note_12 : decode cX0_note 12 = .ok (.iadd, 1) := by decide +kernel
theorem dX0_note_13 : decode cX0_note 13 = .ok (.iastore, 1) := by decide +kernel
theorem dX0_note_14 : decode cX0_note 14 = .ok (.aload_n 0, 1) := by decide +kernel
theorem dX0_note_15 : decode cX0_note 15 = .ok (.getfield 35, 3) := by decide +kernel
theorem dX0_note_18 : decode cX0_note 18 = .ok (.iload_n 1, 1) := by decide +kernel
theorem dX0_note_19 : decode cX0_note 19 = .ok (.aload_n 0, 1) := by decide +kernel
theorem dX0_note_20 : decode cX0_note 20 = .ok (.getfield 35, 3) := by decide +kernel
theorem dX0_note_23 : decode cX0_note 23 = .ok (.iload_n 1, 1) := by decide +kernel
theorem dX0_note_24 : decode cX0_note 24 = .ok (.iaload, 1) := by decide +kernel
theorem dX0_note_25 : decode cX0_note 25 = .ok (.iload_n 3, 1) := by decide +kernel
end
section
set_option maxRecDepth 100000
theorem dX0_note_26 : decode cX0_note 26 = .ok (.iadd, 1) := by decide +kernel
theorem dX0_note_27 : decode cX0_note 27 = .ok (.iastore, 1) := by decide +kernel
theorem dX0_note_28 : decode cX0_note 28 = .ok (.return_, 1) := by decide +kernel
theorem dX0_sum_0 : decode cX0_sum 0 = .ok (.aload_n 0, 1) := by decide +kernel
theorem dX0_sum_1 : decode cX0_sum 1 = .ok (.iload_n 1, 1) := by decide +kernel
theorem dX0_sum_2 : decode cX0_sum 2 = .ok (.invokevirtual 79, 3) := by decide +kernel
theorem dX0_sum_5 : decode cX0_sum 5 = .ok (.ifCond .eq 6, 3) := by decide +kernel
theorem dX0_sum_8 : decode cX0_sum 8 = .ok (.ldc 59, 2) := by decide +kernel
theorem dX0_sum_10 : decode cX0_sum 10 = .ok (.ireturn, 1) := by decide +kernel
theorem dX0_sum_11 : decode cX0_sum 11 = .ok (.aload_n 0, 1) := by decide +kernel
theorem dX0_sum_12 : decode cX0_sum 12 = .ok (.iconst 0, 1) := by decide +kernel
theorem dX0_sum_13 : decode cX0_sum 13 = .ok (.iload_n 1, 1) := by decide +kernel
theorem dX0_sum_14 : decode cX0_sum 14 = .ok (.invokevirtual 83, 3) := by decide +kernel
theorem dX0_sum_17 : decode cX0_sum 17 = .ok (.aload_n 0, 1) := by decide +kernel
theorem dX0_sum_18 : decode cX0_sum 18 = .ok (.getfield 35, 3) := by decide +kernel
theorem dX0_sum_21 : decode cX0_sum 21 = .ok (.iconst 0, 1) := by decide +kernel
theorem dX0_sum_22 : decode cX0_sum 22 = .ok (.iaload, 1) := by decide +kernel
theorem dX0_sum_23 : decode cX0_sum 23 = .ok (.ireturn, 1) := by decide +kernel
theorem dX0_greatest_0 : decode cX0_greatest 0 = .ok (.aload_n 0, 1) := by decide +kernel
theorem dX0_greatest_1 : decode cX0_greatest 1 = .ok (.iload_n 1, 1) := by decide +kernel
theorem dX0_greatest_2 : decode cX0_greatest 2 = .ok (.invokevirtual 79, 3) := by decide +kernel
theorem dX0_greatest_5 : decode cX0_greatest 5 = .ok (.ifCond .eq 6, 3) := by decide +kernel
theorem dX0_greatest_8 : decode cX0_greatest 8 = .ok (.ldc 59, 2) := by decide +kernel
theorem dX0_greatest_10 : decode cX0_greatest 10 = .ok (.ireturn, 1) := by decide +kernel
theorem dX0_greatest_11 : decode cX0_greatest 11 = .ok (.ldc 65, 2) := by decide +kernel
theorem dX0_greatest_13 : decode cX0_greatest 13 = .ok (.istore_n 2, 1) := by decide +kernel
theorem dX0_greatest_14 : decode cX0_greatest 14 = .ok (.iconst 0, 1) := by decide +kernel
theorem dX0_greatest_15 : decode cX0_greatest 15 = .ok (.istore_n 3, 1) := by decide +kernel
theorem dX0_greatest_16 : decode cX0_greatest 16 = .ok (.iload_n 3, 1) := by decide +kernel
theorem dX0_greatest_17 : decode cX0_greatest 17 = .ok (.bipush 120, 2) := by decide +kernel
theorem dX0_greatest_19 : decode cX0_greatest 19 = .ok (.if_icmp .ge 49, 3) := by decide +kernel
theorem dX0_greatest_22 : decode cX0_greatest 22 = .ok (.aload_n 0, 1) := by decide +kernel
theorem dX0_greatest_23 : decode cX0_greatest 23 = .ok (.getfield 16, 3) := by decide +kernel
theorem dX0_greatest_26 : decode cX0_greatest 26 = .ok (.iload_n 3, 1) := by decide +kernel
theorem dX0_greatest_27 : decode cX0_greatest 27 = .ok (.iaload, 1) := by decide +kernel
theorem dX0_greatest_28 : decode cX0_greatest 28 = .ok (.ifCond .lt 34, 3) := by decide +kernel
theorem dX0_greatest_31 : decode cX0_greatest 31 = .ok (.aload_n 0, 1) := by decide +kernel
theorem dX0_greatest_32 : decode cX0_greatest 32 = .ok (.iload_n 3, 1) := by decide +kernel
theorem dX0_greatest_33 : decode cX0_greatest 33 = .ok (.iload_n 1, 1) := by decide +kernel
theorem dX0_greatest_34 : decode cX0_greatest 34 = .ok (.bipush 7, 2) := by decide +kernel
theorem dX0_greatest_36 : decode cX0_greatest 36 = .ok (.invokevirtual 72, 3) := by decide +kernel
theorem dX0_greatest_39 : decode cX0_greatest 39 = .ok (.ifCond .eq 23, 3) := by decide +kernel
theorem dX0_greatest_42 : decode cX0_greatest 42 = .ok (.aload_n 0, 1) := by decide +kernel
theorem dX0_greatest_43 : decode cX0_greatest 43 = .ok (.iload_n 3, 1) := by decide +kernel
theorem dX0_greatest_44 : decode cX0_greatest 44 = .ok (.invokevirtual 87, 3) := by decide +kernel
theorem dX0_greatest_47 : decode cX0_greatest 47 = .ok (.istore 4, 2) := by decide +kernel
theorem dX0_greatest_49 : decode cX0_greatest 49 = .ok (.iload 4, 2) := by decide +kernel
theorem dX0_greatest_51 : decode cX0_greatest 51 = .ok (.iload_n 2, 1) := by decide +kernel
theorem dX0_greatest_52 : decode cX0_greatest 52 = .ok (.if_icmp .le 8, 3) := by decide +kernel
theorem dX0_greatest_55 : decode cX0_greatest 55 = .ok (.iload 4, 2) := by decide +kernel
theorem dX0_greatest_57 : decode cX0_greatest 57 = .ok (.goto 4, 3) := by decide +kernel
theorem dX0_greatest_60 : decode cX0_greatest 60 = .ok (.iload_n 2, 1) := by decide +kernel
theorem dX0_greatest_61 : decode cX0_greatest 61 = .ok (.istore_n 2, 1) := by decide +kernel
theorem dX0_greatest_62 : decode cX0_greatest 62 = .ok (.iinc 3 1, 3) := by decide +kernel
theorem dX0_greatest_65 : decode cX0_greatest 65 = .ok (.goto (-49), 3) := by decide +kernel
theorem dX0_greatest_68 : decode cX0_greatest 68 = .ok (.iload_n 2, 1) := by decide +kernel
theorem dX0_greatest_69 : decode cX0_greatest 69 = .ok (.ireturn, 1) := by decide +kernel
theorem dX0_greatestAt_0 : decode cX0_greatestAt 0 = .ok (.ldc 65, 2) := by decide +kernel
theorem dX0_greatestAt_2 : decode cX0_greatestAt 2 = .ok (.istore_n 2, 1) := by decide +kernel
theorem dX0_greatestAt_3 : decode cX0_greatestAt 3 = .ok (.aload_n 0, 1) := by decide +kernel
theorem dX0_greatestAt_4 : decode cX0_greatestAt 4 = .ok (.getfield 16, 3) := by decide +kernel
theorem dX0_greatestAt_7 : decode cX0_greatestAt 7 = .ok (.iload_n 1, 1) := by decide +kernel
theorem dX0_greatestAt_8 : decode cX0_greatestAt 8 = .ok (.iaload, 1) := by decide +kernel
theorem dX0_greatestAt_9 : decode cX0_greatestAt 9 = .ok (.istore_n 3, 1) := by decide +kernel
theorem dX0_greatestAt_10 : decode cX0_greatestAt 10 = .ok (.iconst 0, 1) := by decide +kernel
theorem dX0_greatestAt_11 : decode cX0_greatestAt 11 = .ok (.istore 4, 2) := by decide +kernel
theorem dX0_greatestAt_13 : decode cX0_greatestAt 13 = .ok (.iload 4, 2) := by decide +kernel
theorem dX0_greatestAt_15 : decode cX0_greatestAt 15 = .ok (.bipush 40, 2) := by decide +kernel
theorem dX0_greatestAt_17 : decode cX0_greatestAt 17 = .ok (.if_icmp .ge 41, 3) := by decide +kernel
theorem dX0_greatestAt_20 : decode cX0_greatestAt 20 = .ok (.iload_n 3, 1) := by decide +kernel
theorem dX0_greatestAt_21 : decode cX0_greatestAt 21 = .ok (.ifCond .lt 37, 3) := by decide +kernel
theorem dX0_greatestAt_24 : decode cX0_greatestAt 24 = .ok (.aload_n 0, 1) := by decide +kernel
theorem dX0_greatestAt_25 : decode cX0_greatestAt 25 = .ok (.getfield 13, 3) := by decide +kernel
theorem dX0_greatestAt_28 : decode cX0_greatestAt 28 = .ok (.iload_n 3, 1) := by decide +kernel
theorem dX0_greatestAt_29 : decode cX0_greatestAt 29 = .ok (.iaload, 1) := by decide +kernel
theorem dX0_greatestAt_30 : decode cX0_greatestAt 30 = .ok (.iload_n 2, 1) := by decide +kernel
theorem dX0_greatestAt_31 : decode cX0_greatestAt 31 = .ok (.if_icmp .le 12, 3) := by decide +kernel
theorem dX0_greatestAt_34 : decode cX0_greatestAt 34 = .ok (.aload_n 0, 1) := by decide +kernel
theorem dX0_greatestAt_35 : decode cX0_greatestAt 35 = .ok (.getfield 13, 3) := by decide +kernel
theorem dX0_greatestAt_38 : decode cX0_greatestAt 38 = .ok (.iload_n 3, 1) := by decide +kernel
theorem dX0_greatestAt_39 : decode cX0_greatestAt 39 = .ok (.iaload, 1) := by decide +kernel
theorem dX0_greatestAt_40 : decode cX0_greatestAt 40 = .ok (.goto 4, 3) := by decide +kernel
theorem dX0_greatestAt_43 : decode cX0_greatestAt 43 = .ok (.iload_n 2, 1) := by decide +kernel
theorem dX0_greatestAt_44 : decode cX0_greatestAt 44 = .ok (.istore_n 2, 1) := by decide +kernel
theorem dX0_greatestAt_45 : decode cX0_greatestAt 45 = .ok (.aload_n 0, 1) := by decide +kernel
theorem dX0_greatestAt_46 : decode cX0_greatestAt 46 = .ok (.getfield 19, 3) := by decide +kernel
theorem dX0_greatestAt_49 : decode cX0_greatestAt 49 = .ok (.iload_n 3, 1) := by decide +kernel
theorem dX0_greatestAt_50 : decode cX0_greatestAt 50 = .ok (.iaload, 1) := by decide +kernel
theorem dX0_greatestAt_51 : decode cX0_greatestAt 51 = .ok (.istore_n 3, 1) := by decide +kernel
theorem dX0_greatestAt_52 : decode cX0_greatestAt 52 = .ok (.iinc 4 1, 3) := by decide +kernel
theorem dX0_greatestAt_55 : decode cX0_greatestAt 55 = .ok (.goto (-42), 3) := by decide +kernel
theorem dX0_greatestAt_58 : decode cX0_greatestAt 58 = .ok (.iload_n 2, 1) := by decide +kernel
theorem dX0_greatestAt_59 : decode cX0_greatestAt 59 = .ok (.ireturn, 1) := by decide +kernel
theorem dX0_groups_0 : decode cX0_groups 0 = .ok (.aload_n 0, 1) := by decide +kernel
theorem dX0_groups_1 : decode cX0_groups 1 = .ok (.iload_n 1, 1) := by decide +kernel
theorem dX0_groups_2 : decode cX0_groups 2 = .ok (.invokevirtual 90, 3) := by decide +kernel
theorem dX0_groups_5 : decode cX0_groups 5 = .ok (.ifCond .ne 11, 3) := by decide +kernel
theorem dX0_groups_8 : decode cX0_groups 8 = .ok (.aload_n 0, 1) := by decide +kernel
theorem dX0_groups_9 : decode cX0_groups 9 = .ok (.iload_n 2, 1) := by decide +kernel
theorem dX0_groups_10 : decode cX0_groups 10 = .ok (.invokevirtual 79, 3) := by decide +kernel
theorem dX0_groups_13 : decode cX0_groups 13 = .ok (.ifCond .eq 6, 3) := by decide +kernel
theorem dX0_groups_16 : decode cX0_groups 16 = .ok (.ldc 59, 2) := by decide +kernel
theorem dX0_groups_18 : decode cX0_groups 18 = .ok (.ireturn, 1) := by decide +kernel
theorem dX0_groups_19 : decode cX0_groups 19 = .ok (.aload_n 0, 1) := by decide +kernel
theorem dX0_groups_20 : decode cX0_groups 20 = .ok (.iload_n 1, 1) := by decide +kernel
theorem dX0_groups_21 : decode cX0_groups 21 = .ok (.iload_n 2, 1) := by decide +kernel
theorem dX0_groups_22 : decode cX0_groups 22 = .ok (.invokevirtual 83, 3) := by decide +kernel
theorem dX0_groups_25 : decode cX0_groups 25 = .ok (.iconst 0, 1) := by decide +kernel
theorem dX0_groups_26 : decode cX0_groups 26 = .ok (.istore_n 3, 1) := by decide +kernel
theorem dX0_groups_27 : decode cX0_groups 27 = .ok (.iconst 0, 1) := by decide +kernel
theorem dX0_groups_28 : decode cX0_groups 28 = .ok (.istore 4, 2) := by decide +kernel
theorem dX0_groups_30 : decode cX0_groups 30 = .ok (.iload 4, 2) := by decide +kernel
theorem dX0_groups_32 : decode cX0_groups 32 = .ok (.bipush 120, 2) := by decide +kernel
theorem dX0_groups_34 : decode cX0_groups 34 = .ok (.if_icmp .ge 27, 3) := by decide +kernel
theorem dX0_groups_37 : decode cX0_groups 37 = .ok (.aload_n 0, 1) := by decide +kernel
theorem dX0_groups_38 : decode cX0_groups 38 = .ok (.getfield 32, 3) := by decide +kernel
theorem dX0_groups_41 : decode cX0_groups 41 = .ok (.iload 4, 2) := by decide +kernel
theorem dX0_groups_43 : decode cX0_groups 43 = .ok (.iaload, 1) := by decide +kernel
theorem dX0_groups_44 : decode cX0_groups 44 = .ok (.ifCond .le 9, 3) := by decide +kernel
theorem dX0_groups_47 : decode cX0_groups 47 = .ok (.iload_n 3, 1) := by decide +kernel
theorem dX0_groups_48 : decode cX0_groups 48 = .ok (.iconst 1, 1) := by decide +kernel
theorem dX0_groups_49 : decode cX0_groups 49 = .ok (.iadd, 1) := by decide +kernel
theorem dX0_groups_50 : decode cX0_groups 50 = .ok (.goto 4, 3) := by decide +kernel
theorem dX0_groups_53 : decode cX0_groups 53 = .ok (.iload_n 3, 1) := by decide +kernel
theorem dX0_groups_54 : decode cX0_groups 54 = .ok (.istore_n 3, 1) := by decide +kernel
theorem dX0_groups_55 : decode cX0_groups 55 = .ok (.iinc 4 1, 3) := by decide +kernel
theorem dX0_groups_58 : decode cX0_groups 58 = .ok (.goto (-28), 3) := by decide +kernel
theorem dX0_groups_61 : decode cX0_groups 61 = .ok (.iload_n 3, 1) := by decide +kernel
theorem dX0_groups_62 : decode cX0_groups 62 = .ok (.ireturn, 1) := by decide +kernel
theorem dX0_badGrouping_0 : decode cX0_badGrouping 0 = .ok (.iload_n 1, 1) := by decide +kernel
theorem dX0_badGrouping_1 : decode cX0_badGrouping 1 = .ok (.ifCond .lt 9, 3) := by decide +kernel
theorem dX0_badGrouping_4 : decode cX0_badGrouping 4 = .ok (.iload_n 1, 1) := by decide +kernel
theorem dX0_badGrouping_5 : decode cX0_badGrouping 5 = .ok (.bipush 8, 2) := by decide +kernel
theorem dX0_badGrouping_7 : decode cX0_badGrouping 7 = .ok (.if_icmp .lt 7, 3) := by decide +kernel
theorem dX0_badGrouping_10 : decode cX0_badGrouping 10 = .ok (.iconst 1, 1) := by decide +kernel
theorem dX0_badGrouping_11 : decode cX0_badGrouping 11 = .ok (.goto 4, 3) := by decide +kernel
theorem dX0_badGrouping_14 : decode cX0_badGrouping 14 = .ok (.iconst 0, 1) := by decide +kernel
theorem dX0_badGrouping_15 : decode cX0_badGrouping 15 = .ok (.ireturn, 1) := by decide +kernel
theorem dX0_topSum_0 : decode cX0_topSum 0 = .ok (.aload_n 0, 1) := by decide +kernel
theorem dX0_topSum_1 : decode cX0_topSum 1 = .ok (.iload_n 1, 1) := by decide +kernel
theorem dX0_topSum_2 : decode cX0_topSum 2 = .ok (.invokevirtual 90, 3) := by decide +kernel
theorem dX0_topSum_5 : decode cX0_topSum 5 = .ok (.ifCond .ne 11, 3) := by decide +kernel
theorem dX0_topSum_8 : decode cX0_topSum 8 = .ok (.aload_n 0, 1) := by decide +kernel
theorem dX0_topSum_9 : decode cX0_topSum 9 = .ok (.iload_n 2, 1) := by decide +kernel
theorem dX0_topSum_10 : decode cX0_topSum 10 = .ok (.invokevirtual 79, 3) := by decide +kernel
theorem dX0_topSum_13 : decode cX0_topSum 13 = .ok (.ifCond .eq 6, 3) := by decide +kernel
theorem dX0_topSum_16 : decode cX0_topSum 16 = .ok (.ldc 59, 2) := by decide +kernel
theorem dX0_topSum_18 : decode cX0_topSum 18 = .ok (.ireturn, 1) := by decide +kernel
theorem dX0_topSum_19 : decode cX0_topSum 19 = .ok (.aload_n 0, 1) := by decide +kernel
theorem dX0_topSum_20 : decode cX0_topSum 20 = .ok (.iload_n 1, 1) := by decide +kernel
theorem dX0_topSum_21 : decode cX0_topSum 21 = .ok (.iload_n 2, 1) := by decide +kernel
theorem dX0_topSum_22 : decode cX0_topSum 22 = .ok (.invokevirtual 93, 3) := by decide +kernel
theorem dX0_topSum_25 : decode cX0_topSum 25 = .ok (.istore_n 3, 1) := by decide +kernel
theorem dX0_topSum_26 : decode cX0_topSum 26 = .ok (.iload_n 3, 1) := by decide +kernel
theorem dX0_topSum_27 : decode cX0_topSum 27 = .ok (.ifCond .ge 8, 3) := by decide +kernel
theorem dX0_topSum_30 : decode cX0_topSum 30 = .ok (.ldc 65, 2) := by decide +kernel
theorem dX0_topSum_32 : decode cX0_topSum 32 = .ok (.goto 9, 3) := by decide +kernel
theorem dX0_topSum_35 : decode cX0_topSum 35 = .ok (.aload_n 0, 1) := by decide +kernel
theorem dX0_topSum_36 : decode cX0_topSum 36 = .ok (.getfield 35, 3) := by decide +kernel
theorem dX0_topSum_39 : decode cX0_topSum 39 = .ok (.iload_n 3, 1) := by decide +kernel
theorem dX0_topSum_40 : decode cX0_topSum 40 = .ok (.iaload, 1) := by decide +kernel
theorem dX0_topSum_41 : decode cX0_topSum 41 = .ok (.ireturn, 1) := by decide +kernel
theorem dX0_top_0 : decode cX0_top 0 = .ok (.aload_n 0, 1) := by decide +kernel
theorem dX0_top_1 : decode cX0_top 1 = .ok (.iload_n 1, 1) := by decide +kernel
theorem dX0_top_2 : decode cX0_top 2 = .ok (.iload_n 2, 1) := by decide +kernel
theorem dX0_top_3 : decode cX0_top 3 = .ok (.invokevirtual 83, 3) := by decide +kernel
theorem dX0_top_6 : decode cX0_top 6 = .ok (.iconst (-1), 1) := by decide +kernel
theorem dX0_top_7 : decode cX0_top 7 = .ok (.istore_n 3, 1) := by decide +kernel
theorem dX0_top_8 : decode cX0_top 8 = .ok (.iconst 0, 1) := by decide +kernel
theorem dX0_top_9 : decode cX0_top 9 = .ok (.istore 4, 2) := by decide +kernel
theorem dX0_top_11 : decode cX0_top 11 = .ok (.iload 4, 2) := by decide +kernel
theorem dX0_top_13 : decode cX0_top 13 = .ok (.bipush 120, 2) := by decide +kernel
theorem dX0_top_15 : decode cX0_top 15 = .ok (.if_icmp .ge 42, 3) := by decide +kernel
theorem dX0_top_18 : decode cX0_top 18 = .ok (.aload_n 0, 1) := by decide +kernel
theorem dX0_top_19 : decode cX0_top 19 = .ok (.getfield 32, 3) := by decide +kernel
theorem dX0_top_22 : decode cX0_top 22 = .ok (.iload 4, 2) := by decide +kernel
theorem dX0_top_24 : decode cX0_top 24 = .ok (.iaload, 1) := by decide +kernel
theorem dX0_top_25 : decode cX0_top 25 = .ok (.ifCond .le 26, 3) := by decide +kernel
theorem dX0_top_28 : decode cX0_top 28 = .ok (.iload_n 3, 1) := by decide +kernel
theorem dX0_top_29 : decode cX0_top 29 = .ok (.ifCond .lt 19, 3) := by decide +kernel
theorem dX0_top_32 : decode cX0_top 32 = .ok (.aload_n 0, 1) := by decide +kernel
theorem dX0_top_33 : decode cX0_top 33 = .ok (.getfield 35, 3) := by decide +kernel
theorem dX0_top_36 : decode cX0_top 36 = .ok (.iload 4, 2) := by decide +kernel
theorem dX0_top_38 : decode cX0_top 38 = .ok (.iaload, 1) := by decide +kernel
theorem dX0_top_39 : decode cX0_top 39 = .ok (.aload_n 0, 1) := by decide +kernel
theorem dX0_top_40 : decode cX0_top 40 = .ok (.getfield 35, 3) := by decide +kernel
theorem dX0_top_43 : decode cX0_top 43 = .ok (.iload_n 3, 1) := by decide +kernel
theorem dX0_top_44 : decode cX0_top 44 = .ok (.iaload, 1) := by decide +kernel
theorem dX0_top_45 : decode cX0_top 45 = .ok (.if_icmp .le 6, 3) := by decide +kernel
theorem dX0_top_48 : decode cX0_top 48 = .ok (.iload 4, 2) := by decide +kernel
theorem dX0_top_50 : decode cX0_top 50 = .ok (.istore_n 3, 1) := by decide +kernel
theorem dX0_top_51 : decode cX0_top 51 = .ok (.iinc 4 1, 3) := by decide +kernel
theorem dX0_top_54 : decode cX0_top 54 = .ok (.goto (-43), 3) := by decide +kernel
theorem dX0_top_57 : decode cX0_top 57 = .ok (.iload_n 3, 1) := by decide +kernel
theorem dX0_top_58 : decode cX0_top 58 = .ok (.ireturn, 1) := by decide +kernel
theorem dX0_topGroup_0 : decode cX0_topGroup 0 = .ok (.aload_n 0, 1) := by decide +kernel
theorem dX0_topGroup_1 : decode cX0_topGroup 1 = .ok (.iload_n 1, 1) := by decide +kernel
theorem dX0_topGroup_2 : decode cX0_topGroup 2 = .ok (.invokevirtual 90, 3) := by decide +kernel
theorem dX0_topGroup_5 : decode cX0_topGroup 5 = .ok (.ifCond .ne 11, 3) := by decide +kernel
theorem dX0_topGroup_8 : decode cX0_topGroup 8 = .ok (.aload_n 0, 1) := by decide +kernel
theorem dX0_topGroup_9 : decode cX0_topGroup 9 = .ok (.iload_n 2, 1) := by decide +kernel
theorem dX0_topGroup_10 : decode cX0_topGroup 10 = .ok (.invokevirtual 79, 3) := by decide +kernel
theorem dX0_topGroup_13 : decode cX0_topGroup 13 = .ok (.ifCond .eq 6, 3) := by decide +kernel
theorem dX0_topGroup_16 : decode cX0_topGroup 16 = .ok (.ldc 59, 2) := by decide +kernel
theorem dX0_topGroup_18 : decode cX0_topGroup 18 = .ok (.ireturn, 1) := by decide +kernel
theorem dX0_topGroup_19 : decode cX0_topGroup 19 = .ok (.aload_n 0, 1) := by decide +kernel
theorem dX0_topGroup_20 : decode cX0_topGroup 20 = .ok (.iload_n 1, 1) := by decide +kernel
theorem dX0_topGroup_21 : decode cX0_topGroup 21 = .ok (.iload_n 2, 1) := by decide +kernel
theorem dX0_topGroup_22 : decode cX0_topGroup 22 = .ok (.invokevirtual 93, 3) := by decide +kernel
theorem dX0_topGroup_25 : decode cX0_topGroup 25 = .ok (.istore_n 3, 1) := by decide +kernel
theorem dX0_topGroup_26 : decode cX0_topGroup 26 = .ok (.iload_n 3, 1) := by decide +kernel
theorem dX0_topGroup_27 : decode cX0_topGroup 27 = .ok (.ifCond .ge 8, 3) := by decide +kernel
theorem dX0_topGroup_30 : decode cX0_topGroup 30 = .ok (.ldc 65, 2) := by decide +kernel
theorem dX0_topGroup_32 : decode cX0_topGroup 32 = .ok (.goto 4, 3) := by decide +kernel
theorem dX0_topGroup_35 : decode cX0_topGroup 35 = .ok (.iload_n 3, 1) := by decide +kernel
theorem dX0_topGroup_36 : decode cX0_topGroup 36 = .ok (.ireturn, 1) := by decide +kernel
theorem dX0_quarter_0 : decode cX0_quarter 0 = .ok (.iload_n 1, 1) := by decide +kernel
theorem dX0_quarter_1 : decode cX0_quarter 1 = .ok (.ifCond .lt 17, 3) := by decide +kernel
theorem dX0_quarter_4 : decode cX0_quarter 4 = .ok (.iload_n 1, 1) := by decide +kernel
theorem dX0_quarter_5 : decode cX0_quarter 5 = .ok (.iconst 1, 1) := by decide +kernel
theorem dX0_quarter_6 : decode cX0_quarter 6 = .ok (.if_icmp .gt 12, 3) := by decide +kernel
theorem dX0_quarter_9 : decode cX0_quarter 9 = .ok (.iload_n 2, 1) := by decide +kernel
theorem dX0_quarter_10 : decode cX0_quarter 10 = .ok (.ifCond .lt 8, 3) := by decide +kernel
theorem dX0_quarter_13 : decode cX0_quarter 13 = .ok (.iload_n 2, 1) := by decide +kernel
theorem dX0_quarter_14 : decode cX0_quarter 14 = .ok (.iconst 4, 1) := by decide +kernel
theorem dX0_quarter_15 : decode cX0_quarter 15 = .ok (.if_icmp .lt 6, 3) := by decide +kernel
theorem dX0_quarter_18 : decode cX0_quarter 18 = .ok (.ldc 59, 2) := by decide +kernel
theorem dX0_quarter_20 : decode cX0_quarter 20 = .ok (.ireturn, 1) := by decide +kernel
theorem dX0_quarter_21 : decode cX0_quarter 21 = .ok (.aload_n 0, 1) := by decide +kernel
theorem dX0_quarter_22 : decode cX0_quarter 22 = .ok (.iconst 0, 1) := by decide +kernel
theorem dX0_quarter_23 : decode cX0_quarter 23 = .ok (.iconst 1, 1) := by decide +kernel
theorem dX0_quarter_24 : decode cX0_quarter 24 = .ok (.iload_n 2, 1) := by decide +kernel
theorem dX0_quarter_25 : decode cX0_quarter 25 = .ok (.ishl, 1) := by decide +kernel
theorem dX0_quarter_26 : decode cX0_quarter 26 = .ok (.sipush 496, 3) := by decide +kernel
theorem dX0_quarter_29 : decode cX0_quarter 29 = .ok (.ior, 1) := by decide +kernel
theorem dX0_quarter_30 : decode cX0_quarter 30 = .ok (.bipush 7, 2) := by decide +kernel
theorem dX0_quarter_32 : decode cX0_quarter 32 = .ok (.bipush 9, 2) := by decide +kernel
theorem dX0_quarter_34 : decode cX0_quarter 34 = .ok (.iconst 3, 1) := by decide +kernel
theorem dX0_quarter_35 : decode cX0_quarter 35 = .ok (.iload_n 1, 1) := by decide +kernel
theorem dX0_quarter_36 : decode cX0_quarter 36 = .ok (.imul, 1) := by decide +kernel
theorem dX0_quarter_37 : decode cX0_quarter 37 = .ok (.iadd, 1) := by decide +kernel
theorem dX0_quarter_38 : decode cX0_quarter 38 = .ok (.ishl, 1) := by decide +kernel
theorem dX0_quarter_39 : decode cX0_quarter 39 = .ok (.ior, 1) := by decide +kernel
theorem dX0_quarter_40 : decode cX0_quarter 40 = .ok (.invokevirtual 83, 3) := by decide +kernel
theorem dX0_quarter_43 : decode cX0_quarter 43 = .ok (.aload_n 0, 1) := by decide +kernel
theorem dX0_quarter_44 : decode cX0_quarter 44 = .ok (.getfield 35, 3) := by decide +kernel
theorem dX0_quarter_47 : decode cX0_quarter 47 = .ok (.iconst 0, 1) := by decide +kernel
theorem dX0_quarter_48 : decode cX0_quarter 48 = .ok (.iaload, 1) := by decide +kernel
theorem dX0_quarter_49 : decode cX0_quarter 49 = .ok (.ireturn, 1) := by decide +kernel
theorem dX0_growth_0 : decode cX0_growth 0 = .ok (.iload_n 1, 1) := by decide +kernel
theorem dX0_growth_1 : decode cX0_growth 1 = .ok (.iconst 1, 1) := by decide +kernel
theorem dX0_growth_2 : decode cX0_growth 2 = .ok (.if_icmp .lt 9, 3) := by decide +kernel
theorem dX0_growth_5 : decode cX0_growth 5 = .ok (.iload_n 1, 1) := by decide +kernel
theorem dX0_growth_6 : decode cX0_growth 6 = .ok (.bipush 6, 2) := by decide +kernel
theorem dX0_growth_8 : decode cX0_growth 8 = .ok (.if_icmp .lt 6, 3) := by decide +kernel
theorem dX0_growth_11 : decode cX0_growth 11 = .ok (.ldc 59, 2) := by decide +kernel
theorem dX0_growth_13 : decode cX0_growth 13 = .ok (.ireturn, 1) := by decide +kernel
theorem dX0_growth_14 : decode cX0_growth 14 = .ok (.aload_n 0, 1) := by decide +kernel
theorem dX0_growth_15 : decode cX0_growth 15 = .ok (.iconst 4, 1) := by decide +kernel
theorem dX0_growth_16 : decode cX0_growth 16 = .ok (.sipush 32767, 3) := by decide +kernel
theorem dX0_growth_19 : decode cX0_growth 19 = .ok (.invokevirtual 83, 3) := by decide +kernel
theorem dX0_growth_22 : decode cX0_growth 22 = .ok (.aload_n 0, 1) := by decide +kernel
theorem dX0_growth_23 : decode cX0_growth 23 = .ok (.getfield 35, 3) := by decide +kernel
theorem dX0_growth_26 : decode cX0_growth 26 = .ok (.bipush 20, 2) := by decide +kernel
theorem dX0_growth_28 : decode cX0_growth 28 = .ok (.iload_n 1, 1) := by decide +kernel
theorem dX0_growth_29 : decode cX0_growth 29 = .ok (.imul, 1) := by decide +kernel
theorem dX0_growth_30 : decode cX0_growth 30 = .ok (.iaload, 1) := by decide +kernel
theorem dX0_growth_31 : decode cX0_growth 31 = .ok (.aload_n 0, 1) := by decide +kernel
theorem dX0_growth_32 : decode cX0_growth 32 = .ok (.getfield 35, 3) := by decide +kernel
theorem dX0_growth_35 : decode cX0_growth 35 = .ok (.bipush 20, 2) := by decide +kernel
theorem dX0_growth_37 : decode cX0_growth 37 = .ok (.iload_n 1, 1) := by decide +kernel
theorem dX0_growth_38 : decode cX0_growth 38 = .ok (.imul, 1) := by decide +kernel
theorem dX0_growth_39 : decode cX0_growth 39 = .ok (.bipush 20, 2) := by decide +kernel
theorem dX0_growth_41 : decode cX0_growth 41 = .ok (.isub, 1) := by decide +kernel
theorem dX0_growth_42 : decode cX0_growth 42 = .ok (.iaload, 1) := by decide +kernel
theorem dX0_growth_43 : decode cX0_growth 43 = .ok (.isub, 1) := by decide +kernel
theorem dX0_growth_44 : decode cX0_growth 44 = .ok (.ireturn, 1) := by decide +kernel
theorem dX0_atLeast_0 : decode cX0_atLeast 0 = .ok (.aload_n 0, 1) := by decide +kernel
theorem dX0_atLeast_1 : decode cX0_atLeast 1 = .ok (.iload_n 1, 1) := by decide +kernel
theorem dX0_atLeast_2 : decode cX0_atLeast 2 = .ok (.invokevirtual 90, 3) := by decide +kernel
theorem dX0_atLeast_5 : decode cX0_atLeast 5 = .ok (.ifCond .eq 6, 3) := by decide +kernel
theorem dX0_atLeast_8 : decode cX0_atLeast 8 = .ok (.ldc 59, 2) := by decide +kernel
theorem dX0_atLeast_10 : decode cX0_atLeast 10 = .ok (.ireturn, 1) := by decide +kernel
theorem dX0_atLeast_11 : decode cX0_atLeast 11 = .ok (.aload_n 0, 1) := by decide +kernel
theorem dX0_atLeast_12 : decode cX0_atLeast 12 = .ok (.iload_n 1, 1) := by decide +kernel
theorem dX0_atLeast_13 : decode cX0_atLeast 13 = .ok (.sipush 32767, 3) := by decide +kernel
theorem dX0_atLeast_16 : decode cX0_atLeast 16 = .ok (.invokevirtual 83, 3) := by decide +kernel
theorem dX0_atLeast_19 : decode cX0_atLeast 19 = .ok (.iconst 0, 1) := by decide +kernel
theorem dX0_atLeast_20 : decode cX0_atLeast 20 = .ok (.istore_n 3, 1) := by decide +kernel
theorem dX0_atLeast_21 : decode cX0_atLeast 21 = .ok (.iconst 0, 1) := by decide +kernel
theorem dX0_atLeast_22 : decode cX0_atLeast 22 = .ok (.istore 4, 2) := by decide +kernel
theorem dX0_atLeast_24 : decode cX0_atLeast 24 = .ok (.iload 4, 2) := by decide +kernel
theorem dX0_atLeast_26 : decode cX0_atLeast 26 = .ok (.bipush 120, 2) := by decide +kernel
theorem dX0_atLeast_28 : decode cX0_atLeast 28 = .ok (.if_icmp .ge 38, 3) := by decide +kernel
theorem dX0_atLeast_31 : decode cX0_atLeast 31 = .ok (.aload_n 0, 1) := by decide +kernel
theorem dX0_atLeast_32 : decode cX0_atLeast 32 = .ok (.getfield 32, 3) := by decide +kernel
theorem dX0_atLeast_35 : decode cX0_atLeast 35 = .ok (.iload 4, 2) := by decide +kernel
theorem dX0_atLeast_37 : decode cX0_atLeast 37 = .ok (.iaload, 1) := by decide +kernel
theorem dX0_atLeast_38 : decode cX0_atLeast 38 = .ok (.ifCond .le 20, 3) := by decide +kernel
theorem dX0_atLeast_41 : decode cX0_atLeast 41 = .ok (.aload_n 0, 1) := by decide +kernel
end
section
set_option maxRecDepth 100000
theorem dX0_atLeast_42 : decode cX0_atLeast 42 = .ok (.getfield 35, 3) := by decide +kernel
theorem dX0_atLeast_45 : decode cX0_atLeast 45 = .ok (.iload 4, 2) := by decide +kernel
theorem dX0_atLeast_47 : decode cX0_atLeast 47 = .ok (.iaload, 1) := by decide +kernel
theorem dX0_atLeast_48 : decode cX0_atLeast 48 = .ok (.iload_n 2, 1) := by decide +kernel
theorem dX0_atLeast_49 : decode cX0_atLeast 49 = .ok (.if_icmp .lt 9, 3) := by decide +kernel
theorem dX0_atLeast_52 : decode cX0_atLeast 52 = .ok (.iload_n 3, 1) := by decide +kernel
theorem dX0_atLeast_53 : decode cX0_atLeast 53 = .ok (.iconst 1, 1) := by decide +kernel
theorem dX0_atLeast_54 : decode cX0_atLeast 54 = .ok (.iadd, 1) := by decide +kernel
theorem dX0_atLeast_55 : decode cX0_atLeast 55 = .ok (.goto 4, 3) := by decide +kernel
theorem dX0_atLeast_58 : decode cX0_atLeast 58 = .ok (.iload_n 3, 1) := by decide +kernel
theorem dX0_atLeast_59 : decode cX0_atLeast 59 = .ok (.istore_n 3, 1) := by decide +kernel
theorem dX0_atLeast_60 : decode cX0_atLeast 60 = .ok (.iinc 4 1, 3) := by decide +kernel
theorem dX0_atLeast_63 : decode cX0_atLeast 63 = .ok (.goto (-39), 3) := by decide +kernel
theorem dX0_atLeast_66 : decode cX0_atLeast 66 = .ok (.iload_n 3, 1) := by decide +kernel
theorem dX0_atLeast_67 : decode cX0_atLeast 67 = .ok (.ireturn, 1) := by decide +kernel
theorem dX0_plan_0 : decode cX0_plan 0 = .ok (.iload_n 1, 1) := by decide +kernel
theorem dX0_plan_1 : decode cX0_plan 1 = .ok (.ifCond .lt 10, 3) := by decide +kernel
theorem dX0_plan_4 : decode cX0_plan 4 = .ok (.iload_n 1, 1) := by decide +kernel
theorem dX0_plan_5 : decode cX0_plan 5 = .ok (.sipush 200, 3) := by decide +kernel
theorem dX0_plan_8 : decode cX0_plan 8 = .ok (.if_icmp .le 6, 3) := by decide +kernel
theorem dX0_plan_11 : decode cX0_plan 11 = .ok (.ldc 59, 2) := by decide +kernel
theorem dX0_plan_13 : decode cX0_plan 13 = .ok (.ireturn, 1) := by decide +kernel
theorem dX0_plan_14 : decode cX0_plan 14 = .ok (.iconst 0, 1) := by decide +kernel
theorem dX0_plan_15 : decode cX0_plan 15 = .ok (.istore_n 2, 1) := by decide +kernel
theorem dX0_plan_16 : decode cX0_plan 16 = .ok (.iload_n 2, 1) := by decide +kernel
theorem dX0_plan_17 : decode cX0_plan 17 = .ok (.bipush 8, 2) := by decide +kernel
theorem dX0_plan_19 : decode cX0_plan 19 = .ok (.if_icmp .ge 16, 3) := by decide +kernel
theorem dX0_plan_22 : decode cX0_plan 22 = .ok (.aload_n 0, 1) := by decide +kernel
theorem dX0_plan_23 : decode cX0_plan 23 = .ok (.getfield 22, 3) := by decide +kernel
theorem dX0_plan_26 : decode cX0_plan 26 = .ok (.iload_n 2, 1) := by decide +kernel
theorem dX0_plan_27 : decode cX0_plan 27 = .ok (.iconst 0, 1) := by decide +kernel
theorem dX0_plan_28 : decode cX0_plan 28 = .ok (.bastore, 1) := by decide +kernel
theorem dX0_plan_29 : decode cX0_plan 29 = .ok (.iinc 2 1, 3) := by decide +kernel
theorem dX0_plan_32 : decode cX0_plan 32 = .ok (.goto (-16), 3) := by decide +kernel
theorem dX0_plan_35 : decode cX0_plan 35 = .ok (.iload_n 1, 1) := by decide +kernel
theorem dX0_plan_36 : decode cX0_plan 36 = .ok (.istore_n 2, 1) := by decide +kernel
theorem dX0_plan_37 : decode cX0_plan 37 = .ok (.iconst 1, 1) := by decide +kernel
theorem dX0_plan_38 : decode cX0_plan 38 = .ok (.istore_n 3, 1) := by decide +kernel
theorem dX0_plan_39 : decode cX0_plan 39 = .ok (.iconst 0, 1) := by decide +kernel
theorem dX0_plan_40 : decode cX0_plan 40 = .ok (.istore 4, 2) := by decide +kernel
theorem dX0_plan_42 : decode cX0_plan 42 = .ok (.iload 4, 2) := by decide +kernel
theorem dX0_plan_44 : decode cX0_plan 44 = .ok (.bipush 8, 2) := by decide +kernel
theorem dX0_plan_46 : decode cX0_plan 46 = .ok (.if_icmp .ge 126, 3) := by decide +kernel
theorem dX0_plan_49 : decode cX0_plan 49 = .ok (.iload_n 3, 1) := by decide +kernel
theorem dX0_plan_50 : decode cX0_plan 50 = .ok (.ifCond .eq 122, 3) := by decide +kernel
theorem dX0_plan_53 : decode cX0_plan 53 = .ok (.aload_n 0, 1) := by decide +kernel
theorem dX0_plan_54 : decode cX0_plan 54 = .ok (.iconst (-1), 1) := by decide +kernel
theorem dX0_plan_55 : decode cX0_plan 55 = .ok (.invokevirtual 96, 3) := by decide +kernel
theorem dX0_plan_58 : decode cX0_plan 58 = .ok (.istore 5, 2) := by decide +kernel
theorem dX0_plan_60 : decode cX0_plan 60 = .ok (.iconst (-1), 1) := by decide +kernel
theorem dX0_plan_61 : decode cX0_plan 61 = .ok (.istore 6, 2) := by decide +kernel
theorem dX0_plan_63 : decode cX0_plan 63 = .ok (.iconst 0, 1) := by decide +kernel
theorem dX0_plan_64 : decode cX0_plan 64 = .ok (.istore 7, 2) := by decide +kernel
theorem dX0_plan_66 : decode cX0_plan 66 = .ok (.iconst 0, 1) := by decide +kernel
theorem dX0_plan_67 : decode cX0_plan 67 = .ok (.istore 8, 2) := by decide +kernel
theorem dX0_plan_69 : decode cX0_plan 69 = .ok (.iload 8, 2) := by decide +kernel
theorem dX0_plan_71 : decode cX0_plan 71 = .ok (.bipush 8, 2) := by decide +kernel
theorem dX0_plan_73 : decode cX0_plan 73 = .ok (.if_icmp .ge 55, 3) := by decide +kernel
theorem dX0_plan_76 : decode cX0_plan 76 = .ok (.iload 5, 2) := by decide +kernel
theorem dX0_plan_78 : decode cX0_plan 78 = .ok (.aload_n 0, 1) := by decide +kernel
theorem dX0_plan_79 : decode cX0_plan 79 = .ok (.iload 8, 2) := by decide +kernel
theorem dX0_plan_81 : decode cX0_plan 81 = .ok (.invokevirtual 96, 3) := by decide +kernel
theorem dX0_plan_84 : decode cX0_plan 84 = .ok (.isub, 1) := by decide +kernel
theorem dX0_plan_85 : decode cX0_plan 85 = .ok (.istore 9, 2) := by decide +kernel
theorem dX0_plan_87 : decode cX0_plan 87 = .ok (.aload_n 0, 1) := by decide +kernel
theorem dX0_plan_88 : decode cX0_plan 88 = .ok (.getfield 22, 3) := by decide +kernel
theorem dX0_plan_91 : decode cX0_plan 91 = .ok (.iload 8, 2) := by decide +kernel
theorem dX0_plan_93 : decode cX0_plan 93 = .ok (.baload, 1) := by decide +kernel
theorem dX0_plan_94 : decode cX0_plan 94 = .ok (.ifCond .ne 28, 3) := by decide +kernel
theorem dX0_plan_97 : decode cX0_plan 97 = .ok (.aload_n 0, 1) := by decide +kernel
theorem dX0_plan_98 : decode cX0_plan 98 = .ok (.iload 8, 2) := by decide +kernel
theorem dX0_plan_100 : decode cX0_plan 100 = .ok (.invokevirtual 56, 3) := by decide +kernel
theorem dX0_plan_103 : decode cX0_plan 103 = .ok (.iload_n 2, 1) := by decide +kernel
theorem dX0_plan_104 : decode cX0_plan 104 = .ok (.if_icmp .gt 18, 3) := by decide +kernel
theorem dX0_plan_107 : decode cX0_plan 107 = .ok (.iload 9, 2) := by decide +kernel
theorem dX0_plan_109 : decode cX0_plan 109 = .ok (.iload 7, 2) := by decide +kernel
theorem dX0_plan_111 : decode cX0_plan 111 = .ok (.if_icmp .le 11, 3) := by decide +kernel
theorem dX0_plan_114 : decode cX0_plan 114 = .ok (.iload 8, 2) := by decide +kernel
theorem dX0_plan_116 : decode cX0_plan 116 = .ok (.istore 6, 2) := by decide +kernel
theorem dX0_plan_118 : decode cX0_plan 118 = .ok (.iload 9, 2) := by decide +kernel
theorem dX0_plan_120 : decode cX0_plan 120 = .ok (.istore 7, 2) := by decide +kernel
theorem dX0_plan_122 : decode cX0_plan 122 = .ok (.iinc 8 1, 3) := by decide +kernel
theorem dX0_plan_125 : decode cX0_plan 125 = .ok (.goto (-56), 3) := by decide +kernel
theorem dX0_plan_128 : decode cX0_plan 128 = .ok (.iload 6, 2) := by decide +kernel
theorem dX0_plan_130 : decode cX0_plan 130 = .ok (.ifCond .lt 7, 3) := by decide +kernel
theorem dX0_plan_133 : decode cX0_plan 133 = .ok (.iconst 1, 1) := by decide +kernel
theorem dX0_plan_134 : decode cX0_plan 134 = .ok (.goto 4, 3) := by decide +kernel
theorem dX0_plan_137 : decode cX0_plan 137 = .ok (.iconst 0, 1) := by decide +kernel
theorem dX0_plan_138 : decode cX0_plan 138 = .ok (.istore_n 3, 1) := by decide +kernel
theorem dX0_plan_139 : decode cX0_plan 139 = .ok (.iload_n 3, 1) := by decide +kernel
theorem dX0_plan_140 : decode cX0_plan 140 = .ok (.ifCond .eq 26, 3) := by decide +kernel
theorem dX0_plan_143 : decode cX0_plan 143 = .ok (.aload_n 0, 1) := by decide +kernel
theorem dX0_plan_144 : decode cX0_plan 144 = .ok (.getfield 22, 3) := by decide +kernel
theorem dX0_plan_147 : decode cX0_plan 147 = .ok (.iload 6, 2) := by decide +kernel
theorem dX0_plan_149 : decode cX0_plan 149 = .ok (.iconst 1, 1) := by decide +kernel
theorem dX0_plan_150 : decode cX0_plan 150 = .ok (.bastore, 1) := by decide +kernel
theorem dX0_plan_151 : decode cX0_plan 151 = .ok (.iload_n 2, 1) := by decide +kernel
theorem dX0_plan_152 : decode cX0_plan 152 = .ok (.aload_n 0, 1) := by decide +kernel
theorem dX0_plan_153 : decode cX0_plan 153 = .ok (.iload 6, 2) := by decide +kernel
theorem dX0_plan_155 : decode cX0_plan 155 = .ok (.invokevirtual 56, 3) := by decide +kernel
theorem dX0_plan_158 : decode cX0_plan 158 = .ok (.isub, 1) := by decide +kernel
theorem dX0_plan_159 : decode cX0_plan 159 = .ok (.istore_n 2, 1) := by decide +kernel
theorem dX0_plan_160 : decode cX0_plan 160 = .ok (.aload_n 0, 1) := by decide +kernel
theorem dX0_plan_161 : decode cX0_plan 161 = .ok (.iload 6, 2) := by decide +kernel
theorem dX0_plan_163 : decode cX0_plan 163 = .ok (.invokevirtual 99, 3) := by decide +kernel
theorem dX0_plan_166 : decode cX0_plan 166 = .ok (.iinc 4 1, 3) := by decide +kernel
theorem dX0_plan_169 : decode cX0_plan 169 = .ok (.goto (-127), 3) := by decide +kernel
theorem dX0_plan_172 : decode cX0_plan 172 = .ok (.iconst 0, 1) := by decide +kernel
theorem dX0_plan_173 : decode cX0_plan 173 = .ok (.ireturn, 1) := by decide +kernel
theorem dX0_workWith_0 : decode cX0_workWith 0 = .ok (.iconst 0, 1) := by decide +kernel
theorem dX0_workWith_1 : decode cX0_workWith 1 = .ok (.istore_n 2, 1) := by decide +kernel
theorem dX0_workWith_2 : decode cX0_workWith 2 = .ok (.iconst 0, 1) := by decide +kernel
theorem dX0_workWith_3 : decode cX0_workWith 3 = .ok (.istore_n 3, 1) := by decide +kernel
theorem dX0_workWith_4 : decode cX0_workWith 4 = .ok (.iload_n 3, 1) := by decide +kernel
theorem dX0_workWith_5 : decode cX0_workWith 5 = .ok (.bipush 8, 2) := by decide +kernel
theorem dX0_workWith_7 : decode cX0_workWith 7 = .ok (.if_icmp .ge 78, 3) := by decide +kernel
theorem dX0_workWith_10 : decode cX0_workWith 10 = .ok (.sipush 160, 3) := by decide +kernel
theorem dX0_workWith_13 : decode cX0_workWith 13 = .ok (.istore 4, 2) := by decide +kernel
theorem dX0_workWith_15 : decode cX0_workWith 15 = .ok (.iconst 0, 1) := by decide +kernel
theorem dX0_workWith_16 : decode cX0_workWith 16 = .ok (.istore 5, 2) := by decide +kernel
theorem dX0_workWith_18 : decode cX0_workWith 18 = .ok (.iload 5, 2) := by decide +kernel
theorem dX0_workWith_20 : decode cX0_workWith 20 = .ok (.bipush 8, 2) := by decide +kernel
theorem dX0_workWith_22 : decode cX0_workWith 22 = .ok (.if_icmp .ge 52, 3) := by decide +kernel
theorem dX0_workWith_25 : decode cX0_workWith 25 = .ok (.aload_n 0, 1) := by decide +kernel
theorem dX0_workWith_26 : decode cX0_workWith 26 = .ok (.getfield 22, 3) := by decide +kernel
theorem dX0_workWith_29 : decode cX0_workWith 29 = .ok (.iload 5, 2) := by decide +kernel
theorem dX0_workWith_31 : decode cX0_workWith 31 = .ok (.baload, 1) := by decide +kernel
theorem dX0_workWith_32 : decode cX0_workWith 32 = .ok (.ifCond .ne 9, 3) := by decide +kernel
theorem dX0_workWith_35 : decode cX0_workWith 35 = .ok (.iload 5, 2) := by decide +kernel
theorem dX0_workWith_37 : decode cX0_workWith 37 = .ok (.iload_n 1, 1) := by decide +kernel
theorem dX0_workWith_38 : decode cX0_workWith 38 = .ok (.if_icmp .ne 30, 3) := by decide +kernel
theorem dX0_workWith_41 : decode cX0_workWith 41 = .ok (.iload 5, 2) := by decide +kernel
theorem dX0_workWith_43 : decode cX0_workWith 43 = .ok (.iload_n 3, 1) := by decide +kernel
theorem dX0_workWith_44 : decode cX0_workWith 44 = .ok (.iand, 1) := by decide +kernel
theorem dX0_workWith_45 : decode cX0_workWith 45 = .ok (.iload_n 3, 1) := by decide +kernel
theorem dX0_workWith_46 : decode cX0_workWith 46 = .ok (.if_icmp .ne 22, 3) := by decide +kernel
theorem dX0_workWith_49 : decode cX0_workWith 49 = .ok (.aload_n 0, 1) := by decide +kernel
theorem dX0_workWith_50 : decode cX0_workWith 50 = .ok (.iload 5, 2) := by decide +kernel
theorem dX0_workWith_52 : decode cX0_workWith 52 = .ok (.invokevirtual 56, 3) := by decide +kernel
theorem dX0_workWith_55 : decode cX0_workWith 55 = .ok (.iload 4, 2) := by decide +kernel
theorem dX0_workWith_57 : decode cX0_workWith 57 = .ok (.if_icmp .ge 11, 3) := by decide +kernel
theorem dX0_workWith_60 : decode cX0_workWith 60 = .ok (.aload_n 0, 1) := by decide +kernel
theorem dX0_workWith_61 : decode cX0_workWith 61 = .ok (.iload 5, 2) := by decide +kernel
theorem dX0_workWith_63 : decode cX0_workWith 63 = .ok (.invokevirtual 56, 3) := by decide +kernel
theorem dX0_workWith_66 : decode cX0_workWith 66 = .ok (.istore 4, 2) := by decide +kernel
theorem dX0_workWith_68 : decode cX0_workWith 68 = .ok (.iinc 5 1, 3) := by decide +kernel
theorem dX0_workWith_71 : decode cX0_workWith 71 = .ok (.goto (-53), 3) := by decide +kernel
theorem dX0_workWith_74 : decode cX0_workWith 74 = .ok (.iload_n 2, 1) := by decide +kernel
theorem dX0_workWith_75 : decode cX0_workWith 75 = .ok (.iload 4, 2) := by decide +kernel
theorem dX0_workWith_77 : decode cX0_workWith 77 = .ok (.iadd, 1) := by decide +kernel
theorem dX0_workWith_78 : decode cX0_workWith 78 = .ok (.istore_n 2, 1) := by decide +kernel
theorem dX0_workWith_79 : decode cX0_workWith 79 = .ok (.iinc 3 1, 3) := by decide +kernel
theorem dX0_workWith_82 : decode cX0_workWith 82 = .ok (.goto (-78), 3) := by decide +kernel
theorem dX0_workWith_85 : decode cX0_workWith 85 = .ok (.iload_n 2, 1) := by decide +kernel
theorem dX0_workWith_86 : decode cX0_workWith 86 = .ok (.ireturn, 1) := by decide +kernel
theorem dX0_fill_0 : decode cX0_fill 0 = .ok (.iconst 0, 1) := by decide +kernel
theorem dX0_fill_1 : decode cX0_fill 1 = .ok (.istore_n 2, 1) := by decide +kernel
theorem dX0_fill_2 : decode cX0_fill 2 = .ok (.iload_n 2, 1) := by decide +kernel
theorem dX0_fill_3 : decode cX0_fill 3 = .ok (.bipush 120, 2) := by decide +kernel
theorem dX0_fill_5 : decode cX0_fill 5 = .ok (.if_icmp .ge 33, 3) := by decide +kernel
theorem dX0_fill_8 : decode cX0_fill 8 = .ok (.aload_n 0, 1) := by decide +kernel
theorem dX0_fill_9 : decode cX0_fill 9 = .ok (.getfield 26, 3) := by decide +kernel
theorem dX0_fill_12 : decode cX0_fill 12 = .ok (.bipush 120, 2) := by decide +kernel
theorem dX0_fill_14 : decode cX0_fill 14 = .ok (.iload_n 1, 1) := by decide +kernel
theorem dX0_fill_15 : decode cX0_fill 15 = .ok (.imul, 1) := by decide +kernel
theorem dX0_fill_16 : decode cX0_fill 16 = .ok (.iload_n 2, 1) := by decide +kernel
theorem dX0_fill_17 : decode cX0_fill 17 = .ok (.iadd, 1) := by decide +kernel
theorem dX0_fill_18 : decode cX0_fill 18 = .ok (.iconst 0, 1) := by decide +kernel
theorem dX0_fill_19 : decode cX0_fill 19 = .ok (.iastore, 1) := by decide +kernel
theorem dX0_fill_20 : decode cX0_fill 20 = .ok (.aload_n 0, 1) := by decide +kernel
theorem dX0_fill_21 : decode cX0_fill 21 = .ok (.getfield 29, 3) := by decide +kernel
theorem dX0_fill_24 : decode cX0_fill 24 = .ok (.bipush 120, 2) := by decide +kernel
theorem dX0_fill_26 : decode cX0_fill 26 = .ok (.iload_n 1, 1) := by decide +kernel
theorem dX0_fill_27 : decode cX0_fill 27 = .ok (.imul, 1) := by decide +kernel
theorem dX0_fill_28 : decode cX0_fill 28 = .ok (.iload_n 2, 1) := by decide +kernel
theorem dX0_fill_29 : decode cX0_fill 29 = .ok (.iadd, 1) := by decide +kernel
theorem dX0_fill_30 : decode cX0_fill 30 = .ok (.iconst 0, 1) := by decide +kernel
theorem dX0_fill_31 : decode cX0_fill 31 = .ok (.iastore, 1) := by decide +kernel
theorem dX0_fill_32 : decode cX0_fill 32 = .ok (.iinc 2 1, 3) := by decide +kernel
theorem dX0_fill_35 : decode cX0_fill 35 = .ok (.goto (-33), 3) := by decide +kernel
theorem dX0_fill_38 : decode cX0_fill 38 = .ok (.iconst 0, 1) := by decide +kernel
theorem dX0_fill_39 : decode cX0_fill 39 = .ok (.istore_n 2, 1) := by decide +kernel
theorem dX0_fill_40 : decode cX0_fill 40 = .ok (.iload_n 2, 1) := by decide +kernel
theorem dX0_fill_41 : decode cX0_fill 41 = .ok (.aload_n 0, 1) := by decide +kernel
theorem dX0_fill_42 : decode cX0_fill 42 = .ok (.getfield 52, 3) := by decide +kernel
theorem dX0_fill_45 : decode cX0_fill 45 = .ok (.if_icmp .ge 59, 3) := by decide +kernel
theorem dX0_fill_48 : decode cX0_fill 48 = .ok (.bipush 120, 2) := by decide +kernel
theorem dX0_fill_50 : decode cX0_fill 50 = .ok (.iload_n 1, 1) := by decide +kernel
theorem dX0_fill_51 : decode cX0_fill 51 = .ok (.imul, 1) := by decide +kernel
theorem dX0_fill_52 : decode cX0_fill 52 = .ok (.aload_n 0, 1) := by decide +kernel
theorem dX0_fill_53 : decode cX0_fill 53 = .ok (.aload_n 0, 1) := by decide +kernel
theorem dX0_fill_54 : decode cX0_fill 54 = .ok (.getfield 7, 3) := by decide +kernel
theorem dX0_fill_57 : decode cX0_fill 57 = .ok (.iload_n 2, 1) := by decide +kernel
theorem dX0_fill_58 : decode cX0_fill 58 = .ok (.iaload, 1) := by decide +kernel
theorem dX0_fill_59 : decode cX0_fill 59 = .ok (.iload_n 1, 1) := by decide +kernel
theorem dX0_fill_60 : decode cX0_fill 60 = .ok (.invokevirtual 48, 3) := by decide +kernel
theorem dX0_fill_63 : decode cX0_fill 63 = .ok (.iadd, 1) := by decide +kernel
theorem dX0_fill_64 : decode cX0_fill 64 = .ok (.istore_n 3, 1) := by decide +kernel
theorem dX0_fill_65 : decode cX0_fill 65 = .ok (.aload_n 0, 1) := by decide +kernel
theorem dX0_fill_66 : decode cX0_fill 66 = .ok (.getfield 26, 3) := by decide +kernel
theorem dX0_fill_69 : decode cX0_fill 69 = .ok (.iload_n 3, 1) := by decide +kernel
theorem dX0_fill_70 : decode cX0_fill 70 = .ok (.aload_n 0, 1) := by decide +kernel
theorem dX0_fill_71 : decode cX0_fill 71 = .ok (.getfield 26, 3) := by decide +kernel
theorem dX0_fill_74 : decode cX0_fill 74 = .ok (.iload_n 3, 1) := by decide +kernel
theorem dX0_fill_75 : decode cX0_fill 75 = .ok (.iaload, 1) := by decide +kernel
theorem dX0_fill_76 : decode cX0_fill 76 = .ok (.iconst 1, 1) := by decide +kernel
theorem dX0_fill_77 : decode cX0_fill 77 = .ok (.iadd, 1) := by decide +kernel
theorem dX0_fill_78 : decode cX0_fill 78 = .ok (.iastore, 1) := by decide +kernel
theorem dX0_fill_79 : decode cX0_fill 79 = .ok (.aload_n 0, 1) := by decide +kernel
theorem dX0_fill_80 : decode cX0_fill 80 = .ok (.getfield 29, 3) := by decide +kernel
theorem dX0_fill_83 : decode cX0_fill 83 = .ok (.iload_n 3, 1) := by decide +kernel
theorem dX0_fill_84 : decode cX0_fill 84 = .ok (.aload_n 0, 1) := by decide +kernel
theorem dX0_fill_85 : decode cX0_fill 85 = .ok (.getfield 29, 3) := by decide +kernel
theorem dX0_fill_88 : decode cX0_fill 88 = .ok (.iload_n 3, 1) := by decide +kernel
theorem dX0_fill_89 : decode cX0_fill 89 = .ok (.iaload, 1) := by decide +kernel
theorem dX0_fill_90 : decode cX0_fill 90 = .ok (.aload_n 0, 1) := by decide +kernel
theorem dX0_fill_91 : decode cX0_fill 91 = .ok (.getfield 13, 3) := by decide +kernel
theorem dX0_fill_94 : decode cX0_fill 94 = .ok (.iload_n 2, 1) := by decide +kernel
theorem dX0_fill_95 : decode cX0_fill 95 = .ok (.iaload, 1) := by decide +kernel
theorem dX0_fill_96 : decode cX0_fill 96 = .ok (.iadd, 1) := by decide +kernel
theorem dX0_fill_97 : decode cX0_fill 97 = .ok (.iastore, 1) := by decide +kernel
theorem dX0_fill_98 : decode cX0_fill 98 = .ok (.iinc 2 1, 3) := by decide +kernel
theorem dX0_fill_101 : decode cX0_fill 101 = .ok (.goto (-61), 3) := by decide +kernel
theorem dX0_fill_104 : decode cX0_fill 104 = .ok (.return_, 1) := by decide +kernel
end
section
set_option maxRecDepth 100000
/-! CubeViewsModel -/
def RX1 : String := "CubeViewsModel"
def TX1 : u_T := fun k => match k with
  | 0 => ("CubeViewsModel", "places", "[I", true)
  | 1 => ("CubeViewsModel", "amounts", "[I", true)
  | 2 => ("CubeViewsModel", "count", "I", false)
  | 3 => ("CubeViewsModel", "found", "I", false)
  | _ => ("CubeViewsModel", "total", "I", false)
def tyX1 : Nat → FieldType := fun k => match k with
  | 0 => .array .int
  | 1 => .array .int
  | 2 => .int
  | 3 => .int
  | _ => .int
abbrev wsX10 : List Cond := u_ws RX1 TX1 5
theorem nmX1 : ∀ a, a < 5 → ∀ b, b < 5 → a ≠ b → (TX1 a).2.1 ≠ (TX1 b).2.1 := by decide +kernel
theorem tyX1_ok : ∀ k, k < 5 → parseFieldDescriptor (TX1 k).2.2.1 = some (tyX1 k) := by decide +kernel
abbrev cX1_init : ByteArray := prog_3_method_1_code
def yX1_init : MethodName := ⟨RX1, "<init>", "()V"⟩
abbrev cX1_add : ByteArray := prog_3_method_3_code
def yX1_add : MethodName := ⟨RX1, "add", "(II)I"⟩
abbrev cX1_isAmount : ByteArray := prog_3_method_2_code
def yX1_isAmount : MethodName := ⟨RX1, "isAmount", "(I)Z"⟩
abbrev cX1_remove : ByteArray := prog_3_method_4_code
def yX1_remove : MethodName := ⟨RX1, "remove", "()I"⟩
abbrev cX1_change : ByteArray := prog_3_method_5_code
def yX1_change : MethodName := ⟨RX1, "change", "(II)I"⟩
abbrev cX1_facts : ByteArray := prog_3_method_6_code
def yX1_facts : MethodName := ⟨RX1, "facts", "()I"⟩
abbrev cX1_count : ByteArray := prog_3_method_15_code
def yX1_count : MethodName := ⟨RX1, "count", "(I)I"⟩
abbrev cX1_isFilter : ByteArray := prog_3_method_12_code
def yX1_isFilter : MethodName := ⟨RX1, "isFilter", "(I)Z"⟩
abbrev cX1_look : ByteArray := prog_3_method_14_code
def yX1_look : MethodName := ⟨RX1, "look", "(III)V"⟩
abbrev cX1_groupOf : ByteArray := prog_3_method_13_code
def yX1_groupOf : MethodName := ⟨RX1, "groupOf", "(II)I"⟩
abbrev cX1_has : ByteArray := prog_3_method_10_code
def yX1_has : MethodName := ⟨RX1, "has", "(II)Z"⟩
abbrev cX1_region : ByteArray := prog_3_method_7_code
def yX1_region : MethodName := ⟨RX1, "region", "(I)I"⟩
abbrev cX1_kind : ByteArray := prog_3_method_8_code
def yX1_kind : MethodName := ⟨RX1, "kind", "(I)I"⟩
abbrev cX1_month : ByteArray := prog_3_method_9_code
def yX1_month : MethodName := ⟨RX1, "month", "(I)I"⟩
abbrev cX1_passes : ByteArray := prog_3_method_11_code
def yX1_passes : MethodName := ⟨RX1, "passes", "(II)Z"⟩
abbrev cX1_sum : ByteArray := prog_3_method_16_code
def yX1_sum : MethodName := ⟨RX1, "sum", "(I)I"⟩
abbrev cX1_greatest : ByteArray := prog_3_method_17_code
def yX1_greatest : MethodName := ⟨RX1, "greatest", "(I)I"⟩
abbrev cX1_groups : ByteArray := prog_3_method_19_code
def yX1_groups : MethodName := ⟨RX1, "groups", "(II)I"⟩
abbrev cX1_isGrouping : ByteArray := prog_3_method_18_code
def yX1_isGrouping : MethodName := ⟨RX1, "isGrouping", "(I)Z"⟩
abbrev cX1_topSum : ByteArray := prog_3_method_20_code
def yX1_topSum : MethodName := ⟨RX1, "topSum", "(II)I"⟩
abbrev cX1_topGroup : ByteArray := prog_3_method_21_code
def yX1_topGroup : MethodName := ⟨RX1, "topGroup", "(II)I"⟩
abbrev cX1_quarter : ByteArray := prog_3_method_22_code
def yX1_quarter : MethodName := ⟨RX1, "quarter", "(II)I"⟩
abbrev cX1_growth : ByteArray := prog_3_method_23_code
def yX1_growth : MethodName := ⟨RX1, "growth", "(I)I"⟩
abbrev cX1_atLeast : ByteArray := prog_3_method_24_code
def yX1_atLeast : MethodName := ⟨RX1, "atLeast", "(II)I"⟩
abbrev cX1_plan : ByteArray := prog_3_method_25_code
def yX1_plan : MethodName := ⟨RX1, "plan", "(I)I"⟩
theorem q29 : (Jvm.Cond.initialized "CubeViewsModel") ∈ lw_all := lw_g (lw_at lw_m1 2 rfl) rfl
theorem q199 : (Jvm.Cond.instantiable "CubeViewsModel" (5 : Nat)) ∈ lw_all := lw_g (lw_at lw_m1 172 rfl) rfl
theorem q201 : (Jvm.Cond.instanceMethod ({ cls := "CubeViewsModel", name := "<init>", desc := "()V" } : Jvm.MethodName)) ∈ lw_all := lw_g (lw_at lw_m1 174 rfl) rfl
theorem q202 : (Jvm.Cond.code ({ cls := "CubeViewsModel", name := "<init>", desc := "()V" } : Jvm.MethodName) prog_3_method_1_code (1 : Nat) (Option.none : Option Jvm.ClassFile.FieldType)) ∈ lw_all := lw_g (lw_at lw_m1 175 rfl) rfl
theorem q203 : (Jvm.Cond.methodLink "CubeViewsModel" (1 : Nat) ({ cls := "java/lang/Object", name := "<init>", desc := "()V" } : Jvm.MethodName)) ∈ lw_all := lw_g (lw_at lw_m1 176 rfl) rfl
theorem q204 : (Jvm.Cond.fieldLink "CubeViewsModel" (7 : Nat) "CubeViewsModel" "places" "[I") ∈ lw_all := lw_g (lw_at lw_m1 177 rfl) rfl
theorem q205 : (Jvm.Cond.fieldLink "CubeViewsModel" (13 : Nat) "CubeViewsModel" "amounts" "[I") ∈ lw_all := lw_g (lw_at lw_m1 178 rfl) rfl
theorem q206 : (Jvm.Cond.fieldLink "CubeViewsModel" (21 : Nat) "CubeViewsModel" "count" "I") ∈ lw_all := lw_g (lw_at lw_m1 179 rfl) rfl
theorem q207 : (Jvm.Cond.fieldLink "CubeViewsModel" (41 : Nat) "CubeViewsModel" "found" "I") ∈ lw_all := lw_g (lw_at lw_m1 180 rfl) rfl
theorem q208 : (Jvm.Cond.fieldLink "CubeViewsModel" (44 : Nat) "CubeViewsModel" "total" "I") ∈ lw_all := lw_g (lw_at lw_m1 181 rfl) rfl
theorem q209 : (Jvm.Cond.laysFinal "CubeViewsModel" "CubeViewsModel" "places" "[I") ∈ lw_all := lw_g (lw_at lw_m1 182 rfl) rfl
theorem q210 : (Jvm.Cond.soleField "CubeViewsModel" "places") ∈ lw_all := lw_g (lw_at lw_m1 183 rfl) rfl
theorem q211 : (Jvm.Cond.laysFinal "CubeViewsModel" "CubeViewsModel" "amounts" "[I") ∈ lw_all := lw_g (lw_at lw_m1 184 rfl) rfl
theorem q212 : (Jvm.Cond.soleField "CubeViewsModel" "amounts") ∈ lw_all := lw_g (lw_at lw_m1 185 rfl) rfl
theorem q213 : (Jvm.Cond.lays "CubeViewsModel" "CubeViewsModel" "count" "I") ∈ lw_all := lw_g (lw_at lw_m1 186 rfl) rfl
theorem q214 : (Jvm.Cond.soleField "CubeViewsModel" "count") ∈ lw_all := lw_g (lw_at lw_m1 187 rfl) rfl
theorem q215 : (Jvm.Cond.lays "CubeViewsModel" "CubeViewsModel" "found" "I") ∈ lw_all := lw_g (lw_at lw_m1 188 rfl) rfl
theorem q216 : (Jvm.Cond.soleField "CubeViewsModel" "found") ∈ lw_all := lw_g (lw_at lw_m1 189 rfl) rfl
theorem q217 : (Jvm.Cond.lays "CubeViewsModel" "CubeViewsModel" "total" "I") ∈ lw_all := lw_g (lw_at lw_m1 190 rfl) rfl
theorem q218 : (Jvm.Cond.soleField "CubeViewsModel" "total") ∈ lw_all := lw_g (lw_at lw_m1 191 rfl) rfl
theorem q219 : (Jvm.Cond.superclass "CubeViewsModel" "java/lang/Object") ∈ lw_all := lw_g (lw_at lw_m1 192 rfl) rfl
theorem q221 : (Jvm.Cond.instanceMethod ({ cls := "CubeViewsModel", name := "add", desc := "(II)I" } : Jvm.MethodName)) ∈ lw_all := lw_g (lw_at lw_m1 194 rfl) rfl
theorem q222 : (Jvm.Cond.selects "CubeViewsModel" ({ cls := "CubeViewsModel", name := "add", desc := "(II)I" } : Jvm.MethodName) ({ cls := "CubeViewsModel", name := "add", desc := "(II)I" } : Jvm.MethodName)) ∈ lw_all := lw_g (lw_at lw_m1 195 rfl) rfl
theorem q223 : (Jvm.Cond.code ({ cls := "CubeViewsModel", name := "add", desc := "(II)I" } : Jvm.MethodName) prog_3_method_3_code (3 : Nat) (Option.some Jvm.ClassFile.FieldType.int)) ∈ lw_all := lw_g (lw_at lw_m1 196 rfl) rfl
theorem q224 : (Jvm.Cond.methodLink "CubeViewsModel" (16 : Nat) ({ cls := "CubeViewsModel", name := "isAmount", desc := "(I)Z" } : Jvm.MethodName)) ∈ lw_all := lw_g (lw_at lw_m1 197 rfl) rfl
theorem q225 : (Jvm.Cond.privateMethod ({ cls := "CubeViewsModel", name := "isAmount", desc := "(I)Z" } : Jvm.MethodName)) ∈ lw_tbl := lw_at lw_m1 198 rfl
theorem q226 : (Jvm.Cond.instanceMethod ({ cls := "CubeViewsModel", name := "isAmount", desc := "(I)Z" } : Jvm.MethodName)) ∈ lw_all := lw_g (lw_at lw_m1 199 rfl) rfl
theorem q227 : (Jvm.Cond.code ({ cls := "CubeViewsModel", name := "isAmount", desc := "(I)Z" } : Jvm.MethodName) prog_3_method_2_code (2 : Nat) (Option.some Jvm.ClassFile.FieldType.boolean)) ∈ lw_all := lw_g (lw_at lw_m1 200 rfl) rfl
theorem q228 : (Jvm.Cond.constant "CubeViewsModel" (20 : Nat) (-1000000 : Int32)) ∈ lw_all := lw_g (lw_at lw_m1 201 rfl) rfl
theorem q229 : (Jvm.Cond.constant "CubeViewsModel" (25 : Nat) (-2000000 : Int32)) ∈ lw_all := lw_g (lw_at lw_m1 202 rfl) rfl
theorem q231 : (Jvm.Cond.instanceMethod ({ cls := "CubeViewsModel", name := "remove", desc := "()I" } : Jvm.MethodName)) ∈ lw_all := lw_g (lw_at lw_m1 204 rfl) rfl
theorem q232 : (Jvm.Cond.selects "CubeViewsModel" ({ cls := "CubeViewsModel", name := "remove", desc := "()I" } : Jvm.MethodName) ({ cls := "CubeViewsModel", name := "remove", desc := "()I" } : Jvm.MethodName)) ∈ lw_all := lw_g (lw_at lw_m1 205 rfl) rfl
theorem q233 : (Jvm.Cond.code ({ cls := "CubeViewsModel", name := "remove", desc := "()I" } : Jvm.MethodName) prog_3_method_4_code (1 : Nat) (Option.some Jvm.ClassFile.FieldType.int)) ∈ lw_all := lw_g (lw_at lw_m1 206 rfl) rfl
theorem q234 : (Jvm.Cond.constant "CubeViewsModel" (26 : Nat) (-4000000 : Int32)) ∈ lw_all := lw_g (lw_at lw_m1 207 rfl) rfl
theorem q236 : (Jvm.Cond.instanceMethod ({ cls := "CubeViewsModel", name := "change", desc := "(II)I" } : Jvm.MethodName)) ∈ lw_all := lw_g (lw_at lw_m1 209 rfl) rfl
theorem q237 : (Jvm.Cond.selects "CubeViewsModel" ({ cls := "CubeViewsModel", name := "change", desc := "(II)I" } : Jvm.MethodName) ({ cls := "CubeViewsModel", name := "change", desc := "(II)I" } : Jvm.MethodName)) ∈ lw_all := lw_g (lw_at lw_m1 210 rfl) rfl
theorem q238 : (Jvm.Cond.code ({ cls := "CubeViewsModel", name := "change", desc := "(II)I" } : Jvm.MethodName) prog_3_method_5_code (4 : Nat) (Option.some Jvm.ClassFile.FieldType.int)) ∈ lw_all := lw_g (lw_at lw_m1 211 rfl) rfl
theorem q240 : (Jvm.Cond.instanceMethod ({ cls := "CubeViewsModel", name := "facts", desc := "()I" } : Jvm.MethodName)) ∈ lw_all := lw_g (lw_at lw_m1 213 rfl) rfl
theorem q241 : (Jvm.Cond.selects "CubeViewsModel" ({ cls := "CubeViewsModel", name := "facts", desc := "()I" } : Jvm.MethodName) ({ cls := "CubeViewsModel", name := "facts", desc := "()I" } : Jvm.MethodName)) ∈ lw_all := lw_g (lw_at lw_m1 214 rfl) rfl
theorem q242 : (Jvm.Cond.code ({ cls := "CubeViewsModel", name := "facts", desc := "()I" } : Jvm.MethodName) prog_3_method_6_code (1 : Nat) (Option.some Jvm.ClassFile.FieldType.int)) ∈ lw_all := lw_g (lw_at lw_m1 215 rfl) rfl
theorem q244 : (Jvm.Cond.instanceMethod ({ cls := "CubeViewsModel", name := "count", desc := "(I)I" } : Jvm.MethodName)) ∈ lw_all := lw_g (lw_at lw_m1 217 rfl) rfl
theorem q245 : (Jvm.Cond.selects "CubeViewsModel" ({ cls := "CubeViewsModel", name := "count", desc := "(I)I" } : Jvm.MethodName) ({ cls := "CubeViewsModel", name := "count", desc := "(I)I" } : Jvm.MethodName)) ∈ lw_all := lw_g (lw_at lw_m1 218 rfl) rfl
theorem q246 : (Jvm.Cond.code ({ cls := "CubeViewsModel", name := "count", desc := "(I)I" } : Jvm.MethodName) prog_3_method_15_code (2 : Nat) (Option.some Jvm.ClassFile.FieldType.int)) ∈ lw_all := lw_g (lw_at lw_m1 219 rfl) rfl
theorem q247 : (Jvm.Cond.methodLink "CubeViewsModel" (54 : Nat) ({ cls := "CubeViewsModel", name := "isFilter", desc := "(I)Z" } : Jvm.MethodName)) ∈ lw_all := lw_g (lw_at lw_m1 220 rfl) rfl
theorem q248 : (Jvm.Cond.privateMethod ({ cls := "CubeViewsModel", name := "isFilter", desc := "(I)Z" } : Jvm.MethodName)) ∈ lw_tbl := lw_at lw_m1 221 rfl
theorem q249 : (Jvm.Cond.instanceMethod ({ cls := "CubeViewsModel", name := "isFilter", desc := "(I)Z" } : Jvm.MethodName)) ∈ lw_all := lw_g (lw_at lw_m1 222 rfl) rfl
theorem q250 : (Jvm.Cond.code ({ cls := "CubeViewsModel", name := "isFilter", desc := "(I)Z" } : Jvm.MethodName) prog_3_method_12_code (2 : Nat) (Option.some Jvm.ClassFile.FieldType.boolean)) ∈ lw_all := lw_g (lw_at lw_m1 223 rfl) rfl
theorem q251 : (Jvm.Cond.methodLink "CubeViewsModel" (57 : Nat) ({ cls := "CubeViewsModel", name := "look", desc := "(III)V" } : Jvm.MethodName)) ∈ lw_all := lw_g (lw_at lw_m1 224 rfl) rfl
theorem q252 : (Jvm.Cond.privateMethod ({ cls := "CubeViewsModel", name := "look", desc := "(III)V" } : Jvm.MethodName)) ∈ lw_tbl := lw_at lw_m1 225 rfl
theorem q253 : (Jvm.Cond.instanceMethod ({ cls := "CubeViewsModel", name := "look", desc := "(III)V" } : Jvm.MethodName)) ∈ lw_all := lw_g (lw_at lw_m1 226 rfl) rfl
theorem q254 : (Jvm.Cond.code ({ cls := "CubeViewsModel", name := "look", desc := "(III)V" } : Jvm.MethodName) prog_3_method_14_code (5 : Nat) (Option.none : Option Jvm.ClassFile.FieldType)) ∈ lw_all := lw_g (lw_at lw_m1 227 rfl) rfl
theorem q255 : (Jvm.Cond.methodLink "CubeViewsModel" (47 : Nat) ({ cls := "CubeViewsModel", name := "groupOf", desc := "(II)I" } : Jvm.MethodName)) ∈ lw_all := lw_g (lw_at lw_m1 228 rfl) rfl
theorem q256 : (Jvm.Cond.privateMethod ({ cls := "CubeViewsModel", name := "groupOf", desc := "(II)I" } : Jvm.MethodName)) ∈ lw_tbl := lw_at lw_m1 229 rfl
theorem q257 : (Jvm.Cond.instanceMethod ({ cls := "CubeViewsModel", name := "groupOf", desc := "(II)I" } : Jvm.MethodName)) ∈ lw_all := lw_g (lw_at lw_m1 230 rfl) rfl
theorem q258 : (Jvm.Cond.code ({ cls := "CubeViewsModel", name := "groupOf", desc := "(II)I" } : Jvm.MethodName) prog_3_method_13_code (6 : Nat) (Option.some Jvm.ClassFile.FieldType.int)) ∈ lw_all := lw_g (lw_at lw_m1 231 rfl) rfl
theorem q259 : (Jvm.Cond.methodLink "CubeViewsModel" (31 : Nat) ({ cls := "CubeViewsModel", name := "has", desc := "(II)Z" } : Jvm.MethodName)) ∈ lw_all := lw_g (lw_at lw_m1 232 rfl) rfl
theorem q260 : (Jvm.Cond.privateMethod ({ cls := "CubeViewsModel", name := "has", desc := "(II)Z" } : Jvm.MethodName)) ∈ lw_tbl := lw_at lw_m1 233 rfl
theorem q261 : (Jvm.Cond.instanceMethod ({ cls := "CubeViewsModel", name := "has", desc := "(II)Z" } : Jvm.MethodName)) ∈ lw_all := lw_g (lw_at lw_m1 234 rfl) rfl
theorem q262 : (Jvm.Cond.code ({ cls := "CubeViewsModel", name := "has", desc := "(II)Z" } : Jvm.MethodName) prog_3_method_10_code (3 : Nat) (Option.some Jvm.ClassFile.FieldType.boolean)) ∈ lw_all := lw_g (lw_at lw_m1 235 rfl) rfl
theorem q263 : (Jvm.Cond.methodLink "CubeViewsModel" (27 : Nat) ({ cls := "CubeViewsModel", name := "region", desc := "(I)I" } : Jvm.MethodName)) ∈ lw_all := lw_g (lw_at lw_m1 236 rfl) rfl
theorem q264 : (Jvm.Cond.privateMethod ({ cls := "CubeViewsModel", name := "region", desc := "(I)I" } : Jvm.MethodName)) ∈ lw_tbl := lw_at lw_m1 237 rfl
theorem q265 : (Jvm.Cond.instanceMethod ({ cls := "CubeViewsModel", name := "region", desc := "(I)I" } : Jvm.MethodName)) ∈ lw_all := lw_g (lw_at lw_m1 238 rfl) rfl
theorem q266 : (Jvm.Cond.code ({ cls := "CubeViewsModel", name := "region", desc := "(I)I" } : Jvm.MethodName) prog_3_method_7_code (2 : Nat) (Option.some Jvm.ClassFile.FieldType.int)) ∈ lw_all := lw_g (lw_at lw_m1 239 rfl) rfl
theorem q267 : (Jvm.Cond.methodLink "CubeViewsModel" (35 : Nat) ({ cls := "CubeViewsModel", name := "kind", desc := "(I)I" } : Jvm.MethodName)) ∈ lw_all := lw_g (lw_at lw_m2 0 rfl) rfl
theorem q268 : (Jvm.Cond.privateMethod ({ cls := "CubeViewsModel", name := "kind", desc := "(I)I" } : Jvm.MethodName)) ∈ lw_tbl := lw_at lw_m2 1 rfl
theorem q269 : (Jvm.Cond.instanceMethod ({ cls := "CubeViewsModel", name := "kind", desc := "(I)I" } : Jvm.MethodName)) ∈ lw_all := lw_g (lw_at lw_m2 2 rfl) rfl
theorem q270 : (Jvm.Cond.code ({ cls := "CubeViewsModel", name := "kind", desc := "(I)I" } : Jvm.MethodName) prog_3_method_8_code (2 : Nat) (Option.some Jvm.ClassFile.FieldType.int)) ∈ lw_all := lw_g (lw_at lw_m2 3 rfl) rfl
theorem q271 : (Jvm.Cond.methodLink "CubeViewsModel" (38 : Nat) ({ cls := "CubeViewsModel", name := "month", desc := "(I)I" } : Jvm.MethodName)) ∈ lw_all := lw_g (lw_at lw_m2 4 rfl) rfl
theorem q272 : (Jvm.Cond.privateMethod ({ cls := "CubeViewsModel", name := "month", desc := "(I)I" } : Jvm.MethodName)) ∈ lw_tbl := lw_at lw_m2 5 rfl
theorem q273 : (Jvm.Cond.instanceMethod ({ cls := "CubeViewsModel", name := "month", desc := "(I)I" } : Jvm.MethodName)) ∈ lw_all := lw_g (lw_at lw_m2 6 rfl) rfl
theorem q274 : (Jvm.Cond.code ({ cls := "CubeViewsModel", name := "month", desc := "(I)I" } : Jvm.MethodName) prog_3_method_9_code (2 : Nat) (Option.some Jvm.ClassFile.FieldType.int)) ∈ lw_all := lw_g (lw_at lw_m2 7 rfl) rfl
theorem q275 : (Jvm.Cond.methodLink "CubeViewsModel" (51 : Nat) ({ cls := "CubeViewsModel", name := "passes", desc := "(II)Z" } : Jvm.MethodName)) ∈ lw_all := lw_g (lw_at lw_m2 8 rfl) rfl
theorem q276 : (Jvm.Cond.privateMethod ({ cls := "CubeViewsModel", name := "passes", desc := "(II)Z" } : Jvm.MethodName)) ∈ lw_tbl := lw_at lw_m2 9 rfl
theorem q277 : (Jvm.Cond.instanceMethod ({ cls := "CubeViewsModel", name := "passes", desc := "(II)Z" } : Jvm.MethodName)) ∈ lw_all := lw_g (lw_at lw_m2 10 rfl) rfl
theorem q278 : (Jvm.Cond.code ({ cls := "CubeViewsModel", name := "passes", desc := "(II)Z" } : Jvm.MethodName) prog_3_method_11_code (3 : Nat) (Option.some Jvm.ClassFile.FieldType.boolean)) ∈ lw_all := lw_g (lw_at lw_m2 11 rfl) rfl
theorem q280 : (Jvm.Cond.instanceMethod ({ cls := "CubeViewsModel", name := "sum", desc := "(I)I" } : Jvm.MethodName)) ∈ lw_all := lw_g (lw_at lw_m2 13 rfl) rfl
theorem q281 : (Jvm.Cond.selects "CubeViewsModel" ({ cls := "CubeViewsModel", name := "sum", desc := "(I)I" } : Jvm.MethodName) ({ cls := "CubeViewsModel", name := "sum", desc := "(I)I" } : Jvm.MethodName)) ∈ lw_all := lw_g (lw_at lw_m2 14 rfl) rfl
theorem q282 : (Jvm.Cond.code ({ cls := "CubeViewsModel", name := "sum", desc := "(I)I" } : Jvm.MethodName) prog_3_method_16_code (2 : Nat) (Option.some Jvm.ClassFile.FieldType.int)) ∈ lw_all := lw_g (lw_at lw_m2 15 rfl) rfl
theorem q284 : (Jvm.Cond.instanceMethod ({ cls := "CubeViewsModel", name := "greatest", desc := "(I)I" } : Jvm.MethodName)) ∈ lw_all := lw_g (lw_at lw_m2 17 rfl) rfl
theorem q285 : (Jvm.Cond.selects "CubeViewsModel" ({ cls := "CubeViewsModel", name := "greatest", desc := "(I)I" } : Jvm.MethodName) ({ cls := "CubeViewsModel", name := "greatest", desc := "(I)I" } : Jvm.MethodName)) ∈ lw_all := lw_g (lw_at lw_m2 18 rfl) rfl
theorem q286 : (Jvm.Cond.code ({ cls := "CubeViewsModel", name := "greatest", desc := "(I)I" } : Jvm.MethodName) prog_3_method_17_code (4 : Nat) (Option.some Jvm.ClassFile.FieldType.int)) ∈ lw_all := lw_g (lw_at lw_m2 19 rfl) rfl
theorem q288 : (Jvm.Cond.instanceMethod ({ cls := "CubeViewsModel", name := "groups", desc := "(II)I" } : Jvm.MethodName)) ∈ lw_all := lw_g (lw_at lw_m2 21 rfl) rfl
theorem q289 : (Jvm.Cond.selects "CubeViewsModel" ({ cls := "CubeViewsModel", name := "groups", desc := "(II)I" } : Jvm.MethodName) ({ cls := "CubeViewsModel", name := "groups", desc := "(II)I" } : Jvm.MethodName)) ∈ lw_all := lw_g (lw_at lw_m2 22 rfl) rfl
theorem q290 : (Jvm.Cond.code ({ cls := "CubeViewsModel", name := "groups", desc := "(II)I" } : Jvm.MethodName) prog_3_method_19_code (5 : Nat) (Option.some Jvm.ClassFile.FieldType.int)) ∈ lw_all := lw_g (lw_at lw_m2 23 rfl) rfl
theorem q291 : (Jvm.Cond.methodLink "CubeViewsModel" (61 : Nat) ({ cls := "CubeViewsModel", name := "isGrouping", desc := "(I)Z" } : Jvm.MethodName)) ∈ lw_all := lw_g (lw_at lw_m2 24 rfl) rfl
theorem q292 : (Jvm.Cond.privateMethod ({ cls := "CubeViewsModel", name := "isGrouping", desc := "(I)Z" } : Jvm.MethodName)) ∈ lw_tbl := lw_at lw_m2 25 rfl
theorem q293 : (Jvm.Cond.instanceMethod ({ cls := "CubeViewsModel", name := "isGrouping", desc := "(I)Z" } : Jvm.MethodName)) ∈ lw_all := lw_g (lw_at lw_m2 26 rfl) rfl
theorem q294 : (Jvm.Cond.code ({ cls := "CubeViewsModel", name := "isGrouping", desc := "(I)Z" } : Jvm.MethodName) prog_3_method_18_code (2 : Nat) (Option.some Jvm.ClassFile.FieldType.boolean)) ∈ lw_all := lw_g (lw_at lw_m2 27 rfl) rfl
theorem q296 : (Jvm.Cond.instanceMethod ({ cls := "CubeViewsModel", name := "topSum", desc := "(II)I" } : Jvm.MethodName)) ∈ lw_all := lw_g (lw_at lw_m2 29 rfl) rfl
theorem q297 : (Jvm.Cond.selects "CubeViewsModel" ({ cls := "CubeViewsModel", name := "topSum", desc := "(II)I" } : Jvm.MethodName) ({ cls := "CubeViewsModel", name := "topSum", desc := "(II)I" } : Jvm.MethodName)) ∈ lw_all := lw_g (lw_at lw_m2 30 rfl) rfl
theorem q298 : (Jvm.Cond.code ({ cls := "CubeViewsModel", name := "topSum", desc := "(II)I" } : Jvm.MethodName) prog_3_method_20_code (5 : Nat) (Option.some Jvm.ClassFile.FieldType.int)) ∈ lw_all := lw_g (lw_at lw_m2 31 rfl) rfl
theorem q300 : (Jvm.Cond.instanceMethod ({ cls := "CubeViewsModel", name := "topGroup", desc := "(II)I" } : Jvm.MethodName)) ∈ lw_all := lw_g (lw_at lw_m2 33 rfl) rfl
theorem q301 : (Jvm.Cond.selects "CubeViewsModel" ({ cls := "CubeViewsModel", name := "topGroup", desc := "(II)I" } : Jvm.MethodName) ({ cls := "CubeViewsModel", name := "topGroup", desc := "(II)I" } : Jvm.MethodName)) ∈ lw_all := lw_g (lw_at lw_m2 34 rfl) rfl
theorem q302 : (Jvm.Cond.code ({ cls := "CubeViewsModel", name := "topGroup", desc := "(II)I" } : Jvm.MethodName) prog_3_method_21_code (6 : Nat) (Option.some Jvm.ClassFile.FieldType.int)) ∈ lw_all := lw_g (lw_at lw_m2 35 rfl) rfl
theorem q304 : (Jvm.Cond.instanceMethod ({ cls := "CubeViewsModel", name := "quarter", desc := "(II)I" } : Jvm.MethodName)) ∈ lw_all := lw_g (lw_at lw_m2 37 rfl) rfl
theorem q305 : (Jvm.Cond.selects "CubeViewsModel" ({ cls := "CubeViewsModel", name := "quarter", desc := "(II)I" } : Jvm.MethodName) ({ cls := "CubeViewsModel", name := "quarter", desc := "(II)I" } : Jvm.MethodName)) ∈ lw_all := lw_g (lw_at lw_m2 38 rfl) rfl
theorem q306 : (Jvm.Cond.code ({ cls := "CubeViewsModel", name := "quarter", desc := "(II)I" } : Jvm.MethodName) prog_3_method_22_code (5 : Nat) (Option.some Jvm.ClassFile.FieldType.int)) ∈ lw_all := lw_g (lw_at lw_m2 39 rfl) rfl
theorem q308 : (Jvm.Cond.instanceMethod ({ cls := "CubeViewsModel", name := "growth", desc := "(I)I" } : Jvm.MethodName)) ∈ lw_all := lw_g (lw_at lw_m2 41 rfl) rfl
theorem q309 : (Jvm.Cond.selects "CubeViewsModel" ({ cls := "CubeViewsModel", name := "growth", desc := "(I)I" } : Jvm.MethodName) ({ cls := "CubeViewsModel", name := "growth", desc := "(I)I" } : Jvm.MethodName)) ∈ lw_all := lw_g (lw_at lw_m2 42 rfl) rfl
theorem q310 : (Jvm.Cond.code ({ cls := "CubeViewsModel", name := "growth", desc := "(I)I" } : Jvm.MethodName) prog_3_method_23_code (4 : Nat) (Option.some Jvm.ClassFile.FieldType.int)) ∈ lw_all := lw_g (lw_at lw_m2 43 rfl) rfl
theorem q312 : (Jvm.Cond.instanceMethod ({ cls := "CubeViewsModel", name := "atLeast", desc := "(II)I" } : Jvm.MethodName)) ∈ lw_all := lw_g (lw_at lw_m2 45 rfl) rfl
theorem q313 : (Jvm.Cond.selects "CubeViewsModel" ({ cls := "CubeViewsModel", name := "atLeast", desc := "(II)I" } : Jvm.MethodName) ({ cls := "CubeViewsModel", name := "atLeast", desc := "(II)I" } : Jvm.MethodName)) ∈ lw_all := lw_g (lw_at lw_m2 46 rfl) rfl
theorem q314 : (Jvm.Cond.code ({ cls := "CubeViewsModel", name := "atLeast", desc := "(II)I" } : Jvm.MethodName) prog_3_method_24_code (5 : Nat) (Option.some Jvm.ClassFile.FieldType.int)) ∈ lw_all := lw_g (lw_at lw_m2 47 rfl) rfl
theorem q316 : (Jvm.Cond.instanceMethod ({ cls := "CubeViewsModel", name := "plan", desc := "(I)I" } : Jvm.MethodName)) ∈ lw_all := lw_g (lw_at lw_m2 49 rfl) rfl
theorem q317 : (Jvm.Cond.selects "CubeViewsModel" ({ cls := "CubeViewsModel", name := "plan", desc := "(I)I" } : Jvm.MethodName) ({ cls := "CubeViewsModel", name := "plan", desc := "(I)I" } : Jvm.MethodName)) ∈ lw_all := lw_g (lw_at lw_m2 50 rfl) rfl
theorem q318 : (Jvm.Cond.code ({ cls := "CubeViewsModel", name := "plan", desc := "(I)I" } : Jvm.MethodName) prog_3_method_25_code (2 : Nat) (Option.some Jvm.ClassFile.FieldType.int)) ∈ lw_all := lw_g (lw_at lw_m2 51 rfl) rfl
theorem in_X1 : ∀ w ∈ wsX10, w ∈ lw_all := lw_in wsX10 [209, 211, 213, 215, 217] (by decide +kernel) (by decide +kernel)
end
section
set_option maxRecDepth 100000
theorem dX1_init_0 : decode cX1_init 0 = .ok (.aload_n 0, 1) := by decide +kernel
theorem dX1_init_1 : decode cX1_init 1 = .ok (.invokespecial 1, 3) := by decide +kernel
theorem dX1_init_4 : decode cX1_init 4 = .ok (.aload_n 0, 1) := by decide +kernel
theorem dX1_init_5 : decode cX1_init 5 = .ok (.bipush 40, 2) := by decide +kernel
theorem dX1_init_7 : decode cX1_init 7 = .ok (.newarray .int, 2) := by decide +kernel
theorem dX1_init_9 : decode cX1_init 9 = .ok (.putfield 7, 3) := by decide +kernel
theorem dX1_init_12 : decode cX1_init 12 = .ok (.aload_n 0, 1) := by decide +kernel
theorem dX1_init_13 : decode cX1_init 13 = .ok (.bipush 40, 2) := by decide +kernel
theorem dX1_init_15 : decode cX1_init 15 = .ok (.newarray .int, 2) := by decide +kernel
theorem dX1_init_17 : decode cX1_init 17 = .ok (.putfield 13, 3) := by decide +kernel
theorem dX1_init_20 : decode cX1_init 20 = .ok (.return_, 1) := by decide +kernel
theorem dX1_add_0 : decode cX1_add 0 = .ok (.iload_n 1, 1) := by decide +kernel
theorem dX1_add_1 : decode cX1_add 1 = .ok (.ifCond .lt 17, 3) := by decide +kernel
theorem dX1_add_4 : decode cX1_add 4 = .ok (.iload_n 1, 1) := by decide +kernel
theorem dX1_add_5 : decode cX1_add 5 = .ok (.bipush 119, 2) := by decide +kernel
theorem dX1_add_7 : decode cX1_add 7 = .ok (.if_icmp .gt 11, 3) := by decide +kernel
theorem dX1_add_10 : decode cX1_add 10 = .ok (.aload_n 0, 1) := by decide +kernel
theorem dX1_add_11 : decode cX1_add 11 = .ok (.iload_n 2, 1) := by decide +kernel
theorem dX1_add_12 : decode cX1_add 12 = .ok (.invokevirtual 16, 3) := by decide +kernel
theorem dX1_add_15 : decode cX1_add 15 = .ok (.ifCond .ne 6, 3) := by decide +kernel
theorem dX1_add_18 : decode cX1_add 18 = .ok (.ldc 20, 2) := by decide +kernel
theorem dX1_add_20 : decode cX1_add 20 = .ok (.ireturn, 1) := by decide +kernel
theorem dX1_add_21 : decode cX1_add 21 = .ok (.aload_n 0, 1) := by decide +kernel
theorem dX1_add_22 : decode cX1_add 22 = .ok (.getfield 21, 3) := by decide +kernel
theorem dX1_add_25 : decode cX1_add 25 = .ok (.bipush 40, 2) := by decide +kernel
theorem dX1_add_27 : decode cX1_add 27 = .ok (.if_icmp .ne 6, 3) := by decide +kernel
theorem dX1_add_30 : decode cX1_add 30 = .ok (.ldc 25, 2) := by decide +kernel
theorem dX1_add_32 : decode cX1_add 32 = .ok (.ireturn, 1) := by decide +kernel
theorem dX1_add_33 : decode cX1_add 33 = .ok (.aload_n 0, 1) := by decide +kernel
theorem dX1_add_34 : decode cX1_add 34 = .ok (.getfield 7, 3) := by decide +kernel
theorem dX1_add_37 : decode cX1_add 37 = .ok (.aload_n 0, 1) := by decide +kernel
theorem dX1_add_38 : decode cX1_add 38 = .ok (.getfield 21, 3) := by decide +kernel
theorem dX1_add_41 : decode cX1_add 41 = .ok (.iload_n 1, 1) := by decide +kernel
theorem dX1_add_42 : decode cX1_add 42 = .ok (.iastore, 1) := by decide +kernel
theorem dX1_add_43 : decode cX1_add 43 = .ok (.aload_n 0, 1) := by decide +kernel
theorem dX1_add_44 : decode cX1_add 44 = .ok (.getfield 13, 3) := by decide +kernel
theorem dX1_add_47 : decode cX1_add 47 = .ok (.aload_n 0, 1) := by decide +kernel
theorem dX1_add_48 : decode cX1_add 48 = .ok (.getfield 21, 3) := by decide +kernel
theorem dX1_add_51 : decode cX1_add 51 = .ok (.iload_n 2, 1) := by decide +kernel
theorem dX1_add_52 : decode cX1_add 52 = .ok (.iastore, 1) := by decide +kernel
theorem dX1_add_53 : decode cX1_add 53 = .ok (.aload_n 0, 1) := by decide +kernel
theorem dX1_add_54 : decode cX1_add 54 = .ok (.dup, 1) := by decide +kernel
theorem dX1_add_55 : decode cX1_add 55 = .ok (.getfield 21, 3) := by decide +kernel
theorem dX1_add_58 : decode cX1_add 58 = .ok (.iconst 1, 1) := by decide +kernel
theorem dX1_add_59 : decode cX1_add 59 = .ok (.iadd, 1) := by decide +kernel
theorem dX1_add_60 : decode cX1_add 60 = .ok (.putfield 21, 3) := by decide +kernel
theorem dX1_add_63 : decode cX1_add 63 = .ok (.aload_n 0, 1) := by decide +kernel
theorem dX1_add_64 : decode cX1_add 64 = .ok (.getfield 21, 3) := by decide +kernel
theorem dX1_add_67 : decode cX1_add 67 = .ok (.iconst 1, 1) := by decide +kernel
theorem dX1_add_68 : decode cX1_add 68 = .ok (.isub, 1) := by decide +kernel
theorem dX1_add_69 : decode cX1_add 69 = .ok (.ireturn, 1) := by decide +kernel
theorem dX1_isAmount_0 : decode cX1_isAmount 0 = .ok (.iload_n 1, 1) := by decide +kernel
theorem dX1_isAmount_1 : decode cX1_isAmount 1 = .ok (.bipush (-50), 2) := by decide +kernel
theorem dX1_isAmount_3 : decode cX1_isAmount 3 = .ok (.if_icmp .lt 13, 3) := by decide +kernel
theorem dX1_isAmount_6 : decode cX1_isAmount 6 = .ok (.iload_n 1, 1) := by decide +kernel
theorem dX1_isAmount_7 : decode cX1_isAmount 7 = .ok (.bipush 50, 2) := by decide +kernel
theorem dX1_isAmount_9 : decode cX1_isAmount 9 = .ok (.if_icmp .gt 7, 3) := by decide +kernel
theorem dX1_isAmount_12 : decode cX1_isAmount 12 = .ok (.iconst 1, 1) := by decide +kernel
theorem dX1_isAmount_13 : decode cX1_isAmount 13 = .ok (.goto 4, 3) := by decide +kernel
theorem dX1_isAmount_16 : decode cX1_isAmount 16 = .ok (.iconst 0, 1) := by decide +kernel
theorem dX1_isAmount_17 : decode cX1_isAmount 17 = .ok (.ireturn, 1) := by decide +kernel
theorem dX1_remove_0 : decode cX1_remove 0 = .ok (.aload_n 0, 1) := by decide +kernel
theorem dX1_remove_1 : decode cX1_remove 1 = .ok (.getfield 21, 3) := by decide +kernel
theorem dX1_remove_4 : decode cX1_remove 4 = .ok (.ifCond .ne 6, 3) := by decide +kernel
theorem dX1_remove_7 : decode cX1_remove 7 = .ok (.ldc 26, 2) := by decide +kernel
theorem dX1_remove_9 : decode cX1_remove 9 = .ok (.ireturn, 1) := by decide +kernel
theorem dX1_remove_10 : decode cX1_remove 10 = .ok (.aload_n 0, 1) := by decide +kernel
theorem dX1_remove_11 : decode cX1_remove 11 = .ok (.dup, 1) := by decide +kernel
theorem dX1_remove_12 : decode cX1_remove 12 = .ok (.getfield 21, 3) := by decide +kernel
theorem dX1_remove_15 : decode cX1_remove 15 = .ok (.iconst 1, 1) := by decide +kernel
theorem dX1_remove_16 : decode cX1_remove 16 = .ok (.isub, 1) := by decide +kernel
theorem dX1_remove_17 : decode cX1_remove 17 = .ok (.putfield 21, 3) := by decide +kernel
theorem dX1_remove_20 : decode cX1_remove 20 = .ok (.aload_n 0, 1) := by decide +kernel
theorem dX1_remove_21 : decode cX1_remove 21 = .ok (.getfield 13, 3) := by decide +kernel
theorem dX1_remove_24 : decode cX1_remove 24 = .ok (.aload_n 0, 1) := by decide +kernel
theorem dX1_remove_25 : decode cX1_remove 25 = .ok (.getfield 21, 3) := by decide +kernel
theorem dX1_remove_28 : decode cX1_remove 28 = .ok (.iaload, 1) := by decide +kernel
theorem dX1_remove_29 : decode cX1_remove 29 = .ok (.ireturn, 1) := by decide +kernel
theorem dX1_change_0 : decode cX1_change 0 = .ok (.iload_n 1, 1) := by decide +kernel
theorem dX1_change_1 : decode cX1_change 1 = .ok (.ifCond .lt 19, 3) := by decide +kernel
theorem dX1_change_4 : decode cX1_change 4 = .ok (.iload_n 1, 1) := by decide +kernel
theorem dX1_change_5 : decode cX1_change 5 = .ok (.aload_n 0, 1) := by decide +kernel
theorem dX1_change_6 : decode cX1_change 6 = .ok (.getfield 21, 3) := by decide +kernel
theorem dX1_change_9 : decode cX1_change 9 = .ok (.if_icmp .ge 11, 3) := by decide +kernel
theorem dX1_change_12 : decode cX1_change 12 = .ok (.aload_n 0, 1) := by decide +kernel
theorem dX1_change_13 : decode cX1_change 13 = .ok (.iload_n 2, 1) := by decide +kernel
theorem dX1_change_14 : decode cX1_change 14 = .ok (.invokevirtual 16, 3) := by decide +kernel
theorem dX1_change_17 : decode cX1_change 17 = .ok (.ifCond .ne 6, 3) := by decide +kernel
theorem dX1_change_20 : decode cX1_change 20 = .ok (.ldc 20, 2) := by decide +kernel
theorem dX1_change_22 : decode cX1_change 22 = .ok (.ireturn, 1) := by decide +kernel
theorem dX1_change_23 : decode cX1_change 23 = .ok (.aload_n 0, 1) := by decide +kernel
theorem dX1_change_24 : decode cX1_change 24 = .ok (.getfield 13, 3) := by decide +kernel
theorem dX1_change_27 : decode cX1_change 27 = .ok (.iload_n 1, 1) := by decide +kernel
theorem dX1_change_28 : decode cX1_change 28 = .ok (.iaload, 1) := by decide +kernel
theorem dX1_change_29 : decode cX1_change 29 = .ok (.istore_n 3, 1) := by decide +kernel
theorem dX1_change_30 : decode cX1_change 30 = .ok (.aload_n 0, 1) := by decide +kernel
theorem dX1_change_31 : decode cX1_change 31 = .ok (.getfield 13, 3) := by decide +kernel
theorem dX1_change_34 : decode cX1_change 34 = .ok (.iload_n 1, 1) := by decide +kernel
theorem dX1_change_35 : decode cX1_change 35 = .ok (.iload_n 2, 1) := by decide +kernel
theorem dX1_change_36 : decode cX1_change 36 = .ok (.iastore, 1) := by decide +kernel
theorem dX1_change_37 : decode cX1_change 37 = .ok (.iload_n 3, 1) := by decide +kernel
theorem dX1_change_38 : decode cX1_change 38 = .ok (.ireturn, 1) := by decide +kernel
theorem dX1_facts_0 : decode cX1_facts 0 = .ok (.aload_n 0, 1) := by decide +kernel
theorem dX1_facts_1 : decode cX1_facts 1 = .ok (.getfield 21, 3) := by decide +kernel
theorem dX1_facts_4 : decode cX1_facts 4 = .ok (.ireturn, 1) := by decide +kernel
theorem dX1_count_0 : decode cX1_count 0 = .ok (.aload_n 0, 1) := by decide +kernel
theorem dX1_count_1 : decode cX1_count 1 = .ok (.iload_n 1, 1) := by decide +kernel
theorem dX1_count_2 : decode cX1_count 2 = .ok (.invokevirtual 54, 3) := by decide +kernel
theorem dX1_count_5 : decode cX1_count 5 = .ok (.ifCond .ne 6, 3) := by decide +kernel
theorem dX1_count_8 : decode cX1_count 8 = .ok (.ldc 20, 2) := by decide +kernel
theorem dX1_count_10 : decode cX1_count 10 = .ok (.ireturn, 1) := by decide +kernel
theorem dX1_count_11 : decode cX1_count 11 = .ok (.aload_n 0, 1) := by decide +kernel
theorem dX1_count_12 : decode cX1_count 12 = .ok (.iconst 0, 1) := by decide +kernel
theorem dX1_count_13 : decode cX1_count 13 = .ok (.iconst 0, 1) := by decide +kernel
theorem dX1_count_14 : decode cX1_count 14 = .ok (.iload_n 1, 1) := by decide +kernel
theorem dX1_count_15 : decode cX1_count 15 = .ok (.invokevirtual 57, 3) := by decide +kernel
theorem dX1_count_18 : decode cX1_count 18 = .ok (.aload_n 0, 1) := by decide +kernel
theorem dX1_count_19 : decode cX1_count 19 = .ok (.getfield 41, 3) := by decide +kernel
theorem dX1_count_22 : decode cX1_count 22 = .ok (.ireturn, 1) := by decide +kernel
theorem dX1_isFilter_0 : decode cX1_isFilter 0 = .ok (.iload_n 1, 1) := by decide +kernel
theorem dX1_isFilter_1 : decode cX1_isFilter 1 = .ok (.ifCond .lt 14, 3) := by decide +kernel
theorem dX1_isFilter_4 : decode cX1_isFilter 4 = .ok (.iload_n 1, 1) := by decide +kernel
theorem dX1_isFilter_5 : decode cX1_isFilter 5 = .ok (.sipush 32767, 3) := by decide +kernel
theorem dX1_isFilter_8 : decode cX1_isFilter 8 = .ok (.if_icmp .gt 7, 3) := by decide +kernel
theorem dX1_isFilter_11 : decode cX1_isFilter 11 = .ok (.iconst 1, 1) := by decide +kernel
theorem dX1_isFilter_12 : decode cX1_isFilter 12 = .ok (.goto 4, 3) := by decide +kernel
theorem dX1_isFilter_15 : decode cX1_isFilter 15 = .ok (.iconst 0, 1) := by decide +kernel
theorem dX1_isFilter_16 : decode cX1_isFilter 16 = .ok (.ireturn, 1) := by decide +kernel
theorem dX1_look_0 : decode cX1_look 0 = .ok (.aload_n 0, 1) := by decide +kernel
theorem dX1_look_1 : decode cX1_look 1 = .ok (.iconst 0, 1) := by decide +kernel
theorem dX1_look_2 : decode cX1_look 2 = .ok (.putfield 41, 3) := by decide +kernel
theorem dX1_look_5 : decode cX1_look 5 = .ok (.aload_n 0, 1) := by decide +kernel
theorem dX1_look_6 : decode cX1_look 6 = .ok (.iconst 0, 1) := by decide +kernel
theorem dX1_look_7 : decode cX1_look 7 = .ok (.putfield 44, 3) := by decide +kernel
theorem dX1_look_10 : decode cX1_look 10 = .ok (.iconst 0, 1) := by decide +kernel
theorem dX1_look_11 : decode cX1_look 11 = .ok (.istore 4, 2) := by decide +kernel
theorem dX1_look_13 : decode cX1_look 13 = .ok (.iload 4, 2) := by decide +kernel
theorem dX1_look_15 : decode cX1_look 15 = .ok (.aload_n 0, 1) := by decide +kernel
theorem dX1_look_16 : decode cX1_look 16 = .ok (.getfield 21, 3) := by decide +kernel
theorem dX1_look_19 : decode cX1_look 19 = .ok (.if_icmp .ge 66, 3) := by decide +kernel
theorem dX1_look_22 : decode cX1_look 22 = .ok (.aload_n 0, 1) := by decide +kernel
theorem dX1_look_23 : decode cX1_look 23 = .ok (.aload_n 0, 1) := by decide +kernel
theorem dX1_look_24 : decode cX1_look 24 = .ok (.getfield 7, 3) := by decide +kernel
theorem dX1_look_27 : decode cX1_look 27 = .ok (.iload 4, 2) := by decide +kernel
theorem dX1_look_29 : decode cX1_look 29 = .ok (.iaload, 1) := by decide +kernel
theorem dX1_look_30 : decode cX1_look 30 = .ok (.iload_n 2, 1) := by decide +kernel
theorem dX1_look_31 : decode cX1_look 31 = .ok (.invokevirtual 47, 3) := by decide +kernel
theorem dX1_look_34 : decode cX1_look 34 = .ok (.iload_n 1, 1) := by decide +kernel
theorem dX1_look_35 : decode cX1_look 35 = .ok (.if_icmp .ne 44, 3) := by decide +kernel
theorem dX1_look_38 : decode cX1_look 38 = .ok (.aload_n 0, 1) := by decide +kernel
theorem dX1_look_39 : decode cX1_look 39 = .ok (.aload_n 0, 1) := by decide +kernel
theorem dX1_look_40 : decode cX1_look 40 = .ok (.getfield 7, 3) := by decide +kernel
theorem dX1_look_43 : decode cX1_look 43 = .ok (.iload 4, 2) := by decide +kernel
theorem dX1_look_45 : decode cX1_look 45 = .ok (.iaload, 1) := by decide +kernel
theorem dX1_look_46 : decode cX1_look 46 = .ok (.iload_n 3, 1) := by decide +kernel
theorem dX1_look_47 : decode cX1_look 47 = .ok (.invokevirtual 51, 3) := by decide +kernel
theorem dX1_look_50 : decode cX1_look 50 = .ok (.ifCond .eq 29, 3) := by decide +kernel
theorem dX1_look_53 : decode cX1_look 53 = .ok (.aload_n 0, 1) := by decide +kernel
theorem dX1_look_54 : decode cX1_look 54 = .ok (.dup, 1) := by decide +kernel
theorem dX1_look_55 : decode cX1_look 55 = .ok (.getfield 41, 3) := by decide +kernel
theorem dX1_look_58 : decode cX1_look 58 = .ok (.iconst 1, 1) := by decide +kernel
theorem dX1_look_59 : decode cX1_look 59 = .ok (.iadd, 1) := by decide +kernel
theorem dX1_look_60 : decode cX1_look 60 = .ok (.putfield 41, 3) := by decide +kernel
theorem dX1_look_63 : decode cX1_look 63 = .ok (.aload_n 0, 1) := by decide +kernel
theorem dX1_look_64 : decode cX1_look 64 = .ok (.aload_n 0, 1) := by decide +kernel
theorem dX1_look_65 : decode cX1_look 65 = .ok (.getfield 44, 3) := by decide +kernel
theorem dX1_look_68 : decode cX1_look 68 = .ok (.aload_n 0, 1) := by decide +kernel
theorem dX1_look_69 : decode cX1_look 69 = .ok (.getfield 13, 3) := by decide +kernel
theorem dX1_look_72 : decode cX1_look 72 = .ok (.iload 4, 2) := by decide +kernel
theorem dX1_look_74 : decode cX1_look 74 = .ok (.iaload, 1) := by decide +kernel
theorem dX1_look_75 : decode cX1_look 75 = .ok (.iadd, 1) := by decide +kernel
theorem dX1_look_76 : decode cX1_look 76 = .ok (.putfield 44, 3) := by decide +kernel
theorem dX1_look_79 : decode cX1_look 79 = .ok (.iinc 4 1, 3) := by decide +kernel
theorem dX1_look_82 : decode cX1_look 82 = .ok (.goto (-69), 3) := by decide +kernel
theorem dX1_look_85 : decode cX1_look 85 = .ok (.return_, 1) := by decide +kernel
theorem dX1_groupOf_0 : decode cX1_groupOf 0 = .ok (.aload_n 0, 1) := by decide +kernel
theorem dX1_groupOf_1 : decode cX1_groupOf 1 = .ok (.iload_n 2, 1) := by decide +kernel
theorem dX1_groupOf_2 : decode cX1_groupOf 2 = .ok (.iconst 0, 1) := by decide +kernel
theorem dX1_groupOf_3 : decode cX1_groupOf 3 = .ok (.invokevirtual 31, 3) := by decide +kernel
theorem dX1_groupOf_6 : decode cX1_groupOf 6 = .ok (.ifCond .eq 11, 3) := by decide +kernel
theorem dX1_groupOf_9 : decode cX1_groupOf 9 = .ok (.aload_n 0, 1) := by decide +kernel
theorem dX1_groupOf_10 : decode cX1_groupOf 10 = .ok (.iload_n 1, 1) := by decide +kernel
theorem dX1_groupOf_11 : decode cX1_groupOf 11 = .ok (.invokevirtual 27, 3) := by decide +kernel
theorem dX1_groupOf_14 : decode cX1_groupOf 14 = .ok (.goto 4, 3) := by decide +kernel
theorem dX1_groupOf_17 : decode cX1_groupOf 17 = .ok (.iconst 0, 1) := by decide +kernel
theorem dX1_groupOf_18 : decode cX1_groupOf 18 = .ok (.istore_n 3, 1) := by decide +kernel
theorem dX1_groupOf_19 : decode cX1_groupOf 19 = .ok (.aload_n 0, 1) := by decide +kernel
theorem dX1_groupOf_20 : decode cX1_groupOf 20 = .ok (.iload_n 2, 1) := by decide +kernel
theorem dX1_groupOf_21 : decode cX1_groupOf 21 = .ok (.iconst 1, 1) := by decide +kernel
theorem dX1_groupOf_22 : decode cX1_groupOf 22 = .ok (.invokevirtual 31, 3) := by decide +kernel
theorem dX1_groupOf_25 : decode cX1_groupOf 25 = .ok (.ifCond .eq 11, 3) := by decide +kernel
theorem dX1_groupOf_28 : decode cX1_groupOf 28 = .ok (.aload_n 0, 1) := by decide +kernel
theorem dX1_groupOf_29 : decode cX1_groupOf 29 = .ok (.iload_n 1, 1) := by decide +kernel
theorem dX1_groupOf_30 : decode cX1_groupOf 30 = .ok (.invokevirtual 35, 3) := by decide +kernel
theorem dX1_groupOf_33 : decode cX1_groupOf 33 = .ok (.goto 4, 3) := by decide +kernel
theorem dX1_groupOf_36 : decode cX1_groupOf 36 = .ok (.iconst 0, 1) := by decide +kernel
theorem dX1_groupOf_37 : decode cX1_groupOf 37 = .ok (.istore 4, 2) := by decide +kernel
theorem dX1_groupOf_39 : decode cX1_groupOf 39 = .ok (.aload_n 0, 1) := by decide +kernel
theorem dX1_groupOf_40 : decode cX1_groupOf 40 = .ok (.iload_n 2, 1) := by decide +kernel
theorem dX1_groupOf_41 : decode cX1_groupOf 41 = .ok (.iconst 2, 1) := by decide +kernel
theorem dX1_groupOf_42 : decode cX1_groupOf 42 = .ok (.invokevirtual 31, 3) := by decide +kernel
theorem dX1_groupOf_45 : decode cX1_groupOf 45 = .ok (.ifCond .eq 11, 3) := by decide +kernel
theorem dX1_groupOf_48 : decode cX1_groupOf 48 = .ok (.aload_n 0, 1) := by decide +kernel
theorem dX1_groupOf_49 : decode cX1_groupOf 49 = .ok (.iload_n 1, 1) := by decide +kernel
theorem dX1_groupOf_50 : decode cX1_groupOf 50 = .ok (.invokevirtual 38, 3) := by decide +kernel
theorem dX1_groupOf_53 : decode cX1_groupOf 53 = .ok (.goto 4, 3) := by decide +kernel
theorem dX1_groupOf_56 : decode cX1_groupOf 56 = .ok (.iconst 0, 1) := by decide +kernel
theorem dX1_groupOf_57 : decode cX1_groupOf 57 = .ok (.istore 5, 2) := by decide +kernel
theorem dX1_groupOf_59 : decode cX1_groupOf 59 = .ok (.iload_n 3, 1) := by decide +kernel
theorem dX1_groupOf_60 : decode cX1_groupOf 60 = .ok (.iconst 4, 1) := by decide +kernel
theorem dX1_groupOf_61 : decode cX1_groupOf 61 = .ok (.iload 4, 2) := by decide +kernel
theorem dX1_groupOf_63 : decode cX1_groupOf 63 = .ok (.imul, 1) := by decide +kernel
theorem dX1_groupOf_64 : decode cX1_groupOf 64 = .ok (.iadd, 1) := by decide +kernel
theorem dX1_groupOf_65 : decode cX1_groupOf 65 = .ok (.bipush 20, 2) := by decide +kernel
theorem dX1_groupOf_67 : decode cX1_groupOf 67 = .ok (.iload 5, 2) := by decide +kernel
theorem dX1_groupOf_69 : decode cX1_groupOf 69 = .ok (.imul, 1) := by decide +kernel
theorem dX1_groupOf_70 : decode cX1_groupOf 70 = .ok (.iadd, 1) := by decide +kernel
theorem dX1_groupOf_71 : decode cX1_groupOf 71 = .ok (.ireturn, 1) := by decide +kernel
theorem dX1_has_0 : decode cX1_has 0 = .ok (.iload_n 1, 1) := by decide +kernel
theorem dX1_has_1 : decode cX1_has 1 = .ok (.iload_n 2, 1) := by decide +kernel
theorem dX1_has_2 : decode cX1_has 2 = .ok (.ishr, 1) := by decide +kernel
theorem dX1_has_3 : decode cX1_has 3 = .ok (.iconst 1, 1) := by decide +kernel
theorem dX1_has_4 : decode cX1_has 4 = .ok (.iand, 1) := by decide +kernel
theorem dX1_has_5 : decode cX1_has 5 = .ok (.iconst 1, 1) := by decide +kernel
theorem dX1_has_6 : decode cX1_has 6 = .ok (.if_icmp .ne 7, 3) := by decide +kernel
theorem dX1_has_9 : decode cX1_has 9 = .ok (.iconst 1, 1) := by decide +kernel
theorem dX1_has_10 : decode cX1_has 10 = .ok (.goto 4, 3) := by decide +kernel
theorem dX1_has_13 : decode cX1_has 13 = .ok (.iconst 0, 1) := by decide +kernel
theorem dX1_has_14 : decode cX1_has 14 = .ok (.ireturn, 1) := by decide +kernel
theorem dX1_region_0 : decode cX1_region 0 = .ok (.iload_n 1, 1) := by decide +kernel
theorem dX1_region_1 : decode cX1_region 1 = .ok (.iconst 4, 1) := by decide +kernel
theorem dX1_region_2 : decode cX1_region 2 = .ok (.irem, 1) := by decide +kernel
theorem dX1_region_3 : decode cX1_region 3 = .ok (.ireturn, 1) := by decide +kernel
theorem dX1_kind_0 : decode cX1_kind 0 = .ok (.iload_n 1, 1) := by decide +kernel
theorem dX1_kind_1 : decode cX1_kind 1 = .ok (.iconst 4, 1) := by decide +kernel
theorem dX1_kind_2 : decode cX1_kind 2 = .ok (.idiv, 1) := by decide +kernel
theorem dX1_kind_3 : decode cX1_kind 3 = .ok (.iconst 5, 1) := by decide +kernel
theorem dX1_kind_4 : decode cX1_kind 4 = .ok (.irem, 1) := by decide +kernel
theorem dX1_kind_5 : decode cX1_kind 5 = .ok (.ireturn, 1) := by decide +kernel
theorem dX1_month_0 : decode cX1_month 0 = .ok (.iload_n 1, 1) := by decide +kernel
theorem dX1_month_1 : decode cX1_month 1 = .ok (.bipush 20, 2) := by decide +kernel
theorem dX1_month_3 : decode cX1_month 3 = .ok (.idiv, 1) := by decide +kernel
theorem dX1_month_4 : decode cX1_month 4 = .ok (.ireturn, 1) := by decide +kernel
theorem dX1_passes_0 : decode cX1_passes 0 = .ok (.aload_n 0, 1) := by decide +kernel
theorem dX1_passes_1 : decode cX1_passes 1 = .ok (.iload_n 2, 1) := by decide +kernel
theorem dX1_passes_2 : decode cX1_passes 2 = .ok (.aload_n 0, 1) := by decide +kernel
theorem dX1_passes_3 : decode cX1_passes 3 = .ok (.iload_n 1, 1) := by decide +kernel
theorem dX1_passes_4 : decode cX1_passes 4 = .ok (.invokevirtual 27, 3) := by decide +kernel
theorem dX1_passes_7 : decode cX1_passes 7 = .ok (.invokevirtual 31, 3) := by decide +kernel
theorem dX1_passes_10 : decode cX1_passes 10 = .ok (.ifCond .eq 38, 3) := by decide +kernel
theorem dX1_passes_13 : decode cX1_passes 13 = .ok (.aload_n 0, 1) := by decide +kernel
theorem dX1_passes_14 : decode cX1_passes 14 = .ok (.iload_n 2, 1) := by decide +kernel
theorem dX1_passes_15 : decode cX1_passes 15 = .ok (.iconst 4, 1) := by decide +kernel
theorem dX1_passes_16 : decode cX1_passes 16 = .ok (.aload_n 0, 1) := by decide +kernel
theorem dX1_passes_17 : decode cX1_passes 17 = .ok (.iload_n 1, 1) := by decide +kernel
theorem dX1_passes_18 : decode cX1_passes 18 = .ok (.invokevirtual 35, 3) := by decide +kernel
theorem dX1_passes_21 : decode cX1_passes 21 = .ok (.iadd, 1) := by decide +kernel
theorem dX1_passes_22 : decode cX1_passes 22 = .ok (.invokevirtual 31, 3) := by decide +kernel
theorem dX1_passes_25 : decode cX1_passes 25 = .ok (.ifCond .eq 23, 3) := by decide +kernel
theorem dX1_passes_28 : decode cX1_passes 28 = .ok (.aload_n 0, 1) := by decide +kernel
theorem dX1_passes_29 : decode cX1_passes 29 = .ok (.iload_n 2, 1) := by decide +kernel
theorem dX1_passes_30 : decode cX1_passes 30 = .ok (.bipush 9, 2) := by decide +kernel
theorem dX1_passes_32 : decode cX1_passes 32 = .ok (.aload_n 0, 1) := by decide +kernel
theorem dX1_passes_33 : decode cX1_passes 33 = .ok (.iload_n 1, 1) := by decide +kernel
theorem dX1_passes_34 : decode cX1_passes 34 = .ok (.invokevirtual 38, 3) := by decide +kernel
theorem dX1_passes_37 : decode cX1_passes 37 = .ok (.iadd, 1) := by decide +kernel
theorem dX1_passes_38 : decode cX1_passes 38 = .ok (.invokevirtual 31, 3) := by decide +kernel
theorem dX1_passes_41 : decode cX1_passes 41 = .ok (.ifCond .eq 7, 3) := by decide +kernel
theorem dX1_passes_44 : decode cX1_passes 44 = .ok (.iconst 1, 1) := by decide +kernel
theorem dX1_passes_45 : decode cX1_passes 45 = .ok (.goto 4, 3) := by decide +kernel
theorem dX1_passes_48 : decode cX1_passes 48 = .ok (.iconst 0, 1) := by decide +kernel
theorem dX1_passes_49 : decode cX1_passes 49 = .ok (.ireturn, 1) := by decide +kernel
theorem dX1_sum_0 : decode cX1_sum 0 = .ok (.aload_n 0, 1) := by decide +kernel
theorem dX1_sum_1 : decode cX1_sum 1 = .ok (.iload_n 1, 1) := by decide +kernel
theorem dX1_sum_2 : decode cX1_sum 2 = .ok (.invokevirtual 54, 3) := by decide +kernel
theorem dX1_sum_5 : decode cX1_sum 5 = .ok (.ifCond .ne 6, 3) := by decide +kernel
theorem dX1_sum_8 : decode cX1_sum 8 = .ok (.ldc 20, 2) := by decide +kernel
theorem dX1_sum_10 : decode cX1_sum 10 = .ok (.ireturn, 1) := by decide +kernel
theorem dX1_sum_11 : decode cX1_sum 11 = .ok (.aload_n 0, 1) := by decide +kernel
theorem dX1_sum_12 : decode cX1_sum 12 = .ok (.iconst 0, 1) := by decide +kernel
theorem dX1_sum_13 : decode cX1_sum 13 = .ok (.iconst 0, 1) := by decide +kernel
theorem dX1_sum_14 : decode cX1_sum 14 = .ok (.iload_n 1, 1) := by decide +kernel
theorem dX1_sum_15 : decode cX1_sum 15 = .ok (.invokevirtual 57, 3) := by decide +kernel
theorem dX1_sum_18 : decode cX1_sum 18 = .ok (.aload_n 0, 1) := by decide +kernel
theorem dX1_sum_19 : decode cX1_sum 19 = .ok (.getfield 44, 3) := by decide +kernel
theorem dX1_sum_22 : decode cX1_sum 22 = .ok (.ireturn, 1) := by decide +kernel
theorem dX1_greatest_0 : decode cX1_greatest 0 = .ok (.aload_n 0, 1) := by decide +kernel
theorem dX1_greatest_1 : decode cX1_greatest 1 = .ok (.iload_n 1, 1) := by decide +kernel
theorem dX1_greatest_2 : decode cX1_greatest 2 = .ok (.invokevirtual 54, 3) := by decide +kernel
theorem dX1_greatest_5 : decode cX1_greatest 5 = .ok (.ifCond .ne 6, 3) := by decide +kernel
theorem dX1_greatest_8 : decode cX1_greatest 8 = .ok (.ldc 20, 2) := by decide +kernel
theorem dX1_greatest_10 : decode cX1_greatest 10 = .ok (.ireturn, 1) := by decide +kernel
theorem dX1_greatest_11 : decode cX1_greatest 11 = .ok (.ldc 26, 2) := by decide +kernel
theorem dX1_greatest_13 : decode cX1_greatest 13 = .ok (.istore_n 2, 1) := by decide +kernel
theorem dX1_greatest_14 : decode cX1_greatest 14 = .ok (.iconst 0, 1) := by decide +kernel
theorem dX1_greatest_15 : decode cX1_greatest 15 = .ok (.istore_n 3, 1) := by decide +kernel
theorem dX1_greatest_16 : decode cX1_greatest 16 = .ok (.iload_n 3, 1) := by decide +kernel
theorem dX1_greatest_17 : decode cX1_greatest 17 = .ok (.aload_n 0, 1) := by decide +kernel
theorem dX1_greatest_18 : decode cX1_greatest 18 = .ok (.getfield 21, 3) := by decide +kernel
theorem dX1_greatest_21 : decode cX1_greatest 21 = .ok (.if_icmp .ge 44, 3) := by decide +kernel
theorem dX1_greatest_24 : decode cX1_greatest 24 = .ok (.aload_n 0, 1) := by decide +kernel
theorem dX1_greatest_25 : decode cX1_greatest 25 = .ok (.aload_n 0, 1) := by decide +kernel
theorem dX1_greatest_26 : decode cX1_greatest 26 = .ok (.getfield 7, 3) := by decide +kernel
theorem dX1_greatest_29 : decode cX1_greatest 29 = .ok (.iload_n 3, 1) := by decide +kernel
theorem dX1_greatest_30 : decode cX1_greatest 30 = .ok (.iaload, 1) := by decide +kernel
theorem dX1_greatest_31 : decode cX1_greatest 31 = .ok (.iload_n 1, 1) := by decide +kernel
theorem dX1_greatest_32 : decode cX1_greatest 32 = .ok (.invokevirtual 51, 3) := by decide +kernel
theorem dX1_greatest_35 : decode cX1_greatest 35 = .ok (.ifCond .eq 22, 3) := by decide +kernel
theorem dX1_greatest_38 : decode cX1_greatest 38 = .ok (.aload_n 0, 1) := by decide +kernel
theorem dX1_greatest_39 : decode cX1_greatest 39 = .ok (.getfield 13, 3) := by decide +kernel
theorem dX1_greatest_42 : decode cX1_greatest 42 = .ok (.iload_n 3, 1) := by decide +kernel
theorem dX1_greatest_43 : decode cX1_greatest 43 = .ok (.iaload, 1) := by decide +kernel
theorem dX1_greatest_44 : decode cX1_greatest 44 = .ok (.iload_n 2, 1) := by decide +kernel
theorem dX1_greatest_45 : decode cX1_greatest 45 = .ok (.if_icmp .le 12, 3) := by decide +kernel
theorem dX1_greatest_48 : decode cX1_greatest 48 = .ok (.aload_n 0, 1) := by decide +kernel
theorem dX1_greatest_49 : decode cX1_greatest 49 = .ok (.getfield 13, 3) := by decide +kernel
theorem dX1_greatest_52 : decode cX1_greatest 52 = .ok (.iload_n 3, 1) := by decide +kernel
theorem dX1_greatest_53 : decode cX1_greatest 53 = .ok (.iaload, 1) := by decide +kernel
theorem dX1_greatest_54 : decode cX1_greatest 54 = .ok (.goto 4, 3) := by decide +kernel
theorem dX1_greatest_57 : decode cX1_greatest 57 = .ok (.iload_n 2, 1) := by decide +kernel
end
section
set_option maxRecDepth 100000
theorem dX1_greatest_58 : decode cX1_greatest 58 = .ok (.istore_n 2, 1) := by decide +kernel
theorem dX1_greatest_59 : decode cX1_greatest 59 = .ok (.iinc 3 1, 3) := by decide +kernel
theorem dX1_greatest_62 : decode cX1_greatest 62 = .ok (.goto (-46), 3) := by decide +kernel
theorem dX1_greatest_65 : decode cX1_greatest 65 = .ok (.iload_n 2, 1) := by decide +kernel
theorem dX1_greatest_66 : decode cX1_greatest 66 = .ok (.ireturn, 1) := by decide +kernel
theorem dX1_groups_0 : decode cX1_groups 0 = .ok (.aload_n 0, 1) := by decide +kernel
theorem dX1_groups_1 : decode cX1_groups 1 = .ok (.iload_n 1, 1) := by decide +kernel
theorem dX1_groups_2 : decode cX1_groups 2 = .ok (.invokevirtual 61, 3) := by decide +kernel
theorem dX1_groups_5 : decode cX1_groups 5 = .ok (.ifCond .eq 11, 3) := by decide +kernel
theorem dX1_groups_8 : decode cX1_groups 8 = .ok (.aload_n 0, 1) := by decide +kernel
theorem dX1_groups_9 : decode cX1_groups 9 = .ok (.iload_n 2, 1) := by decide +kernel
theorem dX1_groups_10 : decode cX1_groups 10 = .ok (.invokevirtual 54, 3) := by decide +kernel
theorem dX1_groups_13 : decode cX1_groups 13 = .ok (.ifCond .ne 6, 3) := by decide +kernel
theorem dX1_groups_16 : decode cX1_groups 16 = .ok (.ldc 20, 2) := by decide +kernel
theorem dX1_groups_18 : decode cX1_groups 18 = .ok (.ireturn, 1) := by decide +kernel
theorem dX1_groups_19 : decode cX1_groups 19 = .ok (.iconst 0, 1) := by decide +kernel
theorem dX1_groups_20 : decode cX1_groups 20 = .ok (.istore_n 3, 1) := by decide +kernel
theorem dX1_groups_21 : decode cX1_groups 21 = .ok (.iconst 0, 1) := by decide +kernel
theorem dX1_groups_22 : decode cX1_groups 22 = .ok (.istore 4, 2) := by decide +kernel
theorem dX1_groups_24 : decode cX1_groups 24 = .ok (.iload 4, 2) := by decide +kernel
theorem dX1_groups_26 : decode cX1_groups 26 = .ok (.bipush 120, 2) := by decide +kernel
theorem dX1_groups_28 : decode cX1_groups 28 = .ok (.if_icmp .ge 32, 3) := by decide +kernel
theorem dX1_groups_31 : decode cX1_groups 31 = .ok (.aload_n 0, 1) := by decide +kernel
theorem dX1_groups_32 : decode cX1_groups 32 = .ok (.iload 4, 2) := by decide +kernel
theorem dX1_groups_34 : decode cX1_groups 34 = .ok (.iload_n 1, 1) := by decide +kernel
theorem dX1_groups_35 : decode cX1_groups 35 = .ok (.iload_n 2, 1) := by decide +kernel
theorem dX1_groups_36 : decode cX1_groups 36 = .ok (.invokevirtual 57, 3) := by decide +kernel
theorem dX1_groups_39 : decode cX1_groups 39 = .ok (.aload_n 0, 1) := by decide +kernel
theorem dX1_groups_40 : decode cX1_groups 40 = .ok (.getfield 41, 3) := by decide +kernel
theorem dX1_groups_43 : decode cX1_groups 43 = .ok (.ifCond .le 9, 3) := by decide +kernel
theorem dX1_groups_46 : decode cX1_groups 46 = .ok (.iload_n 3, 1) := by decide +kernel
theorem dX1_groups_47 : decode cX1_groups 47 = .ok (.iconst 1, 1) := by decide +kernel
theorem dX1_groups_48 : decode cX1_groups 48 = .ok (.iadd, 1) := by decide +kernel
theorem dX1_groups_49 : decode cX1_groups 49 = .ok (.goto 4, 3) := by decide +kernel
theorem dX1_groups_52 : decode cX1_groups 52 = .ok (.iload_n 3, 1) := by decide +kernel
theorem dX1_groups_53 : decode cX1_groups 53 = .ok (.istore_n 3, 1) := by decide +kernel
theorem dX1_groups_54 : decode cX1_groups 54 = .ok (.iinc 4 1, 3) := by decide +kernel
theorem dX1_groups_57 : decode cX1_groups 57 = .ok (.goto (-33), 3) := by decide +kernel
theorem dX1_groups_60 : decode cX1_groups 60 = .ok (.iload_n 3, 1) := by decide +kernel
theorem dX1_groups_61 : decode cX1_groups 61 = .ok (.ireturn, 1) := by decide +kernel
theorem dX1_isGrouping_0 : decode cX1_isGrouping 0 = .ok (.iload_n 1, 1) := by decide +kernel
theorem dX1_isGrouping_1 : decode cX1_isGrouping 1 = .ok (.ifCond .lt 13, 3) := by decide +kernel
theorem dX1_isGrouping_4 : decode cX1_isGrouping 4 = .ok (.iload_n 1, 1) := by decide +kernel
theorem dX1_isGrouping_5 : decode cX1_isGrouping 5 = .ok (.bipush 7, 2) := by decide +kernel
theorem dX1_isGrouping_7 : decode cX1_isGrouping 7 = .ok (.if_icmp .gt 7, 3) := by decide +kernel
theorem dX1_isGrouping_10 : decode cX1_isGrouping 10 = .ok (.iconst 1, 1) := by decide +kernel
theorem dX1_isGrouping_11 : decode cX1_isGrouping 11 = .ok (.goto 4, 3) := by decide +kernel
theorem dX1_isGrouping_14 : decode cX1_isGrouping 14 = .ok (.iconst 0, 1) := by decide +kernel
theorem dX1_isGrouping_15 : decode cX1_isGrouping 15 = .ok (.ireturn, 1) := by decide +kernel
theorem dX1_topSum_0 : decode cX1_topSum 0 = .ok (.aload_n 0, 1) := by decide +kernel
theorem dX1_topSum_1 : decode cX1_topSum 1 = .ok (.iload_n 1, 1) := by decide +kernel
theorem dX1_topSum_2 : decode cX1_topSum 2 = .ok (.invokevirtual 61, 3) := by decide +kernel
theorem dX1_topSum_5 : decode cX1_topSum 5 = .ok (.ifCond .eq 11, 3) := by decide +kernel
theorem dX1_topSum_8 : decode cX1_topSum 8 = .ok (.aload_n 0, 1) := by decide +kernel
theorem dX1_topSum_9 : decode cX1_topSum 9 = .ok (.iload_n 2, 1) := by decide +kernel
theorem dX1_topSum_10 : decode cX1_topSum 10 = .ok (.invokevirtual 54, 3) := by decide +kernel
theorem dX1_topSum_13 : decode cX1_topSum 13 = .ok (.ifCond .ne 6, 3) := by decide +kernel
theorem dX1_topSum_16 : decode cX1_topSum 16 = .ok (.ldc 20, 2) := by decide +kernel
theorem dX1_topSum_18 : decode cX1_topSum 18 = .ok (.ireturn, 1) := by decide +kernel
theorem dX1_topSum_19 : decode cX1_topSum 19 = .ok (.ldc 26, 2) := by decide +kernel
theorem dX1_topSum_21 : decode cX1_topSum 21 = .ok (.istore_n 3, 1) := by decide +kernel
theorem dX1_topSum_22 : decode cX1_topSum 22 = .ok (.iconst 0, 1) := by decide +kernel
theorem dX1_topSum_23 : decode cX1_topSum 23 = .ok (.istore 4, 2) := by decide +kernel
theorem dX1_topSum_25 : decode cX1_topSum 25 = .ok (.iload 4, 2) := by decide +kernel
theorem dX1_topSum_27 : decode cX1_topSum 27 = .ok (.bipush 120, 2) := by decide +kernel
theorem dX1_topSum_29 : decode cX1_topSum 29 = .ok (.if_icmp .ge 41, 3) := by decide +kernel
theorem dX1_topSum_32 : decode cX1_topSum 32 = .ok (.aload_n 0, 1) := by decide +kernel
theorem dX1_topSum_33 : decode cX1_topSum 33 = .ok (.iload 4, 2) := by decide +kernel
theorem dX1_topSum_35 : decode cX1_topSum 35 = .ok (.iload_n 1, 1) := by decide +kernel
theorem dX1_topSum_36 : decode cX1_topSum 36 = .ok (.iload_n 2, 1) := by decide +kernel
theorem dX1_topSum_37 : decode cX1_topSum 37 = .ok (.invokevirtual 57, 3) := by decide +kernel
theorem dX1_topSum_40 : decode cX1_topSum 40 = .ok (.aload_n 0, 1) := by decide +kernel
theorem dX1_topSum_41 : decode cX1_topSum 41 = .ok (.getfield 41, 3) := by decide +kernel
theorem dX1_topSum_44 : decode cX1_topSum 44 = .ok (.ifCond .le 18, 3) := by decide +kernel
theorem dX1_topSum_47 : decode cX1_topSum 47 = .ok (.aload_n 0, 1) := by decide +kernel
theorem dX1_topSum_48 : decode cX1_topSum 48 = .ok (.getfield 44, 3) := by decide +kernel
theorem dX1_topSum_51 : decode cX1_topSum 51 = .ok (.iload_n 3, 1) := by decide +kernel
theorem dX1_topSum_52 : decode cX1_topSum 52 = .ok (.if_icmp .le 10, 3) := by decide +kernel
theorem dX1_topSum_55 : decode cX1_topSum 55 = .ok (.aload_n 0, 1) := by decide +kernel
theorem dX1_topSum_56 : decode cX1_topSum 56 = .ok (.getfield 44, 3) := by decide +kernel
theorem dX1_topSum_59 : decode cX1_topSum 59 = .ok (.goto 4, 3) := by decide +kernel
theorem dX1_topSum_62 : decode cX1_topSum 62 = .ok (.iload_n 3, 1) := by decide +kernel
theorem dX1_topSum_63 : decode cX1_topSum 63 = .ok (.istore_n 3, 1) := by decide +kernel
theorem dX1_topSum_64 : decode cX1_topSum 64 = .ok (.iinc 4 1, 3) := by decide +kernel
theorem dX1_topSum_67 : decode cX1_topSum 67 = .ok (.goto (-42), 3) := by decide +kernel
theorem dX1_topSum_70 : decode cX1_topSum 70 = .ok (.iload_n 3, 1) := by decide +kernel
theorem dX1_topSum_71 : decode cX1_topSum 71 = .ok (.ireturn, 1) := by decide +kernel
theorem dX1_topGroup_0 : decode cX1_topGroup 0 = .ok (.aload_n 0, 1) := by decide +kernel
theorem dX1_topGroup_1 : decode cX1_topGroup 1 = .ok (.iload_n 1, 1) := by decide +kernel
theorem dX1_topGroup_2 : decode cX1_topGroup 2 = .ok (.invokevirtual 61, 3) := by decide +kernel
theorem dX1_topGroup_5 : decode cX1_topGroup 5 = .ok (.ifCond .eq 11, 3) := by decide +kernel
theorem dX1_topGroup_8 : decode cX1_topGroup 8 = .ok (.aload_n 0, 1) := by decide +kernel
theorem dX1_topGroup_9 : decode cX1_topGroup 9 = .ok (.iload_n 2, 1) := by decide +kernel
theorem dX1_topGroup_10 : decode cX1_topGroup 10 = .ok (.invokevirtual 54, 3) := by decide +kernel
theorem dX1_topGroup_13 : decode cX1_topGroup 13 = .ok (.ifCond .ne 6, 3) := by decide +kernel
theorem dX1_topGroup_16 : decode cX1_topGroup 16 = .ok (.ldc 20, 2) := by decide +kernel
theorem dX1_topGroup_18 : decode cX1_topGroup 18 = .ok (.ireturn, 1) := by decide +kernel
theorem dX1_topGroup_19 : decode cX1_topGroup 19 = .ok (.ldc 26, 2) := by decide +kernel
theorem dX1_topGroup_21 : decode cX1_topGroup 21 = .ok (.istore_n 3, 1) := by decide +kernel
theorem dX1_topGroup_22 : decode cX1_topGroup 22 = .ok (.ldc 26, 2) := by decide +kernel
theorem dX1_topGroup_24 : decode cX1_topGroup 24 = .ok (.istore 4, 2) := by decide +kernel
theorem dX1_topGroup_26 : decode cX1_topGroup 26 = .ok (.iconst 0, 1) := by decide +kernel
theorem dX1_topGroup_27 : decode cX1_topGroup 27 = .ok (.istore 5, 2) := by decide +kernel
theorem dX1_topGroup_29 : decode cX1_topGroup 29 = .ok (.iload 5, 2) := by decide +kernel
theorem dX1_topGroup_31 : decode cX1_topGroup 31 = .ok (.bipush 120, 2) := by decide +kernel
theorem dX1_topGroup_33 : decode cX1_topGroup 33 = .ok (.if_icmp .ge 65, 3) := by decide +kernel
theorem dX1_topGroup_36 : decode cX1_topGroup 36 = .ok (.aload_n 0, 1) := by decide +kernel
theorem dX1_topGroup_37 : decode cX1_topGroup 37 = .ok (.iload 5, 2) := by decide +kernel
theorem dX1_topGroup_39 : decode cX1_topGroup 39 = .ok (.iload_n 1, 1) := by decide +kernel
theorem dX1_topGroup_40 : decode cX1_topGroup 40 = .ok (.iload_n 2, 1) := by decide +kernel
theorem dX1_topGroup_41 : decode cX1_topGroup 41 = .ok (.invokevirtual 57, 3) := by decide +kernel
theorem dX1_topGroup_44 : decode cX1_topGroup 44 = .ok (.aload_n 0, 1) := by decide +kernel
theorem dX1_topGroup_45 : decode cX1_topGroup 45 = .ok (.getfield 41, 3) := by decide +kernel
theorem dX1_topGroup_48 : decode cX1_topGroup 48 = .ok (.ifCond .le 16, 3) := by decide +kernel
theorem dX1_topGroup_51 : decode cX1_topGroup 51 = .ok (.aload_n 0, 1) := by decide +kernel
theorem dX1_topGroup_52 : decode cX1_topGroup 52 = .ok (.getfield 44, 3) := by decide +kernel
theorem dX1_topGroup_55 : decode cX1_topGroup 55 = .ok (.iload_n 3, 1) := by decide +kernel
theorem dX1_topGroup_56 : decode cX1_topGroup 56 = .ok (.if_icmp .le 8, 3) := by decide +kernel
theorem dX1_topGroup_59 : decode cX1_topGroup 59 = .ok (.iload 5, 2) := by decide +kernel
theorem dX1_topGroup_61 : decode cX1_topGroup 61 = .ok (.goto 5, 3) := by decide +kernel
theorem dX1_topGroup_64 : decode cX1_topGroup 64 = .ok (.iload 4, 2) := by decide +kernel
theorem dX1_topGroup_66 : decode cX1_topGroup 66 = .ok (.istore 4, 2) := by decide +kernel
theorem dX1_topGroup_68 : decode cX1_topGroup 68 = .ok (.aload_n 0, 1) := by decide +kernel
theorem dX1_topGroup_69 : decode cX1_topGroup 69 = .ok (.getfield 41, 3) := by decide +kernel
theorem dX1_topGroup_72 : decode cX1_topGroup 72 = .ok (.ifCond .le 18, 3) := by decide +kernel
theorem dX1_topGroup_75 : decode cX1_topGroup 75 = .ok (.aload_n 0, 1) := by decide +kernel
theorem dX1_topGroup_76 : decode cX1_topGroup 76 = .ok (.getfield 44, 3) := by decide +kernel
theorem dX1_topGroup_79 : decode cX1_topGroup 79 = .ok (.iload_n 3, 1) := by decide +kernel
theorem dX1_topGroup_80 : decode cX1_topGroup 80 = .ok (.if_icmp .le 10, 3) := by decide +kernel
theorem dX1_topGroup_83 : decode cX1_topGroup 83 = .ok (.aload_n 0, 1) := by decide +kernel
theorem dX1_topGroup_84 : decode cX1_topGroup 84 = .ok (.getfield 44, 3) := by decide +kernel
theorem dX1_topGroup_87 : decode cX1_topGroup 87 = .ok (.goto 4, 3) := by decide +kernel
theorem dX1_topGroup_90 : decode cX1_topGroup 90 = .ok (.iload_n 3, 1) := by decide +kernel
theorem dX1_topGroup_91 : decode cX1_topGroup 91 = .ok (.istore_n 3, 1) := by decide +kernel
theorem dX1_topGroup_92 : decode cX1_topGroup 92 = .ok (.iinc 5 1, 3) := by decide +kernel
theorem dX1_topGroup_95 : decode cX1_topGroup 95 = .ok (.goto (-66), 3) := by decide +kernel
theorem dX1_topGroup_98 : decode cX1_topGroup 98 = .ok (.iload 4, 2) := by decide +kernel
theorem dX1_topGroup_100 : decode cX1_topGroup 100 = .ok (.ireturn, 1) := by decide +kernel
theorem dX1_quarter_0 : decode cX1_quarter 0 = .ok (.iload_n 1, 1) := by decide +kernel
theorem dX1_quarter_1 : decode cX1_quarter 1 = .ok (.ifCond .lt 17, 3) := by decide +kernel
theorem dX1_quarter_4 : decode cX1_quarter 4 = .ok (.iload_n 1, 1) := by decide +kernel
theorem dX1_quarter_5 : decode cX1_quarter 5 = .ok (.iconst 1, 1) := by decide +kernel
theorem dX1_quarter_6 : decode cX1_quarter 6 = .ok (.if_icmp .gt 12, 3) := by decide +kernel
theorem dX1_quarter_9 : decode cX1_quarter 9 = .ok (.iload_n 2, 1) := by decide +kernel
theorem dX1_quarter_10 : decode cX1_quarter 10 = .ok (.ifCond .lt 8, 3) := by decide +kernel
theorem dX1_quarter_13 : decode cX1_quarter 13 = .ok (.iload_n 2, 1) := by decide +kernel
theorem dX1_quarter_14 : decode cX1_quarter 14 = .ok (.iconst 3, 1) := by decide +kernel
theorem dX1_quarter_15 : decode cX1_quarter 15 = .ok (.if_icmp .le 6, 3) := by decide +kernel
theorem dX1_quarter_18 : decode cX1_quarter 18 = .ok (.ldc 20, 2) := by decide +kernel
theorem dX1_quarter_20 : decode cX1_quarter 20 = .ok (.ireturn, 1) := by decide +kernel
theorem dX1_quarter_21 : decode cX1_quarter 21 = .ok (.iconst 0, 1) := by decide +kernel
theorem dX1_quarter_22 : decode cX1_quarter 22 = .ok (.istore_n 3, 1) := by decide +kernel
theorem dX1_quarter_23 : decode cX1_quarter 23 = .ok (.iconst 0, 1) := by decide +kernel
theorem dX1_quarter_24 : decode cX1_quarter 24 = .ok (.istore 4, 2) := by decide +kernel
theorem dX1_quarter_26 : decode cX1_quarter 26 = .ok (.iload 4, 2) := by decide +kernel
theorem dX1_quarter_28 : decode cX1_quarter 28 = .ok (.aload_n 0, 1) := by decide +kernel
theorem dX1_quarter_29 : decode cX1_quarter 29 = .ok (.getfield 21, 3) := by decide +kernel
theorem dX1_quarter_32 : decode cX1_quarter 32 = .ok (.if_icmp .ge 55, 3) := by decide +kernel
theorem dX1_quarter_35 : decode cX1_quarter 35 = .ok (.aload_n 0, 1) := by decide +kernel
theorem dX1_quarter_36 : decode cX1_quarter 36 = .ok (.aload_n 0, 1) := by decide +kernel
theorem dX1_quarter_37 : decode cX1_quarter 37 = .ok (.getfield 7, 3) := by decide +kernel
theorem dX1_quarter_40 : decode cX1_quarter 40 = .ok (.iload 4, 2) := by decide +kernel
theorem dX1_quarter_42 : decode cX1_quarter 42 = .ok (.iaload, 1) := by decide +kernel
theorem dX1_quarter_43 : decode cX1_quarter 43 = .ok (.invokevirtual 38, 3) := by decide +kernel
theorem dX1_quarter_46 : decode cX1_quarter 46 = .ok (.iconst 3, 1) := by decide +kernel
theorem dX1_quarter_47 : decode cX1_quarter 47 = .ok (.idiv, 1) := by decide +kernel
theorem dX1_quarter_48 : decode cX1_quarter 48 = .ok (.iload_n 1, 1) := by decide +kernel
theorem dX1_quarter_49 : decode cX1_quarter 49 = .ok (.if_icmp .ne 30, 3) := by decide +kernel
theorem dX1_quarter_52 : decode cX1_quarter 52 = .ok (.aload_n 0, 1) := by decide +kernel
theorem dX1_quarter_53 : decode cX1_quarter 53 = .ok (.aload_n 0, 1) := by decide +kernel
theorem dX1_quarter_54 : decode cX1_quarter 54 = .ok (.getfield 7, 3) := by decide +kernel
theorem dX1_quarter_57 : decode cX1_quarter 57 = .ok (.iload 4, 2) := by decide +kernel
theorem dX1_quarter_59 : decode cX1_quarter 59 = .ok (.iaload, 1) := by decide +kernel
theorem dX1_quarter_60 : decode cX1_quarter 60 = .ok (.invokevirtual 27, 3) := by decide +kernel
theorem dX1_quarter_63 : decode cX1_quarter 63 = .ok (.iload_n 2, 1) := by decide +kernel
theorem dX1_quarter_64 : decode cX1_quarter 64 = .ok (.if_icmp .ne 15, 3) := by decide +kernel
theorem dX1_quarter_67 : decode cX1_quarter 67 = .ok (.iload_n 3, 1) := by decide +kernel
theorem dX1_quarter_68 : decode cX1_quarter 68 = .ok (.aload_n 0, 1) := by decide +kernel
theorem dX1_quarter_69 : decode cX1_quarter 69 = .ok (.getfield 13, 3) := by decide +kernel
theorem dX1_quarter_72 : decode cX1_quarter 72 = .ok (.iload 4, 2) := by decide +kernel
theorem dX1_quarter_74 : decode cX1_quarter 74 = .ok (.iaload, 1) := by decide +kernel
theorem dX1_quarter_75 : decode cX1_quarter 75 = .ok (.iadd, 1) := by decide +kernel
theorem dX1_quarter_76 : decode cX1_quarter 76 = .ok (.goto 4, 3) := by decide +kernel
theorem dX1_quarter_79 : decode cX1_quarter 79 = .ok (.iload_n 3, 1) := by decide +kernel
theorem dX1_quarter_80 : decode cX1_quarter 80 = .ok (.istore_n 3, 1) := by decide +kernel
theorem dX1_quarter_81 : decode cX1_quarter 81 = .ok (.iinc 4 1, 3) := by decide +kernel
theorem dX1_quarter_84 : decode cX1_quarter 84 = .ok (.goto (-58), 3) := by decide +kernel
theorem dX1_quarter_87 : decode cX1_quarter 87 = .ok (.iload_n 3, 1) := by decide +kernel
theorem dX1_quarter_88 : decode cX1_quarter 88 = .ok (.ireturn, 1) := by decide +kernel
theorem dX1_growth_0 : decode cX1_growth 0 = .ok (.iload_n 1, 1) := by decide +kernel
theorem dX1_growth_1 : decode cX1_growth 1 = .ok (.iconst 1, 1) := by decide +kernel
theorem dX1_growth_2 : decode cX1_growth 2 = .ok (.if_icmp .lt 8, 3) := by decide +kernel
theorem dX1_growth_5 : decode cX1_growth 5 = .ok (.iload_n 1, 1) := by decide +kernel
theorem dX1_growth_6 : decode cX1_growth 6 = .ok (.iconst 5, 1) := by decide +kernel
theorem dX1_growth_7 : decode cX1_growth 7 = .ok (.if_icmp .le 6, 3) := by decide +kernel
theorem dX1_growth_10 : decode cX1_growth 10 = .ok (.ldc 20, 2) := by decide +kernel
theorem dX1_growth_12 : decode cX1_growth 12 = .ok (.ireturn, 1) := by decide +kernel
theorem dX1_growth_13 : decode cX1_growth 13 = .ok (.iconst 0, 1) := by decide +kernel
theorem dX1_growth_14 : decode cX1_growth 14 = .ok (.istore_n 2, 1) := by decide +kernel
theorem dX1_growth_15 : decode cX1_growth 15 = .ok (.iconst 0, 1) := by decide +kernel
theorem dX1_growth_16 : decode cX1_growth 16 = .ok (.istore_n 3, 1) := by decide +kernel
theorem dX1_growth_17 : decode cX1_growth 17 = .ok (.iload_n 3, 1) := by decide +kernel
theorem dX1_growth_18 : decode cX1_growth 18 = .ok (.aload_n 0, 1) := by decide +kernel
theorem dX1_growth_19 : decode cX1_growth 19 = .ok (.getfield 21, 3) := by decide +kernel
theorem dX1_growth_22 : decode cX1_growth 22 = .ok (.if_icmp .ge 65, 3) := by decide +kernel
theorem dX1_growth_25 : decode cX1_growth 25 = .ok (.aload_n 0, 1) := by decide +kernel
theorem dX1_growth_26 : decode cX1_growth 26 = .ok (.aload_n 0, 1) := by decide +kernel
theorem dX1_growth_27 : decode cX1_growth 27 = .ok (.getfield 7, 3) := by decide +kernel
theorem dX1_growth_30 : decode cX1_growth 30 = .ok (.iload_n 3, 1) := by decide +kernel
theorem dX1_growth_31 : decode cX1_growth 31 = .ok (.iaload, 1) := by decide +kernel
theorem dX1_growth_32 : decode cX1_growth 32 = .ok (.invokevirtual 38, 3) := by decide +kernel
theorem dX1_growth_35 : decode cX1_growth 35 = .ok (.iload_n 1, 1) := by decide +kernel
theorem dX1_growth_36 : decode cX1_growth 36 = .ok (.if_icmp .ne 14, 3) := by decide +kernel
theorem dX1_growth_39 : decode cX1_growth 39 = .ok (.iload_n 2, 1) := by decide +kernel
theorem dX1_growth_40 : decode cX1_growth 40 = .ok (.aload_n 0, 1) := by decide +kernel
theorem dX1_growth_41 : decode cX1_growth 41 = .ok (.getfield 13, 3) := by decide +kernel
theorem dX1_growth_44 : decode cX1_growth 44 = .ok (.iload_n 3, 1) := by decide +kernel
theorem dX1_growth_45 : decode cX1_growth 45 = .ok (.iaload, 1) := by decide +kernel
theorem dX1_growth_46 : decode cX1_growth 46 = .ok (.iadd, 1) := by decide +kernel
theorem dX1_growth_47 : decode cX1_growth 47 = .ok (.goto 4, 3) := by decide +kernel
theorem dX1_growth_50 : decode cX1_growth 50 = .ok (.iload_n 2, 1) := by decide +kernel
theorem dX1_growth_51 : decode cX1_growth 51 = .ok (.istore_n 2, 1) := by decide +kernel
theorem dX1_growth_52 : decode cX1_growth 52 = .ok (.aload_n 0, 1) := by decide +kernel
theorem dX1_growth_53 : decode cX1_growth 53 = .ok (.aload_n 0, 1) := by decide +kernel
theorem dX1_growth_54 : decode cX1_growth 54 = .ok (.getfield 7, 3) := by decide +kernel
theorem dX1_growth_57 : decode cX1_growth 57 = .ok (.iload_n 3, 1) := by decide +kernel
theorem dX1_growth_58 : decode cX1_growth 58 = .ok (.iaload, 1) := by decide +kernel
theorem dX1_growth_59 : decode cX1_growth 59 = .ok (.invokevirtual 38, 3) := by decide +kernel
theorem dX1_growth_62 : decode cX1_growth 62 = .ok (.iload_n 1, 1) := by decide +kernel
theorem dX1_growth_63 : decode cX1_growth 63 = .ok (.iconst 1, 1) := by decide +kernel
theorem dX1_growth_64 : decode cX1_growth 64 = .ok (.isub, 1) := by decide +kernel
theorem dX1_growth_65 : decode cX1_growth 65 = .ok (.if_icmp .ne 14, 3) := by decide +kernel
theorem dX1_growth_68 : decode cX1_growth 68 = .ok (.iload_n 2, 1) := by decide +kernel
theorem dX1_growth_69 : decode cX1_growth 69 = .ok (.aload_n 0, 1) := by decide +kernel
theorem dX1_growth_70 : decode cX1_growth 70 = .ok (.getfield 13, 3) := by decide +kernel
theorem dX1_growth_73 : decode cX1_growth 73 = .ok (.iload_n 3, 1) := by decide +kernel
theorem dX1_growth_74 : decode cX1_growth 74 = .ok (.iaload, 1) := by decide +kernel
theorem dX1_growth_75 : decode cX1_growth 75 = .ok (.isub, 1) := by decide +kernel
theorem dX1_growth_76 : decode cX1_growth 76 = .ok (.goto 4, 3) := by decide +kernel
theorem dX1_growth_79 : decode cX1_growth 79 = .ok (.iload_n 2, 1) := by decide +kernel
theorem dX1_growth_80 : decode cX1_growth 80 = .ok (.istore_n 2, 1) := by decide +kernel
theorem dX1_growth_81 : decode cX1_growth 81 = .ok (.iinc 3 1, 3) := by decide +kernel
theorem dX1_growth_84 : decode cX1_growth 84 = .ok (.goto (-67), 3) := by decide +kernel
theorem dX1_growth_87 : decode cX1_growth 87 = .ok (.iload_n 2, 1) := by decide +kernel
theorem dX1_growth_88 : decode cX1_growth 88 = .ok (.ireturn, 1) := by decide +kernel
theorem dX1_atLeast_0 : decode cX1_atLeast 0 = .ok (.aload_n 0, 1) := by decide +kernel
theorem dX1_atLeast_1 : decode cX1_atLeast 1 = .ok (.iload_n 1, 1) := by decide +kernel
theorem dX1_atLeast_2 : decode cX1_atLeast 2 = .ok (.invokevirtual 61, 3) := by decide +kernel
theorem dX1_atLeast_5 : decode cX1_atLeast 5 = .ok (.ifCond .ne 6, 3) := by decide +kernel
theorem dX1_atLeast_8 : decode cX1_atLeast 8 = .ok (.ldc 20, 2) := by decide +kernel
theorem dX1_atLeast_10 : decode cX1_atLeast 10 = .ok (.ireturn, 1) := by decide +kernel
theorem dX1_atLeast_11 : decode cX1_atLeast 11 = .ok (.iconst 0, 1) := by decide +kernel
theorem dX1_atLeast_12 : decode cX1_atLeast 12 = .ok (.istore_n 3, 1) := by decide +kernel
theorem dX1_atLeast_13 : decode cX1_atLeast 13 = .ok (.iconst 0, 1) := by decide +kernel
theorem dX1_atLeast_14 : decode cX1_atLeast 14 = .ok (.istore 4, 2) := by decide +kernel
theorem dX1_atLeast_16 : decode cX1_atLeast 16 = .ok (.iload 4, 2) := by decide +kernel
theorem dX1_atLeast_18 : decode cX1_atLeast 18 = .ok (.bipush 120, 2) := by decide +kernel
theorem dX1_atLeast_20 : decode cX1_atLeast 20 = .ok (.if_icmp .ge 42, 3) := by decide +kernel
theorem dX1_atLeast_23 : decode cX1_atLeast 23 = .ok (.aload_n 0, 1) := by decide +kernel
theorem dX1_atLeast_24 : decode cX1_atLeast 24 = .ok (.iload 4, 2) := by decide +kernel
theorem dX1_atLeast_26 : decode cX1_atLeast 26 = .ok (.iload_n 1, 1) := by decide +kernel
theorem dX1_atLeast_27 : decode cX1_atLeast 27 = .ok (.sipush 32767, 3) := by decide +kernel
theorem dX1_atLeast_30 : decode cX1_atLeast 30 = .ok (.invokevirtual 57, 3) := by decide +kernel
theorem dX1_atLeast_33 : decode cX1_atLeast 33 = .ok (.aload_n 0, 1) := by decide +kernel
theorem dX1_atLeast_34 : decode cX1_atLeast 34 = .ok (.getfield 41, 3) := by decide +kernel
theorem dX1_atLeast_37 : decode cX1_atLeast 37 = .ok (.ifCond .le 17, 3) := by decide +kernel
theorem dX1_atLeast_40 : decode cX1_atLeast 40 = .ok (.aload_n 0, 1) := by decide +kernel
theorem dX1_atLeast_41 : decode cX1_atLeast 41 = .ok (.getfield 44, 3) := by decide +kernel
theorem dX1_atLeast_44 : decode cX1_atLeast 44 = .ok (.iload_n 2, 1) := by decide +kernel
theorem dX1_atLeast_45 : decode cX1_atLeast 45 = .ok (.if_icmp .lt 9, 3) := by decide +kernel
theorem dX1_atLeast_48 : decode cX1_atLeast 48 = .ok (.iload_n 3, 1) := by decide +kernel
theorem dX1_atLeast_49 : decode cX1_atLeast 49 = .ok (.iconst 1, 1) := by decide +kernel
theorem dX1_atLeast_50 : decode cX1_atLeast 50 = .ok (.iadd, 1) := by decide +kernel
theorem dX1_atLeast_51 : decode cX1_atLeast 51 = .ok (.goto 4, 3) := by decide +kernel
theorem dX1_atLeast_54 : decode cX1_atLeast 54 = .ok (.iload_n 3, 1) := by decide +kernel
theorem dX1_atLeast_55 : decode cX1_atLeast 55 = .ok (.istore_n 3, 1) := by decide +kernel
theorem dX1_atLeast_56 : decode cX1_atLeast 56 = .ok (.iinc 4 1, 3) := by decide +kernel
theorem dX1_atLeast_59 : decode cX1_atLeast 59 = .ok (.goto (-43), 3) := by decide +kernel
theorem dX1_atLeast_62 : decode cX1_atLeast 62 = .ok (.iload_n 3, 1) := by decide +kernel
theorem dX1_atLeast_63 : decode cX1_atLeast 63 = .ok (.ireturn, 1) := by decide +kernel
theorem dX1_plan_0 : decode cX1_plan 0 = .ok (.iload_n 1, 1) := by decide +kernel
theorem dX1_plan_1 : decode cX1_plan 1 = .ok (.ifCond .lt 10, 3) := by decide +kernel
theorem dX1_plan_4 : decode cX1_plan 4 = .ok (.iload_n 1, 1) := by decide +kernel
theorem dX1_plan_5 : decode cX1_plan 5 = .ok (.sipush 200, 3) := by decide +kernel
theorem dX1_plan_8 : decode cX1_plan 8 = .ok (.if_icmp .le 8, 3) := by decide +kernel
theorem dX1_plan_11 : decode cX1_plan 11 = .ok (.ldc 20, 2) := by decide +kernel
theorem dX1_plan_13 : decode cX1_plan 13 = .ok (.goto 4, 3) := by decide +kernel
theorem dX1_plan_16 : decode cX1_plan 16 = .ok (.iconst 0, 1) := by decide +kernel
theorem dX1_plan_17 : decode cX1_plan 17 = .ok (.ireturn, 1) := by decide +kernel
end
section
set_option maxRecDepth 100000
theorem q27 : (Jvm.Cond.initialized "CubeViewsLaw") ∈ lw_all := lw_g (lw_at lw_m1 0 rfl) rfl
theorem q30 : (Jvm.Cond.classLink "CubeViewsLaw" (7 : Nat) "CubeViews") ∈ lw_all := lw_g (lw_at lw_m1 3 rfl) rfl
theorem q32 : (Jvm.Cond.methodLink "CubeViewsLaw" (9 : Nat) ({ cls := "CubeViews", name := "<init>", desc := "()V" } : Jvm.MethodName)) ∈ lw_all := lw_g (lw_at lw_m1 5 rfl) rfl
theorem q71 : (Jvm.Cond.methodLink "CubeViewsLaw" (13 : Nat) ({ cls := "CubeViews", name := "add", desc := "(II)I" } : Jvm.MethodName)) ∈ lw_all := lw_g (lw_at lw_m1 44 rfl) rfl
theorem q97 : (Jvm.Cond.methodLink "CubeViewsLaw" (18 : Nat) ({ cls := "CubeViews", name := "remove", desc := "()I" } : Jvm.MethodName)) ∈ lw_all := lw_g (lw_at lw_m1 70 rfl) rfl
theorem q102 : (Jvm.Cond.methodLink "CubeViewsLaw" (23 : Nat) ({ cls := "CubeViews", name := "change", desc := "(II)I" } : Jvm.MethodName)) ∈ lw_all := lw_g (lw_at lw_m1 75 rfl) rfl
theorem q106 : (Jvm.Cond.methodLink "CubeViewsLaw" (27 : Nat) ({ cls := "CubeViews", name := "facts", desc := "()I" } : Jvm.MethodName)) ∈ lw_all := lw_g (lw_at lw_m1 79 rfl) rfl
theorem q110 : (Jvm.Cond.methodLink "CubeViewsLaw" (31 : Nat) ({ cls := "CubeViews", name := "count", desc := "(I)I" } : Jvm.MethodName)) ∈ lw_all := lw_g (lw_at lw_m1 83 rfl) rfl
theorem q142 : (Jvm.Cond.methodLink "CubeViewsLaw" (36 : Nat) ({ cls := "CubeViews", name := "sum", desc := "(I)I" } : Jvm.MethodName)) ∈ lw_all := lw_g (lw_at lw_m1 115 rfl) rfl
theorem q146 : (Jvm.Cond.methodLink "CubeViewsLaw" (40 : Nat) ({ cls := "CubeViews", name := "greatest", desc := "(I)I" } : Jvm.MethodName)) ∈ lw_all := lw_g (lw_at lw_m1 119 rfl) rfl
theorem q154 : (Jvm.Cond.methodLink "CubeViewsLaw" (44 : Nat) ({ cls := "CubeViews", name := "groups", desc := "(II)I" } : Jvm.MethodName)) ∈ lw_all := lw_g (lw_at lw_m1 127 rfl) rfl
theorem q162 : (Jvm.Cond.methodLink "CubeViewsLaw" (48 : Nat) ({ cls := "CubeViews", name := "topSum", desc := "(II)I" } : Jvm.MethodName)) ∈ lw_all := lw_g (lw_at lw_m1 135 rfl) rfl
theorem q170 : (Jvm.Cond.methodLink "CubeViewsLaw" (52 : Nat) ({ cls := "CubeViews", name := "topGroup", desc := "(II)I" } : Jvm.MethodName)) ∈ lw_all := lw_g (lw_at lw_m1 143 rfl) rfl
theorem q174 : (Jvm.Cond.methodLink "CubeViewsLaw" (56 : Nat) ({ cls := "CubeViews", name := "quarter", desc := "(II)I" } : Jvm.MethodName)) ∈ lw_all := lw_g (lw_at lw_m1 147 rfl) rfl
theorem q178 : (Jvm.Cond.methodLink "CubeViewsLaw" (60 : Nat) ({ cls := "CubeViews", name := "growth", desc := "(I)I" } : Jvm.MethodName)) ∈ lw_all := lw_g (lw_at lw_m1 151 rfl) rfl
theorem q182 : (Jvm.Cond.methodLink "CubeViewsLaw" (64 : Nat) ({ cls := "CubeViews", name := "atLeast", desc := "(II)I" } : Jvm.MethodName)) ∈ lw_all := lw_g (lw_at lw_m1 155 rfl) rfl
theorem q186 : (Jvm.Cond.methodLink "CubeViewsLaw" (68 : Nat) ({ cls := "CubeViews", name := "plan", desc := "(I)I" } : Jvm.MethodName)) ∈ lw_all := lw_g (lw_at lw_m1 159 rfl) rfl
theorem q198 : (Jvm.Cond.classLink "CubeViewsLaw" (10 : Nat) "CubeViewsModel") ∈ lw_all := lw_g (lw_at lw_m1 171 rfl) rfl
theorem q200 : (Jvm.Cond.methodLink "CubeViewsLaw" (12 : Nat) ({ cls := "CubeViewsModel", name := "<init>", desc := "()V" } : Jvm.MethodName)) ∈ lw_all := lw_g (lw_at lw_m1 173 rfl) rfl
theorem q220 : (Jvm.Cond.methodLink "CubeViewsLaw" (17 : Nat) ({ cls := "CubeViewsModel", name := "add", desc := "(II)I" } : Jvm.MethodName)) ∈ lw_all := lw_g (lw_at lw_m1 193 rfl) rfl
theorem q230 : (Jvm.Cond.methodLink "CubeViewsLaw" (22 : Nat) ({ cls := "CubeViewsModel", name := "remove", desc := "()I" } : Jvm.MethodName)) ∈ lw_all := lw_g (lw_at lw_m1 203 rfl) rfl
theorem q235 : (Jvm.Cond.methodLink "CubeViewsLaw" (26 : Nat) ({ cls := "CubeViewsModel", name := "change", desc := "(II)I" } : Jvm.MethodName)) ∈ lw_all := lw_g (lw_at lw_m1 208 rfl) rfl
theorem q239 : (Jvm.Cond.methodLink "CubeViewsLaw" (30 : Nat) ({ cls := "CubeViewsModel", name := "facts", desc := "()I" } : Jvm.MethodName)) ∈ lw_all := lw_g (lw_at lw_m1 212 rfl) rfl
theorem q243 : (Jvm.Cond.methodLink "CubeViewsLaw" (35 : Nat) ({ cls := "CubeViewsModel", name := "count", desc := "(I)I" } : Jvm.MethodName)) ∈ lw_all := lw_g (lw_at lw_m1 216 rfl) rfl
theorem q279 : (Jvm.Cond.methodLink "CubeViewsLaw" (39 : Nat) ({ cls := "CubeViewsModel", name := "sum", desc := "(I)I" } : Jvm.MethodName)) ∈ lw_all := lw_g (lw_at lw_m2 12 rfl) rfl
theorem q283 : (Jvm.Cond.methodLink "CubeViewsLaw" (43 : Nat) ({ cls := "CubeViewsModel", name := "greatest", desc := "(I)I" } : Jvm.MethodName)) ∈ lw_all := lw_g (lw_at lw_m2 16 rfl) rfl
theorem q287 : (Jvm.Cond.methodLink "CubeViewsLaw" (47 : Nat) ({ cls := "CubeViewsModel", name := "groups", desc := "(II)I" } : Jvm.MethodName)) ∈ lw_all := lw_g (lw_at lw_m2 20 rfl) rfl
theorem q295 : (Jvm.Cond.methodLink "CubeViewsLaw" (51 : Nat) ({ cls := "CubeViewsModel", name := "topSum", desc := "(II)I" } : Jvm.MethodName)) ∈ lw_all := lw_g (lw_at lw_m2 28 rfl) rfl
theorem q299 : (Jvm.Cond.methodLink "CubeViewsLaw" (55 : Nat) ({ cls := "CubeViewsModel", name := "topGroup", desc := "(II)I" } : Jvm.MethodName)) ∈ lw_all := lw_g (lw_at lw_m2 32 rfl) rfl
theorem q303 : (Jvm.Cond.methodLink "CubeViewsLaw" (59 : Nat) ({ cls := "CubeViewsModel", name := "quarter", desc := "(II)I" } : Jvm.MethodName)) ∈ lw_all := lw_g (lw_at lw_m2 36 rfl) rfl
theorem q307 : (Jvm.Cond.methodLink "CubeViewsLaw" (63 : Nat) ({ cls := "CubeViewsModel", name := "growth", desc := "(I)I" } : Jvm.MethodName)) ∈ lw_all := lw_g (lw_at lw_m2 40 rfl) rfl
theorem q311 : (Jvm.Cond.methodLink "CubeViewsLaw" (67 : Nat) ({ cls := "CubeViewsModel", name := "atLeast", desc := "(II)I" } : Jvm.MethodName)) ∈ lw_all := lw_g (lw_at lw_m2 44 rfl) rfl
theorem q315 : (Jvm.Cond.methodLink "CubeViewsLaw" (71 : Nat) ({ cls := "CubeViewsModel", name := "plan", desc := "(I)I" } : Jvm.MethodName)) ∈ lw_all := lw_g (lw_at lw_m2 48 rfl) rfl
end
section
set_option maxRecDepth 100000
/-! the law's own entry -/
abbrev cL_law : ByteArray := code
theorem dL_law_0 : decode cL_law 0 = .ok (.new 7, 3) := by decide +kernel
theorem dL_law_3 : decode cL_law 3 = .ok (.dup, 1) := by decide +kernel
theorem dL_law_4 : decode cL_law 4 = .ok (.invokespecial 9, 3) := by decide +kernel
theorem dL_law_7 : decode cL_law 7 = .ok (.astore_n 1, 1) := by decide +kernel
theorem dL_law_8 : decode cL_law 8 = .ok (.new 10, 3) := by decide +kernel
theorem dL_law_11 : decode cL_law 11 = .ok (.dup, 1) := by decide +kernel
theorem dL_law_12 : decode cL_law 12 = .ok (.invokespecial 12, 3) := by decide +kernel
theorem dL_law_15 : decode cL_law 15 = .ok (.astore_n 2, 1) := by decide +kernel
theorem dL_law_16 : decode cL_law 16 = .ok (.iconst 0, 1) := by decide +kernel
theorem dL_law_17 : decode cL_law 17 = .ok (.istore_n 3, 1) := by decide +kernel
theorem dL_law_18 : decode cL_law 18 = .ok (.iload_n 3, 1) := by decide +kernel
theorem dL_law_19 : decode cL_law 19 = .ok (.aload_n 0, 1) := by decide +kernel
theorem dL_law_20 : decode cL_law 20 = .ok (.arraylength, 1) := by decide +kernel
theorem dL_law_21 : decode cL_law 21 = .ok (.iconst 3, 1) := by decide +kernel
theorem dL_law_22 : decode cL_law 22 = .ok (.isub, 1) := by decide +kernel
theorem dL_law_23 : decode cL_law 23 = .ok (.if_icmp .gt 459, 3) := by decide +kernel
theorem dL_law_26 : decode cL_law 26 = .ok (.aload_n 0, 1) := by decide +kernel
theorem dL_law_27 : decode cL_law 27 = .ok (.iload_n 3, 1) := by decide +kernel
theorem dL_law_28 : decode cL_law 28 = .ok (.iaload, 1) := by decide +kernel
theorem dL_law_29 : decode cL_law 29 = .ok (.bipush 15, 2) := by decide +kernel
theorem dL_law_31 : decode cL_law 31 = .ok (.iand, 1) := by decide +kernel
theorem dL_law_32 : decode cL_law 32 = .ok (.tableswitch 444 0 13 #[72, 105, 118, 151, 164, 187, 210, 233, 266, 299, 332, 365, 388, 421], 72) := by decide +kernel
theorem dL_law_104 : decode cL_law 104 = .ok (.aload_n 1, 1) := by decide +kernel
theorem dL_law_105 : decode cL_law 105 = .ok (.aload_n 0, 1) := by decide +kernel
theorem dL_law_106 : decode cL_law 106 = .ok (.iload_n 3, 1) := by decide +kernel
theorem dL_law_107 : decode cL_law 107 = .ok (.iconst 1, 1) := by decide +kernel
theorem dL_law_108 : decode cL_law 108 = .ok (.iadd, 1) := by decide +kernel
theorem dL_law_109 : decode cL_law 109 = .ok (.iaload, 1) := by decide +kernel
theorem dL_law_110 : decode cL_law 110 = .ok (.aload_n 0, 1) := by decide +kernel
theorem dL_law_111 : decode cL_law 111 = .ok (.iload_n 3, 1) := by decide +kernel
theorem dL_law_112 : decode cL_law 112 = .ok (.iconst 2, 1) := by decide +kernel
theorem dL_law_113 : decode cL_law 113 = .ok (.iadd, 1) := by decide +kernel
theorem dL_law_114 : decode cL_law 114 = .ok (.iaload, 1) := by decide +kernel
theorem dL_law_115 : decode cL_law 115 = .ok (.invokevirtual 13, 3) := by decide +kernel
theorem dL_law_118 : decode cL_law 118 = .ok (.aload_n 2, 1) := by decide +kernel
theorem dL_law_119 : decode cL_law 119 = .ok (.aload_n 0, 1) := by decide +kernel
theorem dL_law_120 : decode cL_law 120 = .ok (.iload_n 3, 1) := by decide +kernel
theorem dL_law_121 : decode cL_law 121 = .ok (.iconst 1, 1) := by decide +kernel
theorem dL_law_122 : decode cL_law 122 = .ok (.iadd, 1) := by decide +kernel
theorem dL_law_123 : decode cL_law 123 = .ok (.iaload, 1) := by decide +kernel
theorem dL_law_124 : decode cL_law 124 = .ok (.aload_n 0, 1) := by decide +kernel
theorem dL_law_125 : decode cL_law 125 = .ok (.iload_n 3, 1) := by decide +kernel
theorem dL_law_126 : decode cL_law 126 = .ok (.iconst 2, 1) := by decide +kernel
theorem dL_law_127 : decode cL_law 127 = .ok (.iadd, 1) := by decide +kernel
theorem dL_law_128 : decode cL_law 128 = .ok (.iaload, 1) := by decide +kernel
theorem dL_law_129 : decode cL_law 129 = .ok (.invokevirtual 17, 3) := by decide +kernel
theorem dL_law_132 : decode cL_law 132 = .ok (.if_icmp .eq 344, 3) := by decide +kernel
theorem dL_law_135 : decode cL_law 135 = .ok (.iconst 0, 1) := by decide +kernel
theorem dL_law_136 : decode cL_law 136 = .ok (.ireturn, 1) := by decide +kernel
theorem dL_law_137 : decode cL_law 137 = .ok (.aload_n 1, 1) := by decide +kernel
theorem dL_law_138 : decode cL_law 138 = .ok (.invokevirtual 18, 3) := by decide +kernel
theorem dL_law_141 : decode cL_law 141 = .ok (.aload_n 2, 1) := by decide +kernel
theorem dL_law_142 : decode cL_law 142 = .ok (.invokevirtual 22, 3) := by decide +kernel
theorem dL_law_145 : decode cL_law 145 = .ok (.if_icmp .eq 331, 3) := by decide +kernel
theorem dL_law_148 : decode cL_law 148 = .ok (.iconst 0, 1) := by decide +kernel
theorem dL_law_149 : decode cL_law 149 = .ok (.ireturn, 1) := by decide +kernel
theorem dL_law_150 : decode cL_law 150 = .ok (.aload_n 1, 1) := by decide +kernel
theorem dL_law_151 : decode cL_law 151 = .ok (.aload_n 0, 1) := by decide +kernel
theorem dL_law_152 : decode cL_law 152 = .ok (.iload_n 3, 1) := by decide +kernel
theorem dL_law_153 : decode cL_law 153 = .ok (.iconst 1, 1) := by decide +kernel
theorem dL_law_154 : decode cL_law 154 = .ok (.iadd, 1) := by decide +kernel
theorem dL_law_155 : decode cL_law 155 = .ok (.iaload, 1) := by decide +kernel
theorem dL_law_156 : decode cL_law 156 = .ok (.aload_n 0, 1) := by decide +kernel
theorem dL_law_157 : decode cL_law 157 = .ok (.iload_n 3, 1) := by decide +kernel
theorem dL_law_158 : decode cL_law 158 = .ok (.iconst 2, 1) := by decide +kernel
theorem dL_law_159 : decode cL_law 159 = .ok (.iadd, 1) := by decide +kernel
theorem dL_law_160 : decode cL_law 160 = .ok (.iaload, 1) := by decide +kernel
theorem dL_law_161 : decode cL_law 161 = .ok (.invokevirtual 23, 3) := by decide +kernel
theorem dL_law_164 : decode cL_law 164 = .ok (.aload_n 2, 1) := by decide +kernel
theorem dL_law_165 : decode cL_law 165 = .ok (.aload_n 0, 1) := by decide +kernel
theorem dL_law_166 : decode cL_law 166 = .ok (.iload_n 3, 1) := by decide +kernel
theorem dL_law_167 : decode cL_law 167 = .ok (.iconst 1, 1) := by decide +kernel
theorem dL_law_168 : decode cL_law 168 = .ok (.iadd, 1) := by decide +kernel
theorem dL_law_169 : decode cL_law 169 = .ok (.iaload, 1) := by decide +kernel
theorem dL_law_170 : decode cL_law 170 = .ok (.aload_n 0, 1) := by decide +kernel
theorem dL_law_171 : decode cL_law 171 = .ok (.iload_n 3, 1) := by decide +kernel
theorem dL_law_172 : decode cL_law 172 = .ok (.iconst 2, 1) := by decide +kernel
theorem dL_law_173 : decode cL_law 173 = .ok (.iadd, 1) := by decide +kernel
theorem dL_law_174 : decode cL_law 174 = .ok (.iaload, 1) := by decide +kernel
theorem dL_law_175 : decode cL_law 175 = .ok (.invokevirtual 26, 3) := by decide +kernel
theorem dL_law_178 : decode cL_law 178 = .ok (.if_icmp .eq 298, 3) := by decide +kernel
theorem dL_law_181 : decode cL_law 181 = .ok (.iconst 0, 1) := by decide +kernel
theorem dL_law_182 : decode cL_law 182 = .ok (.ireturn, 1) := by decide +kernel
theorem dL_law_183 : decode cL_law 183 = .ok (.aload_n 1, 1) := by decide +kernel
theorem dL_law_184 : decode cL_law 184 = .ok (.invokevirtual 27, 3) := by decide +kernel
theorem dL_law_187 : decode cL_law 187 = .ok (.aload_n 2, 1) := by decide +kernel
theorem dL_law_188 : decode cL_law 188 = .ok (.invokevirtual 30, 3) := by decide +kernel
theorem dL_law_191 : decode cL_law 191 = .ok (.if_icmp .eq 285, 3) := by decide +kernel
theorem dL_law_194 : decode cL_law 194 = .ok (.iconst 0, 1) := by decide +kernel
theorem dL_law_195 : decode cL_law 195 = .ok (.ireturn, 1) := by decide +kernel
theorem dL_law_196 : decode cL_law 196 = .ok (.aload_n 1, 1) := by decide +kernel
theorem dL_law_197 : decode cL_law 197 = .ok (.aload_n 0, 1) := by decide +kernel
theorem dL_law_198 : decode cL_law 198 = .ok (.iload_n 3, 1) := by decide +kernel
theorem dL_law_199 : decode cL_law 199 = .ok (.iconst 1, 1) := by decide +kernel
theorem dL_law_200 : decode cL_law 200 = .ok (.iadd, 1) := by decide +kernel
theorem dL_law_201 : decode cL_law 201 = .ok (.iaload, 1) := by decide +kernel
theorem dL_law_202 : decode cL_law 202 = .ok (.invokevirtual 31, 3) := by decide +kernel
theorem dL_law_205 : decode cL_law 205 = .ok (.aload_n 2, 1) := by decide +kernel
theorem dL_law_206 : decode cL_law 206 = .ok (.aload_n 0, 1) := by decide +kernel
theorem dL_law_207 : decode cL_law 207 = .ok (.iload_n 3, 1) := by decide +kernel
theorem dL_law_208 : decode cL_law 208 = .ok (.iconst 1, 1) := by decide +kernel
theorem dL_law_209 : decode cL_law 209 = .ok (.iadd, 1) := by decide +kernel
theorem dL_law_210 : decode cL_law 210 = .ok (.iaload, 1) := by decide +kernel
theorem dL_law_211 : decode cL_law 211 = .ok (.invokevirtual 35, 3) := by decide +kernel
theorem dL_law_214 : decode cL_law 214 = .ok (.if_icmp .eq 262, 3) := by decide +kernel
theorem dL_law_217 : decode cL_law 217 = .ok (.iconst 0, 1) := by decide +kernel
theorem dL_law_218 : decode cL_law 218 = .ok (.ireturn, 1) := by decide +kernel
theorem dL_law_219 : decode cL_law 219 = .ok (.aload_n 1, 1) := by decide +kernel
theorem dL_law_220 : decode cL_law 220 = .ok (.aload_n 0, 1) := by decide +kernel
theorem dL_law_221 : decode cL_law 221 = .ok (.iload_n 3, 1) := by decide +kernel
theorem dL_law_222 : decode cL_law 222 = .ok (.iconst 1, 1) := by decide +kernel
theorem dL_law_223 : decode cL_law 223 = .ok (.iadd, 1) := by decide +kernel
theorem dL_law_224 : decode cL_law 224 = .ok (.iaload, 1) := by decide +kernel
theorem dL_law_225 : decode cL_law 225 = .ok (.invokevirtual 36, 3) := by decide +kernel
theorem dL_law_228 : decode cL_law 228 = .ok (.aload_n 2, 1) := by decide +kernel
theorem dL_law_229 : decode cL_law 229 = .ok (.aload_n 0, 1) := by decide +kernel
theorem dL_law_230 : decode cL_law 230 = .ok (.iload_n 3, 1) := by decide +kernel
theorem dL_law_231 : decode cL_law 231 = .ok (.iconst 1, 1) := by decide +kernel
theorem dL_law_232 : decode cL_law 232 = .ok (.iadd, 1) := by decide +kernel
theorem dL_law_233 : decode cL_law 233 = .ok (.iaload, 1) := by decide +kernel
theorem dL_law_234 : decode cL_law 234 = .ok (.invokevirtual 39, 3) := by decide +kernel
theorem dL_law_237 : decode cL_law 237 = .ok (.if_icmp .eq 239, 3) := by decide +kernel
theorem dL_law_240 : decode cL_law 240 = .ok (.iconst 0, 1) := by decide +kernel
theorem dL_law_241 : decode cL_law 241 = .ok (.ireturn, 1) := by decide +kernel
theorem dL_law_242 : decode cL_law 242 = .ok (.aload_n 1, 1) := by decide +kernel
theorem dL_law_243 : decode cL_law 243 = .ok (.aload_n 0, 1) := by decide +kernel
theorem dL_law_244 : decode cL_law 244 = .ok (.iload_n 3, 1) := by decide +kernel
theorem dL_law_245 : decode cL_law 245 = .ok (.iconst 1, 1) := by decide +kernel
theorem dL_law_246 : decode cL_law 246 = .ok (.iadd, 1) := by decide +kernel
theorem dL_law_247 : decode cL_law 247 = .ok (.iaload, 1) := by decide +kernel
theorem dL_law_248 : decode cL_law 248 = .ok (.invokevirtual 40, 3) := by decide +kernel
theorem dL_law_251 : decode cL_law 251 = .ok (.aload_n 2, 1) := by decide +kernel
theorem dL_law_252 : decode cL_law 252 = .ok (.aload_n 0, 1) := by decide +kernel
theorem dL_law_253 : decode cL_law 253 = .ok (.iload_n 3, 1) := by decide +kernel
theorem dL_law_254 : decode cL_law 254 = .ok (.iconst 1, 1) := by decide +kernel
theorem dL_law_255 : decode cL_law 255 = .ok (.iadd, 1) := by decide +kernel
theorem dL_law_256 : decode cL_law 256 = .ok (.iaload, 1) := by decide +kernel
theorem dL_law_257 : decode cL_law 257 = .ok (.invokevirtual 43, 3) := by decide +kernel
theorem dL_law_260 : decode cL_law 260 = .ok (.if_icmp .eq 216, 3) := by decide +kernel
theorem dL_law_263 : decode cL_law 263 = .ok (.iconst 0, 1) := by decide +kernel
theorem dL_law_264 : decode cL_law 264 = .ok (.ireturn, 1) := by decide +kernel
theorem dL_law_265 : decode cL_law 265 = .ok (.aload_n 1, 1) := by decide +kernel
theorem dL_law_266 : decode cL_law 266 = .ok (.aload_n 0, 1) := by decide +kernel
theorem dL_law_267 : decode cL_law 267 = .ok (.iload_n 3, 1) := by decide +kernel
theorem dL_law_268 : decode cL_law 268 = .ok (.iconst 1, 1) := by decide +kernel
theorem dL_law_269 : decode cL_law 269 = .ok (.iadd, 1) := by decide +kernel
theorem dL_law_270 : decode cL_law 270 = .ok (.iaload, 1) := by decide +kernel
theorem dL_law_271 : decode cL_law 271 = .ok (.aload_n 0, 1) := by decide +kernel
theorem dL_law_272 : decode cL_law 272 = .ok (.iload_n 3, 1) := by decide +kernel
theorem dL_law_273 : decode cL_law 273 = .ok (.iconst 2, 1) := by decide +kernel
theorem dL_law_274 : decode cL_law 274 = .ok (.iadd, 1) := by decide +kernel
theorem dL_law_275 : decode cL_law 275 = .ok (.iaload, 1) := by decide +kernel
theorem dL_law_276 : decode cL_law 276 = .ok (.invokevirtual 44, 3) := by decide +kernel
theorem dL_law_279 : decode cL_law 279 = .ok (.aload_n 2, 1) := by decide +kernel
theorem dL_law_280 : decode cL_law 280 = .ok (.aload_n 0, 1) := by decide +kernel
theorem dL_law_281 : decode cL_law 281 = .ok (.iload_n 3, 1) := by decide +kernel
theorem dL_law_282 : decode cL_law 282 = .ok (.iconst 1, 1) := by decide +kernel
theorem dL_law_283 : decode cL_law 283 = .ok (.iadd, 1) := by decide +kernel
theorem dL_law_284 : decode cL_law 284 = .ok (.iaload, 1) := by decide +kernel
theorem dL_law_285 : decode cL_law 285 = .ok (.aload_n 0, 1) := by decide +kernel
theorem dL_law_286 : decode cL_law 286 = .ok (.iload_n 3, 1) := by decide +kernel
theorem dL_law_287 : decode cL_law 287 = .ok (.iconst 2, 1) := by decide +kernel
theorem dL_law_288 : decode cL_law 288 = .ok (.iadd, 1) := by decide +kernel
theorem dL_law_289 : decode cL_law 289 = .ok (.iaload, 1) := by decide +kernel
theorem dL_law_290 : decode cL_law 290 = .ok (.invokevirtual 47, 3) := by decide +kernel
theorem dL_law_293 : decode cL_law 293 = .ok (.if_icmp .eq 183, 3) := by decide +kernel
theorem dL_law_296 : decode cL_law 296 = .ok (.iconst 0, 1) := by decide +kernel
theorem dL_law_297 : decode cL_law 297 = .ok (.ireturn, 1) := by decide +kernel
theorem dL_law_298 : decode cL_law 298 = .ok (.aload_n 1, 1) := by decide +kernel
theorem dL_law_299 : decode cL_law 299 = .ok (.aload_n 0, 1) := by decide +kernel
theorem dL_law_300 : decode cL_law 300 = .ok (.iload_n 3, 1) := by decide +kernel
theorem dL_law_301 : decode cL_law 301 = .ok (.iconst 1, 1) := by decide +kernel
theorem dL_law_302 : decode cL_law 302 = .ok (.iadd, 1) := by decide +kernel
theorem dL_law_303 : decode cL_law 303 = .ok (.iaload, 1) := by decide +kernel
theorem dL_law_304 : decode cL_law 304 = .ok (.aload_n 0, 1) := by decide +kernel
theorem dL_law_305 : decode cL_law 305 = .ok (.iload_n 3, 1) := by decide +kernel
theorem dL_law_306 : decode cL_law 306 = .ok (.iconst 2, 1) := by decide +kernel
theorem dL_law_307 : decode cL_law 307 = .ok (.iadd, 1) := by decide +kernel
theorem dL_law_308 : decode cL_law 308 = .ok (.iaload, 1) := by decide +kernel
theorem dL_law_309 : decode cL_law 309 = .ok (.invokevirtual 48, 3) := by decide +kernel
theorem dL_law_312 : decode cL_law 312 = .ok (.aload_n 2, 1) := by decide +kernel
theorem dL_law_313 : decode cL_law 313 = .ok (.aload_n 0, 1) := by decide +kernel
theorem dL_law_314 : decode cL_law 314 = .ok (.iload_n 3, 1) := by decide +kernel
theorem dL_law_315 : decode cL_law 315 = .ok (.iconst 1, 1) := by decide +kernel
theorem dL_law_316 : decode cL_law 316 = .ok (.iadd, 1) := by decide +kernel
theorem dL_law_317 : decode cL_law 317 = .ok (.iaload, 1) := by decide +kernel
theorem dL_law_318 : decode cL_law 318 = .ok (.aload_n 0, 1) := by decide +kernel
theorem dL_law_319 : decode cL_law 319 = .ok (.iload_n 3, 1) := by decide +kernel
theorem dL_law_320 : decode cL_law 320 = .ok (.iconst 2, 1) := by decide +kernel
theorem dL_law_321 : decode cL_law 321 = .ok (.iadd, 1) := by decide +kernel
theorem dL_law_322 : decode cL_law 322 = .ok (.iaload, 1) := by decide +kernel
theorem dL_law_323 : decode cL_law 323 = .ok (.invokevirtual 51, 3) := by decide +kernel
theorem dL_law_326 : decode cL_law 326 = .ok (.if_icmp .eq 150, 3) := by decide +kernel
theorem dL_law_329 : decode cL_law 329 = .ok (.iconst 0, 1) := by decide +kernel
theorem dL_law_330 : decode cL_law 330 = .ok (.ireturn, 1) := by decide +kernel
theorem dL_law_331 : decode cL_law 331 = .ok (.aload_n 1, 1) := by decide +kernel
theorem dL_law_332 : decode cL_law 332 = .ok (.aload_n 0, 1) := by decide +kernel
theorem dL_law_333 : decode cL_law 333 = .ok (.iload_n 3, 1) := by decide +kernel
theorem dL_law_334 : decode cL_law 334 = .ok (.iconst 1, 1) := by decide +kernel
theorem dL_law_335 : decode cL_law 335 = .ok (.iadd, 1) := by decide +kernel
theorem dL_law_336 : decode cL_law 336 = .ok (.iaload, 1) := by decide +kernel
theorem dL_law_337 : decode cL_law 337 = .ok (.aload_n 0, 1) := by decide +kernel
theorem dL_law_338 : decode cL_law 338 = .ok (.iload_n 3, 1) := by decide +kernel
theorem dL_law_339 : decode cL_law 339 = .ok (.iconst 2, 1) := by decide +kernel
theorem dL_law_340 : decode cL_law 340 = .ok (.iadd, 1) := by decide +kernel
theorem dL_law_341 : decode cL_law 341 = .ok (.iaload, 1) := by decide +kernel
theorem dL_law_342 : decode cL_law 342 = .ok (.invokevirtual 52, 3) := by decide +kernel
theorem dL_law_345 : decode cL_law 345 = .ok (.aload_n 2, 1) := by decide +kernel
theorem dL_law_346 : decode cL_law 346 = .ok (.aload_n 0, 1) := by decide +kernel
theorem dL_law_347 : decode cL_law 347 = .ok (.iload_n 3, 1) := by decide +kernel
theorem dL_law_348 : decode cL_law 348 = .ok (.iconst 1, 1) := by decide +kernel
theorem dL_law_349 : decode cL_law 349 = .ok (.iadd, 1) := by decide +kernel
theorem dL_law_350 : decode cL_law 350 = .ok (.iaload, 1) := by decide +kernel
theorem dL_law_351 : decode cL_law 351 = .ok (.aload_n 0, 1) := by decide +kernel
theorem dL_law_352 : decode cL_law 352 = .ok (.iload_n 3, 1) := by decide +kernel
theorem dL_law_353 : decode cL_law 353 = .ok (.iconst 2, 1) := by decide +kernel
theorem dL_law_354 : decode cL_law 354 = .ok (.iadd, 1) := by decide +kernel
theorem dL_law_355 : decode cL_law 355 = .ok (.iaload, 1) := by decide +kernel
theorem dL_law_356 : decode cL_law 356 = .ok (.invokevirtual 55, 3) := by decide +kernel
theorem dL_law_359 : decode cL_law 359 = .ok (.if_icmp .eq 117, 3) := by decide +kernel
theorem dL_law_362 : decode cL_law 362 = .ok (.iconst 0, 1) := by decide +kernel
theorem dL_law_363 : decode cL_law 363 = .ok (.ireturn, 1) := by decide +kernel
theorem dL_law_364 : decode cL_law 364 = .ok (.aload_n 1, 1) := by decide +kernel
theorem dL_law_365 : decode cL_law 365 = .ok (.aload_n 0, 1) := by decide +kernel
theorem dL_law_366 : decode cL_law 366 = .ok (.iload_n 3, 1) := by decide +kernel
theorem dL_law_367 : decode cL_law 367 = .ok (.iconst 1, 1) := by decide +kernel
theorem dL_law_368 : decode cL_law 368 = .ok (.iadd, 1) := by decide +kernel
theorem dL_law_369 : decode cL_law 369 = .ok (.iaload, 1) := by decide +kernel
theorem dL_law_370 : decode cL_law 370 = .ok (.aload_n 0, 1) := by decide +kernel
theorem dL_law_371 : decode cL_law 371 = .ok (.iload_n 3, 1) := by decide +kernel
theorem dL_law_372 : decode cL_law 372 = .ok (.iconst 2, 1) := by decide +kernel
theorem dL_law_373 : decode cL_law 373 = .ok (.iadd, 1) := by decide +kernel
theorem dL_law_374 : decode cL_law 374 = .ok (.iaload, 1) := by decide +kernel
theorem dL_law_375 : decode cL_law 375 = .ok (.invokevirtual 56, 3) := by decide +kernel
theorem dL_law_378 : decode cL_law 378 = .ok (.aload_n 2, 1) := by decide +kernel
theorem dL_law_379 : decode cL_law 379 = .ok (.aload_n 0, 1) := by decide +kernel
theorem dL_law_380 : decode cL_law 380 = .ok (.iload_n 3, 1) := by decide +kernel
theorem dL_law_381 : decode cL_law 381 = .ok (.iconst 1, 1) := by decide +kernel
theorem dL_law_382 : decode cL_law 382 = .ok (.iadd, 1) := by decide +kernel
theorem dL_law_383 : decode cL_law 383 = .ok (.iaload, 1) := by decide +kernel
theorem dL_law_384 : decode cL_law 384 = .ok (.aload_n 0, 1) := by decide +kernel
theorem dL_law_385 : decode cL_law 385 = .ok (.iload_n 3, 1) := by decide +kernel
theorem dL_law_386 : decode cL_law 386 = .ok (.iconst 2, 1) := by decide +kernel
theorem dL_law_387 : decode cL_law 387 = .ok (.iadd, 1) := by decide +kernel
theorem dL_law_388 : decode cL_law 388 = .ok (.iaload, 1) := by decide +kernel
theorem dL_law_389 : decode cL_law 389 = .ok (.invokevirtual 59, 3) := by decide +kernel
theorem dL_law_392 : decode cL_law 392 = .ok (.if_icmp .eq 84, 3) := by decide +kernel
theorem dL_law_395 : decode cL_law 395 = .ok (.iconst 0, 1) := by decide +kernel
theorem dL_law_396 : decode cL_law 396 = .ok (.ireturn, 1) := by decide +kernel
theorem dL_law_397 : decode cL_law 397 = .ok (.aload_n 1, 1) := by decide +kernel
theorem dL_law_398 : decode cL_law 398 = .ok (.aload_n 0, 1) := by decide +kernel
theorem dL_law_399 : decode cL_law 399 = .ok (.iload_n 3, 1) := by decide +kernel
theorem dL_law_400 : decode cL_law 400 = .ok (.iconst 1, 1) := by decide +kernel
theorem dL_law_401 : decode cL_law 401 = .ok (.iadd, 1) := by decide +kernel
theorem dL_law_402 : decode cL_law 402 = .ok (.iaload, 1) := by decide +kernel
theorem dL_law_403 : decode cL_law 403 = .ok (.invokevirtual 60, 3) := by decide +kernel
theorem dL_law_406 : decode cL_law 406 = .ok (.aload_n 2, 1) := by decide +kernel
theorem dL_law_407 : decode cL_law 407 = .ok (.aload_n 0, 1) := by decide +kernel
theorem dL_law_408 : decode cL_law 408 = .ok (.iload_n 3, 1) := by decide +kernel
theorem dL_law_409 : decode cL_law 409 = .ok (.iconst 1, 1) := by decide +kernel
theorem dL_law_410 : decode cL_law 410 = .ok (.iadd, 1) := by decide +kernel
theorem dL_law_411 : decode cL_law 411 = .ok (.iaload, 1) := by decide +kernel
theorem dL_law_412 : decode cL_law 412 = .ok (.invokevirtual 63, 3) := by decide +kernel
theorem dL_law_415 : decode cL_law 415 = .ok (.if_icmp .eq 61, 3) := by decide +kernel
theorem dL_law_418 : decode cL_law 418 = .ok (.iconst 0, 1) := by decide +kernel
theorem dL_law_419 : decode cL_law 419 = .ok (.ireturn, 1) := by decide +kernel
theorem dL_law_420 : decode cL_law 420 = .ok (.aload_n 1, 1) := by decide +kernel
theorem dL_law_421 : decode cL_law 421 = .ok (.aload_n 0, 1) := by decide +kernel
theorem dL_law_422 : decode cL_law 422 = .ok (.iload_n 3, 1) := by decide +kernel
theorem dL_law_423 : decode cL_law 423 = .ok (.iconst 1, 1) := by decide +kernel
theorem dL_law_424 : decode cL_law 424 = .ok (.iadd, 1) := by decide +kernel
theorem dL_law_425 : decode cL_law 425 = .ok (.iaload, 1) := by decide +kernel
theorem dL_law_426 : decode cL_law 426 = .ok (.aload_n 0, 1) := by decide +kernel
theorem dL_law_427 : decode cL_law 427 = .ok (.iload_n 3, 1) := by decide +kernel
theorem dL_law_428 : decode cL_law 428 = .ok (.iconst 2, 1) := by decide +kernel
theorem dL_law_429 : decode cL_law 429 = .ok (.iadd, 1) := by decide +kernel
theorem dL_law_430 : decode cL_law 430 = .ok (.iaload, 1) := by decide +kernel
theorem dL_law_431 : decode cL_law 431 = .ok (.invokevirtual 64, 3) := by decide +kernel
theorem dL_law_434 : decode cL_law 434 = .ok (.aload_n 2, 1) := by decide +kernel
theorem dL_law_435 : decode cL_law 435 = .ok (.aload_n 0, 1) := by decide +kernel
theorem dL_law_436 : decode cL_law 436 = .ok (.iload_n 3, 1) := by decide +kernel
theorem dL_law_437 : decode cL_law 437 = .ok (.iconst 1, 1) := by decide +kernel
theorem dL_law_438 : decode cL_law 438 = .ok (.iadd, 1) := by decide +kernel
theorem dL_law_439 : decode cL_law 439 = .ok (.iaload, 1) := by decide +kernel
theorem dL_law_440 : decode cL_law 440 = .ok (.aload_n 0, 1) := by decide +kernel
theorem dL_law_441 : decode cL_law 441 = .ok (.iload_n 3, 1) := by decide +kernel
theorem dL_law_442 : decode cL_law 442 = .ok (.iconst 2, 1) := by decide +kernel
theorem dL_law_443 : decode cL_law 443 = .ok (.iadd, 1) := by decide +kernel
theorem dL_law_444 : decode cL_law 444 = .ok (.iaload, 1) := by decide +kernel
theorem dL_law_445 : decode cL_law 445 = .ok (.invokevirtual 67, 3) := by decide +kernel
theorem dL_law_448 : decode cL_law 448 = .ok (.if_icmp .eq 28, 3) := by decide +kernel
theorem dL_law_451 : decode cL_law 451 = .ok (.iconst 0, 1) := by decide +kernel
theorem dL_law_452 : decode cL_law 452 = .ok (.ireturn, 1) := by decide +kernel
theorem dL_law_453 : decode cL_law 453 = .ok (.aload_n 1, 1) := by decide +kernel
theorem dL_law_454 : decode cL_law 454 = .ok (.aload_n 0, 1) := by decide +kernel
theorem dL_law_455 : decode cL_law 455 = .ok (.iload_n 3, 1) := by decide +kernel
theorem dL_law_456 : decode cL_law 456 = .ok (.iconst 1, 1) := by decide +kernel
theorem dL_law_457 : decode cL_law 457 = .ok (.iadd, 1) := by decide +kernel
theorem dL_law_458 : decode cL_law 458 = .ok (.iaload, 1) := by decide +kernel
theorem dL_law_459 : decode cL_law 459 = .ok (.invokevirtual 68, 3) := by decide +kernel
theorem dL_law_462 : decode cL_law 462 = .ok (.aload_n 2, 1) := by decide +kernel
theorem dL_law_463 : decode cL_law 463 = .ok (.aload_n 0, 1) := by decide +kernel
theorem dL_law_464 : decode cL_law 464 = .ok (.iload_n 3, 1) := by decide +kernel
theorem dL_law_465 : decode cL_law 465 = .ok (.iconst 1, 1) := by decide +kernel
theorem dL_law_466 : decode cL_law 466 = .ok (.iadd, 1) := by decide +kernel
theorem dL_law_467 : decode cL_law 467 = .ok (.iaload, 1) := by decide +kernel
theorem dL_law_468 : decode cL_law 468 = .ok (.invokevirtual 71, 3) := by decide +kernel
theorem dL_law_471 : decode cL_law 471 = .ok (.if_icmp .eq 5, 3) := by decide +kernel
theorem dL_law_474 : decode cL_law 474 = .ok (.iconst 0, 1) := by decide +kernel
theorem dL_law_475 : decode cL_law 475 = .ok (.ireturn, 1) := by decide +kernel
theorem dL_law_476 : decode cL_law 476 = .ok (.iinc 3 3, 3) := by decide +kernel
theorem dL_law_479 : decode cL_law 479 = .ok (.goto (-461), 3) := by decide +kernel
theorem dL_law_482 : decode cL_law 482 = .ok (.iconst 1, 1) := by decide +kernel
theorem dL_law_483 : decode cL_law 483 = .ok (.ireturn, 1) := by decide +kernel
end
section
set_option maxRecDepth 100000
/-! the two classes; rooms; worlds -/
abbrev vwCl : List vw_C := [(RX0, TX0, 10), (RX1, TX1, 5)]
abbrev rmL (k : Nat) : Room := { frames := k, cells := 0, slots := 0, locals := 40 * k }
def sw (F : Nat → Nat → Int32) (k : Nat) (f : Nat → Int32) : Nat → Nat → Int32 := fun j => if j = k then f else F j
theorem sw_s {F : Nat → Nat → Int32} {k : Nat} {f : Nat → Int32} : sw F k f k = f := by simp [sw]
theorem sw_n {F : Nat → Nat → Int32} {k j : Nat} {f : Nat → Int32} (h : j ≠ k) : sw F k f j = F j := by simp [sw, h]
/-- CubeViews: its object and its nine arrays; n facts; F k: what the array k holds -/
def cvw (ad : Nat → Nat) (dA : Nat → ClassId) (n : Nat) (F : Nat → Nat → Int32) : va_W := [(ad 0, .inr (0, [.int (nI n), .ref (ad 1), .ref (ad 2), .ref (ad 3), .ref (ad 4), .ref (ad 5), .ref (ad 6), .ref (ad 7), .ref (ad 8), .ref (ad 9)])), (ad 1, .inl (dA 1, 40, .inl (F 1))), (ad 2, .inl (dA 2, 40, .inl (F 2))), (ad 3, .inl (dA 3, 120, .inl (F 3))), (ad 4, .inl (dA 4, 40, .inl (F 4))), (ad 5, .inl (dA 5, 8, .inl (F 5))), (ad 6, .inl (dA 6, 960, .inl (F 6))), (ad 7, .inl (dA 7, 960, .inl (F 7))), (ad 8, .inl (dA 8, 120, .inl (F 8))), (ad 9, .inl (dA 9, 120, .inl (F 9)))]
def cvT (dA : Nat → ClassId) : List (ClassId × FieldType) := [(dA 1, .int), (dA 2, .int), (dA 3, .int), (dA 4, .int), (dA 5, .boolean), (dA 6, .int), (dA 7, .int), (dA 8, .int), (dA 9, .int)]
def cvA (ad : Nat → Nat) : Nat → Prop := fun q => ∃ k, k < 10 ∧ q = ad k
def cvI (ad : Nat → Nat) : Prop := ∀ i j, i < 10 → j < 10 → ad i = ad j → i = j
/-- CubeViewsModel: its object and its two arrays -/
def mdw (bd : Nat → Nat) (dB : Nat → ClassId) (n : Nat) (G : Nat → Nat → Int32) (fo to : Int32) : va_W := [(bd 0, .inr (1, [.ref (bd 1), .ref (bd 2), .int (nI n), .int fo, .int to])), (bd 1, .inl (dB 1, 40, .inl (G 1))), (bd 2, .inl (dB 2, 40, .inl (G 2)))]
def mdT (dB : Nat → ClassId) : List (ClassId × FieldType) := [(dB 1, .int), (dB 2, .int)]
def mdA (bd : Nat → Nat) : Nat → Prop := fun q => ∃ k, k < 3 ∧ q = bd k
def mdI (bd : Nat → Nat) : Prop := ∀ i j, i < 3 → j < 3 → bd i = bd j → i = j
theorem cv_key {ad : Nat → Nat} {dA : Nat → ClassId} {n : Nat} {F : Nat → Nat → Int32} {i : Nat} {q : Nat × va_E} (h : (cvw ad dA n F)[i]? = some q) : i < 10 ∧ q.1 = ad i := by
  match i, h with
  | 0, h => cases h; exact ⟨by decide, rfl⟩
  | 1, h => cases h; exact ⟨by decide, rfl⟩
  | 2, h => cases h; exact ⟨by decide, rfl⟩
  | 3, h => cases h; exact ⟨by decide, rfl⟩
  | 4, h => cases h; exact ⟨by decide, rfl⟩
  | 5, h => cases h; exact ⟨by decide, rfl⟩
  | 6, h => cases h; exact ⟨by decide, rfl⟩
  | 7, h => cases h; exact ⟨by decide, rfl⟩
  | 8, h => cases h; exact ⟨by decide, rfl⟩
  | 9, h => cases h; exact ⟨by decide, rfl⟩
  | k + 10, h => simp [cvw] at h
theorem cv_D {ad : Nat → Nat} {dA : Nat → ClassId} {n : Nat} {F : Nat → Nat → Int32} (hI : cvI ad) : va_D (cvA ad) (cvw ad dA n F) := by
  refine ⟨fun i j p q h1 h2 e => ?_, fun k q h => ?_⟩
  · have a := cv_key h1
    have b := cv_key h2
    exact hI i j a.1 b.1 (by rw [← a.2, ← b.2]; exact e)
  · have a := cv_key h
    exact ⟨k, a.1, a.2⟩
theorem md_key {bd : Nat → Nat} {dB : Nat → ClassId} {n : Nat} {G : Nat → Nat → Int32} {fo to : Int32} {i : Nat} {q : Nat × va_E} (h : (mdw bd dB n G fo to)[i]? = some q) : i < 3 ∧ q.1 = bd i := by
  match i, h with
  | 0, h => cases h; exact ⟨by decide, rfl⟩
  | 1, h => cases h; exact ⟨by decide, rfl⟩
  | 2, h => cases h; exact ⟨by decide, rfl⟩
  | k + 3, h => simp [mdw] at h
theorem md_D {bd : Nat → Nat} {dB : Nat → ClassId} {n : Nat} {G : Nat → Nat → Int32} {fo to : Int32} (hI : mdI bd) : va_D (mdA bd) (mdw bd dB n G fo to) := by
  refine ⟨fun i j p q h1 h2 e => ?_, fun k q h => ?_⟩
  · have a := md_key h1
    have b := md_key h2
    exact hI i j a.1 b.1 (by rw [← a.2, ← b.2]; exact e)
  · have a := md_key h
    exact ⟨k, a.1, a.2⟩
theorem nI_inc {i : Nat} : nI i + Int32.ofInt 1 = nI (i + 1) := nI_1 i
abbrev Pw (D : va_G) (ws : va_W) (tys : List (ClassId × FieldType)) : State → Prop := fun U => va_P D vwCl ws U.heap ∧ va_K D vwCl tys U
/-- ends: read-only with an int; int and a new world; a new world alone -/
abbrev Qr (post : Int32 → Prop) : Array Value → State → Outcome → State → Prop := va_Qi (fun r (_ : Unit) => post r) (fun _ _ => True) (fun _ => False)
abbrev Qm {S : Type} (D : va_G) (wf : S → va_W) (A : Nat → Prop) (post : Int32 → S → Prop) : Array Value → State → Outcome → State → Prop := va_Qi post (fun u t => va_P D vwCl (wf u) t.heap) A
abbrev Qn {S : Type} (D : va_G) (wf : S → va_W) (A : Nat → Prop) (post : S → Prop) : Array Value → State → Outcome → State → Prop := va_Qv post (fun u t => va_P D vwCl (wf u) t.heap) A
section Base
variable {p : Program} {l : Launch} {e : Env} {R : Room} {s : State} {m : MethodId} {args : Array Value} {below : List Frame} {meth : Method} {c : Code} {H : Heap} {locs : List Loc} {cells slots : Nat} {Q : State → Prop}
variable {cc : ByteArray} {pc : Nat} {ls : Array Slot} {rest : List Value}
theorem cv_top {a b : Int32} (h : a = b) (k : W p l e R s m args below meth c H locs cells slots Q (F0 m (pc) ls (.int b :: rest))) : W p l e R s m args below meth c H locs cells slots Q (F0 m (pc) ls (.int a :: rest)) := by
  rw [h]
  exact k
theorem nv_icmp_ge {a b : Nat} (ha : a < 2 ^ 31) (hb2 : b < 2 ^ 31) (hexec : p.tables.exec = Jvm.exec) (hb : c.code = cc) {off : Int} {tgt : Nat} (hdg : decode cc pc = .ok (.if_icmp .ge off, 3)) (ht : (pc : Int) + off = (tgt : Int)) (kt : b ≤ a → W p l e R s m args below meth c H locs cells slots Q (F0 m (tgt) ls (rest))) (kf : a < b → W p l e R s m args below meth c H locs cells slots Q (F0 m (pc + 3) ls (rest))) : W p l e R s m args below meth c H locs cells slots Q (F0 m (pc) ls (.int (nI b) :: .int (nI a) :: rest)) :=
  lv_icmp_ge hexec hb hdg ht (fun h => kt ((nI_leI hb2 ha).mp h)) (fun h => kf (Nat.lt_of_not_le (fun q => h ((nI_leI hb2 ha).mpr q))))
theorem nv_icmp_lt {a b : Nat} (ha : a < 2 ^ 31) (hb2 : b < 2 ^ 31) (hexec : p.tables.exec = Jvm.exec) (hb : c.code = cc) {off : Int} {tgt : Nat} (hdg : decode cc pc = .ok (.if_icmp .lt off, 3)) (ht : (pc : Int) + off = (tgt : Int)) (kt : a < b → W p l e R s m args below meth c H locs cells slots Q (F0 m (tgt) ls (rest))) (kf : b ≤ a → W p l e R s m args below meth c H locs cells slots Q (F0 m (pc + 3) ls (rest))) : W p l e R s m args below meth c H locs cells slots Q (F0 m (pc) ls (.int (nI b) :: .int (nI a) :: rest)) :=
  lv_icmp_lt hexec hb hdg ht (fun h => kt ((nI_ltI ha hb2).mp h)) (fun h => kf (Nat.le_of_not_lt (fun q => h ((nI_ltI ha hb2).mpr q))))
theorem nv_icmp_gt {a b : Nat} (ha : a < 2 ^ 31) (hb2 : b < 2 ^ 31) (hexec : p.tables.exec = Jvm.exec) (hb : c.code = cc) {off : Int} {tgt : Nat} (hdg : decode cc pc = .ok (.if_icmp .gt off, 3)) (ht : (pc : Int) + off = (tgt : Int)) (kt : b < a → W p l e R s m args below meth c H locs cells slots Q (F0 m (tgt) ls (rest))) (kf : a ≤ b → W p l e R s m args below meth c H locs cells slots Q (F0 m (pc + 3) ls (rest))) : W p l e R s m args below meth c H locs cells slots Q (F0 m (pc) ls (.int (nI b) :: .int (nI a) :: rest)) :=
  lv_icmp_gt hexec hb hdg ht (fun h => kt ((nI_ltI hb2 ha).mp h)) (fun h => kf (Nat.le_of_not_lt (fun q => h ((nI_ltI hb2 ha).mpr q))))
theorem nv_icmp_le {a b : Nat} (ha : a < 2 ^ 31) (hb2 : b < 2 ^ 31) (hexec : p.tables.exec = Jvm.exec) (hb : c.code = cc) {off : Int} {tgt : Nat} (hdg : decode cc pc = .ok (.if_icmp .le off, 3)) (ht : (pc : Int) + off = (tgt : Int)) (kt : a ≤ b → W p l e R s m args below meth c H locs cells slots Q (F0 m (tgt) ls (rest))) (kf : b < a → W p l e R s m args below meth c H locs cells slots Q (F0 m (pc + 3) ls (rest))) : W p l e R s m args below meth c H locs cells slots Q (F0 m (pc) ls (.int (nI b) :: .int (nI a) :: rest)) :=
  lv_icmp_le hexec hb hdg ht (fun h => kt ((nI_leI ha hb2).mp h)) (fun h => kf (Nat.lt_of_not_le (fun q => h ((nI_leI ha hb2).mpr q))))
theorem nv_icmp_eq {a b : Nat} (ha : a < 2 ^ 31) (hb2 : b < 2 ^ 31) (hexec : p.tables.exec = Jvm.exec) (hb : c.code = cc) {off : Int} {tgt : Nat} (hdg : decode cc pc = .ok (.if_icmp .eq off, 3)) (ht : (pc : Int) + off = (tgt : Int)) (kt : a = b → W p l e R s m args below meth c H locs cells slots Q (F0 m (tgt) ls (rest))) (kf : a ≠ b → W p l e R s m args below meth c H locs cells slots Q (F0 m (pc + 3) ls (rest))) : W p l e R s m args below meth c H locs cells slots Q (F0 m (pc) ls (.int (nI b) :: .int (nI a) :: rest)) :=
  lv_icmp_eq hexec hb hdg ht (fun h => kt ((nI_eq ha hb2).mp h)) (fun h => kf (fun q => h (by rw [q])))
theorem nv_icmp_ne {a b : Nat} (ha : a < 2 ^ 31) (hb2 : b < 2 ^ 31) (hexec : p.tables.exec = Jvm.exec) (hb : c.code = cc) {off : Int} {tgt : Nat} (hdg : decode cc pc = .ok (.if_icmp .ne off, 3)) (ht : (pc : Int) + off = (tgt : Int)) (kt : a ≠ b → W p l e R s m args below meth c H locs cells slots Q (F0 m (tgt) ls (rest))) (kf : a = b → W p l e R s m args below meth c H locs cells slots Q (F0 m (pc + 3) ls (rest))) : W p l e R s m args below meth c H locs cells slots Q (F0 m (pc) ls (.int (nI b) :: .int (nI a) :: rest)) :=
  lv_icmp_ne hexec hb hdg ht (fun h => kt (fun q => h (by rw [q]))) (fun h => kf ((nI_eq ha hb2).mp h))
theorem nv_if_eq {a : Nat} (ha : a < 2 ^ 31) (hexec : p.tables.exec = Jvm.exec) (hb : c.code = cc) {off : Int} {tgt : Nat} (hdg : decode cc pc = .ok (.ifCond .eq off, 3)) (ht : (pc : Int) + off = (tgt : Int)) (kt : a = 0 → W p l e R s m args below meth c H locs cells slots Q (F0 m (tgt) ls (rest))) (kf : a ≠ 0 → W p l e R s m args below meth c H locs cells slots Q (F0 m (pc + 3) ls (rest))) : W p l e R s m args below meth c H locs cells slots Q (F0 m (pc) ls (.int (nI a) :: rest)) :=
  lv_if_eq hexec hb hdg ht (fun h => kt ((nI_eq ha (by decide)).mp (h.trans nI_0.symm))) (fun h => kf (fun q => h (by rw [q]; exact nI_0)))
theorem nv_if_ne {a : Nat} (ha : a < 2 ^ 31) (hexec : p.tables.exec = Jvm.exec) (hb : c.code = cc) {off : Int} {tgt : Nat} (hdg : decode cc pc = .ok (.ifCond .ne off, 3)) (ht : (pc : Int) + off = (tgt : Int)) (kt : a ≠ 0 → W p l e R s m args below meth c H locs cells slots Q (F0 m (tgt) ls (rest))) (kf : a = 0 → W p l e R s m args below meth c H locs cells slots Q (F0 m (pc + 3) ls (rest))) : W p l e R s m args below meth c H locs cells slots Q (F0 m (pc) ls (.int (nI a) :: rest)) :=
  lv_if_ne hexec hb hdg ht (fun h => kt (fun q => h (by rw [q]; exact nI_0))) (fun h => kf ((nI_eq ha (by decide)).mp (h.trans nI_0.symm)))
theorem nv_if_le {a : Nat} (ha : a < 2 ^ 31) (hexec : p.tables.exec = Jvm.exec) (hb : c.code = cc) {off : Int} {tgt : Nat} (hdg : decode cc pc = .ok (.ifCond .le off, 3)) (ht : (pc : Int) + off = (tgt : Int)) (kt : a = 0 → W p l e R s m args below meth c H locs cells slots Q (F0 m (tgt) ls (rest))) (kf : 0 < a → W p l e R s m args below meth c H locs cells slots Q (F0 m (pc + 3) ls (rest))) : W p l e R s m args below meth c H locs cells slots Q (F0 m (pc) ls (.int (nI a) :: rest)) :=
  lv_if_le hexec hb hdg ht (fun h => kt (by rcases Nat.eq_zero_or_pos a with q | q; exact q; exact absurd h (nI_nle q ha))) (fun h => kf (by rcases Nat.eq_zero_or_pos a with q | q; exact absurd (by rw [q]; decide) h; exact q))
theorem cv_g0 {D : va_G} {ad : Nat → Nat} {dA : Nat → ClassId} {n : Nat} {F : Nat → Nat → Int32} (hx : p.tables.exec = Jvm.exec) (hb : c.code = cc) {tys : List (ClassId × FieldType)} (hts : ∀ w ∈ lw_all, w.before args s = true) (hown : s.vm.findClass RX0 = some m.cls) (hK : va_K D vwCl tys s) (hP : va_P D vwCl (cvw ad dA n F) H) (hdg : decode cc pc = .ok (.getfield 52, 3)) (kk : W p l e R s m args below meth c H locs cells slots Q (F0 m (pc + 3) ls (.int (nI n) :: rest))) : W p l e R s m args below meth c H locs cells slots Q (F0 m (pc) ls (.ref (ad 0) :: rest)) :=
  va_get (D := D) (ci := 0) (v := .int (nI n)) (C := RX0) (T := TX0) (N := 10) hx hb hts in_X0 hown hK hP 0 rfl rfl 0 (by decide) (hts _ q38) (fun _ h9 => h9) rfl hdg kk
theorem cv_g1 {D : va_G} {ad : Nat → Nat} {dA : Nat → ClassId} {n : Nat} {F : Nat → Nat → Int32} (hx : p.tables.exec = Jvm.exec) (hb : c.code = cc) {tys : List (ClassId × FieldType)} (hts : ∀ w ∈ lw_all, w.before args s = true) (hown : s.vm.findClass RX0 = some m.cls) (hK : va_K D vwCl tys s) (hP : va_P D vwCl (cvw ad dA n F) H) (hdg : decode cc pc = .ok (.getfield 7, 3)) (kk : W p l e R s m args below meth c H locs cells slots Q (F0 m (pc + 3) ls (.ref (ad 1) :: rest))) : W p l e R s m args below meth c H locs cells slots Q (F0 m (pc) ls (.ref (ad 0) :: rest)) :=
  va_get (D := D) (ci := 0) (v := .ref (ad 1)) (C := RX0) (T := TX0) (N := 10) hx hb hts in_X0 hown hK hP 0 rfl rfl 1 (by decide) (hts _ q39) (fun _ h9 => h9) rfl hdg kk
theorem cv_g2 {D : va_G} {ad : Nat → Nat} {dA : Nat → ClassId} {n : Nat} {F : Nat → Nat → Int32} (hx : p.tables.exec = Jvm.exec) (hb : c.code = cc) {tys : List (ClassId × FieldType)} (hts : ∀ w ∈ lw_all, w.before args s = true) (hown : s.vm.findClass RX0 = some m.cls) (hK : va_K D vwCl tys s) (hP : va_P D vwCl (cvw ad dA n F) H) (hdg : decode cc pc = .ok (.getfield 13, 3)) (kk : W p l e R s m args below meth c H locs cells slots Q (F0 m (pc + 3) ls (.ref (ad 2) :: rest))) : W p l e R s m args below meth c H locs cells slots Q (F0 m (pc) ls (.ref (ad 0) :: rest)) :=
  va_get (D := D) (ci := 0) (v := .ref (ad 2)) (C := RX0) (T := TX0) (N := 10) hx hb hts in_X0 hown hK hP 0 rfl rfl 2 (by decide) (hts _ q40) (fun _ h9 => h9) rfl hdg kk
theorem cv_g3 {D : va_G} {ad : Nat → Nat} {dA : Nat → ClassId} {n : Nat} {F : Nat → Nat → Int32} (hx : p.tables.exec = Jvm.exec) (hb : c.code = cc) {tys : List (ClassId × FieldType)} (hts : ∀ w ∈ lw_all, w.before args s = true) (hown : s.vm.findClass RX0 = some m.cls) (hK : va_K D vwCl tys s) (hP : va_P D vwCl (cvw ad dA n F) H) (hdg : decode cc pc = .ok (.getfield 16, 3)) (kk : W p l e R s m args below meth c H locs cells slots Q (F0 m (pc + 3) ls (.ref (ad 3) :: rest))) : W p l e R s m args below meth c H locs cells slots Q (F0 m (pc) ls (.ref (ad 0) :: rest)) :=
  va_get (D := D) (ci := 0) (v := .ref (ad 3)) (C := RX0) (T := TX0) (N := 10) hx hb hts in_X0 hown hK hP 0 rfl rfl 3 (by decide) (hts _ q41) (fun _ h9 => h9) rfl hdg kk
theorem cv_g4 {D : va_G} {ad : Nat → Nat} {dA : Nat → ClassId} {n : Nat} {F : Nat → Nat → Int32} (hx : p.tables.exec = Jvm.exec) (hb : c.code = cc) {tys : List (ClassId × FieldType)} (hts : ∀ w ∈ lw_all, w.before args s = true) (hown : s.vm.findClass RX0 = some m.cls) (hK : va_K D vwCl tys s) (hP : va_P D vwCl (cvw ad dA n F) H) (hdg : decode cc pc = .ok (.getfield 19, 3)) (kk : W p l e R s m args below meth c H locs cells slots Q (F0 m (pc + 3) ls (.ref (ad 4) :: rest))) : W p l e R s m args below meth c H locs cells slots Q (F0 m (pc) ls (.ref (ad 0) :: rest)) :=
  va_get (D := D) (ci := 0) (v := .ref (ad 4)) (C := RX0) (T := TX0) (N := 10) hx hb hts in_X0 hown hK hP 0 rfl rfl 4 (by decide) (hts _ q42) (fun _ h9 => h9) rfl hdg kk
theorem cv_g5 {D : va_G} {ad : Nat → Nat} {dA : Nat → ClassId} {n : Nat} {F : Nat → Nat → Int32} (hx : p.tables.exec = Jvm.exec) (hb : c.code = cc) {tys : List (ClassId × FieldType)} (hts : ∀ w ∈ lw_all, w.before args s = true) (hown : s.vm.findClass RX0 = some m.cls) (hK : va_K D vwCl tys s) (hP : va_P D vwCl (cvw ad dA n F) H) (hdg : decode cc pc = .ok (.getfield 22, 3)) (kk : W p l e R s m args below meth c H locs cells slots Q (F0 m (pc + 3) ls (.ref (ad 5) :: rest))) : W p l e R s m args below meth c H locs cells slots Q (F0 m (pc) ls (.ref (ad 0) :: rest)) :=
  va_get (D := D) (ci := 0) (v := .ref (ad 5)) (C := RX0) (T := TX0) (N := 10) hx hb hts in_X0 hown hK hP 0 rfl rfl 5 (by decide) (hts _ q43) (fun _ h9 => h9) rfl hdg kk
theorem cv_g6 {D : va_G} {ad : Nat → Nat} {dA : Nat → ClassId} {n : Nat} {F : Nat → Nat → Int32} (hx : p.tables.exec = Jvm.exec) (hb : c.code = cc) {tys : List (ClassId × FieldType)} (hts : ∀ w ∈ lw_all, w.before args s = true) (hown : s.vm.findClass RX0 = some m.cls) (hK : va_K D vwCl tys s) (hP : va_P D vwCl (cvw ad dA n F) H) (hdg : decode cc pc = .ok (.getfield 26, 3)) (kk : W p l e R s m args below meth c H locs cells slots Q (F0 m (pc + 3) ls (.ref (ad 6) :: rest))) : W p l e R s m args below meth c H locs cells slots Q (F0 m (pc) ls (.ref (ad 0) :: rest)) :=
  va_get (D := D) (ci := 0) (v := .ref (ad 6)) (C := RX0) (T := TX0) (N := 10) hx hb hts in_X0 hown hK hP 0 rfl rfl 6 (by decide) (hts _ q44) (fun _ h9 => h9) rfl hdg kk
theorem cv_g7 {D : va_G} {ad : Nat → Nat} {dA : Nat → ClassId} {n : Nat} {F : Nat → Nat → Int32} (hx : p.tables.exec = Jvm.exec) (hb : c.code = cc) {tys : List (ClassId × FieldType)} (hts : ∀ w ∈ lw_all, w.before args s = true) (hown : s.vm.findClass RX0 = some m.cls) (hK : va_K D vwCl tys s) (hP : va_P D vwCl (cvw ad dA n F) H) (hdg : decode cc pc = .ok (.getfield 29, 3)) (kk : W p l e R s m args below meth c H locs cells slots Q (F0 m (pc + 3) ls (.ref (ad 7) :: rest))) : W p l e R s m args below meth c H locs cells slots Q (F0 m (pc) ls (.ref (ad 0) :: rest)) :=
  va_get (D := D) (ci := 0) (v := .ref (ad 7)) (C := RX0) (T := TX0) (N := 10) hx hb hts in_X0 hown hK hP 0 rfl rfl 7 (by decide) (hts _ q45) (fun _ h9 => h9) rfl hdg kk
theorem cv_g8 {D : va_G} {ad : Nat → Nat} {dA : Nat → ClassId} {n : Nat} {F : Nat → Nat → Int32} (hx : p.tables.exec = Jvm.exec) (hb : c.code = cc) {tys : List (ClassId × FieldType)} (hts : ∀ w ∈ lw_all, w.before args s = true) (hown : s.vm.findClass RX0 = some m.cls) (hK : va_K D vwCl tys s) (hP : va_P D vwCl (cvw ad dA n F) H) (hdg : decode cc pc = .ok (.getfield 32, 3)) (kk : W p l e R s m args below meth c H locs cells slots Q (F0 m (pc + 3) ls (.ref (ad 8) :: rest))) : W p l e R s m args below meth c H locs cells slots Q (F0 m (pc) ls (.ref (ad 0) :: rest)) :=
  va_get (D := D) (ci := 0) (v := .ref (ad 8)) (C := RX0) (T := TX0) (N := 10) hx hb hts in_X0 hown hK hP 0 rfl rfl 8 (by decide) (hts _ q46) (fun _ h9 => h9) rfl hdg kk
theorem cv_g9 {D : va_G} {ad : Nat → Nat} {dA : Nat → ClassId} {n : Nat} {F : Nat → Nat → Int32} (hx : p.tables.exec = Jvm.exec) (hb : c.code = cc) {tys : List (ClassId × FieldType)} (hts : ∀ w ∈ lw_all, w.before args s = true) (hown : s.vm.findClass RX0 = some m.cls) (hK : va_K D vwCl tys s) (hP : va_P D vwCl (cvw ad dA n F) H) (hdg : decode cc pc = .ok (.getfield 35, 3)) (kk : W p l e R s m args below meth c H locs cells slots Q (F0 m (pc + 3) ls (.ref (ad 9) :: rest))) : W p l e R s m args below meth c H locs cells slots Q (F0 m (pc) ls (.ref (ad 0) :: rest)) :=
  va_get (D := D) (ci := 0) (v := .ref (ad 9)) (C := RX0) (T := TX0) (N := 10) hx hb hts in_X0 hown hK hP 0 rfl rfl 9 (by decide) (hts _ q47) (fun _ h9 => h9) rfl hdg kk
theorem md_g0 {D : va_G} {bd : Nat → Nat} {dB : Nat → ClassId} {n : Nat} {G : Nat → Nat → Int32} {fo to : Int32} (hx : p.tables.exec = Jvm.exec) (hb : c.code = cc) {tys : List (ClassId × FieldType)} (hts : ∀ w ∈ lw_all, w.before args s = true) (hown : s.vm.findClass RX1 = some m.cls) (hK : va_K D vwCl tys s) (hP : va_P D vwCl (mdw bd dB n G fo to) H) (hdg : decode cc pc = .ok (.getfield 7, 3)) (kk : W p l e R s m args below meth c H locs cells slots Q (F0 m (pc + 3) ls (.ref (bd 1) :: rest))) : W p l e R s m args below meth c H locs cells slots Q (F0 m (pc) ls (.ref (bd 0) :: rest)) :=
  va_get (D := D) (ci := 1) (v := .ref (bd 1)) (C := RX1) (T := TX1) (N := 5) hx hb hts in_X1 hown hK hP 0 rfl rfl 0 (by decide) (hts _ q204) (fun _ h9 => h9) rfl hdg kk
theorem md_g1 {D : va_G} {bd : Nat → Nat} {dB : Nat → ClassId} {n : Nat} {G : Nat → Nat → Int32} {fo to : Int32} (hx : p.tables.exec = Jvm.exec) (hb : c.code = cc) {tys : List (ClassId × FieldType)} (hts : ∀ w ∈ lw_all, w.before args s = true) (hown : s.vm.findClass RX1 = some m.cls) (hK : va_K D vwCl tys s) (hP : va_P D vwCl (mdw bd dB n G fo to) H) (hdg : decode cc pc = .ok (.getfield 13, 3)) (kk : W p l e R s m args below meth c H locs cells slots Q (F0 m (pc + 3) ls (.ref (bd 2) :: rest))) : W p l e R s m args below meth c H locs cells slots Q (F0 m (pc) ls (.ref (bd 0) :: rest)) :=
  va_get (D := D) (ci := 1) (v := .ref (bd 2)) (C := RX1) (T := TX1) (N := 5) hx hb hts in_X1 hown hK hP 0 rfl rfl 1 (by decide) (hts _ q205) (fun _ h9 => h9) rfl hdg kk
theorem md_g2 {D : va_G} {bd : Nat → Nat} {dB : Nat → ClassId} {n : Nat} {G : Nat → Nat → Int32} {fo to : Int32} (hx : p.tables.exec = Jvm.exec) (hb : c.code = cc) {tys : List (ClassId × FieldType)} (hts : ∀ w ∈ lw_all, w.before args s = true) (hown : s.vm.findClass RX1 = some m.cls) (hK : va_K D vwCl tys s) (hP : va_P D vwCl (mdw bd dB n G fo to) H) (hdg : decode cc pc = .ok (.getfield 21, 3)) (kk : W p l e R s m args below meth c H locs cells slots Q (F0 m (pc + 3) ls (.int (nI n) :: rest))) : W p l e R s m args below meth c H locs cells slots Q (F0 m (pc) ls (.ref (bd 0) :: rest)) :=
  va_get (D := D) (ci := 1) (v := .int (nI n)) (C := RX1) (T := TX1) (N := 5) hx hb hts in_X1 hown hK hP 0 rfl rfl 2 (by decide) (hts _ q206) (fun _ h9 => h9) rfl hdg kk
theorem md_g3 {D : va_G} {bd : Nat → Nat} {dB : Nat → ClassId} {n : Nat} {G : Nat → Nat → Int32} {fo to : Int32} (hx : p.tables.exec = Jvm.exec) (hb : c.code = cc) {tys : List (ClassId × FieldType)} (hts : ∀ w ∈ lw_all, w.before args s = true) (hown : s.vm.findClass RX1 = some m.cls) (hK : va_K D vwCl tys s) (hP : va_P D vwCl (mdw bd dB n G fo to) H) (hdg : decode cc pc = .ok (.getfield 41, 3)) (kk : W p l e R s m args below meth c H locs cells slots Q (F0 m (pc + 3) ls (.int fo :: rest))) : W p l e R s m args below meth c H locs cells slots Q (F0 m (pc) ls (.ref (bd 0) :: rest)) :=
  va_get (D := D) (ci := 1) (v := .int fo) (C := RX1) (T := TX1) (N := 5) hx hb hts in_X1 hown hK hP 0 rfl rfl 3 (by decide) (hts _ q207) (fun _ h9 => h9) rfl hdg kk
theorem md_g4 {D : va_G} {bd : Nat → Nat} {dB : Nat → ClassId} {n : Nat} {G : Nat → Nat → Int32} {fo to : Int32} (hx : p.tables.exec = Jvm.exec) (hb : c.code = cc) {tys : List (ClassId × FieldType)} (hts : ∀ w ∈ lw_all, w.before args s = true) (hown : s.vm.findClass RX1 = some m.cls) (hK : va_K D vwCl tys s) (hP : va_P D vwCl (mdw bd dB n G fo to) H) (hdg : decode cc pc = .ok (.getfield 44, 3)) (kk : W p l e R s m args below meth c H locs cells slots Q (F0 m (pc + 3) ls (.int to :: rest))) : W p l e R s m args below meth c H locs cells slots Q (F0 m (pc) ls (.ref (bd 0) :: rest)) :=
  va_get (D := D) (ci := 1) (v := .int to) (C := RX1) (T := TX1) (N := 5) hx hb hts in_X1 hown hK hP 0 rfl rfl 4 (by decide) (hts _ q208) (fun _ h9 => h9) rfl hdg kk
theorem cv_l1 {D : va_G} {ad : Nat → Nat} {dA : Nat → ClassId} {n : Nat} {F : Nat → Nat → Int32} (hx : p.tables.exec = Jvm.exec) (hb : c.code = cc) (hK : va_K D vwCl (cvT dA) s) (hP : va_P D vwCl (cvw ad dA n F) H) {i : Int32} (j : Nat) (hi : i = nI j) (hj : j < 40) (hdg : decode cc pc = .ok (.iaload, 1)) (kk : W p l e R s m args below meth c H locs cells slots Q (F0 m (pc + 1) ls (.int (F 1 j) :: rest))) : W p l e R s m args below meth c H locs cells slots Q (F0 m (pc) ls (.int i :: .ref (ad 1) :: rest)) := by
  subst hi
  refine va_iald hx hb hK hP 1 0 rfl rfl (vp_in_nI hj (by decide)) hdg ?_
  rw [nI_clamp (by omega)]
  exact kk
theorem cv_l2 {D : va_G} {ad : Nat → Nat} {dA : Nat → ClassId} {n : Nat} {F : Nat → Nat → Int32} (hx : p.tables.exec = Jvm.exec) (hb : c.code = cc) (hK : va_K D vwCl (cvT dA) s) (hP : va_P D vwCl (cvw ad dA n F) H) {i : Int32} (j : Nat) (hi : i = nI j) (hj : j < 40) (hdg : decode cc pc = .ok (.iaload, 1)) (kk : W p l e R s m args below meth c H locs cells slots Q (F0 m (pc + 1) ls (.int (F 2 j) :: rest))) : W p l e R s m args below meth c H locs cells slots Q (F0 m (pc) ls (.int i :: .ref (ad 2) :: rest)) := by
  subst hi
  refine va_iald hx hb hK hP 2 1 rfl rfl (vp_in_nI hj (by decide)) hdg ?_
  rw [nI_clamp (by omega)]
  exact kk
theorem cv_l3 {D : va_G} {ad : Nat → Nat} {dA : Nat → ClassId} {n : Nat} {F : Nat → Nat → Int32} (hx : p.tables.exec = Jvm.exec) (hb : c.code = cc) (hK : va_K D vwCl (cvT dA) s) (hP : va_P D vwCl (cvw ad dA n F) H) {i : Int32} (j : Nat) (hi : i = nI j) (hj : j < 120) (hdg : decode cc pc = .ok (.iaload, 1)) (kk : W p l e R s m args below meth c H locs cells slots Q (F0 m (pc + 1) ls (.int (F 3 j) :: rest))) : W p l e R s m args below meth c H locs cells slots Q (F0 m (pc) ls (.int i :: .ref (ad 3) :: rest)) := by
  subst hi
  refine va_iald hx hb hK hP 3 2 rfl rfl (vp_in_nI hj (by decide)) hdg ?_
  rw [nI_clamp (by omega)]
  exact kk
theorem cv_l4 {D : va_G} {ad : Nat → Nat} {dA : Nat → ClassId} {n : Nat} {F : Nat → Nat → Int32} (hx : p.tables.exec = Jvm.exec) (hb : c.code = cc) (hK : va_K D vwCl (cvT dA) s) (hP : va_P D vwCl (cvw ad dA n F) H) {i : Int32} (j : Nat) (hi : i = nI j) (hj : j < 40) (hdg : decode cc pc = .ok (.iaload, 1)) (kk : W p l e R s m args below meth c H locs cells slots Q (F0 m (pc + 1) ls (.int (F 4 j) :: rest))) : W p l e R s m args below meth c H locs cells slots Q (F0 m (pc) ls (.int i :: .ref (ad 4) :: rest)) := by
  subst hi
  refine va_iald hx hb hK hP 4 3 rfl rfl (vp_in_nI hj (by decide)) hdg ?_
  rw [nI_clamp (by omega)]
  exact kk
theorem cv_l5 {D : va_G} {ad : Nat → Nat} {dA : Nat → ClassId} {n : Nat} {F : Nat → Nat → Int32} (hx : p.tables.exec = Jvm.exec) (hb : c.code = cc) (hK : va_K D vwCl (cvT dA) s) (hP : va_P D vwCl (cvw ad dA n F) H) {i : Int32} (j : Nat) (hi : i = nI j) (hj : j < 8) (hdg : decode cc pc = .ok (.baload, 1)) (kk : W p l e R s m args below meth c H locs cells slots Q (F0 m (pc + 1) ls (.int (F 5 j) :: rest))) : W p l e R s m args below meth c H locs cells slots Q (F0 m (pc) ls (.int i :: .ref (ad 5) :: rest)) := by
  subst hi
  refine va_zald hx hb hK hP 5 4 rfl rfl (vp_in_nI hj (by decide)) hdg ?_
  rw [nI_clamp (by omega)]
  exact kk
theorem cv_l6 {D : va_G} {ad : Nat → Nat} {dA : Nat → ClassId} {n : Nat} {F : Nat → Nat → Int32} (hx : p.tables.exec = Jvm.exec) (hb : c.code = cc) (hK : va_K D vwCl (cvT dA) s) (hP : va_P D vwCl (cvw ad dA n F) H) {i : Int32} (j : Nat) (hi : i = nI j) (hj : j < 960) (hdg : decode cc pc = .ok (.iaload, 1)) (kk : W p l e R s m args below meth c H locs cells slots Q (F0 m (pc + 1) ls (.int (F 6 j) :: rest))) : W p l e R s m args below meth c H locs cells slots Q (F0 m (pc) ls (.int i :: .ref (ad 6) :: rest)) := by
  subst hi
  refine va_iald hx hb hK hP 6 5 rfl rfl (vp_in_nI hj (by decide)) hdg ?_
  rw [nI_clamp (by omega)]
  exact kk
theorem cv_l7 {D : va_G} {ad : Nat → Nat} {dA : Nat → ClassId} {n : Nat} {F : Nat → Nat → Int32} (hx : p.tables.exec = Jvm.exec) (hb : c.code = cc) (hK : va_K D vwCl (cvT dA) s) (hP : va_P D vwCl (cvw ad dA n F) H) {i : Int32} (j : Nat) (hi : i = nI j) (hj : j < 960) (hdg : decode cc pc = .ok (.iaload, 1)) (kk : W p l e R s m args below meth c H locs cells slots Q (F0 m (pc + 1) ls (.int (F 7 j) :: rest))) : W p l e R s m args below meth c H locs cells slots Q (F0 m (pc) ls (.int i :: .ref (ad 7) :: rest)) := by
  subst hi
  refine va_iald hx hb hK hP 7 6 rfl rfl (vp_in_nI hj (by decide)) hdg ?_
  rw [nI_clamp (by omega)]
  exact kk
theorem cv_l8 {D : va_G} {ad : Nat → Nat} {dA : Nat → ClassId} {n : Nat} {F : Nat → Nat → Int32} (hx : p.tables.exec = Jvm.exec) (hb : c.code = cc) (hK : va_K D vwCl (cvT dA) s) (hP : va_P D vwCl (cvw ad dA n F) H) {i : Int32} (j : Nat) (hi : i = nI j) (hj : j < 120) (hdg : decode cc pc = .ok (.iaload, 1)) (kk : W p l e R s m args below meth c H locs cells slots Q (F0 m (pc + 1) ls (.int (F 8 j) :: rest))) : W p l e R s m args below meth c H locs cells slots Q (F0 m (pc) ls (.int i :: .ref (ad 8) :: rest)) := by
  subst hi
  refine va_iald hx hb hK hP 8 7 rfl rfl (vp_in_nI hj (by decide)) hdg ?_
  rw [nI_clamp (by omega)]
  exact kk
theorem cv_l9 {D : va_G} {ad : Nat → Nat} {dA : Nat → ClassId} {n : Nat} {F : Nat → Nat → Int32} (hx : p.tables.exec = Jvm.exec) (hb : c.code = cc) (hK : va_K D vwCl (cvT dA) s) (hP : va_P D vwCl (cvw ad dA n F) H) {i : Int32} (j : Nat) (hi : i = nI j) (hj : j < 120) (hdg : decode cc pc = .ok (.iaload, 1)) (kk : W p l e R s m args below meth c H locs cells slots Q (F0 m (pc + 1) ls (.int (F 9 j) :: rest))) : W p l e R s m args below meth c H locs cells slots Q (F0 m (pc) ls (.int i :: .ref (ad 9) :: rest)) := by
  subst hi
  refine va_iald hx hb hK hP 9 8 rfl rfl (vp_in_nI hj (by decide)) hdg ?_
  rw [nI_clamp (by omega)]
  exact kk
theorem md_l1 {D : va_G} {bd : Nat → Nat} {dB : Nat → ClassId} {n : Nat} {G : Nat → Nat → Int32} {fo to : Int32} (hx : p.tables.exec = Jvm.exec) (hb : c.code = cc) (hK : va_K D vwCl (mdT dB) s) (hP : va_P D vwCl (mdw bd dB n G fo to) H) {i : Int32} (j : Nat) (hi : i = nI j) (hj : j < 40) (hdg : decode cc pc = .ok (.iaload, 1)) (kk : W p l e R s m args below meth c H locs cells slots Q (F0 m (pc + 1) ls (.int (G 1 j) :: rest))) : W p l e R s m args below meth c H locs cells slots Q (F0 m (pc) ls (.int i :: .ref (bd 1) :: rest)) := by
  subst hi
  refine va_iald hx hb hK hP 1 0 rfl rfl (vp_in_nI hj (by decide)) hdg ?_
  rw [nI_clamp (by omega)]
  exact kk
theorem md_l2 {D : va_G} {bd : Nat → Nat} {dB : Nat → ClassId} {n : Nat} {G : Nat → Nat → Int32} {fo to : Int32} (hx : p.tables.exec = Jvm.exec) (hb : c.code = cc) (hK : va_K D vwCl (mdT dB) s) (hP : va_P D vwCl (mdw bd dB n G fo to) H) {i : Int32} (j : Nat) (hi : i = nI j) (hj : j < 40) (hdg : decode cc pc = .ok (.iaload, 1)) (kk : W p l e R s m args below meth c H locs cells slots Q (F0 m (pc + 1) ls (.int (G 2 j) :: rest))) : W p l e R s m args below meth c H locs cells slots Q (F0 m (pc) ls (.int i :: .ref (bd 2) :: rest)) := by
  subst hi
  refine va_iald hx hb hK hP 2 1 rfl rfl (vp_in_nI hj (by decide)) hdg ?_
  rw [nI_clamp (by omega)]
  exact kk
theorem cv_s1 {D : va_G} {ad : Nat → Nat} {dA : Nat → ClassId} {n : Nat} {F : Nat → Nat → Int32} (hx : p.tables.exec = Jvm.exec) (hb : c.code = cc) (hK : va_K D vwCl (cvT dA) s) (hP : va_P D vwCl (cvw ad dA n F) H) (hI : cvI ad) {H0 : Heap} (hS : va_S (cvA ad) H0 H locs) {i x : Int32} (j : Nat) (hi : i = nI j) (hj : j < 40) (hdg : decode cc pc = .ok (.iastore, 1)) (kk : ∀ (F' : Nat → Nat → Int32) (H1 : Heap) (locs1 : List Loc), F' = sw F 1 (upd (F 1) j x) → va_P D vwCl (cvw ad dA n F') H1 → va_S (cvA ad) H0 H1 locs1 → W p l e R s m args below meth c H1 locs1 cells slots Q (F0 m (pc + 1) ls (rest))) : W p l e R s m args below meth c H locs cells slots Q (F0 m (pc) ls (.int x :: .int i :: .ref (ad 1) :: rest)) := by
  subst hi
  refine va_iast hx hb hK hP (cv_D hI) hS 1 0 rfl rfl (vp_in_nI hj (by decide)) hdg (fun H1 locs1 hP1 _ hS1 => ?_)
  rw [nI_clamp (by omega)] at hP1
  exact kk _ H1 locs1 rfl hP1 hS1
theorem cv_s2 {D : va_G} {ad : Nat → Nat} {dA : Nat → ClassId} {n : Nat} {F : Nat → Nat → Int32} (hx : p.tables.exec = Jvm.exec) (hb : c.code = cc) (hK : va_K D vwCl (cvT dA) s) (hP : va_P D vwCl (cvw ad dA n F) H) (hI : cvI ad) {H0 : Heap} (hS : va_S (cvA ad) H0 H locs) {i x : Int32} (j : Nat) (hi : i = nI j) (hj : j < 40) (hdg : decode cc pc = .ok (.iastore, 1)) (kk : ∀ (F' : Nat → Nat → Int32) (H1 : Heap) (locs1 : List Loc), F' = sw F 2 (upd (F 2) j x) → va_P D vwCl (cvw ad dA n F') H1 → va_S (cvA ad) H0 H1 locs1 → W p l e R s m args below meth c H1 locs1 cells slots Q (F0 m (pc + 1) ls (rest))) : W p l e R s m args below meth c H locs cells slots Q (F0 m (pc) ls (.int x :: .int i :: .ref (ad 2) :: rest)) := by
  subst hi
  refine va_iast hx hb hK hP (cv_D hI) hS 2 1 rfl rfl (vp_in_nI hj (by decide)) hdg (fun H1 locs1 hP1 _ hS1 => ?_)
  rw [nI_clamp (by omega)] at hP1
  exact kk _ H1 locs1 rfl hP1 hS1
theorem cv_s3 {D : va_G} {ad : Nat → Nat} {dA : Nat → ClassId} {n : Nat} {F : Nat → Nat → Int32} (hx : p.tables.exec = Jvm.exec) (hb : c.code = cc) (hK : va_K D vwCl (cvT dA) s) (hP : va_P D vwCl (cvw ad dA n F) H) (hI : cvI ad) {H0 : Heap} (hS : va_S (cvA ad) H0 H locs) {i x : Int32} (j : Nat) (hi : i = nI j) (hj : j < 120) (hdg : decode cc pc = .ok (.iastore, 1)) (kk : ∀ (F' : Nat → Nat → Int32) (H1 : Heap) (locs1 : List Loc), F' = sw F 3 (upd (F 3) j x) → va_P D vwCl (cvw ad dA n F') H1 → va_S (cvA ad) H0 H1 locs1 → W p l e R s m args below meth c H1 locs1 cells slots Q (F0 m (pc + 1) ls (rest))) : W p l e R s m args below meth c H locs cells slots Q (F0 m (pc) ls (.int x :: .int i :: .ref (ad 3) :: rest)) := by
  subst hi
  refine va_iast hx hb hK hP (cv_D hI) hS 3 2 rfl rfl (vp_in_nI hj (by decide)) hdg (fun H1 locs1 hP1 _ hS1 => ?_)
  rw [nI_clamp (by omega)] at hP1
  exact kk _ H1 locs1 rfl hP1 hS1
theorem cv_s4 {D : va_G} {ad : Nat → Nat} {dA : Nat → ClassId} {n : Nat} {F : Nat → Nat → Int32} (hx : p.tables.exec = Jvm.exec) (hb : c.code = cc) (hK : va_K D vwCl (cvT dA) s) (hP : va_P D vwCl (cvw ad dA n F) H) (hI : cvI ad) {H0 : Heap} (hS : va_S (cvA ad) H0 H locs) {i x : Int32} (j : Nat) (hi : i = nI j) (hj : j < 40) (hdg : decode cc pc = .ok (.iastore, 1)) (kk : ∀ (F' : Nat → Nat → Int32) (H1 : Heap) (locs1 : List Loc), F' = sw F 4 (upd (F 4) j x) → va_P D vwCl (cvw ad dA n F') H1 → va_S (cvA ad) H0 H1 locs1 → W p l e R s m args below meth c H1 locs1 cells slots Q (F0 m (pc + 1) ls (rest))) : W p l e R s m args below meth c H locs cells slots Q (F0 m (pc) ls (.int x :: .int i :: .ref (ad 4) :: rest)) := by
  subst hi
  refine va_iast hx hb hK hP (cv_D hI) hS 4 3 rfl rfl (vp_in_nI hj (by decide)) hdg (fun H1 locs1 hP1 _ hS1 => ?_)
  rw [nI_clamp (by omega)] at hP1
  exact kk _ H1 locs1 rfl hP1 hS1
theorem cv_s5 {D : va_G} {ad : Nat → Nat} {dA : Nat → ClassId} {n : Nat} {F : Nat → Nat → Int32} (hx : p.tables.exec = Jvm.exec) (hb : c.code = cc) (hK : va_K D vwCl (cvT dA) s) (hP : va_P D vwCl (cvw ad dA n F) H) (hI : cvI ad) {H0 : Heap} (hS : va_S (cvA ad) H0 H locs) {i x : Int32} (j : Nat) (hi : i = nI j) (hj : j < 8) (hdg : decode cc pc = .ok (.bastore, 1)) (kk : ∀ (F' : Nat → Nat → Int32) (H1 : Heap) (locs1 : List Loc), F' = sw F 5 (upd (F 5) j (vp_nar .boolean x)) → va_P D vwCl (cvw ad dA n F') H1 → va_S (cvA ad) H0 H1 locs1 → W p l e R s m args below meth c H1 locs1 cells slots Q (F0 m (pc + 1) ls (rest))) : W p l e R s m args below meth c H locs cells slots Q (F0 m (pc) ls (.int x :: .int i :: .ref (ad 5) :: rest)) := by
  subst hi
  refine va_zast hx hb hK hP (cv_D hI) hS 5 4 rfl rfl (vp_in_nI hj (by decide)) hdg (fun H1 locs1 hP1 _ hS1 => ?_)
  rw [nI_clamp (by omega)] at hP1
  exact kk _ H1 locs1 rfl hP1 hS1
theorem cv_s6 {D : va_G} {ad : Nat → Nat} {dA : Nat → ClassId} {n : Nat} {F : Nat → Nat → Int32} (hx : p.tables.exec = Jvm.exec) (hb : c.code = cc) (hK : va_K D vwCl (cvT dA) s) (hP : va_P D vwCl (cvw ad dA n F) H) (hI : cvI ad) {H0 : Heap} (hS : va_S (cvA ad) H0 H locs) {i x : Int32} (j : Nat) (hi : i = nI j) (hj : j < 960) (hdg : decode cc pc = .ok (.iastore, 1)) (kk : ∀ (F' : Nat → Nat → Int32) (H1 : Heap) (locs1 : List Loc), F' = sw F 6 (upd (F 6) j x) → va_P D vwCl (cvw ad dA n F') H1 → va_S (cvA ad) H0 H1 locs1 → W p l e R s m args below meth c H1 locs1 cells slots Q (F0 m (pc + 1) ls (rest))) : W p l e R s m args below meth c H locs cells slots Q (F0 m (pc) ls (.int x :: .int i :: .ref (ad 6) :: rest)) := by
  subst hi
  refine va_iast hx hb hK hP (cv_D hI) hS 6 5 rfl rfl (vp_in_nI hj (by decide)) hdg (fun H1 locs1 hP1 _ hS1 => ?_)
  rw [nI_clamp (by omega)] at hP1
  exact kk _ H1 locs1 rfl hP1 hS1
theorem cv_s7 {D : va_G} {ad : Nat → Nat} {dA : Nat → ClassId} {n : Nat} {F : Nat → Nat → Int32} (hx : p.tables.exec = Jvm.exec) (hb : c.code = cc) (hK : va_K D vwCl (cvT dA) s) (hP : va_P D vwCl (cvw ad dA n F) H) (hI : cvI ad) {H0 : Heap} (hS : va_S (cvA ad) H0 H locs) {i x : Int32} (j : Nat) (hi : i = nI j) (hj : j < 960) (hdg : decode cc pc = .ok (.iastore, 1)) (kk : ∀ (F' : Nat → Nat → Int32) (H1 : Heap) (locs1 : List Loc), F' = sw F 7 (upd (F 7) j x) → va_P D vwCl (cvw ad dA n F') H1 → va_S (cvA ad) H0 H1 locs1 → W p l e R s m args below meth c H1 locs1 cells slots Q (F0 m (pc + 1) ls (rest))) : W p l e R s m args below meth c H locs cells slots Q (F0 m (pc) ls (.int x :: .int i :: .ref (ad 7) :: rest)) := by
  subst hi
  refine va_iast hx hb hK hP (cv_D hI) hS 7 6 rfl rfl (vp_in_nI hj (by decide)) hdg (fun H1 locs1 hP1 _ hS1 => ?_)
  rw [nI_clamp (by omega)] at hP1
  exact kk _ H1 locs1 rfl hP1 hS1
theorem cv_s8 {D : va_G} {ad : Nat → Nat} {dA : Nat → ClassId} {n : Nat} {F : Nat → Nat → Int32} (hx : p.tables.exec = Jvm.exec) (hb : c.code = cc) (hK : va_K D vwCl (cvT dA) s) (hP : va_P D vwCl (cvw ad dA n F) H) (hI : cvI ad) {H0 : Heap} (hS : va_S (cvA ad) H0 H locs) {i x : Int32} (j : Nat) (hi : i = nI j) (hj : j < 120) (hdg : decode cc pc = .ok (.iastore, 1)) (kk : ∀ (F' : Nat → Nat → Int32) (H1 : Heap) (locs1 : List Loc), F' = sw F 8 (upd (F 8) j x) → va_P D vwCl (cvw ad dA n F') H1 → va_S (cvA ad) H0 H1 locs1 → W p l e R s m args below meth c H1 locs1 cells slots Q (F0 m (pc + 1) ls (rest))) : W p l e R s m args below meth c H locs cells slots Q (F0 m (pc) ls (.int x :: .int i :: .ref (ad 8) :: rest)) := by
  subst hi
  refine va_iast hx hb hK hP (cv_D hI) hS 8 7 rfl rfl (vp_in_nI hj (by decide)) hdg (fun H1 locs1 hP1 _ hS1 => ?_)
  rw [nI_clamp (by omega)] at hP1
  exact kk _ H1 locs1 rfl hP1 hS1
theorem cv_s9 {D : va_G} {ad : Nat → Nat} {dA : Nat → ClassId} {n : Nat} {F : Nat → Nat → Int32} (hx : p.tables.exec = Jvm.exec) (hb : c.code = cc) (hK : va_K D vwCl (cvT dA) s) (hP : va_P D vwCl (cvw ad dA n F) H) (hI : cvI ad) {H0 : Heap} (hS : va_S (cvA ad) H0 H locs) {i x : Int32} (j : Nat) (hi : i = nI j) (hj : j < 120) (hdg : decode cc pc = .ok (.iastore, 1)) (kk : ∀ (F' : Nat → Nat → Int32) (H1 : Heap) (locs1 : List Loc), F' = sw F 9 (upd (F 9) j x) → va_P D vwCl (cvw ad dA n F') H1 → va_S (cvA ad) H0 H1 locs1 → W p l e R s m args below meth c H1 locs1 cells slots Q (F0 m (pc + 1) ls (rest))) : W p l e R s m args below meth c H locs cells slots Q (F0 m (pc) ls (.int x :: .int i :: .ref (ad 9) :: rest)) := by
  subst hi
  refine va_iast hx hb hK hP (cv_D hI) hS 9 8 rfl rfl (vp_in_nI hj (by decide)) hdg (fun H1 locs1 hP1 _ hS1 => ?_)
  rw [nI_clamp (by omega)] at hP1
  exact kk _ H1 locs1 rfl hP1 hS1
theorem md_s1 {D : va_G} {bd : Nat → Nat} {dB : Nat → ClassId} {n : Nat} {G : Nat → Nat → Int32} {fo to : Int32} (hx : p.tables.exec = Jvm.exec) (hb : c.code = cc) (hK : va_K D vwCl (mdT dB) s) (hP : va_P D vwCl (mdw bd dB n G fo to) H) (hI : mdI bd) {H0 : Heap} (hS : va_S (mdA bd) H0 H locs) {i x : Int32} (j : Nat) (hi : i = nI j) (hj : j < 40) (hdg : decode cc pc = .ok (.iastore, 1)) (kk : ∀ (G' : Nat → Nat → Int32) (H1 : Heap) (locs1 : List Loc), G' = sw G 1 (upd (G 1) j x) → va_P D vwCl (mdw bd dB n G' fo to) H1 → va_S (mdA bd) H0 H1 locs1 → W p l e R s m args below meth c H1 locs1 cells slots Q (F0 m (pc + 1) ls (rest))) : W p l e R s m args below meth c H locs cells slots Q (F0 m (pc) ls (.int x :: .int i :: .ref (bd 1) :: rest)) := by
  subst hi
  refine va_iast hx hb hK hP (md_D hI) hS 1 0 rfl rfl (vp_in_nI hj (by decide)) hdg (fun H1 locs1 hP1 _ hS1 => ?_)
  rw [nI_clamp (by omega)] at hP1
  exact kk _ H1 locs1 rfl hP1 hS1
theorem md_s2 {D : va_G} {bd : Nat → Nat} {dB : Nat → ClassId} {n : Nat} {G : Nat → Nat → Int32} {fo to : Int32} (hx : p.tables.exec = Jvm.exec) (hb : c.code = cc) (hK : va_K D vwCl (mdT dB) s) (hP : va_P D vwCl (mdw bd dB n G fo to) H) (hI : mdI bd) {H0 : Heap} (hS : va_S (mdA bd) H0 H locs) {i x : Int32} (j : Nat) (hi : i = nI j) (hj : j < 40) (hdg : decode cc pc = .ok (.iastore, 1)) (kk : ∀ (G' : Nat → Nat → Int32) (H1 : Heap) (locs1 : List Loc), G' = sw G 2 (upd (G 2) j x) → va_P D vwCl (mdw bd dB n G' fo to) H1 → va_S (mdA bd) H0 H1 locs1 → W p l e R s m args below meth c H1 locs1 cells slots Q (F0 m (pc + 1) ls (rest))) : W p l e R s m args below meth c H locs cells slots Q (F0 m (pc) ls (.int x :: .int i :: .ref (bd 2) :: rest)) := by
  subst hi
  refine va_iast hx hb hK hP (md_D hI) hS 2 1 rfl rfl (vp_in_nI hj (by decide)) hdg (fun H1 locs1 hP1 _ hS1 => ?_)
  rw [nI_clamp (by omega)] at hP1
  exact kk _ H1 locs1 rfl hP1 hS1
theorem cv_p0 {D : va_G} {ad : Nat → Nat} {dA : Nat → ClassId} {n : Nat} {F : Nat → Nat → Int32} (hx : p.tables.exec = Jvm.exec) (hb : c.code = cc) {tys : List (ClassId × FieldType)} (hts : ∀ w ∈ lw_all, w.before args s = true) (hown : s.vm.findClass RX0 = some m.cls) (hK : va_K D vwCl tys s) (hP : va_P D vwCl (cvw ad dA n F) H) (hI : cvI ad) {H0 : Heap} (hS : va_S (cvA ad) H0 H locs) {v : Int32} (n' : Nat) (hv : v = nI n') (hdg : decode cc pc = .ok (.putfield 52, 3)) (kk : ∀ (H1 : Heap) (locs1 : List Loc), va_P D vwCl (cvw ad dA n' F) H1 → va_S (cvA ad) H0 H1 locs1 → W p l e R s m args below meth c H1 locs1 cells slots Q (F0 m (pc + 3) ls (rest))) : W p l e R s m args below meth c H locs cells slots Q (F0 m (pc) ls (.int v :: .ref (ad 0) :: rest)) := by
  subst hv
  exact va_put (D := D) (ci := 0) (v := .int (nI n')) (ty := .int) (C := RX0) (T := TX0) (N := 10) hx hb hts in_X0 tyX0 tyX0_ok nmX0 hown hK hP (cv_D hI) hS 0 rfl rfl 0 (by decide) (hts _ q38) (fun _ h9 => h9) rfl (by decide +kernel) rfl rfl (Nat.le_of_ble_eq_true rfl) hdg (fun H1 locs1 hP1 _ hS1 => kk H1 locs1 hP1 hS1)
theorem md_p2 {D : va_G} {bd : Nat → Nat} {dB : Nat → ClassId} {n : Nat} {G : Nat → Nat → Int32} {fo to : Int32} (hx : p.tables.exec = Jvm.exec) (hb : c.code = cc) {tys : List (ClassId × FieldType)} (hts : ∀ w ∈ lw_all, w.before args s = true) (hown : s.vm.findClass RX1 = some m.cls) (hK : va_K D vwCl tys s) (hP : va_P D vwCl (mdw bd dB n G fo to) H) (hI : mdI bd) {H0 : Heap} (hS : va_S (mdA bd) H0 H locs) {v : Int32} (n' : Nat) (hv : v = nI n') (hdg : decode cc pc = .ok (.putfield 21, 3)) (kk : ∀ (H1 : Heap) (locs1 : List Loc), va_P D vwCl (mdw bd dB n' G fo to) H1 → va_S (mdA bd) H0 H1 locs1 → W p l e R s m args below meth c H1 locs1 cells slots Q (F0 m (pc + 3) ls (rest))) : W p l e R s m args below meth c H locs cells slots Q (F0 m (pc) ls (.int v :: .ref (bd 0) :: rest)) := by
  subst hv
  exact va_put (D := D) (ci := 1) (v := .int (nI n')) (ty := .int) (C := RX1) (T := TX1) (N := 5) hx hb hts in_X1 tyX1 tyX1_ok nmX1 hown hK hP (md_D hI) hS 0 rfl rfl 2 (by decide) (hts _ q206) (fun _ h9 => h9) rfl (by decide +kernel) rfl rfl (Nat.le_of_ble_eq_true rfl) hdg (fun H1 locs1 hP1 _ hS1 => kk H1 locs1 hP1 hS1)
theorem md_p3 {D : va_G} {bd : Nat → Nat} {dB : Nat → ClassId} {n : Nat} {G : Nat → Nat → Int32} {fo to : Int32} (hx : p.tables.exec = Jvm.exec) (hb : c.code = cc) {tys : List (ClassId × FieldType)} (hts : ∀ w ∈ lw_all, w.before args s = true) (hown : s.vm.findClass RX1 = some m.cls) (hK : va_K D vwCl tys s) (hP : va_P D vwCl (mdw bd dB n G fo to) H) (hI : mdI bd) {H0 : Heap} (hS : va_S (mdA bd) H0 H locs) {v : Int32} (hdg : decode cc pc = .ok (.putfield 41, 3)) (kk : ∀ (H1 : Heap) (locs1 : List Loc), va_P D vwCl (mdw bd dB n G v to) H1 → va_S (mdA bd) H0 H1 locs1 → W p l e R s m args below meth c H1 locs1 cells slots Q (F0 m (pc + 3) ls (rest))) : W p l e R s m args below meth c H locs cells slots Q (F0 m (pc) ls (.int v :: .ref (bd 0) :: rest)) :=
  va_put (D := D) (ci := 1) (v := .int v) (ty := .int) (C := RX1) (T := TX1) (N := 5) hx hb hts in_X1 tyX1 tyX1_ok nmX1 hown hK hP (md_D hI) hS 0 rfl rfl 3 (by decide) (hts _ q207) (fun _ h9 => h9) rfl (by decide +kernel) rfl rfl (Nat.le_of_ble_eq_true rfl) hdg (fun H1 locs1 hP1 _ hS1 => kk H1 locs1 hP1 hS1)
theorem md_p4 {D : va_G} {bd : Nat → Nat} {dB : Nat → ClassId} {n : Nat} {G : Nat → Nat → Int32} {fo to : Int32} (hx : p.tables.exec = Jvm.exec) (hb : c.code = cc) {tys : List (ClassId × FieldType)} (hts : ∀ w ∈ lw_all, w.before args s = true) (hown : s.vm.findClass RX1 = some m.cls) (hK : va_K D vwCl tys s) (hP : va_P D vwCl (mdw bd dB n G fo to) H) (hI : mdI bd) {H0 : Heap} (hS : va_S (mdA bd) H0 H locs) {v : Int32} (hdg : decode cc pc = .ok (.putfield 44, 3)) (kk : ∀ (H1 : Heap) (locs1 : List Loc), va_P D vwCl (mdw bd dB n G fo v) H1 → va_S (mdA bd) H0 H1 locs1 → W p l e R s m args below meth c H1 locs1 cells slots Q (F0 m (pc + 3) ls (rest))) : W p l e R s m args below meth c H locs cells slots Q (F0 m (pc) ls (.int v :: .ref (bd 0) :: rest)) :=
  va_put (D := D) (ci := 1) (v := .int v) (ty := .int) (C := RX1) (T := TX1) (N := 5) hx hb hts in_X1 tyX1 tyX1_ok nmX1 hown hK hP (md_D hI) hS 0 rfl rfl 4 (by decide) (hts _ q208) (fun _ h9 => h9) rfl (by decide +kernel) rfl rfl (Nat.le_of_ble_eq_true rfl) hdg (fun H1 locs1 hP1 _ hS1 => kk H1 locs1 hP1 hS1)
end Base
theorem zz_mkR {post : Int32 → Prop} {l : Launch} {y : MethodName} {own : String} {bytes : ByteArray} {maxL k : Nat} {As : List Value} {Pre : State → Prop} (hy : plainName y.cls = true) (ho : y.cls = own) (hlen : (lg_sl As).length ≤ maxL) (walk : ∀ (p : Program) (e : Env) (s : State) (m : MethodId) (args : Array Value) (below : List Frame) (meth : Method) (c : Code) (Q : State → Prop) (ls : Array Slot), CallFix p m c bytes maxL s args lw_all own → Pre s → lv_has ls maxL (lv_args 0 As) → (∀ (H : Heap) (locs : List Loc) (pc : Nat) (ls : Array Slot) (r : Int32), va_S (fun _ => False) s.heap H locs → post r → decode bytes pc = .ok (.ireturn, 1) → W p l e (rmL k) s m args below meth c H locs 0 0 Q (F0 m pc ls [.int r])) → W p l e (rmL k) s m args below meth c s.heap [] 0 0 Q (F0 m 0 ls [])) : Met l y (ws_ y bytes maxL (some .int)) (rmL k) (va_Pc As Pre) (Qr post) 0 0 (fun _ => False) := by
  refine Met.ofW (cc := bytes) (maxL := maxL) (ret := (some .int)) hy rfl ?_
  intro p e s m args below meth c s₁ B hml hv
  obtain ⟨rfl, hpre⟩ := hv
  have hts := atoms_spec (ws := ws_ y bytes maxL (some .int)) B.pre
  have hts : ∀ w ∈ lw_all, w.before _ s = true := fun w h => hts w (List.mem_cons_of_mem _ h)
  have hown : s.vm.findClass y.cls = some m.cls := findClass_of_methodNamed B.named
  rw [ho] at hown
  have hlocks := B.notSynchronized
  have hl := lv_entry As (n := maxL) hlen
  rw [lg_entry_eq]
  generalize (lg_sl As ++ List.replicate (maxL - (lg_sl As).length) Slot.unset).toArray = ls at hl ⊢
  exact walk p e s m _ below meth c _ ls ⟨B.exec, B.bytes, hml, hown, hts⟩ hpre hl (fun H locs pc ls r hS hp hd => W.iret B.exec B.bytes B.returns (fun t ht hW => ⟨⟨r, (), rfl, hp, trivial⟩, hS.F ht⟩) hS.2.2 hd)
theorem zz_mkZ {post : Int32 → Prop} (hz : ∀ r, post r → r = nI 0 ∨ r = nI 1) {l : Launch} {y : MethodName} {own : String} {bytes : ByteArray} {maxL k : Nat} {As : List Value} {Pre : State → Prop} (hy : plainName y.cls = true) (ho : y.cls = own) (hlen : (lg_sl As).length ≤ maxL) (walk : ∀ (p : Program) (e : Env) (s : State) (m : MethodId) (args : Array Value) (below : List Frame) (meth : Method) (c : Code) (Q : State → Prop) (ls : Array Slot), CallFix p m c bytes maxL s args lw_all own → Pre s → lv_has ls maxL (lv_args 0 As) → (∀ (H : Heap) (locs : List Loc) (pc : Nat) (ls : Array Slot) (r : Int32), va_S (fun _ => False) s.heap H locs → post r → decode bytes pc = .ok (.ireturn, 1) → W p l e (rmL k) s m args below meth c H locs 0 0 Q (F0 m pc ls [.int r])) → W p l e (rmL k) s m args below meth c s.heap [] 0 0 Q (F0 m 0 ls [])) : Met l y (ws_ y bytes maxL (some .boolean)) (rmL k) (va_Pc As Pre) (Qr post) 0 0 (fun _ => False) := by
  refine Met.ofW (cc := bytes) (maxL := maxL) (ret := (some .boolean)) hy rfl ?_
  intro p e s m args below meth c s₁ B hml hv
  obtain ⟨rfl, hpre⟩ := hv
  have hts := atoms_spec (ws := ws_ y bytes maxL (some .boolean)) B.pre
  have hts : ∀ w ∈ lw_all, w.before _ s = true := fun w h => hts w (List.mem_cons_of_mem _ h)
  have hown : s.vm.findClass y.cls = some m.cls := findClass_of_methodNamed B.named
  rw [ho] at hown
  have hlocks := B.notSynchronized
  have hl := lv_entry As (n := maxL) hlen
  rw [lg_entry_eq]
  generalize (lg_sl As ++ List.replicate (maxL - (lg_sl As).length) Slot.unset).toArray = ls at hl ⊢
  exact walk p e s m _ below meth c _ ls ⟨B.exec, B.bytes, hml, hown, hts⟩ hpre hl (fun H locs pc ls r hS hp hd => W.zret B.exec B.bytes B.returns (by rcases hz r hp with h | h <;> rw [h] <;> rfl) (fun t ht hW => ⟨⟨r, (), rfl, hp, trivial⟩, hS.F ht⟩) hS.2.2 hd)
theorem zz_mkM {S : Type} {D : va_G} {wf : S → va_W} {A : Nat → Prop} {post : Int32 → S → Prop} {l : Launch} {y : MethodName} {own : String} {bytes : ByteArray} {maxL k : Nat} {As : List Value} {Pre : State → Prop} (hy : plainName y.cls = true) (ho : y.cls = own) (hlen : (lg_sl As).length ≤ maxL) (walk : ∀ (p : Program) (e : Env) (s : State) (m : MethodId) (args : Array Value) (below : List Frame) (meth : Method) (c : Code) (Q : State → Prop) (ls : Array Slot), CallFix p m c bytes maxL s args lw_all own → Pre s → lv_has ls maxL (lv_args 0 As) → (∀ (H : Heap) (locs : List Loc) (pc : Nat) (ls : Array Slot) (r : Int32) (u : S), va_P D vwCl (wf u) H → va_S A s.heap H locs → post r u → decode bytes pc = .ok (.ireturn, 1) → W p l e (rmL k) s m args below meth c H locs 0 0 Q (F0 m pc ls [.int r])) → W p l e (rmL k) s m args below meth c s.heap [] 0 0 Q (F0 m 0 ls [])) : Met l y (ws_ y bytes maxL (some .int)) (rmL k) (va_Pc As Pre) (Qm D wf A post) 0 0 A := by
  refine Met.ofW (cc := bytes) (maxL := maxL) (ret := (some .int)) hy rfl ?_
  intro p e s m args below meth c s₁ B hml hv
  obtain ⟨rfl, hpre⟩ := hv
  have hts := atoms_spec (ws := ws_ y bytes maxL (some .int)) B.pre
  have hts : ∀ w ∈ lw_all, w.before _ s = true := fun w h => hts w (List.mem_cons_of_mem _ h)
  have hown : s.vm.findClass y.cls = some m.cls := findClass_of_methodNamed B.named
  rw [ho] at hown
  have hlocks := B.notSynchronized
  have hl := lv_entry As (n := maxL) hlen
  rw [lg_entry_eq]
  generalize (lg_sl As ++ List.replicate (maxL - (lg_sl As).length) Slot.unset).toArray = ls at hl ⊢
  exact walk p e s m _ below meth c _ ls ⟨B.exec, B.bytes, hml, hown, hts⟩ hpre hl (fun H locs pc ls r u hP hS hp hd => W.iret B.exec B.bytes B.returns (fun t ht hW => ⟨⟨r, u, rfl, hp, by show va_P D vwCl (wf u) t.heap; rw [ht]; exact hP⟩, hS.F ht⟩) hS.2.2 hd)
theorem zz_mkV {S : Type} {D : va_G} {wf : S → va_W} {A : Nat → Prop} {post : S → Prop} {l : Launch} {y : MethodName} {own : String} {bytes : ByteArray} {maxL k : Nat} {As : List Value} {Pre : State → Prop} (hy : plainName y.cls = true) (ho : y.cls = own) (hlen : (lg_sl As).length ≤ maxL) (walk : ∀ (p : Program) (e : Env) (s : State) (m : MethodId) (args : Array Value) (below : List Frame) (meth : Method) (c : Code) (Q : State → Prop) (ls : Array Slot), CallFix p m c bytes maxL s args lw_all own → Pre s → lv_has ls maxL (lv_args 0 As) → (∀ (H : Heap) (locs : List Loc) (pc : Nat) (ls : Array Slot) (u : S), va_P D vwCl (wf u) H → va_S A s.heap H locs → post u → decode bytes pc = .ok (.return_, 1) → W p l e (rmL k) s m args below meth c H locs 0 0 Q (F0 m pc ls [])) → W p l e (rmL k) s m args below meth c s.heap [] 0 0 Q (F0 m 0 ls [])) : Met l y (ws_ y bytes maxL none) (rmL k) (va_Pc As Pre) (Qn D wf A post) 0 0 A := by
  refine Met.ofW (cc := bytes) (maxL := maxL) (ret := none) hy rfl ?_
  intro p e s m args below meth c s₁ B hml hv
  obtain ⟨rfl, hpre⟩ := hv
  have hts := atoms_spec (ws := ws_ y bytes maxL none) B.pre
  have hts : ∀ w ∈ lw_all, w.before _ s = true := fun w h => hts w (List.mem_cons_of_mem _ h)
  have hown : s.vm.findClass y.cls = some m.cls := findClass_of_methodNamed B.named
  rw [ho] at hown
  have hlocks := B.notSynchronized
  have hl := lv_entry As (n := maxL) hlen
  rw [lg_entry_eq]
  generalize (lg_sl As ++ List.replicate (maxL - (lg_sl As).length) Slot.unset).toArray = ls at hl ⊢
  exact walk p e s m _ below meth c _ ls ⟨B.exec, B.bytes, hml, hown, hts⟩ hpre hl (fun H locs pc ls u hP hS hp hd => W.vret B.exec B.bytes B.returns (fun t ht hW => ⟨⟨u, rfl, hp, by show va_P D vwCl (wf u) t.heap; rw [ht]; exact hP⟩, hS.F ht⟩) hS.2.2 hd)
section Calls
variable {p : Program} {l : Launch} {e : Env} {R : Room} {s : State} {m : MethodId} {args : Array Value} {below : List Frame} {meth : Method} {c : Code} {H : Heap} {locs : List Loc} {cells slots : Nat} {Q : State → Prop}
variable {cc : ByteArray} {pc : Nat} {ls : Array Slot} {rest st0 : List Value} {own C : String} {y : MethodName} {bytes : ByteArray} {maxL nL index nA k b : Nat} {ret : Option FieldType} {As : List Value} {D : va_G} {ws : va_W} {tys : List (ClassId × FieldType)} {A0 A1 : Nat → Prop} {H0 : Heap}
theorem zz_callR {post : Int32 → Prop} (S : CallFix p m c cc nL s args lw_all own) (hK : va_K D vwCl tys s) (hP : va_P D vwCl ws H) (hS : va_S A0 H0 H locs) (hM : Met l y (ws_ y bytes maxL ret) (rmL k) (va_Pc (.ref b :: As) (Pw D ws tys)) (Qr post) 0 0 (fun _ => False)) (hw : CallW R s args own C index y bytes maxL ret (ws_ y bytes maxL ret) (rmL k) 0 0 nA) (hrec : ∃ cell : Cell, H[b]? = some cell ∧ cell.vm.isStatics = false ∧ s.vm.findClass C = some cell.cls) (hn : As.length = nA) (hsize : ls.size = nL) (hst : st0 = As.reverse ++ .ref b :: rest) (hrest : (rest.map fun v => v.category).sum ≤ 8) (hdg : decode cc pc = .ok (.invokevirtual index, 3)) (hcs : cells ≤ R.cells ∧ slots ≤ R.slots) (kk : ∀ (r : Int32) (H1 : Heap) (locs1 : List Loc), post r → va_P D vwCl ws H1 → va_S A0 H0 H1 locs1 → W p l e R s m args below meth c H1 locs1 cells slots Q (F0 m (pc + 3) ls (.int r :: rest))) : W p l e R s m args below meth c H locs cells slots Q (F0 m (pc) ls (st0)) := by
  refine va_calli (va_runV (As := As) (rest := rest) S hM hw ⟨fun a U g mk q => ⟨q.1, q.2.1, va_K.moved (u := U) (U := U.calling g mk a) (Vm.Alike.refl U.vm) q.2.2⟩, hrec, fun U hU hW => ⟨rfl, by rw [hU]; exact hP, va_K.moved hW.alike hK⟩⟩ rfl hn hsize hst (lv_room hrest) hdg hcs) hS (fun q _ h => h.elim) (fun q h => h.elim) (fun r u t H1 locs1 ht hvm hp hB hz hk hS1 => ?_)
  exact kk r H1 locs1 hp (hP.kept (fun k q hq => hk q.1 (hP k q hq).lt (fun h => h))) hS1
theorem zz_callM {St : Type} {wf : St → va_W} {post : Int32 → St → Prop} (S : CallFix p m c cc nL s args lw_all own) (hK : va_K D vwCl tys s) (hP : va_P D vwCl ws H) (hS : va_S A0 H0 H locs) (hA : ∀ q, A1 q → A0 q) (hM : Met l y (ws_ y bytes maxL ret) (rmL k) (va_Pc (.ref b :: As) (Pw D ws tys)) (Qm D wf A1 post) 0 0 A1) (hw : CallW R s args own C index y bytes maxL ret (ws_ y bytes maxL ret) (rmL k) 0 0 nA) (hrec : ∃ cell : Cell, H[b]? = some cell ∧ cell.vm.isStatics = false ∧ s.vm.findClass C = some cell.cls) (hn : As.length = nA) (hsize : ls.size = nL) (hst : st0 = As.reverse ++ .ref b :: rest) (hrest : (rest.map fun v => v.category).sum ≤ 8) (hdg : decode cc pc = .ok (.invokevirtual index, 3)) (hcs : cells ≤ R.cells ∧ slots ≤ R.slots) (kk : ∀ (r : Int32) (u : St) (H1 : Heap) (locs1 : List Loc), post r u → va_P D vwCl (wf u) H1 → (∀ q : Nat, q < H.size → ¬ A1 q → H1[q]? = H[q]?) → va_S A0 H0 H1 locs1 → W p l e R s m args below meth c H1 locs1 cells slots Q (F0 m (pc + 3) ls (.int r :: rest))) : W p l e R s m args below meth c H locs cells slots Q (F0 m (pc) ls (st0)) := by
  refine va_calli (va_runV (As := As) (rest := rest) S hM hw ⟨fun a U g mk q => ⟨q.1, q.2.1, va_K.moved (u := U) (U := U.calling g mk a) (Vm.Alike.refl U.vm) q.2.2⟩, hrec, fun U hU hW => ⟨rfl, by rw [hU]; exact hP, va_K.moved hW.alike hK⟩⟩ rfl hn hsize hst (lv_room hrest) hdg hcs) hS (fun q _ h => hA q h) (fun q h => hA q h) (fun r u t H1 locs1 ht hvm hp hB hz hk hS1 => ?_)
  exact kk r u H1 locs1 hp (by rw [← ht]; exact hB) hk hS1
theorem zz_callV {St : Type} {wf : St → va_W} {post : St → Prop} (S : CallFix p m c cc nL s args lw_all own) (hK : va_K D vwCl tys s) (hP : va_P D vwCl ws H) (hS : va_S A0 H0 H locs) (hA : ∀ q, A1 q → A0 q) (hM : Met l y (ws_ y bytes maxL ret) (rmL k) (va_Pc (.ref b :: As) (Pw D ws tys)) (Qn D wf A1 post) 0 0 A1) (hw : CallW R s args own C index y bytes maxL ret (ws_ y bytes maxL ret) (rmL k) 0 0 nA) (hrec : ∃ cell : Cell, H[b]? = some cell ∧ cell.vm.isStatics = false ∧ s.vm.findClass C = some cell.cls) (hn : As.length = nA) (hsize : ls.size = nL) (hst : st0 = As.reverse ++ .ref b :: rest) (hrest : (rest.map fun v => v.category).sum ≤ 8) (hdg : decode cc pc = .ok (.invokevirtual index, 3)) (hcs : cells ≤ R.cells ∧ slots ≤ R.slots) (kk : ∀ (u : St) (H1 : Heap) (locs1 : List Loc), post u → va_P D vwCl (wf u) H1 → (∀ q : Nat, q < H.size → ¬ A1 q → H1[q]? = H[q]?) → va_S A0 H0 H1 locs1 → W p l e R s m args below meth c H1 locs1 cells slots Q (F0 m (pc + 3) ls (rest))) : W p l e R s m args below meth c H locs cells slots Q (F0 m (pc) ls (st0)) := by
  refine va_callv (va_runV (As := As) (rest := rest) S hM hw ⟨fun a U g mk q => ⟨q.1, q.2.1, va_K.moved (u := U) (U := U.calling g mk a) (Vm.Alike.refl U.vm) q.2.2⟩, hrec, fun U hU hW => ⟨rfl, by rw [hU]; exact hP, va_K.moved hW.alike hK⟩⟩ rfl hn hsize hst (lv_room hrest) hdg hcs) hS (fun q _ h => hA q h) (fun q h => hA q h) (fun u t H1 locs1 ht hvm hp hB hz hk hS1 => ?_)
  exact kk u H1 locs1 hp (by rw [← ht]; exact hB) hk hS1
end Calls
theorem cv_recv {s : State} {H : Heap} {D : va_G} {tys : List (ClassId × FieldType)} {ad : Nat → Nat} {dA : Nat → ClassId} {n : Nat} {F : Nat → Nat → Int32} (hK : va_K D vwCl tys s) (hP : va_P D vwCl (cvw ad dA n F) H) : ∃ cell : Cell, H[ad 0]? = some cell ∧ cell.vm.isStatics = false ∧ s.vm.findClass RX0 = some cell.cls := va_recv hK hP (ci := 0) (q0 := 0) rfl rfl
theorem md_recv {s : State} {H : Heap} {D : va_G} {tys : List (ClassId × FieldType)} {bd : Nat → Nat} {dB : Nat → ClassId} {n : Nat} {G : Nat → Nat → Int32} {fo to : Int32} (hK : va_K D vwCl tys s) (hP : va_P D vwCl (mdw bd dB n G fo to) H) : ∃ cell : Cell, H[bd 0]? = some cell ∧ cell.vm.isStatics = false ∧ s.vm.findClass RX1 = some cell.cls := va_recv hK hP (ci := 1) (q0 := 0) rfl rfl
end
section
set_option maxRecDepth 100000
/-! the plain side: groups, filters, counts and sums over facts; no program in sight -/
/-- the group of a place in a grouping -/
def zc_grp (p g : Nat) : Nat := (if g % 2 = 0 then 0 else p % 4) + 4 * (if g / 2 % 2 = 0 then 0 else p / 4 % 5) + 20 * (if g / 4 % 2 = 0 then 0 else p / 20)
theorem zc_grp_lt {p : Nat} (g : Nat) (hp : p < 120) : zc_grp p g < 120 := by
  unfold zc_grp
  split <;> split <;> split <;> omega
/-- a place passes a filter in these dimensions -/
def zc_ps (p f d : Nat) : Bool := (decide (d % 2 = 0) || decide (f / 2 ^ (p % 4) % 2 = 1)) && ((decide (d / 2 % 2 = 0) || decide (f / 2 ^ (4 + p / 4 % 5) % 2 = 1)) && (decide (d / 4 % 2 = 0) || decide (f / 2 ^ (9 + p / 20) % 2 = 1)))
def zc_cnt (P : Nat → Bool) : Nat → Nat
  | 0 => 0
  | n + 1 => zc_cnt P n + (if P n = true then 1 else 0)
def zc_sum (P : Nat → Bool) (am : Nat → Int32) : Nat → Int32
  | 0 => 0
  | n + 1 => zc_sum P am n + (if P n = true then am n else 0)
theorem zc_cnt_congr {P P' : Nat → Bool} {n : Nat} (h : ∀ i, i < n → P i = P' i) : zc_cnt P n = zc_cnt P' n := by
  induction n with
  | zero => rfl
  | succ n ih => simp only [zc_cnt]; rw [ih (fun i hi => h i (by omega)), h n (by omega)]
theorem zc_sum_congr {P P' : Nat → Bool} {am am' : Nat → Int32} {n : Nat} (h : ∀ i, i < n → P i = P' i) (ha : ∀ i, i < n → am i = am' i) : zc_sum P am n = zc_sum P' am' n := by
  induction n with
  | zero => rfl
  | succ n ih => simp only [zc_sum]; rw [ih (fun i hi => h i (by omega)) (fun i hi => ha i (by omega)), h n (by omega), ha n (by omega)]
theorem zc_cnt_le (P : Nat → Bool) (n : Nat) : zc_cnt P n ≤ n := by
  induction n with
  | zero => exact Nat.le_refl 0
  | succ n ih => simp only [zc_cnt]; split <;> omega
theorem zc_cnt_or {P A B : Nat → Bool} {n : Nat} (h : ∀ i, i < n → P i = (A i || B i)) (hd : ∀ i, i < n → A i = true → B i = true → False) : zc_cnt P n = zc_cnt A n + zc_cnt B n := by
  induction n with
  | zero => rfl
  | succ n ih =>
    simp only [zc_cnt]
    rw [ih (fun i hi => h i (by omega)) (fun i hi => hd i (by omega)), h n (by omega)]
    have := hd n (by omega)
    cases hA : A n <;> cases hB : B n <;> simp_all <;> omega
theorem zc_sum_or {P A B : Nat → Bool} {am : Nat → Int32} {n : Nat} (h : ∀ i, i < n → P i = (A i || B i)) (hd : ∀ i, i < n → A i = true → B i = true → False) : zc_sum P am n = zc_sum A am n + zc_sum B am n := by
  induction n with
  | zero => rfl
  | succ n ih =>
    simp only [zc_sum]
    rw [ih (fun i hi => h i (by omega)) (fun i hi => hd i (by omega)), h n (by omega)]
    have := hd n (by omega)
    cases hA : A n <;> cases hB : B n <;> simp_all <;> grind
theorem zc_cnt_false {P : Nat → Bool} {n : Nat} (h : ∀ i, i < n → P i = false) : zc_cnt P n = 0 := by
  induction n with
  | zero => rfl
  | succ n ih => simp only [zc_cnt]; rw [ih (fun i hi => h i (by omega)), h n (by omega)]; rfl
theorem zc_sum_false {P : Nat → Bool} {am : Nat → Int32} {n : Nat} (h : ∀ i, i < n → P i = false) : zc_sum P am n = 0 := by
  induction n with
  | zero => rfl
  | succ n ih => simp only [zc_sum]; rw [ih (fun i hi => h i (by omega)), h n (by omega)]; rfl
theorem zc_cnt_none {P : Nat → Bool} {n : Nat} (h : zc_cnt P n = 0) : ∀ i, i < n → P i = false := by
  induction n with
  | zero => intro i hi; omega
  | succ n ih =>
    simp only [zc_cnt] at h
    intro i hi
    by_cases hin : i = n
    · subst hin
      cases hP : P i with
      | false => rfl
      | true => rw [hP] at h; simp at h
    · exact ih (by omega) i (by omega)
theorem zc_cnt_pos {P : Nat → Bool} {n i : Nat} (hi : i < n) (hP : P i = true) : 0 < zc_cnt P n := by
  rcases Nat.eq_zero_or_pos (zc_cnt P n) with h | h
  · have := zc_cnt_none h i hi
    rw [hP] at this
    cases this
  · exact h
theorem zc_sum_upd {P : Nat → Bool} {am : Nat → Int32} {n i : Nat} {x : Int32} (hi : i < n) : zc_sum P (upd am i x) n = zc_sum P am n + (if P i = true then x - am i else 0) := by
  induction n with
  | zero => omega
  | succ n ih =>
    simp only [zc_sum]
    by_cases hin : i = n
    · subst hin
      rw [zc_sum_congr (P := P) (P' := P) (am := upd am i x) (am' := am) (fun _ _ => rfl) (fun j hj => pk_un (by omega)), pk_us]
      split <;> grind
    · rw [ih (by omega), pk_un (by omega)]
      split <;> split <;> grind
/-! numbers -/
theorem zc_s : ∀ j, j < 32 → ((nI j &&& 31).toBitVec.smod 32).toNat = j := by decide +kernel
theorem zc_shr {f j : Nat} (hf : f < 2 ^ 31) (hj : j < 32) : nI f >>> (nI j &&& 31) = nI (f / 2 ^ j) := pk_shrN hf _ j (zc_s j hj)
theorem zc_and1 {a : Nat} (h : a < 2 ^ 31) : nI a &&& nI 1 = nI (a % 2) := pk_andN (Nat.lt_trans h (by decide)) 1 (by decide)
theorem zc_bit {f j : Nat} (hf : f < 2 ^ 31) (hj : j < 32) : (nI f >>> (nI j &&& 31)) &&& nI 1 = nI (f / 2 ^ j % 2) := by
  rw [zc_shr hf hj]
  exact zc_and1 (Nat.lt_of_le_of_lt (Nat.div_le_self f _) hf)
theorem zc_a1 : ∀ g, g < 8 → nI g &&& nI 1 = nI (g % 2) := by decide +kernel
theorem zc_a2 : ∀ g, g < 8 → nI g &&& nI 2 = nI (2 * (g / 2 % 2)) := by decide +kernel
theorem zc_a4 : ∀ g, g < 8 → nI g &&& nI 4 = nI (4 * (g / 4 % 2)) := by decide +kernel
theorem zc_aa : ∀ g, g < 8 → ∀ d, d < 8 → nI g &&& nI d = nI (g &&& d) := by decide +kernel
theorem zc_oo : ∀ g, g < 8 → ∀ d, d < 8 → nI g ||| nI d = nI (g ||| d) := by decide +kernel
theorem zc_or8 : ∀ g, g < 8 → ∀ d, d < 8 → g ||| d < 8 ∧ ((g ||| d) % 2 = 0 ↔ g % 2 = 0 ∧ d % 2 = 0) ∧ ((g ||| d) / 2 % 2 = 0 ↔ g / 2 % 2 = 0 ∧ d / 2 % 2 = 0) ∧ ((g ||| d) / 4 % 2 = 0 ↔ g / 4 % 2 = 0 ∧ d / 4 % 2 = 0) := by decide +kernel
theorem zc_in8 : ∀ g, g < 8 → ∀ d, d < 8 → g &&& d = d → (d % 2 = 1 → g % 2 = 1) ∧ (d / 2 % 2 = 1 → g / 2 % 2 = 1) ∧ (d / 4 % 2 = 1 → g / 4 % 2 = 1) := by decide +kernel
theorem zc_filt {x : Int32} (h : ¬ x < 0) (h2 : x ≤ nI 32767) : ∃ f, f < 32768 ∧ x = nI f := by
  obtain ⟨j, hj, e⟩ := nI_of h
  refine ⟨j, ?_, e⟩
  rw [e] at h2
  have := (nI_leI hj (by decide)).mp h2
  omega
/-! groups of groups, filters on groups -/
theorem zc_grp_r {p g : Nat} (hp : p < 120) (h : g % 2 = 1) : zc_grp p g % 4 = p % 4 := by
  unfold zc_grp
  split <;> split <;> split <;> omega
theorem zc_grp_k {p g : Nat} (hp : p < 120) (h : g / 2 % 2 = 1) : zc_grp p g / 4 % 5 = p / 4 % 5 := by
  unfold zc_grp
  split <;> split <;> split <;> omega
theorem zc_grp_m {p g : Nat} (hp : p < 120) (h : g / 4 % 2 = 1) : zc_grp p g / 20 = p / 20 := by
  unfold zc_grp
  split <;> split <;> split <;> omega
theorem zc_grp_grp {p g d : Nat} (hp : p < 120) (h1 : d % 2 = 1 → g % 2 = 1) (h2 : d / 2 % 2 = 1 → g / 2 % 2 = 1) (h4 : d / 4 % 2 = 1 → g / 4 % 2 = 1) : zc_grp (zc_grp p g) d = zc_grp p d := by
  have e1 : (if d % 2 = 0 then 0 else zc_grp p g % 4) = (if d % 2 = 0 then 0 else p % 4) := by
    split
    · rfl
    · rw [zc_grp_r hp (h1 (by omega))]
  have e2 : (if d / 2 % 2 = 0 then 0 else zc_grp p g / 4 % 5) = (if d / 2 % 2 = 0 then 0 else p / 4 % 5) := by
    split
    · rfl
    · rw [zc_grp_k hp (h2 (by omega))]
  have e4 : (if d / 4 % 2 = 0 then 0 else zc_grp p g / 20) = (if d / 4 % 2 = 0 then 0 else p / 20) := by
    split
    · rfl
    · rw [zc_grp_m hp (h4 (by omega))]
  show (if d % 2 = 0 then 0 else zc_grp p g % 4) + 4 * (if d / 2 % 2 = 0 then 0 else zc_grp p g / 4 % 5) + 20 * (if d / 4 % 2 = 0 then 0 else zc_grp p g / 20) = _
  rw [e1, e2, e4]
  rfl
/-- what a filter lets pass in a dimension that it does not cut -/
theorem zc_full {f : Nat} : (f % 16 = 15 → ∀ i, i < 4 → f / 2 ^ i % 2 = 1) ∧ (f / 16 % 32 = 31 → ∀ i, i < 5 → f / 2 ^ (4 + i) % 2 = 1) ∧ (f / 512 = 63 → ∀ i, i < 6 → f / 2 ^ (9 + i) % 2 = 1) := by
  refine ⟨fun h i hi => ?_, fun h i hi => ?_, fun h i hi => ?_⟩
  · match i, hi with
    | 0, _ => simp; omega
    | 1, _ => simp; omega
    | 2, _ => simp; omega
    | 3, _ => simp; omega
    | n + 4, h => omega
  · match i, hi with
    | 0, _ => simp; omega
    | 1, _ => simp; omega
    | 2, _ => simp; omega
    | 3, _ => simp; omega
    | 4, _ => simp; omega
    | n + 5, h => omega
  · match i, hi with
    | 0, _ => simp; omega
    | 1, _ => simp; omega
    | 2, _ => simp; omega
    | 3, _ => simp; omega
    | 4, _ => simp; omega
    | 5, _ => simp; omega
    | n + 6, h => omega
/-- asked of a group that parts by all that is needed, a filter answers as it does of the place -/
theorem zc_ps_grp {p f g d : Nat} (hp : p < 120) (h1 : d % 2 = 1 → g % 2 = 1) (h2 : d / 2 % 2 = 1 → g / 2 % 2 = 1) (h4 : d / 4 % 2 = 1 → g / 4 % 2 = 1) (c1 : d % 2 = 0 → f % 16 = 15) (c2 : d / 2 % 2 = 0 → f / 16 % 32 = 31) (c4 : d / 4 % 2 = 0 → f / 512 = 63) : zc_ps (zc_grp p g) f d = zc_ps p f 7 := by
  obtain ⟨q1, q2, q4⟩ := zc_full (f := f)
  have e1 : (decide (d % 2 = 0) || decide (f / 2 ^ (zc_grp p g % 4) % 2 = 1)) = (decide (7 % 2 = 0) || decide (f / 2 ^ (p % 4) % 2 = 1)) := by
    by_cases h : d % 2 = 0
    · simp [h, q1 (c1 h) (p % 4) (by omega)]
    · rw [zc_grp_r hp (h1 (by omega))]; simp [h]
  have e2 : (decide (d / 2 % 2 = 0) || decide (f / 2 ^ (4 + zc_grp p g / 4 % 5) % 2 = 1)) = (decide (7 / 2 % 2 = 0) || decide (f / 2 ^ (4 + p / 4 % 5) % 2 = 1)) := by
    by_cases h : d / 2 % 2 = 0
    · simp [h, q2 (c2 h) (p / 4 % 5) (by omega)]
    · rw [zc_grp_k hp (h2 (by omega))]; simp [h]
  have e4 : (decide (d / 4 % 2 = 0) || decide (f / 2 ^ (9 + zc_grp p g / 20) % 2 = 1)) = (decide (7 / 4 % 2 = 0) || decide (f / 2 ^ (9 + p / 20) % 2 = 1)) := by
    by_cases h : d / 4 % 2 = 0
    · simp [h, q4 (c4 h) (p / 20) (by omega)]
    · rw [zc_grp_m hp (h4 (by omega))]; simp [h]
  unfold zc_ps
  rw [e1, e2, e4]
/-- the facts of a group that pass -/
def zc_sel (pl : Nat → Nat) (g f q : Nat) : Nat → Bool := fun i => decide (zc_grp (pl i) g = q) && zc_ps (pl i) f 7
/-- the facts of a group -/
def zc_at (pl : Nat → Nat) (g q : Nat) : Nat → Bool := fun i => decide (zc_grp (pl i) g = q)
/-- a step of adding up cells of a summary: the cell p of grouping g joins -/
def zc_part (pl : Nat → Nat) (g p G f q : Nat) : Nat → Bool := fun i => decide (zc_grp (pl i) g < p) && zc_sel pl G f q i
/-- the latest fact at a place among the first n; -1 if there is none -/
def zc_last (pl : Nat → Nat) : Nat → Nat → Int32
  | 0, _ => (-1)
  | n + 1, p => if pl n = p then nI n else zc_last pl n p
theorem zc_last_or (pl : Nat → Nat) (n p : Nat) : (zc_last pl n p = (-1) ∧ ∀ j, j < n → pl j ≠ p) ∨ ∃ j, j < n ∧ zc_last pl n p = nI j ∧ pl j = p ∧ ∀ i, j < i → i < n → pl i ≠ p := by
  induction n with
  | zero => exact Or.inl ⟨rfl, fun j hj => by omega⟩
  | succ n ih =>
    by_cases h : pl n = p
    · exact Or.inr ⟨n, by omega, by simp [zc_last, h], h, fun i h1 h2 => by omega⟩
    · rcases ih with ⟨h1, h2⟩ | ⟨j, h1, h2, h3, h4⟩
      · refine Or.inl ⟨by simp [zc_last, h, h1], fun j hj => ?_⟩
        by_cases hj2 : j = n
        · rw [hj2]; exact h
        · exact h2 j (by omega)
      · refine Or.inr ⟨j, by omega, by simp [zc_last, h, h2], h3, fun i q1 q2 => ?_⟩
        by_cases hj2 : i = n
        · rw [hj2]; exact h
        · exact h4 i q1 (by omega)
theorem zc_last_congr {pl pl' : Nat → Nat} {n : Nat} (p : Nat) (h : ∀ i, i < n → pl i = pl' i) : zc_last pl n p = zc_last pl' n p := by
  induction n with
  | zero => rfl
  | succ n ih => simp only [zc_last]; rw [ih (fun i hi => h i (by omega)), h n (by omega)]
/-- the greatest amount of the facts in S; r is -4000000 if there is none -/
def zc_max (S : Nat → Prop) (am : Nat → Int32) (n : Nat) (r : Int32) : Prop := (-4000000) ≤ r ∧ (∀ i, i < n → S i → am i ≤ r) ∧ (r = (-4000000) ∨ ∃ i, i < n ∧ S i ∧ am i = r)
theorem zc_max_one {S : Nat → Prop} {am : Nat → Int32} {n : Nat} {r r' : Int32} (h : zc_max S am n r) (h' : zc_max S am n r') : r = r' := by
  obtain ⟨a1, a2, a3⟩ := h
  obtain ⟨b1, b2, b3⟩ := h'
  refine Int32.le_antisymm ?_ ?_
  · rcases a3 with a3 | ⟨i, hi, hs, e⟩
    · rw [a3]; exact b1
    · rw [← e]; exact b2 i hi hs
  · rcases b3 with b3 | ⟨i, hi, hs, e⟩
    · rw [b3]; exact a1
    · rw [← e]; exact a2 i hi hs
/-- the first group with the greatest sum among the first k -/
def zc_top (C : Nat → Nat) (S : Nat → Int32) : Nat → Option Nat
  | 0 => none
  | k + 1 => match zc_top C S k with
    | none => if 0 < C k then some k else none
    | some b => if 0 < C k ∧ S b < S k then some k else some b
theorem zc_top_lt {C : Nat → Nat} {S : Nat → Int32} {k b : Nat} (h : zc_top C S k = some b) : b < k ∧ 0 < C b := by
  induction k with
  | zero => simp [zc_top] at h
  | succ k ih =>
    simp only [zc_top] at h
    cases hk : zc_top C S k with
    | none =>
      rw [hk] at h
      simp only at h
      split at h
      · cases h; exact ⟨by omega, by assumption⟩
      · cases h
    | some b' =>
      rw [hk] at h
      simp only at h
      split at h
      · cases h; rename_i q; exact ⟨by omega, q.1⟩
      · cases h; have := ih hk; exact ⟨by omega, this.2⟩
def zc_ng (C : Nat → Nat) : Nat → Nat
  | 0 => 0
  | k + 1 => if 0 < C k then zc_ng C k + 1 else zc_ng C k
def zc_na (C : Nat → Nat) (S : Nat → Int32) (x : Int32) : Nat → Nat
  | 0 => 0
  | k + 1 => if 0 < C k ∧ x ≤ S k then zc_na C S x k + 1 else zc_na C S x k
theorem zc_ng_le (C : Nat → Nat) (k : Nat) : zc_ng C k ≤ k := by
  induction k with
  | zero => exact Nat.le_refl 0
  | succ k ih => simp only [zc_ng]; split <;> omega
theorem zc_na_le (C : Nat → Nat) (S : Nat → Int32) (x : Int32) (k : Nat) : zc_na C S x k ≤ k := by
  induction k with
  | zero => exact Nat.le_refl 0
  | succ k ih => simp only [zc_na]; split <;> omega
/-- amounts are small: so are sums -/
def zc_amt (x : Int32) : Prop := (-50) ≤ x ∧ x ≤ 50
theorem zc_sum_small {P : Nat → Bool} {am : Nat → Int32} {n : Nat} (hn : n ≤ 40) (h : ∀ i, i < n → zc_amt (am i)) : (-(50 * n) : Int) ≤ (zc_sum P am n).toInt ∧ (zc_sum P am n).toInt ≤ 50 * n := by
  induction n with
  | zero => simp [zc_sum]
  | succ n ih =>
    obtain ⟨i1, i2⟩ := ih (by omega) (fun i hi => h i (by omega))
    obtain ⟨a1, a2⟩ := h n (by omega)
    have a1 : (-50 : Int) ≤ (am n).toInt := Int32.le_iff_toInt_le.mp a1
    have a2 : (am n).toInt ≤ (50 : Int) := Int32.le_iff_toInt_le.mp a2
    simp only [zc_sum]
    split
    · rw [Int32.toInt_add, Int.bmod_eq_of_le (by omega) (by omega)]
      omega
    · rw [Int32.toInt_add, Int.bmod_eq_of_le (by simp; omega) (by simp; omega)]
      simp
      omega
theorem zc_sum_gt {P : Nat → Bool} {am : Nat → Int32} {n : Nat} (hn : n ≤ 40) (h : ∀ i, i < n → zc_amt (am i)) : (-4000000) < zc_sum P am n := by
  have := (zc_sum_small (P := P) hn h).1
  refine Int32.lt_iff_toInt_lt.mpr ?_
  show (-4000000 : Int) < _
  omega
end
section
set_option maxRecDepth 100000
theorem cwX0_region {R : Room} {s : State} {args : Array Value} (hts : ∀ w ∈ lw_all, w.before args s = true) (hR : 0 + 1 ≤ R.frames ∧ 8 + (2 + 11) + 40 * 0 ≤ R.locals) : CallW R s args RX0 RX0 38 yX0_region cX0_region 2 (some .int) (ws_ yX0_region cX0_region 2 (some .int)) (rmL 0) 0 0 1 := cwV 1 hts (lw_V q85 q87 qs2 q28 q88) rfl rfl rfl (by decide +kernel) hR
theorem cwX0_kind {R : Room} {s : State} {args : Array Value} (hts : ∀ w ∈ lw_all, w.before args s = true) (hR : 0 + 1 ≤ R.frames ∧ 8 + (2 + 11) + 40 * 0 ≤ R.locals) : CallW R s args RX0 RX0 42 yX0_kind cX0_kind 2 (some .int) (ws_ yX0_kind cX0_kind 2 (some .int)) (rmL 0) 0 0 1 := cwV 1 hts (lw_V q89 q91 qs3 q28 q92) rfl rfl rfl (by decide +kernel) hR
theorem cwX0_month {R : Room} {s : State} {args : Array Value} (hts : ∀ w ∈ lw_all, w.before args s = true) (hR : 0 + 1 ≤ R.frames ∧ 8 + (2 + 11) + 40 * 0 ≤ R.locals) : CallW R s args RX0 RX0 45 yX0_month cX0_month 2 (some .int) (ws_ yX0_month cX0_month 2 (some .int)) (rmL 0) 0 0 1 := cwV 1 hts (lw_V q93 q95 qs4 q28 q96) rfl rfl rfl (by decide +kernel) hR
theorem cwX0_group {R : Room} {s : State} {args : Array Value} (hts : ∀ w ∈ lw_all, w.before args s = true) (hR : 1 + 1 ≤ R.frames ∧ 8 + (6 + 11) + 40 * 1 ≤ R.locals) : CallW R s args RX0 RX0 48 yX0_group cX0_group 6 (some .int) (ws_ yX0_group cX0_group 6 (some .int)) (rmL 1) 0 0 2 := cwV 2 hts (lw_V q81 q83 qs1 q28 q84) rfl rfl rfl (by decide +kernel) hR
theorem cwX0_cells {R : Room} {s : State} {args : Array Value} (hts : ∀ w ∈ lw_all, w.before args s = true) (hR : 0 + 1 ≤ R.frames ∧ 8 + (3 + 11) + 40 * 0 ≤ R.locals) : CallW R s args RX0 RX0 56 yX0_cells cX0_cells 3 (some .int) (ws_ yX0_cells cX0_cells 3 (some .int)) (rmL 0) 0 0 1 := cwV 1 hts (lw_V q130 q132 qs9 q28 q133) rfl rfl rfl (by decide +kernel) hR
theorem cwX0_enter {R : Room} {s : State} {args : Array Value} (hts : ∀ w ∈ lw_all, w.before args s = true) (hR : 2 + 1 ≤ R.frames ∧ 8 + (6 + 11) + 40 * 2 ≤ R.locals) : CallW R s args RX0 RX0 61 yX0_enter cX0_enter 6 none (ws_ yX0_enter cX0_enter 6 none) (rmL 2) 0 0 3 := cwV 3 hts (lw_V q77 q79 qs0 q28 q80) rfl rfl rfl (by decide +kernel) hR
theorem cwX0_cuts {R : Room} {s : State} {args : Array Value} (hts : ∀ w ∈ lw_all, w.before args s = true) (hR : 0 + 1 ≤ R.frames ∧ 8 + (3 + 11) + 40 * 0 ≤ R.locals) : CallW R s args RX0 RX0 66 yX0_cuts cX0_cuts 3 (some .int) (ws_ yX0_cuts cX0_cuts 3 (some .int)) (rmL 0) 0 0 1 := cwV 1 hts (lw_V q122 q124 qs7 q28 q125) rfl rfl rfl (by decide +kernel) hR
theorem cwX0_smallest {R : Room} {s : State} {args : Array Value} (hts : ∀ w ∈ lw_all, w.before args s = true) (hR : 1 + 1 ≤ R.frames ∧ 8 + (4 + 11) + 40 * 1 ≤ R.locals) : CallW R s args RX0 RX0 69 yX0_smallest cX0_smallest 4 (some .int) (ws_ yX0_smallest cX0_smallest 4 (some .int)) (rmL 1) 0 0 1 := cwV 1 hts (lw_V q126 q128 qs8 q28 q129) rfl rfl rfl (by decide +kernel) hR
theorem cwX0_passes {R : Room} {s : State} {args : Array Value} (hts : ∀ w ∈ lw_all, w.before args s = true) (hR : 1 + 1 ≤ R.frames ∧ 8 + (7 + 11) + 40 * 1 ≤ R.locals) : CallW R s args RX0 RX0 72 yX0_passes cX0_passes 7 (some .boolean) (ws_ yX0_passes cX0_passes 7 (some .boolean)) (rmL 1) 0 0 3 := cwV 3 hts (lw_V q134 q136 qs10 q28 q137) rfl rfl rfl (by decide +kernel) hR
theorem cwX0_note {R : Room} {s : State} {args : Array Value} (hts : ∀ w ∈ lw_all, w.before args s = true) (hR : 0 + 1 ≤ R.frames ∧ 8 + (4 + 11) + 40 * 0 ≤ R.locals) : CallW R s args RX0 RX0 76 yX0_note cX0_note 4 none (ws_ yX0_note cX0_note 4 none) (rmL 0) 0 0 3 := cwV 3 hts (lw_V q138 q140 qs11 q28 q141) rfl rfl rfl (by decide +kernel) hR
theorem cwX0_badFilter {R : Room} {s : State} {args : Array Value} (hts : ∀ w ∈ lw_all, w.before args s = true) (hR : 0 + 1 ≤ R.frames ∧ 8 + (2 + 11) + 40 * 0 ≤ R.locals) : CallW R s args RX0 RX0 79 yX0_badFilter cX0_badFilter 2 (some .boolean) (ws_ yX0_badFilter cX0_badFilter 2 (some .boolean)) (rmL 0) 0 0 1 := cwV 1 hts (lw_V q114 q116 qs5 q28 q117) rfl rfl rfl (by decide +kernel) hR
theorem cwX0_gather {R : Room} {s : State} {args : Array Value} (hts : ∀ w ∈ lw_all, w.before args s = true) (hR : 2 + 1 ≤ R.frames ∧ 8 + (7 + 11) + 40 * 2 ≤ R.locals) : CallW R s args RX0 RX0 83 yX0_gather cX0_gather 7 none (ws_ yX0_gather cX0_gather 7 none) (rmL 2) 0 0 2 := cwV 2 hts (lw_V q118 q120 qs6 q28 q121) rfl rfl rfl (by decide +kernel) hR
theorem cwX0_greatestAt {R : Room} {s : State} {args : Array Value} (hts : ∀ w ∈ lw_all, w.before args s = true) (hR : 0 + 1 ≤ R.frames ∧ 8 + (5 + 11) + 40 * 0 ≤ R.locals) : CallW R s args RX0 RX0 87 yX0_greatestAt cX0_greatestAt 5 (some .int) (ws_ yX0_greatestAt cX0_greatestAt 5 (some .int)) (rmL 0) 0 0 1 := cwV 1 hts (lw_V q150 q152 qs12 q28 q153) rfl rfl rfl (by decide +kernel) hR
theorem cwX0_badGrouping {R : Room} {s : State} {args : Array Value} (hts : ∀ w ∈ lw_all, w.before args s = true) (hR : 0 + 1 ≤ R.frames ∧ 8 + (2 + 11) + 40 * 0 ≤ R.locals) : CallW R s args RX0 RX0 90 yX0_badGrouping cX0_badGrouping 2 (some .boolean) (ws_ yX0_badGrouping cX0_badGrouping 2 (some .boolean)) (rmL 0) 0 0 1 := cwV 1 hts (lw_V q158 q160 qs13 q28 q161) rfl rfl rfl (by decide +kernel) hR
theorem cwX0_top {R : Room} {s : State} {args : Array Value} (hts : ∀ w ∈ lw_all, w.before args s = true) (hR : 3 + 1 ≤ R.frames ∧ 8 + (5 + 11) + 40 * 3 ≤ R.locals) : CallW R s args RX0 RX0 93 yX0_top cX0_top 5 (some .int) (ws_ yX0_top cX0_top 5 (some .int)) (rmL 3) 0 0 2 := cwV 2 hts (lw_V q166 q168 qs14 q28 q169) rfl rfl rfl (by decide +kernel) hR
theorem cwX0_workWith {R : Room} {s : State} {args : Array Value} (hts : ∀ w ∈ lw_all, w.before args s = true) (hR : 1 + 1 ≤ R.frames ∧ 8 + (6 + 11) + 40 * 1 ≤ R.locals) : CallW R s args RX0 RX0 96 yX0_workWith cX0_workWith 6 (some .int) (ws_ yX0_workWith cX0_workWith 6 (some .int)) (rmL 1) 0 0 1 := cwV 1 hts (lw_V q190 q192 qs15 q28 q193) rfl rfl rfl (by decide +kernel) hR
theorem cwX0_fill {R : Room} {s : State} {args : Array Value} (hts : ∀ w ∈ lw_all, w.before args s = true) (hR : 2 + 1 ≤ R.frames ∧ 8 + (4 + 11) + 40 * 2 ≤ R.locals) : CallW R s args RX0 RX0 99 yX0_fill cX0_fill 4 none (ws_ yX0_fill cX0_fill 4 none) (rmL 2) 0 0 1 := cwV 1 hts (lw_V q194 q196 qs16 q28 q197) rfl rfl rfl (by decide +kernel) hR
set_option maxHeartbeats 4000000 in
theorem met0_region (l : Launch) (D : va_G) (ad : Nat → Nat) (dA : Nat → ClassId) (n : Nat) (F : Nat → Nat → Int32) (p : Nat) (hp : p < 120) : Met l yX0_region (ws_ yX0_region cX0_region 2 (some .int)) (rmL 0) (va_Pc [.ref (ad 0), .int (nI p)] (Pw D (cvw ad dA n F) (cvT dA))) (Qr (fun r => r = nI (p % 4))) 0 0 (fun _ => False) := by
  refine zz_mkR (by decide) rfl (Nat.le_of_ble_eq_true rfl) ?_
  intro pr e s m args below meth c Q ls S hpre hl hret
  obtain ⟨hP, hK⟩ := hpre
  have hx := S.1
  have hb := S.2.1
  have hown : s.vm.findClass RX0 = some m.cls := S.2.2.2.1
  have hts := S.2.2.2.2
  have hS : va_S (fun _ => False) s.heap s.heap [] := va_S.rf
  have hl : lv_has ls 2 [(0, .ref (ad 0)), (1, .int (nI p))] := hl
  refine lv_iload_n hx hb dX0_region_0 rfl (lv_at hl 1 rfl) ?_
  refine lv_iconst (v := nI 4) hx hb dX0_region_1 (by decide) ?_
  refine lv_irem hx hb dX0_region_2 (by decide) ?_
  refine cv_top (pk_rem (by omega) (by decide) (by decide)) ?_
  exact hret _ _ _ _ _ hS (rfl) dX0_region_3
set_option maxHeartbeats 4000000 in
theorem met0_kind (l : Launch) (D : va_G) (ad : Nat → Nat) (dA : Nat → ClassId) (n : Nat) (F : Nat → Nat → Int32) (p : Nat) (hp : p < 120) : Met l yX0_kind (ws_ yX0_kind cX0_kind 2 (some .int)) (rmL 0) (va_Pc [.ref (ad 0), .int (nI p)] (Pw D (cvw ad dA n F) (cvT dA))) (Qr (fun r => r = nI (p / 4 % 5))) 0 0 (fun _ => False) := by
  refine zz_mkR (by decide) rfl (Nat.le_of_ble_eq_true rfl) ?_
  intro pr e s m args below meth c Q ls S hpre hl hret
  obtain ⟨hP, hK⟩ := hpre
  have hx := S.1
  have hb := S.2.1
  have hown : s.vm.findClass RX0 = some m.cls := S.2.2.2.1
  have hts := S.2.2.2.2
  have hS : va_S (fun _ => False) s.heap s.heap [] := va_S.rf
  have hl : lv_has ls 2 [(0, .ref (ad 0)), (1, .int (nI p))] := hl
  refine lv_iload_n hx hb dX0_kind_0 rfl (lv_at hl 1 rfl) ?_
  refine lv_iconst (v := nI 4) hx hb dX0_kind_1 (by decide) ?_
  refine lv_idiv hx hb dX0_kind_2 (by decide) ?_
  refine cv_top (pk_div (by omega) (by decide) (by decide)) ?_
  refine lv_iconst (v := nI 5) hx hb dX0_kind_3 (by decide) ?_
  refine lv_irem hx hb dX0_kind_4 (by decide) ?_
  refine cv_top (pk_rem (by omega) (by decide) (by decide)) ?_
  exact hret _ _ _ _ _ hS (rfl) dX0_kind_5
set_option maxHeartbeats 4000000 in
theorem met0_month (l : Launch) (D : va_G) (ad : Nat → Nat) (dA : Nat → ClassId) (n : Nat) (F : Nat → Nat → Int32) (p : Nat) (hp : p < 120) : Met l yX0_month (ws_ yX0_month cX0_month 2 (some .int)) (rmL 0) (va_Pc [.ref (ad 0), .int (nI p)] (Pw D (cvw ad dA n F) (cvT dA))) (Qr (fun r => r = nI (p / 20))) 0 0 (fun _ => False) := by
  refine zz_mkR (by decide) rfl (Nat.le_of_ble_eq_true rfl) ?_
  intro pr e s m args below meth c Q ls S hpre hl hret
  obtain ⟨hP, hK⟩ := hpre
  have hx := S.1
  have hb := S.2.1
  have hown : s.vm.findClass RX0 = some m.cls := S.2.2.2.1
  have hts := S.2.2.2.2
  have hS : va_S (fun _ => False) s.heap s.heap [] := va_S.rf
  have hl : lv_has ls 2 [(0, .ref (ad 0)), (1, .int (nI p))] := hl
  refine lv_iload_n hx hb dX0_month_0 rfl (lv_at hl 1 rfl) ?_
  refine lv_bipush (v := nI 20) hx hb dX0_month_1 (by decide) ?_
  refine lv_idiv hx hb dX0_month_3 (by decide) ?_
  refine cv_top (pk_div (by omega) (by decide) (by decide)) ?_
  exact hret _ _ _ _ _ hS (rfl) dX0_month_4
set_option maxHeartbeats 4000000 in
theorem met0_cells (l : Launch) (D : va_G) (ad : Nat → Nat) (dA : Nat → ClassId) (n : Nat) (F : Nat → Nat → Int32) (a : Int32) : Met l yX0_cells (ws_ yX0_cells cX0_cells 3 (some .int)) (rmL 0) (va_Pc [.ref (ad 0), .int a] (Pw D (cvw ad dA n F) (cvT dA))) (Qr (fun _ => True)) 0 0 (fun _ => False) := by
  refine zz_mkR (by decide) rfl (Nat.le_of_ble_eq_true rfl) ?_
  intro pr e s m args below meth c Q ls S hpre hl hret
  obtain ⟨hP, hK⟩ := hpre
  have hx := S.1
  have hb := S.2.1
  have hown : s.vm.findClass RX0 = some m.cls := S.2.2.2.1
  have hts := S.2.2.2.2
  have hS : va_S (fun _ => False) s.heap s.heap [] := va_S.rf
  have hl : lv_has ls 3 [(0, .ref (ad 0)), (1, .int a)] := hl
  have j40 : ∀ (z x : Int32) (H : Heap) (locs : List Loc) (ls : Array Slot), va_P D vwCl (cvw ad dA n F) H → va_S (fun _ => False) s.heap H locs → lv_has ls 3 [(2, .int x), (0, .ref (ad 0)), (1, .int a)] → W pr l e (rmL 0) s m args below meth c H locs 0 0 Q (F0 m 40 ls [.int z]) := by
    intro z x H locs ls  hP hS hl
    exact hret _ _ _ _ _ hS (trivial) dX0_cells_40
  have j25 : ∀ (z x : Int32) (H : Heap) (locs : List Loc) (ls : Array Slot), va_P D vwCl (cvw ad dA n F) H → va_S (fun _ => False) s.heap H locs → lv_has ls 3 [(2, .int x), (0, .ref (ad 0)), (1, .int a)] → W pr l e (rmL 0) s m args below meth c H locs 0 0 Q (F0 m 25 ls [.int z]) := by
    intro z x H locs ls  hP hS hl
    refine lv_istore_n (lv' := [(2, .int z), (0, .ref (ad 0)), (1, .int a)]) hx hb dX0_cells_25 rfl hl (by decide) rfl (fun ls hl => ?_)
    refine lv_iload_n hx hb dX0_cells_26 rfl (lv_at hl 2 rfl) ?_
    refine lv_iconst (v := nI 4) hx hb dX0_cells_27 (by decide) ?_
    refine lv_iand hx hb dX0_cells_28 ?_
    refine lv_if_ne (tgt := 36) hx hb dX0_cells_29 (by decide) (fun c29 => ?_) (fun c29 => ?_)
    · refine lv_iload_n hx hb dX0_cells_36 rfl (lv_at hl 0 rfl) ?_
      refine lv_bipush (v := nI 6) hx hb dX0_cells_37 (by decide) ?_
      refine lv_imul hx hb dX0_cells_39 ?_
      exact j40 _ _ _ _ _ hP hS hl
    · refine lv_iload_n hx hb dX0_cells_32 rfl (lv_at hl 0 rfl) ?_
      refine lv_goto (tgt := 40) hx hb dX0_cells_33 (by decide) ?_
      exact j40 _ _ _ _ _ hP hS hl
  have j11 : ∀ (z : Int32) (H : Heap) (locs : List Loc) (ls : Array Slot), va_P D vwCl (cvw ad dA n F) H → va_S (fun _ => False) s.heap H locs → lv_has ls 3 [(0, .ref (ad 0)), (1, .int a)] → W pr l e (rmL 0) s m args below meth c H locs 0 0 Q (F0 m 11 ls [.int z]) := by
    intro z H locs ls  hP hS hl
    refine lv_istore_n (lv' := [(2, .int z), (0, .ref (ad 0)), (1, .int a)]) hx hb dX0_cells_11 rfl hl (by decide) rfl (fun ls hl => ?_)
    refine lv_iload_n hx hb dX0_cells_12 rfl (lv_at hl 2 rfl) ?_
    refine lv_iconst (v := nI 2) hx hb dX0_cells_13 (by decide) ?_
    refine lv_iand hx hb dX0_cells_14 ?_
    refine lv_if_ne (tgt := 22) hx hb dX0_cells_15 (by decide) (fun c15 => ?_) (fun c15 => ?_)
    · refine lv_iload_n hx hb dX0_cells_22 rfl (lv_at hl 0 rfl) ?_
      refine lv_iconst (v := nI 5) hx hb dX0_cells_23 (by decide) ?_
      refine lv_imul hx hb dX0_cells_24 ?_
      exact j25 _ _ _ _ _ hP hS hl
    · refine lv_iload_n hx hb dX0_cells_18 rfl (lv_at hl 0 rfl) ?_
      refine lv_goto (tgt := 25) hx hb dX0_cells_19 (by decide) ?_
      exact j25 _ _ _ _ _ hP hS hl
  refine lv_iload_n hx hb dX0_cells_0 rfl (lv_at hl 1 rfl) ?_
  refine lv_iconst (v := nI 1) hx hb dX0_cells_1 (by decide) ?_
  refine lv_iand hx hb dX0_cells_2 ?_
  refine lv_if_ne (tgt := 10) hx hb dX0_cells_3 (by decide) (fun c3 => ?_) (fun c3 => ?_)
  · refine lv_iconst (v := nI 4) hx hb dX0_cells_10 (by decide) ?_
    exact j11 _ _ _ _ hP hS hl
  · refine lv_iconst (v := nI 1) hx hb dX0_cells_6 (by decide) ?_
    refine lv_goto (tgt := 11) hx hb dX0_cells_7 (by decide) ?_
    exact j11 _ _ _ _ hP hS hl
/-- a filter, a grouping -/
def zc_gf (a : Int32) : Prop := ∃ f : Nat, f < 32768 ∧ a = nI f
def zc_gg (a : Int32) : Prop := ∃ f : Nat, f < 8 ∧ a = nI f
theorem zc_gf_of {a : Int32} (h : ¬ a < 0) (h2 : a ≤ nI 32767) : zc_gf a := zc_filt h h2
theorem zc_gf_n1 {a : Int32} (h : a < 0) : ¬ zc_gf a := by
  rintro ⟨f, hf, rfl⟩
  exact nI_pos (by omega) h
theorem zc_gf_n2 {a : Int32} (h : ¬ a ≤ nI 32767) : ¬ zc_gf a := by
  rintro ⟨f, hf, rfl⟩
  exact h (nI_le (by omega) (by decide))
theorem zc_gg_of {a : Int32} (h : ¬ a < 0) (h2 : a ≤ nI 7) : zc_gg a := by
  obtain ⟨j, hj, e⟩ := nI_of h
  refine ⟨j, ?_, e⟩
  rw [e] at h2
  have := (nI_leI hj (by decide)).mp h2
  omega
theorem zc_gg_of' {a : Int32} (h : ¬ a < 0) (h2 : a < nI 8) : zc_gg a := by
  obtain ⟨j, hj, e⟩ := nI_of h
  refine ⟨j, ?_, e⟩
  rw [e] at h2
  exact (nI_ltI hj (by decide)).mp h2
theorem zc_gg_n1 {a : Int32} (h : a < 0) : ¬ zc_gg a := by
  rintro ⟨f, hf, rfl⟩
  exact nI_pos (by omega) h
theorem zc_gg_n2 {a : Int32} (h : ¬ a ≤ nI 7) : ¬ zc_gg a := by
  rintro ⟨f, hf, rfl⟩
  exact h (nI_le (by omega) (by decide))
theorem zc_gg_n3 {a : Int32} (h : ¬ a < nI 8) : ¬ zc_gg a := by
  rintro ⟨f, hf, rfl⟩
  exact h (nI_lt hf (by decide))
set_option maxHeartbeats 4000000 in
theorem met0_badFilter (l : Launch) (D : va_G) (ad : Nat → Nat) (dA : Nat → ClassId) (n : Nat) (F : Nat → Nat → Int32) (a : Int32) : Met l yX0_badFilter (ws_ yX0_badFilter cX0_badFilter 2 (some .boolean)) (rmL 0) (va_Pc [.ref (ad 0), .int a] (Pw D (cvw ad dA n F) (cvT dA))) (Qr (fun r => (r = nI 1 ∧ ¬ zc_gf a) ∨ (r = nI 0 ∧ zc_gf a))) 0 0 (fun _ => False) := by
  refine zz_mkZ (fun r h => by rcases h with h | h <;> simp [h.1]) (by decide) rfl (Nat.le_of_ble_eq_true rfl) ?_
  intro pr e s m args below meth c Q ls S hpre hl hret
  obtain ⟨hP, hK⟩ := hpre
  have hx := S.1
  have hb := S.2.1
  have hown : s.vm.findClass RX0 = some m.cls := S.2.2.2.1
  have hts := S.2.2.2.2
  have hS : va_S (fun _ => False) s.heap s.heap [] := va_S.rf
  have hl : lv_has ls 2 [(0, .ref (ad 0)), (1, .int a)] := hl
  refine lv_iload_n hx hb dX0_badFilter_0 rfl (lv_at hl 1 rfl) ?_
  refine lv_if_lt (tgt := 11) hx hb dX0_badFilter_1 (by decide) (fun c1 => ?_) (fun c1 => ?_)
  · refine lv_iconst (v := nI 1) hx hb dX0_badFilter_11 (by decide) ?_
    refine lv_goto (tgt := 16) hx hb dX0_badFilter_12 (by decide) ?_
    exact hret _ _ _ _ _ hS (by first | exact Or.inl ⟨rfl, zc_gf_n1 (by assumption)⟩ | exact Or.inl ⟨rfl, zc_gf_n2 (by assumption)⟩ | exact Or.inr ⟨rfl, zc_gf_of (by assumption) (by assumption)⟩) dX0_badFilter_16
  · refine lv_iload_n hx hb dX0_badFilter_4 rfl (lv_at hl 1 rfl) ?_
    refine lv_sipush (v := nI 32767) hx hb dX0_badFilter_5 (by decide) ?_
    refine lv_icmp_le (tgt := 15) hx hb dX0_badFilter_8 (by decide) (fun c8 => ?_) (fun c8 => ?_)
    · refine lv_iconst (v := nI 0) hx hb dX0_badFilter_15 (by decide) ?_
      exact hret _ _ _ _ _ hS (by first | exact Or.inl ⟨rfl, zc_gf_n1 (by assumption)⟩ | exact Or.inl ⟨rfl, zc_gf_n2 (by assumption)⟩ | exact Or.inr ⟨rfl, zc_gf_of (by assumption) (by assumption)⟩) dX0_badFilter_16
    · refine lv_iconst (v := nI 1) hx hb dX0_badFilter_11 (by decide) ?_
      refine lv_goto (tgt := 16) hx hb dX0_badFilter_12 (by decide) ?_
      exact hret _ _ _ _ _ hS (by first | exact Or.inl ⟨rfl, zc_gf_n1 (by assumption)⟩ | exact Or.inl ⟨rfl, zc_gf_n2 (by assumption)⟩ | exact Or.inr ⟨rfl, zc_gf_of (by assumption) (by assumption)⟩) dX0_badFilter_16
set_option maxHeartbeats 4000000 in
theorem met0_badGrouping (l : Launch) (D : va_G) (ad : Nat → Nat) (dA : Nat → ClassId) (n : Nat) (F : Nat → Nat → Int32) (a : Int32) : Met l yX0_badGrouping (ws_ yX0_badGrouping cX0_badGrouping 2 (some .boolean)) (rmL 0) (va_Pc [.ref (ad 0), .int a] (Pw D (cvw ad dA n F) (cvT dA))) (Qr (fun r => (r = nI 1 ∧ ¬ zc_gg a) ∨ (r = nI 0 ∧ zc_gg a))) 0 0 (fun _ => False) := by
  refine zz_mkZ (fun r h => by rcases h with h | h <;> simp [h.1]) (by decide) rfl (Nat.le_of_ble_eq_true rfl) ?_
  intro pr e s m args below meth c Q ls S hpre hl hret
  obtain ⟨hP, hK⟩ := hpre
  have hx := S.1
  have hb := S.2.1
  have hown : s.vm.findClass RX0 = some m.cls := S.2.2.2.1
  have hts := S.2.2.2.2
  have hS : va_S (fun _ => False) s.heap s.heap [] := va_S.rf
  have hl : lv_has ls 2 [(0, .ref (ad 0)), (1, .int a)] := hl
  refine lv_iload_n hx hb dX0_badGrouping_0 rfl (lv_at hl 1 rfl) ?_
  refine lv_if_lt (tgt := 10) hx hb dX0_badGrouping_1 (by decide) (fun c1 => ?_) (fun c1 => ?_)
  · refine lv_iconst (v := nI 1) hx hb dX0_badGrouping_10 (by decide) ?_
    refine lv_goto (tgt := 15) hx hb dX0_badGrouping_11 (by decide) ?_
    exact hret _ _ _ _ _ hS (by first | exact Or.inl ⟨rfl, zc_gg_n1 (by assumption)⟩ | exact Or.inl ⟨rfl, zc_gg_n3 (by assumption)⟩ | exact Or.inr ⟨rfl, zc_gg_of' (by assumption) (by assumption)⟩) dX0_badGrouping_15
  · refine lv_iload_n hx hb dX0_badGrouping_4 rfl (lv_at hl 1 rfl) ?_
    refine lv_bipush (v := nI 8) hx hb dX0_badGrouping_5 (by decide) ?_
    refine lv_icmp_lt (tgt := 14) hx hb dX0_badGrouping_7 (by decide) (fun c7 => ?_) (fun c7 => ?_)
    · refine lv_iconst (v := nI 0) hx hb dX0_badGrouping_14 (by decide) ?_
      exact hret _ _ _ _ _ hS (by first | exact Or.inl ⟨rfl, zc_gg_n1 (by assumption)⟩ | exact Or.inl ⟨rfl, zc_gg_n3 (by assumption)⟩ | exact Or.inr ⟨rfl, zc_gg_of' (by assumption) (by assumption)⟩) dX0_badGrouping_15
    · refine lv_iconst (v := nI 1) hx hb dX0_badGrouping_10 (by decide) ?_
      refine lv_goto (tgt := 15) hx hb dX0_badGrouping_11 (by decide) ?_
      exact hret _ _ _ _ _ hS (by first | exact Or.inl ⟨rfl, zc_gg_n1 (by assumption)⟩ | exact Or.inl ⟨rfl, zc_gg_n3 (by assumption)⟩ | exact Or.inr ⟨rfl, zc_gg_of' (by assumption) (by assumption)⟩) dX0_badGrouping_15
theorem zc_and15 {x : Nat} (h : x < 2 ^ 31) : nI x &&& nI 15 = nI (x % 16) := pk_andN (Nat.lt_trans h (by decide)) 4 (by decide)
theorem zc_and31 {x : Nat} (h : x < 2 ^ 31) : nI x &&& nI 31 = nI (x % 32) := pk_andN (Nat.lt_trans h (by decide)) 5 (by decide)
theorem zc_shr4 {x : Nat} (h : x < 2 ^ 31) : nI x >>> (nI 4 &&& 31) = nI (x / 16) := zc_shr h (by decide)
theorem zc_shr9 {x : Nat} (h : x < 2 ^ 31) : nI x >>> (nI 9 &&& 31) = nI (x / 512) := zc_shr h (by decide)
set_option maxHeartbeats 4000000 in
theorem met0_cuts (l : Launch) (D : va_G) (ad : Nat → Nat) (dA : Nat → ClassId) (n : Nat) (F : Nat → Nat → Int32) (f : Nat) (hf : f < 32768) : Met l yX0_cuts (ws_ yX0_cuts cX0_cuts 3 (some .int)) (rmL 0) (va_Pc [.ref (ad 0), .int (nI f)] (Pw D (cvw ad dA n F) (cvT dA))) (Qr (fun r => ∃ c, c < 8 ∧ r = nI c ∧ (c % 2 = 0 → f % 16 = 15) ∧ (c / 2 % 2 = 0 → f / 16 % 32 = 31) ∧ (c / 4 % 2 = 0 → f / 512 = 63))) 0 0 (fun _ => False) := by
  refine zz_mkR (by decide) rfl (Nat.le_of_ble_eq_true rfl) ?_
  intro pr e s m args below meth c Q ls S hpre hl hret
  obtain ⟨hP, hK⟩ := hpre
  have hx := S.1
  have hb := S.2.1
  have hown : s.vm.findClass RX0 = some m.cls := S.2.2.2.1
  have hts := S.2.2.2.2
  have hS : va_S (fun _ => False) s.heap s.heap [] := va_S.rf
  have hl : lv_has ls 3 [(0, .ref (ad 0)), (1, .int (nI f))] := hl
  have j33 : ∀ (x y : Nat) (H : Heap) (locs : List Loc) (ls : Array Slot), y < 4 → (y % 2 = 0 → f % 16 = 15) → (y / 2 % 2 = 0 → f / 16 % 32 = 31) → va_P D vwCl (cvw ad dA n F) H → va_S (fun _ => False) s.heap H locs → lv_has ls 3 [(2, .int (nI x)), (0, .ref (ad 0)), (1, .int (nI f))] → W pr l e (rmL 0) s m args below meth c H locs 0 0 Q (F0 m 33 ls [.int (nI y)]) := by
    intro x y H locs ls hy h1 h2 hP hS hl
    refine lv_istore_n (lv' := [(2, .int (nI y)), (0, .ref (ad 0)), (1, .int (nI f))]) hx hb dX0_cuts_33 rfl hl (by decide) rfl (fun ls hl => ?_)
    refine lv_iload_n hx hb dX0_cuts_34 rfl (lv_at hl 2 rfl) ?_
    refine lv_bipush (v := nI 9) hx hb dX0_cuts_35 (by decide) ?_
    refine lv_ishr hx hb dX0_cuts_37 ?_
    refine cv_top (b := nI (f / 512)) (zc_shr9 (by omega)) ?_
    refine lv_bipush (v := nI 63) hx hb dX0_cuts_38 (by decide) ?_
    refine nv_icmp_ne (tgt := 47) (by omega) (by omega) hx hb dX0_cuts_40 (by decide) (fun c40 => ?_) (fun c40 => ?_)
    · refine lv_iload_n hx hb dX0_cuts_47 rfl (lv_at hl 0 rfl) ?_
      refine lv_iconst (v := nI 4) hx hb dX0_cuts_48 (by decide) ?_
      refine lv_ior hx hb dX0_cuts_49 ?_
      refine cv_top (zc_oo y (by omega) 4 (by decide)) ?_
      obtain ⟨q0, q1, q2, q4⟩ := zc_or8 y (by omega) 4 (by decide)
      exact hret _ _ _ _ _ hS (⟨y ||| 4, q0, rfl, fun h => h1 (q1.mp h).1, fun h => h2 (q2.mp h).1, fun h => absurd (q4.mp h).2 (by decide)⟩) dX0_cuts_50
    · refine lv_iload_n hx hb dX0_cuts_43 rfl (lv_at hl 0 rfl) ?_
      refine lv_goto (tgt := 50) hx hb dX0_cuts_44 (by decide) ?_
      exact hret _ _ _ _ _ hS (⟨y, by omega, rfl, h1, h2, fun _ => by omega⟩) dX0_cuts_50
  have j14 : ∀ (x : Nat) (H : Heap) (locs : List Loc) (ls : Array Slot), x < 2 → (x = 0 → f % 16 = 15) → va_P D vwCl (cvw ad dA n F) H → va_S (fun _ => False) s.heap H locs → lv_has ls 3 [(0, .ref (ad 0)), (1, .int (nI f))] → W pr l e (rmL 0) s m args below meth c H locs 0 0 Q (F0 m 14 ls [.int (nI x)]) := by
    intro x H locs ls hx2 h1 hP hS hl
    refine lv_istore_n (lv' := [(2, .int (nI x)), (0, .ref (ad 0)), (1, .int (nI f))]) hx hb dX0_cuts_14 rfl hl (by decide) rfl (fun ls hl => ?_)
    refine lv_iload_n hx hb dX0_cuts_15 rfl (lv_at hl 2 rfl) ?_
    refine lv_iconst (v := nI 4) hx hb dX0_cuts_16 (by decide) ?_
    refine lv_ishr hx hb dX0_cuts_17 ?_
    refine cv_top (b := nI (f / 16)) (zc_shr4 (by omega)) ?_
    refine lv_bipush (v := nI 31) hx hb dX0_cuts_18 (by decide) ?_
    refine lv_iand hx hb dX0_cuts_20 ?_
    refine cv_top (b := nI (f / 16 % 32)) (zc_and31 (by omega)) ?_
    refine lv_bipush (v := nI 31) hx hb dX0_cuts_21 (by decide) ?_
    refine nv_icmp_ne (tgt := 30) (by omega) (by omega) hx hb dX0_cuts_23 (by decide) (fun c23 => ?_) (fun c23 => ?_)
    · refine lv_iload_n hx hb dX0_cuts_30 rfl (lv_at hl 0 rfl) ?_
      refine lv_iconst (v := nI 2) hx hb dX0_cuts_31 (by decide) ?_
      refine lv_ior hx hb dX0_cuts_32 ?_
      refine cv_top (zc_oo x (by omega) 2 (by decide)) ?_
      obtain ⟨q0, q1, q2, q4⟩ := zc_or8 x (by omega) 2 (by decide)
      have q5 : x ||| 2 < 4 := Nat.or_lt_two_pow (n := 2) (by omega) (by decide)
      exact j33 x (x ||| 2) _ _ _ q5 (fun h => h1 (by have := (q1.mp h).1; omega)) (fun h => absurd (q2.mp h).2 (by decide)) hP hS hl
    · refine lv_iload_n hx hb dX0_cuts_26 rfl (lv_at hl 0 rfl) ?_
      refine lv_goto (tgt := 33) hx hb dX0_cuts_27 (by decide) ?_
      exact j33 x x _ _ _ (by omega) (fun _ => h1 (by omega)) (fun _ => by omega) hP hS hl
  refine lv_iload_n hx hb dX0_cuts_0 rfl (lv_at hl 1 rfl) ?_
  refine lv_bipush (v := nI 15) hx hb dX0_cuts_1 (by decide) ?_
  refine lv_iand hx hb dX0_cuts_3 ?_
  refine cv_top (b := nI (f % 16)) (zc_and15 (by omega)) ?_
  refine lv_bipush (v := nI 15) hx hb dX0_cuts_4 (by decide) ?_
  refine nv_icmp_ne (tgt := 13) (by omega) (by omega) hx hb dX0_cuts_6 (by decide) (fun c6 => ?_) (fun c6 => ?_)
  · refine lv_iconst (v := nI 1) hx hb dX0_cuts_13 (by decide) ?_
    exact j14 1 _ _ _ (by omega) (fun h => by omega) hP hS hl
  · refine lv_iconst (v := nI 0) hx hb dX0_cuts_9 (by decide) ?_
    refine lv_goto (tgt := 14) hx hb dX0_cuts_10 (by decide) ?_
    exact j14 0 _ _ _ (by omega) (fun h => by omega) hP hS hl
end
section
set_option maxRecDepth 100000
set_option maxHeartbeats 4000000 in
theorem met0_group (l : Launch) (D : va_G) (ad : Nat → Nat) (dA : Nat → ClassId) (n : Nat) (F : Nat → Nat → Int32) (p g : Nat) (hp : p < 120) (hg : g < 8) : Met l yX0_group (ws_ yX0_group cX0_group 6 (some .int)) (rmL 1) (va_Pc [.ref (ad 0), .int (nI p), .int (nI g)] (Pw D (cvw ad dA n F) (cvT dA))) (Qr (fun r => r = nI (zc_grp p g))) 0 0 (fun _ => False) := by
  refine zz_mkR (by decide) rfl (Nat.le_of_ble_eq_true rfl) ?_
  intro pr e s m args below meth c Q ls S hpre hl hret
  obtain ⟨hP, hK⟩ := hpre
  have hx := S.1
  have hb := S.2.1
  have hown : s.vm.findClass RX0 = some m.cls := S.2.2.2.1
  have hts := S.2.2.2.2
  have hS : va_S (fun _ => False) s.heap s.heap [] := va_S.rf
  have hl : lv_has ls 6 [(0, .ref (ad 0)), (1, .int (nI p)), (2, .int (nI g))] := hl
  have j48 : ∀ (H : Heap) (locs : List Loc) (ls : Array Slot), va_P D vwCl (cvw ad dA n F) H → va_S (fun _ => False) s.heap H locs → lv_has ls 6 [(4, .int (nI (if g / 2 % 2 = 0 then 0 else p / 4 % 5))), (3, .int (nI (if g % 2 = 0 then 0 else p % 4))), (0, .ref (ad 0)), (1, .int (nI p)), (2, .int (nI g))] → W pr l e (rmL 1) s m args below meth c H locs 0 0 Q (F0 m 48 ls [.int (nI (if g / 4 % 2 = 0 then 0 else p / 20))]) := by
    intro  H locs ls  hP hS hl
    refine lv_istore (lv' := [(5, .int (nI (if g / 4 % 2 = 0 then 0 else p / 20))), (4, .int (nI (if g / 2 % 2 = 0 then 0 else p / 4 % 5))), (3, .int (nI (if g % 2 = 0 then 0 else p % 4))), (0, .ref (ad 0)), (1, .int (nI p)), (2, .int (nI g))]) hx hb dX0_group_48 hl (by decide) rfl (fun ls hl => ?_)
    refine lv_iload_n hx hb dX0_group_50 rfl (lv_at hl 2 rfl) ?_
    refine lv_iconst (v := nI 4) hx hb dX0_group_51 (by decide) ?_
    refine lv_iload hx hb dX0_group_52 (lv_at hl 1 rfl) ?_
    refine lv_imul hx hb dX0_group_54 ?_
    refine cv_top (pk_mul _ _) ?_
    refine lv_iadd hx hb dX0_group_55 ?_
    refine cv_top (nI_add _ _) ?_
    refine lv_bipush (v := nI 20) hx hb dX0_group_56 (by decide) ?_
    refine lv_iload hx hb dX0_group_58 (lv_at hl 0 rfl) ?_
    refine lv_imul hx hb dX0_group_60 ?_
    refine cv_top (pk_mul _ _) ?_
    refine lv_iadd hx hb dX0_group_61 ?_
    refine cv_top (nI_add _ _) ?_
    exact hret _ _ _ _ _ hS (rfl) dX0_group_62
  have j31 : ∀ (H : Heap) (locs : List Loc) (ls : Array Slot), va_P D vwCl (cvw ad dA n F) H → va_S (fun _ => False) s.heap H locs → lv_has ls 6 [(3, .int (nI (if g % 2 = 0 then 0 else p % 4))), (0, .ref (ad 0)), (1, .int (nI p)), (2, .int (nI g))] → W pr l e (rmL 1) s m args below meth c H locs 0 0 Q (F0 m 31 ls [.int (nI (if g / 2 % 2 = 0 then 0 else p / 4 % 5))]) := by
    intro  H locs ls  hP hS hl
    refine lv_istore (lv' := [(4, .int (nI (if g / 2 % 2 = 0 then 0 else p / 4 % 5))), (3, .int (nI (if g % 2 = 0 then 0 else p % 4))), (0, .ref (ad 0)), (1, .int (nI p)), (2, .int (nI g))]) hx hb dX0_group_31 hl (by decide) rfl (fun ls hl => ?_)
    refine lv_iload_n hx hb dX0_group_33 rfl (lv_at hl 4 rfl) ?_
    refine lv_iconst (v := nI 4) hx hb dX0_group_34 (by decide) ?_
    refine lv_iand hx hb dX0_group_35 ?_
    refine cv_top (b := nI (4 * (g / 4 % 2))) (zc_a4 g hg) ?_
    refine nv_if_ne (tgt := 43) (by omega) hx hb dX0_group_36 (by decide) (fun c36 => ?_) (fun c36 => ?_)
    · refine lv_aload_n hx hb dX0_group_43 rfl (lv_at hl 2 rfl) ?_
      refine lv_iload_n hx hb dX0_group_44 rfl (lv_at hl 3 rfl) ?_
      refine zz_callR (As := [.int (nI p)]) (rest := []) S hK hP hS (met0_month l D ad dA n F p (by omega)) (cwX0_month hts (by decide)) (cv_recv hK hP) rfl hl.1 rfl (by decide) dX0_group_45 ⟨Nat.le_refl 0, Nat.le_refl 0⟩ (fun r45 H locs hr45 hP hS => ?_)
      subst hr45
      refine cv_top (b := nI (if g / 4 % 2 = 0 then 0 else p / 20)) (by first | rw [if_neg (by omega)] | rw [if_pos (by omega)]) ?_
      exact j48 _ _ _ hP hS hl
    · refine lv_iconst (v := nI 0) hx hb dX0_group_39 (by decide) ?_
      refine lv_goto (tgt := 48) hx hb dX0_group_40 (by decide) ?_
      refine cv_top (b := nI (if g / 4 % 2 = 0 then 0 else p / 20)) (by first | rw [if_neg (by omega)] | rw [if_pos (by omega)]) ?_
      exact j48 _ _ _ hP hS hl
  have j15 : ∀ (H : Heap) (locs : List Loc) (ls : Array Slot), va_P D vwCl (cvw ad dA n F) H → va_S (fun _ => False) s.heap H locs → lv_has ls 6 [(0, .ref (ad 0)), (1, .int (nI p)), (2, .int (nI g))] → W pr l e (rmL 1) s m args below meth c H locs 0 0 Q (F0 m 15 ls [.int (nI (if g % 2 = 0 then 0 else p % 4))]) := by
    intro  H locs ls  hP hS hl
    refine lv_istore_n (lv' := [(3, .int (nI (if g % 2 = 0 then 0 else p % 4))), (0, .ref (ad 0)), (1, .int (nI p)), (2, .int (nI g))]) hx hb dX0_group_15 rfl hl (by decide) rfl (fun ls hl => ?_)
    refine lv_iload_n hx hb dX0_group_16 rfl (lv_at hl 3 rfl) ?_
    refine lv_iconst (v := nI 2) hx hb dX0_group_17 (by decide) ?_
    refine lv_iand hx hb dX0_group_18 ?_
    refine cv_top (b := nI (2 * (g / 2 % 2))) (zc_a2 g hg) ?_
    refine nv_if_ne (tgt := 26) (by omega) hx hb dX0_group_19 (by decide) (fun c19 => ?_) (fun c19 => ?_)
    · refine lv_aload_n hx hb dX0_group_26 rfl (lv_at hl 1 rfl) ?_
      refine lv_iload_n hx hb dX0_group_27 rfl (lv_at hl 2 rfl) ?_
      refine zz_callR (As := [.int (nI p)]) (rest := []) S hK hP hS (met0_kind l D ad dA n F p (by omega)) (cwX0_kind hts (by decide)) (cv_recv hK hP) rfl hl.1 rfl (by decide) dX0_group_28 ⟨Nat.le_refl 0, Nat.le_refl 0⟩ (fun r28 H locs hr28 hP hS => ?_)
      subst hr28
      refine cv_top (b := nI (if g / 2 % 2 = 0 then 0 else p / 4 % 5)) (by first | rw [if_neg (by omega)] | rw [if_pos (by omega)]) ?_
      exact j31 _ _ _ hP hS hl
    · refine lv_iconst (v := nI 0) hx hb dX0_group_22 (by decide) ?_
      refine lv_goto (tgt := 31) hx hb dX0_group_23 (by decide) ?_
      refine cv_top (b := nI (if g / 2 % 2 = 0 then 0 else p / 4 % 5)) (by first | rw [if_neg (by omega)] | rw [if_pos (by omega)]) ?_
      exact j31 _ _ _ hP hS hl
  refine lv_iload_n hx hb dX0_group_0 rfl (lv_at hl 2 rfl) ?_
  refine lv_iconst (v := nI 1) hx hb dX0_group_1 (by decide) ?_
  refine lv_iand hx hb dX0_group_2 ?_
  refine cv_top (b := nI (g % 2)) (zc_a1 g hg) ?_
  refine nv_if_ne (tgt := 10) (by omega) hx hb dX0_group_3 (by decide) (fun c3 => ?_) (fun c3 => ?_)
  · refine lv_aload_n hx hb dX0_group_10 rfl (lv_at hl 0 rfl) ?_
    refine lv_iload_n hx hb dX0_group_11 rfl (lv_at hl 1 rfl) ?_
    refine zz_callR (As := [.int (nI p)]) (rest := []) S hK hP hS (met0_region l D ad dA n F p (by omega)) (cwX0_region hts (by decide)) (cv_recv hK hP) rfl hl.1 rfl (by decide) dX0_group_12 ⟨Nat.le_refl 0, Nat.le_refl 0⟩ (fun r12 H locs hr12 hP hS => ?_)
    subst hr12
    refine cv_top (b := nI (if g % 2 = 0 then 0 else p % 4)) (by first | rw [if_neg (by omega)] | rw [if_pos (by omega)]) ?_
    exact j15 _ _ _ hP hS hl
  · refine lv_iconst (v := nI 0) hx hb dX0_group_6 (by decide) ?_
    refine lv_goto (tgt := 15) hx hb dX0_group_7 (by decide) ?_
    refine cv_top (b := nI (if g % 2 = 0 then 0 else p % 4)) (by first | rw [if_neg (by omega)] | rw [if_pos (by omega)]) ?_
    exact j15 _ _ _ hP hS hl
set_option maxHeartbeats 4000000 in
theorem met0_passes (l : Launch) (D : va_G) (ad : Nat → Nat) (dA : Nat → ClassId) (n : Nat) (F : Nat → Nat → Int32) (p f d : Nat) (hp : p < 120) (hf : f < 32768) (hd : d < 8) : Met l yX0_passes (ws_ yX0_passes cX0_passes 7 (some .boolean)) (rmL 1) (va_Pc [.ref (ad 0), .int (nI p), .int (nI f), .int (nI d)] (Pw D (cvw ad dA n F) (cvT dA))) (Qr (fun r => (r = nI 1 ∧ zc_ps p f d = true) ∨ (r = nI 0 ∧ zc_ps p f d = false))) 0 0 (fun _ => False) := by
  refine zz_mkZ (fun r h => by rcases h with h | h <;> simp [h.1]) (by decide) rfl (Nat.le_of_ble_eq_true rfl) ?_
  intro pr e s m args below meth c Q ls S hpre hl hret
  obtain ⟨hP, hK⟩ := hpre
  have hx := S.1
  have hb := S.2.1
  have hown : s.vm.findClass RX0 = some m.cls := S.2.2.2.1
  have hts := S.2.2.2.2
  have hS : va_S (fun _ => False) s.heap s.heap [] := va_S.rf
  have hl : lv_has ls 7 [(0, .ref (ad 0)), (1, .int (nI p)), (2, .int (nI f)), (3, .int (nI d))] := hl
  have j81 : ∀ (x y z : Bool) (H : Heap) (locs : List Loc) (ls : Array Slot), zc_ps p f d = (x && (y && z)) → va_P D vwCl (cvw ad dA n F) H → va_S (fun _ => False) s.heap H locs → lv_has ls 7 [(5, .int (nI y.toNat)), (4, .int (nI x.toNat)), (0, .ref (ad 0)), (1, .int (nI p)), (2, .int (nI f)), (3, .int (nI d))] → W pr l e (rmL 1) s m args below meth c H locs 0 0 Q (F0 m 81 ls [.int (nI z.toNat)]) := by
    intro x y z H locs ls hxyz hP hS hl
    refine lv_istore (lv' := [(6, .int (nI z.toNat)), (5, .int (nI y.toNat)), (4, .int (nI x.toNat)), (0, .ref (ad 0)), (1, .int (nI p)), (2, .int (nI f)), (3, .int (nI d))]) hx hb dX0_passes_81 hl (by decide) rfl (fun ls hl => ?_)
    refine lv_iload hx hb dX0_passes_83 (lv_at hl 2 rfl) ?_
    refine nv_if_eq (tgt := 102) (by first | omega | exact Nat.lt_of_le_of_lt (Bool.toNat_le _) (by decide)) hx hb dX0_passes_85 (by decide) (fun c85 => ?_) (fun c85 => ?_)
    · refine lv_iconst (v := nI 0) hx hb dX0_passes_102 (by decide) ?_
      exact hret _ _ _ _ _ hS (by cases x <;> cases y <;> cases z <;> first | exact Or.inl ⟨rfl, hxyz⟩ | exact Or.inr ⟨rfl, hxyz⟩ | (exfalso; simp_all)) dX0_passes_103
    · refine lv_iload hx hb dX0_passes_88 (lv_at hl 1 rfl) ?_
      refine nv_if_eq (tgt := 102) (by first | omega | exact Nat.lt_of_le_of_lt (Bool.toNat_le _) (by decide)) hx hb dX0_passes_90 (by decide) (fun c90 => ?_) (fun c90 => ?_)
      · refine lv_iconst (v := nI 0) hx hb dX0_passes_102 (by decide) ?_
        exact hret _ _ _ _ _ hS (by cases x <;> cases y <;> cases z <;> first | exact Or.inl ⟨rfl, hxyz⟩ | exact Or.inr ⟨rfl, hxyz⟩ | (exfalso; simp_all)) dX0_passes_103
      · refine lv_iload hx hb dX0_passes_93 (lv_at hl 0 rfl) ?_
        refine nv_if_eq (tgt := 102) (by first | omega | exact Nat.lt_of_le_of_lt (Bool.toNat_le _) (by decide)) hx hb dX0_passes_95 (by decide) (fun c95 => ?_) (fun c95 => ?_)
        · refine lv_iconst (v := nI 0) hx hb dX0_passes_102 (by decide) ?_
          exact hret _ _ _ _ _ hS (by cases x <;> cases y <;> cases z <;> first | exact Or.inl ⟨rfl, hxyz⟩ | exact Or.inr ⟨rfl, hxyz⟩ | (exfalso; simp_all)) dX0_passes_103
        · refine lv_iconst (v := nI 1) hx hb dX0_passes_98 (by decide) ?_
          refine lv_goto (tgt := 103) hx hb dX0_passes_99 (by decide) ?_
          exact hret _ _ _ _ _ hS (by cases x <;> cases y <;> cases z <;> first | exact Or.inl ⟨rfl, hxyz⟩ | exact Or.inr ⟨rfl, hxyz⟩ | (exfalso; simp_all)) dX0_passes_103
  have j52 : ∀ (H : Heap) (locs : List Loc) (ls : Array Slot), va_P D vwCl (cvw ad dA n F) H → va_S (fun _ => False) s.heap H locs → lv_has ls 7 [(4, .int (nI ((decide (d % 2 = 0) || decide (f / 2 ^ (p % 4) % 2 = 1)).toNat))), (0, .ref (ad 0)), (1, .int (nI p)), (2, .int (nI f)), (3, .int (nI d))] → W pr l e (rmL 1) s m args below meth c H locs 0 0 Q (F0 m 52 ls [.int (nI ((decide (d / 2 % 2 = 0) || decide (f / 2 ^ (4 + p / 4 % 5) % 2 = 1)).toNat))]) := by
    intro  H locs ls  hP hS hl
    refine lv_istore (lv' := [(5, .int (nI ((decide (d / 2 % 2 = 0) || decide (f / 2 ^ (4 + p / 4 % 5) % 2 = 1)).toNat))), (4, .int (nI ((decide (d % 2 = 0) || decide (f / 2 ^ (p % 4) % 2 = 1)).toNat))), (0, .ref (ad 0)), (1, .int (nI p)), (2, .int (nI f)), (3, .int (nI d))]) hx hb dX0_passes_52 hl (by decide) rfl (fun ls hl => ?_)
    refine lv_iload_n hx hb dX0_passes_54 rfl (lv_at hl 5 rfl) ?_
    refine lv_iconst (v := nI 4) hx hb dX0_passes_55 (by decide) ?_
    refine lv_iand hx hb dX0_passes_56 ?_
    refine cv_top (b := nI (4 * (d / 4 % 2))) (zc_a4 d hd) ?_
    refine nv_if_eq (tgt := 76) (by omega) hx hb dX0_passes_57 (by decide) (fun c57 => ?_) (fun c57 => ?_)
    · refine lv_iconst (v := nI 1) hx hb dX0_passes_76 (by decide) ?_
      refine lv_goto (tgt := 81) hx hb dX0_passes_77 (by decide) ?_
      refine cv_top (b := nI (decide (d / 4 % 2 = 0) || decide (f / 2 ^ (9 + p / 20) % 2 = 1)).toNat) (by by_cases q1 : d / 4 % 2 = 0 <;> by_cases q2 : f / 2 ^ (9 + p / 20) % 2 = 1 <;> simp [q1, q2] <;> omega) ?_
      exact j81 _ _ _ _ _ _ rfl hP hS hl
    · refine lv_iload_n hx hb dX0_passes_60 rfl (lv_at hl 4 rfl) ?_
      refine lv_bipush (v := nI 9) hx hb dX0_passes_61 (by decide) ?_
      refine lv_aload_n hx hb dX0_passes_63 rfl (lv_at hl 2 rfl) ?_
      refine lv_iload_n hx hb dX0_passes_64 rfl (lv_at hl 3 rfl) ?_
      refine zz_callR (As := [.int (nI p)]) (rest := [.int (nI 9), .int (nI f)]) S hK hP hS (met0_month l D ad dA n F p (by omega)) (cwX0_month hts (by decide)) (cv_recv hK hP) rfl hl.1 rfl (Nat.le_of_ble_eq_true rfl) dX0_passes_65 ⟨Nat.le_refl 0, Nat.le_refl 0⟩ (fun r65 H locs hr65 hP hS => ?_)
      subst hr65
      refine lv_iadd hx hb dX0_passes_68 ?_
      refine cv_top (nI_add _ _) ?_
      refine lv_ishr hx hb dX0_passes_69 ?_
      refine lv_iconst (v := nI 1) hx hb dX0_passes_70 (by decide) ?_
      refine lv_iand hx hb dX0_passes_71 ?_
      refine cv_top (b := nI (f / 2 ^ (9 + p / 20) % 2)) (zc_bit (by omega) (by omega)) ?_
      refine lv_iconst (v := nI 1) hx hb dX0_passes_72 (by decide) ?_
      refine nv_icmp_ne (tgt := 80) (by omega) (by omega) hx hb dX0_passes_73 (by decide) (fun c73 => ?_) (fun c73 => ?_)
      · refine lv_iconst (v := nI 0) hx hb dX0_passes_80 (by decide) ?_
        refine cv_top (b := nI (decide (d / 4 % 2 = 0) || decide (f / 2 ^ (9 + p / 20) % 2 = 1)).toNat) (by by_cases q1 : d / 4 % 2 = 0 <;> by_cases q2 : f / 2 ^ (9 + p / 20) % 2 = 1 <;> simp [q1, q2] <;> omega) ?_
        exact j81 _ _ _ _ _ _ rfl hP hS hl
      · refine lv_iconst (v := nI 1) hx hb dX0_passes_76 (by decide) ?_
        refine lv_goto (tgt := 81) hx hb dX0_passes_77 (by decide) ?_
        refine cv_top (b := nI (decide (d / 4 % 2 = 0) || decide (f / 2 ^ (9 + p / 20) % 2 = 1)).toNat) (by by_cases q1 : d / 4 % 2 = 0 <;> by_cases q2 : f / 2 ^ (9 + p / 20) % 2 = 1 <;> simp [q1, q2] <;> omega) ?_
        exact j81 _ _ _ _ _ _ rfl hP hS hl
  have j24 : ∀ (H : Heap) (locs : List Loc) (ls : Array Slot), va_P D vwCl (cvw ad dA n F) H → va_S (fun _ => False) s.heap H locs → lv_has ls 7 [(0, .ref (ad 0)), (1, .int (nI p)), (2, .int (nI f)), (3, .int (nI d))] → W pr l e (rmL 1) s m args below meth c H locs 0 0 Q (F0 m 24 ls [.int (nI ((decide (d % 2 = 0) || decide (f / 2 ^ (p % 4) % 2 = 1)).toNat))]) := by
    intro  H locs ls  hP hS hl
    refine lv_istore (lv' := [(4, .int (nI ((decide (d % 2 = 0) || decide (f / 2 ^ (p % 4) % 2 = 1)).toNat))), (0, .ref (ad 0)), (1, .int (nI p)), (2, .int (nI f)), (3, .int (nI d))]) hx hb dX0_passes_24 hl (by decide) rfl (fun ls hl => ?_)
    refine lv_iload_n hx hb dX0_passes_26 rfl (lv_at hl 4 rfl) ?_
    refine lv_iconst (v := nI 2) hx hb dX0_passes_27 (by decide) ?_
    refine lv_iand hx hb dX0_passes_28 ?_
    refine cv_top (b := nI (2 * (d / 2 % 2))) (zc_a2 d hd) ?_
    refine nv_if_eq (tgt := 47) (by omega) hx hb dX0_passes_29 (by decide) (fun c29 => ?_) (fun c29 => ?_)
    · refine lv_iconst (v := nI 1) hx hb dX0_passes_47 (by decide) ?_
      refine lv_goto (tgt := 52) hx hb dX0_passes_48 (by decide) ?_
      refine cv_top (b := nI (decide (d / 2 % 2 = 0) || decide (f / 2 ^ (4 + p / 4 % 5) % 2 = 1)).toNat) (by by_cases q1 : d / 2 % 2 = 0 <;> by_cases q2 : f / 2 ^ (4 + p / 4 % 5) % 2 = 1 <;> simp [q1, q2] <;> omega) ?_
      exact j52 _ _ _ hP hS hl
    · refine lv_iload_n hx hb dX0_passes_32 rfl (lv_at hl 3 rfl) ?_
      refine lv_iconst (v := nI 4) hx hb dX0_passes_33 (by decide) ?_
      refine lv_aload_n hx hb dX0_passes_34 rfl (lv_at hl 1 rfl) ?_
      refine lv_iload_n hx hb dX0_passes_35 rfl (lv_at hl 2 rfl) ?_
      refine zz_callR (As := [.int (nI p)]) (rest := [.int (nI 4), .int (nI f)]) S hK hP hS (met0_kind l D ad dA n F p (by omega)) (cwX0_kind hts (by decide)) (cv_recv hK hP) rfl hl.1 rfl (Nat.le_of_ble_eq_true rfl) dX0_passes_36 ⟨Nat.le_refl 0, Nat.le_refl 0⟩ (fun r36 H locs hr36 hP hS => ?_)
      subst hr36
      refine lv_iadd hx hb dX0_passes_39 ?_
      refine cv_top (nI_add _ _) ?_
      refine lv_ishr hx hb dX0_passes_40 ?_
      refine lv_iconst (v := nI 1) hx hb dX0_passes_41 (by decide) ?_
      refine lv_iand hx hb dX0_passes_42 ?_
      refine cv_top (b := nI (f / 2 ^ (4 + p / 4 % 5) % 2)) (zc_bit (by omega) (by omega)) ?_
      refine lv_iconst (v := nI 1) hx hb dX0_passes_43 (by decide) ?_
      refine nv_icmp_ne (tgt := 51) (by omega) (by omega) hx hb dX0_passes_44 (by decide) (fun c44 => ?_) (fun c44 => ?_)
      · refine lv_iconst (v := nI 0) hx hb dX0_passes_51 (by decide) ?_
        refine cv_top (b := nI (decide (d / 2 % 2 = 0) || decide (f / 2 ^ (4 + p / 4 % 5) % 2 = 1)).toNat) (by by_cases q1 : d / 2 % 2 = 0 <;> by_cases q2 : f / 2 ^ (4 + p / 4 % 5) % 2 = 1 <;> simp [q1, q2] <;> omega) ?_
        exact j52 _ _ _ hP hS hl
      · refine lv_iconst (v := nI 1) hx hb dX0_passes_47 (by decide) ?_
        refine lv_goto (tgt := 52) hx hb dX0_passes_48 (by decide) ?_
        refine cv_top (b := nI (decide (d / 2 % 2 = 0) || decide (f / 2 ^ (4 + p / 4 % 5) % 2 = 1)).toNat) (by by_cases q1 : d / 2 % 2 = 0 <;> by_cases q2 : f / 2 ^ (4 + p / 4 % 5) % 2 = 1 <;> simp [q1, q2] <;> omega) ?_
        exact j52 _ _ _ hP hS hl
  refine lv_iload_n hx hb dX0_passes_0 rfl (lv_at hl 3 rfl) ?_
  refine lv_iconst (v := nI 1) hx hb dX0_passes_1 (by decide) ?_
  refine lv_iand hx hb dX0_passes_2 ?_
  refine cv_top (b := nI (d % 2)) (zc_a1 d hd) ?_
  refine nv_if_eq (tgt := 19) (by omega) hx hb dX0_passes_3 (by decide) (fun c3 => ?_) (fun c3 => ?_)
  · refine lv_iconst (v := nI 1) hx hb dX0_passes_19 (by decide) ?_
    refine lv_goto (tgt := 24) hx hb dX0_passes_20 (by decide) ?_
    refine cv_top (b := nI (decide (d % 2 = 0) || decide (f / 2 ^ (p % 4) % 2 = 1)).toNat) (by by_cases q1 : d % 2 = 0 <;> by_cases q2 : f / 2 ^ (p % 4) % 2 = 1 <;> simp [q1, q2] <;> omega) ?_
    exact j24 _ _ _ hP hS hl
  · refine lv_iload_n hx hb dX0_passes_6 rfl (lv_at hl 2 rfl) ?_
    refine lv_aload_n hx hb dX0_passes_7 rfl (lv_at hl 0 rfl) ?_
    refine lv_iload_n hx hb dX0_passes_8 rfl (lv_at hl 1 rfl) ?_
    refine zz_callR (As := [.int (nI p)]) (rest := [.int (nI f)]) S hK hP hS (met0_region l D ad dA n F p (by omega)) (cwX0_region hts (by decide)) (cv_recv hK hP) rfl hl.1 rfl (Nat.le_of_ble_eq_true rfl) dX0_passes_9 ⟨Nat.le_refl 0, Nat.le_refl 0⟩ (fun r9 H locs hr9 hP hS => ?_)
    subst hr9
    refine lv_ishr hx hb dX0_passes_12 ?_
    refine lv_iconst (v := nI 1) hx hb dX0_passes_13 (by decide) ?_
    refine lv_iand hx hb dX0_passes_14 ?_
    refine cv_top (b := nI (f / 2 ^ (p % 4) % 2)) (zc_bit (by omega) (by omega)) ?_
    refine lv_iconst (v := nI 1) hx hb dX0_passes_15 (by decide) ?_
    refine nv_icmp_ne (tgt := 23) (by omega) (by omega) hx hb dX0_passes_16 (by decide) (fun c16 => ?_) (fun c16 => ?_)
    · refine lv_iconst (v := nI 0) hx hb dX0_passes_23 (by decide) ?_
      refine cv_top (b := nI (decide (d % 2 = 0) || decide (f / 2 ^ (p % 4) % 2 = 1)).toNat) (by by_cases q1 : d % 2 = 0 <;> by_cases q2 : f / 2 ^ (p % 4) % 2 = 1 <;> simp [q1, q2] <;> omega) ?_
      exact j24 _ _ _ hP hS hl
    · refine lv_iconst (v := nI 1) hx hb dX0_passes_19 (by decide) ?_
      refine lv_goto (tgt := 24) hx hb dX0_passes_20 (by decide) ?_
      refine cv_top (b := nI (decide (d % 2 = 0) || decide (f / 2 ^ (p % 4) % 2 = 1)).toNat) (by by_cases q1 : d % 2 = 0 <;> by_cases q2 : f / 2 ^ (p % 4) % 2 = 1 <;> simp [q1, q2] <;> omega) ?_
      exact j24 _ _ _ hP hS hl
end
section
set_option maxRecDepth 100000
/-! plain steps of the loops -/
theorem zc_max_keep {S S' : Nat → Prop} {am : Nat → Int32} {n : Nat} {r : Int32} (h : zc_max S am n r) (h1 : ∀ i, i < n → S i → S' i) (h2 : ∀ i, i < n → S' i → ¬ S i → am i ≤ r) : zc_max S' am n r := by
  obtain ⟨a, b, c⟩ := h
  refine ⟨a, fun i hi hs => ?_, ?_⟩
  · by_cases q : S i
    · exact b i hi q
    · exact h2 i hi hs q
  · rcases c with c | ⟨i, hi, hs, e⟩
    · exact Or.inl c
    · exact Or.inr ⟨i, hi, h1 i hi hs, e⟩
theorem zc_max_new {S S' : Nat → Prop} {am : Nat → Int32} {n j : Nat} {r : Int32} (h : zc_max S am n r) (hj : j < n) (hs : S' j) (hr : ¬ am j ≤ r) (h2 : ∀ i, i < n → S' i → ¬ S i → am i ≤ am j) : zc_max S' am n (am j) := by
  obtain ⟨a, b, c⟩ := h
  have hr : r ≤ am j := Int32.le_of_lt (Int32.not_le.mp hr)
  refine ⟨Int32.le_trans a hr, fun i hi hs => ?_, Or.inr ⟨j, hj, hs, rfl⟩⟩
  by_cases q : S i
  · exact Int32.le_trans (b i hi q) hr
  · exact h2 i hi hs q
theorem zc_max_un {S S2 S' : Nat → Prop} {am : Nat → Int32} {n : Nat} {r r2 : Int32} (h : zc_max S am n r) (h2 : zc_max S2 am n r2) (hle : r2 ≤ r) (hs : ∀ i, i < n → (S' i ↔ S i ∨ S2 i)) : zc_max S' am n r := by
  refine zc_max_keep h (fun i hi q => (hs i hi).mpr (Or.inl q)) (fun i hi q q2 => ?_)
  rcases (hs i hi).mp q with q | q
  · exact absurd q q2
  · exact Int32.le_trans (h2.2.1 i hi q) hle
theorem zc_max_congr {S S' : Nat → Prop} {am : Nat → Int32} {n : Nat} {r : Int32} (h : zc_max S am n r) (hs : ∀ i, i < n → (S' i ↔ S i)) : zc_max S' am n r := zc_max_keep h (fun i hi q => (hs i hi).mpr q) (fun i hi q q2 => absurd ((hs i hi).mp q) q2)
/-- enter, as far as grouping k -/
def zc_ent (F F' : Nat → Nat → Int32) (p : Nat) (a b : Int32) (k : Nat) : Prop := (∀ j, j ≠ 6 → j ≠ 7 → F' j = F j) ∧ ∀ g, g < 8 → ∀ q, q < 120 → F' 6 (120 * g + q) = (if g < k ∧ F 5 g ≠ 0 ∧ q = zc_grp p g then F 6 (120 * g + q) + a else F 6 (120 * g + q)) ∧ F' 7 (120 * g + q) = (if g < k ∧ F 5 g ≠ 0 ∧ q = zc_grp p g then F 7 (120 * g + q) + b else F 7 (120 * g + q))
theorem zc_ent_0 (F : Nat → Nat → Int32) (p : Nat) (a b : Int32) : zc_ent F F p a b 0 := ⟨fun _ _ _ => rfl, fun g _ q _ => by simp⟩
theorem zc_ent_skip {F F1 : Nat → Nat → Int32} {p : Nat} {a b : Int32} {g : Nat} (h : zc_ent F F1 p a b g) (h5 : F1 5 g = 0) : zc_ent F F1 p a b (g + 1) := by
  obtain ⟨h1, h2⟩ := h
  refine ⟨h1, fun x hx q hq => ?_⟩
  have e5 : F 5 g = 0 := by rw [← h1 5 (by decide) (by decide)]; exact h5
  obtain ⟨a1, a2⟩ := h2 x hx q hq
  rw [a1, a2]
  by_cases hxg : x = g
  · subst hxg
    simp [e5]
  · have : (x < g + 1) ↔ (x < g) := by omega
    simp [this]
theorem zc_ent_step {F F1 F2 F3 : Nat → Nat → Int32} {p : Nat} {a b : Int32} {g : Nat} (h : zc_ent F F1 p a b g) (hg : g < 8) (hp : p < 120) (h5 : ¬ F1 5 g = 0) (e2 : F2 = sw F1 6 (upd (F1 6) (120 * g + zc_grp p g) (F1 6 (120 * g + zc_grp p g) + a))) (e3 : F3 = sw F2 7 (upd (F2 7) (120 * g + zc_grp p g) (F2 7 (120 * g + zc_grp p g) + b))) : zc_ent F F3 p a b (g + 1) := by
  obtain ⟨h1, h2⟩ := h
  have hl := zc_grp_lt (p := p) g hp
  have e5 : F 5 g ≠ 0 := by rw [← h1 5 (by decide) (by decide)]; exact h5
  have k6 : F3 6 = upd (F1 6) (120 * g + zc_grp p g) (F1 6 (120 * g + zc_grp p g) + a) := by rw [e3, sw_n (by decide), e2, sw_s]
  have k7 : F3 7 = upd (F1 7) (120 * g + zc_grp p g) (F1 7 (120 * g + zc_grp p g) + b) := by rw [e3, sw_s, e2, sw_n (by decide)]
  refine ⟨fun j h6 h7 => by rw [e3, sw_n h7, e2, sw_n h6]; exact h1 j h6 h7, fun x hx q hq => ?_⟩
  obtain ⟨a1, a2⟩ := h2 x hx q hq
  rw [k6, k7]
  by_cases hxg : x = g
  · subst hxg
    by_cases hqg : q = zc_grp p x
    · subst hqg
      rw [pk_us, pk_us, a1, a2]
      simp [e5]
    · rw [pk_un (by omega), pk_un (by omega), a1, a2]
      simp [hqg]
  · rw [pk_un (by omega), pk_un (by omega), a1, a2]
    have : (x < g + 1) ↔ (x < g) := by omega
    simp [this]
/-- fill: zeros, as far as place k -/
def zc_zer (F F' : Nat → Nat → Int32) (g k : Nat) : Prop := (∀ j, j ≠ 6 → j ≠ 7 → F' j = F j) ∧ (∀ h, h ≠ g → ∀ q, q < 120 → F' 6 (120 * h + q) = F 6 (120 * h + q) ∧ F' 7 (120 * h + q) = F 7 (120 * h + q)) ∧ ∀ q, q < k → F' 6 (120 * g + q) = 0 ∧ F' 7 (120 * g + q) = 0
theorem zc_zer_0 (F : Nat → Nat → Int32) (g : Nat) : zc_zer F F g 0 := ⟨fun _ _ _ => rfl, fun _ _ _ _ => ⟨rfl, rfl⟩, fun q hq => by omega⟩
theorem zc_zer_step {F F1 F2 F3 : Nat → Nat → Int32} {g k : Nat} (h : zc_zer F F1 g k) (hk : k < 120) (e2 : F2 = sw F1 6 (upd (F1 6) (120 * g + k) (nI 0))) (e3 : F3 = sw F2 7 (upd (F2 7) (120 * g + k) (nI 0))) : zc_zer F F3 g (k + 1) := by
  obtain ⟨h1, h2, h3⟩ := h
  have k6 : F3 6 = upd (F1 6) (120 * g + k) (nI 0) := by rw [e3, sw_n (by decide), e2, sw_s]
  have k7 : F3 7 = upd (F1 7) (120 * g + k) (nI 0) := by rw [e3, sw_s, e2, sw_n (by decide)]
  refine ⟨fun j h6 h7 => by rw [e3, sw_n h7, e2, sw_n h6]; exact h1 j h6 h7, fun x hx q hq => ?_, fun q hq => ?_⟩
  · rw [k6, k7, pk_un (by omega), pk_un (by omega)]
    exact h2 x hx q hq
  · rw [k6, k7]
    by_cases hqk : q = k
    · subst hqk
      rw [pk_us, pk_us]
      exact ⟨nI_0, nI_0⟩
    · rw [pk_un (by omega), pk_un (by omega)]
      exact h3 q (by omega)
/-- fill: the cells of grouping g hold the first k facts -/
def zc_fil (F F' : Nat → Nat → Int32) (pl : Nat → Nat) (am : Nat → Int32) (g k : Nat) : Prop := (∀ j, j ≠ 6 → j ≠ 7 → F' j = F j) ∧ (∀ h, h ≠ g → ∀ q, q < 120 → F' 6 (120 * h + q) = F 6 (120 * h + q) ∧ F' 7 (120 * h + q) = F 7 (120 * h + q)) ∧ ∀ q, q < 120 → F' 6 (120 * g + q) = nI (zc_cnt (zc_at pl g q) k) ∧ F' 7 (120 * g + q) = zc_sum (zc_at pl g q) am k
theorem zc_fil_0 {F F1 : Nat → Nat → Int32} {g : Nat} (pl : Nat → Nat) (am : Nat → Int32) (h : zc_zer F F1 g 120) : zc_fil F F1 pl am g 0 := by
  obtain ⟨h1, h2, h3⟩ := h
  refine ⟨h1, h2, fun q hq => ?_⟩
  obtain ⟨a1, a2⟩ := h3 q hq
  exact ⟨by rw [a1]; exact nI_0.symm, by rw [a2]; rfl⟩
theorem zc_fil_step {F F1 F2 F3 : Nat → Nat → Int32} {pl : Nat → Nat} {am : Nat → Int32} {g k : Nat} (h : zc_fil F F1 pl am g k) (hp : pl k < 120) (e2 : F2 = sw F1 6 (upd (F1 6) (120 * g + zc_grp (pl k) g) (F1 6 (120 * g + zc_grp (pl k) g) + nI 1))) (e3 : F3 = sw F2 7 (upd (F2 7) (120 * g + zc_grp (pl k) g) (F2 7 (120 * g + zc_grp (pl k) g) + am k))) : zc_fil F F3 pl am g (k + 1) := by
  obtain ⟨h1, h2, h3⟩ := h
  have hl := zc_grp_lt (p := pl k) g hp
  have k6 : F3 6 = upd (F1 6) (120 * g + zc_grp (pl k) g) (F1 6 (120 * g + zc_grp (pl k) g) + nI 1) := by rw [e3, sw_n (by decide), e2, sw_s]
  have k7 : F3 7 = upd (F1 7) (120 * g + zc_grp (pl k) g) (F1 7 (120 * g + zc_grp (pl k) g) + am k) := by rw [e3, sw_s, e2, sw_n (by decide)]
  refine ⟨fun j h6 h7 => by rw [e3, sw_n h7, e2, sw_n h6]; exact h1 j h6 h7, fun x hx q hq => ?_, fun q hq => ?_⟩
  · rw [k6, k7, pk_un (by omega), pk_un (by omega)]
    exact h2 x hx q hq
  · obtain ⟨a1, a2⟩ := h3 q hq
    rw [k6, k7]
    simp only [zc_cnt, zc_sum]
    by_cases hqg : q = zc_grp (pl k) g
    · have ht : zc_at pl g q k = true := by simp [zc_at, hqg]
      rw [ht, if_pos rfl, if_pos rfl, ← nI_add, ← a1, ← a2, hqg, pk_us, pk_us]
      exact ⟨rfl, rfl⟩
    · have ht : zc_at pl g q k = false := by simp [zc_at]; omega
      rw [ht, pk_un (by omega), pk_un (by omega), a1, a2]
      exact ⟨rfl, by simp⟩
/-- note -/
def zc_nt (F F' : Nat → Nat → Int32) (q : Nat) (a b : Int32) : Prop := (∀ j, j ≠ 8 → j ≠ 9 → F' j = F j) ∧ F' 8 = upd (F 8) q (F 8 q + a) ∧ F' 9 = upd (F 9) q (F 9 q + b)
theorem zc_nt_of {F F2 F3 : Nat → Nat → Int32} {q : Nat} {a b : Int32} (e2 : F2 = sw F 8 (upd (F 8) q (F 8 q + a))) (e3 : F3 = sw F2 9 (upd (F2 9) q (F2 9 q + b))) : zc_nt F F3 q a b := by
  refine ⟨fun j h8 h9 => by rw [e3, sw_n h9, e2, sw_n h8], by rw [e3, sw_n (by decide), e2, sw_s], ?_⟩
  rw [e3, sw_s, e2, sw_n (by decide)]
/-- gather: zeros, as far as place k -/
def zc_zg (F F' : Nat → Nat → Int32) (k : Nat) : Prop := (∀ j, j ≠ 8 → j ≠ 9 → F' j = F j) ∧ ∀ q, q < k → F' 8 q = 0 ∧ F' 9 q = 0
theorem zc_zg_0 (F : Nat → Nat → Int32) : zc_zg F F 0 := ⟨fun _ _ _ => rfl, fun q hq => by omega⟩
theorem zc_zg_step {F F1 F2 F3 : Nat → Nat → Int32} {k : Nat} (h : zc_zg F F1 k) (e2 : F2 = sw F1 8 (upd (F1 8) k (nI 0))) (e3 : F3 = sw F2 9 (upd (F2 9) k (nI 0))) : zc_zg F F3 (k + 1) := by
  obtain ⟨h1, h3⟩ := h
  have k6 : F3 8 = upd (F1 8) k (nI 0) := by rw [e3, sw_n (by decide), e2, sw_s]
  have k7 : F3 9 = upd (F1 9) k (nI 0) := by rw [e3, sw_s, e2, sw_n (by decide)]
  refine ⟨fun j h6 h7 => by rw [e3, sw_n h7, e2, sw_n h6]; exact h1 j h6 h7, fun q hq => ?_⟩
  rw [k6, k7]
  by_cases hqk : q = k
  · subst hqk
    rw [pk_us, pk_us]
    exact ⟨nI_0, nI_0⟩
  · rw [pk_un hqk, pk_un hqk]
    exact h3 q (by omega)
/-- gather, from the facts: the first k -/
def zc_gat (F F' : Nat → Nat → Int32) (pl : Nat → Nat) (am : Nat → Int32) (G f k : Nat) : Prop := (∀ j, j ≠ 8 → j ≠ 9 → F' j = F j) ∧ ∀ q, q < 120 → F' 8 q = nI (zc_cnt (zc_sel pl G f q) k) ∧ F' 9 q = zc_sum (zc_sel pl G f q) am k
theorem zc_gat_0 {F F1 : Nat → Nat → Int32} (pl : Nat → Nat) (am : Nat → Int32) (G f : Nat) (h : zc_zg F F1 120) : zc_gat F F1 pl am G f 0 := by
  obtain ⟨h1, h3⟩ := h
  refine ⟨h1, fun q hq => ?_⟩
  obtain ⟨a1, a2⟩ := h3 q hq
  exact ⟨by rw [a1]; exact nI_0.symm, by rw [a2]; rfl⟩
theorem zc_gat_skip {F F1 : Nat → Nat → Int32} {pl : Nat → Nat} {am : Nat → Int32} {G f k : Nat} (h : zc_gat F F1 pl am G f k) (hp : zc_ps (pl k) f 7 = false) : zc_gat F F1 pl am G f (k + 1) := by
  obtain ⟨h1, h3⟩ := h
  refine ⟨h1, fun q hq => ?_⟩
  obtain ⟨a1, a2⟩ := h3 q hq
  have ht : zc_sel pl G f q k = false := by simp [zc_sel, hp]
  simp only [zc_cnt, zc_sum]
  rw [ht, a1, a2]
  exact ⟨rfl, by simp⟩
theorem zc_gat_step {F F1 F2 : Nat → Nat → Int32} {pl : Nat → Nat} {am : Nat → Int32} {G f k : Nat} (h : zc_gat F F1 pl am G f k) (hp : zc_ps (pl k) f 7 = true) (hn : zc_nt F1 F2 (zc_grp (pl k) G) (nI 1) (am k)) : zc_gat F F2 pl am G f (k + 1) := by
  obtain ⟨h1, h3⟩ := h
  obtain ⟨n1, n8, n9⟩ := hn
  refine ⟨fun j h8 h9 => (n1 j h8 h9).trans (h1 j h8 h9), fun q hq => ?_⟩
  obtain ⟨a1, a2⟩ := h3 q hq
  rw [n8, n9]
  simp only [zc_cnt, zc_sum]
  by_cases hqg : q = zc_grp (pl k) G
  · have ht : zc_sel pl G f q k = true := by simp [zc_sel, hqg, hp]
    rw [ht, if_pos rfl, if_pos rfl, ← nI_add, ← a1, ← a2, hqg, pk_us, pk_us]
    exact ⟨rfl, rfl⟩
  · have ht : zc_sel pl G f q k = false := by simp [zc_sel]; omega
    rw [ht, pk_un hqg, pk_un hqg, a1, a2]
    exact ⟨rfl, by simp⟩
/-- gather, from the summary g: its cells as far as place k -/
def zc_gab (F F' : Nat → Nat → Int32) (n : Nat) (pl : Nat → Nat) (am : Nat → Int32) (g G f k : Nat) : Prop := (∀ j, j ≠ 8 → j ≠ 9 → F' j = F j) ∧ ∀ q, q < 120 → F' 8 q = nI (zc_cnt (zc_part pl g k G f q) n) ∧ F' 9 q = zc_sum (zc_part pl g k G f q) am n
theorem zc_gab_0 {F F1 : Nat → Nat → Int32} (n : Nat) (pl : Nat → Nat) (am : Nat → Int32) (g G f : Nat) (h : zc_zg F F1 120) : zc_gab F F1 n pl am g G f 0 := by
  obtain ⟨h1, h3⟩ := h
  refine ⟨h1, fun q hq => ?_⟩
  obtain ⟨a1, a2⟩ := h3 q hq
  have hf : ∀ i, i < n → zc_part pl g 0 G f q i = false := fun i _ => by simp [zc_part]
  exact ⟨by rw [a1, zc_cnt_false hf]; exact nI_0.symm, by rw [a2, zc_sum_false hf]⟩
theorem zc_gab_end {F F1 : Nat → Nat → Int32} {n : Nat} {pl : Nat → Nat} {am : Nat → Int32} {g G f : Nat} (h : zc_gab F F1 n pl am g G f 120) (hp : ∀ i, i < n → pl i < 120) : zc_gat F F1 pl am G f n := by
  obtain ⟨h1, h3⟩ := h
  refine ⟨h1, fun q hq => ?_⟩
  obtain ⟨a1, a2⟩ := h3 q hq
  have hf : ∀ i, i < n → zc_part pl g 120 G f q i = zc_sel pl G f q i := fun i hi => by simp [zc_part, zc_grp_lt g (hp i hi)]
  exact ⟨by rw [a1, zc_cnt_congr hf], by rw [a2, zc_sum_congr hf (fun _ _ => rfl)]⟩
/-- what a summary must part by -/
def zc_needs (f G d g : Nat) : Prop := (d % 2 = 1 → g % 2 = 1) ∧ (d / 2 % 2 = 1 → g / 2 % 2 = 1) ∧ (d / 4 % 2 = 1 → g / 4 % 2 = 1) ∧ (d % 2 = 0 → f % 16 = 15 ∧ G % 2 = 0) ∧ (d / 2 % 2 = 0 → f / 16 % 32 = 31 ∧ G / 2 % 2 = 0) ∧ (d / 4 % 2 = 0 → f / 512 = 63 ∧ G / 4 % 2 = 0)
theorem zc_gab_split {n : Nat} {pl : Nat → Nat} {am : Nat → Int32} {g G f d k q : Nat} (hp : ∀ i, i < n → pl i < 120) (hN : zc_needs f G d g) : zc_cnt (zc_part pl g (k + 1) G f q) n = zc_cnt (zc_part pl g k G f q) n + (if q = zc_grp k G ∧ zc_ps k f d = true then zc_cnt (zc_at pl g k) n else 0) ∧ zc_sum (zc_part pl g (k + 1) G f q) am n = zc_sum (zc_part pl g k G f q) am n + (if q = zc_grp k G ∧ zc_ps k f d = true then zc_sum (zc_at pl g k) am n else 0) := by
  obtain ⟨b1, b2, b4, c1, c2, c4⟩ := hN
  have d1 : G % 2 = 1 → g % 2 = 1 := fun h => by
    by_cases w : d % 2 = 0
    · have := (c1 w).2
      omega
    · exact b1 (by omega)
  have d2 : G / 2 % 2 = 1 → g / 2 % 2 = 1 := fun h => by
    by_cases w : d / 2 % 2 = 0
    · have := (c2 w).2
      omega
    · exact b2 (by omega)
  have d4 : G / 4 % 2 = 1 → g / 4 % 2 = 1 := fun h => by
    by_cases w : d / 4 % 2 = 0
    · have := (c4 w).2
      omega
    · exact b4 (by omega)
  have hg : ∀ i, i < n → zc_grp (zc_grp (pl i) g) G = zc_grp (pl i) G := fun i hi => zc_grp_grp (hp i hi) d1 d2 d4
  have hs : ∀ i, i < n → zc_ps (zc_grp (pl i) g) f d = zc_ps (pl i) f 7 := fun i hi => zc_ps_grp (hp i hi) b1 b2 b4 (fun h => (c1 h).1) (fun h => (c2 h).1) (fun h => (c4 h).1)
  have hB : ∀ i, i < n → (decide (zc_grp (pl i) g = k) && zc_sel pl G f q i) = (if q = zc_grp k G ∧ zc_ps k f d = true then zc_at pl g k i else false) := by
    intro i hi
    by_cases e : zc_grp (pl i) g = k
    · have e1 := hg i hi
      have e2 := hs i hi
      rw [e] at e1 e2
      simp only [zc_sel, zc_at, e, ← e1, ← e2, decide_true, Bool.true_and]
      by_cases w1 : q = zc_grp k G
      · cases w2 : zc_ps k f d <;> simp [w1]
      · have w3 : ¬ zc_grp k G = q := fun h => w1 h.symm
        simp [w1, w3]
    · simp [zc_at, e]
  have hor : ∀ i, i < n → zc_part pl g (k + 1) G f q i = (zc_part pl g k G f q i || (decide (zc_grp (pl i) g = k) && zc_sel pl G f q i)) := by
    intro i hi
    simp only [zc_part]
    by_cases e : zc_grp (pl i) g = k
    · simp [e]
    · have : (zc_grp (pl i) g < k + 1) ↔ (zc_grp (pl i) g < k) := by omega
      simp [e, this]
  have hdis : ∀ i, i < n → zc_part pl g k G f q i = true → (decide (zc_grp (pl i) g = k) && zc_sel pl G f q i) = true → False := by
    intro i hi h1 h2
    simp [zc_part] at h1 h2
    omega
  refine ⟨?_, ?_⟩
  · rw [zc_cnt_or hor hdis, zc_cnt_congr hB]
    split
    · rfl
    · rw [zc_cnt_false (fun _ _ => rfl)]
  · rw [zc_sum_or hor hdis, zc_sum_congr hB (fun _ _ => rfl)]
    split
    · rfl
    · rw [zc_sum_false (fun _ _ => rfl)]
theorem zc_gab_skip0 {F F1 : Nat → Nat → Int32} {n : Nat} {pl : Nat → Nat} {am : Nat → Int32} {g G f d k : Nat} (h : zc_gab F F1 n pl am g G f k) (hp : ∀ i, i < n → pl i < 120) (hN : zc_needs f G d g) (h0 : zc_cnt (zc_at pl g k) n = 0) : zc_gab F F1 n pl am g G f (k + 1) := by
  obtain ⟨h1, h3⟩ := h
  refine ⟨h1, fun q hq => ?_⟩
  obtain ⟨a1, a2⟩ := h3 q hq
  obtain ⟨s1, s2⟩ := zc_gab_split (am := am) (k := k) (q := q) hp hN
  rw [s1, s2, h0, zc_sum_false (zc_cnt_none h0), a1, a2]
  simp
theorem zc_gab_skip {F F1 : Nat → Nat → Int32} {n : Nat} {pl : Nat → Nat} {am : Nat → Int32} {g G f d k : Nat} (h : zc_gab F F1 n pl am g G f k) (hp : ∀ i, i < n → pl i < 120) (hN : zc_needs f G d g) (h0 : zc_ps k f d = false) : zc_gab F F1 n pl am g G f (k + 1) := by
  obtain ⟨h1, h3⟩ := h
  refine ⟨h1, fun q hq => ?_⟩
  obtain ⟨a1, a2⟩ := h3 q hq
  obtain ⟨s1, s2⟩ := zc_gab_split (am := am) (k := k) (q := q) hp hN
  rw [s1, s2, h0, a1, a2]
  simp
theorem zc_gab_step {F F1 F2 : Nat → Nat → Int32} {n : Nat} {pl : Nat → Nat} {am : Nat → Int32} {g G f d k : Nat} {a b : Int32} (h : zc_gab F F1 n pl am g G f k) (hp : ∀ i, i < n → pl i < 120) (hN : zc_needs f G d g) (h0 : zc_ps k f d = true) (hn : zc_nt F1 F2 (zc_grp k G) a b) (ea : a = nI (zc_cnt (zc_at pl g k) n)) (eb : b = zc_sum (zc_at pl g k) am n) : zc_gab F F2 n pl am g G f (k + 1) := by
  obtain ⟨h1, h3⟩ := h
  obtain ⟨n1, n8, n9⟩ := hn
  refine ⟨fun j h8 h9 => (n1 j h8 h9).trans (h1 j h8 h9), fun q hq => ?_⟩
  obtain ⟨a1, a2⟩ := h3 q hq
  obtain ⟨s1, s2⟩ := zc_gab_split (am := am) (k := k) (q := q) hp hN
  rw [n8, n9, s1, s2]
  by_cases hqg : q = zc_grp k G
  · rw [if_pos ⟨hqg, h0⟩, if_pos ⟨hqg, h0⟩, ← nI_add, ← a1, ← a2, ← ea, ← eb, hqg, pk_us, pk_us]
    exact ⟨rfl, rfl⟩
  · rw [if_neg (fun w => hqg w.1), if_neg (fun w => hqg w.1), pk_un hqg, pk_un hqg, a1, a2]
    simp
end
section
set_option maxRecDepth 100000
set_option maxHeartbeats 4000000 in
theorem met0_smallest (l : Launch) (D : va_G) (ad : Nat → Nat) (dA : Nat → ClassId) (n : Nat) (F : Nat → Nat → Int32) (d : Nat) (hd : d < 8) : Met l yX0_smallest (ws_ yX0_smallest cX0_smallest 4 (some .int)) (rmL 1) (va_Pc [.ref (ad 0), .int (nI d)] (Pw D (cvw ad dA n F) (cvT dA))) (Qr (fun r => (r = (-1) ∨ ∃ b, b < 8 ∧ r = nI b ∧ F 5 b ≠ 0 ∧ b &&& d = d))) 0 0 (fun _ => False) := by
  refine zz_mkR (by decide) rfl (Nat.le_of_ble_eq_true rfl) ?_
  intro pr e s m args below meth c Q ls S hpre hl hret
  obtain ⟨hP, hK⟩ := hpre
  have hx := S.1
  have hb := S.2.1
  have hown : s.vm.findClass RX0 = some m.cls := S.2.2.2.1
  have hts := S.2.2.2.2
  have hS : va_S (fun _ => False) s.heap s.heap [] := va_S.rf
  have hl : lv_has ls 4 [(0, .ref (ad 0)), (1, .int (nI d))] := hl
  have L4 : ∀ (dd g : Nat) (bv : Int32) (H : Heap) (locs : List Loc) (ls : Array Slot), g ≤ 8 → 8 + 1 ≤ g + dd → (bv = (-1) ∨ ∃ b, b < 8 ∧ bv = nI b ∧ F 5 b ≠ 0 ∧ b &&& d = d) → va_P D vwCl (cvw ad dA n F) H → va_S (fun _ => False) s.heap H locs → lv_has ls 4 [(0, .ref (ad 0)), (1, .int (nI d)), (2, .int bv), (3, .int (nI g))] → W pr l e (rmL 1) s m args below meth c H locs 0 0 Q (F0 m 4 ls []) := by
    intro dd
    induction dd with
    | zero =>
      intro g bv H locs ls hle hdd
      exact absurd hdd (by omega)
    | succ dd ih =>
      intro g bv H locs ls hle hdd hv hP hS hl
      refine lv_iload_n hx hb dX0_smallest_4 rfl (lv_at hl 3 rfl) ?_
      refine lv_bipush (v := nI 8) hx hb dX0_smallest_5 (by decide) ?_
      refine nv_icmp_ge (tgt := 51) (by omega) (by omega) hx hb dX0_smallest_7 (by decide) (fun c7 => ?_) (fun c7 => ?_)
      · refine lv_iload_n hx hb dX0_smallest_51 rfl (lv_at hl 2 rfl) ?_
        exact hret _ _ _ _ _ hS (hv) dX0_smallest_52
      · refine lv_aload_n hx hb dX0_smallest_10 rfl (lv_at hl 0 rfl) ?_
        refine cv_g5 hx hb hts hown hK hP dX0_smallest_11 ?_
        refine lv_iload_n hx hb dX0_smallest_14 rfl (lv_at hl 3 rfl) ?_
        refine cv_l5 hx hb hK hP g rfl (by omega) dX0_smallest_15 ?_
        refine lv_if_eq (tgt := 45) hx hb dX0_smallest_16 (by decide) (fun c16 => ?_) (fun c16 => ?_)
        · refine lv_iinc (v := nI (g + 1)) (lv' := [(3, .int (nI (g + 1))), (0, .ref (ad 0)), (1, .int (nI d)), (2, .int bv)]) hx hb dX0_smallest_45 hl (k := 3) rfl (nI_inc) (by decide) rfl (fun ls hl => ?_)
          refine lv_goto (tgt := 4) hx hb dX0_smallest_48 (by decide) ?_
          exact ih (g + 1) bv _ _ _ (by omega) (by omega) hv hP hS (lv_sub hl [1, 2, 3, 0] rfl)
        · refine lv_iload_n hx hb dX0_smallest_19 rfl (lv_at hl 3 rfl) ?_
          refine lv_iload_n hx hb dX0_smallest_20 rfl (lv_at hl 1 rfl) ?_
          refine lv_iand hx hb dX0_smallest_21 ?_
          refine cv_top (b := nI (g &&& d)) (zc_aa g (by omega) d hd) ?_
          have hgd : g &&& d < 8 := Nat.lt_of_le_of_lt Nat.and_le_left (by omega)
          refine lv_iload_n hx hb dX0_smallest_22 rfl (lv_at hl 1 rfl) ?_
          refine nv_icmp_ne (tgt := 45) (by omega) (by omega) hx hb dX0_smallest_23 (by decide) (fun c23 => ?_) (fun c23 => ?_)
          · refine lv_iinc (v := nI (g + 1)) (lv' := [(3, .int (nI (g + 1))), (0, .ref (ad 0)), (1, .int (nI d)), (2, .int bv)]) hx hb dX0_smallest_45 hl (k := 3) rfl (nI_inc) (by decide) rfl (fun ls hl => ?_)
            refine lv_goto (tgt := 4) hx hb dX0_smallest_48 (by decide) ?_
            exact ih (g + 1) bv _ _ _ (by omega) (by omega) hv hP hS (lv_sub hl [1, 2, 3, 0] rfl)
          · refine lv_iload_n hx hb dX0_smallest_26 rfl (lv_at hl 2 rfl) ?_
            refine lv_if_lt (tgt := 43) hx hb dX0_smallest_27 (by decide) (fun c27 => ?_) (fun c27 => ?_)
            · refine lv_iload_n hx hb dX0_smallest_43 rfl (lv_at hl 3 rfl) ?_
              refine lv_istore_n (lv' := [(2, .int (nI g)), (0, .ref (ad 0)), (1, .int (nI d)), (3, .int (nI g))]) hx hb dX0_smallest_44 rfl hl (by decide) rfl (fun ls hl => ?_)
              refine lv_iinc (v := nI (g + 1)) (lv' := [(3, .int (nI (g + 1))), (2, .int (nI g)), (0, .ref (ad 0)), (1, .int (nI d))]) hx hb dX0_smallest_45 hl (k := 3) rfl (nI_inc) (by decide) rfl (fun ls hl => ?_)
              refine lv_goto (tgt := 4) hx hb dX0_smallest_48 (by decide) ?_
              exact ih (g + 1) (nI g) _ _ _ (by omega) (by omega) (Or.inr ⟨g, by omega, rfl, c16, c23⟩) hP hS (lv_sub hl [2, 3, 1, 0] rfl)
            · refine lv_aload_n hx hb dX0_smallest_30 rfl (lv_at hl 0 rfl) ?_
              refine lv_iload_n hx hb dX0_smallest_31 rfl (lv_at hl 3 rfl) ?_
              refine zz_callR (As := [.int (nI g)]) (rest := []) S hK hP hS (met0_cells l D ad dA n F (nI g)) (cwX0_cells hts (by decide)) (cv_recv hK hP) rfl hl.1 rfl (by decide) dX0_smallest_32 ⟨Nat.le_refl 0, Nat.le_refl 0⟩ (fun r32 H locs hr32 hP hS => ?_)
              refine lv_aload_n hx hb dX0_smallest_35 rfl (lv_at hl 0 rfl) ?_
              refine lv_iload_n hx hb dX0_smallest_36 rfl (lv_at hl 2 rfl) ?_
              refine zz_callR (As := [.int bv]) (rest := [.int r32]) S hK hP hS (met0_cells l D ad dA n F bv) (cwX0_cells hts (by decide)) (cv_recv hK hP) rfl hl.1 rfl (Nat.le_of_ble_eq_true rfl) dX0_smallest_37 ⟨Nat.le_refl 0, Nat.le_refl 0⟩ (fun r37 H locs hr37 hP hS => ?_)
              refine lv_icmp_ge (tgt := 45) hx hb dX0_smallest_40 (by decide) (fun c40 => ?_) (fun c40 => ?_)
              · refine lv_iinc (v := nI (g + 1)) (lv' := [(3, .int (nI (g + 1))), (0, .ref (ad 0)), (1, .int (nI d)), (2, .int bv)]) hx hb dX0_smallest_45 hl (k := 3) rfl (nI_inc) (by decide) rfl (fun ls hl => ?_)
                refine lv_goto (tgt := 4) hx hb dX0_smallest_48 (by decide) ?_
                exact ih (g + 1) bv _ _ _ (by omega) (by omega) hv hP hS (lv_sub hl [1, 2, 3, 0] rfl)
              · refine lv_iload_n hx hb dX0_smallest_43 rfl (lv_at hl 3 rfl) ?_
                refine lv_istore_n (lv' := [(2, .int (nI g)), (0, .ref (ad 0)), (1, .int (nI d)), (3, .int (nI g))]) hx hb dX0_smallest_44 rfl hl (by decide) rfl (fun ls hl => ?_)
                refine lv_iinc (v := nI (g + 1)) (lv' := [(3, .int (nI (g + 1))), (2, .int (nI g)), (0, .ref (ad 0)), (1, .int (nI d))]) hx hb dX0_smallest_45 hl (k := 3) rfl (nI_inc) (by decide) rfl (fun ls hl => ?_)
                refine lv_goto (tgt := 4) hx hb dX0_smallest_48 (by decide) ?_
                exact ih (g + 1) (nI g) _ _ _ (by omega) (by omega) (Or.inr ⟨g, by omega, rfl, c16, c23⟩) hP hS (lv_sub hl [2, 3, 1, 0] rfl)
  refine lv_iconst (v := (-1)) hx hb dX0_smallest_0 (by decide) ?_
  refine lv_istore_n (lv' := [(2, .int (-1)), (0, .ref (ad 0)), (1, .int (nI d))]) hx hb dX0_smallest_1 rfl hl (by decide) rfl (fun ls hl => ?_)
  refine lv_iconst (v := nI 0) hx hb dX0_smallest_2 (by decide) ?_
  refine lv_istore_n (lv' := [(3, .int (nI 0)), (2, .int (-1)), (0, .ref (ad 0)), (1, .int (nI d))]) hx hb dX0_smallest_3 rfl hl (by decide) rfl (fun ls hl => ?_)
  exact L4 9 0 (-1) _ _ _ (by omega) (by omega) (Or.inl rfl) hP hS (lv_sub hl [2, 3, 1, 0] rfl)
set_option maxHeartbeats 4000000 in
theorem met0_workWith (l : Launch) (D : va_G) (ad : Nat → Nat) (dA : Nat → ClassId) (n : Nat) (F : Nat → Nat → Int32) (a : Int32) : Met l yX0_workWith (ws_ yX0_workWith cX0_workWith 6 (some .int)) (rmL 1) (va_Pc [.ref (ad 0), .int a] (Pw D (cvw ad dA n F) (cvT dA))) (Qr (fun _ => True)) 0 0 (fun _ => False) := by
  refine zz_mkR (by decide) rfl (Nat.le_of_ble_eq_true rfl) ?_
  intro pr e s m args below meth c Q ls S hpre hl hret
  obtain ⟨hP, hK⟩ := hpre
  have hx := S.1
  have hb := S.2.1
  have hown : s.vm.findClass RX0 = some m.cls := S.2.2.2.1
  have hts := S.2.2.2.2
  have hS : va_S (fun _ => False) s.heap s.heap [] := va_S.rf
  have hl : lv_has ls 6 [(0, .ref (ad 0)), (1, .int a)] := hl
  have L4 : ∀ (dd g : Nat) (sv : Int32) (H : Heap) (locs : List Loc) (ls : Array Slot), g ≤ 8 → 8 + 1 ≤ g + dd → va_P D vwCl (cvw ad dA n F) H → va_S (fun _ => False) s.heap H locs → lv_has ls 6 [(0, .ref (ad 0)), (1, .int a), (2, .int sv), (3, .int (nI g))] → W pr l e (rmL 1) s m args below meth c H locs 0 0 Q (F0 m 4 ls []) := by
    intro dd
    induction dd with
    | zero =>
      intro g sv H locs ls hle hdd
      exact absurd hdd (by omega)
    | succ dd ih =>
      intro g sv H locs ls hle hdd  hP hS hl
      have ih4 := ih
      refine lv_iload_n hx hb dX0_workWith_4 rfl (lv_at hl 3 rfl) ?_
      refine lv_bipush (v := nI 8) hx hb dX0_workWith_5 (by decide) ?_
      refine nv_icmp_ge (tgt := 85) (by omega) (by omega) hx hb dX0_workWith_7 (by decide) (fun c7 => ?_) (fun c7 => ?_)
      · refine lv_iload_n hx hb dX0_workWith_85 rfl (lv_at hl 2 rfl) ?_
        exact hret _ _ _ _ _ hS (trivial) dX0_workWith_86
      · have L18 : ∀ (dd k : Nat) (bv : Int32) (H : Heap) (locs : List Loc) (ls : Array Slot), k ≤ 8 → 8 + 1 ≤ k + dd → va_P D vwCl (cvw ad dA n F) H → va_S (fun _ => False) s.heap H locs → lv_has ls 6 [(0, .ref (ad 0)), (1, .int a), (2, .int sv), (3, .int (nI g)), (4, .int bv), (5, .int (nI k))] → W pr l e (rmL 1) s m args below meth c H locs 0 0 Q (F0 m 18 ls []) := by
          intro dd
          induction dd with
          | zero =>
            intro k bv H locs ls hle hdd
            exact absurd hdd (by omega)
          | succ dd ih =>
            intro k bv H locs ls hle hdd  hP hS hl
            refine lv_iload hx hb dX0_workWith_18 (lv_at hl 5 rfl) ?_
            refine lv_bipush (v := nI 8) hx hb dX0_workWith_20 (by decide) ?_
            refine nv_icmp_ge (tgt := 74) (by omega) (by omega) hx hb dX0_workWith_22 (by decide) (fun c22 => ?_) (fun c22 => ?_)
            · refine lv_iload_n hx hb dX0_workWith_74 rfl (lv_at hl 2 rfl) ?_
              refine lv_iload hx hb dX0_workWith_75 (lv_at hl 4 rfl) ?_
              refine lv_iadd hx hb dX0_workWith_77 ?_
              refine lv_topi (fun x_1 ex_1 => ?_)
              refine lv_istore_n (lv' := [(2, .int x_1), (0, .ref (ad 0)), (1, .int a), (3, .int (nI g)), (4, .int bv), (5, .int (nI k))]) hx hb dX0_workWith_78 rfl hl (by decide) rfl (fun ls hl => ?_)
              refine lv_iinc (v := nI (g + 1)) (lv' := [(3, .int (nI (g + 1))), (2, .int x_1), (0, .ref (ad 0)), (1, .int a), (4, .int bv), (5, .int (nI k))]) hx hb dX0_workWith_79 hl (k := 3) rfl (nI_inc) (by decide) rfl (fun ls hl => ?_)
              refine lv_goto (tgt := 4) hx hb dX0_workWith_82 (by decide) ?_
              exact ih4 (g + 1) x_1 _ _ _ (by omega) (by omega) hP hS (lv_sub hl [2, 3, 1, 0] rfl)
            · refine lv_aload_n hx hb dX0_workWith_25 rfl (lv_at hl 0 rfl) ?_
              refine cv_g5 hx hb hts hown hK hP dX0_workWith_26 ?_
              refine lv_iload hx hb dX0_workWith_29 (lv_at hl 5 rfl) ?_
              refine cv_l5 hx hb hK hP k rfl (by omega) dX0_workWith_31 ?_
              refine lv_if_ne (tgt := 41) hx hb dX0_workWith_32 (by decide) (fun c32 => ?_) (fun c32 => ?_)
              · refine lv_iload hx hb dX0_workWith_41 (lv_at hl 5 rfl) ?_
                refine lv_iload_n hx hb dX0_workWith_43 rfl (lv_at hl 3 rfl) ?_
                refine lv_iand hx hb dX0_workWith_44 ?_
                refine lv_iload_n hx hb dX0_workWith_45 rfl (lv_at hl 3 rfl) ?_
                refine lv_icmp_ne (tgt := 68) hx hb dX0_workWith_46 (by decide) (fun c46 => ?_) (fun c46 => ?_)
                · refine lv_iinc (v := nI (k + 1)) (lv' := [(5, .int (nI (k + 1))), (0, .ref (ad 0)), (1, .int a), (2, .int sv), (3, .int (nI g)), (4, .int bv)]) hx hb dX0_workWith_68 hl (k := 5) rfl (nI_inc) (by decide) rfl (fun ls hl => ?_)
                  refine lv_goto (tgt := 18) hx hb dX0_workWith_71 (by decide) ?_
                  exact ih (k + 1) bv _ _ _ (by omega) (by omega) hP hS (lv_sub hl [1, 2, 3, 4, 5, 0] rfl)
                · refine lv_aload_n hx hb dX0_workWith_49 rfl (lv_at hl 0 rfl) ?_
                  refine lv_iload hx hb dX0_workWith_50 (lv_at hl 5 rfl) ?_
                  refine zz_callR (As := [.int (nI k)]) (rest := []) S hK hP hS (met0_cells l D ad dA n F (nI k)) (cwX0_cells hts (by decide)) (cv_recv hK hP) rfl hl.1 rfl (by decide) dX0_workWith_52 ⟨Nat.le_refl 0, Nat.le_refl 0⟩ (fun r52 H locs hr52 hP hS => ?_)
                  refine lv_iload hx hb dX0_workWith_55 (lv_at hl 4 rfl) ?_
                  refine lv_icmp_ge (tgt := 68) hx hb dX0_workWith_57 (by decide) (fun c57 => ?_) (fun c57 => ?_)
                  · refine lv_iinc (v := nI (k + 1)) (lv' := [(5, .int (nI (k + 1))), (0, .ref (ad 0)), (1, .int a), (2, .int sv), (3, .int (nI g)), (4, .int bv)]) hx hb dX0_workWith_68 hl (k := 5) rfl (nI_inc) (by decide) rfl (fun ls hl => ?_)
                    refine lv_goto (tgt := 18) hx hb dX0_workWith_71 (by decide) ?_
                    exact ih (k + 1) bv _ _ _ (by omega) (by omega) hP hS (lv_sub hl [1, 2, 3, 4, 5, 0] rfl)
                  · refine lv_aload_n hx hb dX0_workWith_60 rfl (lv_at hl 0 rfl) ?_
                    refine lv_iload hx hb dX0_workWith_61 (lv_at hl 5 rfl) ?_
                    refine zz_callR (As := [.int (nI k)]) (rest := []) S hK hP hS (met0_cells l D ad dA n F (nI k)) (cwX0_cells hts (by decide)) (cv_recv hK hP) rfl hl.1 rfl (by decide) dX0_workWith_63 ⟨Nat.le_refl 0, Nat.le_refl 0⟩ (fun r63 H locs hr63 hP hS => ?_)
                    refine lv_istore (lv' := [(4, .int r63), (0, .ref (ad 0)), (1, .int a), (2, .int sv), (3, .int (nI g)), (5, .int (nI k))]) hx hb dX0_workWith_66 hl (by decide) rfl (fun ls hl => ?_)
                    refine lv_iinc (v := nI (k + 1)) (lv' := [(5, .int (nI (k + 1))), (4, .int r63), (0, .ref (ad 0)), (1, .int a), (2, .int sv), (3, .int (nI g))]) hx hb dX0_workWith_68 hl (k := 5) rfl (nI_inc) (by decide) rfl (fun ls hl => ?_)
                    refine lv_goto (tgt := 18) hx hb dX0_workWith_71 (by decide) ?_
                    exact ih (k + 1) r63 _ _ _ (by omega) (by omega) hP hS (lv_sub hl [2, 3, 4, 5, 1, 0] rfl)
              · refine lv_iload hx hb dX0_workWith_35 (lv_at hl 5 rfl) ?_
                refine lv_iload_n hx hb dX0_workWith_37 rfl (lv_at hl 1 rfl) ?_
                refine lv_icmp_ne (tgt := 68) hx hb dX0_workWith_38 (by decide) (fun c38 => ?_) (fun c38 => ?_)
                · refine lv_iinc (v := nI (k + 1)) (lv' := [(5, .int (nI (k + 1))), (0, .ref (ad 0)), (1, .int a), (2, .int sv), (3, .int (nI g)), (4, .int bv)]) hx hb dX0_workWith_68 hl (k := 5) rfl (nI_inc) (by decide) rfl (fun ls hl => ?_)
                  refine lv_goto (tgt := 18) hx hb dX0_workWith_71 (by decide) ?_
                  exact ih (k + 1) bv _ _ _ (by omega) (by omega) hP hS (lv_sub hl [1, 2, 3, 4, 5, 0] rfl)
                · refine lv_iload hx hb dX0_workWith_41 (lv_at hl 5 rfl) ?_
                  refine lv_iload_n hx hb dX0_workWith_43 rfl (lv_at hl 3 rfl) ?_
                  refine lv_iand hx hb dX0_workWith_44 ?_
                  refine lv_iload_n hx hb dX0_workWith_45 rfl (lv_at hl 3 rfl) ?_
                  refine lv_icmp_ne (tgt := 68) hx hb dX0_workWith_46 (by decide) (fun c46 => ?_) (fun c46 => ?_)
                  · refine lv_iinc (v := nI (k + 1)) (lv' := [(5, .int (nI (k + 1))), (0, .ref (ad 0)), (1, .int a), (2, .int sv), (3, .int (nI g)), (4, .int bv)]) hx hb dX0_workWith_68 hl (k := 5) rfl (nI_inc) (by decide) rfl (fun ls hl => ?_)
                    refine lv_goto (tgt := 18) hx hb dX0_workWith_71 (by decide) ?_
                    exact ih (k + 1) bv _ _ _ (by omega) (by omega) hP hS (lv_sub hl [1, 2, 3, 4, 5, 0] rfl)
                  · refine lv_aload_n hx hb dX0_workWith_49 rfl (lv_at hl 0 rfl) ?_
                    refine lv_iload hx hb dX0_workWith_50 (lv_at hl 5 rfl) ?_
                    refine zz_callR (As := [.int (nI k)]) (rest := []) S hK hP hS (met0_cells l D ad dA n F (nI k)) (cwX0_cells hts (by decide)) (cv_recv hK hP) rfl hl.1 rfl (by decide) dX0_workWith_52 ⟨Nat.le_refl 0, Nat.le_refl 0⟩ (fun r52 H locs hr52 hP hS => ?_)
                    refine lv_iload hx hb dX0_workWith_55 (lv_at hl 4 rfl) ?_
                    refine lv_icmp_ge (tgt := 68) hx hb dX0_workWith_57 (by decide) (fun c57 => ?_) (fun c57 => ?_)
                    · refine lv_iinc (v := nI (k + 1)) (lv' := [(5, .int (nI (k + 1))), (0, .ref (ad 0)), (1, .int a), (2, .int sv), (3, .int (nI g)), (4, .int bv)]) hx hb dX0_workWith_68 hl (k := 5) rfl (nI_inc) (by decide) rfl (fun ls hl => ?_)
                      refine lv_goto (tgt := 18) hx hb dX0_workWith_71 (by decide) ?_
                      exact ih (k + 1) bv _ _ _ (by omega) (by omega) hP hS (lv_sub hl [1, 2, 3, 4, 5, 0] rfl)
                    · refine lv_aload_n hx hb dX0_workWith_60 rfl (lv_at hl 0 rfl) ?_
                      refine lv_iload hx hb dX0_workWith_61 (lv_at hl 5 rfl) ?_
                      refine zz_callR (As := [.int (nI k)]) (rest := []) S hK hP hS (met0_cells l D ad dA n F (nI k)) (cwX0_cells hts (by decide)) (cv_recv hK hP) rfl hl.1 rfl (by decide) dX0_workWith_63 ⟨Nat.le_refl 0, Nat.le_refl 0⟩ (fun r63 H locs hr63 hP hS => ?_)
                      refine lv_istore (lv' := [(4, .int r63), (0, .ref (ad 0)), (1, .int a), (2, .int sv), (3, .int (nI g)), (5, .int (nI k))]) hx hb dX0_workWith_66 hl (by decide) rfl (fun ls hl => ?_)
                      refine lv_iinc (v := nI (k + 1)) (lv' := [(5, .int (nI (k + 1))), (4, .int r63), (0, .ref (ad 0)), (1, .int a), (2, .int sv), (3, .int (nI g))]) hx hb dX0_workWith_68 hl (k := 5) rfl (nI_inc) (by decide) rfl (fun ls hl => ?_)
                      refine lv_goto (tgt := 18) hx hb dX0_workWith_71 (by decide) ?_
                      exact ih (k + 1) r63 _ _ _ (by omega) (by omega) hP hS (lv_sub hl [2, 3, 4, 5, 1, 0] rfl)
        refine lv_sipush (v := nI 160) hx hb dX0_workWith_10 (by decide) ?_
        refine lv_istore (lv' := [(4, .int (nI 160)), (0, .ref (ad 0)), (1, .int a), (2, .int sv), (3, .int (nI g))]) hx hb dX0_workWith_13 hl (by decide) rfl (fun ls hl => ?_)
        refine lv_iconst (v := nI 0) hx hb dX0_workWith_15 (by decide) ?_
        refine lv_istore (lv' := [(5, .int (nI 0)), (4, .int (nI 160)), (0, .ref (ad 0)), (1, .int a), (2, .int sv), (3, .int (nI g))]) hx hb dX0_workWith_16 hl (by decide) rfl (fun ls hl => ?_)
        exact L18 9 0 (nI 160) _ _ _ (by omega) (by omega) hP hS (lv_sub hl [2, 3, 4, 5, 1, 0] rfl)
  refine lv_iconst (v := nI 0) hx hb dX0_workWith_0 (by decide) ?_
  refine lv_istore_n (lv' := [(2, .int (nI 0)), (0, .ref (ad 0)), (1, .int a)]) hx hb dX0_workWith_1 rfl hl (by decide) rfl (fun ls hl => ?_)
  refine lv_iconst (v := nI 0) hx hb dX0_workWith_2 (by decide) ?_
  refine lv_istore_n (lv' := [(3, .int (nI 0)), (2, .int (nI 0)), (0, .ref (ad 0)), (1, .int a)]) hx hb dX0_workWith_3 rfl hl (by decide) rfl (fun ls hl => ?_)
  exact L4 9 0 (nI 0) _ _ _ (by omega) (by omega) hP hS (lv_sub hl [2, 3, 1, 0] rfl)
set_option maxHeartbeats 4000000 in
theorem met0_greatestAt (l : Launch) (D : va_G) (ad : Nat → Nat) (dA : Nat → ClassId) (n : Nat) (F : Nat → Nat → Int32) (pl : Nat → Nat) (am : Nat → Int32) (p : Nat) (hn : n ≤ 40) (hp : p < 120) (h2 : ∀ i, i < n → F 2 i = am i) (h3 : F 3 p = zc_last pl n p) (h4 : ∀ i, i < n → F 4 i = zc_last pl i (pl i)) : Met l yX0_greatestAt (ws_ yX0_greatestAt cX0_greatestAt 5 (some .int)) (rmL 0) (va_Pc [.ref (ad 0), .int (nI p)] (Pw D (cvw ad dA n F) (cvT dA))) (Qr (fun r => zc_max (fun i => pl i = p) am n r)) 0 0 (fun _ => False) := by
  refine zz_mkR (by decide) rfl (Nat.le_of_ble_eq_true rfl) ?_
  intro pr e s m args below meth c Q ls S hpre hl hret
  obtain ⟨hP, hK⟩ := hpre
  have hx := S.1
  have hb := S.2.1
  have hown : s.vm.findClass RX0 = some m.cls := S.2.2.2.1
  have hts := S.2.2.2.2
  have hS : va_S (fun _ => False) s.heap s.heap [] := va_S.rf
  have hl : lv_has ls 5 [(0, .ref (ad 0)), (1, .int (nI p))] := hl
  have L13 : ∀ (dd k : Nat) (t : Nat) (bv : Int32) (H : Heap) (locs : List Loc) (ls : Array Slot), k ≤ 40 → 40 + 1 ≤ k + dd → t ≤ n → t + k ≤ 40 → zc_max (fun i => t ≤ i ∧ pl i = p) am n bv → va_P D vwCl (cvw ad dA n F) H → va_S (fun _ => False) s.heap H locs → lv_has ls 5 [(0, .ref (ad 0)), (1, .int (nI p)), (2, .int bv), (3, .int (zc_last pl t p)), (4, .int (nI k))] → W pr l e (rmL 0) s m args below meth c H locs 0 0 Q (F0 m 13 ls []) := by
    intro dd
    induction dd with
    | zero =>
      intro k t bv H locs ls hle hdd
      exact absurd hdd (by omega)
    | succ dd ih =>
      intro k t bv H locs ls hle hdd ht htk hv hP hS hl
      refine lv_iload hx hb dX0_greatestAt_13 (lv_at hl 4 rfl) ?_
      refine lv_bipush (v := nI 40) hx hb dX0_greatestAt_15 (by decide) ?_
      refine nv_icmp_ge (tgt := 58) (by omega) (by omega) hx hb dX0_greatestAt_17 (by decide) (fun c17 => ?_) (fun c17 => ?_)
      · have hno : ∀ i, i < t → pl i ≠ p := fun i hi => by omega
        refine lv_iload_n hx hb dX0_greatestAt_58 rfl (lv_at hl 2 rfl) ?_
        exact hret _ _ _ _ _ hS (zc_max_congr hv (fun i hi => ⟨fun w => ⟨by rcases Nat.lt_or_ge i t with q | q; exact absurd w (hno i q); exact q, w⟩, fun w => w.2⟩)) dX0_greatestAt_59
      · refine lv_iload_n hx hb dX0_greatestAt_20 rfl (lv_at hl 3 rfl) ?_
        refine lv_if_lt (tgt := 58) hx hb dX0_greatestAt_21 (by decide) (fun c21 => ?_) (fun c21 => ?_)
        · have hno : ∀ i, i < t → pl i ≠ p := by
            rcases zc_last_or pl t p with ⟨_, h⟩ | ⟨j, hj, e, _⟩
            · exact h
            · exact absurd c21 (by rw [e]; exact nI_pos (by omega))
          refine lv_iload_n hx hb dX0_greatestAt_58 rfl (lv_at hl 2 rfl) ?_
          exact hret _ _ _ _ _ hS (zc_max_congr hv (fun i hi => ⟨fun w => ⟨by rcases Nat.lt_or_ge i t with q | q; exact absurd w (hno i q); exact q, w⟩, fun w => w.2⟩)) dX0_greatestAt_59
        · rcases zc_last_or pl t p with ⟨e, _⟩ | ⟨j, hj, e, hpj, hla⟩
          · exact absurd (by rw [e]; decide) c21
          · rw [e] at hl
            refine lv_aload_n hx hb dX0_greatestAt_24 rfl (lv_at hl 0 rfl) ?_
            refine cv_g2 hx hb hts hown hK hP dX0_greatestAt_25 ?_
            refine lv_iload_n hx hb dX0_greatestAt_28 rfl (lv_at hl 3 rfl) ?_
            refine cv_l2 hx hb hK hP j rfl (by omega) dX0_greatestAt_29 ?_
            refine cv_top (b := am j) (h2 j (by omega)) ?_
            refine lv_iload_n hx hb dX0_greatestAt_30 rfl (lv_at hl 2 rfl) ?_
            refine lv_icmp_le (tgt := 43) hx hb dX0_greatestAt_31 (by decide) (fun c31 => ?_) (fun c31 => ?_)
            · refine lv_iload_n hx hb dX0_greatestAt_43 rfl (lv_at hl 2 rfl) ?_
              refine lv_istore_n (lv' := [(2, .int bv), (0, .ref (ad 0)), (1, .int (nI p)), (3, .int (nI j)), (4, .int (nI k))]) hx hb dX0_greatestAt_44 rfl hl (by decide) rfl (fun ls hl => ?_)
              refine lv_aload_n hx hb dX0_greatestAt_45 rfl (lv_at hl 1 rfl) ?_
              refine cv_g4 hx hb hts hown hK hP dX0_greatestAt_46 ?_
              refine lv_iload_n hx hb dX0_greatestAt_49 rfl (lv_at hl 3 rfl) ?_
              refine cv_l4 hx hb hK hP j rfl (by omega) dX0_greatestAt_50 ?_
              refine cv_top (b := (zc_last pl j p)) (by rw [h4 j (by omega), hpj]) ?_
              refine lv_istore_n (lv' := [(3, .int (zc_last pl j p)), (2, .int bv), (0, .ref (ad 0)), (1, .int (nI p)), (4, .int (nI k))]) hx hb dX0_greatestAt_51 rfl hl (by decide) rfl (fun ls hl => ?_)
              refine lv_iinc (v := nI (k + 1)) (lv' := [(4, .int (nI (k + 1))), (3, .int (zc_last pl j p)), (2, .int bv), (0, .ref (ad 0)), (1, .int (nI p))]) hx hb dX0_greatestAt_52 hl (k := 4) rfl (nI_inc) (by decide) rfl (fun ls hl => ?_)
              refine lv_goto (tgt := 13) hx hb dX0_greatestAt_55 (by decide) ?_
              refine ih (k + 1) j bv _ _ _ (by omega) (by omega) (by omega) (by omega) ?_ hP hS (lv_sub hl [3, 4, 2, 1, 0] rfl)
              exact (zc_max_keep hv (fun i hi w => ⟨by omega, w.2⟩) (fun i hi w w2 => by
                rcases Nat.eq_or_lt_of_le w.1 with q | q
                · rw [← q]; exact c31
                · exact absurd w.2 (hla i q (Nat.lt_of_not_le (fun q2 => w2 ⟨q2, w.2⟩)))))
            · refine lv_aload_n hx hb dX0_greatestAt_34 rfl (lv_at hl 0 rfl) ?_
              refine cv_g2 hx hb hts hown hK hP dX0_greatestAt_35 ?_
              refine lv_iload_n hx hb dX0_greatestAt_38 rfl (lv_at hl 3 rfl) ?_
              refine cv_l2 hx hb hK hP j rfl (by omega) dX0_greatestAt_39 ?_
              refine cv_top (b := (am j)) (h2 j (by omega)) ?_
              refine lv_goto (tgt := 44) hx hb dX0_greatestAt_40 (by decide) ?_
              refine lv_istore_n (lv' := [(2, .int (am j)), (0, .ref (ad 0)), (1, .int (nI p)), (3, .int (nI j)), (4, .int (nI k))]) hx hb dX0_greatestAt_44 rfl hl (by decide) rfl (fun ls hl => ?_)
              refine lv_aload_n hx hb dX0_greatestAt_45 rfl (lv_at hl 1 rfl) ?_
              refine cv_g4 hx hb hts hown hK hP dX0_greatestAt_46 ?_
              refine lv_iload_n hx hb dX0_greatestAt_49 rfl (lv_at hl 3 rfl) ?_
              refine cv_l4 hx hb hK hP j rfl (by omega) dX0_greatestAt_50 ?_
              refine cv_top (b := (zc_last pl j p)) (by rw [h4 j (by omega), hpj]) ?_
              refine lv_istore_n (lv' := [(3, .int (zc_last pl j p)), (2, .int (am j)), (0, .ref (ad 0)), (1, .int (nI p)), (4, .int (nI k))]) hx hb dX0_greatestAt_51 rfl hl (by decide) rfl (fun ls hl => ?_)
              refine lv_iinc (v := nI (k + 1)) (lv' := [(4, .int (nI (k + 1))), (3, .int (zc_last pl j p)), (2, .int (am j)), (0, .ref (ad 0)), (1, .int (nI p))]) hx hb dX0_greatestAt_52 hl (k := 4) rfl (nI_inc) (by decide) rfl (fun ls hl => ?_)
              refine lv_goto (tgt := 13) hx hb dX0_greatestAt_55 (by decide) ?_
              refine ih (k + 1) j (am j) _ _ _ (by omega) (by omega) (by omega) (by omega) ?_ hP hS (lv_sub hl [3, 4, 2, 1, 0] rfl)
              exact (zc_max_new hv (by omega) ⟨Nat.le_refl j, hpj⟩ c31 (fun i hi w w2 => by
                rcases Nat.eq_or_lt_of_le w.1 with q | q
                · rw [← q]; exact Int32.le_refl _
                · exact absurd w.2 (hla i q (Nat.lt_of_not_le (fun q2 => w2 ⟨q2, w.2⟩)))))
  refine lv_ldc (v := (-4000000)) hx hb hown (hts _ q101) dX0_greatestAt_0 ?_
  refine lv_istore_n (lv' := [(2, .int (-4000000)), (0, .ref (ad 0)), (1, .int (nI p))]) hx hb dX0_greatestAt_2 rfl hl (by decide) rfl (fun ls hl => ?_)
  refine lv_aload_n hx hb dX0_greatestAt_3 rfl (lv_at hl 1 rfl) ?_
  refine cv_g3 hx hb hts hown hK hP dX0_greatestAt_4 ?_
  refine lv_iload_n hx hb dX0_greatestAt_7 rfl (lv_at hl 2 rfl) ?_
  refine cv_l3 hx hb hK hP p rfl (by omega) dX0_greatestAt_8 ?_
  refine cv_top (b := (zc_last pl n p)) (h3) ?_
  refine lv_istore_n (lv' := [(3, .int (zc_last pl n p)), (2, .int (-4000000)), (0, .ref (ad 0)), (1, .int (nI p))]) hx hb dX0_greatestAt_9 rfl hl (by decide) rfl (fun ls hl => ?_)
  refine lv_iconst (v := nI 0) hx hb dX0_greatestAt_10 (by decide) ?_
  refine lv_istore (lv' := [(4, .int (nI 0)), (3, .int (zc_last pl n p)), (2, .int (-4000000)), (0, .ref (ad 0)), (1, .int (nI p))]) hx hb dX0_greatestAt_11 hl (by decide) rfl (fun ls hl => ?_)
  exact L13 41 0 n (-4000000) _ _ _ (by omega) (by omega) (Nat.le_refl n) (by omega) ⟨Int32.le_refl _, fun i hi w => by omega, Or.inl rfl⟩ hP hS (lv_sub hl [3, 4, 2, 1, 0] rfl)
end
section
set_option maxRecDepth 100000
set_option maxHeartbeats 4000000 in
theorem met0_enter (l : Launch) (D : va_G) (ad : Nat → Nat) (dA : Nat → ClassId) (n : Nat) (F : Nat → Nat → Int32) (hI : cvI ad) (p : Nat) (a b : Int32) (hp : p < 120) : Met l yX0_enter (ws_ yX0_enter cX0_enter 6 none) (rmL 2) (va_Pc [.ref (ad 0), .int (nI p), .int a, .int b] (Pw D (cvw ad dA n F) (cvT dA))) (Qn D (fun u : Nat × (Nat → Nat → Int32) => cvw ad dA u.1 u.2) (cvA ad) (fun u => u.1 = n ∧ zc_ent F u.2 p a b 8)) 0 0 (cvA ad) := by
  refine zz_mkV (by decide) rfl (Nat.le_of_ble_eq_true rfl) ?_
  intro pr e s m args below meth c Q ls S hpre hl hret
  obtain ⟨hP, hK⟩ := hpre
  have hx := S.1
  have hb := S.2.1
  have hown : s.vm.findClass RX0 = some m.cls := S.2.2.2.1
  have hts := S.2.2.2.2
  have hS : va_S (cvA ad) s.heap s.heap [] := va_S.rf
  have hl : lv_has ls 6 [(0, .ref (ad 0)), (1, .int (nI p)), (2, .int a), (3, .int b)] := hl
  have L3 : ∀ (dd g : Nat) (F1 : Nat → Nat → Int32) (H : Heap) (locs : List Loc) (ls : Array Slot), g ≤ 8 → 8 + 1 ≤ g + dd → zc_ent F F1 p a b g → va_P D vwCl (cvw ad dA n F1) H → va_S (cvA ad) s.heap H locs → lv_has ls 6 [(0, .ref (ad 0)), (1, .int (nI p)), (2, .int a), (3, .int b), (4, .int (nI g))] → W pr l e (rmL 2) s m args below meth c H locs 0 0 Q (F0 m 3 ls []) := by
    intro dd
    induction dd with
    | zero =>
      intro g F1 H locs ls hle hdd
      exact absurd hdd (by omega)
    | succ dd ih =>
      intro g F1 H locs ls hle hdd hv hP hS hl
      refine lv_iload hx hb dX0_enter_3 (lv_at hl 4 rfl) ?_
      refine lv_bipush (v := nI 8) hx hb dX0_enter_5 (by decide) ?_
      refine nv_icmp_ge (tgt := 73) (by omega) (by omega) hx hb dX0_enter_7 (by decide) (fun c7 => ?_) (fun c7 => ?_)
      · have hg8 : g = 8 := by omega
        rw [hg8] at hv
        exact hret _ _ _ _ (n, F1) hP hS (⟨rfl, hv⟩) dX0_enter_73
      · refine lv_aload_n hx hb dX0_enter_10 rfl (lv_at hl 0 rfl) ?_
        refine cv_g5 hx hb hts hown hK hP dX0_enter_11 ?_
        refine lv_iload hx hb dX0_enter_14 (lv_at hl 4 rfl) ?_
        refine cv_l5 hx hb hK hP g rfl (by omega) dX0_enter_16 ?_
        refine lv_if_eq (tgt := 67) hx hb dX0_enter_17 (by decide) (fun c17 => ?_) (fun c17 => ?_)
        · refine lv_iinc (v := nI (g + 1)) (lv' := [(4, .int (nI (g + 1))), (0, .ref (ad 0)), (1, .int (nI p)), (2, .int a), (3, .int b)]) hx hb dX0_enter_67 hl (k := 4) rfl (nI_inc) (by decide) rfl (fun ls hl => ?_)
          refine lv_goto (tgt := 3) hx hb dX0_enter_70 (by decide) ?_
          exact ih (g + 1) F1 _ _ _ (by omega) (by omega) (zc_ent_skip hv c17) hP hS (lv_sub hl [1, 2, 3, 4, 0] rfl)
        · refine lv_bipush (v := nI 120) hx hb dX0_enter_20 (by decide) ?_
          refine lv_iload hx hb dX0_enter_22 (lv_at hl 4 rfl) ?_
          refine lv_imul hx hb dX0_enter_24 ?_
          refine cv_top (pk_mul _ _) ?_
          refine lv_aload_n hx hb dX0_enter_25 rfl (lv_at hl 0 rfl) ?_
          refine lv_iload_n hx hb dX0_enter_26 rfl (lv_at hl 1 rfl) ?_
          refine lv_iload hx hb dX0_enter_27 (lv_at hl 4 rfl) ?_
          refine zz_callR (As := [.int (nI p), .int (nI g)]) (rest := [.int (nI (120 * g))]) S hK hP hS (met0_group l D ad dA n F1 p g (by omega) (by omega)) (cwX0_group hts (by decide)) (cv_recv hK hP) rfl hl.1 rfl (Nat.le_of_ble_eq_true rfl) dX0_enter_29 ⟨Nat.le_refl 0, Nat.le_refl 0⟩ (fun r29 H locs hr29 hP hS => ?_)
          subst hr29
          have hgl29 := zc_grp_lt (p := p) g (by omega)
          refine lv_iadd hx hb dX0_enter_32 ?_
          refine cv_top (nI_add _ _) ?_
          refine lv_istore (lv' := [(5, .int (nI (120 * g + (zc_grp p g)))), (0, .ref (ad 0)), (1, .int (nI p)), (2, .int a), (3, .int b), (4, .int (nI g))]) hx hb dX0_enter_33 hl (by decide) rfl (fun ls hl => ?_)
          refine lv_aload_n hx hb dX0_enter_35 rfl (lv_at hl 1 rfl) ?_
          refine cv_g6 hx hb hts hown hK hP dX0_enter_36 ?_
          refine lv_iload hx hb dX0_enter_39 (lv_at hl 0 rfl) ?_
          refine lv_aload_n hx hb dX0_enter_41 rfl (lv_at hl 1 rfl) ?_
          refine cv_g6 hx hb hts hown hK hP dX0_enter_42 ?_
          refine lv_iload hx hb dX0_enter_45 (lv_at hl 0 rfl) ?_
          refine cv_l6 hx hb hK hP (120 * g + (zc_grp p g)) rfl (by omega) dX0_enter_47 ?_
          refine lv_iload_n hx hb dX0_enter_48 rfl (lv_at hl 3 rfl) ?_
          refine lv_iadd hx hb dX0_enter_49 ?_
          refine cv_s6 hx hb hK hP hI hS (120 * g + (zc_grp p g)) rfl (by omega) dX0_enter_50 (fun F_1 H locs hF_1 hP hS => ?_)
          refine lv_aload_n hx hb dX0_enter_51 rfl (lv_at hl 1 rfl) ?_
          refine cv_g7 hx hb hts hown hK hP dX0_enter_52 ?_
          refine lv_iload hx hb dX0_enter_55 (lv_at hl 0 rfl) ?_
          refine lv_aload_n hx hb dX0_enter_57 rfl (lv_at hl 1 rfl) ?_
          refine cv_g7 hx hb hts hown hK hP dX0_enter_58 ?_
          refine lv_iload hx hb dX0_enter_61 (lv_at hl 0 rfl) ?_
          refine cv_l7 hx hb hK hP (120 * g + (zc_grp p g)) rfl (by omega) dX0_enter_63 ?_
          refine lv_iload_n hx hb dX0_enter_64 rfl (lv_at hl 4 rfl) ?_
          refine lv_iadd hx hb dX0_enter_65 ?_
          refine cv_s7 hx hb hK hP hI hS (120 * g + (zc_grp p g)) rfl (by omega) dX0_enter_66 (fun F_2 H locs hF_2 hP hS => ?_)
          refine lv_iinc (v := nI (g + 1)) (lv' := [(4, .int (nI (g + 1))), (5, .int (nI (120 * g + (zc_grp p g)))), (0, .ref (ad 0)), (1, .int (nI p)), (2, .int a), (3, .int b)]) hx hb dX0_enter_67 hl (k := 5) rfl (nI_inc) (by decide) rfl (fun ls hl => ?_)
          refine lv_goto (tgt := 3) hx hb dX0_enter_70 (by decide) ?_
          exact ih (g + 1) F_2 _ _ _ (by omega) (by omega) (zc_ent_step hv (by omega) hp c17 hF_1 hF_2) hP hS (lv_sub hl [2, 3, 4, 5, 0] rfl)
  refine lv_iconst (v := nI 0) hx hb dX0_enter_0 (by decide) ?_
  refine lv_istore (lv' := [(4, .int (nI 0)), (0, .ref (ad 0)), (1, .int (nI p)), (2, .int a), (3, .int b)]) hx hb dX0_enter_1 hl (by decide) rfl (fun ls hl => ?_)
  exact L3 9 0 F _ _ _ (by omega) (by omega) (zc_ent_0 F p a b) hP hS (lv_sub hl [1, 2, 3, 4, 0] rfl)
set_option maxHeartbeats 4000000 in
theorem met0_fill (l : Launch) (D : va_G) (ad : Nat → Nat) (dA : Nat → ClassId) (n : Nat) (F : Nat → Nat → Int32) (hI : cvI ad) (g : Nat) (hg : g < 8) (pl : Nat → Nat) (am : Nat → Int32) (hn : n ≤ 40) (h1 : ∀ i, i < n → F 1 i = nI (pl i) ∧ pl i < 120 ∧ F 2 i = am i) : Met l yX0_fill (ws_ yX0_fill cX0_fill 4 none) (rmL 2) (va_Pc [.ref (ad 0), .int (nI g)] (Pw D (cvw ad dA n F) (cvT dA))) (Qn D (fun u : Nat × (Nat → Nat → Int32) => cvw ad dA u.1 u.2) (cvA ad) (fun u => u.1 = n ∧ zc_fil F u.2 pl am g n)) 0 0 (cvA ad) := by
  refine zz_mkV (by decide) rfl (Nat.le_of_ble_eq_true rfl) ?_
  intro pr e s m args below meth c Q ls S hpre hl hret
  obtain ⟨hP, hK⟩ := hpre
  have hx := S.1
  have hb := S.2.1
  have hown : s.vm.findClass RX0 = some m.cls := S.2.2.2.1
  have hts := S.2.2.2.2
  have hS : va_S (cvA ad) s.heap s.heap [] := va_S.rf
  have hl : lv_has ls 4 [(0, .ref (ad 0)), (1, .int (nI g))] := hl
  have L40 : ∀ (dd i : Nat) (F1 : Nat → Nat → Int32) (H : Heap) (locs : List Loc) (ls : Array Slot), i ≤ n → n + 1 ≤ i + dd → zc_fil F F1 pl am g i → va_P D vwCl (cvw ad dA n F1) H → va_S (cvA ad) s.heap H locs → lv_has ls 4 [(0, .ref (ad 0)), (1, .int (nI g)), (2, .int (nI i))] → W pr l e (rmL 2) s m args below meth c H locs 0 0 Q (F0 m 40 ls []) := by
    intro dd
    induction dd with
    | zero =>
      intro i F1 H locs ls hle hdd
      exact absurd hdd (by omega)
    | succ dd ih =>
      intro i F1 H locs ls hle hdd hv hP hS hl
      refine lv_iload_n hx hb dX0_fill_40 rfl (lv_at hl 2 rfl) ?_
      refine lv_aload_n hx hb dX0_fill_41 rfl (lv_at hl 0 rfl) ?_
      refine cv_g0 hx hb hts hown hK hP dX0_fill_42 ?_
      refine nv_icmp_ge (tgt := 104) (by omega) (by omega) hx hb dX0_fill_45 (by decide) (fun c45 => ?_) (fun c45 => ?_)
      · have hin : i = n := by omega
        rw [hin] at hv
        exact hret _ _ _ _ (n, F1) hP hS (⟨rfl, hv⟩) dX0_fill_104
      · refine lv_bipush (v := nI 120) hx hb dX0_fill_48 (by decide) ?_
        refine lv_iload_n hx hb dX0_fill_50 rfl (lv_at hl 1 rfl) ?_
        refine lv_imul hx hb dX0_fill_51 ?_
        refine cv_top (pk_mul _ _) ?_
        refine lv_aload_n hx hb dX0_fill_52 rfl (lv_at hl 0 rfl) ?_
        refine lv_aload_n hx hb dX0_fill_53 rfl (lv_at hl 0 rfl) ?_
        refine cv_g1 hx hb hts hown hK hP dX0_fill_54 ?_
        refine lv_iload_n hx hb dX0_fill_57 rfl (lv_at hl 2 rfl) ?_
        refine cv_l1 hx hb hK hP i rfl (by omega) dX0_fill_58 ?_
        obtain ⟨e1, hpl, e2⟩ := h1 i (by omega)
        have k1 := hv.1 1 (by decide) (by decide)
        have k2 := hv.1 2 (by decide) (by decide)
        refine cv_top (b := nI (pl i)) (by rw [k1]; exact e1) ?_
        refine lv_iload_n hx hb dX0_fill_59 rfl (lv_at hl 1 rfl) ?_
        refine zz_callR (As := [.int (nI (pl i)), .int (nI g)]) (rest := [.int (nI (120 * g))]) S hK hP hS (met0_group l D ad dA n F1 (pl i) g (by omega) (by omega)) (cwX0_group hts (by decide)) (cv_recv hK hP) rfl hl.1 rfl (Nat.le_of_ble_eq_true rfl) dX0_fill_60 ⟨Nat.le_refl 0, Nat.le_refl 0⟩ (fun r60 H locs hr60 hP hS => ?_)
        subst hr60
        have hgl60 := zc_grp_lt (p := (pl i)) g (by omega)
        refine lv_iadd hx hb dX0_fill_63 ?_
        refine cv_top (nI_add _ _) ?_
        refine lv_istore_n (lv' := [(3, .int (nI (120 * g + (zc_grp (pl i) g)))), (0, .ref (ad 0)), (1, .int (nI g)), (2, .int (nI i))]) hx hb dX0_fill_64 rfl hl (by decide) rfl (fun ls hl => ?_)
        refine lv_aload_n hx hb dX0_fill_65 rfl (lv_at hl 1 rfl) ?_
        refine cv_g6 hx hb hts hown hK hP dX0_fill_66 ?_
        refine lv_iload_n hx hb dX0_fill_69 rfl (lv_at hl 0 rfl) ?_
        refine lv_aload_n hx hb dX0_fill_70 rfl (lv_at hl 1 rfl) ?_
        refine cv_g6 hx hb hts hown hK hP dX0_fill_71 ?_
        refine lv_iload_n hx hb dX0_fill_74 rfl (lv_at hl 0 rfl) ?_
        refine cv_l6 hx hb hK hP (120 * g + (zc_grp (pl i) g)) rfl (by omega) dX0_fill_75 ?_
        refine lv_iconst (v := nI 1) hx hb dX0_fill_76 (by decide) ?_
        refine lv_iadd hx hb dX0_fill_77 ?_
        refine cv_s6 hx hb hK hP hI hS (120 * g + (zc_grp (pl i) g)) rfl (by omega) dX0_fill_78 (fun F_1 H locs hF_1 hP hS => ?_)
        refine lv_aload_n hx hb dX0_fill_79 rfl (lv_at hl 1 rfl) ?_
        refine cv_g7 hx hb hts hown hK hP dX0_fill_80 ?_
        refine lv_iload_n hx hb dX0_fill_83 rfl (lv_at hl 0 rfl) ?_
        refine lv_aload_n hx hb dX0_fill_84 rfl (lv_at hl 1 rfl) ?_
        refine cv_g7 hx hb hts hown hK hP dX0_fill_85 ?_
        refine lv_iload_n hx hb dX0_fill_88 rfl (lv_at hl 0 rfl) ?_
        refine cv_l7 hx hb hK hP (120 * g + (zc_grp (pl i) g)) rfl (by omega) dX0_fill_89 ?_
        refine lv_aload_n hx hb dX0_fill_90 rfl (lv_at hl 1 rfl) ?_
        refine cv_g2 hx hb hts hown hK hP dX0_fill_91 ?_
        refine lv_iload_n hx hb dX0_fill_94 rfl (lv_at hl 3 rfl) ?_
        refine cv_l2 hx hb hK hP i rfl (by omega) dX0_fill_95 ?_
        refine cv_top (b := am i) (by rw [hF_1, sw_n (by decide), k2]; exact e2) ?_
        refine lv_iadd hx hb dX0_fill_96 ?_
        refine cv_s7 hx hb hK hP hI hS (120 * g + (zc_grp (pl i) g)) rfl (by omega) dX0_fill_97 (fun F_2 H locs hF_2 hP hS => ?_)
        refine lv_iinc (v := nI (i + 1)) (lv' := [(2, .int (nI (i + 1))), (3, .int (nI (120 * g + (zc_grp (pl i) g)))), (0, .ref (ad 0)), (1, .int (nI g))]) hx hb dX0_fill_98 hl (k := 3) rfl (nI_inc) (by decide) rfl (fun ls hl => ?_)
        refine lv_goto (tgt := 40) hx hb dX0_fill_101 (by decide) ?_
        exact ih (i + 1) F_2 _ _ _ (by omega) (by omega) (zc_fil_step hv hpl hF_1 hF_2) hP hS (lv_sub hl [2, 3, 0] rfl)
  have L2 : ∀ (dd i : Nat) (F1 : Nat → Nat → Int32) (H : Heap) (locs : List Loc) (ls : Array Slot), i ≤ 120 → 120 + 1 ≤ i + dd → zc_zer F F1 g i → va_P D vwCl (cvw ad dA n F1) H → va_S (cvA ad) s.heap H locs → lv_has ls 4 [(0, .ref (ad 0)), (1, .int (nI g)), (2, .int (nI i))] → W pr l e (rmL 2) s m args below meth c H locs 0 0 Q (F0 m 2 ls []) := by
    intro dd
    induction dd with
    | zero =>
      intro i F1 H locs ls hle hdd
      exact absurd hdd (by omega)
    | succ dd ih =>
      intro i F1 H locs ls hle hdd hv hP hS hl
      refine lv_iload_n hx hb dX0_fill_2 rfl (lv_at hl 2 rfl) ?_
      refine lv_bipush (v := nI 120) hx hb dX0_fill_3 (by decide) ?_
      refine nv_icmp_ge (tgt := 38) (by omega) (by omega) hx hb dX0_fill_5 (by decide) (fun c5 => ?_) (fun c5 => ?_)
      · refine lv_iconst (v := nI 0) hx hb dX0_fill_38 (by decide) ?_
        refine lv_istore_n (lv' := [(2, .int (nI 0)), (0, .ref (ad 0)), (1, .int (nI g))]) hx hb dX0_fill_39 rfl hl (by decide) rfl (fun ls hl => ?_)
        have hin : i = 120 := by omega
        rw [hin] at hv
        exact L40 (n + 1) 0 F1 _ _ _ (by omega) (by omega) (zc_fil_0 pl am hv) hP hS (lv_sub hl [1, 2, 0] rfl)
      · refine lv_aload_n hx hb dX0_fill_8 rfl (lv_at hl 0 rfl) ?_
        refine cv_g6 hx hb hts hown hK hP dX0_fill_9 ?_
        refine lv_bipush (v := nI 120) hx hb dX0_fill_12 (by decide) ?_
        refine lv_iload_n hx hb dX0_fill_14 rfl (lv_at hl 1 rfl) ?_
        refine lv_imul hx hb dX0_fill_15 ?_
        refine cv_top (pk_mul _ _) ?_
        refine lv_iload_n hx hb dX0_fill_16 rfl (lv_at hl 2 rfl) ?_
        refine lv_iadd hx hb dX0_fill_17 ?_
        refine cv_top (nI_add _ _) ?_
        refine lv_iconst (v := nI 0) hx hb dX0_fill_18 (by decide) ?_
        refine cv_s6 hx hb hK hP hI hS (120 * g + i) rfl (by omega) dX0_fill_19 (fun F_3 H locs hF_3 hP hS => ?_)
        refine lv_aload_n hx hb dX0_fill_20 rfl (lv_at hl 0 rfl) ?_
        refine cv_g7 hx hb hts hown hK hP dX0_fill_21 ?_
        refine lv_bipush (v := nI 120) hx hb dX0_fill_24 (by decide) ?_
        refine lv_iload_n hx hb dX0_fill_26 rfl (lv_at hl 1 rfl) ?_
        refine lv_imul hx hb dX0_fill_27 ?_
        refine cv_top (pk_mul _ _) ?_
        refine lv_iload_n hx hb dX0_fill_28 rfl (lv_at hl 2 rfl) ?_
        refine lv_iadd hx hb dX0_fill_29 ?_
        refine cv_top (nI_add _ _) ?_
        refine lv_iconst (v := nI 0) hx hb dX0_fill_30 (by decide) ?_
        refine cv_s7 hx hb hK hP hI hS (120 * g + i) rfl (by omega) dX0_fill_31 (fun F_4 H locs hF_4 hP hS => ?_)
        refine lv_iinc (v := nI (i + 1)) (lv' := [(2, .int (nI (i + 1))), (0, .ref (ad 0)), (1, .int (nI g))]) hx hb dX0_fill_32 hl (k := 2) rfl (nI_inc) (by decide) rfl (fun ls hl => ?_)
        refine lv_goto (tgt := 2) hx hb dX0_fill_35 (by decide) ?_
        exact ih (i + 1) F_4 _ _ _ (by omega) (by omega) (zc_zer_step hv (by omega) hF_3 hF_4) hP hS (lv_sub hl [1, 2, 0] rfl)
  refine lv_iconst (v := nI 0) hx hb dX0_fill_0 (by decide) ?_
  refine lv_istore_n (lv' := [(2, .int (nI 0)), (0, .ref (ad 0)), (1, .int (nI g))]) hx hb dX0_fill_1 rfl hl (by decide) rfl (fun ls hl => ?_)
  exact L2 121 0 F _ _ _ (by omega) (by omega) (zc_zer_0 F g) hP hS (lv_sub hl [1, 2, 0] rfl)
set_option maxHeartbeats 4000000 in
theorem met0_note (l : Launch) (D : va_G) (ad : Nat → Nat) (dA : Nat → ClassId) (n : Nat) (F : Nat → Nat → Int32) (hI : cvI ad) (q : Nat) (a b : Int32) (hq : q < 120) : Met l yX0_note (ws_ yX0_note cX0_note 4 none) (rmL 0) (va_Pc [.ref (ad 0), .int (nI q), .int a, .int b] (Pw D (cvw ad dA n F) (cvT dA))) (Qn D (fun u : Nat × (Nat → Nat → Int32) => cvw ad dA u.1 u.2) (cvA ad) (fun u => u.1 = n ∧ zc_nt F u.2 q a b)) 0 0 (cvA ad) := by
  refine zz_mkV (by decide) rfl (Nat.le_of_ble_eq_true rfl) ?_
  intro pr e s m args below meth c Q ls S hpre hl hret
  obtain ⟨hP, hK⟩ := hpre
  have hx := S.1
  have hb := S.2.1
  have hown : s.vm.findClass RX0 = some m.cls := S.2.2.2.1
  have hts := S.2.2.2.2
  have hS : va_S (cvA ad) s.heap s.heap [] := va_S.rf
  have hl : lv_has ls 4 [(0, .ref (ad 0)), (1, .int (nI q)), (2, .int a), (3, .int b)] := hl
  refine lv_aload_n hx hb dX0_note_0 rfl (lv_at hl 0 rfl) ?_
  refine cv_g8 hx hb hts hown hK hP dX0_note_1 ?_
  refine lv_iload_n hx hb dX0_note_4 rfl (lv_at hl 1 rfl) ?_
  refine lv_aload_n hx hb dX0_note_5 rfl (lv_at hl 0 rfl) ?_
  refine cv_g8 hx hb hts hown hK hP dX0_note_6 ?_
  refine lv_iload_n hx hb dX0_note_9 rfl (lv_at hl 1 rfl) ?_
  refine cv_l8 hx hb hK hP q rfl (by omega) dX0_note_10 ?_
  refine lv_iload_n hx hb dX0_note_11 rfl (lv_at hl 2 rfl) ?_
  refine lv_iadd hx hb dX0_note_12 ?_
  refine cv_s8 hx hb hK hP hI hS q rfl (by omega) dX0_note_13 (fun F_1 H locs hF_1 hP hS => ?_)
  refine lv_aload_n hx hb dX0_note_14 rfl (lv_at hl 0 rfl) ?_
  refine cv_g9 hx hb hts hown hK hP dX0_note_15 ?_
  refine lv_iload_n hx hb dX0_note_18 rfl (lv_at hl 1 rfl) ?_
  refine lv_aload_n hx hb dX0_note_19 rfl (lv_at hl 0 rfl) ?_
  refine cv_g9 hx hb hts hown hK hP dX0_note_20 ?_
  refine lv_iload_n hx hb dX0_note_23 rfl (lv_at hl 1 rfl) ?_
  refine cv_l9 hx hb hK hP q rfl (by omega) dX0_note_24 ?_
  refine lv_iload_n hx hb dX0_note_25 rfl (lv_at hl 3 rfl) ?_
  refine lv_iadd hx hb dX0_note_26 ?_
  refine cv_s9 hx hb hK hP hI hS q rfl (by omega) dX0_note_27 (fun F_2 H locs hF_2 hP hS => ?_)
  exact hret _ _ _ _ (n, F_2) hP hS (⟨rfl, zc_nt_of hF_1 hF_2⟩) dX0_note_28
end
section
set_option maxRecDepth 100000
/-! what the arrays hold: n facts with places pl and amounts am -/
def zc_fok (n : Nat) (pl : Nat → Nat) (am : Nat → Int32) (F : Nat → Nat → Int32) : Prop := ∀ i, i < n → F 1 i = nI (pl i) ∧ pl i < 120 ∧ F 2 i = am i
/-- kept summaries are up to date -/
def zc_kok (n : Nat) (pl : Nat → Nat) (am : Nat → Int32) (F : Nat → Nat → Int32) : Prop := ∀ g, g < 8 → F 5 g ≠ 0 → ∀ q, q < 120 → F 6 (120 * g + q) = nI (zc_cnt (zc_at pl g q) n) ∧ F 7 (120 * g + q) = zc_sum (zc_at pl g q) am n
/-- the lists of facts by place -/
def zc_lok (n : Nat) (pl : Nat → Nat) (F : Nat → Nat → Int32) : Prop := (∀ p, p < 120 → F 3 p = zc_last pl n p) ∧ ∀ i, i < n → F 4 i = zc_last pl i (pl i)
/-- CubeViews holds the facts -/
def zc_cv (n : Nat) (pl : Nat → Nat) (am : Nat → Int32) (F : Nat → Nat → Int32) : Prop := n ≤ 40 ∧ zc_fok n pl am F ∧ (∀ i, i < n → zc_amt (am i)) ∧ zc_lok n pl F ∧ zc_kok n pl am F
theorem zc_cv_89 {n : Nat} {pl : Nat → Nat} {am : Nat → Int32} {F F' : Nat → Nat → Int32} (h : zc_cv n pl am F) (e : ∀ j, j ≠ 8 → j ≠ 9 → F' j = F j) : zc_cv n pl am F' := by
  obtain ⟨h1, h2, h3, ⟨h4, h5⟩, h6⟩ := h
  refine ⟨h1, ?_, h3, ⟨?_, ?_⟩, ?_⟩
  · intro i hi
    rw [e 1 (by decide) (by decide), e 2 (by decide) (by decide)]
    exact h2 i hi
  · intro p hp
    rw [e 3 (by decide) (by decide)]
    exact h4 p hp
  · intro i hi
    rw [e 4 (by decide) (by decide)]
    exact h5 i hi
  · intro g hg hk q hq
    rw [e 5 (by decide) (by decide)] at hk
    rw [e 6 (by decide) (by decide), e 7 (by decide) (by decide)]
    exact h6 g hg hk q hq
end
section
set_option maxRecDepth 100000
set_option maxHeartbeats 4000000 in
theorem met0_gather (l : Launch) (D : va_G) (ad : Nat → Nat) (dA : Nat → ClassId) (n : Nat) (F : Nat → Nat → Int32) (hI : cvI ad) (G f : Nat) (hG : G < 8) (hf : f < 32768) (pl : Nat → Nat) (am : Nat → Int32) (hn : n ≤ 40) (h1 : zc_fok n pl am F) (hk : zc_kok n pl am F) : Met l yX0_gather (ws_ yX0_gather cX0_gather 7 none) (rmL 2) (va_Pc [.ref (ad 0), .int (nI G), .int (nI f)] (Pw D (cvw ad dA n F) (cvT dA))) (Qn D (fun u : Nat × (Nat → Nat → Int32) => cvw ad dA u.1 u.2) (cvA ad) (fun u => u.1 = n ∧ zc_gat F u.2 pl am G f n)) 0 0 (cvA ad) := by
  refine zz_mkV (by decide) rfl (Nat.le_of_ble_eq_true rfl) ?_
  intro pr e s m args below meth c Q ls S hpre hl hret
  obtain ⟨hP, hK⟩ := hpre
  have hx := S.1
  have hb := S.2.1
  have hown : s.vm.findClass RX0 = some m.cls := S.2.2.2.1
  have hts := S.2.2.2.2
  have hS : va_S (cvA ad) s.heap s.heap [] := va_S.rf
  have hl : lv_has ls 7 [(0, .ref (ad 0)), (1, .int (nI G)), (2, .int (nI f))] := hl
  have hpl : ∀ i, i < n → pl i < 120 := fun i hi => (h1 i hi).2.1
  have L51 : ∀ (dd i : Nat) (F1 : Nat → Nat → Int32) (H : Heap) (locs : List Loc) (ls : Array Slot), i ≤ n → n + 1 ≤ i + dd → zc_gat F F1 pl am G f i → va_P D vwCl (cvw ad dA n F1) H → va_S (cvA ad) s.heap H locs → lv_has ls 7 [(0, .ref (ad 0)), (1, .int (nI G)), (2, .int (nI f)), (5, .int (nI i))] → W pr l e (rmL 2) s m args below meth c H locs 0 0 Q (F0 m 51 ls []) := by
    intro dd
    induction dd with
    | zero =>
      intro i F1 H locs ls hle hdd
      exact absurd hdd (by omega)
    | succ dd ih =>
      intro i F1 H locs ls hle hdd hv hP hS hl
      refine lv_iload hx hb dX0_gather_51 (lv_at hl 3 rfl) ?_
      refine lv_aload_n hx hb dX0_gather_53 rfl (lv_at hl 0 rfl) ?_
      refine cv_g0 hx hb hts hown hK hP dX0_gather_54 ?_
      refine nv_icmp_ge (tgt := 111) (by omega) (by omega) hx hb dX0_gather_57 (by decide) (fun c57 => ?_) (fun c57 => ?_)
      · have hin : i = n := by omega
        rw [hin] at hv
        exact hret _ _ _ _ (n, F1) hP hS (⟨rfl, hv⟩) dX0_gather_111
      · refine lv_aload_n hx hb dX0_gather_60 rfl (lv_at hl 0 rfl) ?_
        refine lv_aload_n hx hb dX0_gather_61 rfl (lv_at hl 0 rfl) ?_
        refine cv_g1 hx hb hts hown hK hP dX0_gather_62 ?_
        refine lv_iload hx hb dX0_gather_65 (lv_at hl 3 rfl) ?_
        refine cv_l1 hx hb hK hP i rfl (by omega) dX0_gather_67 ?_
        obtain ⟨e1, hpi, e2⟩ := h1 i (by omega)
        have k1 := hv.1 1 (by decide) (by decide)
        have k2 := hv.1 2 (by decide) (by decide)
        refine cv_top (b := nI (pl i)) (by rw [k1]; exact e1) ?_
        refine lv_iload_n hx hb dX0_gather_68 rfl (lv_at hl 2 rfl) ?_
        refine lv_bipush (v := nI 7) hx hb dX0_gather_69 (by decide) ?_
        refine zz_callR (As := [.int (nI (pl i)), .int (nI f), .int (nI 7)]) (rest := []) S hK hP hS (met0_passes l D ad dA n F1 (pl i) f 7 (by omega) (by omega) (by omega)) (cwX0_passes hts (by decide)) (cv_recv hK hP) rfl hl.1 rfl (by decide) dX0_gather_71 ⟨Nat.le_refl 0, Nat.le_refl 0⟩ (fun r71 H locs hr71 hP hS => ?_)
        rcases hr71 with ⟨hr71, hps⟩ | ⟨hr71, hps⟩
        · subst hr71
          refine nv_if_eq (tgt := 105) (by omega) hx hb dX0_gather_74 (by decide) (fun c74 => ?_) (fun c74 => ?_)
          · exact absurd c74 (by decide)
          · refine lv_aload_n hx hb dX0_gather_77 rfl (lv_at hl 0 rfl) ?_
            refine lv_aload_n hx hb dX0_gather_78 rfl (lv_at hl 0 rfl) ?_
            refine cv_g1 hx hb hts hown hK hP dX0_gather_79 ?_
            refine lv_iload hx hb dX0_gather_82 (lv_at hl 3 rfl) ?_
            refine cv_l1 hx hb hK hP i rfl (by omega) dX0_gather_84 ?_
            refine cv_top (b := nI (pl i)) (by rw [k1]; exact e1) ?_
            refine lv_iload_n hx hb dX0_gather_85 rfl (lv_at hl 1 rfl) ?_
            refine zz_callR (As := [.int (nI (pl i)), .int (nI G)]) (rest := []) S hK hP hS (met0_group l D ad dA n F1 (pl i) G (by omega) (by omega)) (cwX0_group hts (by decide)) (cv_recv hK hP) rfl hl.1 rfl (by decide) dX0_gather_86 ⟨Nat.le_refl 0, Nat.le_refl 0⟩ (fun r86 H locs hr86 hP hS => ?_)
            subst hr86
            have hgl86 := zc_grp_lt (p := (pl i)) G (by omega)
            refine lv_istore (lv' := [(6, .int (nI (zc_grp (pl i) G))), (0, .ref (ad 0)), (1, .int (nI G)), (2, .int (nI f)), (5, .int (nI i))]) hx hb dX0_gather_89 hl (by decide) rfl (fun ls hl => ?_)
            refine lv_aload_n hx hb dX0_gather_91 rfl (lv_at hl 1 rfl) ?_
            refine lv_iload hx hb dX0_gather_92 (lv_at hl 0 rfl) ?_
            refine lv_iconst (v := nI 1) hx hb dX0_gather_94 (by decide) ?_
            refine lv_aload_n hx hb dX0_gather_95 rfl (lv_at hl 1 rfl) ?_
            refine cv_g2 hx hb hts hown hK hP dX0_gather_96 ?_
            refine lv_iload hx hb dX0_gather_99 (lv_at hl 4 rfl) ?_
            refine cv_l2 hx hb hK hP i rfl (by omega) dX0_gather_101 ?_
            refine cv_top (b := am i) (by rw [k2]; exact e2) ?_
            refine zz_callV (As := [.int (nI (zc_grp (pl i) G)), .int (nI 1), .int (am i)]) (rest := []) S hK hP hS (fun _ h => h) (met0_note l D ad dA n F1 hI (zc_grp (pl i) G) (nI 1) (am i) (by omega)) (cwX0_note hts (by decide)) (cv_recv hK hP) rfl hl.1 rfl (by decide) dX0_gather_102 ⟨Nat.le_refl 0, Nat.le_refl 0⟩ (fun u_1 H locs hr102 hP _ hS => ?_)
            obtain ⟨n_3, F_2⟩ := u_1
            replace hP : va_P D vwCl (cvw ad dA n_3 F_2) H := hP
            obtain ⟨hn102, hu102⟩ := hr102
            dsimp only at hu102
            replace hn102 : n_3 = n := hn102
            rw [hn102] at hP
            refine lv_iinc (v := nI (i + 1)) (lv' := [(5, .int (nI (i + 1))), (6, .int (nI (zc_grp (pl i) G))), (0, .ref (ad 0)), (1, .int (nI G)), (2, .int (nI f))]) hx hb dX0_gather_105 hl (k := 4) rfl (nI_inc) (by decide) rfl (fun ls hl => ?_)
            refine lv_goto (tgt := 51) hx hb dX0_gather_108 (by decide) ?_
            exact ih (i + 1) F_2 _ _ _ (by omega) (by omega) (zc_gat_step hv hps hu102) hP hS (lv_sub hl [2, 3, 4, 0] rfl)
        · subst hr71
          refine nv_if_eq (tgt := 105) (by omega) hx hb dX0_gather_74 (by decide) (fun c74 => ?_) (fun c74 => ?_)
          · refine lv_iinc (v := nI (i + 1)) (lv' := [(5, .int (nI (i + 1))), (0, .ref (ad 0)), (1, .int (nI G)), (2, .int (nI f))]) hx hb dX0_gather_105 hl (k := 3) rfl (nI_inc) (by decide) rfl (fun ls hl => ?_)
            refine lv_goto (tgt := 51) hx hb dX0_gather_108 (by decide) ?_
            exact ih (i + 1) F1 _ _ _ (by omega) (by omega) (zc_gat_skip hv hps) hP hS (lv_sub hl [1, 2, 3, 0] rfl)
          · exact absurd rfl c74
  have L2 : ∀ (dd i : Nat) (F1 : Nat → Nat → Int32) (H : Heap) (locs : List Loc) (ls : Array Slot), i ≤ 120 → 120 + 1 ≤ i + dd → zc_zg F F1 i → va_P D vwCl (cvw ad dA n F1) H → va_S (cvA ad) s.heap H locs → lv_has ls 7 [(0, .ref (ad 0)), (1, .int (nI G)), (2, .int (nI f)), (3, .int (nI i))] → W pr l e (rmL 2) s m args below meth c H locs 0 0 Q (F0 m 2 ls []) := by
    intro dd
    induction dd with
    | zero =>
      intro i F1 H locs ls hle hdd
      exact absurd hdd (by omega)
    | succ dd ih =>
      intro i F1 H locs ls hle hdd hv hP hS hl
      refine lv_iload_n hx hb dX0_gather_2 rfl (lv_at hl 3 rfl) ?_
      refine lv_bipush (v := nI 120) hx hb dX0_gather_3 (by decide) ?_
      refine nv_icmp_ge (tgt := 28) (by omega) (by omega) hx hb dX0_gather_5 (by decide) (fun c5 => ?_) (fun c5 => ?_)
      · have hin : i = 120 := by omega
        rw [hin] at hv
        replace hl := (lv_sub (l' := [(0, .ref (ad 0)), (1, .int (nI G)), (2, .int (nI f))]) hl [0, 1, 2] rfl)
        refine lv_aload_n hx hb dX0_gather_28 rfl (lv_at hl 0 rfl) ?_
        refine lv_iload_n hx hb dX0_gather_29 rfl (lv_at hl 2 rfl) ?_
        refine zz_callR (As := [.int (nI f)]) (rest := []) S hK hP hS (met0_cuts l D ad dA n F1 f (by omega)) (cwX0_cuts hts (by decide)) (cv_recv hK hP) rfl hl.1 rfl (by decide) dX0_gather_30 ⟨Nat.le_refl 0, Nat.le_refl 0⟩ (fun r30 H locs hr30 hP hS => ?_)
        obtain ⟨cu, hc8, hr30, k1, k2, k4⟩ := hr30
        subst hr30
        refine lv_iload_n hx hb dX0_gather_33 rfl (lv_at hl 1 rfl) ?_
        refine lv_ior hx hb dX0_gather_34 ?_
        obtain ⟨d, hd⟩ : ∃ d, d = cu ||| G := ⟨_, rfl⟩
        obtain ⟨hd8, q1, q2, q4⟩ := zc_or8 cu hc8 G hG
        rw [← hd] at hd8 q1 q2 q4
        refine cv_top (b := nI d) (by rw [hd]; exact zc_oo cu hc8 G hG) ?_
        refine lv_istore_n (lv' := [(3, .int (nI d)), (0, .ref (ad 0)), (1, .int (nI G)), (2, .int (nI f))]) hx hb dX0_gather_35 rfl hl (by decide) rfl (fun ls hl => ?_)
        refine lv_aload_n hx hb dX0_gather_36 rfl (lv_at hl 1 rfl) ?_
        refine lv_iload_n hx hb dX0_gather_37 rfl (lv_at hl 0 rfl) ?_
        refine zz_callR (As := [.int (nI d)]) (rest := []) S hK hP hS (met0_smallest l D ad dA n F1 d (by omega)) (cwX0_smallest hts (by decide)) (cv_recv hK hP) rfl hl.1 rfl (by decide) dX0_gather_38 ⟨Nat.le_refl 0, Nat.le_refl 0⟩ (fun r38 H locs hr38 hP hS => ?_)
        rcases hr38 with hr38 | ⟨gg, hg8, hr38, hk5, hgd⟩
        · subst hr38
          refine lv_istore (lv' := [(4, .int (-1)), (3, .int (nI d)), (0, .ref (ad 0)), (1, .int (nI G)), (2, .int (nI f))]) hx hb dX0_gather_41 hl (by decide) rfl (fun ls hl => ?_)
          refine lv_iload hx hb dX0_gather_43 (lv_at hl 0 rfl) ?_
          refine lv_if_ge (tgt := 112) hx hb dX0_gather_45 (by decide) (fun c45 => ?_) (fun c45 => ?_)
          · exact absurd c45 (by decide)
          · refine lv_iconst (v := nI 0) hx hb dX0_gather_48 (by decide) ?_
            refine lv_istore (lv' := [(5, .int (nI 0)), (4, .int (-1)), (3, .int (nI d)), (0, .ref (ad 0)), (1, .int (nI G)), (2, .int (nI f))]) hx hb dX0_gather_49 hl (by decide) rfl (fun ls hl => ?_)
            exact L51 (n + 1) 0 F1 _ _ _ (by omega) (by omega) (zc_gat_0 pl am G f hv) hP hS (lv_sub hl [3, 4, 5, 0] rfl)
        · subst hr38
          have hk5 : F 5 gg ≠ 0 := by rw [← hv.1 5 (by decide) (by decide)]; exact hk5
          obtain ⟨b1, b2, b4⟩ := zc_in8 gg hg8 d hd8 hgd
          have hN : zc_needs f G d gg := ⟨b1, b2, b4, fun h => ⟨k1 (q1.mp h).1, (q1.mp h).2⟩, fun h => ⟨k2 (q2.mp h).1, (q2.mp h).2⟩, fun h => ⟨k4 (q4.mp h).1, (q4.mp h).2⟩⟩
          have L115 : ∀ (dd p : Nat) (F2 : Nat → Nat → Int32) (H : Heap) (locs : List Loc) (ls : Array Slot), p ≤ 120 → 120 + 1 ≤ p + dd → zc_gab F F2 n pl am gg G f p → va_P D vwCl (cvw ad dA n F2) H → va_S (cvA ad) s.heap H locs → lv_has ls 7 [(0, .ref (ad 0)), (1, .int (nI G)), (2, .int (nI f)), (3, .int (nI d)), (4, .int (nI gg)), (5, .int (nI p))] → W pr l e (rmL 2) s m args below meth c H locs 0 0 Q (F0 m 115 ls []) := by
            intro dd
            induction dd with
            | zero =>
              intro p F2 H locs ls hle hdd
              exact absurd hdd (by omega)
            | succ dd ih =>
              intro p F2 H locs ls hle hdd hv2 hP hS hl
              refine lv_iload hx hb dX0_gather_115 (lv_at hl 5 rfl) ?_
              refine lv_bipush (v := nI 120) hx hb dX0_gather_117 (by decide) ?_
              refine nv_icmp_ge (tgt := 196) (by omega) (by omega) hx hb dX0_gather_119 (by decide) (fun c119 => ?_) (fun c119 => ?_)
              · have hin : p = 120 := by omega
                rw [hin] at hv2
                exact hret _ _ _ _ (n, F2) hP hS (⟨rfl, zc_gab_end hv2 hpl⟩) dX0_gather_196
              · refine lv_aload_n hx hb dX0_gather_122 rfl (lv_at hl 0 rfl) ?_
                refine cv_g6 hx hb hts hown hK hP dX0_gather_123 ?_
                refine lv_bipush (v := nI 120) hx hb dX0_gather_126 (by decide) ?_
                refine lv_iload hx hb dX0_gather_128 (lv_at hl 4 rfl) ?_
                refine lv_imul hx hb dX0_gather_130 ?_
                refine cv_top (pk_mul _ _) ?_
                refine lv_iload hx hb dX0_gather_131 (lv_at hl 5 rfl) ?_
                refine lv_iadd hx hb dX0_gather_133 ?_
                refine cv_top (nI_add _ _) ?_
                refine cv_l6 hx hb hK hP (120 * gg + p) rfl (by omega) dX0_gather_134 ?_
                have k6 := hv2.1 6 (by decide) (by decide)
                have k7 := hv2.1 7 (by decide) (by decide)
                have hcell := hk gg hg8 hk5 p (by omega)
                have hcl := zc_cnt_le (zc_at pl gg p) n
                refine cv_top (b := nI (zc_cnt (zc_at pl gg p) n)) (by rw [k6]; exact hcell.1) ?_
                refine nv_if_le (tgt := 190) (by omega) hx hb dX0_gather_135 (by decide) (fun c135 => ?_) (fun c135 => ?_)
                · refine lv_iinc (v := nI (p + 1)) (lv' := [(5, .int (nI (p + 1))), (0, .ref (ad 0)), (1, .int (nI G)), (2, .int (nI f)), (3, .int (nI d)), (4, .int (nI gg))]) hx hb dX0_gather_190 hl (k := 5) rfl (nI_inc) (by decide) rfl (fun ls hl => ?_)
                  refine lv_goto (tgt := 115) hx hb dX0_gather_193 (by decide) ?_
                  exact ih (p + 1) F2 _ _ _ (by omega) (by omega) (zc_gab_skip0 hv2 hpl hN c135) hP hS (lv_sub hl [1, 2, 3, 4, 5, 0] rfl)
                · refine lv_aload_n hx hb dX0_gather_138 rfl (lv_at hl 0 rfl) ?_
                  refine lv_iload hx hb dX0_gather_139 (lv_at hl 5 rfl) ?_
                  refine lv_iload_n hx hb dX0_gather_141 rfl (lv_at hl 2 rfl) ?_
                  refine lv_iload_n hx hb dX0_gather_142 rfl (lv_at hl 3 rfl) ?_
                  refine zz_callR (As := [.int (nI p), .int (nI f), .int (nI d)]) (rest := []) S hK hP hS (met0_passes l D ad dA n F2 p f d (by omega) (by omega) (by omega)) (cwX0_passes hts (by decide)) (cv_recv hK hP) rfl hl.1 rfl (by decide) dX0_gather_143 ⟨Nat.le_refl 0, Nat.le_refl 0⟩ (fun r143 H locs hr143 hP hS => ?_)
                  rcases hr143 with ⟨hr143, hps⟩ | ⟨hr143, hps⟩
                  · subst hr143
                    refine nv_if_eq (tgt := 190) (by omega) hx hb dX0_gather_146 (by decide) (fun c146 => ?_) (fun c146 => ?_)
                    · exact absurd c146 (by decide)
                    · refine lv_aload_n hx hb dX0_gather_149 rfl (lv_at hl 0 rfl) ?_
                      refine lv_iload hx hb dX0_gather_150 (lv_at hl 5 rfl) ?_
                      refine lv_iload_n hx hb dX0_gather_152 rfl (lv_at hl 1 rfl) ?_
                      refine zz_callR (As := [.int (nI p), .int (nI G)]) (rest := []) S hK hP hS (met0_group l D ad dA n F2 p G (by omega) (by omega)) (cwX0_group hts (by decide)) (cv_recv hK hP) rfl hl.1 rfl (by decide) dX0_gather_153 ⟨Nat.le_refl 0, Nat.le_refl 0⟩ (fun r153 H locs hr153 hP hS => ?_)
                      subst hr153
                      have hgl153 := zc_grp_lt (p := p) G (by omega)
                      refine lv_istore (lv' := [(6, .int (nI (zc_grp p G))), (0, .ref (ad 0)), (1, .int (nI G)), (2, .int (nI f)), (3, .int (nI d)), (4, .int (nI gg)), (5, .int (nI p))]) hx hb dX0_gather_156 hl (by decide) rfl (fun ls hl => ?_)
                      refine lv_aload_n hx hb dX0_gather_158 rfl (lv_at hl 1 rfl) ?_
                      refine lv_iload hx hb dX0_gather_159 (lv_at hl 0 rfl) ?_
                      refine lv_aload_n hx hb dX0_gather_161 rfl (lv_at hl 1 rfl) ?_
                      refine cv_g6 hx hb hts hown hK hP dX0_gather_162 ?_
                      refine lv_bipush (v := nI 120) hx hb dX0_gather_165 (by decide) ?_
                      refine lv_iload hx hb dX0_gather_167 (lv_at hl 5 rfl) ?_
                      refine lv_imul hx hb dX0_gather_169 ?_
                      refine cv_top (pk_mul _ _) ?_
                      refine lv_iload hx hb dX0_gather_170 (lv_at hl 6 rfl) ?_
                      refine lv_iadd hx hb dX0_gather_172 ?_
                      refine cv_top (nI_add _ _) ?_
                      refine cv_l6 hx hb hK hP (120 * gg + p) rfl (by omega) dX0_gather_173 ?_
                      refine lv_aload_n hx hb dX0_gather_174 rfl (lv_at hl 1 rfl) ?_
                      refine cv_g7 hx hb hts hown hK hP dX0_gather_175 ?_
                      refine lv_bipush (v := nI 120) hx hb dX0_gather_178 (by decide) ?_
                      refine lv_iload hx hb dX0_gather_180 (lv_at hl 5 rfl) ?_
                      refine lv_imul hx hb dX0_gather_182 ?_
                      refine cv_top (pk_mul _ _) ?_
                      refine lv_iload hx hb dX0_gather_183 (lv_at hl 6 rfl) ?_
                      refine lv_iadd hx hb dX0_gather_185 ?_
                      refine cv_top (nI_add _ _) ?_
                      refine cv_l7 hx hb hK hP (120 * gg + p) rfl (by omega) dX0_gather_186 ?_
                      refine zz_callV (As := [.int (nI (zc_grp p G)), .int (F2 6 (120 * gg + p)), .int (F2 7 (120 * gg + p))]) (rest := []) S hK hP hS (fun _ h => h) (met0_note l D ad dA n F2 hI (zc_grp p G) (F2 6 (120 * gg + p)) (F2 7 (120 * gg + p)) (by omega)) (cwX0_note hts (by decide)) (cv_recv hK hP) rfl hl.1 rfl (by decide) dX0_gather_187 ⟨Nat.le_refl 0, Nat.le_refl 0⟩ (fun u_4 H locs hr187 hP _ hS => ?_)
                      obtain ⟨n_6, F_5⟩ := u_4
                      replace hP : va_P D vwCl (cvw ad dA n_6 F_5) H := hP
                      obtain ⟨hn187, hu187⟩ := hr187
                      dsimp only at hu187
                      replace hn187 : n_6 = n := hn187
                      rw [hn187] at hP
                      refine lv_iinc (v := nI (p + 1)) (lv' := [(5, .int (nI (p + 1))), (6, .int (nI (zc_grp p G))), (0, .ref (ad 0)), (1, .int (nI G)), (2, .int (nI f)), (3, .int (nI d)), (4, .int (nI gg))]) hx hb dX0_gather_190 hl (k := 6) rfl (nI_inc) (by decide) rfl (fun ls hl => ?_)
                      refine lv_goto (tgt := 115) hx hb dX0_gather_193 (by decide) ?_
                      exact ih (p + 1) F_5 _ _ _ (by omega) (by omega) (zc_gab_step hv2 hpl hN hps hu187 (by rw [k6]; exact hcell.1) (by rw [k7]; exact hcell.2)) hP hS (lv_sub hl [2, 3, 4, 5, 6, 0] rfl)
                  · subst hr143
                    refine nv_if_eq (tgt := 190) (by omega) hx hb dX0_gather_146 (by decide) (fun c146 => ?_) (fun c146 => ?_)
                    · refine lv_iinc (v := nI (p + 1)) (lv' := [(5, .int (nI (p + 1))), (0, .ref (ad 0)), (1, .int (nI G)), (2, .int (nI f)), (3, .int (nI d)), (4, .int (nI gg))]) hx hb dX0_gather_190 hl (k := 5) rfl (nI_inc) (by decide) rfl (fun ls hl => ?_)
                      refine lv_goto (tgt := 115) hx hb dX0_gather_193 (by decide) ?_
                      exact ih (p + 1) F2 _ _ _ (by omega) (by omega) (zc_gab_skip hv2 hpl hN hps) hP hS (lv_sub hl [1, 2, 3, 4, 5, 0] rfl)
                    · exact absurd rfl c146
          refine lv_istore (lv' := [(4, .int (nI gg)), (3, .int (nI d)), (0, .ref (ad 0)), (1, .int (nI G)), (2, .int (nI f))]) hx hb dX0_gather_41 hl (by decide) rfl (fun ls hl => ?_)
          refine lv_iload hx hb dX0_gather_43 (lv_at hl 0 rfl) ?_
          refine lv_if_ge (tgt := 112) hx hb dX0_gather_45 (by decide) (fun c45 => ?_) (fun c45 => ?_)
          · refine lv_iconst (v := nI 0) hx hb dX0_gather_112 (by decide) ?_
            refine lv_istore (lv' := [(5, .int (nI 0)), (4, .int (nI gg)), (3, .int (nI d)), (0, .ref (ad 0)), (1, .int (nI G)), (2, .int (nI f))]) hx hb dX0_gather_113 hl (by decide) rfl (fun ls hl => ?_)
            exact L115 121 0 F1 _ _ _ (by omega) (by omega) (zc_gab_0 n pl am gg G f hv) hP hS (lv_sub hl [3, 4, 5, 2, 1, 0] rfl)
          · exact absurd (nI_pos' (by omega)) c45
      · refine lv_aload_n hx hb dX0_gather_8 rfl (lv_at hl 0 rfl) ?_
        refine cv_g8 hx hb hts hown hK hP dX0_gather_9 ?_
        refine lv_iload_n hx hb dX0_gather_12 rfl (lv_at hl 3 rfl) ?_
        refine lv_iconst (v := nI 0) hx hb dX0_gather_13 (by decide) ?_
        refine cv_s8 hx hb hK hP hI hS i rfl (by omega) dX0_gather_14 (fun F_7 H locs hF_7 hP hS => ?_)
        refine lv_aload_n hx hb dX0_gather_15 rfl (lv_at hl 0 rfl) ?_
        refine cv_g9 hx hb hts hown hK hP dX0_gather_16 ?_
        refine lv_iload_n hx hb dX0_gather_19 rfl (lv_at hl 3 rfl) ?_
        refine lv_iconst (v := nI 0) hx hb dX0_gather_20 (by decide) ?_
        refine cv_s9 hx hb hK hP hI hS i rfl (by omega) dX0_gather_21 (fun F_8 H locs hF_8 hP hS => ?_)
        refine lv_iinc (v := nI (i + 1)) (lv' := [(3, .int (nI (i + 1))), (0, .ref (ad 0)), (1, .int (nI G)), (2, .int (nI f))]) hx hb dX0_gather_22 hl (k := 3) rfl (nI_inc) (by decide) rfl (fun ls hl => ?_)
        refine lv_goto (tgt := 2) hx hb dX0_gather_25 (by decide) ?_
        exact ih (i + 1) F_8 _ _ _ (by omega) (by omega) (zc_zg_step hv hF_7 hF_8) hP hS (lv_sub hl [1, 2, 3, 0] rfl)
  refine lv_iconst (v := nI 0) hx hb dX0_gather_0 (by decide) ?_
  refine lv_istore_n (lv' := [(3, .int (nI 0)), (0, .ref (ad 0)), (1, .int (nI G)), (2, .int (nI f))]) hx hb dX0_gather_1 rfl hl (by decide) rfl (fun ls hl => ?_)
  exact L2 121 0 F _ _ _ (by omega) (by omega) (zc_zg_0 F) hP hS (lv_sub hl [1, 2, 3, 0] rfl)
end
section
set_option maxRecDepth 100000
/-! what the answers are -/
/-- an answer to a question with arguments that may be bad -/
def zc_RX {α : Type} (ok : α → Prop) (val : α → Int32 → Prop) (r : Int32) : Prop := (∃ x, ok x ∧ val x r) ∨ ((∀ x, ¬ ok x) ∧ r = (-1000000))
theorem zc_RX_one {α : Type} {ok : α → Prop} {val : α → Int32 → Prop} {r r' : Int32} (h1 : ∀ x y, ok x → ok y → x = y) (h2 : ∀ x r r', val x r → val x r' → r = r') (h : zc_RX ok val r) (h' : zc_RX ok val r') : r = r' := by
  rcases h with ⟨x, hx, hv⟩ | ⟨hn, e⟩ <;> rcases h' with ⟨y, hy, hw⟩ | ⟨hm, e'⟩
  · rw [h1 x y hx hy] at hv
    exact h2 y r r' hv hw
  · exact absurd hx (hm x)
  · exact absurd hy (hn y)
  · rw [e, e']
def zc_okF (a : Int32) (f : Nat) : Prop := f < 32768 ∧ a = nI f
def zc_okG (a : Int32) (f : Nat) : Prop := f < 8 ∧ a = nI f
def zc_okGF (a b : Int32) (x : Nat × Nat) : Prop := zc_okG a x.1 ∧ zc_okF b x.2
theorem zc_okF_one {a : Int32} (x y : Nat) (h : zc_okF a x) (h' : zc_okF a y) : x = y := by
  obtain ⟨h1, h2⟩ := h
  obtain ⟨h3, h4⟩ := h'
  exact (nI_eq (by omega) (by omega)).mp (h2.symm.trans h4)
theorem zc_okG_one {a : Int32} (x y : Nat) (h : zc_okG a x) (h' : zc_okG a y) : x = y := by
  obtain ⟨h1, h2⟩ := h
  obtain ⟨h3, h4⟩ := h'
  exact (nI_eq (by omega) (by omega)).mp (h2.symm.trans h4)
theorem zc_okGF_one {a b : Int32} (x y : Nat × Nat) (h : zc_okGF a b x) (h' : zc_okGF a b y) : x = y := by
  obtain ⟨x1, x2⟩ := x
  obtain ⟨y1, y2⟩ := y
  have e1 := zc_okG_one _ _ h.1 h'.1
  have e2 := zc_okF_one _ _ h.2 h'.2
  simp only at e1 e2
  rw [e1, e2]
/-- counts and sums by group -/
def zc_C (n : Nat) (pl : Nat → Nat) (G f : Nat) : Nat → Nat := fun q => zc_cnt (zc_sel pl G f q) n
def zc_S (n : Nat) (pl : Nat → Nat) (am : Nat → Int32) (G f : Nat) : Nat → Int32 := fun q => zc_sum (zc_sel pl G f q) am n
theorem zc_C_le (n : Nat) (pl : Nat → Nat) (G f q : Nat) : zc_C n pl G f q ≤ n := zc_cnt_le _ _
theorem zc_gatC {F F' : Nat → Nat → Int32} {pl : Nat → Nat} {am : Nat → Int32} {G f n q : Nat} (h : zc_gat F F' pl am G f n) (hq : q < 120) : F' 8 q = nI (zc_C n pl G f q) ∧ F' 9 q = zc_S n pl am G f q := h.2 q hq
theorem zc_ng_no {C : Nat → Nat} {k : Nat} (h : C k = 0) : zc_ng C (k + 1) = zc_ng C k := by
  simp [zc_ng, h]
theorem zc_ng_yes {C : Nat → Nat} {k : Nat} (h : 0 < C k) : zc_ng C (k + 1) = zc_ng C k + 1 := by
  simp [zc_ng, h]
theorem zc_na_no {C : Nat → Nat} {S : Nat → Int32} {x : Int32} {k : Nat} (h : C k = 0) : zc_na C S x (k + 1) = zc_na C S x k := by
  simp [zc_na, h]
theorem zc_na_lt {C : Nat → Nat} {S : Nat → Int32} {x : Int32} {k : Nat} (h : S k < x) : zc_na C S x (k + 1) = zc_na C S x k := by
  have : ¬ x ≤ S k := Int32.not_le.mpr h
  simp [zc_na, this]
theorem zc_na_yes {C : Nat → Nat} {S : Nat → Int32} {x : Int32} {k : Nat} (h : 0 < C k) (h2 : ¬ S k < x) : zc_na C S x (k + 1) = zc_na C S x k + 1 := by
  have : x ≤ S k := Int32.not_lt.mp h2
  simp [zc_na, this, h]
theorem zc_top_0 {C : Nat → Nat} {S : Nat → Int32} {k : Nat} {o : Option Nat} (e : o = zc_top C S k) (h : C k = 0) : o = zc_top C S (k + 1) := by
  simp only [zc_top, h]
  rw [← e]
  cases o <;> simp
theorem zc_top_n {C : Nat → Nat} {S : Nat → Int32} {k : Nat} (e : none = zc_top C S k) (h : 0 < C k) : some k = zc_top C S (k + 1) := by
  simp only [zc_top]
  rw [← e]
  simp [h]
theorem zc_top_g {C : Nat → Nat} {S : Nat → Int32} {k b : Nat} (e : some b = zc_top C S k) (h : 0 < C k) (h2 : ¬ S k ≤ S b) : some k = zc_top C S (k + 1) := by
  simp only [zc_top]
  rw [← e]
  simp [h, Int32.not_le.mp h2]
theorem zc_top_l {C : Nat → Nat} {S : Nat → Int32} {k b : Nat} (e : some b = zc_top C S k) (h2 : S k ≤ S b) : some b = zc_top C S (k + 1) := by
  simp only [zc_top]
  rw [← e]
  have : ¬ S b < S k := Int32.not_lt.mpr h2
  simp [this]
/-- a place or nothing, as the class and as the reference say it -/
def zc_ob : Option Nat → Int32
  | none => (-1)
  | some b => nI b
def zc_og : Option Nat → Int32
  | none => (-4000000)
  | some b => nI b
def zc_os (S : Nat → Int32) : Option Nat → Int32
  | none => (-4000000)
  | some b => S b
/-! quarters, growth -/
def zc_okQ (a b : Int32) (x : Nat × Nat) : Prop := (x.1 < 2 ∧ a = nI x.1) ∧ (x.2 < 4 ∧ b = nI x.2)
theorem zc_okQ_one {a b : Int32} (x y : Nat × Nat) (h : zc_okQ a b x) (h' : zc_okQ a b y) : x = y := by
  obtain ⟨x1, x2⟩ := x
  obtain ⟨y1, y2⟩ := y
  obtain ⟨⟨h1, h2⟩, h3, h4⟩ := h
  obtain ⟨⟨h5, h6⟩, h7, h8⟩ := h'
  simp only at h1 h2 h3 h4 h5 h6 h7 h8
  rw [(nI_eq (by omega) (by omega)).mp (h2.symm.trans h6), (nI_eq (by omega) (by omega)).mp (h4.symm.trans h8)]
def zc_qs (pl : Nat → Nat) (q g : Nat) : Nat → Bool := fun i => decide (pl i / 20 / 3 = q) && decide (pl i % 4 = g)
def zc_q (q g : Nat) : Nat := 2 ^ g + 496 + 7 * 2 ^ (9 + 3 * q)
theorem zc_qf : ∀ q, q < 2 → ∀ g, g < 4 → ((nI 1 <<< (nI g &&& 31)) ||| nI 496) ||| (nI 7 <<< (nI (9 + 3 * q) &&& 31)) = nI (zc_q q g) := by decide +kernel
theorem zc_q_lt : ∀ q, q < 2 → ∀ g, g < 4 → zc_q q g < 32768 := by decide +kernel
theorem zc_q_p : ∀ p, p < 120 → ∀ q, q < 2 → ∀ g, g < 4 → (decide (zc_grp p 0 = 0) && zc_ps p (zc_q q g) 7) = (decide (p / 20 / 3 = q) && decide (p % 4 = g)) := by decide +kernel
theorem zc_q_sum {n : Nat} {pl : Nat → Nat} {am : Nat → Int32} {q g : Nat} (hq : q < 2) (hg : g < 4) (hp : ∀ i, i < n → pl i < 120) : zc_S n pl am 0 (zc_q q g) 0 = zc_sum (zc_qs pl q g) am n := zc_sum_congr (fun i hi => zc_q_p (pl i) (hp i hi) q hq g hg) (fun _ _ => rfl)
def zc_okM (a : Int32) (m : Nat) : Prop := 1 ≤ m ∧ m < 6 ∧ a = nI m
theorem zc_okM_one {a : Int32} (x y : Nat) (h : zc_okM a x) (h' : zc_okM a y) : x = y := by
  obtain ⟨h1, h2, h3⟩ := h
  obtain ⟨h4, h5, h6⟩ := h'
  exact (nI_eq (by omega) (by omega)).mp (h3.symm.trans h6)
def zc_ms (pl : Nat → Nat) (m : Nat) : Nat → Bool := fun i => decide (pl i / 20 = m)
theorem zc_m_p : ∀ p, p < 120 → ∀ m, m < 6 → (decide (zc_grp p 4 = 20 * m) && zc_ps p 32767 7) = decide (p / 20 = m) := by decide +kernel
theorem zc_m_sum {n : Nat} {pl : Nat → Nat} {am : Nat → Int32} {m : Nat} (hm : m < 6) (hp : ∀ i, i < n → pl i < 120) : zc_S n pl am 4 32767 (20 * m) = zc_sum (zc_ms pl m) am n := zc_sum_congr (fun i hi => zc_m_p (pl i) (hp i hi) m hm) (fun _ _ => rfl)
def zc_okP (a : Int32) (m : Nat) : Prop := m ≤ 200 ∧ a = nI m
theorem zc_okP_one {a : Int32} (x y : Nat) (h : zc_okP a x) (h' : zc_okP a y) : x = y := by
  obtain ⟨h2, h3⟩ := h
  obtain ⟨h5, h6⟩ := h'
  exact (nI_eq (by omega) (by omega)).mp (h3.symm.trans h6)
/-- numbers within bounds -/
theorem zc_ge0 {a : Int32} {b : Nat} (hb : b < 2 ^ 31) (h : ¬ a < 0) (h2 : a ≤ nI b) : ∃ j, j ≤ b ∧ a = nI j := by
  obtain ⟨j, hj, e⟩ := nI_of h
  refine ⟨j, ?_, e⟩
  rw [e] at h2
  exact (nI_leI hj hb).mp h2
theorem zc_lt0 {a : Int32} {b : Nat} (hb : b < 2 ^ 31) (h : ¬ a < 0) (h2 : a < nI b) : ∃ j, j < b ∧ a = nI j := by
  obtain ⟨j, hj, e⟩ := nI_of h
  refine ⟨j, ?_, e⟩
  rw [e] at h2
  exact (nI_ltI hj hb).mp h2
/-! adding, taking away, changing -/
theorem zc_amt_of {b : Int32} (h : ¬ b < (-50)) (h2 : b ≤ nI 50) : zc_amt b := ⟨Int32.not_lt.mp h, h2⟩
theorem zc_amt_n1 {b : Int32} (h : b < (-50)) : ¬ zc_amt b := fun w => Int32.not_lt.mpr w.1 h
theorem zc_amt_n2 {b : Int32} (h : ¬ b ≤ nI 50) : ¬ zc_amt b := fun w => h w.2
theorem zc_amt_n3 {b : Int32} (h : nI 50 < b) : ¬ zc_amt b := fun w => Int32.not_lt.mpr w.2 h
theorem zc_amt_of' {b : Int32} (h : ¬ b < (-50)) (h2 : ¬ nI 50 < b) : zc_amt b := ⟨Int32.not_lt.mp h, Int32.not_lt.mp h2⟩
def zc_okA (a b : Int32) (p : Nat) : Prop := p < 120 ∧ a = nI p ∧ zc_amt b
def zc_Add (n : Nat) (pl : Nat → Nat) (am : Nat → Int32) (a b r : Int32) (n' : Nat) (pl' : Nat → Nat) (am' : Nat → Int32) : Prop := (∃ p, zc_okA a b p ∧ n ≠ 40 ∧ r = nI n ∧ n' = n + 1 ∧ pl' = va_up pl n p ∧ am' = upd am n b) ∨ ((∃ p, zc_okA a b p) ∧ n = 40 ∧ r = (-2000000) ∧ n' = n ∧ pl' = pl ∧ am' = am) ∨ ((∀ p, ¬ zc_okA a b p) ∧ r = (-1000000) ∧ n' = n ∧ pl' = pl ∧ am' = am)
theorem zc_Add_one {n : Nat} {pl : Nat → Nat} {am : Nat → Int32} {a b r r2 : Int32} {n1 n2 : Nat} {pl1 pl2 : Nat → Nat} {am1 am2 : Nat → Int32} (h : zc_Add n pl am a b r n1 pl1 am1) (h' : zc_Add n pl am a b r2 n2 pl2 am2) : r = r2 ∧ n1 = n2 ∧ pl1 = pl2 ∧ am1 = am2 := by
  rcases h with ⟨p, hp, h1, e1, e2, e3, e4⟩ | ⟨⟨p, hp⟩, h1, e1, e2, e3, e4⟩ | ⟨hp, e1, e2, e3, e4⟩ <;> rcases h' with ⟨q, hq, g1, f1, f2, f3, f4⟩ | ⟨⟨q, hq⟩, g1, f1, f2, f3, f4⟩ | ⟨hq, f1, f2, f3, f4⟩
  · have hpq : p = q := (nI_eq (by have := hp.1; omega) (by have := hq.1; omega)).mp (hp.2.1.symm.trans hq.2.1)
    rw [e1, e2, e3, e4, f1, f2, f3, f4, hpq]
    exact ⟨rfl, rfl, rfl, rfl⟩
  · exact absurd g1 h1
  · exact absurd hp (hq p)
  · exact absurd h1 g1
  · rw [e1, e2, e3, e4, f1, f2, f3, f4]
    exact ⟨rfl, rfl, rfl, rfl⟩
  · exact absurd hp (hq p)
  · exact absurd hq (hp q)
  · exact absurd hq (hp q)
  · rw [e1, e2, e3, e4, f1, f2, f3, f4]
    exact ⟨rfl, rfl, rfl, rfl⟩
def zc_Rem (n : Nat) (am : Nat → Int32) (r : Int32) (n' : Nat) : Prop := (n = 0 ∧ r = (-4000000) ∧ n' = n) ∨ (n ≠ 0 ∧ r = am (n - 1) ∧ n' = n - 1)
theorem zc_Rem_one {n : Nat} {am : Nat → Int32} {r r2 : Int32} {n1 n2 : Nat} (h : zc_Rem n am r n1) (h' : zc_Rem n am r2 n2) : r = r2 ∧ n1 = n2 := by
  rcases h with ⟨h1, e1, e2⟩ | ⟨h1, e1, e2⟩ <;> rcases h' with ⟨g1, f1, f2⟩ | ⟨g1, f1, f2⟩
  · rw [e1, e2, f1, f2]; exact ⟨rfl, rfl⟩
  · exact absurd h1 g1
  · exact absurd g1 h1
  · rw [e1, e2, f1, f2]; exact ⟨rfl, rfl⟩
def zc_okC (n : Nat) (a b : Int32) (i : Nat) : Prop := i < n ∧ a = nI i ∧ zc_amt b
def zc_Chg (n : Nat) (am : Nat → Int32) (a b r : Int32) (am' : Nat → Int32) : Prop := (∃ i, zc_okC n a b i ∧ r = am i ∧ am' = upd am i b) ∨ ((∀ i, ¬ zc_okC n a b i) ∧ r = (-1000000) ∧ am' = am)
theorem zc_Chg_one {n : Nat} {am : Nat → Int32} {a b r r2 : Int32} {am1 am2 : Nat → Int32} (hn : n ≤ 40) (h : zc_Chg n am a b r am1) (h' : zc_Chg n am a b r2 am2) : r = r2 ∧ am1 = am2 := by
  rcases h with ⟨i, hi, e1, e2⟩ | ⟨h1, e1, e2⟩ <;> rcases h' with ⟨j, hj, f1, f2⟩ | ⟨g1, f1, f2⟩
  · have hij : i = j := (nI_eq (by have := hi.1; omega) (by have := hj.1; omega)).mp (hi.2.1.symm.trans hj.2.1)
    rw [e1, e2, f1, f2, hij]; exact ⟨rfl, rfl⟩
  · exact absurd hi (g1 i)
  · exact absurd hj (h1 j)
  · rw [e1, e2, f1, f2]; exact ⟨rfl, rfl⟩
/-- a fact more -/
theorem zc_cv_add {n p : Nat} {pl : Nat → Nat} {am : Nat → Int32} {b : Int32} {F F1 F2 F3 F4 F5 : Nat → Nat → Int32} (h : zc_cv n pl am F) (hn : n ≠ 40) (hp : p < 120) (hb : zc_amt b) (e1 : F1 = sw F 1 (upd (F 1) n (nI p))) (e2 : F2 = sw F1 2 (upd (F1 2) n b)) (e3 : F3 = sw F2 4 (upd (F2 4) n (F2 3 p))) (e4 : F4 = sw F3 3 (upd (F3 3) p (nI n))) (h5 : zc_ent F4 F5 p (nI 1) b 8) : zc_cv (n + 1) (va_up pl n p) (upd am n b) F5 := by
  obtain ⟨h1, h2, h3, ⟨h4, h6⟩, h7⟩ := h
  obtain ⟨g1, g2⟩ := h5
  have k1 : F5 1 = upd (F 1) n (nI p) := by rw [g1 1 (by decide) (by decide), e4, sw_n (by decide), e3, sw_n (by decide), e2, sw_n (by decide), e1, sw_s]
  have k2 : F5 2 = upd (F 2) n b := by rw [g1 2 (by decide) (by decide), e4, sw_n (by decide), e3, sw_n (by decide), e2, sw_s, e1, sw_n (by decide)]
  have k3 : F5 3 = upd (F 3) p (nI n) := by rw [g1 3 (by decide) (by decide), e4, sw_s, e3, sw_n (by decide), e2, sw_n (by decide), e1, sw_n (by decide)]
  have k4 : F5 4 = upd (F 4) n (F 3 p) := by rw [g1 4 (by decide) (by decide), e4, sw_n (by decide), e3, sw_s, e2, sw_n (by decide), sw_n (by decide), e1, sw_n (by decide), sw_n (by decide)]
  have k5 : F4 5 = F 5 := by rw [e4, sw_n (by decide), e3, sw_n (by decide), e2, sw_n (by decide), e1, sw_n (by decide)]
  have k6 : F4 6 = F 6 := by rw [e4, sw_n (by decide), e3, sw_n (by decide), e2, sw_n (by decide), e1, sw_n (by decide)]
  have k7 : F4 7 = F 7 := by rw [e4, sw_n (by decide), e3, sw_n (by decide), e2, sw_n (by decide), e1, sw_n (by decide)]
  have hup : ∀ i, i < n → va_up pl n p i = pl i := fun i hi => va_up_ne _ _ (by omega)
  refine ⟨by omega, fun i hi => ?_, fun i hi => ?_, ⟨fun q hq => ?_, fun i hi => ?_⟩, fun g hg hk q hq => ?_⟩
  · rw [k1, k2]
    by_cases hin : i = n
    · subst hin
      rw [pk_us, pk_us, pk_us, va_up_self]
      exact ⟨rfl, hp, rfl⟩
    · rw [pk_un hin, pk_un hin, pk_un hin, va_up_ne _ _ hin]
      exact h2 i (by omega)
  · by_cases hin : i = n
    · subst hin
      rw [pk_us]
      exact hb
    · rw [pk_un hin]
      exact h3 i (by omega)
  · rw [k3]
    simp only [zc_last, va_up_self]
    by_cases hqp : q = p
    · subst hqp
      rw [pk_us, if_pos rfl]
    · rw [pk_un hqp, if_neg (fun w => hqp w.symm), zc_last_congr q hup]
      exact h4 q hq
  · rw [k4]
    by_cases hin : i = n
    · subst hin
      rw [pk_us, va_up_self, zc_last_congr p hup]
      exact h4 p hp
    · rw [pk_un hin, va_up_ne _ _ hin, zc_last_congr (pl i) (fun j hj => hup j (by omega))]
      exact h6 i (by omega)
  · rw [g1 5 (by decide) (by decide), k5] at hk
    obtain ⟨a1, a2⟩ := g2 g hg q hq
    obtain ⟨b1, b2⟩ := h7 g hg hk q hq
    rw [a1, a2, k5, k6, k7, b1, b2]
    have c1 : zc_cnt (zc_at (va_up pl n p) g q) n = zc_cnt (zc_at pl g q) n := zc_cnt_congr (fun i hi => by simp only [zc_at, hup i hi])
    have c2 : zc_sum (zc_at (va_up pl n p) g q) (upd am n b) n = zc_sum (zc_at pl g q) am n := zc_sum_congr (fun i hi => by simp only [zc_at, hup i hi]) (fun i hi => pk_un (by omega))
    simp only [zc_cnt, zc_sum]
    rw [c1, c2, pk_us]
    by_cases hqg : q = zc_grp p g
    · have ht : zc_at (va_up pl n p) g q n = true := by simp only [zc_at, va_up_self, hqg, decide_true]
      have hc : g < 8 ∧ F 5 g ≠ 0 ∧ q = zc_grp p g := ⟨hg, hk, hqg⟩
      rw [if_pos hc, if_pos hc, ht, if_pos rfl, if_pos rfl, nI_add]
      exact ⟨rfl, rfl⟩
    · have ht : zc_at (va_up pl n p) g q n = false := by simp only [zc_at, va_up_self]; exact decide_eq_false (fun w => hqg w.symm)
      have hc : ¬ (g < 8 ∧ F 5 g ≠ 0 ∧ q = zc_grp p g) := fun w => hqg w.2.2
      rw [if_neg hc, if_neg hc, ht]
      exact ⟨rfl, by simp⟩
/-- a fact less -/
theorem zc_cv_rem {n : Nat} {pl : Nat → Nat} {am : Nat → Int32} {F F1 F2 : Nat → Nat → Int32} (h : zc_cv (n + 1) pl am F) (e1 : F1 = sw F 3 (upd (F 3) (pl n) (zc_last pl n (pl n)))) (h5 : zc_ent F1 F2 (pl n) (-1) (-(am n)) 8) : zc_cv n pl am F2 := by
  obtain ⟨h1, h2, h3, ⟨h4, h6⟩, h7⟩ := h
  obtain ⟨g1, g2⟩ := h5
  have k1 : F2 1 = F 1 := by rw [g1 1 (by decide) (by decide), e1, sw_n (by decide)]
  have k2 : F2 2 = F 2 := by rw [g1 2 (by decide) (by decide), e1, sw_n (by decide)]
  have k3 : F2 3 = upd (F 3) (pl n) (zc_last pl n (pl n)) := by rw [g1 3 (by decide) (by decide), e1, sw_s]
  have k4 : F2 4 = F 4 := by rw [g1 4 (by decide) (by decide), e1, sw_n (by decide)]
  have k5 : F1 5 = F 5 := by rw [e1, sw_n (by decide)]
  have k6 : F1 6 = F 6 := by rw [e1, sw_n (by decide)]
  have k7 : F1 7 = F 7 := by rw [e1, sw_n (by decide)]
  refine ⟨by omega, fun i hi => ?_, fun i hi => h3 i (by omega), ⟨fun q hq => ?_, fun i hi => ?_⟩, fun g hg hk q hq => ?_⟩
  · rw [k1, k2]
    exact h2 i (by omega)
  · rw [k3]
    by_cases hqp : q = pl n
    · rw [hqp, pk_us]
    · rw [pk_un hqp, h4 q hq]
      simp only [zc_last]
      rw [if_neg (fun w => hqp w.symm)]
  · rw [k4]
    exact h6 i (by omega)
  · rw [g1 5 (by decide) (by decide), k5] at hk
    obtain ⟨a1, a2⟩ := g2 g hg q hq
    obtain ⟨b1, b2⟩ := h7 g hg hk q hq
    rw [a1, a2, k5, k6, k7, b1, b2]
    simp only [zc_cnt, zc_sum]
    by_cases hqg : q = zc_grp (pl n) g
    · have ht : zc_at pl g q n = true := by simp only [zc_at, hqg, decide_true]
      have hc : g < 8 ∧ F 5 g ≠ 0 ∧ q = zc_grp (pl n) g := ⟨hg, hk, hqg⟩
      rw [if_pos hc, if_pos hc, ht, if_pos rfl, if_pos rfl]
      exact ⟨pk_m1 _, by grind⟩
    · have ht : zc_at pl g q n = false := by simp only [zc_at]; exact decide_eq_false (fun w => hqg w.symm)
      have hc : ¬ (g < 8 ∧ F 5 g ≠ 0 ∧ q = zc_grp (pl n) g) := fun w => hqg w.2.2
      rw [if_neg hc, if_neg hc, ht]
      exact ⟨rfl, by simp⟩
/-- an amount changed -/
theorem zc_cv_chg {n i : Nat} {pl : Nat → Nat} {am : Nat → Int32} {b : Int32} {F F1 F2 : Nat → Nat → Int32} (h : zc_cv n pl am F) (hi : i < n) (hb : zc_amt b) (e1 : F1 = sw F 2 (upd (F 2) i b)) (h5 : zc_ent F1 F2 (pl i) (nI 0) (b - am i) 8) : zc_cv n pl (upd am i b) F2 := by
  obtain ⟨h1, h2, h3, ⟨h4, h6⟩, h7⟩ := h
  obtain ⟨g1, g2⟩ := h5
  have k1 : F2 1 = F 1 := by rw [g1 1 (by decide) (by decide), e1, sw_n (by decide)]
  have k2 : F2 2 = upd (F 2) i b := by rw [g1 2 (by decide) (by decide), e1, sw_s]
  have k3 : F2 3 = F 3 := by rw [g1 3 (by decide) (by decide), e1, sw_n (by decide)]
  have k4 : F2 4 = F 4 := by rw [g1 4 (by decide) (by decide), e1, sw_n (by decide)]
  have k5 : F1 5 = F 5 := by rw [e1, sw_n (by decide)]
  have k6 : F1 6 = F 6 := by rw [e1, sw_n (by decide)]
  have k7 : F1 7 = F 7 := by rw [e1, sw_n (by decide)]
  refine ⟨h1, fun j hj => ?_, fun j hj => ?_, ⟨fun q hq => ?_, fun j hj => ?_⟩, fun g hg hk q hq => ?_⟩
  · rw [k1, k2]
    obtain ⟨w1, w2, w3⟩ := h2 j hj
    refine ⟨w1, w2, ?_⟩
    by_cases hij : j = i
    · subst hij
      rw [pk_us, pk_us]
    · rw [pk_un hij, pk_un hij]
      exact w3
  · by_cases hij : j = i
    · subst hij
      rw [pk_us]
      exact hb
    · rw [pk_un hij]
      exact h3 j hj
  · rw [k3]
    exact h4 q hq
  · rw [k4]
    exact h6 j hj
  · rw [g1 5 (by decide) (by decide), k5] at hk
    obtain ⟨a1, a2⟩ := g2 g hg q hq
    obtain ⟨b1, b2⟩ := h7 g hg hk q hq
    rw [a1, a2, k5, k6, k7, b1, b2, zc_sum_upd hi]
    by_cases hqg : q = zc_grp (pl i) g
    · have ht : zc_at pl g q i = true := by simp only [zc_at, hqg, decide_true]
      have hc : g < 8 ∧ F 5 g ≠ 0 ∧ q = zc_grp (pl i) g := ⟨hg, hk, hqg⟩
      rw [if_pos hc, if_pos hc, ht, if_pos rfl, nI_0]
      exact ⟨by simp, rfl⟩
    · have ht : zc_at pl g q i = false := by simp only [zc_at]; exact decide_eq_false (fun w => hqg w.symm)
      have hc : ¬ (g < 8 ∧ F 5 g ≠ 0 ∧ q = zc_grp (pl i) g) := fun w => hqg w.2.2
      rw [if_neg hc, if_neg hc, ht]
      exact ⟨rfl, by simp⟩
/-! plan -/
theorem zc_nar0 : vp_nar .boolean (nI 0) = 0 := by decide
theorem zc_cv_drop {n g : Nat} {pl : Nat → Nat} {am : Nat → Int32} {F F1 : Nat → Nat → Int32} (h : zc_cv n pl am F) (e1 : F1 = sw F 5 (upd (F 5) g (vp_nar .boolean (nI 0)))) : zc_cv n pl am F1 := by
  obtain ⟨h1, h2, h3, ⟨h4, h6⟩, h7⟩ := h
  have k : ∀ j, j ≠ 5 → F1 j = F j := fun j hj => by rw [e1, sw_n hj]
  refine ⟨h1, fun i hi => ?_, h3, ⟨fun q hq => ?_, fun i hi => ?_⟩, fun x hx hk q hq => ?_⟩
  · rw [k 1 (by decide), k 2 (by decide)]
    exact h2 i hi
  · rw [k 3 (by decide)]
    exact h4 q hq
  · rw [k 4 (by decide)]
    exact h6 i hi
  · rw [e1, sw_s] at hk
    rw [k 6 (by decide), k 7 (by decide)]
    by_cases hxg : x = g
    · subst hxg
      rw [pk_us] at hk
      exact absurd zc_nar0 hk
    · rw [pk_un hxg] at hk
      exact h7 x hx hk q hq
theorem zc_cv_keep {n g : Nat} {pl : Nat → Nat} {am : Nat → Int32} {x : Int32} {F F1 F2 : Nat → Nat → Int32} (h : zc_cv n pl am F) (e1 : F1 = sw F 5 (upd (F 5) g x)) (h5 : zc_fil F1 F2 pl am g n) : zc_cv n pl am F2 := by
  obtain ⟨h1, h2, h3, ⟨h4, h6⟩, h7⟩ := h
  obtain ⟨g1, g2, g3⟩ := h5
  have k : ∀ j, j ≠ 5 → F1 j = F j := fun j hj => by rw [e1, sw_n hj]
  refine ⟨h1, fun i hi => ?_, h3, ⟨fun q hq => ?_, fun i hi => ?_⟩, fun y hy hk q hq => ?_⟩
  · rw [g1 1 (by decide) (by decide), g1 2 (by decide) (by decide), k 1 (by decide), k 2 (by decide)]
    exact h2 i hi
  · rw [g1 3 (by decide) (by decide), k 3 (by decide)]
    exact h4 q hq
  · rw [g1 4 (by decide) (by decide), k 4 (by decide)]
    exact h6 i hi
  · by_cases hyg : y = g
    · subst hyg
      exact g3 q hq
    · obtain ⟨w1, w2⟩ := g2 y hyg q hq
      rw [w1, w2, k 6 (by decide), k 7 (by decide)]
      rw [g1 5 (by decide) (by decide), e1, sw_s, pk_un hyg] at hk
      exact h7 y hy hk q hq
theorem zc_fok_5 {n g : Nat} {pl : Nat → Nat} {am : Nat → Int32} {x : Int32} {F F1 : Nat → Nat → Int32} (h : zc_fok n pl am F) (e1 : F1 = sw F 5 (upd (F 5) g x)) : zc_fok n pl am F1 := fun i hi => by
  rw [e1, sw_n (by decide), sw_n (by decide)]
  exact h i hi
end
section
set_option maxRecDepth 100000
set_option maxHeartbeats 4000000 in
theorem met0_count (l : Launch) (D : va_G) (ad : Nat → Nat) (dA : Nat → ClassId) (n : Nat) (F : Nat → Nat → Int32) (hI : cvI ad) (pl : Nat → Nat) (am : Nat → Int32) (hcv : zc_cv n pl am F) (a : Int32) : Met l yX0_count (ws_ yX0_count cX0_count 2 (some .int)) (rmL 3) (va_Pc [.ref (ad 0), .int a] (Pw D (cvw ad dA n F) (cvT dA))) (Qm D (fun u : Nat × (Nat → Nat → Int32) => cvw ad dA u.1 u.2) (cvA ad) (fun r u => zc_RX (zc_okF a) (fun f r => r = nI (zc_C n pl 0 f 0)) r ∧ u.1 = n ∧ zc_cv n pl am u.2)) 0 0 (cvA ad) := by
  refine zz_mkM (by decide) rfl (Nat.le_of_ble_eq_true rfl) ?_
  intro pr e s m args below meth c Q ls S hpre hl hret
  obtain ⟨hP, hK⟩ := hpre
  have hx := S.1
  have hb := S.2.1
  have hown : s.vm.findClass RX0 = some m.cls := S.2.2.2.1
  have hts := S.2.2.2.2
  have hS : va_S (cvA ad) s.heap s.heap [] := va_S.rf
  have hl : lv_has ls 2 [(0, .ref (ad 0)), (1, .int a)] := hl
  have hn40 := hcv.1
  refine lv_aload_n hx hb dX0_count_0 rfl (lv_at hl 0 rfl) ?_
  refine lv_iload_n hx hb dX0_count_1 rfl (lv_at hl 1 rfl) ?_
  refine zz_callR (As := [.int a]) (rest := []) S hK hP hS (met0_badFilter l D ad dA n F a) (cwX0_badFilter hts (by decide)) (cv_recv hK hP) rfl hl.1 rfl (by decide) dX0_count_2 ⟨Nat.le_refl 0, Nat.le_refl 0⟩ (fun r2 H locs hr2 hP hS => ?_)
  rcases hr2 with ⟨hr2, hno⟩ | ⟨hr2, f, hf, ha⟩
  · subst hr2
    refine nv_if_eq (tgt := 11) (by omega) hx hb dX0_count_5 (by decide) (fun c5 => ?_) (fun c5 => ?_)
    · exact absurd c5 (by decide)
    · refine lv_ldc (v := (-1000000)) hx hb hown (hts _ q75) dX0_count_8 ?_
      exact hret _ _ _ _ _ (n, F) hP hS (⟨Or.inr ⟨fun x w => hno ⟨x, w⟩, rfl⟩, rfl, hcv⟩) dX0_count_10
  · subst hr2
    rw [ha] at hl
    refine nv_if_eq (tgt := 11) (by omega) hx hb dX0_count_5 (by decide) (fun c5 => ?_) (fun c5 => ?_)
    · refine lv_aload_n hx hb dX0_count_11 rfl (lv_at hl 0 rfl) ?_
      refine lv_iconst (v := nI 0) hx hb dX0_count_12 (by decide) ?_
      refine lv_iload_n hx hb dX0_count_13 rfl (lv_at hl 1 rfl) ?_
      refine zz_callV (As := [.int (nI 0), .int (nI f)]) (rest := []) S hK hP hS (fun _ h => h) (met0_gather l D ad dA n F hI 0 f (by omega) (by omega) pl am hcv.1 hcv.2.1 hcv.2.2.2.2) (cwX0_gather hts (by decide)) (cv_recv hK hP) rfl hl.1 rfl (by decide) dX0_count_14 ⟨Nat.le_refl 0, Nat.le_refl 0⟩ (fun u_1 H locs hr14 hP _ hS => ?_)
      obtain ⟨n_3, F_2⟩ := u_1
      replace hP : va_P D vwCl (cvw ad dA n_3 F_2) H := hP
      obtain ⟨hn14, hu14⟩ := hr14
      dsimp only at hu14
      replace hn14 : n_3 = n := hn14
      rw [hn14] at hP
      refine lv_aload_n hx hb dX0_count_17 rfl (lv_at hl 0 rfl) ?_
      refine cv_g8 hx hb hts hown hK hP dX0_count_18 ?_
      refine lv_iconst (v := nI 0) hx hb dX0_count_21 (by decide) ?_
      refine cv_l8 hx hb hK hP 0 rfl (by omega) dX0_count_22 ?_
      exact hret _ _ _ _ _ (n, F_2) hP hS (⟨Or.inl ⟨f, ⟨hf, ha⟩, (zc_gatC hu14 (by decide)).1⟩, rfl, zc_cv_89 hcv hu14.1⟩) dX0_count_23
    · exact absurd c5 (by decide)
set_option maxHeartbeats 4000000 in
theorem met0_sum (l : Launch) (D : va_G) (ad : Nat → Nat) (dA : Nat → ClassId) (n : Nat) (F : Nat → Nat → Int32) (hI : cvI ad) (pl : Nat → Nat) (am : Nat → Int32) (hcv : zc_cv n pl am F) (a : Int32) : Met l yX0_sum (ws_ yX0_sum cX0_sum 2 (some .int)) (rmL 3) (va_Pc [.ref (ad 0), .int a] (Pw D (cvw ad dA n F) (cvT dA))) (Qm D (fun u : Nat × (Nat → Nat → Int32) => cvw ad dA u.1 u.2) (cvA ad) (fun r u => zc_RX (zc_okF a) (fun f r => r = zc_S n pl am 0 f 0) r ∧ u.1 = n ∧ zc_cv n pl am u.2)) 0 0 (cvA ad) := by
  refine zz_mkM (by decide) rfl (Nat.le_of_ble_eq_true rfl) ?_
  intro pr e s m args below meth c Q ls S hpre hl hret
  obtain ⟨hP, hK⟩ := hpre
  have hx := S.1
  have hb := S.2.1
  have hown : s.vm.findClass RX0 = some m.cls := S.2.2.2.1
  have hts := S.2.2.2.2
  have hS : va_S (cvA ad) s.heap s.heap [] := va_S.rf
  have hl : lv_has ls 2 [(0, .ref (ad 0)), (1, .int a)] := hl
  have hn40 := hcv.1
  refine lv_aload_n hx hb dX0_sum_0 rfl (lv_at hl 0 rfl) ?_
  refine lv_iload_n hx hb dX0_sum_1 rfl (lv_at hl 1 rfl) ?_
  refine zz_callR (As := [.int a]) (rest := []) S hK hP hS (met0_badFilter l D ad dA n F a) (cwX0_badFilter hts (by decide)) (cv_recv hK hP) rfl hl.1 rfl (by decide) dX0_sum_2 ⟨Nat.le_refl 0, Nat.le_refl 0⟩ (fun r2 H locs hr2 hP hS => ?_)
  rcases hr2 with ⟨hr2, hno⟩ | ⟨hr2, f, hf, ha⟩
  · subst hr2
    refine nv_if_eq (tgt := 11) (by omega) hx hb dX0_sum_5 (by decide) (fun c5 => ?_) (fun c5 => ?_)
    · exact absurd c5 (by decide)
    · refine lv_ldc (v := (-1000000)) hx hb hown (hts _ q75) dX0_sum_8 ?_
      exact hret _ _ _ _ _ (n, F) hP hS (⟨Or.inr ⟨fun x w => hno ⟨x, w⟩, rfl⟩, rfl, hcv⟩) dX0_sum_10
  · subst hr2
    rw [ha] at hl
    refine nv_if_eq (tgt := 11) (by omega) hx hb dX0_sum_5 (by decide) (fun c5 => ?_) (fun c5 => ?_)
    · refine lv_aload_n hx hb dX0_sum_11 rfl (lv_at hl 0 rfl) ?_
      refine lv_iconst (v := nI 0) hx hb dX0_sum_12 (by decide) ?_
      refine lv_iload_n hx hb dX0_sum_13 rfl (lv_at hl 1 rfl) ?_
      refine zz_callV (As := [.int (nI 0), .int (nI f)]) (rest := []) S hK hP hS (fun _ h => h) (met0_gather l D ad dA n F hI 0 f (by omega) (by omega) pl am hcv.1 hcv.2.1 hcv.2.2.2.2) (cwX0_gather hts (by decide)) (cv_recv hK hP) rfl hl.1 rfl (by decide) dX0_sum_14 ⟨Nat.le_refl 0, Nat.le_refl 0⟩ (fun u_1 H locs hr14 hP _ hS => ?_)
      obtain ⟨n_3, F_2⟩ := u_1
      replace hP : va_P D vwCl (cvw ad dA n_3 F_2) H := hP
      obtain ⟨hn14, hu14⟩ := hr14
      dsimp only at hu14
      replace hn14 : n_3 = n := hn14
      rw [hn14] at hP
      refine lv_aload_n hx hb dX0_sum_17 rfl (lv_at hl 0 rfl) ?_
      refine cv_g9 hx hb hts hown hK hP dX0_sum_18 ?_
      refine lv_iconst (v := nI 0) hx hb dX0_sum_21 (by decide) ?_
      refine cv_l9 hx hb hK hP 0 rfl (by omega) dX0_sum_22 ?_
      exact hret _ _ _ _ _ (n, F_2) hP hS (⟨Or.inl ⟨f, ⟨hf, ha⟩, (zc_gatC hu14 (by decide)).2⟩, rfl, zc_cv_89 hcv hu14.1⟩) dX0_sum_23
    · exact absurd c5 (by decide)
set_option maxHeartbeats 4000000 in
theorem met0_facts (l : Launch) (D : va_G) (ad : Nat → Nat) (dA : Nat → ClassId) (n : Nat) (F : Nat → Nat → Int32) (hI : cvI ad) (pl : Nat → Nat) (am : Nat → Int32) (hcv : zc_cv n pl am F)  : Met l yX0_facts (ws_ yX0_facts cX0_facts 1 (some .int)) (rmL 0) (va_Pc [.ref (ad 0)] (Pw D (cvw ad dA n F) (cvT dA))) (Qm D (fun u : Nat × (Nat → Nat → Int32) => cvw ad dA u.1 u.2) (cvA ad) (fun r u => r = nI n ∧ u.1 = n ∧ zc_cv n pl am u.2)) 0 0 (cvA ad) := by
  refine zz_mkM (by decide) rfl (Nat.le_of_ble_eq_true rfl) ?_
  intro pr e s m args below meth c Q ls S hpre hl hret
  obtain ⟨hP, hK⟩ := hpre
  have hx := S.1
  have hb := S.2.1
  have hown : s.vm.findClass RX0 = some m.cls := S.2.2.2.1
  have hts := S.2.2.2.2
  have hS : va_S (cvA ad) s.heap s.heap [] := va_S.rf
  have hl : lv_has ls 1 [(0, .ref (ad 0))] := hl
  have hn40 := hcv.1
  refine lv_aload_n hx hb dX0_facts_0 rfl (lv_at hl 0 rfl) ?_
  refine cv_g0 hx hb hts hown hK hP dX0_facts_1 ?_
  exact hret _ _ _ _ _ (n, F) hP hS (⟨rfl, rfl, hcv⟩) dX0_facts_4
set_option maxHeartbeats 4000000 in
theorem met0_groups (l : Launch) (D : va_G) (ad : Nat → Nat) (dA : Nat → ClassId) (n : Nat) (F : Nat → Nat → Int32) (hI : cvI ad) (pl : Nat → Nat) (am : Nat → Int32) (hcv : zc_cv n pl am F) (a b : Int32) : Met l yX0_groups (ws_ yX0_groups cX0_groups 5 (some .int)) (rmL 3) (va_Pc [.ref (ad 0), .int a, .int b] (Pw D (cvw ad dA n F) (cvT dA))) (Qm D (fun u : Nat × (Nat → Nat → Int32) => cvw ad dA u.1 u.2) (cvA ad) (fun r u => zc_RX (zc_okGF a b) (fun x r => r = nI (zc_ng (zc_C n pl x.1 x.2) 120)) r ∧ u.1 = n ∧ zc_cv n pl am u.2)) 0 0 (cvA ad) := by
  refine zz_mkM (by decide) rfl (Nat.le_of_ble_eq_true rfl) ?_
  intro pr e s m args below meth c Q ls S hpre hl hret
  obtain ⟨hP, hK⟩ := hpre
  have hx := S.1
  have hb := S.2.1
  have hown : s.vm.findClass RX0 = some m.cls := S.2.2.2.1
  have hts := S.2.2.2.2
  have hS : va_S (cvA ad) s.heap s.heap [] := va_S.rf
  have hl : lv_has ls 5 [(0, .ref (ad 0)), (1, .int a), (2, .int b)] := hl
  have hn40 := hcv.1
  refine lv_aload_n hx hb dX0_groups_0 rfl (lv_at hl 0 rfl) ?_
  refine lv_iload_n hx hb dX0_groups_1 rfl (lv_at hl 1 rfl) ?_
  refine zz_callR (As := [.int a]) (rest := []) S hK hP hS (met0_badGrouping l D ad dA n F a) (cwX0_badGrouping hts (by decide)) (cv_recv hK hP) rfl hl.1 rfl (by decide) dX0_groups_2 ⟨Nat.le_refl 0, Nat.le_refl 0⟩ (fun r2 H locs hr2 hP hS => ?_)
  rcases hr2 with ⟨hr2, hno⟩ | ⟨hr2, G, hG, ha⟩
  · subst hr2
    refine nv_if_ne (tgt := 16) (by omega) hx hb dX0_groups_5 (by decide) (fun c5 => ?_) (fun c5 => ?_)
    · refine lv_ldc (v := (-1000000)) hx hb hown (hts _ q75) dX0_groups_16 ?_
      exact hret _ _ _ _ _ (n, F) hP hS (⟨Or.inr ⟨fun x w => hno ⟨x.1, w.1⟩, rfl⟩, rfl, hcv⟩) dX0_groups_18
    · exact absurd c5 (by decide)
  · subst hr2
    rw [ha] at hl
    refine nv_if_ne (tgt := 16) (by omega) hx hb dX0_groups_5 (by decide) (fun c5 => ?_) (fun c5 => ?_)
    · exact absurd c5 (by decide)
    · refine lv_aload_n hx hb dX0_groups_8 rfl (lv_at hl 0 rfl) ?_
      refine lv_iload_n hx hb dX0_groups_9 rfl (lv_at hl 2 rfl) ?_
      refine zz_callR (As := [.int b]) (rest := []) S hK hP hS (met0_badFilter l D ad dA n F b) (cwX0_badFilter hts (by decide)) (cv_recv hK hP) rfl hl.1 rfl (by decide) dX0_groups_10 ⟨Nat.le_refl 0, Nat.le_refl 0⟩ (fun r10 H locs hr10 hP hS => ?_)
      rcases hr10 with ⟨hr10, hno⟩ | ⟨hr10, f, hf, hb2⟩
      · subst hr10
        refine nv_if_eq (tgt := 19) (by omega) hx hb dX0_groups_13 (by decide) (fun c13 => ?_) (fun c13 => ?_)
        · exact absurd c13 (by decide)
        · refine lv_ldc (v := (-1000000)) hx hb hown (hts _ q75) dX0_groups_16 ?_
          exact hret _ _ _ _ _ (n, F) hP hS (⟨Or.inr ⟨fun x w => hno ⟨x.2, w.2⟩, rfl⟩, rfl, hcv⟩) dX0_groups_18
      · subst hr10
        rw [hb2] at hl
        refine nv_if_eq (tgt := 19) (by omega) hx hb dX0_groups_13 (by decide) (fun c13 => ?_) (fun c13 => ?_)
        · refine lv_aload_n hx hb dX0_groups_19 rfl (lv_at hl 0 rfl) ?_
          refine lv_iload_n hx hb dX0_groups_20 rfl (lv_at hl 1 rfl) ?_
          refine lv_iload_n hx hb dX0_groups_21 rfl (lv_at hl 2 rfl) ?_
          refine zz_callV (As := [.int (nI G), .int (nI f)]) (rest := []) S hK hP hS (fun _ h => h) (met0_gather l D ad dA n F hI G f (by omega) (by omega) pl am hcv.1 hcv.2.1 hcv.2.2.2.2) (cwX0_gather hts (by decide)) (cv_recv hK hP) rfl hl.1 rfl (by decide) dX0_groups_22 ⟨Nat.le_refl 0, Nat.le_refl 0⟩ (fun u_1 H locs hr22 hP _ hS => ?_)
          obtain ⟨n_3, F_2⟩ := u_1
          replace hP : va_P D vwCl (cvw ad dA n_3 F_2) H := hP
          obtain ⟨hn22, hu22⟩ := hr22
          dsimp only at hu22
          replace hn22 : n_3 = n := hn22
          rw [hn22] at hP
          have L30 : ∀ (dd k : Nat) (H : Heap) (locs : List Loc) (ls : Array Slot), k ≤ 120 → 120 + 1 ≤ k + dd → va_P D vwCl (cvw ad dA n F_2) H → va_S (cvA ad) s.heap H locs → lv_has ls 5 [(0, .ref (ad 0)), (1, .int (nI G)), (2, .int (nI f)), (3, .int (nI (zc_ng (zc_C n pl G f) k))), (4, .int (nI k))] → W pr l e (rmL 3) s m args below meth c H locs 0 0 Q (F0 m 30 ls []) := by
            intro dd
            induction dd with
            | zero =>
              intro k  H locs ls hle hdd
              exact absurd hdd (by omega)
            | succ dd ih =>
              intro k  H locs ls hle hdd  hP hS hl
              refine lv_iload hx hb dX0_groups_30 (lv_at hl 4 rfl) ?_
              refine lv_bipush (v := nI 120) hx hb dX0_groups_32 (by decide) ?_
              refine nv_icmp_ge (tgt := 61) (by omega) (by omega) hx hb dX0_groups_34 (by decide) (fun c34 => ?_) (fun c34 => ?_)
              · refine lv_iload_n hx hb dX0_groups_61 rfl (lv_at hl 3 rfl) ?_
                have hin : k = 120 := by omega
                rw [hin]
                exact hret _ _ _ _ _ (n, F_2) hP hS (⟨Or.inl ⟨(G, f), ⟨⟨hG, ha⟩, hf, hb2⟩, rfl⟩, rfl, zc_cv_89 hcv hu22.1⟩) dX0_groups_62
              · refine lv_aload_n hx hb dX0_groups_37 rfl (lv_at hl 0 rfl) ?_
                refine cv_g8 hx hb hts hown hK hP dX0_groups_38 ?_
                refine lv_iload hx hb dX0_groups_41 (lv_at hl 4 rfl) ?_
                refine cv_l8 hx hb hK hP k rfl (by omega) dX0_groups_43 ?_
                have hcl := zc_C_le n pl G f k
                have hng := zc_ng_le (zc_C n pl G f) k
                refine cv_top (b := nI (zc_C n pl G f k)) ((zc_gatC hu22 (by omega)).1) ?_
                refine nv_if_le (tgt := 53) (by omega) hx hb dX0_groups_44 (by decide) (fun c44 => ?_) (fun c44 => ?_)
                · refine lv_iload_n hx hb dX0_groups_53 rfl (lv_at hl 3 rfl) ?_
                  refine cv_top (b := nI (zc_ng (zc_C n pl G f) (k + 1))) (by rw [zc_ng_no c44]) ?_
                  refine lv_istore_n (lv' := [(3, .int (nI (zc_ng (zc_C n pl G f) (k + 1)))), (0, .ref (ad 0)), (1, .int (nI G)), (2, .int (nI f)), (4, .int (nI k))]) hx hb dX0_groups_54 rfl hl (by decide) rfl (fun ls hl => ?_)
                  refine lv_iinc (v := nI (k + 1)) (lv' := [(4, .int (nI (k + 1))), (3, .int (nI (zc_ng (zc_C n pl G f) (k + 1)))), (0, .ref (ad 0)), (1, .int (nI G)), (2, .int (nI f))]) hx hb dX0_groups_55 hl (k := 4) rfl (nI_inc) (by decide) rfl (fun ls hl => ?_)
                  refine lv_goto (tgt := 30) hx hb dX0_groups_58 (by decide) ?_
                  exact ih (k + 1) _ _ _ (by omega) (by omega) hP hS (lv_sub hl [2, 3, 4, 1, 0] rfl)
                · refine lv_iload_n hx hb dX0_groups_47 rfl (lv_at hl 3 rfl) ?_
                  refine lv_iconst (v := nI 1) hx hb dX0_groups_48 (by decide) ?_
                  refine lv_iadd hx hb dX0_groups_49 ?_
                  refine cv_top (nI_add _ _) ?_
                  refine lv_goto (tgt := 54) hx hb dX0_groups_50 (by decide) ?_
                  refine cv_top (b := nI (zc_ng (zc_C n pl G f) (k + 1))) (by rw [zc_ng_yes c44]) ?_
                  refine lv_istore_n (lv' := [(3, .int (nI (zc_ng (zc_C n pl G f) (k + 1)))), (0, .ref (ad 0)), (1, .int (nI G)), (2, .int (nI f)), (4, .int (nI k))]) hx hb dX0_groups_54 rfl hl (by decide) rfl (fun ls hl => ?_)
                  refine lv_iinc (v := nI (k + 1)) (lv' := [(4, .int (nI (k + 1))), (3, .int (nI (zc_ng (zc_C n pl G f) (k + 1)))), (0, .ref (ad 0)), (1, .int (nI G)), (2, .int (nI f))]) hx hb dX0_groups_55 hl (k := 4) rfl (nI_inc) (by decide) rfl (fun ls hl => ?_)
                  refine lv_goto (tgt := 30) hx hb dX0_groups_58 (by decide) ?_
                  exact ih (k + 1) _ _ _ (by omega) (by omega) hP hS (lv_sub hl [2, 3, 4, 1, 0] rfl)
          refine lv_iconst (v := nI 0) hx hb dX0_groups_25 (by decide) ?_
          refine lv_istore_n (lv' := [(3, .int (nI 0)), (0, .ref (ad 0)), (1, .int (nI G)), (2, .int (nI f))]) hx hb dX0_groups_26 rfl hl (by decide) rfl (fun ls hl => ?_)
          refine lv_iconst (v := nI 0) hx hb dX0_groups_27 (by decide) ?_
          refine lv_istore (lv' := [(4, .int (nI 0)), (3, .int (nI 0)), (0, .ref (ad 0)), (1, .int (nI G)), (2, .int (nI f))]) hx hb dX0_groups_28 hl (by decide) rfl (fun ls hl => ?_)
          exact L30 121 0 _ _ _ (by omega) (by omega) hP hS (lv_sub hl [2, 3, 4, 1, 0] rfl)
        · exact absurd c13 (by decide)
set_option maxHeartbeats 4000000 in
theorem met0_top (l : Launch) (D : va_G) (ad : Nat → Nat) (dA : Nat → ClassId) (n : Nat) (F : Nat → Nat → Int32) (hI : cvI ad) (pl : Nat → Nat) (am : Nat → Int32) (hcv : zc_cv n pl am F) (G f : Nat) (hG : G < 8) (hf : f < 32768) : Met l yX0_top (ws_ yX0_top cX0_top 5 (some .int)) (rmL 3) (va_Pc [.ref (ad 0), .int (nI G), .int (nI f)] (Pw D (cvw ad dA n F) (cvT dA))) (Qm D (fun u : Nat × (Nat → Nat → Int32) => cvw ad dA u.1 u.2) (cvA ad) (fun r u => r = zc_ob (zc_top (zc_C n pl G f) (zc_S n pl am G f) 120) ∧ u.1 = n ∧ zc_gat F u.2 pl am G f n)) 0 0 (cvA ad) := by
  refine zz_mkM (by decide) rfl (Nat.le_of_ble_eq_true rfl) ?_
  intro pr e s m args below meth c Q ls S hpre hl hret
  obtain ⟨hP, hK⟩ := hpre
  have hx := S.1
  have hb := S.2.1
  have hown : s.vm.findClass RX0 = some m.cls := S.2.2.2.1
  have hts := S.2.2.2.2
  have hS : va_S (cvA ad) s.heap s.heap [] := va_S.rf
  have hl : lv_has ls 5 [(0, .ref (ad 0)), (1, .int (nI G)), (2, .int (nI f))] := hl
  have hn40 := hcv.1
  refine lv_aload_n hx hb dX0_top_0 rfl (lv_at hl 0 rfl) ?_
  refine lv_iload_n hx hb dX0_top_1 rfl (lv_at hl 1 rfl) ?_
  refine lv_iload_n hx hb dX0_top_2 rfl (lv_at hl 2 rfl) ?_
  refine zz_callV (As := [.int (nI G), .int (nI f)]) (rest := []) S hK hP hS (fun _ h => h) (met0_gather l D ad dA n F hI G f (by omega) (by omega) pl am hcv.1 hcv.2.1 hcv.2.2.2.2) (cwX0_gather hts (by decide)) (cv_recv hK hP) rfl hl.1 rfl (by decide) dX0_top_3 ⟨Nat.le_refl 0, Nat.le_refl 0⟩ (fun u_1 H locs hr3 hP _ hS => ?_)
  obtain ⟨n_3, F_2⟩ := u_1
  replace hP : va_P D vwCl (cvw ad dA n_3 F_2) H := hP
  obtain ⟨hn3, hu3⟩ := hr3
  dsimp only at hu3
  replace hn3 : n_3 = n := hn3
  rw [hn3] at hP
  have L11 : ∀ (dd k : Nat) (o : Option Nat) (H : Heap) (locs : List Loc) (ls : Array Slot), k ≤ 120 → 120 + 1 ≤ k + dd → o = zc_top (zc_C n pl G f) (zc_S n pl am G f) k → va_P D vwCl (cvw ad dA n F_2) H → va_S (cvA ad) s.heap H locs → lv_has ls 5 [(0, .ref (ad 0)), (1, .int (nI G)), (2, .int (nI f)), (3, .int (zc_ob o)), (4, .int (nI k))] → W pr l e (rmL 3) s m args below meth c H locs 0 0 Q (F0 m 11 ls []) := by
    intro dd
    induction dd with
    | zero =>
      intro k o H locs ls hle hdd
      exact absurd hdd (by omega)
    | succ dd ih =>
      intro k o H locs ls hle hdd ho hP hS hl
      refine lv_iload hx hb dX0_top_11 (lv_at hl 4 rfl) ?_
      refine lv_bipush (v := nI 120) hx hb dX0_top_13 (by decide) ?_
      refine nv_icmp_ge (tgt := 57) (by omega) (by omega) hx hb dX0_top_15 (by decide) (fun c15 => ?_) (fun c15 => ?_)
      · refine lv_iload_n hx hb dX0_top_57 rfl (lv_at hl 3 rfl) ?_
        have hin : k = 120 := by omega
        rw [hin] at ho
        exact hret _ _ _ _ _ (n, F_2) hP hS (⟨by rw [ho], rfl, hu3⟩) dX0_top_58
      · refine lv_aload_n hx hb dX0_top_18 rfl (lv_at hl 0 rfl) ?_
        refine cv_g8 hx hb hts hown hK hP dX0_top_19 ?_
        refine lv_iload hx hb dX0_top_22 (lv_at hl 4 rfl) ?_
        refine cv_l8 hx hb hK hP k rfl (by omega) dX0_top_24 ?_
        have hcl := zc_C_le n pl G f k
        refine cv_top (b := nI (zc_C n pl G f k)) ((zc_gatC hu3 (by omega)).1) ?_
        refine nv_if_le (tgt := 51) (by omega) hx hb dX0_top_25 (by decide) (fun c25 => ?_) (fun c25 => ?_)
        · refine lv_iinc (v := nI (k + 1)) (lv' := [(4, .int (nI (k + 1))), (0, .ref (ad 0)), (1, .int (nI G)), (2, .int (nI f)), (3, .int (zc_ob o))]) hx hb dX0_top_51 hl (k := 4) rfl (nI_inc) (by decide) rfl (fun ls hl => ?_)
          refine lv_goto (tgt := 11) hx hb dX0_top_54 (by decide) ?_
          exact ih (k + 1) o _ _ _ (by omega) (by omega) (zc_top_0 ho c25) hP hS (lv_sub hl [1, 2, 3, 4, 0] rfl)
        · rcases o with _ | b
          · replace hl : lv_has ls 5 [(0, .ref (ad 0)), (1, .int (nI G)), (2, .int (nI f)), (3, .int (-1)), (4, .int (nI k))] := hl
            refine lv_iload_n hx hb dX0_top_28 rfl (lv_at hl 3 rfl) ?_
            refine lv_if_lt (tgt := 48) hx hb dX0_top_29 (by decide) (fun c29 => ?_) (fun c29 => ?_)
            · refine lv_iload hx hb dX0_top_48 (lv_at hl 4 rfl) ?_
              refine lv_istore_n (lv' := [(3, .int (nI k)), (0, .ref (ad 0)), (1, .int (nI G)), (2, .int (nI f)), (4, .int (nI k))]) hx hb dX0_top_50 rfl hl (by decide) rfl (fun ls hl => ?_)
              refine lv_iinc (v := nI (k + 1)) (lv' := [(4, .int (nI (k + 1))), (3, .int (nI k)), (0, .ref (ad 0)), (1, .int (nI G)), (2, .int (nI f))]) hx hb dX0_top_51 hl (k := 4) rfl (nI_inc) (by decide) rfl (fun ls hl => ?_)
              refine lv_goto (tgt := 11) hx hb dX0_top_54 (by decide) ?_
              exact ih (k + 1) (some k) _ _ _ (by omega) (by omega) (zc_top_n ho c25) hP hS (lv_sub hl [2, 3, 4, 1, 0] rfl)
            · exact absurd (by decide) c29
          · replace hl : lv_has ls 5 [(0, .ref (ad 0)), (1, .int (nI G)), (2, .int (nI f)), (3, .int (nI b)), (4, .int (nI k))] := hl
            have hbl := (zc_top_lt ho.symm).1
            refine lv_iload_n hx hb dX0_top_28 rfl (lv_at hl 3 rfl) ?_
            refine lv_if_lt (tgt := 48) hx hb dX0_top_29 (by decide) (fun c29 => ?_) (fun c29 => ?_)
            · exact absurd c29 (nI_pos (by omega))
            · refine lv_aload_n hx hb dX0_top_32 rfl (lv_at hl 0 rfl) ?_
              refine cv_g9 hx hb hts hown hK hP dX0_top_33 ?_
              refine lv_iload hx hb dX0_top_36 (lv_at hl 4 rfl) ?_
              refine cv_l9 hx hb hK hP k rfl (by omega) dX0_top_38 ?_
              refine cv_top (b := zc_S n pl am G f k) ((zc_gatC hu3 (by omega)).2) ?_
              refine lv_aload_n hx hb dX0_top_39 rfl (lv_at hl 0 rfl) ?_
              refine cv_g9 hx hb hts hown hK hP dX0_top_40 ?_
              refine lv_iload_n hx hb dX0_top_43 rfl (lv_at hl 3 rfl) ?_
              refine cv_l9 hx hb hK hP b rfl (by omega) dX0_top_44 ?_
              refine cv_top (b := zc_S n pl am G f b) ((zc_gatC hu3 (by omega)).2) ?_
              refine lv_icmp_le (tgt := 51) hx hb dX0_top_45 (by decide) (fun c45 => ?_) (fun c45 => ?_)
              · refine lv_iinc (v := nI (k + 1)) (lv' := [(4, .int (nI (k + 1))), (0, .ref (ad 0)), (1, .int (nI G)), (2, .int (nI f)), (3, .int (nI b))]) hx hb dX0_top_51 hl (k := 4) rfl (nI_inc) (by decide) rfl (fun ls hl => ?_)
                refine lv_goto (tgt := 11) hx hb dX0_top_54 (by decide) ?_
                exact ih (k + 1) (some b) _ _ _ (by omega) (by omega) (zc_top_l ho c45) hP hS (lv_sub hl [1, 2, 3, 4, 0] rfl)
              · refine lv_iload hx hb dX0_top_48 (lv_at hl 4 rfl) ?_
                refine lv_istore_n (lv' := [(3, .int (nI k)), (0, .ref (ad 0)), (1, .int (nI G)), (2, .int (nI f)), (4, .int (nI k))]) hx hb dX0_top_50 rfl hl (by decide) rfl (fun ls hl => ?_)
                refine lv_iinc (v := nI (k + 1)) (lv' := [(4, .int (nI (k + 1))), (3, .int (nI k)), (0, .ref (ad 0)), (1, .int (nI G)), (2, .int (nI f))]) hx hb dX0_top_51 hl (k := 4) rfl (nI_inc) (by decide) rfl (fun ls hl => ?_)
                refine lv_goto (tgt := 11) hx hb dX0_top_54 (by decide) ?_
                exact ih (k + 1) (some k) _ _ _ (by omega) (by omega) (zc_top_g ho c25 c45) hP hS (lv_sub hl [2, 3, 4, 1, 0] rfl)
  refine lv_iconst (v := (-1)) hx hb dX0_top_6 (by decide) ?_
  refine lv_istore_n (lv' := [(3, .int (-1)), (0, .ref (ad 0)), (1, .int (nI G)), (2, .int (nI f))]) hx hb dX0_top_7 rfl hl (by decide) rfl (fun ls hl => ?_)
  refine lv_iconst (v := nI 0) hx hb dX0_top_8 (by decide) ?_
  refine lv_istore (lv' := [(4, .int (nI 0)), (3, .int (-1)), (0, .ref (ad 0)), (1, .int (nI G)), (2, .int (nI f))]) hx hb dX0_top_9 hl (by decide) rfl (fun ls hl => ?_)
  exact L11 121 0 none _ _ _ (by omega) (by omega) rfl hP hS (lv_sub hl [2, 3, 4, 1, 0] rfl)
set_option maxHeartbeats 4000000 in
theorem met0_topSum (l : Launch) (D : va_G) (ad : Nat → Nat) (dA : Nat → ClassId) (n : Nat) (F : Nat → Nat → Int32) (hI : cvI ad) (pl : Nat → Nat) (am : Nat → Int32) (hcv : zc_cv n pl am F) (a b : Int32) : Met l yX0_topSum (ws_ yX0_topSum cX0_topSum 4 (some .int)) (rmL 4) (va_Pc [.ref (ad 0), .int a, .int b] (Pw D (cvw ad dA n F) (cvT dA))) (Qm D (fun u : Nat × (Nat → Nat → Int32) => cvw ad dA u.1 u.2) (cvA ad) (fun r u => zc_RX (zc_okGF a b) (fun x r => r = zc_os (zc_S n pl am x.1 x.2) (zc_top (zc_C n pl x.1 x.2) (zc_S n pl am x.1 x.2) 120)) r ∧ u.1 = n ∧ zc_cv n pl am u.2)) 0 0 (cvA ad) := by
  refine zz_mkM (by decide) rfl (Nat.le_of_ble_eq_true rfl) ?_
  intro pr e s m args below meth c Q ls S hpre hl hret
  obtain ⟨hP, hK⟩ := hpre
  have hx := S.1
  have hb := S.2.1
  have hown : s.vm.findClass RX0 = some m.cls := S.2.2.2.1
  have hts := S.2.2.2.2
  have hS : va_S (cvA ad) s.heap s.heap [] := va_S.rf
  have hl : lv_has ls 4 [(0, .ref (ad 0)), (1, .int a), (2, .int b)] := hl
  have hn40 := hcv.1
  refine lv_aload_n hx hb dX0_topSum_0 rfl (lv_at hl 0 rfl) ?_
  refine lv_iload_n hx hb dX0_topSum_1 rfl (lv_at hl 1 rfl) ?_
  refine zz_callR (As := [.int a]) (rest := []) S hK hP hS (met0_badGrouping l D ad dA n F a) (cwX0_badGrouping hts (by decide)) (cv_recv hK hP) rfl hl.1 rfl (by decide) dX0_topSum_2 ⟨Nat.le_refl 0, Nat.le_refl 0⟩ (fun r2 H locs hr2 hP hS => ?_)
  rcases hr2 with ⟨hr2, hno⟩ | ⟨hr2, G, hG, ha⟩
  · subst hr2
    refine nv_if_ne (tgt := 16) (by omega) hx hb dX0_topSum_5 (by decide) (fun c5 => ?_) (fun c5 => ?_)
    · refine lv_ldc (v := (-1000000)) hx hb hown (hts _ q75) dX0_topSum_16 ?_
      exact hret _ _ _ _ _ (n, F) hP hS (⟨Or.inr ⟨fun x w => hno ⟨x.1, w.1⟩, rfl⟩, rfl, hcv⟩) dX0_topSum_18
    · exact absurd c5 (by decide)
  · subst hr2
    rw [ha] at hl
    refine nv_if_ne (tgt := 16) (by omega) hx hb dX0_topSum_5 (by decide) (fun c5 => ?_) (fun c5 => ?_)
    · exact absurd c5 (by decide)
    · refine lv_aload_n hx hb dX0_topSum_8 rfl (lv_at hl 0 rfl) ?_
      refine lv_iload_n hx hb dX0_topSum_9 rfl (lv_at hl 2 rfl) ?_
      refine zz_callR (As := [.int b]) (rest := []) S hK hP hS (met0_badFilter l D ad dA n F b) (cwX0_badFilter hts (by decide)) (cv_recv hK hP) rfl hl.1 rfl (by decide) dX0_topSum_10 ⟨Nat.le_refl 0, Nat.le_refl 0⟩ (fun r10 H locs hr10 hP hS => ?_)
      rcases hr10 with ⟨hr10, hno⟩ | ⟨hr10, f, hf, hb2⟩
      · subst hr10
        refine nv_if_eq (tgt := 19) (by omega) hx hb dX0_topSum_13 (by decide) (fun c13 => ?_) (fun c13 => ?_)
        · exact absurd c13 (by decide)
        · refine lv_ldc (v := (-1000000)) hx hb hown (hts _ q75) dX0_topSum_16 ?_
          exact hret _ _ _ _ _ (n, F) hP hS (⟨Or.inr ⟨fun x w => hno ⟨x.2, w.2⟩, rfl⟩, rfl, hcv⟩) dX0_topSum_18
      · subst hr10
        rw [hb2] at hl
        refine nv_if_eq (tgt := 19) (by omega) hx hb dX0_topSum_13 (by decide) (fun c13 => ?_) (fun c13 => ?_)
        · refine lv_aload_n hx hb dX0_topSum_19 rfl (lv_at hl 0 rfl) ?_
          refine lv_iload_n hx hb dX0_topSum_20 rfl (lv_at hl 1 rfl) ?_
          refine lv_iload_n hx hb dX0_topSum_21 rfl (lv_at hl 2 rfl) ?_
          refine zz_callM (As := [.int (nI G), .int (nI f)]) (rest := []) S hK hP hS (fun _ h => h) (met0_top l D ad dA n F hI pl am hcv G f (by omega) (by omega)) (cwX0_top hts (by decide)) (cv_recv hK hP) rfl hl.1 rfl (by decide) dX0_topSum_22 ⟨Nat.le_refl 0, Nat.le_refl 0⟩ (fun r22 u_1 H locs hr22 hP _ hS => ?_)
          obtain ⟨n_3, F_2⟩ := u_1
          replace hP : va_P D vwCl (cvw ad dA n_3 F_2) H := hP
          obtain ⟨hv22, hn22, hu22⟩ := hr22
          dsimp only at hu22
          replace hn22 : n_3 = n := hn22
          rw [hn22] at hP
          cases ho : zc_top (zc_C n pl G f) (zc_S n pl am G f) 120 with
          | none =>
            rw [ho] at hv22
            subst hv22
            refine cv_top (b := (-1)) rfl ?_
            refine lv_istore_n (lv' := [(3, .int (-1)), (0, .ref (ad 0)), (1, .int (nI G)), (2, .int (nI f))]) hx hb dX0_topSum_25 rfl hl (by decide) rfl (fun ls hl => ?_)
            refine lv_iload_n hx hb dX0_topSum_26 rfl (lv_at hl 0 rfl) ?_
            refine lv_if_ge (tgt := 35) hx hb dX0_topSum_27 (by decide) (fun c27 => ?_) (fun c27 => ?_)
            · exact absurd c27 (by decide)
            · refine lv_ldc (v := (-4000000)) hx hb hown (hts _ q101) dX0_topSum_30 ?_
              refine lv_goto (tgt := 41) hx hb dX0_topSum_32 (by decide) ?_
              exact hret _ _ _ _ _ (n, F_2) hP hS (⟨Or.inl ⟨(G, f), ⟨⟨hG, ha⟩, hf, hb2⟩, by simp only [ho]; rfl⟩, rfl, zc_cv_89 hcv hu22.1⟩) dX0_topSum_41
          | some bb =>
            rw [ho] at hv22
            subst hv22
            refine cv_top (b := nI bb) rfl ?_
            have hbl := (zc_top_lt ho).1
            refine lv_istore_n (lv' := [(3, .int (nI bb)), (0, .ref (ad 0)), (1, .int (nI G)), (2, .int (nI f))]) hx hb dX0_topSum_25 rfl hl (by decide) rfl (fun ls hl => ?_)
            refine lv_iload_n hx hb dX0_topSum_26 rfl (lv_at hl 0 rfl) ?_
            refine lv_if_ge (tgt := 35) hx hb dX0_topSum_27 (by decide) (fun c27 => ?_) (fun c27 => ?_)
            · refine lv_aload_n hx hb dX0_topSum_35 rfl (lv_at hl 1 rfl) ?_
              refine cv_g9 hx hb hts hown hK hP dX0_topSum_36 ?_
              refine lv_iload_n hx hb dX0_topSum_39 rfl (lv_at hl 0 rfl) ?_
              refine cv_l9 hx hb hK hP bb rfl (by omega) dX0_topSum_40 ?_
              exact hret _ _ _ _ _ (n, F_2) hP hS (⟨Or.inl ⟨(G, f), ⟨⟨hG, ha⟩, hf, hb2⟩, by simp only [ho]; exact (zc_gatC hu22 (by omega)).2⟩, rfl, zc_cv_89 hcv hu22.1⟩) dX0_topSum_41
            · exact absurd (nI_pos' (by omega)) c27
        · exact absurd c13 (by decide)
set_option maxHeartbeats 4000000 in
theorem met0_topGroup (l : Launch) (D : va_G) (ad : Nat → Nat) (dA : Nat → ClassId) (n : Nat) (F : Nat → Nat → Int32) (hI : cvI ad) (pl : Nat → Nat) (am : Nat → Int32) (hcv : zc_cv n pl am F) (a b : Int32) : Met l yX0_topGroup (ws_ yX0_topGroup cX0_topGroup 4 (some .int)) (rmL 4) (va_Pc [.ref (ad 0), .int a, .int b] (Pw D (cvw ad dA n F) (cvT dA))) (Qm D (fun u : Nat × (Nat → Nat → Int32) => cvw ad dA u.1 u.2) (cvA ad) (fun r u => zc_RX (zc_okGF a b) (fun x r => r = zc_og (zc_top (zc_C n pl x.1 x.2) (zc_S n pl am x.1 x.2) 120)) r ∧ u.1 = n ∧ zc_cv n pl am u.2)) 0 0 (cvA ad) := by
  refine zz_mkM (by decide) rfl (Nat.le_of_ble_eq_true rfl) ?_
  intro pr e s m args below meth c Q ls S hpre hl hret
  obtain ⟨hP, hK⟩ := hpre
  have hx := S.1
  have hb := S.2.1
  have hown : s.vm.findClass RX0 = some m.cls := S.2.2.2.1
  have hts := S.2.2.2.2
  have hS : va_S (cvA ad) s.heap s.heap [] := va_S.rf
  have hl : lv_has ls 4 [(0, .ref (ad 0)), (1, .int a), (2, .int b)] := hl
  have hn40 := hcv.1
  refine lv_aload_n hx hb dX0_topGroup_0 rfl (lv_at hl 0 rfl) ?_
  refine lv_iload_n hx hb dX0_topGroup_1 rfl (lv_at hl 1 rfl) ?_
  refine zz_callR (As := [.int a]) (rest := []) S hK hP hS (met0_badGrouping l D ad dA n F a) (cwX0_badGrouping hts (by decide)) (cv_recv hK hP) rfl hl.1 rfl (by decide) dX0_topGroup_2 ⟨Nat.le_refl 0, Nat.le_refl 0⟩ (fun r2 H locs hr2 hP hS => ?_)
  rcases hr2 with ⟨hr2, hno⟩ | ⟨hr2, G, hG, ha⟩
  · subst hr2
    refine nv_if_ne (tgt := 16) (by omega) hx hb dX0_topGroup_5 (by decide) (fun c5 => ?_) (fun c5 => ?_)
    · refine lv_ldc (v := (-1000000)) hx hb hown (hts _ q75) dX0_topGroup_16 ?_
      exact hret _ _ _ _ _ (n, F) hP hS (⟨Or.inr ⟨fun x w => hno ⟨x.1, w.1⟩, rfl⟩, rfl, hcv⟩) dX0_topGroup_18
    · exact absurd c5 (by decide)
  · subst hr2
    rw [ha] at hl
    refine nv_if_ne (tgt := 16) (by omega) hx hb dX0_topGroup_5 (by decide) (fun c5 => ?_) (fun c5 => ?_)
    · exact absurd c5 (by decide)
    · refine lv_aload_n hx hb dX0_topGroup_8 rfl (lv_at hl 0 rfl) ?_
      refine lv_iload_n hx hb dX0_topGroup_9 rfl (lv_at hl 2 rfl) ?_
      refine zz_callR (As := [.int b]) (rest := []) S hK hP hS (met0_badFilter l D ad dA n F b) (cwX0_badFilter hts (by decide)) (cv_recv hK hP) rfl hl.1 rfl (by decide) dX0_topGroup_10 ⟨Nat.le_refl 0, Nat.le_refl 0⟩ (fun r10 H locs hr10 hP hS => ?_)
      rcases hr10 with ⟨hr10, hno⟩ | ⟨hr10, f, hf, hb2⟩
      · subst hr10
        refine nv_if_eq (tgt := 19) (by omega) hx hb dX0_topGroup_13 (by decide) (fun c13 => ?_) (fun c13 => ?_)
        · exact absurd c13 (by decide)
        · refine lv_ldc (v := (-1000000)) hx hb hown (hts _ q75) dX0_topGroup_16 ?_
          exact hret _ _ _ _ _ (n, F) hP hS (⟨Or.inr ⟨fun x w => hno ⟨x.2, w.2⟩, rfl⟩, rfl, hcv⟩) dX0_topGroup_18
      · subst hr10
        rw [hb2] at hl
        refine nv_if_eq (tgt := 19) (by omega) hx hb dX0_topGroup_13 (by decide) (fun c13 => ?_) (fun c13 => ?_)
        · refine lv_aload_n hx hb dX0_topGroup_19 rfl (lv_at hl 0 rfl) ?_
          refine lv_iload_n hx hb dX0_topGroup_20 rfl (lv_at hl 1 rfl) ?_
          refine lv_iload_n hx hb dX0_topGroup_21 rfl (lv_at hl 2 rfl) ?_
          refine zz_callM (As := [.int (nI G), .int (nI f)]) (rest := []) S hK hP hS (fun _ h => h) (met0_top l D ad dA n F hI pl am hcv G f (by omega) (by omega)) (cwX0_top hts (by decide)) (cv_recv hK hP) rfl hl.1 rfl (by decide) dX0_topGroup_22 ⟨Nat.le_refl 0, Nat.le_refl 0⟩ (fun r22 u_1 H locs hr22 hP _ hS => ?_)
          obtain ⟨n_3, F_2⟩ := u_1
          replace hP : va_P D vwCl (cvw ad dA n_3 F_2) H := hP
          obtain ⟨hv22, hn22, hu22⟩ := hr22
          dsimp only at hu22
          replace hn22 : n_3 = n := hn22
          rw [hn22] at hP
          cases ho : zc_top (zc_C n pl G f) (zc_S n pl am G f) 120 with
          | none =>
            rw [ho] at hv22
            subst hv22
            refine cv_top (b := (-1)) rfl ?_
            refine lv_istore_n (lv' := [(3, .int (-1)), (0, .ref (ad 0)), (1, .int (nI G)), (2, .int (nI f))]) hx hb dX0_topGroup_25 rfl hl (by decide) rfl (fun ls hl => ?_)
            refine lv_iload_n hx hb dX0_topGroup_26 rfl (lv_at hl 0 rfl) ?_
            refine lv_if_ge (tgt := 35) hx hb dX0_topGroup_27 (by decide) (fun c27 => ?_) (fun c27 => ?_)
            · exact absurd c27 (by decide)
            · refine lv_ldc (v := (-4000000)) hx hb hown (hts _ q101) dX0_topGroup_30 ?_
              refine lv_goto (tgt := 36) hx hb dX0_topGroup_32 (by decide) ?_
              exact hret _ _ _ _ _ (n, F_2) hP hS (⟨Or.inl ⟨(G, f), ⟨⟨hG, ha⟩, hf, hb2⟩, by simp only [ho]; rfl⟩, rfl, zc_cv_89 hcv hu22.1⟩) dX0_topGroup_36
          | some bb =>
            rw [ho] at hv22
            subst hv22
            refine cv_top (b := nI bb) rfl ?_
            have hbl := (zc_top_lt ho).1
            refine lv_istore_n (lv' := [(3, .int (nI bb)), (0, .ref (ad 0)), (1, .int (nI G)), (2, .int (nI f))]) hx hb dX0_topGroup_25 rfl hl (by decide) rfl (fun ls hl => ?_)
            refine lv_iload_n hx hb dX0_topGroup_26 rfl (lv_at hl 0 rfl) ?_
            refine lv_if_ge (tgt := 35) hx hb dX0_topGroup_27 (by decide) (fun c27 => ?_) (fun c27 => ?_)
            · refine lv_iload_n hx hb dX0_topGroup_35 rfl (lv_at hl 0 rfl) ?_
              exact hret _ _ _ _ _ (n, F_2) hP hS (⟨Or.inl ⟨(G, f), ⟨⟨hG, ha⟩, hf, hb2⟩, by simp only [ho]; rfl⟩, rfl, zc_cv_89 hcv hu22.1⟩) dX0_topGroup_36
            · exact absurd (nI_pos' (by omega)) c27
        · exact absurd c13 (by decide)
set_option maxHeartbeats 4000000 in
theorem met0_atLeast (l : Launch) (D : va_G) (ad : Nat → Nat) (dA : Nat → ClassId) (n : Nat) (F : Nat → Nat → Int32) (hI : cvI ad) (pl : Nat → Nat) (am : Nat → Int32) (hcv : zc_cv n pl am F) (a x : Int32) : Met l yX0_atLeast (ws_ yX0_atLeast cX0_atLeast 5 (some .int)) (rmL 3) (va_Pc [.ref (ad 0), .int a, .int x] (Pw D (cvw ad dA n F) (cvT dA))) (Qm D (fun u : Nat × (Nat → Nat → Int32) => cvw ad dA u.1 u.2) (cvA ad) (fun r u => zc_RX (zc_okG a) (fun G r => r = nI (zc_na (zc_C n pl G 32767) (zc_S n pl am G 32767) x 120)) r ∧ u.1 = n ∧ zc_cv n pl am u.2)) 0 0 (cvA ad) := by
  refine zz_mkM (by decide) rfl (Nat.le_of_ble_eq_true rfl) ?_
  intro pr e s m args below meth c Q ls S hpre hl hret
  obtain ⟨hP, hK⟩ := hpre
  have hx := S.1
  have hb := S.2.1
  have hown : s.vm.findClass RX0 = some m.cls := S.2.2.2.1
  have hts := S.2.2.2.2
  have hS : va_S (cvA ad) s.heap s.heap [] := va_S.rf
  have hl : lv_has ls 5 [(0, .ref (ad 0)), (1, .int a), (2, .int x)] := hl
  have hn40 := hcv.1
  refine lv_aload_n hx hb dX0_atLeast_0 rfl (lv_at hl 0 rfl) ?_
  refine lv_iload_n hx hb dX0_atLeast_1 rfl (lv_at hl 1 rfl) ?_
  refine zz_callR (As := [.int a]) (rest := []) S hK hP hS (met0_badGrouping l D ad dA n F a) (cwX0_badGrouping hts (by decide)) (cv_recv hK hP) rfl hl.1 rfl (by decide) dX0_atLeast_2 ⟨Nat.le_refl 0, Nat.le_refl 0⟩ (fun r2 H locs hr2 hP hS => ?_)
  rcases hr2 with ⟨hr2, hno⟩ | ⟨hr2, G, hG, ha⟩
  · subst hr2
    refine nv_if_eq (tgt := 11) (by omega) hx hb dX0_atLeast_5 (by decide) (fun c5 => ?_) (fun c5 => ?_)
    · exact absurd c5 (by decide)
    · refine lv_ldc (v := (-1000000)) hx hb hown (hts _ q75) dX0_atLeast_8 ?_
      exact hret _ _ _ _ _ (n, F) hP hS (⟨Or.inr ⟨fun x w => hno ⟨x, w⟩, rfl⟩, rfl, hcv⟩) dX0_atLeast_10
  · subst hr2
    rw [ha] at hl
    refine nv_if_eq (tgt := 11) (by omega) hx hb dX0_atLeast_5 (by decide) (fun c5 => ?_) (fun c5 => ?_)
    · refine lv_aload_n hx hb dX0_atLeast_11 rfl (lv_at hl 0 rfl) ?_
      refine lv_iload_n hx hb dX0_atLeast_12 rfl (lv_at hl 1 rfl) ?_
      refine lv_sipush (v := nI 32767) hx hb dX0_atLeast_13 (by decide) ?_
      refine zz_callV (As := [.int (nI G), .int (nI 32767)]) (rest := []) S hK hP hS (fun _ h => h) (met0_gather l D ad dA n F hI G 32767 (by omega) (by omega) pl am hcv.1 hcv.2.1 hcv.2.2.2.2) (cwX0_gather hts (by decide)) (cv_recv hK hP) rfl hl.1 rfl (by decide) dX0_atLeast_16 ⟨Nat.le_refl 0, Nat.le_refl 0⟩ (fun u_1 H locs hr16 hP _ hS => ?_)
      obtain ⟨n_3, F_2⟩ := u_1
      replace hP : va_P D vwCl (cvw ad dA n_3 F_2) H := hP
      obtain ⟨hn16, hu16⟩ := hr16
      dsimp only at hu16
      replace hn16 : n_3 = n := hn16
      rw [hn16] at hP
      have L24 : ∀ (dd k : Nat) (H : Heap) (locs : List Loc) (ls : Array Slot), k ≤ 120 → 120 + 1 ≤ k + dd → va_P D vwCl (cvw ad dA n F_2) H → va_S (cvA ad) s.heap H locs → lv_has ls 5 [(0, .ref (ad 0)), (1, .int (nI G)), (2, .int x), (3, .int (nI (zc_na (zc_C n pl G 32767) (zc_S n pl am G 32767) x k))), (4, .int (nI k))] → W pr l e (rmL 3) s m args below meth c H locs 0 0 Q (F0 m 24 ls []) := by
        intro dd
        induction dd with
        | zero =>
          intro k  H locs ls hle hdd
          exact absurd hdd (by omega)
        | succ dd ih =>
          intro k  H locs ls hle hdd  hP hS hl
          refine lv_iload hx hb dX0_atLeast_24 (lv_at hl 4 rfl) ?_
          refine lv_bipush (v := nI 120) hx hb dX0_atLeast_26 (by decide) ?_
          refine nv_icmp_ge (tgt := 66) (by omega) (by omega) hx hb dX0_atLeast_28 (by decide) (fun c28 => ?_) (fun c28 => ?_)
          · refine lv_iload_n hx hb dX0_atLeast_66 rfl (lv_at hl 3 rfl) ?_
            have hin : k = 120 := by omega
            rw [hin]
            exact hret _ _ _ _ _ (n, F_2) hP hS (⟨Or.inl ⟨G, ⟨hG, ha⟩, rfl⟩, rfl, zc_cv_89 hcv hu16.1⟩) dX0_atLeast_67
          · refine lv_aload_n hx hb dX0_atLeast_31 rfl (lv_at hl 0 rfl) ?_
            refine cv_g8 hx hb hts hown hK hP dX0_atLeast_32 ?_
            refine lv_iload hx hb dX0_atLeast_35 (lv_at hl 4 rfl) ?_
            refine cv_l8 hx hb hK hP k rfl (by omega) dX0_atLeast_37 ?_
            have hcl := zc_C_le n pl G 32767 k
            have hna := zc_na_le (zc_C n pl G 32767) (zc_S n pl am G 32767) x k
            refine cv_top (b := nI (zc_C n pl G 32767 k)) ((zc_gatC hu16 (by omega)).1) ?_
            refine nv_if_le (tgt := 58) (by omega) hx hb dX0_atLeast_38 (by decide) (fun c38 => ?_) (fun c38 => ?_)
            · refine lv_iload_n hx hb dX0_atLeast_58 rfl (lv_at hl 3 rfl) ?_
              refine cv_top (b := nI (zc_na (zc_C n pl G 32767) (zc_S n pl am G 32767) x (k + 1))) (by rw [zc_na_no c38]) ?_
              refine lv_istore_n (lv' := [(3, .int (nI (zc_na (zc_C n pl G 32767) (zc_S n pl am G 32767) x (k + 1)))), (0, .ref (ad 0)), (1, .int (nI G)), (2, .int x), (4, .int (nI k))]) hx hb dX0_atLeast_59 rfl hl (by decide) rfl (fun ls hl => ?_)
              refine lv_iinc (v := nI (k + 1)) (lv' := [(4, .int (nI (k + 1))), (3, .int (nI (zc_na (zc_C n pl G 32767) (zc_S n pl am G 32767) x (k + 1)))), (0, .ref (ad 0)), (1, .int (nI G)), (2, .int x)]) hx hb dX0_atLeast_60 hl (k := 4) rfl (nI_inc) (by decide) rfl (fun ls hl => ?_)
              refine lv_goto (tgt := 24) hx hb dX0_atLeast_63 (by decide) ?_
              exact ih (k + 1) _ _ _ (by omega) (by omega) hP hS (lv_sub hl [2, 3, 4, 1, 0] rfl)
            · refine lv_aload_n hx hb dX0_atLeast_41 rfl (lv_at hl 0 rfl) ?_
              refine cv_g9 hx hb hts hown hK hP dX0_atLeast_42 ?_
              refine lv_iload hx hb dX0_atLeast_45 (lv_at hl 4 rfl) ?_
              refine cv_l9 hx hb hK hP k rfl (by omega) dX0_atLeast_47 ?_
              refine cv_top (b := zc_S n pl am G 32767 k) ((zc_gatC hu16 (by omega)).2) ?_
              refine lv_iload_n hx hb dX0_atLeast_48 rfl (lv_at hl 2 rfl) ?_
              refine lv_icmp_lt (tgt := 58) hx hb dX0_atLeast_49 (by decide) (fun c49 => ?_) (fun c49 => ?_)
              · refine lv_iload_n hx hb dX0_atLeast_58 rfl (lv_at hl 3 rfl) ?_
                refine cv_top (b := nI (zc_na (zc_C n pl G 32767) (zc_S n pl am G 32767) x (k + 1))) (by rw [zc_na_lt c49]) ?_
                refine lv_istore_n (lv' := [(3, .int (nI (zc_na (zc_C n pl G 32767) (zc_S n pl am G 32767) x (k + 1)))), (0, .ref (ad 0)), (1, .int (nI G)), (2, .int x), (4, .int (nI k))]) hx hb dX0_atLeast_59 rfl hl (by decide) rfl (fun ls hl => ?_)
                refine lv_iinc (v := nI (k + 1)) (lv' := [(4, .int (nI (k + 1))), (3, .int (nI (zc_na (zc_C n pl G 32767) (zc_S n pl am G 32767) x (k + 1)))), (0, .ref (ad 0)), (1, .int (nI G)), (2, .int x)]) hx hb dX0_atLeast_60 hl (k := 4) rfl (nI_inc) (by decide) rfl (fun ls hl => ?_)
                refine lv_goto (tgt := 24) hx hb dX0_atLeast_63 (by decide) ?_
                exact ih (k + 1) _ _ _ (by omega) (by omega) hP hS (lv_sub hl [2, 3, 4, 1, 0] rfl)
              · refine lv_iload_n hx hb dX0_atLeast_52 rfl (lv_at hl 3 rfl) ?_
                refine lv_iconst (v := nI 1) hx hb dX0_atLeast_53 (by decide) ?_
                refine lv_iadd hx hb dX0_atLeast_54 ?_
                refine cv_top (nI_add _ _) ?_
                refine lv_goto (tgt := 59) hx hb dX0_atLeast_55 (by decide) ?_
                refine cv_top (b := nI (zc_na (zc_C n pl G 32767) (zc_S n pl am G 32767) x (k + 1))) (by rw [zc_na_yes c38 c49]) ?_
                refine lv_istore_n (lv' := [(3, .int (nI (zc_na (zc_C n pl G 32767) (zc_S n pl am G 32767) x (k + 1)))), (0, .ref (ad 0)), (1, .int (nI G)), (2, .int x), (4, .int (nI k))]) hx hb dX0_atLeast_59 rfl hl (by decide) rfl (fun ls hl => ?_)
                refine lv_iinc (v := nI (k + 1)) (lv' := [(4, .int (nI (k + 1))), (3, .int (nI (zc_na (zc_C n pl G 32767) (zc_S n pl am G 32767) x (k + 1)))), (0, .ref (ad 0)), (1, .int (nI G)), (2, .int x)]) hx hb dX0_atLeast_60 hl (k := 4) rfl (nI_inc) (by decide) rfl (fun ls hl => ?_)
                refine lv_goto (tgt := 24) hx hb dX0_atLeast_63 (by decide) ?_
                exact ih (k + 1) _ _ _ (by omega) (by omega) hP hS (lv_sub hl [2, 3, 4, 1, 0] rfl)
      refine lv_iconst (v := nI 0) hx hb dX0_atLeast_19 (by decide) ?_
      refine lv_istore_n (lv' := [(3, .int (nI 0)), (0, .ref (ad 0)), (1, .int (nI G)), (2, .int x)]) hx hb dX0_atLeast_20 rfl hl (by decide) rfl (fun ls hl => ?_)
      refine lv_iconst (v := nI 0) hx hb dX0_atLeast_21 (by decide) ?_
      refine lv_istore (lv' := [(4, .int (nI 0)), (3, .int (nI 0)), (0, .ref (ad 0)), (1, .int (nI G)), (2, .int x)]) hx hb dX0_atLeast_22 hl (by decide) rfl (fun ls hl => ?_)
      exact L24 121 0 _ _ _ (by omega) (by omega) hP hS (lv_sub hl [2, 3, 4, 1, 0] rfl)
    · exact absurd c5 (by decide)
end
section
set_option maxRecDepth 100000
set_option maxHeartbeats 4000000 in
theorem met0_greatest (l : Launch) (D : va_G) (ad : Nat → Nat) (dA : Nat → ClassId) (n : Nat) (F : Nat → Nat → Int32) (hI : cvI ad) (pl : Nat → Nat) (am : Nat → Int32) (hcv : zc_cv n pl am F) (a : Int32) : Met l yX0_greatest (ws_ yX0_greatest cX0_greatest 5 (some .int)) (rmL 2) (va_Pc [.ref (ad 0), .int a] (Pw D (cvw ad dA n F) (cvT dA))) (Qm D (fun u : Nat × (Nat → Nat → Int32) => cvw ad dA u.1 u.2) (cvA ad) (fun r u => zc_RX (zc_okF a) (fun f r => zc_max (fun i => zc_ps (pl i) f 7 = true) am n r) r ∧ u.1 = n ∧ zc_cv n pl am u.2)) 0 0 (cvA ad) := by
  refine zz_mkM (by decide) rfl (Nat.le_of_ble_eq_true rfl) ?_
  intro pr e s m args below meth c Q ls S hpre hl hret
  obtain ⟨hP, hK⟩ := hpre
  have hx := S.1
  have hb := S.2.1
  have hown : s.vm.findClass RX0 = some m.cls := S.2.2.2.1
  have hts := S.2.2.2.2
  have hS : va_S (cvA ad) s.heap s.heap [] := va_S.rf
  have hl : lv_has ls 5 [(0, .ref (ad 0)), (1, .int a)] := hl
  have hn40 := hcv.1
  refine lv_aload_n hx hb dX0_greatest_0 rfl (lv_at hl 0 rfl) ?_
  refine lv_iload_n hx hb dX0_greatest_1 rfl (lv_at hl 1 rfl) ?_
  refine zz_callR (As := [.int a]) (rest := []) S hK hP hS (met0_badFilter l D ad dA n F a) (cwX0_badFilter hts (by decide)) (cv_recv hK hP) rfl hl.1 rfl (by decide) dX0_greatest_2 ⟨Nat.le_refl 0, Nat.le_refl 0⟩ (fun r2 H locs hr2 hP hS => ?_)
  rcases hr2 with ⟨hr2, hno⟩ | ⟨hr2, f, hf, ha⟩
  · subst hr2
    refine nv_if_eq (tgt := 11) (by omega) hx hb dX0_greatest_5 (by decide) (fun c5 => ?_) (fun c5 => ?_)
    · exact absurd c5 (by decide)
    · refine lv_ldc (v := (-1000000)) hx hb hown (hts _ q75) dX0_greatest_8 ?_
      exact hret _ _ _ _ _ (n, F) hP hS (⟨Or.inr ⟨fun x w => hno ⟨x, w⟩, rfl⟩, rfl, hcv⟩) dX0_greatest_10
  · subst hr2
    rw [ha] at hl
    refine nv_if_eq (tgt := 11) (by omega) hx hb dX0_greatest_5 (by decide) (fun c5 => ?_) (fun c5 => ?_)
    · have L16 : ∀ (dd p : Nat) (bv : Int32) (H : Heap) (locs : List Loc) (ls : Array Slot), p ≤ 120 → 120 + 1 ≤ p + dd → zc_max (fun i => pl i < p ∧ zc_ps (pl i) f 7 = true) am n bv → va_P D vwCl (cvw ad dA n F) H → va_S (cvA ad) s.heap H locs → lv_has ls 5 [(0, .ref (ad 0)), (1, .int (nI f)), (2, .int bv), (3, .int (nI p))] → W pr l e (rmL 2) s m args below meth c H locs 0 0 Q (F0 m 16 ls []) := by
        intro dd
        induction dd with
        | zero =>
          intro p bv H locs ls hle hdd
          exact absurd hdd (by omega)
        | succ dd ih =>
          intro p bv H locs ls hle hdd hv hP hS hl
          refine lv_iload_n hx hb dX0_greatest_16 rfl (lv_at hl 3 rfl) ?_
          refine lv_bipush (v := nI 120) hx hb dX0_greatest_17 (by decide) ?_
          refine nv_icmp_ge (tgt := 68) (by omega) (by omega) hx hb dX0_greatest_19 (by decide) (fun c19 => ?_) (fun c19 => ?_)
          · refine lv_iload_n hx hb dX0_greatest_68 rfl (lv_at hl 2 rfl) ?_
            have hin : p = 120 := by omega
            rw [hin] at hv
            exact hret _ _ _ _ _ (n, F) hP hS (⟨Or.inl ⟨f, ⟨hf, ha⟩, zc_max_congr hv (fun i hi => ⟨fun w => ⟨(hcv.2.1 i hi).2.1, w⟩, fun w => w.2⟩)⟩, rfl, hcv⟩) dX0_greatest_69
          · refine lv_aload_n hx hb dX0_greatest_22 rfl (lv_at hl 0 rfl) ?_
            refine cv_g3 hx hb hts hown hK hP dX0_greatest_23 ?_
            refine lv_iload_n hx hb dX0_greatest_26 rfl (lv_at hl 3 rfl) ?_
            refine cv_l3 hx hb hK hP p rfl (by omega) dX0_greatest_27 ?_
            refine cv_top (b := (zc_last pl n p)) (hcv.2.2.2.1.1 p (by omega)) ?_
            refine lv_if_lt (tgt := 62) hx hb dX0_greatest_28 (by decide) (fun c28 => ?_) (fun c28 => ?_)
            · refine lv_iinc (v := nI (p + 1)) (lv' := [(3, .int (nI (p + 1))), (0, .ref (ad 0)), (1, .int (nI f)), (2, .int bv)]) hx hb dX0_greatest_62 hl (k := 3) rfl (nI_inc) (by decide) rfl (fun ls hl => ?_)
              refine lv_goto (tgt := 16) hx hb dX0_greatest_65 (by decide) ?_
              have hno : ∀ i, i < n → pl i ≠ p := by
                rcases zc_last_or pl n p with ⟨_, h⟩ | ⟨j, hj, e, _⟩
                · exact h
                · exact absurd c28 (by rw [e]; exact nI_pos (by have := hcv.1; omega))
              refine ih (p + 1) bv _ _ _ (by omega) (by omega) ?_ hP hS (lv_sub hl [1, 2, 3, 0] rfl)
              exact (zc_max_congr hv (fun i hi => ⟨fun w => ⟨by have := hno i hi; have := w.1; omega, w.2⟩, fun w => ⟨by have := w.1; omega, w.2⟩⟩))
            · refine lv_aload_n hx hb dX0_greatest_31 rfl (lv_at hl 0 rfl) ?_
              refine lv_iload_n hx hb dX0_greatest_32 rfl (lv_at hl 3 rfl) ?_
              refine lv_iload_n hx hb dX0_greatest_33 rfl (lv_at hl 1 rfl) ?_
              refine lv_bipush (v := nI 7) hx hb dX0_greatest_34 (by decide) ?_
              refine zz_callR (As := [.int (nI p), .int (nI f), .int (nI 7)]) (rest := []) S hK hP hS (met0_passes l D ad dA n F p f 7 (by omega) (by omega) (by omega)) (cwX0_passes hts (by decide)) (cv_recv hK hP) rfl hl.1 rfl (by decide) dX0_greatest_36 ⟨Nat.le_refl 0, Nat.le_refl 0⟩ (fun r36 H locs hr36 hP hS => ?_)
              rcases hr36 with ⟨hr36, hps⟩ | ⟨hr36, hps⟩
              · subst hr36
                refine nv_if_eq (tgt := 62) (by omega) hx hb dX0_greatest_39 (by decide) (fun c39 => ?_) (fun c39 => ?_)
                · exact absurd c39 (by decide)
                · refine lv_aload_n hx hb dX0_greatest_42 rfl (lv_at hl 0 rfl) ?_
                  refine lv_iload_n hx hb dX0_greatest_43 rfl (lv_at hl 3 rfl) ?_
                  refine zz_callR (As := [.int (nI p)]) (rest := []) S hK hP hS (met0_greatestAt l D ad dA n F pl am p hcv.1 (by omega) (fun i hi => (hcv.2.1 i hi).2.2) (hcv.2.2.2.1.1 p (by omega)) hcv.2.2.2.1.2) (cwX0_greatestAt hts (by decide)) (cv_recv hK hP) rfl hl.1 rfl (by decide) dX0_greatest_44 ⟨Nat.le_refl 0, Nat.le_refl 0⟩ (fun r44 H locs hr44 hP hS => ?_)
                  refine lv_istore (lv' := [(4, .int r44), (0, .ref (ad 0)), (1, .int (nI f)), (2, .int bv), (3, .int (nI p))]) hx hb dX0_greatest_47 hl (by decide) rfl (fun ls hl => ?_)
                  refine lv_iload hx hb dX0_greatest_49 (lv_at hl 0 rfl) ?_
                  refine lv_iload_n hx hb dX0_greatest_51 rfl (lv_at hl 3 rfl) ?_
                  refine lv_icmp_le (tgt := 60) hx hb dX0_greatest_52 (by decide) (fun c52 => ?_) (fun c52 => ?_)
                  · refine lv_iload_n hx hb dX0_greatest_60 rfl (lv_at hl 3 rfl) ?_
                    refine lv_istore_n (lv' := [(2, .int bv), (4, .int r44), (0, .ref (ad 0)), (1, .int (nI f)), (3, .int (nI p))]) hx hb dX0_greatest_61 rfl hl (by decide) rfl (fun ls hl => ?_)
                    refine lv_iinc (v := nI (p + 1)) (lv' := [(3, .int (nI (p + 1))), (2, .int bv), (4, .int r44), (0, .ref (ad 0)), (1, .int (nI f))]) hx hb dX0_greatest_62 hl (k := 4) rfl (nI_inc) (by decide) rfl (fun ls hl => ?_)
                    refine lv_goto (tgt := 16) hx hb dX0_greatest_65 (by decide) ?_
                    refine ih (p + 1) bv _ _ _ (by omega) (by omega) ?_ hP hS (lv_sub hl [3, 4, 1, 0] rfl)
                    exact (zc_max_un hv hr44 c52 (fun i hi => ⟨fun w => by
                      by_cases q : pl i = p
                      · exact Or.inr q
                      · exact Or.inl ⟨by have := w.1; omega, w.2⟩, fun w => by
                      rcases w with w | w
                      · exact ⟨by have := w.1; omega, w.2⟩
                      · exact ⟨by omega, by rw [w]; exact hps⟩⟩))
                  · refine lv_iload hx hb dX0_greatest_55 (lv_at hl 0 rfl) ?_
                    refine lv_goto (tgt := 61) hx hb dX0_greatest_57 (by decide) ?_
                    refine lv_istore_n (lv' := [(2, .int r44), (4, .int r44), (0, .ref (ad 0)), (1, .int (nI f)), (3, .int (nI p))]) hx hb dX0_greatest_61 rfl hl (by decide) rfl (fun ls hl => ?_)
                    refine lv_iinc (v := nI (p + 1)) (lv' := [(3, .int (nI (p + 1))), (2, .int r44), (4, .int r44), (0, .ref (ad 0)), (1, .int (nI f))]) hx hb dX0_greatest_62 hl (k := 4) rfl (nI_inc) (by decide) rfl (fun ls hl => ?_)
                    refine lv_goto (tgt := 16) hx hb dX0_greatest_65 (by decide) ?_
                    refine ih (p + 1) r44 _ _ _ (by omega) (by omega) ?_ hP hS (lv_sub hl [3, 4, 1, 0] rfl)
                    exact (zc_max_un hr44 hv (Int32.le_of_lt (Int32.not_le.mp c52)) (fun i hi => ⟨fun w => by
                      by_cases q : pl i = p
                      · exact Or.inl q
                      · exact Or.inr ⟨by have := w.1; omega, w.2⟩, fun w => by
                      rcases w with w | w
                      · exact ⟨by omega, by rw [w]; exact hps⟩
                      · exact ⟨by have := w.1; omega, w.2⟩⟩))
              · subst hr36
                refine nv_if_eq (tgt := 62) (by omega) hx hb dX0_greatest_39 (by decide) (fun c39 => ?_) (fun c39 => ?_)
                · refine lv_iinc (v := nI (p + 1)) (lv' := [(3, .int (nI (p + 1))), (0, .ref (ad 0)), (1, .int (nI f)), (2, .int bv)]) hx hb dX0_greatest_62 hl (k := 3) rfl (nI_inc) (by decide) rfl (fun ls hl => ?_)
                  refine lv_goto (tgt := 16) hx hb dX0_greatest_65 (by decide) ?_
                  refine ih (p + 1) bv _ _ _ (by omega) (by omega) ?_ hP hS (lv_sub hl [1, 2, 3, 0] rfl)
                  exact (zc_max_congr hv (fun i hi => ⟨fun w => ⟨by
                    have h1 := w.1
                    have h2 : pl i ≠ p := fun q => by rw [q, hps] at w; exact absurd w.2 (by decide)
                    omega, w.2⟩, fun w => ⟨by have := w.1; omega, w.2⟩⟩))
                · exact absurd c39 (by decide)
      refine lv_ldc (v := (-4000000)) hx hb hown (hts _ q101) dX0_greatest_11 ?_
      refine lv_istore_n (lv' := [(2, .int (-4000000)), (0, .ref (ad 0)), (1, .int (nI f))]) hx hb dX0_greatest_13 rfl hl (by decide) rfl (fun ls hl => ?_)
      refine lv_iconst (v := nI 0) hx hb dX0_greatest_14 (by decide) ?_
      refine lv_istore_n (lv' := [(3, .int (nI 0)), (2, .int (-4000000)), (0, .ref (ad 0)), (1, .int (nI f))]) hx hb dX0_greatest_15 rfl hl (by decide) rfl (fun ls hl => ?_)
      exact L16 121 0 (-4000000) _ _ _ (by omega) (by omega) ⟨Int32.le_refl _, fun i hi w => by omega, Or.inl rfl⟩ hP hS (lv_sub hl [2, 3, 1, 0] rfl)
    · exact absurd c5 (by decide)
end
section
set_option maxRecDepth 100000
theorem zc_m_of {a : Int32} (h : ¬ a < nI 1) (h2 : a < nI 6) : ∃ m, 1 ≤ m ∧ m < 6 ∧ a = nI m := by
  have h0 : ¬ a < 0 := fun w => h (Int32.lt_trans w (by decide))
  obtain ⟨j, hj, e⟩ := zc_lt0 (by decide) h0 h2
  refine ⟨j, ?_, hj, e⟩
  rcases Nat.eq_zero_or_pos j with q | q
  · exact absurd (by rw [e, q]; decide) h
  · exact q
theorem zc_no_lt {a : Int32} {j : Nat} (h : a < 0) (e : a = nI j) (hj : j < 2 ^ 31) : False := nI_pos hj (by rw [← e]; exact h)
theorem zc_no_ge {a : Int32} {j b : Nat} (h : ¬ a < nI b) (e : a = nI j) (hj : j < b) (hb : b < 2 ^ 31) : False := h (by rw [e]; exact nI_lt hj hb)
theorem zc_no_le {a : Int32} {j b : Nat} (h : nI b ≤ a) (e : a = nI j) (hj : j < b) (hb : b < 2 ^ 31) : False := nI_ge hj hb (by rw [← e]; exact h)
theorem zc_no_gt {a : Int32} {j b : Nat} (h : nI b < a) (e : a = nI j) (hj : j ≤ b) (hb : b < 2 ^ 31) : False := by
  rw [e] at h
  have := (nI_ltI hb (by omega)).mp h
  omega
theorem zc_no_nle {a : Int32} {j b : Nat} (h : ¬ a ≤ nI b) (e : a = nI j) (hj : j ≤ b) (hb : b < 2 ^ 31) : False := h (by rw [e]; exact nI_le hj hb)
theorem zc_no_lt1 {a : Int32} {j : Nat} (h : a < nI 1) (e : a = nI j) (hj : 1 ≤ j) (hb : j < 2 ^ 31) : False := by
  rw [e] at h
  have := (nI_ltI hb (by decide)).mp h
  omega
set_option maxHeartbeats 4000000 in
theorem met0_quarter (l : Launch) (D : va_G) (ad : Nat → Nat) (dA : Nat → ClassId) (n : Nat) (F : Nat → Nat → Int32) (hI : cvI ad) (pl : Nat → Nat) (am : Nat → Int32) (hcv : zc_cv n pl am F) (a b : Int32) : Met l yX0_quarter (ws_ yX0_quarter cX0_quarter 3 (some .int)) (rmL 3) (va_Pc [.ref (ad 0), .int a, .int b] (Pw D (cvw ad dA n F) (cvT dA))) (Qm D (fun u : Nat × (Nat → Nat → Int32) => cvw ad dA u.1 u.2) (cvA ad) (fun r u => zc_RX (zc_okQ a b) (fun x r => r = zc_sum (zc_qs pl x.1 x.2) am n) r ∧ u.1 = n ∧ zc_cv n pl am u.2)) 0 0 (cvA ad) := by
  refine zz_mkM (by decide) rfl (Nat.le_of_ble_eq_true rfl) ?_
  intro pr e s m args below meth c Q ls S hpre hl hret
  obtain ⟨hP, hK⟩ := hpre
  have hx := S.1
  have hb := S.2.1
  have hown : s.vm.findClass RX0 = some m.cls := S.2.2.2.1
  have hts := S.2.2.2.2
  have hS : va_S (cvA ad) s.heap s.heap [] := va_S.rf
  have hl : lv_has ls 3 [(0, .ref (ad 0)), (1, .int a), (2, .int b)] := hl
  have hn40 := hcv.1
  refine lv_iload_n hx hb dX0_quarter_0 rfl (lv_at hl 1 rfl) ?_
  refine lv_if_lt (tgt := 18) hx hb dX0_quarter_1 (by decide) (fun c1 => ?_) (fun c1 => ?_)
  · refine lv_ldc (v := (-1000000)) hx hb hown (hts _ q75) dX0_quarter_18 ?_
    exact hret _ _ _ _ _ (n, F) hP hS (⟨Or.inr ⟨fun x w => zc_no_lt c1 w.1.2 (by have := w.1.1; omega), rfl⟩, rfl, hcv⟩) dX0_quarter_20
  · refine lv_iload_n hx hb dX0_quarter_4 rfl (lv_at hl 1 rfl) ?_
    refine lv_iconst (v := nI 1) hx hb dX0_quarter_5 (by decide) ?_
    refine lv_icmp_gt (tgt := 18) hx hb dX0_quarter_6 (by decide) (fun c6 => ?_) (fun c6 => ?_)
    · refine lv_ldc (v := (-1000000)) hx hb hown (hts _ q75) dX0_quarter_18 ?_
      exact hret _ _ _ _ _ (n, F) hP hS (⟨Or.inr ⟨fun x w => zc_no_gt c6 w.1.2 (by have := w.1.1; omega) (by decide), rfl⟩, rfl, hcv⟩) dX0_quarter_20
    · refine lv_iload_n hx hb dX0_quarter_9 rfl (lv_at hl 2 rfl) ?_
      refine lv_if_lt (tgt := 18) hx hb dX0_quarter_10 (by decide) (fun c10 => ?_) (fun c10 => ?_)
      · refine lv_ldc (v := (-1000000)) hx hb hown (hts _ q75) dX0_quarter_18 ?_
        exact hret _ _ _ _ _ (n, F) hP hS (⟨Or.inr ⟨fun x w => zc_no_lt c10 w.2.2 (by have := w.2.1; omega), rfl⟩, rfl, hcv⟩) dX0_quarter_20
      · refine lv_iload_n hx hb dX0_quarter_13 rfl (lv_at hl 2 rfl) ?_
        refine lv_iconst (v := nI 4) hx hb dX0_quarter_14 (by decide) ?_
        refine lv_icmp_lt (tgt := 21) hx hb dX0_quarter_15 (by decide) (fun c15 => ?_) (fun c15 => ?_)
        · obtain ⟨q, hq, ha⟩ := zc_ge0 (b := 1) (by decide) c1 (Int32.not_lt.mp c6)
          obtain ⟨gr, hg, hb2⟩ := zc_lt0 (b := 4) (by decide) c10 c15
          rw [ha, hb2] at hl
          have hql := zc_q_lt q (by omega) gr hg
          refine lv_aload_n hx hb dX0_quarter_21 rfl (lv_at hl 0 rfl) ?_
          refine lv_iconst (v := nI 0) hx hb dX0_quarter_22 (by decide) ?_
          refine lv_iconst (v := nI 1) hx hb dX0_quarter_23 (by decide) ?_
          refine lv_iload_n hx hb dX0_quarter_24 rfl (lv_at hl 2 rfl) ?_
          refine lv_ishl hx hb dX0_quarter_25 ?_
          refine lv_sipush (v := nI 496) hx hb dX0_quarter_26 (by decide) ?_
          refine lv_ior hx hb dX0_quarter_29 ?_
          refine lv_bipush (v := nI 7) hx hb dX0_quarter_30 (by decide) ?_
          refine lv_bipush (v := nI 9) hx hb dX0_quarter_32 (by decide) ?_
          refine lv_iconst (v := nI 3) hx hb dX0_quarter_34 (by decide) ?_
          refine lv_iload_n hx hb dX0_quarter_35 rfl (lv_at hl 1 rfl) ?_
          refine lv_imul hx hb dX0_quarter_36 ?_
          refine cv_top (pk_mul _ _) ?_
          refine lv_iadd hx hb dX0_quarter_37 ?_
          refine cv_top (nI_add _ _) ?_
          refine lv_ishl hx hb dX0_quarter_38 ?_
          refine lv_ior hx hb dX0_quarter_39 ?_
          refine cv_top (b := nI (zc_q q gr)) (zc_qf q (by omega) gr hg) ?_
          refine zz_callV (As := [.int (nI 0), .int (nI (zc_q q gr))]) (rest := []) S hK hP hS (fun _ h => h) (met0_gather l D ad dA n F hI 0 (zc_q q gr) (by omega) (by omega) pl am hcv.1 hcv.2.1 hcv.2.2.2.2) (cwX0_gather hts (by decide)) (cv_recv hK hP) rfl hl.1 rfl (by decide) dX0_quarter_40 ⟨Nat.le_refl 0, Nat.le_refl 0⟩ (fun u_1 H locs hr40 hP _ hS => ?_)
          obtain ⟨n_3, F_2⟩ := u_1
          replace hP : va_P D vwCl (cvw ad dA n_3 F_2) H := hP
          obtain ⟨hn40, hu40⟩ := hr40
          dsimp only at hu40
          replace hn40 : n_3 = n := hn40
          rw [hn40] at hP
          refine lv_aload_n hx hb dX0_quarter_43 rfl (lv_at hl 0 rfl) ?_
          refine cv_g9 hx hb hts hown hK hP dX0_quarter_44 ?_
          refine lv_iconst (v := nI 0) hx hb dX0_quarter_47 (by decide) ?_
          refine cv_l9 hx hb hK hP 0 rfl (by omega) dX0_quarter_48 ?_
          exact hret _ _ _ _ _ (n, F_2) hP hS (⟨Or.inl ⟨(q, gr), ⟨⟨by show q < 2; omega, ha⟩, hg, hb2⟩, by rw [(zc_gatC hu40 (by decide)).2]; exact zc_q_sum (by omega) hg (fun i hi => (hcv.2.1 i hi).2.1)⟩, rfl, zc_cv_89 hcv hu40.1⟩) dX0_quarter_49
        · refine lv_ldc (v := (-1000000)) hx hb hown (hts _ q75) dX0_quarter_18 ?_
          exact hret _ _ _ _ _ (n, F) hP hS (⟨Or.inr ⟨fun x w => zc_no_ge c15 w.2.2 w.2.1 (by decide), rfl⟩, rfl, hcv⟩) dX0_quarter_20
set_option maxHeartbeats 4000000 in
theorem met0_growth (l : Launch) (D : va_G) (ad : Nat → Nat) (dA : Nat → ClassId) (n : Nat) (F : Nat → Nat → Int32) (hI : cvI ad) (pl : Nat → Nat) (am : Nat → Int32) (hcv : zc_cv n pl am F) (a : Int32) : Met l yX0_growth (ws_ yX0_growth cX0_growth 2 (some .int)) (rmL 3) (va_Pc [.ref (ad 0), .int a] (Pw D (cvw ad dA n F) (cvT dA))) (Qm D (fun u : Nat × (Nat → Nat → Int32) => cvw ad dA u.1 u.2) (cvA ad) (fun r u => zc_RX (zc_okM a) (fun m r => r = zc_sum (zc_ms pl m) am n - zc_sum (zc_ms pl (m - 1)) am n) r ∧ u.1 = n ∧ zc_cv n pl am u.2)) 0 0 (cvA ad) := by
  refine zz_mkM (by decide) rfl (Nat.le_of_ble_eq_true rfl) ?_
  intro pr e s m args below meth c Q ls S hpre hl hret
  obtain ⟨hP, hK⟩ := hpre
  have hx := S.1
  have hb := S.2.1
  have hown : s.vm.findClass RX0 = some m.cls := S.2.2.2.1
  have hts := S.2.2.2.2
  have hS : va_S (cvA ad) s.heap s.heap [] := va_S.rf
  have hl : lv_has ls 2 [(0, .ref (ad 0)), (1, .int a)] := hl
  have hn40 := hcv.1
  refine lv_iload_n hx hb dX0_growth_0 rfl (lv_at hl 1 rfl) ?_
  refine lv_iconst (v := nI 1) hx hb dX0_growth_1 (by decide) ?_
  refine lv_icmp_lt (tgt := 11) hx hb dX0_growth_2 (by decide) (fun c2 => ?_) (fun c2 => ?_)
  · refine lv_ldc (v := (-1000000)) hx hb hown (hts _ q75) dX0_growth_11 ?_
    exact hret _ _ _ _ _ (n, F) hP hS (⟨Or.inr ⟨fun x w => zc_no_lt1 c2 w.2.2 w.1 (by have := w.2.1; omega), rfl⟩, rfl, hcv⟩) dX0_growth_13
  · refine lv_iload_n hx hb dX0_growth_5 rfl (lv_at hl 1 rfl) ?_
    refine lv_bipush (v := nI 6) hx hb dX0_growth_6 (by decide) ?_
    refine lv_icmp_lt (tgt := 14) hx hb dX0_growth_8 (by decide) (fun c8 => ?_) (fun c8 => ?_)
    · obtain ⟨mo, hm1, hm6, ha⟩ := zc_m_of c2 c8
      rw [ha] at hl
      refine lv_aload_n hx hb dX0_growth_14 rfl (lv_at hl 0 rfl) ?_
      refine lv_iconst (v := nI 4) hx hb dX0_growth_15 (by decide) ?_
      refine lv_sipush (v := nI 32767) hx hb dX0_growth_16 (by decide) ?_
      refine zz_callV (As := [.int (nI 4), .int (nI 32767)]) (rest := []) S hK hP hS (fun _ h => h) (met0_gather l D ad dA n F hI 4 32767 (by omega) (by omega) pl am hcv.1 hcv.2.1 hcv.2.2.2.2) (cwX0_gather hts (by decide)) (cv_recv hK hP) rfl hl.1 rfl (by decide) dX0_growth_19 ⟨Nat.le_refl 0, Nat.le_refl 0⟩ (fun u_1 H locs hr19 hP _ hS => ?_)
      obtain ⟨n_3, F_2⟩ := u_1
      replace hP : va_P D vwCl (cvw ad dA n_3 F_2) H := hP
      obtain ⟨hn19, hu19⟩ := hr19
      dsimp only at hu19
      replace hn19 : n_3 = n := hn19
      rw [hn19] at hP
      refine lv_aload_n hx hb dX0_growth_22 rfl (lv_at hl 0 rfl) ?_
      refine cv_g9 hx hb hts hown hK hP dX0_growth_23 ?_
      refine lv_bipush (v := nI 20) hx hb dX0_growth_26 (by decide) ?_
      refine lv_iload_n hx hb dX0_growth_28 rfl (lv_at hl 1 rfl) ?_
      refine lv_imul hx hb dX0_growth_29 ?_
      refine cv_top (pk_mul _ _) ?_
      refine cv_l9 hx hb hK hP (20 * mo) rfl (by omega) dX0_growth_30 ?_
      refine lv_aload_n hx hb dX0_growth_31 rfl (lv_at hl 0 rfl) ?_
      refine cv_g9 hx hb hts hown hK hP dX0_growth_32 ?_
      refine lv_bipush (v := nI 20) hx hb dX0_growth_35 (by decide) ?_
      refine lv_iload_n hx hb dX0_growth_37 rfl (lv_at hl 1 rfl) ?_
      refine lv_imul hx hb dX0_growth_38 ?_
      refine cv_top (pk_mul _ _) ?_
      refine lv_bipush (v := nI 20) hx hb dX0_growth_39 (by decide) ?_
      refine lv_isub hx hb dX0_growth_41 ?_
      refine cv_top (b := nI (20 * (mo - 1))) (by rw [pk_sub (by omega)]; congr 1; omega) ?_
      refine cv_l9 hx hb hK hP (20 * (mo - 1)) rfl (by omega) dX0_growth_42 ?_
      refine lv_isub hx hb dX0_growth_43 ?_
      exact hret _ _ _ _ _ (n, F_2) hP hS (⟨Or.inl ⟨mo, ⟨hm1, hm6, ha⟩, by rw [(zc_gatC hu19 (by omega)).2, (zc_gatC hu19 (by omega)).2, zc_m_sum hm6 (fun i hi => (hcv.2.1 i hi).2.1), zc_m_sum (by omega) (fun i hi => (hcv.2.1 i hi).2.1)]⟩, rfl, zc_cv_89 hcv hu19.1⟩) dX0_growth_44
    · refine lv_ldc (v := (-1000000)) hx hb hown (hts _ q75) dX0_growth_11 ?_
      exact hret _ _ _ _ _ (n, F) hP hS (⟨Or.inr ⟨fun x w => zc_no_ge c8 w.2.2 w.2.1 (by decide), rfl⟩, rfl, hcv⟩) dX0_growth_13
set_option maxHeartbeats 4000000 in
theorem met0_add (l : Launch) (D : va_G) (ad : Nat → Nat) (dA : Nat → ClassId) (n : Nat) (F : Nat → Nat → Int32) (hI : cvI ad) (pl : Nat → Nat) (am : Nat → Int32) (hcv : zc_cv n pl am F) (a b : Int32) : Met l yX0_add (ws_ yX0_add cX0_add 3 (some .int)) (rmL 3) (va_Pc [.ref (ad 0), .int a, .int b] (Pw D (cvw ad dA n F) (cvT dA))) (Qm D (fun u : Nat × (Nat → Nat → Int32) => cvw ad dA u.1 u.2) (cvA ad) (fun r u => ∃ n' pl' am', zc_Add n pl am a b r n' pl' am' ∧ u.1 = n' ∧ zc_cv n' pl' am' u.2)) 0 0 (cvA ad) := by
  refine zz_mkM (by decide) rfl (Nat.le_of_ble_eq_true rfl) ?_
  intro pr e s m args below meth c Q ls S hpre hl hret
  obtain ⟨hP, hK⟩ := hpre
  have hx := S.1
  have hb := S.2.1
  have hown : s.vm.findClass RX0 = some m.cls := S.2.2.2.1
  have hts := S.2.2.2.2
  have hS : va_S (cvA ad) s.heap s.heap [] := va_S.rf
  have hl : lv_has ls 3 [(0, .ref (ad 0)), (1, .int a), (2, .int b)] := hl
  have hn40 := hcv.1
  refine lv_iload_n hx hb dX0_add_0 rfl (lv_at hl 1 rfl) ?_
  refine lv_if_lt (tgt := 22) hx hb dX0_add_1 (by decide) (fun c1 => ?_) (fun c1 => ?_)
  · refine lv_ldc (v := (-1000000)) hx hb hown (hts _ q75) dX0_add_22 ?_
    exact hret _ _ _ _ _ (n, F) hP hS (⟨n, pl, am, Or.inr (Or.inr ⟨fun x w => zc_no_lt c1 w.2.1 (by have := w.1; omega), rfl, rfl, rfl, rfl⟩), rfl, hcv⟩) dX0_add_24
  · refine lv_iload_n hx hb dX0_add_4 rfl (lv_at hl 1 rfl) ?_
    refine lv_bipush (v := nI 120) hx hb dX0_add_5 (by decide) ?_
    refine lv_icmp_ge (tgt := 22) hx hb dX0_add_7 (by decide) (fun c7 => ?_) (fun c7 => ?_)
    · refine lv_ldc (v := (-1000000)) hx hb hown (hts _ q75) dX0_add_22 ?_
      exact hret _ _ _ _ _ (n, F) hP hS (⟨n, pl, am, Or.inr (Or.inr ⟨fun x w => zc_no_le c7 w.2.1 w.1 (by decide), rfl, rfl, rfl, rfl⟩), rfl, hcv⟩) dX0_add_24
    · refine lv_iload_n hx hb dX0_add_10 rfl (lv_at hl 2 rfl) ?_
      refine lv_bipush (v := (-50)) hx hb dX0_add_11 (by decide) ?_
      refine lv_icmp_lt (tgt := 22) hx hb dX0_add_13 (by decide) (fun c13 => ?_) (fun c13 => ?_)
      · refine lv_ldc (v := (-1000000)) hx hb hown (hts _ q75) dX0_add_22 ?_
        exact hret _ _ _ _ _ (n, F) hP hS (⟨n, pl, am, Or.inr (Or.inr ⟨fun x w => zc_amt_n1 c13 w.2.2, rfl, rfl, rfl, rfl⟩), rfl, hcv⟩) dX0_add_24
      · refine lv_iload_n hx hb dX0_add_16 rfl (lv_at hl 2 rfl) ?_
        refine lv_bipush (v := nI 50) hx hb dX0_add_17 (by decide) ?_
        refine lv_icmp_le (tgt := 25) hx hb dX0_add_19 (by decide) (fun c19 => ?_) (fun c19 => ?_)
        · obtain ⟨p, hp, ha⟩ := zc_lt0 (b := 120) (by decide) c1 (Int32.not_le.mp c7)
          rw [ha] at hl
          have hamt := zc_amt_of c13 c19
          refine lv_aload_n hx hb dX0_add_25 rfl (lv_at hl 0 rfl) ?_
          refine cv_g0 hx hb hts hown hK hP dX0_add_26 ?_
          refine lv_bipush (v := nI 40) hx hb dX0_add_29 (by decide) ?_
          refine nv_icmp_ne (tgt := 37) (by omega) (by omega) hx hb dX0_add_31 (by decide) (fun c31 => ?_) (fun c31 => ?_)
          · refine lv_aload_n hx hb dX0_add_37 rfl (lv_at hl 0 rfl) ?_
            refine cv_g1 hx hb hts hown hK hP dX0_add_38 ?_
            refine lv_aload_n hx hb dX0_add_41 rfl (lv_at hl 0 rfl) ?_
            refine cv_g0 hx hb hts hown hK hP dX0_add_42 ?_
            refine lv_iload_n hx hb dX0_add_45 rfl (lv_at hl 1 rfl) ?_
            refine cv_s1 hx hb hK hP hI hS n rfl (by omega) dX0_add_46 (fun F_1 H locs hF_1 hP hS => ?_)
            refine lv_aload_n hx hb dX0_add_47 rfl (lv_at hl 0 rfl) ?_
            refine cv_g2 hx hb hts hown hK hP dX0_add_48 ?_
            refine lv_aload_n hx hb dX0_add_51 rfl (lv_at hl 0 rfl) ?_
            refine cv_g0 hx hb hts hown hK hP dX0_add_52 ?_
            refine lv_iload_n hx hb dX0_add_55 rfl (lv_at hl 2 rfl) ?_
            refine cv_s2 hx hb hK hP hI hS n rfl (by omega) dX0_add_56 (fun F_2 H locs hF_2 hP hS => ?_)
            refine lv_aload_n hx hb dX0_add_57 rfl (lv_at hl 0 rfl) ?_
            refine cv_g4 hx hb hts hown hK hP dX0_add_58 ?_
            refine lv_aload_n hx hb dX0_add_61 rfl (lv_at hl 0 rfl) ?_
            refine cv_g0 hx hb hts hown hK hP dX0_add_62 ?_
            refine lv_aload_n hx hb dX0_add_65 rfl (lv_at hl 0 rfl) ?_
            refine cv_g3 hx hb hts hown hK hP dX0_add_66 ?_
            refine lv_iload_n hx hb dX0_add_69 rfl (lv_at hl 1 rfl) ?_
            refine cv_l3 hx hb hK hP p rfl (by omega) dX0_add_70 ?_
            refine cv_s4 hx hb hK hP hI hS n rfl (by omega) dX0_add_71 (fun F_3 H locs hF_3 hP hS => ?_)
            refine lv_aload_n hx hb dX0_add_72 rfl (lv_at hl 0 rfl) ?_
            refine cv_g3 hx hb hts hown hK hP dX0_add_73 ?_
            refine lv_iload_n hx hb dX0_add_76 rfl (lv_at hl 1 rfl) ?_
            refine lv_aload_n hx hb dX0_add_77 rfl (lv_at hl 0 rfl) ?_
            refine cv_g0 hx hb hts hown hK hP dX0_add_78 ?_
            refine cv_s3 hx hb hK hP hI hS p rfl (by omega) dX0_add_81 (fun F_4 H locs hF_4 hP hS => ?_)
            refine lv_aload_n hx hb dX0_add_82 rfl (lv_at hl 0 rfl) ?_
            refine lv_dup hx hb dX0_add_83 rfl ?_
            refine cv_g0 hx hb hts hown hK hP dX0_add_84 ?_
            refine lv_iconst (v := nI 1) hx hb dX0_add_87 (by decide) ?_
            refine lv_iadd hx hb dX0_add_88 ?_
            refine cv_top (nI_add _ _) ?_
            refine cv_p0 hx hb hts hown hK hP hI hS (n + 1) rfl dX0_add_89 (fun H locs hP hS => ?_)
            refine lv_aload_n hx hb dX0_add_92 rfl (lv_at hl 0 rfl) ?_
            refine lv_iload_n hx hb dX0_add_93 rfl (lv_at hl 1 rfl) ?_
            refine lv_iconst (v := nI 1) hx hb dX0_add_94 (by decide) ?_
            refine lv_iload_n hx hb dX0_add_95 rfl (lv_at hl 2 rfl) ?_
            refine zz_callV (As := [.int (nI p), .int (nI 1), .int b]) (rest := []) S hK hP hS (fun _ h => h) (met0_enter l D ad dA (n + 1) F_4 hI p (nI 1) b (by omega)) (cwX0_enter hts (by decide)) (cv_recv hK hP) rfl hl.1 rfl (by decide) dX0_add_96 ⟨Nat.le_refl 0, Nat.le_refl 0⟩ (fun u_5 H locs hr96 hP _ hS => ?_)
            obtain ⟨n_7, F_6⟩ := u_5
            replace hP : va_P D vwCl (cvw ad dA n_7 F_6) H := hP
            obtain ⟨hn96, hu96⟩ := hr96
            dsimp only at hu96
            replace hn96 : n_7 = n + 1 := hn96
            rw [hn96] at hP
            refine lv_aload_n hx hb dX0_add_99 rfl (lv_at hl 0 rfl) ?_
            refine cv_g0 hx hb hts hown hK hP dX0_add_100 ?_
            refine lv_iconst (v := nI 1) hx hb dX0_add_103 (by decide) ?_
            refine lv_isub hx hb dX0_add_104 ?_
            refine cv_top (b := nI n) (nI_pred n) ?_
            exact hret _ _ _ _ _ (n + 1, F_6) hP hS (⟨n + 1, va_up pl n p, upd am n b, Or.inl ⟨p, ⟨hp, ha, hamt⟩, c31, rfl, rfl, rfl, rfl⟩, rfl, zc_cv_add hcv c31 hp hamt hF_1 hF_2 hF_3 hF_4 hu96⟩) dX0_add_105
          · refine lv_ldc (v := (-2000000)) hx hb hown (hts _ q76) dX0_add_34 ?_
            exact hret _ _ _ _ _ (n, F) hP hS (⟨n, pl, am, Or.inr (Or.inl ⟨⟨p, hp, ha, hamt⟩, c31, rfl, rfl, rfl, rfl⟩), rfl, hcv⟩) dX0_add_36
        · refine lv_ldc (v := (-1000000)) hx hb hown (hts _ q75) dX0_add_22 ?_
          exact hret _ _ _ _ _ (n, F) hP hS (⟨n, pl, am, Or.inr (Or.inr ⟨fun x w => zc_amt_n2 c19 w.2.2, rfl, rfl, rfl, rfl⟩), rfl, hcv⟩) dX0_add_24
set_option maxHeartbeats 4000000 in
theorem met0_remove (l : Launch) (D : va_G) (ad : Nat → Nat) (dA : Nat → ClassId) (n : Nat) (F : Nat → Nat → Int32) (hI : cvI ad) (pl : Nat → Nat) (am : Nat → Int32) (hcv : zc_cv n pl am F)  : Met l yX0_remove (ws_ yX0_remove cX0_remove 2 (some .int)) (rmL 3) (va_Pc [.ref (ad 0)] (Pw D (cvw ad dA n F) (cvT dA))) (Qm D (fun u : Nat × (Nat → Nat → Int32) => cvw ad dA u.1 u.2) (cvA ad) (fun r u => ∃ n', zc_Rem n am r n' ∧ u.1 = n' ∧ zc_cv n' pl am u.2)) 0 0 (cvA ad) := by
  refine zz_mkM (by decide) rfl (Nat.le_of_ble_eq_true rfl) ?_
  intro pr e s m args below meth c Q ls S hpre hl hret
  obtain ⟨hP, hK⟩ := hpre
  have hx := S.1
  have hb := S.2.1
  have hown : s.vm.findClass RX0 = some m.cls := S.2.2.2.1
  have hts := S.2.2.2.2
  have hS : va_S (cvA ad) s.heap s.heap [] := va_S.rf
  have hl : lv_has ls 2 [(0, .ref (ad 0))] := hl
  have hn40 := hcv.1
  refine lv_aload_n hx hb dX0_remove_0 rfl (lv_at hl 0 rfl) ?_
  refine cv_g0 hx hb hts hown hK hP dX0_remove_1 ?_
  refine nv_if_ne (tgt := 10) (by omega) hx hb dX0_remove_4 (by decide) (fun c4 => ?_) (fun c4 => ?_)
  · obtain ⟨k, hk⟩ : ∃ k, n = k + 1 := ⟨n - 1, by omega⟩
    have hcw : zc_cv (k + 1) pl am F := by rw [← hk]; exact hcv
    obtain ⟨w1, w2, w3⟩ := hcw.2.1 k (by omega)
    refine lv_aload_n hx hb dX0_remove_10 rfl (lv_at hl 0 rfl) ?_
    refine lv_dup hx hb dX0_remove_11 rfl ?_
    refine cv_g0 hx hb hts hown hK hP dX0_remove_12 ?_
    refine lv_iconst (v := nI 1) hx hb dX0_remove_15 (by decide) ?_
    refine lv_isub hx hb dX0_remove_16 ?_
    refine cv_top (b := nI k) (by rw [hk]; exact nI_pred k) ?_
    refine cv_p0 hx hb hts hown hK hP hI hS k rfl dX0_remove_17 (fun H locs hP hS => ?_)
    refine lv_aload_n hx hb dX0_remove_20 rfl (lv_at hl 0 rfl) ?_
    refine cv_g1 hx hb hts hown hK hP dX0_remove_21 ?_
    refine lv_aload_n hx hb dX0_remove_24 rfl (lv_at hl 0 rfl) ?_
    refine cv_g0 hx hb hts hown hK hP dX0_remove_25 ?_
    refine cv_l1 hx hb hK hP k rfl (by omega) dX0_remove_28 ?_
    refine cv_top (b := nI (pl k)) (w1) ?_
    refine lv_istore_n (lv' := [(1, .int (nI (pl k))), (0, .ref (ad 0))]) hx hb dX0_remove_29 rfl hl (by decide) rfl (fun ls hl => ?_)
    refine lv_aload_n hx hb dX0_remove_30 rfl (lv_at hl 1 rfl) ?_
    refine cv_g3 hx hb hts hown hK hP dX0_remove_31 ?_
    refine lv_iload_n hx hb dX0_remove_34 rfl (lv_at hl 0 rfl) ?_
    refine lv_aload_n hx hb dX0_remove_35 rfl (lv_at hl 1 rfl) ?_
    refine cv_g4 hx hb hts hown hK hP dX0_remove_36 ?_
    refine lv_aload_n hx hb dX0_remove_39 rfl (lv_at hl 1 rfl) ?_
    refine cv_g0 hx hb hts hown hK hP dX0_remove_40 ?_
    refine cv_l4 hx hb hK hP k rfl (by omega) dX0_remove_43 ?_
    refine cv_top (b := (zc_last pl k (pl k))) (hcw.2.2.2.1.2 k (by omega)) ?_
    refine cv_s3 hx hb hK hP hI hS (pl k) rfl (by omega) dX0_remove_44 (fun F_1 H locs hF_1 hP hS => ?_)
    refine lv_aload_n hx hb dX0_remove_45 rfl (lv_at hl 1 rfl) ?_
    refine lv_iload_n hx hb dX0_remove_46 rfl (lv_at hl 0 rfl) ?_
    refine lv_iconst (v := (-1)) hx hb dX0_remove_47 (by decide) ?_
    refine lv_aload_n hx hb dX0_remove_48 rfl (lv_at hl 1 rfl) ?_
    refine cv_g2 hx hb hts hown hK hP dX0_remove_49 ?_
    refine lv_aload_n hx hb dX0_remove_52 rfl (lv_at hl 1 rfl) ?_
    refine cv_g0 hx hb hts hown hK hP dX0_remove_53 ?_
    refine cv_l2 hx hb hK hP k rfl (by omega) dX0_remove_56 ?_
    refine cv_top (b := am k) (by rw [hF_1, sw_n (by decide)]; exact w3) ?_
    refine lv_ineg hx hb dX0_remove_57 ?_
    refine zz_callV (As := [.int (nI (pl k)), .int (-1), .int (-(am k))]) (rest := []) S hK hP hS (fun _ h => h) (met0_enter l D ad dA k F_1 hI (pl k) (-1) (-(am k)) (by omega)) (cwX0_enter hts (by decide)) (cv_recv hK hP) rfl hl.1 rfl (by decide) dX0_remove_58 ⟨Nat.le_refl 0, Nat.le_refl 0⟩ (fun u_2 H locs hr58 hP _ hS => ?_)
    obtain ⟨n_4, F_3⟩ := u_2
    replace hP : va_P D vwCl (cvw ad dA n_4 F_3) H := hP
    obtain ⟨hn58, hu58⟩ := hr58
    dsimp only at hu58
    replace hn58 : n_4 = k := hn58
    rw [hn58] at hP
    refine lv_aload_n hx hb dX0_remove_61 rfl (lv_at hl 1 rfl) ?_
    refine cv_g2 hx hb hts hown hK hP dX0_remove_62 ?_
    refine lv_aload_n hx hb dX0_remove_65 rfl (lv_at hl 1 rfl) ?_
    refine cv_g0 hx hb hts hown hK hP dX0_remove_66 ?_
    refine cv_l2 hx hb hK hP k rfl (by omega) dX0_remove_69 ?_
    refine cv_top (b := am k) (by rw [hu58.1 2 (by decide) (by decide), hF_1, sw_n (by decide)]; exact w3) ?_
    exact hret _ _ _ _ _ (k, F_3) hP hS (⟨k, Or.inr ⟨c4, by rw [hk]; rfl, by omega⟩, rfl, zc_cv_rem hcw hF_1 hu58⟩) dX0_remove_70
  · refine lv_ldc (v := (-4000000)) hx hb hown (hts _ q101) dX0_remove_7 ?_
    exact hret _ _ _ _ _ (n, F) hP hS (⟨n, Or.inl ⟨c4, rfl, rfl⟩, rfl, hcv⟩) dX0_remove_9
set_option maxHeartbeats 4000000 in
theorem met0_change (l : Launch) (D : va_G) (ad : Nat → Nat) (dA : Nat → ClassId) (n : Nat) (F : Nat → Nat → Int32) (hI : cvI ad) (pl : Nat → Nat) (am : Nat → Int32) (hcv : zc_cv n pl am F) (a b : Int32) : Met l yX0_change (ws_ yX0_change cX0_change 4 (some .int)) (rmL 3) (va_Pc [.ref (ad 0), .int a, .int b] (Pw D (cvw ad dA n F) (cvT dA))) (Qm D (fun u : Nat × (Nat → Nat → Int32) => cvw ad dA u.1 u.2) (cvA ad) (fun r u => ∃ am', zc_Chg n am a b r am' ∧ u.1 = n ∧ zc_cv n pl am' u.2)) 0 0 (cvA ad) := by
  refine zz_mkM (by decide) rfl (Nat.le_of_ble_eq_true rfl) ?_
  intro pr e s m args below meth c Q ls S hpre hl hret
  obtain ⟨hP, hK⟩ := hpre
  have hx := S.1
  have hb := S.2.1
  have hown : s.vm.findClass RX0 = some m.cls := S.2.2.2.1
  have hts := S.2.2.2.2
  have hS : va_S (cvA ad) s.heap s.heap [] := va_S.rf
  have hl : lv_has ls 4 [(0, .ref (ad 0)), (1, .int a), (2, .int b)] := hl
  have hn40 := hcv.1
  refine lv_iload_n hx hb dX0_change_0 rfl (lv_at hl 1 rfl) ?_
  refine lv_if_lt (tgt := 24) hx hb dX0_change_1 (by decide) (fun c1 => ?_) (fun c1 => ?_)
  · refine lv_ldc (v := (-1000000)) hx hb hown (hts _ q75) dX0_change_24 ?_
    exact hret _ _ _ _ _ (n, F) hP hS (⟨am, Or.inr ⟨fun x w => zc_no_lt c1 w.2.1 (by have := w.1; omega), rfl, rfl⟩, rfl, hcv⟩) dX0_change_26
  · refine lv_iload_n hx hb dX0_change_4 rfl (lv_at hl 1 rfl) ?_
    refine lv_aload_n hx hb dX0_change_5 rfl (lv_at hl 0 rfl) ?_
    refine cv_g0 hx hb hts hown hK hP dX0_change_6 ?_
    refine lv_icmp_ge (tgt := 24) hx hb dX0_change_9 (by decide) (fun c9 => ?_) (fun c9 => ?_)
    · refine lv_ldc (v := (-1000000)) hx hb hown (hts _ q75) dX0_change_24 ?_
      exact hret _ _ _ _ _ (n, F) hP hS (⟨am, Or.inr ⟨fun x w => zc_no_le c9 w.2.1 w.1 (by omega), rfl, rfl⟩, rfl, hcv⟩) dX0_change_26
    · refine lv_iload_n hx hb dX0_change_12 rfl (lv_at hl 2 rfl) ?_
      refine lv_bipush (v := (-50)) hx hb dX0_change_13 (by decide) ?_
      refine lv_icmp_lt (tgt := 24) hx hb dX0_change_15 (by decide) (fun c15 => ?_) (fun c15 => ?_)
      · refine lv_ldc (v := (-1000000)) hx hb hown (hts _ q75) dX0_change_24 ?_
        exact hret _ _ _ _ _ (n, F) hP hS (⟨am, Or.inr ⟨fun x w => zc_amt_n1 c15 w.2.2, rfl, rfl⟩, rfl, hcv⟩) dX0_change_26
      · refine lv_iload_n hx hb dX0_change_18 rfl (lv_at hl 2 rfl) ?_
        refine lv_bipush (v := nI 50) hx hb dX0_change_19 (by decide) ?_
        refine lv_icmp_le (tgt := 27) hx hb dX0_change_21 (by decide) (fun c21 => ?_) (fun c21 => ?_)
        · obtain ⟨j, hj, ha⟩ := zc_lt0 (b := n) (by omega) c1 (Int32.not_le.mp c9)
          rw [ha] at hl
          have hamt := zc_amt_of c15 c21
          obtain ⟨w1, w2, w3⟩ := hcv.2.1 j hj
          refine lv_aload_n hx hb dX0_change_27 rfl (lv_at hl 0 rfl) ?_
          refine cv_g2 hx hb hts hown hK hP dX0_change_28 ?_
          refine lv_iload_n hx hb dX0_change_31 rfl (lv_at hl 1 rfl) ?_
          refine cv_l2 hx hb hK hP j rfl (by omega) dX0_change_32 ?_
          refine cv_top (b := (am j)) (w3) ?_
          refine lv_istore_n (lv' := [(3, .int (am j)), (0, .ref (ad 0)), (1, .int (nI j)), (2, .int b)]) hx hb dX0_change_33 rfl hl (by decide) rfl (fun ls hl => ?_)
          refine lv_aload_n hx hb dX0_change_34 rfl (lv_at hl 1 rfl) ?_
          refine cv_g2 hx hb hts hown hK hP dX0_change_35 ?_
          refine lv_iload_n hx hb dX0_change_38 rfl (lv_at hl 2 rfl) ?_
          refine lv_iload_n hx hb dX0_change_39 rfl (lv_at hl 3 rfl) ?_
          refine cv_s2 hx hb hK hP hI hS j rfl (by omega) dX0_change_40 (fun F_1 H locs hF_1 hP hS => ?_)
          refine lv_aload_n hx hb dX0_change_41 rfl (lv_at hl 1 rfl) ?_
          refine lv_aload_n hx hb dX0_change_42 rfl (lv_at hl 1 rfl) ?_
          refine cv_g1 hx hb hts hown hK hP dX0_change_43 ?_
          refine lv_iload_n hx hb dX0_change_46 rfl (lv_at hl 2 rfl) ?_
          refine cv_l1 hx hb hK hP j rfl (by omega) dX0_change_47 ?_
          refine cv_top (b := nI (pl j)) (by rw [hF_1, sw_n (by decide)]; exact w1) ?_
          refine lv_iconst (v := nI 0) hx hb dX0_change_48 (by decide) ?_
          refine lv_iload_n hx hb dX0_change_49 rfl (lv_at hl 3 rfl) ?_
          refine lv_iload_n hx hb dX0_change_50 rfl (lv_at hl 0 rfl) ?_
          refine lv_isub hx hb dX0_change_51 ?_
          refine zz_callV (As := [.int (nI (pl j)), .int (nI 0), .int (b - (am j))]) (rest := []) S hK hP hS (fun _ h => h) (met0_enter l D ad dA n F_1 hI (pl j) (nI 0) (b - (am j)) (by omega)) (cwX0_enter hts (by decide)) (cv_recv hK hP) rfl hl.1 rfl (by decide) dX0_change_52 ⟨Nat.le_refl 0, Nat.le_refl 0⟩ (fun u_2 H locs hr52 hP _ hS => ?_)
          obtain ⟨n_4, F_3⟩ := u_2
          replace hP : va_P D vwCl (cvw ad dA n_4 F_3) H := hP
          obtain ⟨hn52, hu52⟩ := hr52
          dsimp only at hu52
          replace hn52 : n_4 = n := hn52
          rw [hn52] at hP
          refine lv_iload_n hx hb dX0_change_55 rfl (lv_at hl 0 rfl) ?_
          exact hret _ _ _ _ _ (n, F_3) hP hS (⟨upd am j b, Or.inl ⟨j, ⟨hj, ha, hamt⟩, rfl, rfl⟩, rfl, zc_cv_chg hcv hj hamt hF_1 hu52⟩) dX0_change_56
        · refine lv_ldc (v := (-1000000)) hx hb hown (hts _ q75) dX0_change_24 ?_
          exact hret _ _ _ _ _ (n, F) hP hS (⟨am, Or.inr ⟨fun x w => zc_amt_n2 c21 w.2.2, rfl, rfl⟩, rfl, hcv⟩) dX0_change_26
set_option maxHeartbeats 4000000 in
theorem met0_plan (l : Launch) (D : va_G) (ad : Nat → Nat) (dA : Nat → ClassId) (n : Nat) (F : Nat → Nat → Int32) (hI : cvI ad) (pl : Nat → Nat) (am : Nat → Int32) (hcv : zc_cv n pl am F) (a : Int32) : Met l yX0_plan (ws_ yX0_plan cX0_plan 10 (some .int)) (rmL 3) (va_Pc [.ref (ad 0), .int a] (Pw D (cvw ad dA n F) (cvT dA))) (Qm D (fun u : Nat × (Nat → Nat → Int32) => cvw ad dA u.1 u.2) (cvA ad) (fun r u => zc_RX (zc_okP a) (fun _ r => r = nI 0) r ∧ u.1 = n ∧ zc_cv n pl am u.2)) 0 0 (cvA ad) := by
  refine zz_mkM (by decide) rfl (Nat.le_of_ble_eq_true rfl) ?_
  intro pr e s m args below meth c Q ls S hpre hl hret
  obtain ⟨hP, hK⟩ := hpre
  have hx := S.1
  have hb := S.2.1
  have hown : s.vm.findClass RX0 = some m.cls := S.2.2.2.1
  have hts := S.2.2.2.2
  have hS : va_S (cvA ad) s.heap s.heap [] := va_S.rf
  have hl : lv_has ls 10 [(0, .ref (ad 0)), (1, .int a)] := hl
  have hn40 := hcv.1
  refine lv_iload_n hx hb dX0_plan_0 rfl (lv_at hl 1 rfl) ?_
  refine lv_if_lt (tgt := 11) hx hb dX0_plan_1 (by decide) (fun c1 => ?_) (fun c1 => ?_)
  · refine lv_ldc (v := (-1000000)) hx hb hown (hts _ q75) dX0_plan_11 ?_
    exact hret _ _ _ _ _ (n, F) hP hS (⟨Or.inr ⟨fun x w => zc_no_lt c1 w.2 (by have := w.1; omega), rfl⟩, rfl, hcv⟩) dX0_plan_13
  · refine lv_iload_n hx hb dX0_plan_4 rfl (lv_at hl 1 rfl) ?_
    refine lv_sipush (v := nI 200) hx hb dX0_plan_5 (by decide) ?_
    refine lv_icmp_le (tgt := 14) hx hb dX0_plan_8 (by decide) (fun c8 => ?_) (fun c8 => ?_)
    · obtain ⟨mm, hm, ha⟩ := zc_ge0 (b := 200) (by decide) c1 c8
      have L42 : ∀ (dd rd : Nat) (F1 : Nat → Nat → Int32) (lf mv : Int32) (H : Heap) (locs : List Loc) (ls : Array Slot), rd ≤ 8 → 8 + 1 ≤ rd + dd → zc_cv n pl am F1 → va_P D vwCl (cvw ad dA n F1) H → va_S (cvA ad) s.heap H locs → lv_has ls 10 [(0, .ref (ad 0)), (1, .int a), (2, .int lf), (3, .int mv), (4, .int (nI rd))] → W pr l e (rmL 3) s m args below meth c H locs 0 0 Q (F0 m 42 ls []) := by
        intro dd
        induction dd with
        | zero =>
          intro rd F1 lf mv H locs ls hle hdd
          exact absurd hdd (by omega)
        | succ dd ih =>
          intro rd F1 lf mv H locs ls hle hdd hc1 hP hS hl
          have ih42 := ih
          refine lv_iload hx hb dX0_plan_42 (lv_at hl 4 rfl) ?_
          refine lv_bipush (v := nI 8) hx hb dX0_plan_44 (by decide) ?_
          refine nv_icmp_ge (tgt := 172) (by omega) (by omega) hx hb dX0_plan_46 (by decide) (fun c46 => ?_) (fun c46 => ?_)
          · refine lv_iconst (v := nI 0) hx hb dX0_plan_172 (by decide) ?_
            exact hret _ _ _ _ _ (n, F1) hP hS (⟨Or.inl ⟨mm, ⟨hm, ha⟩, rfl⟩, rfl, hc1⟩) dX0_plan_173
          · refine lv_iload_n hx hb dX0_plan_49 rfl (lv_at hl 3 rfl) ?_
            refine lv_if_eq (tgt := 172) hx hb dX0_plan_50 (by decide) (fun c50 => ?_) (fun c50 => ?_)
            · refine lv_iconst (v := nI 0) hx hb dX0_plan_172 (by decide) ?_
              exact hret _ _ _ _ _ (n, F1) hP hS (⟨Or.inl ⟨mm, ⟨hm, ha⟩, rfl⟩, rfl, hc1⟩) dX0_plan_173
            · refine lv_aload_n hx hb dX0_plan_53 rfl (lv_at hl 0 rfl) ?_
              refine lv_iconst (v := (-1)) hx hb dX0_plan_54 (by decide) ?_
              refine zz_callR (As := [.int (-1)]) (rest := []) S hK hP hS (met0_workWith l D ad dA n F1 (-1)) (cwX0_workWith hts (by decide)) (cv_recv hK hP) rfl hl.1 rfl (by decide) dX0_plan_55 ⟨Nat.le_refl 0, Nat.le_refl 0⟩ (fun r55 H locs hr55 hP hS => ?_)
              refine lv_istore (lv' := [(5, .int r55), (0, .ref (ad 0)), (1, .int a), (2, .int lf), (3, .int mv), (4, .int (nI rd))]) hx hb dX0_plan_58 hl (by decide) rfl (fun ls hl => ?_)
              have L69 : ∀ (dd g : Nat) (bv sv : Int32) (H : Heap) (locs : List Loc) (ls : Array Slot), g ≤ 8 → 8 + 1 ≤ g + dd → (bv = (-1) ∨ ∃ b, b < 8 ∧ bv = nI b) → va_P D vwCl (cvw ad dA n F1) H → va_S (cvA ad) s.heap H locs → lv_has ls 10 [(0, .ref (ad 0)), (1, .int a), (2, .int lf), (3, .int mv), (4, .int (nI rd)), (5, .int r55), (6, .int bv), (7, .int sv), (8, .int (nI g))] → W pr l e (rmL 3) s m args below meth c H locs 0 0 Q (F0 m 69 ls []) := by
                intro dd
                induction dd with
                | zero =>
                  intro g bv sv H locs ls hle hdd
                  exact absurd hdd (by omega)
                | succ dd ih =>
                  intro g bv sv H locs ls hle hdd hbv hP hS hl
                  refine lv_iload hx hb dX0_plan_69 (lv_at hl 8 rfl) ?_
                  refine lv_bipush (v := nI 8) hx hb dX0_plan_71 (by decide) ?_
                  refine nv_icmp_ge (tgt := 128) (by omega) (by omega) hx hb dX0_plan_73 (by decide) (fun c73 => ?_) (fun c73 => ?_)
                  · refine lv_iload hx hb dX0_plan_128 (lv_at hl 6 rfl) ?_
                    refine lv_if_lt (tgt := 137) hx hb dX0_plan_130 (by decide) (fun c130 => ?_) (fun c130 => ?_)
                    · refine lv_iconst (v := nI 0) hx hb dX0_plan_137 (by decide) ?_
                      refine lv_istore_n (lv' := [(3, .int (nI 0)), (0, .ref (ad 0)), (1, .int a), (2, .int lf), (4, .int (nI rd)), (5, .int r55), (6, .int bv), (7, .int sv), (8, .int (nI g))]) hx hb dX0_plan_138 rfl hl (by decide) rfl (fun ls hl => ?_)
                      refine lv_iload_n hx hb dX0_plan_139 rfl (lv_at hl 0 rfl) ?_
                      refine nv_if_eq (tgt := 166) (by omega) hx hb dX0_plan_140 (by decide) (fun c140 => ?_) (fun c140 => ?_)
                      · refine lv_iinc (v := nI (rd + 1)) (lv' := [(4, .int (nI (rd + 1))), (3, .int (nI 0)), (0, .ref (ad 0)), (1, .int a), (2, .int lf), (5, .int r55), (6, .int bv), (7, .int sv), (8, .int (nI g))]) hx hb dX0_plan_166 hl (k := 4) rfl (nI_inc) (by decide) rfl (fun ls hl => ?_)
                        refine lv_goto (tgt := 42) hx hb dX0_plan_169 (by decide) ?_
                        exact ih42 (rd + 1) F1 lf (nI 0) _ _ _ (by omega) (by omega) hc1 hP hS (lv_sub hl [2, 3, 4, 1, 0] rfl)
                      · exact absurd rfl c140
                    · rcases hbv with e | ⟨b, hb8, e⟩
                      · exact absurd (by rw [e]; decide) c130
                      · rw [e] at hl
                        refine lv_iconst (v := nI 1) hx hb dX0_plan_133 (by decide) ?_
                        refine lv_goto (tgt := 138) hx hb dX0_plan_134 (by decide) ?_
                        refine lv_istore_n (lv' := [(3, .int (nI 1)), (0, .ref (ad 0)), (1, .int a), (2, .int lf), (4, .int (nI rd)), (5, .int r55), (6, .int (nI b)), (7, .int sv), (8, .int (nI g))]) hx hb dX0_plan_138 rfl hl (by decide) rfl (fun ls hl => ?_)
                        refine lv_iload_n hx hb dX0_plan_139 rfl (lv_at hl 0 rfl) ?_
                        refine nv_if_eq (tgt := 166) (by omega) hx hb dX0_plan_140 (by decide) (fun c140 => ?_) (fun c140 => ?_)
                        · exact absurd c140 (by decide)
                        · refine lv_aload_n hx hb dX0_plan_143 rfl (lv_at hl 1 rfl) ?_
                          refine cv_g5 hx hb hts hown hK hP dX0_plan_144 ?_
                          refine lv_iload hx hb dX0_plan_147 (lv_at hl 6 rfl) ?_
                          refine lv_iconst (v := nI 1) hx hb dX0_plan_149 (by decide) ?_
                          refine cv_s5 hx hb hK hP hI hS b rfl (by omega) dX0_plan_150 (fun F_1 H locs hF_1 hP hS => ?_)
                          refine lv_iload_n hx hb dX0_plan_151 rfl (lv_at hl 3 rfl) ?_
                          refine lv_aload_n hx hb dX0_plan_152 rfl (lv_at hl 1 rfl) ?_
                          refine lv_iload hx hb dX0_plan_153 (lv_at hl 6 rfl) ?_
                          refine zz_callR (As := [.int (nI b)]) (rest := [.int lf]) S hK hP hS (met0_cells l D ad dA n F_1 (nI b)) (cwX0_cells hts (by decide)) (cv_recv hK hP) rfl hl.1 rfl (Nat.le_of_ble_eq_true rfl) dX0_plan_155 ⟨Nat.le_refl 0, Nat.le_refl 0⟩ (fun r155 H locs hr155 hP hS => ?_)
                          refine lv_isub hx hb dX0_plan_158 ?_
                          refine lv_topi (fun x_2 ex_2 => ?_)
                          refine lv_istore_n (lv' := [(2, .int x_2), (3, .int (nI 1)), (0, .ref (ad 0)), (1, .int a), (4, .int (nI rd)), (5, .int r55), (6, .int (nI b)), (7, .int sv), (8, .int (nI g))]) hx hb dX0_plan_159 rfl hl (by decide) rfl (fun ls hl => ?_)
                          refine lv_aload_n hx hb dX0_plan_160 rfl (lv_at hl 2 rfl) ?_
                          refine lv_iload hx hb dX0_plan_161 (lv_at hl 6 rfl) ?_
                          refine zz_callV (As := [.int (nI b)]) (rest := []) S hK hP hS (fun _ h => h) (met0_fill l D ad dA n F_1 hI b hb8 pl am hn40 (zc_fok_5 hc1.2.1 hF_1)) (cwX0_fill hts (by decide)) (cv_recv hK hP) rfl hl.1 rfl (by decide) dX0_plan_163 ⟨Nat.le_refl 0, Nat.le_refl 0⟩ (fun u_3 H locs hr163 hP _ hS => ?_)
                          obtain ⟨n_5, F_4⟩ := u_3
                          replace hP : va_P D vwCl (cvw ad dA n_5 F_4) H := hP
                          obtain ⟨hn163, hu163⟩ := hr163
                          dsimp only at hu163
                          replace hn163 : n_5 = n := hn163
                          rw [hn163] at hP
                          refine lv_iinc (v := nI (rd + 1)) (lv' := [(4, .int (nI (rd + 1))), (2, .int x_2), (3, .int (nI 1)), (0, .ref (ad 0)), (1, .int a), (5, .int r55), (6, .int (nI b)), (7, .int sv), (8, .int (nI g))]) hx hb dX0_plan_166 hl (k := 4) rfl (nI_inc) (by decide) rfl (fun ls hl => ?_)
                          refine lv_goto (tgt := 42) hx hb dX0_plan_169 (by decide) ?_
                          exact ih42 (rd + 1) F_4 x_2 (nI 1) _ _ _ (by omega) (by omega) (zc_cv_keep hc1 hF_1 hu163) hP hS (lv_sub hl [3, 4, 1, 2, 0] rfl)
                  · refine lv_iload hx hb dX0_plan_76 (lv_at hl 5 rfl) ?_
                    refine lv_aload_n hx hb dX0_plan_78 rfl (lv_at hl 0 rfl) ?_
                    refine lv_iload hx hb dX0_plan_79 (lv_at hl 8 rfl) ?_
                    refine zz_callR (As := [.int (nI g)]) (rest := [.int r55]) S hK hP hS (met0_workWith l D ad dA n F1 (nI g)) (cwX0_workWith hts (by decide)) (cv_recv hK hP) rfl hl.1 rfl (Nat.le_of_ble_eq_true rfl) dX0_plan_81 ⟨Nat.le_refl 0, Nat.le_refl 0⟩ (fun r81 H locs hr81 hP hS => ?_)
                    refine lv_isub hx hb dX0_plan_84 ?_
                    refine lv_topi (fun x_6 ex_6 => ?_)
                    refine lv_istore (lv' := [(9, .int x_6), (0, .ref (ad 0)), (1, .int a), (2, .int lf), (3, .int mv), (4, .int (nI rd)), (5, .int r55), (6, .int bv), (7, .int sv), (8, .int (nI g))]) hx hb dX0_plan_85 hl (by decide) rfl (fun ls hl => ?_)
                    refine lv_aload_n hx hb dX0_plan_87 rfl (lv_at hl 1 rfl) ?_
                    refine cv_g5 hx hb hts hown hK hP dX0_plan_88 ?_
                    refine lv_iload hx hb dX0_plan_91 (lv_at hl 9 rfl) ?_
                    refine cv_l5 hx hb hK hP g rfl (by omega) dX0_plan_93 ?_
                    refine lv_if_ne (tgt := 122) hx hb dX0_plan_94 (by decide) (fun c94 => ?_) (fun c94 => ?_)
                    · refine lv_iinc (v := nI (g + 1)) (lv' := [(8, .int (nI (g + 1))), (9, .int x_6), (0, .ref (ad 0)), (1, .int a), (2, .int lf), (3, .int mv), (4, .int (nI rd)), (5, .int r55), (6, .int bv), (7, .int sv)]) hx hb dX0_plan_122 hl (k := 9) rfl (nI_inc) (by decide) rfl (fun ls hl => ?_)
                      refine lv_goto (tgt := 69) hx hb dX0_plan_125 (by decide) ?_
                      exact ih (g + 1) bv sv _ _ _ (by omega) (by omega) hbv hP hS (lv_sub hl [2, 3, 4, 5, 6, 7, 8, 9, 0] rfl)
                    · refine lv_aload_n hx hb dX0_plan_97 rfl (lv_at hl 1 rfl) ?_
                      refine lv_iload hx hb dX0_plan_98 (lv_at hl 9 rfl) ?_
                      refine zz_callR (As := [.int (nI g)]) (rest := []) S hK hP hS (met0_cells l D ad dA n F1 (nI g)) (cwX0_cells hts (by decide)) (cv_recv hK hP) rfl hl.1 rfl (by decide) dX0_plan_100 ⟨Nat.le_refl 0, Nat.le_refl 0⟩ (fun r100 H locs hr100 hP hS => ?_)
                      refine lv_iload_n hx hb dX0_plan_103 rfl (lv_at hl 3 rfl) ?_
                      refine lv_icmp_gt (tgt := 122) hx hb dX0_plan_104 (by decide) (fun c104 => ?_) (fun c104 => ?_)
                      · refine lv_iinc (v := nI (g + 1)) (lv' := [(8, .int (nI (g + 1))), (9, .int x_6), (0, .ref (ad 0)), (1, .int a), (2, .int lf), (3, .int mv), (4, .int (nI rd)), (5, .int r55), (6, .int bv), (7, .int sv)]) hx hb dX0_plan_122 hl (k := 9) rfl (nI_inc) (by decide) rfl (fun ls hl => ?_)
                        refine lv_goto (tgt := 69) hx hb dX0_plan_125 (by decide) ?_
                        exact ih (g + 1) bv sv _ _ _ (by omega) (by omega) hbv hP hS (lv_sub hl [2, 3, 4, 5, 6, 7, 8, 9, 0] rfl)
                      · refine lv_iload hx hb dX0_plan_107 (lv_at hl 0 rfl) ?_
                        refine lv_iload hx hb dX0_plan_109 (lv_at hl 8 rfl) ?_
                        refine lv_icmp_le (tgt := 122) hx hb dX0_plan_111 (by decide) (fun c111 => ?_) (fun c111 => ?_)
                        · refine lv_iinc (v := nI (g + 1)) (lv' := [(8, .int (nI (g + 1))), (9, .int x_6), (0, .ref (ad 0)), (1, .int a), (2, .int lf), (3, .int mv), (4, .int (nI rd)), (5, .int r55), (6, .int bv), (7, .int sv)]) hx hb dX0_plan_122 hl (k := 9) rfl (nI_inc) (by decide) rfl (fun ls hl => ?_)
                          refine lv_goto (tgt := 69) hx hb dX0_plan_125 (by decide) ?_
                          exact ih (g + 1) bv sv _ _ _ (by omega) (by omega) hbv hP hS (lv_sub hl [2, 3, 4, 5, 6, 7, 8, 9, 0] rfl)
                        · refine lv_iload hx hb dX0_plan_114 (lv_at hl 9 rfl) ?_
                          refine lv_istore (lv' := [(6, .int (nI g)), (9, .int x_6), (0, .ref (ad 0)), (1, .int a), (2, .int lf), (3, .int mv), (4, .int (nI rd)), (5, .int r55), (7, .int sv), (8, .int (nI g))]) hx hb dX0_plan_116 hl (by decide) rfl (fun ls hl => ?_)
                          refine lv_iload hx hb dX0_plan_118 (lv_at hl 1 rfl) ?_
                          refine lv_istore (lv' := [(7, .int x_6), (6, .int (nI g)), (9, .int x_6), (0, .ref (ad 0)), (1, .int a), (2, .int lf), (3, .int mv), (4, .int (nI rd)), (5, .int r55), (8, .int (nI g))]) hx hb dX0_plan_120 hl (by decide) rfl (fun ls hl => ?_)
                          refine lv_iinc (v := nI (g + 1)) (lv' := [(8, .int (nI (g + 1))), (7, .int x_6), (6, .int (nI g)), (9, .int x_6), (0, .ref (ad 0)), (1, .int a), (2, .int lf), (3, .int mv), (4, .int (nI rd)), (5, .int r55)]) hx hb dX0_plan_122 hl (k := 9) rfl (nI_inc) (by decide) rfl (fun ls hl => ?_)
                          refine lv_goto (tgt := 69) hx hb dX0_plan_125 (by decide) ?_
                          exact ih (g + 1) (nI g) x_6 _ _ _ (by omega) (by omega) (Or.inr ⟨g, by omega, rfl⟩) hP hS (lv_sub hl [4, 5, 6, 7, 8, 9, 2, 1, 0] rfl)
              refine lv_iconst (v := (-1)) hx hb dX0_plan_60 (by decide) ?_
              refine lv_istore (lv' := [(6, .int (-1)), (5, .int r55), (0, .ref (ad 0)), (1, .int a), (2, .int lf), (3, .int mv), (4, .int (nI rd))]) hx hb dX0_plan_61 hl (by decide) rfl (fun ls hl => ?_)
              refine lv_iconst (v := nI 0) hx hb dX0_plan_63 (by decide) ?_
              refine lv_istore (lv' := [(7, .int (nI 0)), (6, .int (-1)), (5, .int r55), (0, .ref (ad 0)), (1, .int a), (2, .int lf), (3, .int mv), (4, .int (nI rd))]) hx hb dX0_plan_64 hl (by decide) rfl (fun ls hl => ?_)
              refine lv_iconst (v := nI 0) hx hb dX0_plan_66 (by decide) ?_
              refine lv_istore (lv' := [(8, .int (nI 0)), (7, .int (nI 0)), (6, .int (-1)), (5, .int r55), (0, .ref (ad 0)), (1, .int a), (2, .int lf), (3, .int mv), (4, .int (nI rd))]) hx hb dX0_plan_67 hl (by decide) rfl (fun ls hl => ?_)
              exact L69 9 0 (-1) (nI 0) _ _ _ (by omega) (by omega) (Or.inl rfl) hP hS (lv_sub hl [4, 5, 6, 7, 8, 3, 2, 1, 0] rfl)
      have L16 : ∀ (dd g : Nat) (F1 : Nat → Nat → Int32) (H : Heap) (locs : List Loc) (ls : Array Slot), g ≤ 8 → 8 + 1 ≤ g + dd → zc_cv n pl am F1 → va_P D vwCl (cvw ad dA n F1) H → va_S (cvA ad) s.heap H locs → lv_has ls 10 [(0, .ref (ad 0)), (1, .int a), (2, .int (nI g))] → W pr l e (rmL 3) s m args below meth c H locs 0 0 Q (F0 m 16 ls []) := by
        intro dd
        induction dd with
        | zero =>
          intro g F1 H locs ls hle hdd
          exact absurd hdd (by omega)
        | succ dd ih =>
          intro g F1 H locs ls hle hdd hc1 hP hS hl
          refine lv_iload_n hx hb dX0_plan_16 rfl (lv_at hl 2 rfl) ?_
          refine lv_bipush (v := nI 8) hx hb dX0_plan_17 (by decide) ?_
          refine nv_icmp_ge (tgt := 35) (by omega) (by omega) hx hb dX0_plan_19 (by decide) (fun c19 => ?_) (fun c19 => ?_)
          · refine lv_iload_n hx hb dX0_plan_35 rfl (lv_at hl 1 rfl) ?_
            refine lv_istore_n (lv' := [(2, .int a), (0, .ref (ad 0)), (1, .int a)]) hx hb dX0_plan_36 rfl hl (by decide) rfl (fun ls hl => ?_)
            refine lv_iconst (v := nI 1) hx hb dX0_plan_37 (by decide) ?_
            refine lv_istore_n (lv' := [(3, .int (nI 1)), (2, .int a), (0, .ref (ad 0)), (1, .int a)]) hx hb dX0_plan_38 rfl hl (by decide) rfl (fun ls hl => ?_)
            refine lv_iconst (v := nI 0) hx hb dX0_plan_39 (by decide) ?_
            refine lv_istore (lv' := [(4, .int (nI 0)), (3, .int (nI 1)), (2, .int a), (0, .ref (ad 0)), (1, .int a)]) hx hb dX0_plan_40 hl (by decide) rfl (fun ls hl => ?_)
            exact L42 9 0 F1 a (nI 1) _ _ _ (by omega) (by omega) hc1 hP hS (lv_sub hl [3, 4, 2, 1, 0] rfl)
          · refine lv_aload_n hx hb dX0_plan_22 rfl (lv_at hl 0 rfl) ?_
            refine cv_g5 hx hb hts hown hK hP dX0_plan_23 ?_
            refine lv_iload_n hx hb dX0_plan_26 rfl (lv_at hl 2 rfl) ?_
            refine lv_iconst (v := nI 0) hx hb dX0_plan_27 (by decide) ?_
            refine cv_s5 hx hb hK hP hI hS g rfl (by omega) dX0_plan_28 (fun F_7 H locs hF_7 hP hS => ?_)
            refine lv_iinc (v := nI (g + 1)) (lv' := [(2, .int (nI (g + 1))), (0, .ref (ad 0)), (1, .int a)]) hx hb dX0_plan_29 hl (k := 2) rfl (nI_inc) (by decide) rfl (fun ls hl => ?_)
            refine lv_goto (tgt := 16) hx hb dX0_plan_32 (by decide) ?_
            exact ih (g + 1) F_7 _ _ _ (by omega) (by omega) (zc_cv_drop hc1 hF_7) hP hS (lv_sub hl [1, 2, 0] rfl)
      refine lv_iconst (v := nI 0) hx hb dX0_plan_14 (by decide) ?_
      refine lv_istore_n (lv' := [(2, .int (nI 0)), (0, .ref (ad 0)), (1, .int a)]) hx hb dX0_plan_15 rfl hl (by decide) rfl (fun ls hl => ?_)
      exact L16 9 0 F _ _ _ (by omega) (by omega) hcv hP hS (lv_sub hl [1, 2, 0] rfl)
    · refine lv_ldc (v := (-1000000)) hx hb hown (hts _ q75) dX0_plan_11 ?_
      exact hret _ _ _ _ _ (n, F) hP hS (⟨Or.inr ⟨fun x w => zc_no_nle c8 w.2 w.1 (by decide), rfl⟩, rfl, hcv⟩) dX0_plan_13
end
section
set_option maxRecDepth 100000
/-! the reference's plain side -/
/-- CubeViewsModel holds the facts -/
def zc_md (n : Nat) (pl : Nat → Nat) (am : Nat → Int32) (F : Nat → Nat → Int32) : Prop := n ≤ 40 ∧ zc_fok n pl am F ∧ ∀ i, i < n → zc_amt (am i)
theorem zc_cnt_t {P : Nat → Bool} {i : Nat} (h : P i = true) : zc_cnt P i + 1 = zc_cnt P (i + 1) := by simp [zc_cnt, h]
theorem zc_cnt_f {P : Nat → Bool} {i : Nat} (h : P i = false) : zc_cnt P i = zc_cnt P (i + 1) := by simp [zc_cnt, h]
theorem zc_sum_t {P : Nat → Bool} {am : Nat → Int32} {i : Nat} (h : P i = true) : zc_sum P am i + am i = zc_sum P am (i + 1) := by simp [zc_sum, h]
theorem zc_sum_f {P : Nat → Bool} {am : Nat → Int32} {i : Nat} (h : P i = false) : zc_sum P am i = zc_sum P am (i + 1) := by simp [zc_sum, h]
theorem zc_ar1 (a b c : Int32) : a - b + c = a + c - b := by grind
theorem zc_ar2 (a b c : Int32) : a - b - c = a - (b + c) := by grind
theorem zc_md_add {n p : Nat} {pl : Nat → Nat} {am : Nat → Int32} {b : Int32} {F F1 F2 : Nat → Nat → Int32} (h : zc_md n pl am F) (hn : n ≠ 40) (hp : p < 120) (hb : zc_amt b) (e1 : F1 = sw F 1 (upd (F 1) n (nI p))) (e2 : F2 = sw F1 2 (upd (F1 2) n b)) : zc_md (n + 1) (va_up pl n p) (upd am n b) F2 := by
  obtain ⟨h1, h2, h3⟩ := h
  have k1 : F2 1 = upd (F 1) n (nI p) := by rw [e2, sw_n (by decide), e1, sw_s]
  have k2 : F2 2 = upd (F 2) n b := by rw [e2, sw_s, e1, sw_n (by decide)]
  refine ⟨by omega, fun i hi => ?_, fun i hi => ?_⟩
  · rw [k1, k2]
    by_cases hin : i = n
    · subst hin
      rw [pk_us, pk_us, pk_us, va_up_self]
      exact ⟨rfl, hp, rfl⟩
    · rw [pk_un hin, pk_un hin, pk_un hin, va_up_ne _ _ hin]
      exact h2 i (by omega)
  · by_cases hin : i = n
    · subst hin
      rw [pk_us]
      exact hb
    · rw [pk_un hin]
      exact h3 i (by omega)
theorem zc_md_rem {n : Nat} {pl : Nat → Nat} {am : Nat → Int32} {F : Nat → Nat → Int32} (h : zc_md (n + 1) pl am F) : zc_md n pl am F := ⟨by have := h.1; omega, fun i hi => h.2.1 i (by omega), fun i hi => h.2.2 i (by omega)⟩
theorem zc_md_chg {n j : Nat} {pl : Nat → Nat} {am : Nat → Int32} {b : Int32} {F F1 : Nat → Nat → Int32} (h : zc_md n pl am F) (hb : zc_amt b) (e1 : F1 = sw F 2 (upd (F 2) j b)) : zc_md n pl (upd am j b) F1 := by
  obtain ⟨h1, h2, h3⟩ := h
  have k1 : F1 1 = F 1 := by rw [e1, sw_n (by decide)]
  have k2 : F1 2 = upd (F 2) j b := by rw [e1, sw_s]
  refine ⟨h1, fun i hi => ?_, fun i hi => ?_⟩
  · rw [k1, k2]
    obtain ⟨w1, w2, w3⟩ := h2 i hi
    refine ⟨w1, w2, ?_⟩
    by_cases hij : i = j
    · subst hij
      rw [pk_us, pk_us]
    · rw [pk_un hij, pk_un hij]
      exact w3
  · by_cases hij : i = j
    · subst hij
      rw [pk_us]
      exact hb
    · rw [pk_un hij]
      exact h3 i hi
theorem zc_opt (o : Option Nat) : o = none ∨ ∃ b, o = some b := by
  cases o with
  | none => exact Or.inl rfl
  | some b => exact Or.inr ⟨b, rfl⟩
end
section
set_option maxRecDepth 100000
theorem cwX1_isAmount {R : Room} {s : State} {args : Array Value} (hts : ∀ w ∈ lw_all, w.before args s = true) (hR : 0 + 1 ≤ R.frames ∧ 8 + (2 + 11) + 40 * 0 ≤ R.locals) : CallW R s args RX1 RX1 16 yX1_isAmount cX1_isAmount 2 (some .boolean) (ws_ yX1_isAmount cX1_isAmount 2 (some .boolean)) (rmL 0) 0 0 1 := cwV 1 hts (lw_V q224 q226 qs17 q29 q227) rfl rfl rfl (by decide +kernel) hR
theorem cwX1_region {R : Room} {s : State} {args : Array Value} (hts : ∀ w ∈ lw_all, w.before args s = true) (hR : 0 + 1 ≤ R.frames ∧ 8 + (2 + 11) + 40 * 0 ≤ R.locals) : CallW R s args RX1 RX1 27 yX1_region cX1_region 2 (some .int) (ws_ yX1_region cX1_region 2 (some .int)) (rmL 0) 0 0 1 := cwV 1 hts (lw_V q263 q265 qs22 q29 q266) rfl rfl rfl (by decide +kernel) hR
theorem cwX1_has {R : Room} {s : State} {args : Array Value} (hts : ∀ w ∈ lw_all, w.before args s = true) (hR : 0 + 1 ≤ R.frames ∧ 8 + (3 + 11) + 40 * 0 ≤ R.locals) : CallW R s args RX1 RX1 31 yX1_has cX1_has 3 (some .boolean) (ws_ yX1_has cX1_has 3 (some .boolean)) (rmL 0) 0 0 2 := cwV 2 hts (lw_V q259 q261 qs21 q29 q262) rfl rfl rfl (by decide +kernel) hR
theorem cwX1_kind {R : Room} {s : State} {args : Array Value} (hts : ∀ w ∈ lw_all, w.before args s = true) (hR : 0 + 1 ≤ R.frames ∧ 8 + (2 + 11) + 40 * 0 ≤ R.locals) : CallW R s args RX1 RX1 35 yX1_kind cX1_kind 2 (some .int) (ws_ yX1_kind cX1_kind 2 (some .int)) (rmL 0) 0 0 1 := cwV 1 hts (lw_V q267 q269 qs23 q29 q270) rfl rfl rfl (by decide +kernel) hR
theorem cwX1_month {R : Room} {s : State} {args : Array Value} (hts : ∀ w ∈ lw_all, w.before args s = true) (hR : 0 + 1 ≤ R.frames ∧ 8 + (2 + 11) + 40 * 0 ≤ R.locals) : CallW R s args RX1 RX1 38 yX1_month cX1_month 2 (some .int) (ws_ yX1_month cX1_month 2 (some .int)) (rmL 0) 0 0 1 := cwV 1 hts (lw_V q271 q273 qs24 q29 q274) rfl rfl rfl (by decide +kernel) hR
theorem cwX1_groupOf {R : Room} {s : State} {args : Array Value} (hts : ∀ w ∈ lw_all, w.before args s = true) (hR : 1 + 1 ≤ R.frames ∧ 8 + (6 + 11) + 40 * 1 ≤ R.locals) : CallW R s args RX1 RX1 47 yX1_groupOf cX1_groupOf 6 (some .int) (ws_ yX1_groupOf cX1_groupOf 6 (some .int)) (rmL 1) 0 0 2 := cwV 2 hts (lw_V q255 q257 qs20 q29 q258) rfl rfl rfl (by decide +kernel) hR
theorem cwX1_passes {R : Room} {s : State} {args : Array Value} (hts : ∀ w ∈ lw_all, w.before args s = true) (hR : 1 + 1 ≤ R.frames ∧ 8 + (3 + 11) + 40 * 1 ≤ R.locals) : CallW R s args RX1 RX1 51 yX1_passes cX1_passes 3 (some .boolean) (ws_ yX1_passes cX1_passes 3 (some .boolean)) (rmL 1) 0 0 2 := cwV 2 hts (lw_V q275 q277 qs25 q29 q278) rfl rfl rfl (by decide +kernel) hR
theorem cwX1_isFilter {R : Room} {s : State} {args : Array Value} (hts : ∀ w ∈ lw_all, w.before args s = true) (hR : 0 + 1 ≤ R.frames ∧ 8 + (2 + 11) + 40 * 0 ≤ R.locals) : CallW R s args RX1 RX1 54 yX1_isFilter cX1_isFilter 2 (some .boolean) (ws_ yX1_isFilter cX1_isFilter 2 (some .boolean)) (rmL 0) 0 0 1 := cwV 1 hts (lw_V q247 q249 qs18 q29 q250) rfl rfl rfl (by decide +kernel) hR
theorem cwX1_look {R : Room} {s : State} {args : Array Value} (hts : ∀ w ∈ lw_all, w.before args s = true) (hR : 2 + 1 ≤ R.frames ∧ 8 + (5 + 11) + 40 * 2 ≤ R.locals) : CallW R s args RX1 RX1 57 yX1_look cX1_look 5 none (ws_ yX1_look cX1_look 5 none) (rmL 2) 0 0 3 := cwV 3 hts (lw_V q251 q253 qs19 q29 q254) rfl rfl rfl (by decide +kernel) hR
theorem cwX1_isGrouping {R : Room} {s : State} {args : Array Value} (hts : ∀ w ∈ lw_all, w.before args s = true) (hR : 0 + 1 ≤ R.frames ∧ 8 + (2 + 11) + 40 * 0 ≤ R.locals) : CallW R s args RX1 RX1 61 yX1_isGrouping cX1_isGrouping 2 (some .boolean) (ws_ yX1_isGrouping cX1_isGrouping 2 (some .boolean)) (rmL 0) 0 0 1 := cwV 1 hts (lw_V q291 q293 qs26 q29 q294) rfl rfl rfl (by decide +kernel) hR
set_option maxHeartbeats 4000000 in
theorem met1_region (l : Launch) (D : va_G) (bd : Nat → Nat) (dB : Nat → ClassId) (n : Nat) (F : Nat → Nat → Int32) (fo to : Int32) (p : Nat) (hp : p < 120) : Met l yX1_region (ws_ yX1_region cX1_region 2 (some .int)) (rmL 0) (va_Pc [.ref (bd 0), .int (nI p)] (Pw D (mdw bd dB n F fo to) (mdT dB))) (Qr (fun r => r = nI (p % 4))) 0 0 (fun _ => False) := by
  refine zz_mkR (by decide) rfl (Nat.le_of_ble_eq_true rfl) ?_
  intro pr e s m args below meth c Q ls S hpre hl hret
  obtain ⟨hP, hK⟩ := hpre
  have hx := S.1
  have hb := S.2.1
  have hown : s.vm.findClass RX1 = some m.cls := S.2.2.2.1
  have hts := S.2.2.2.2
  have hS : va_S (fun _ => False) s.heap s.heap [] := va_S.rf
  have hl : lv_has ls 2 [(0, .ref (bd 0)), (1, .int (nI p))] := hl
  refine lv_iload_n hx hb dX1_region_0 rfl (lv_at hl 1 rfl) ?_
  refine lv_iconst (v := nI 4) hx hb dX1_region_1 (by decide) ?_
  refine lv_irem hx hb dX1_region_2 (by decide) ?_
  refine cv_top (pk_rem (by omega) (by decide) (by decide)) ?_
  exact hret _ _ _ _ _ hS (rfl) dX1_region_3
set_option maxHeartbeats 4000000 in
theorem met1_kind (l : Launch) (D : va_G) (bd : Nat → Nat) (dB : Nat → ClassId) (n : Nat) (F : Nat → Nat → Int32) (fo to : Int32) (p : Nat) (hp : p < 120) : Met l yX1_kind (ws_ yX1_kind cX1_kind 2 (some .int)) (rmL 0) (va_Pc [.ref (bd 0), .int (nI p)] (Pw D (mdw bd dB n F fo to) (mdT dB))) (Qr (fun r => r = nI (p / 4 % 5))) 0 0 (fun _ => False) := by
  refine zz_mkR (by decide) rfl (Nat.le_of_ble_eq_true rfl) ?_
  intro pr e s m args below meth c Q ls S hpre hl hret
  obtain ⟨hP, hK⟩ := hpre
  have hx := S.1
  have hb := S.2.1
  have hown : s.vm.findClass RX1 = some m.cls := S.2.2.2.1
  have hts := S.2.2.2.2
  have hS : va_S (fun _ => False) s.heap s.heap [] := va_S.rf
  have hl : lv_has ls 2 [(0, .ref (bd 0)), (1, .int (nI p))] := hl
  refine lv_iload_n hx hb dX1_kind_0 rfl (lv_at hl 1 rfl) ?_
  refine lv_iconst (v := nI 4) hx hb dX1_kind_1 (by decide) ?_
  refine lv_idiv hx hb dX1_kind_2 (by decide) ?_
  refine cv_top (pk_div (by omega) (by decide) (by decide)) ?_
  refine lv_iconst (v := nI 5) hx hb dX1_kind_3 (by decide) ?_
  refine lv_irem hx hb dX1_kind_4 (by decide) ?_
  refine cv_top (pk_rem (by omega) (by decide) (by decide)) ?_
  exact hret _ _ _ _ _ hS (rfl) dX1_kind_5
set_option maxHeartbeats 4000000 in
theorem met1_month (l : Launch) (D : va_G) (bd : Nat → Nat) (dB : Nat → ClassId) (n : Nat) (F : Nat → Nat → Int32) (fo to : Int32) (p : Nat) (hp : p < 120) : Met l yX1_month (ws_ yX1_month cX1_month 2 (some .int)) (rmL 0) (va_Pc [.ref (bd 0), .int (nI p)] (Pw D (mdw bd dB n F fo to) (mdT dB))) (Qr (fun r => r = nI (p / 20))) 0 0 (fun _ => False) := by
  refine zz_mkR (by decide) rfl (Nat.le_of_ble_eq_true rfl) ?_
  intro pr e s m args below meth c Q ls S hpre hl hret
  obtain ⟨hP, hK⟩ := hpre
  have hx := S.1
  have hb := S.2.1
  have hown : s.vm.findClass RX1 = some m.cls := S.2.2.2.1
  have hts := S.2.2.2.2
  have hS : va_S (fun _ => False) s.heap s.heap [] := va_S.rf
  have hl : lv_has ls 2 [(0, .ref (bd 0)), (1, .int (nI p))] := hl
  refine lv_iload_n hx hb dX1_month_0 rfl (lv_at hl 1 rfl) ?_
  refine lv_bipush (v := nI 20) hx hb dX1_month_1 (by decide) ?_
  refine lv_idiv hx hb dX1_month_3 (by decide) ?_
  refine cv_top (pk_div (by omega) (by decide) (by decide)) ?_
  exact hret _ _ _ _ _ hS (rfl) dX1_month_4
set_option maxHeartbeats 4000000 in
theorem met1_has (l : Launch) (D : va_G) (bd : Nat → Nat) (dB : Nat → ClassId) (n : Nat) (F : Nat → Nat → Int32) (fo to : Int32) (a j : Nat) (ha : a < 32768) (hj : j < 32) : Met l yX1_has (ws_ yX1_has cX1_has 3 (some .boolean)) (rmL 0) (va_Pc [.ref (bd 0), .int (nI a), .int (nI j)] (Pw D (mdw bd dB n F fo to) (mdT dB))) (Qr (fun r => (r = nI 1 ∧ a / 2 ^ j % 2 = 1) ∨ (r = nI 0 ∧ a / 2 ^ j % 2 = 0))) 0 0 (fun _ => False) := by
  refine zz_mkZ (fun r h => by rcases h with h | h <;> simp [h.1]) (by decide) rfl (Nat.le_of_ble_eq_true rfl) ?_
  intro pr e s m args below meth c Q ls S hpre hl hret
  obtain ⟨hP, hK⟩ := hpre
  have hx := S.1
  have hb := S.2.1
  have hown : s.vm.findClass RX1 = some m.cls := S.2.2.2.1
  have hts := S.2.2.2.2
  have hS : va_S (fun _ => False) s.heap s.heap [] := va_S.rf
  have hl : lv_has ls 3 [(0, .ref (bd 0)), (1, .int (nI a)), (2, .int (nI j))] := hl
  refine lv_iload_n hx hb dX1_has_0 rfl (lv_at hl 1 rfl) ?_
  refine lv_iload_n hx hb dX1_has_1 rfl (lv_at hl 2 rfl) ?_
  refine lv_ishr hx hb dX1_has_2 ?_
  refine lv_iconst (v := nI 1) hx hb dX1_has_3 (by decide) ?_
  refine lv_iand hx hb dX1_has_4 ?_
  refine cv_top (b := nI (a / 2 ^ j % 2)) (zc_bit (by omega) hj) ?_
  refine lv_iconst (v := nI 1) hx hb dX1_has_5 (by decide) ?_
  refine nv_icmp_ne (tgt := 13) (by omega) (by omega) hx hb dX1_has_6 (by decide) (fun c6 => ?_) (fun c6 => ?_)
  · refine lv_iconst (v := nI 0) hx hb dX1_has_13 (by decide) ?_
    exact hret _ _ _ _ _ hS (Or.inr ⟨rfl, by omega⟩) dX1_has_14
  · refine lv_iconst (v := nI 1) hx hb dX1_has_9 (by decide) ?_
    refine lv_goto (tgt := 14) hx hb dX1_has_10 (by decide) ?_
    exact hret _ _ _ _ _ hS (Or.inl ⟨rfl, by omega⟩) dX1_has_14
set_option maxHeartbeats 4000000 in
theorem met1_isFilter (l : Launch) (D : va_G) (bd : Nat → Nat) (dB : Nat → ClassId) (n : Nat) (F : Nat → Nat → Int32) (fo to : Int32) (a : Int32) : Met l yX1_isFilter (ws_ yX1_isFilter cX1_isFilter 2 (some .boolean)) (rmL 0) (va_Pc [.ref (bd 0), .int a] (Pw D (mdw bd dB n F fo to) (mdT dB))) (Qr (fun r => (r = nI 1 ∧ zc_gf a) ∨ (r = nI 0 ∧ ¬ zc_gf a))) 0 0 (fun _ => False) := by
  refine zz_mkZ (fun r h => by rcases h with h | h <;> simp [h.1]) (by decide) rfl (Nat.le_of_ble_eq_true rfl) ?_
  intro pr e s m args below meth c Q ls S hpre hl hret
  obtain ⟨hP, hK⟩ := hpre
  have hx := S.1
  have hb := S.2.1
  have hown : s.vm.findClass RX1 = some m.cls := S.2.2.2.1
  have hts := S.2.2.2.2
  have hS : va_S (fun _ => False) s.heap s.heap [] := va_S.rf
  have hl : lv_has ls 2 [(0, .ref (bd 0)), (1, .int a)] := hl
  refine lv_iload_n hx hb dX1_isFilter_0 rfl (lv_at hl 1 rfl) ?_
  refine lv_if_lt (tgt := 15) hx hb dX1_isFilter_1 (by decide) (fun c1 => ?_) (fun c1 => ?_)
  · refine lv_iconst (v := nI 0) hx hb dX1_isFilter_15 (by decide) ?_
    exact hret _ _ _ _ _ hS (by first | exact Or.inr ⟨rfl, zc_gf_n1 (by assumption)⟩ | exact Or.inr ⟨rfl, zc_gf_n2 (Int32.not_le.mpr (by assumption))⟩) dX1_isFilter_16
  · refine lv_iload_n hx hb dX1_isFilter_4 rfl (lv_at hl 1 rfl) ?_
    refine lv_sipush (v := nI 32767) hx hb dX1_isFilter_5 (by decide) ?_
    refine lv_icmp_gt (tgt := 15) hx hb dX1_isFilter_8 (by decide) (fun c8 => ?_) (fun c8 => ?_)
    · refine lv_iconst (v := nI 0) hx hb dX1_isFilter_15 (by decide) ?_
      exact hret _ _ _ _ _ hS (by first | exact Or.inr ⟨rfl, zc_gf_n1 (by assumption)⟩ | exact Or.inr ⟨rfl, zc_gf_n2 (Int32.not_le.mpr (by assumption))⟩) dX1_isFilter_16
    · refine lv_iconst (v := nI 1) hx hb dX1_isFilter_11 (by decide) ?_
      refine lv_goto (tgt := 16) hx hb dX1_isFilter_12 (by decide) ?_
      exact hret _ _ _ _ _ hS (Or.inl ⟨rfl, zc_gf_of (by assumption) (Int32.not_lt.mp (by assumption))⟩) dX1_isFilter_16
set_option maxHeartbeats 4000000 in
theorem met1_isGrouping (l : Launch) (D : va_G) (bd : Nat → Nat) (dB : Nat → ClassId) (n : Nat) (F : Nat → Nat → Int32) (fo to : Int32) (a : Int32) : Met l yX1_isGrouping (ws_ yX1_isGrouping cX1_isGrouping 2 (some .boolean)) (rmL 0) (va_Pc [.ref (bd 0), .int a] (Pw D (mdw bd dB n F fo to) (mdT dB))) (Qr (fun r => (r = nI 1 ∧ zc_gg a) ∨ (r = nI 0 ∧ ¬ zc_gg a))) 0 0 (fun _ => False) := by
  refine zz_mkZ (fun r h => by rcases h with h | h <;> simp [h.1]) (by decide) rfl (Nat.le_of_ble_eq_true rfl) ?_
  intro pr e s m args below meth c Q ls S hpre hl hret
  obtain ⟨hP, hK⟩ := hpre
  have hx := S.1
  have hb := S.2.1
  have hown : s.vm.findClass RX1 = some m.cls := S.2.2.2.1
  have hts := S.2.2.2.2
  have hS : va_S (fun _ => False) s.heap s.heap [] := va_S.rf
  have hl : lv_has ls 2 [(0, .ref (bd 0)), (1, .int a)] := hl
  refine lv_iload_n hx hb dX1_isGrouping_0 rfl (lv_at hl 1 rfl) ?_
  refine lv_if_lt (tgt := 14) hx hb dX1_isGrouping_1 (by decide) (fun c1 => ?_) (fun c1 => ?_)
  · refine lv_iconst (v := nI 0) hx hb dX1_isGrouping_14 (by decide) ?_
    exact hret _ _ _ _ _ hS (by first | exact Or.inr ⟨rfl, zc_gg_n1 (by assumption)⟩ | exact Or.inr ⟨rfl, zc_gg_n2 (Int32.not_le.mpr (by assumption))⟩) dX1_isGrouping_15
  · refine lv_iload_n hx hb dX1_isGrouping_4 rfl (lv_at hl 1 rfl) ?_
    refine lv_bipush (v := nI 7) hx hb dX1_isGrouping_5 (by decide) ?_
    refine lv_icmp_gt (tgt := 14) hx hb dX1_isGrouping_7 (by decide) (fun c7 => ?_) (fun c7 => ?_)
    · refine lv_iconst (v := nI 0) hx hb dX1_isGrouping_14 (by decide) ?_
      exact hret _ _ _ _ _ hS (by first | exact Or.inr ⟨rfl, zc_gg_n1 (by assumption)⟩ | exact Or.inr ⟨rfl, zc_gg_n2 (Int32.not_le.mpr (by assumption))⟩) dX1_isGrouping_15
    · refine lv_iconst (v := nI 1) hx hb dX1_isGrouping_10 (by decide) ?_
      refine lv_goto (tgt := 15) hx hb dX1_isGrouping_11 (by decide) ?_
      exact hret _ _ _ _ _ hS (Or.inl ⟨rfl, zc_gg_of (by assumption) (Int32.not_lt.mp (by assumption))⟩) dX1_isGrouping_15
set_option maxHeartbeats 4000000 in
theorem met1_isAmount (l : Launch) (D : va_G) (bd : Nat → Nat) (dB : Nat → ClassId) (n : Nat) (F : Nat → Nat → Int32) (fo to : Int32) (a : Int32) : Met l yX1_isAmount (ws_ yX1_isAmount cX1_isAmount 2 (some .boolean)) (rmL 0) (va_Pc [.ref (bd 0), .int a] (Pw D (mdw bd dB n F fo to) (mdT dB))) (Qr (fun r => (r = nI 1 ∧ zc_amt a) ∨ (r = nI 0 ∧ ¬ zc_amt a))) 0 0 (fun _ => False) := by
  refine zz_mkZ (fun r h => by rcases h with h | h <;> simp [h.1]) (by decide) rfl (Nat.le_of_ble_eq_true rfl) ?_
  intro pr e s m args below meth c Q ls S hpre hl hret
  obtain ⟨hP, hK⟩ := hpre
  have hx := S.1
  have hb := S.2.1
  have hown : s.vm.findClass RX1 = some m.cls := S.2.2.2.1
  have hts := S.2.2.2.2
  have hS : va_S (fun _ => False) s.heap s.heap [] := va_S.rf
  have hl : lv_has ls 2 [(0, .ref (bd 0)), (1, .int a)] := hl
  refine lv_iload_n hx hb dX1_isAmount_0 rfl (lv_at hl 1 rfl) ?_
  refine lv_bipush (v := (-50)) hx hb dX1_isAmount_1 (by decide) ?_
  refine lv_icmp_lt (tgt := 16) hx hb dX1_isAmount_3 (by decide) (fun c3 => ?_) (fun c3 => ?_)
  · refine lv_iconst (v := nI 0) hx hb dX1_isAmount_16 (by decide) ?_
    exact hret _ _ _ _ _ hS (by first | exact Or.inr ⟨rfl, zc_amt_n1 (by assumption)⟩ | exact Or.inr ⟨rfl, zc_amt_n3 (by assumption)⟩) dX1_isAmount_17
  · refine lv_iload_n hx hb dX1_isAmount_6 rfl (lv_at hl 1 rfl) ?_
    refine lv_bipush (v := nI 50) hx hb dX1_isAmount_7 (by decide) ?_
    refine lv_icmp_gt (tgt := 16) hx hb dX1_isAmount_9 (by decide) (fun c9 => ?_) (fun c9 => ?_)
    · refine lv_iconst (v := nI 0) hx hb dX1_isAmount_16 (by decide) ?_
      exact hret _ _ _ _ _ hS (by first | exact Or.inr ⟨rfl, zc_amt_n1 (by assumption)⟩ | exact Or.inr ⟨rfl, zc_amt_n3 (by assumption)⟩) dX1_isAmount_17
    · refine lv_iconst (v := nI 1) hx hb dX1_isAmount_12 (by decide) ?_
      refine lv_goto (tgt := 17) hx hb dX1_isAmount_13 (by decide) ?_
      exact hret _ _ _ _ _ hS (Or.inl ⟨rfl, zc_amt_of' (by assumption) (by assumption)⟩) dX1_isAmount_17
set_option maxHeartbeats 4000000 in
theorem met1_passes (l : Launch) (D : va_G) (bd : Nat → Nat) (dB : Nat → ClassId) (n : Nat) (F : Nat → Nat → Int32) (fo to : Int32) (p f : Nat) (hp : p < 120) (hf : f < 32768) : Met l yX1_passes (ws_ yX1_passes cX1_passes 3 (some .boolean)) (rmL 1) (va_Pc [.ref (bd 0), .int (nI p), .int (nI f)] (Pw D (mdw bd dB n F fo to) (mdT dB))) (Qr (fun r => (r = nI 1 ∧ zc_ps p f 7 = true) ∨ (r = nI 0 ∧ zc_ps p f 7 = false))) 0 0 (fun _ => False) := by
  refine zz_mkZ (fun r h => by rcases h with h | h <;> simp [h.1]) (by decide) rfl (Nat.le_of_ble_eq_true rfl) ?_
  intro pr e s m args below meth c Q ls S hpre hl hret
  obtain ⟨hP, hK⟩ := hpre
  have hx := S.1
  have hb := S.2.1
  have hown : s.vm.findClass RX1 = some m.cls := S.2.2.2.1
  have hts := S.2.2.2.2
  have hS : va_S (fun _ => False) s.heap s.heap [] := va_S.rf
  have hl : lv_has ls 3 [(0, .ref (bd 0)), (1, .int (nI p)), (2, .int (nI f))] := hl
  refine lv_aload_n hx hb dX1_passes_0 rfl (lv_at hl 0 rfl) ?_
  refine lv_iload_n hx hb dX1_passes_1 rfl (lv_at hl 2 rfl) ?_
  refine lv_aload_n hx hb dX1_passes_2 rfl (lv_at hl 0 rfl) ?_
  refine lv_iload_n hx hb dX1_passes_3 rfl (lv_at hl 1 rfl) ?_
  refine zz_callR (As := [.int (nI p)]) (rest := [.int (nI f), .ref (bd 0)]) S hK hP hS (met1_region l D bd dB n F fo to p (by omega)) (cwX1_region hts (by decide)) (md_recv hK hP) rfl hl.1 rfl (Nat.le_of_ble_eq_true rfl) dX1_passes_4 ⟨Nat.le_refl 0, Nat.le_refl 0⟩ (fun r4 H locs hr4 hP hS => ?_)
  subst hr4
  refine zz_callR (As := [.int (nI f), .int (nI (p % 4))]) (rest := []) S hK hP hS (met1_has l D bd dB n F fo to f (p % 4) (by omega) (by omega)) (cwX1_has hts (by decide)) (md_recv hK hP) rfl hl.1 rfl (by decide) dX1_passes_7 ⟨Nat.le_refl 0, Nat.le_refl 0⟩ (fun r7 H locs hr7 hP hS => ?_)
  rcases hr7 with ⟨hr7, e10⟩ | ⟨hr7, e10⟩
  · subst hr7
    refine nv_if_eq (tgt := 48) (by omega) hx hb dX1_passes_10 (by decide) (fun c10 => ?_) (fun c10 => ?_)
    · exact absurd c10 (by decide)
    · refine lv_aload_n hx hb dX1_passes_13 rfl (lv_at hl 0 rfl) ?_
      refine lv_iload_n hx hb dX1_passes_14 rfl (lv_at hl 2 rfl) ?_
      refine lv_iconst (v := nI 4) hx hb dX1_passes_15 (by decide) ?_
      refine lv_aload_n hx hb dX1_passes_16 rfl (lv_at hl 0 rfl) ?_
      refine lv_iload_n hx hb dX1_passes_17 rfl (lv_at hl 1 rfl) ?_
      refine zz_callR (As := [.int (nI p)]) (rest := [.int (nI 4), .int (nI f), .ref (bd 0)]) S hK hP hS (met1_kind l D bd dB n F fo to p (by omega)) (cwX1_kind hts (by decide)) (md_recv hK hP) rfl hl.1 rfl (Nat.le_of_ble_eq_true rfl) dX1_passes_18 ⟨Nat.le_refl 0, Nat.le_refl 0⟩ (fun r18 H locs hr18 hP hS => ?_)
      subst hr18
      refine lv_iadd hx hb dX1_passes_21 ?_
      refine cv_top (nI_add _ _) ?_
      refine zz_callR (As := [.int (nI f), .int (nI (4 + (p / 4 % 5)))]) (rest := []) S hK hP hS (met1_has l D bd dB n F fo to f (4 + (p / 4 % 5)) (by omega) (by omega)) (cwX1_has hts (by decide)) (md_recv hK hP) rfl hl.1 rfl (by decide) dX1_passes_22 ⟨Nat.le_refl 0, Nat.le_refl 0⟩ (fun r22 H locs hr22 hP hS => ?_)
      rcases hr22 with ⟨hr22, e25⟩ | ⟨hr22, e25⟩
      · subst hr22
        refine nv_if_eq (tgt := 48) (by omega) hx hb dX1_passes_25 (by decide) (fun c25 => ?_) (fun c25 => ?_)
        · exact absurd c25 (by decide)
        · refine lv_aload_n hx hb dX1_passes_28 rfl (lv_at hl 0 rfl) ?_
          refine lv_iload_n hx hb dX1_passes_29 rfl (lv_at hl 2 rfl) ?_
          refine lv_bipush (v := nI 9) hx hb dX1_passes_30 (by decide) ?_
          refine lv_aload_n hx hb dX1_passes_32 rfl (lv_at hl 0 rfl) ?_
          refine lv_iload_n hx hb dX1_passes_33 rfl (lv_at hl 1 rfl) ?_
          refine zz_callR (As := [.int (nI p)]) (rest := [.int (nI 9), .int (nI f), .ref (bd 0)]) S hK hP hS (met1_month l D bd dB n F fo to p (by omega)) (cwX1_month hts (by decide)) (md_recv hK hP) rfl hl.1 rfl (Nat.le_of_ble_eq_true rfl) dX1_passes_34 ⟨Nat.le_refl 0, Nat.le_refl 0⟩ (fun r34 H locs hr34 hP hS => ?_)
          subst hr34
          refine lv_iadd hx hb dX1_passes_37 ?_
          refine cv_top (nI_add _ _) ?_
          refine zz_callR (As := [.int (nI f), .int (nI (9 + (p / 20)))]) (rest := []) S hK hP hS (met1_has l D bd dB n F fo to f (9 + (p / 20)) (by omega) (by omega)) (cwX1_has hts (by decide)) (md_recv hK hP) rfl hl.1 rfl (by decide) dX1_passes_38 ⟨Nat.le_refl 0, Nat.le_refl 0⟩ (fun r38 H locs hr38 hP hS => ?_)
          rcases hr38 with ⟨hr38, e41⟩ | ⟨hr38, e41⟩
          · subst hr38
            refine nv_if_eq (tgt := 48) (by omega) hx hb dX1_passes_41 (by decide) (fun c41 => ?_) (fun c41 => ?_)
            · exact absurd c41 (by decide)
            · refine lv_iconst (v := nI 1) hx hb dX1_passes_44 (by decide) ?_
              refine lv_goto (tgt := 49) hx hb dX1_passes_45 (by decide) ?_
              exact hret _ _ _ _ _ hS (Or.inl ⟨rfl, by unfold zc_ps; rw [e10, e25, e41]; decide⟩) dX1_passes_49
          · subst hr38
            refine nv_if_eq (tgt := 48) (by omega) hx hb dX1_passes_41 (by decide) (fun c41 => ?_) (fun c41 => ?_)
            · refine lv_iconst (v := nI 0) hx hb dX1_passes_48 (by decide) ?_
              exact hret _ _ _ _ _ hS (Or.inr ⟨rfl, by unfold zc_ps; rw [e41]; simp⟩) dX1_passes_49
            · exact absurd c41 (by decide)
      · subst hr22
        refine nv_if_eq (tgt := 48) (by omega) hx hb dX1_passes_25 (by decide) (fun c25 => ?_) (fun c25 => ?_)
        · refine lv_iconst (v := nI 0) hx hb dX1_passes_48 (by decide) ?_
          exact hret _ _ _ _ _ hS (Or.inr ⟨rfl, by unfold zc_ps; rw [e25]; simp⟩) dX1_passes_49
        · exact absurd c25 (by decide)
  · subst hr7
    refine nv_if_eq (tgt := 48) (by omega) hx hb dX1_passes_10 (by decide) (fun c10 => ?_) (fun c10 => ?_)
    · refine lv_iconst (v := nI 0) hx hb dX1_passes_48 (by decide) ?_
      exact hret _ _ _ _ _ hS (Or.inr ⟨rfl, by unfold zc_ps; rw [e10]; simp⟩) dX1_passes_49
    · exact absurd c10 (by decide)
set_option maxHeartbeats 4000000 in
theorem met1_groupOf (l : Launch) (D : va_G) (bd : Nat → Nat) (dB : Nat → ClassId) (n : Nat) (F : Nat → Nat → Int32) (fo to : Int32) (p g : Nat) (hp : p < 120) (hg : g < 8) : Met l yX1_groupOf (ws_ yX1_groupOf cX1_groupOf 6 (some .int)) (rmL 1) (va_Pc [.ref (bd 0), .int (nI p), .int (nI g)] (Pw D (mdw bd dB n F fo to) (mdT dB))) (Qr (fun r => r = nI (zc_grp p g))) 0 0 (fun _ => False) := by
  refine zz_mkR (by decide) rfl (Nat.le_of_ble_eq_true rfl) ?_
  intro pr e s m args below meth c Q ls S hpre hl hret
  obtain ⟨hP, hK⟩ := hpre
  have hx := S.1
  have hb := S.2.1
  have hown : s.vm.findClass RX1 = some m.cls := S.2.2.2.1
  have hts := S.2.2.2.2
  have hS : va_S (fun _ => False) s.heap s.heap [] := va_S.rf
  have hl : lv_has ls 6 [(0, .ref (bd 0)), (1, .int (nI p)), (2, .int (nI g))] := hl
  have j57 : ∀ (H : Heap) (locs : List Loc) (ls : Array Slot), va_P D vwCl (mdw bd dB n F fo to) H → va_S (fun _ => False) s.heap H locs → lv_has ls 6 [(4, .int (nI (if g / 2 % 2 = 0 then 0 else p / 4 % 5))), (3, .int (nI (if g % 2 = 0 then 0 else p % 4))), (0, .ref (bd 0)), (1, .int (nI p)), (2, .int (nI g))] → W pr l e (rmL 1) s m args below meth c H locs 0 0 Q (F0 m 57 ls [.int (nI (if g / 4 % 2 = 0 then 0 else p / 20))]) := by
    intro  H locs ls  hP hS hl
    refine lv_istore (lv' := [(5, .int (nI (if g / 4 % 2 = 0 then 0 else p / 20))), (4, .int (nI (if g / 2 % 2 = 0 then 0 else p / 4 % 5))), (3, .int (nI (if g % 2 = 0 then 0 else p % 4))), (0, .ref (bd 0)), (1, .int (nI p)), (2, .int (nI g))]) hx hb dX1_groupOf_57 hl (by decide) rfl (fun ls hl => ?_)
    refine lv_iload_n hx hb dX1_groupOf_59 rfl (lv_at hl 2 rfl) ?_
    refine lv_iconst (v := nI 4) hx hb dX1_groupOf_60 (by decide) ?_
    refine lv_iload hx hb dX1_groupOf_61 (lv_at hl 1 rfl) ?_
    refine lv_imul hx hb dX1_groupOf_63 ?_
    refine cv_top (pk_mul _ _) ?_
    refine lv_iadd hx hb dX1_groupOf_64 ?_
    refine cv_top (nI_add _ _) ?_
    refine lv_bipush (v := nI 20) hx hb dX1_groupOf_65 (by decide) ?_
    refine lv_iload hx hb dX1_groupOf_67 (lv_at hl 0 rfl) ?_
    refine lv_imul hx hb dX1_groupOf_69 ?_
    refine cv_top (pk_mul _ _) ?_
    refine lv_iadd hx hb dX1_groupOf_70 ?_
    refine cv_top (nI_add _ _) ?_
    exact hret _ _ _ _ _ hS (rfl) dX1_groupOf_71
  have j37 : ∀ (H : Heap) (locs : List Loc) (ls : Array Slot), va_P D vwCl (mdw bd dB n F fo to) H → va_S (fun _ => False) s.heap H locs → lv_has ls 6 [(3, .int (nI (if g % 2 = 0 then 0 else p % 4))), (0, .ref (bd 0)), (1, .int (nI p)), (2, .int (nI g))] → W pr l e (rmL 1) s m args below meth c H locs 0 0 Q (F0 m 37 ls [.int (nI (if g / 2 % 2 = 0 then 0 else p / 4 % 5))]) := by
    intro  H locs ls  hP hS hl
    refine lv_istore (lv' := [(4, .int (nI (if g / 2 % 2 = 0 then 0 else p / 4 % 5))), (3, .int (nI (if g % 2 = 0 then 0 else p % 4))), (0, .ref (bd 0)), (1, .int (nI p)), (2, .int (nI g))]) hx hb dX1_groupOf_37 hl (by decide) rfl (fun ls hl => ?_)
    refine lv_aload_n hx hb dX1_groupOf_39 rfl (lv_at hl 2 rfl) ?_
    refine lv_iload_n hx hb dX1_groupOf_40 rfl (lv_at hl 4 rfl) ?_
    refine lv_iconst (v := nI 2) hx hb dX1_groupOf_41 (by decide) ?_
    refine zz_callR (As := [.int (nI g), .int (nI 2)]) (rest := []) S hK hP hS (met1_has l D bd dB n F fo to g 2 (by omega) (by omega)) (cwX1_has hts (by decide)) (md_recv hK hP) rfl hl.1 rfl (by decide) dX1_groupOf_42 ⟨Nat.le_refl 0, Nat.le_refl 0⟩ (fun r42 H locs hr42 hP hS => ?_)
    rcases hr42 with ⟨hr42, e⟩ | ⟨hr42, e⟩
    · subst hr42
      refine nv_if_eq (tgt := 56) (by omega) hx hb dX1_groupOf_45 (by decide) (fun c45 => ?_) (fun c45 => ?_)
      · exact absurd c45 (by decide)
      · refine lv_aload_n hx hb dX1_groupOf_48 rfl (lv_at hl 2 rfl) ?_
        refine lv_iload_n hx hb dX1_groupOf_49 rfl (lv_at hl 3 rfl) ?_
        refine zz_callR (As := [.int (nI p)]) (rest := []) S hK hP hS (met1_month l D bd dB n F fo to p (by omega)) (cwX1_month hts (by decide)) (md_recv hK hP) rfl hl.1 rfl (by decide) dX1_groupOf_50 ⟨Nat.le_refl 0, Nat.le_refl 0⟩ (fun r50 H locs hr50 hP hS => ?_)
        subst hr50
        refine lv_goto (tgt := 57) hx hb dX1_groupOf_53 (by decide) ?_
        refine cv_top (b := nI (if g / 4 % 2 = 0 then 0 else p / 20)) (by first | rw [if_neg (by omega)] | rw [if_pos (by omega)]) ?_
        exact j57 _ _ _ hP hS hl
    · subst hr42
      refine nv_if_eq (tgt := 56) (by omega) hx hb dX1_groupOf_45 (by decide) (fun c45 => ?_) (fun c45 => ?_)
      · refine lv_iconst (v := nI 0) hx hb dX1_groupOf_56 (by decide) ?_
        refine cv_top (b := nI (if g / 4 % 2 = 0 then 0 else p / 20)) (by first | rw [if_neg (by omega)] | rw [if_pos (by omega)]) ?_
        exact j57 _ _ _ hP hS hl
      · exact absurd c45 (by decide)
  have j18 : ∀ (H : Heap) (locs : List Loc) (ls : Array Slot), va_P D vwCl (mdw bd dB n F fo to) H → va_S (fun _ => False) s.heap H locs → lv_has ls 6 [(0, .ref (bd 0)), (1, .int (nI p)), (2, .int (nI g))] → W pr l e (rmL 1) s m args below meth c H locs 0 0 Q (F0 m 18 ls [.int (nI (if g % 2 = 0 then 0 else p % 4))]) := by
    intro  H locs ls  hP hS hl
    refine lv_istore_n (lv' := [(3, .int (nI (if g % 2 = 0 then 0 else p % 4))), (0, .ref (bd 0)), (1, .int (nI p)), (2, .int (nI g))]) hx hb dX1_groupOf_18 rfl hl (by decide) rfl (fun ls hl => ?_)
    refine lv_aload_n hx hb dX1_groupOf_19 rfl (lv_at hl 1 rfl) ?_
    refine lv_iload_n hx hb dX1_groupOf_20 rfl (lv_at hl 3 rfl) ?_
    refine lv_iconst (v := nI 1) hx hb dX1_groupOf_21 (by decide) ?_
    refine zz_callR (As := [.int (nI g), .int (nI 1)]) (rest := []) S hK hP hS (met1_has l D bd dB n F fo to g 1 (by omega) (by omega)) (cwX1_has hts (by decide)) (md_recv hK hP) rfl hl.1 rfl (by decide) dX1_groupOf_22 ⟨Nat.le_refl 0, Nat.le_refl 0⟩ (fun r22 H locs hr22 hP hS => ?_)
    rcases hr22 with ⟨hr22, e⟩ | ⟨hr22, e⟩
    · subst hr22
      refine nv_if_eq (tgt := 36) (by omega) hx hb dX1_groupOf_25 (by decide) (fun c25 => ?_) (fun c25 => ?_)
      · exact absurd c25 (by decide)
      · refine lv_aload_n hx hb dX1_groupOf_28 rfl (lv_at hl 1 rfl) ?_
        refine lv_iload_n hx hb dX1_groupOf_29 rfl (lv_at hl 2 rfl) ?_
        refine zz_callR (As := [.int (nI p)]) (rest := []) S hK hP hS (met1_kind l D bd dB n F fo to p (by omega)) (cwX1_kind hts (by decide)) (md_recv hK hP) rfl hl.1 rfl (by decide) dX1_groupOf_30 ⟨Nat.le_refl 0, Nat.le_refl 0⟩ (fun r30 H locs hr30 hP hS => ?_)
        subst hr30
        refine lv_goto (tgt := 37) hx hb dX1_groupOf_33 (by decide) ?_
        refine cv_top (b := nI (if g / 2 % 2 = 0 then 0 else p / 4 % 5)) (by first | rw [if_neg (by omega)] | rw [if_pos (by omega)]) ?_
        exact j37 _ _ _ hP hS hl
    · subst hr22
      refine nv_if_eq (tgt := 36) (by omega) hx hb dX1_groupOf_25 (by decide) (fun c25 => ?_) (fun c25 => ?_)
      · refine lv_iconst (v := nI 0) hx hb dX1_groupOf_36 (by decide) ?_
        refine cv_top (b := nI (if g / 2 % 2 = 0 then 0 else p / 4 % 5)) (by first | rw [if_neg (by omega)] | rw [if_pos (by omega)]) ?_
        exact j37 _ _ _ hP hS hl
      · exact absurd c25 (by decide)
  refine lv_aload_n hx hb dX1_groupOf_0 rfl (lv_at hl 0 rfl) ?_
  refine lv_iload_n hx hb dX1_groupOf_1 rfl (lv_at hl 2 rfl) ?_
  refine lv_iconst (v := nI 0) hx hb dX1_groupOf_2 (by decide) ?_
  refine zz_callR (As := [.int (nI g), .int (nI 0)]) (rest := []) S hK hP hS (met1_has l D bd dB n F fo to g 0 (by omega) (by omega)) (cwX1_has hts (by decide)) (md_recv hK hP) rfl hl.1 rfl (by decide) dX1_groupOf_3 ⟨Nat.le_refl 0, Nat.le_refl 0⟩ (fun r3 H locs hr3 hP hS => ?_)
  rcases hr3 with ⟨hr3, e⟩ | ⟨hr3, e⟩
  · subst hr3
    refine nv_if_eq (tgt := 17) (by omega) hx hb dX1_groupOf_6 (by decide) (fun c6 => ?_) (fun c6 => ?_)
    · exact absurd c6 (by decide)
    · refine lv_aload_n hx hb dX1_groupOf_9 rfl (lv_at hl 0 rfl) ?_
      refine lv_iload_n hx hb dX1_groupOf_10 rfl (lv_at hl 1 rfl) ?_
      refine zz_callR (As := [.int (nI p)]) (rest := []) S hK hP hS (met1_region l D bd dB n F fo to p (by omega)) (cwX1_region hts (by decide)) (md_recv hK hP) rfl hl.1 rfl (by decide) dX1_groupOf_11 ⟨Nat.le_refl 0, Nat.le_refl 0⟩ (fun r11 H locs hr11 hP hS => ?_)
      subst hr11
      refine lv_goto (tgt := 18) hx hb dX1_groupOf_14 (by decide) ?_
      refine cv_top (b := nI (if g % 2 = 0 then 0 else p % 4)) (by first | rw [if_neg (by omega)] | rw [if_pos (by omega)]) ?_
      exact j18 _ _ _ hP hS hl
  · subst hr3
    refine nv_if_eq (tgt := 17) (by omega) hx hb dX1_groupOf_6 (by decide) (fun c6 => ?_) (fun c6 => ?_)
    · refine lv_iconst (v := nI 0) hx hb dX1_groupOf_17 (by decide) ?_
      refine cv_top (b := nI (if g % 2 = 0 then 0 else p % 4)) (by first | rw [if_neg (by omega)] | rw [if_pos (by omega)]) ?_
      exact j18 _ _ _ hP hS hl
    · exact absurd c6 (by decide)
set_option maxHeartbeats 4000000 in
theorem met1_look (l : Launch) (D : va_G) (bd : Nat → Nat) (dB : Nat → ClassId) (n : Nat) (F : Nat → Nat → Int32) (fo to : Int32) (hI : mdI bd) (q g f : Nat) (hq : q < 120) (hg : g < 8) (hf : f < 32768) (pl : Nat → Nat) (am : Nat → Int32) (hmd : zc_md n pl am F) : Met l yX1_look (ws_ yX1_look cX1_look 5 none) (rmL 2) (va_Pc [.ref (bd 0), .int (nI q), .int (nI g), .int (nI f)] (Pw D (mdw bd dB n F fo to) (mdT dB))) (Qn D (fun u : Nat × (Nat → Nat → Int32) × Int32 × Int32 => mdw bd dB u.1 u.2.1 u.2.2.1 u.2.2.2) (mdA bd) (fun u => u = (n, F, nI (zc_C n pl g f q), zc_S n pl am g f q))) 0 0 (mdA bd) := by
  refine zz_mkV (by decide) rfl (Nat.le_of_ble_eq_true rfl) ?_
  intro pr e s m args below meth c Q ls S hpre hl hret
  obtain ⟨hP, hK⟩ := hpre
  have hx := S.1
  have hb := S.2.1
  have hown : s.vm.findClass RX1 = some m.cls := S.2.2.2.1
  have hts := S.2.2.2.2
  have hS : va_S (mdA bd) s.heap s.heap [] := va_S.rf
  have hl : lv_has ls 5 [(0, .ref (bd 0)), (1, .int (nI q)), (2, .int (nI g)), (3, .int (nI f))] := hl
  have hn40 := hmd.1
  have L13 : ∀ (dd i : Nat) (H : Heap) (locs : List Loc) (ls : Array Slot), i ≤ n → n + 1 ≤ i + dd → va_P D vwCl (mdw bd dB n F (nI (zc_cnt (zc_sel pl g f q) i)) (zc_sum (zc_sel pl g f q) am i)) H → va_S (mdA bd) s.heap H locs → lv_has ls 5 [(0, .ref (bd 0)), (1, .int (nI q)), (2, .int (nI g)), (3, .int (nI f)), (4, .int (nI i))] → W pr l e (rmL 2) s m args below meth c H locs 0 0 Q (F0 m 13 ls []) := by
    intro dd
    induction dd with
    | zero =>
      intro i  H locs ls hle hdd
      exact absurd hdd (by omega)
    | succ dd ih =>
      intro i  H locs ls hle hdd  hP hS hl
      refine lv_iload hx hb dX1_look_13 (lv_at hl 4 rfl) ?_
      refine lv_aload_n hx hb dX1_look_15 rfl (lv_at hl 0 rfl) ?_
      refine md_g2 hx hb hts hown hK hP dX1_look_16 ?_
      refine nv_icmp_ge (tgt := 85) (by omega) (by omega) hx hb dX1_look_19 (by decide) (fun c19 => ?_) (fun c19 => ?_)
      · have hin : i = n := by omega
        rw [hin] at hP
        exact hret _ _ _ _ (n, F, nI (zc_C n pl g f q), zc_S n pl am g f q) hP hS rfl dX1_look_85
      · refine lv_aload_n hx hb dX1_look_22 rfl (lv_at hl 0 rfl) ?_
        refine lv_aload_n hx hb dX1_look_23 rfl (lv_at hl 0 rfl) ?_
        refine md_g0 hx hb hts hown hK hP dX1_look_24 ?_
        refine lv_iload hx hb dX1_look_27 (lv_at hl 4 rfl) ?_
        refine md_l1 hx hb hK hP i rfl (by omega) dX1_look_29 ?_
        obtain ⟨w1, w2, w3⟩ := hmd.2.1 i (by omega)
        refine cv_top (b := nI (pl i)) (w1) ?_
        refine lv_iload_n hx hb dX1_look_30 rfl (lv_at hl 2 rfl) ?_
        refine zz_callR (As := [.int (nI (pl i)), .int (nI g)]) (rest := []) S hK hP hS (met1_groupOf l D bd dB n F (nI (zc_cnt (zc_sel pl g f q) i)) (zc_sum (zc_sel pl g f q) am i) (pl i) g (by omega) (by omega)) (cwX1_groupOf hts (by decide)) (md_recv hK hP) rfl hl.1 rfl (by decide) dX1_look_31 ⟨Nat.le_refl 0, Nat.le_refl 0⟩ (fun r31 H locs hr31 hP hS => ?_)
        subst hr31
        have hgl31 := zc_grp_lt (p := (pl i)) g (by omega)
        refine lv_iload_n hx hb dX1_look_34 rfl (lv_at hl 1 rfl) ?_
        refine nv_icmp_ne (tgt := 79) (by omega) (by omega) hx hb dX1_look_35 (by decide) (fun c35 => ?_) (fun c35 => ?_)
        · refine lv_iinc (v := nI (i + 1)) (lv' := [(4, .int (nI (i + 1))), (0, .ref (bd 0)), (1, .int (nI q)), (2, .int (nI g)), (3, .int (nI f))]) hx hb dX1_look_79 hl (k := 4) rfl (nI_inc) (by decide) rfl (fun ls hl => ?_)
          refine lv_goto (tgt := 13) hx hb dX1_look_82 (by decide) ?_
          have hs : zc_sel pl g f q i = false := by simp [zc_sel, c35]
          rw [zc_cnt_f hs, zc_sum_f hs] at hP
          exact ih (i + 1) _ _ _ (by omega) (by omega) hP hS (lv_sub hl [1, 2, 3, 4, 0] rfl)
        · refine lv_aload_n hx hb dX1_look_38 rfl (lv_at hl 0 rfl) ?_
          refine lv_aload_n hx hb dX1_look_39 rfl (lv_at hl 0 rfl) ?_
          refine md_g0 hx hb hts hown hK hP dX1_look_40 ?_
          refine lv_iload hx hb dX1_look_43 (lv_at hl 4 rfl) ?_
          refine md_l1 hx hb hK hP i rfl (by omega) dX1_look_45 ?_
          refine cv_top (b := nI (pl i)) (w1) ?_
          refine lv_iload_n hx hb dX1_look_46 rfl (lv_at hl 3 rfl) ?_
          refine zz_callR (As := [.int (nI (pl i)), .int (nI f)]) (rest := []) S hK hP hS (met1_passes l D bd dB n F (nI (zc_cnt (zc_sel pl g f q) i)) (zc_sum (zc_sel pl g f q) am i) (pl i) f (by omega) (by omega)) (cwX1_passes hts (by decide)) (md_recv hK hP) rfl hl.1 rfl (by decide) dX1_look_47 ⟨Nat.le_refl 0, Nat.le_refl 0⟩ (fun r47 H locs hr47 hP hS => ?_)
          rcases hr47 with ⟨hr47, e50⟩ | ⟨hr47, e50⟩
          · subst hr47
            refine nv_if_eq (tgt := 79) (by omega) hx hb dX1_look_50 (by decide) (fun c50 => ?_) (fun c50 => ?_)
            · exact absurd c50 (by decide)
            · refine lv_aload_n hx hb dX1_look_53 rfl (lv_at hl 0 rfl) ?_
              refine lv_dup hx hb dX1_look_54 rfl ?_
              refine md_g3 hx hb hts hown hK hP dX1_look_55 ?_
              refine lv_iconst (v := nI 1) hx hb dX1_look_58 (by decide) ?_
              refine lv_iadd hx hb dX1_look_59 ?_
              refine cv_top (nI_add _ _) ?_
              refine md_p3 hx hb hts hown hK hP hI hS dX1_look_60 (fun H locs hP hS => ?_)
              refine lv_aload_n hx hb dX1_look_63 rfl (lv_at hl 0 rfl) ?_
              refine lv_aload_n hx hb dX1_look_64 rfl (lv_at hl 0 rfl) ?_
              refine md_g4 hx hb hts hown hK hP dX1_look_65 ?_
              refine lv_aload_n hx hb dX1_look_68 rfl (lv_at hl 0 rfl) ?_
              refine md_g1 hx hb hts hown hK hP dX1_look_69 ?_
              refine lv_iload hx hb dX1_look_72 (lv_at hl 4 rfl) ?_
              refine md_l2 hx hb hK hP i rfl (by omega) dX1_look_74 ?_
              refine cv_top (b := am i) (w3) ?_
              refine lv_iadd hx hb dX1_look_75 ?_
              refine lv_topi (fun x_1 ex_1 => ?_)
              refine md_p4 hx hb hts hown hK hP hI hS dX1_look_76 (fun H locs hP hS => ?_)
              refine lv_iinc (v := nI (i + 1)) (lv' := [(4, .int (nI (i + 1))), (0, .ref (bd 0)), (1, .int (nI q)), (2, .int (nI g)), (3, .int (nI f))]) hx hb dX1_look_79 hl (k := 4) rfl (nI_inc) (by decide) rfl (fun ls hl => ?_)
              refine lv_goto (tgt := 13) hx hb dX1_look_82 (by decide) ?_
              have hs : zc_sel pl g f q i = true := by simp [zc_sel, e50, c35]
              rw [zc_cnt_t hs, ex_1, zc_sum_t hs] at hP
              exact ih (i + 1) _ _ _ (by omega) (by omega) hP hS (lv_sub hl [1, 2, 3, 4, 0] rfl)
          · subst hr47
            refine nv_if_eq (tgt := 79) (by omega) hx hb dX1_look_50 (by decide) (fun c50 => ?_) (fun c50 => ?_)
            · refine lv_iinc (v := nI (i + 1)) (lv' := [(4, .int (nI (i + 1))), (0, .ref (bd 0)), (1, .int (nI q)), (2, .int (nI g)), (3, .int (nI f))]) hx hb dX1_look_79 hl (k := 4) rfl (nI_inc) (by decide) rfl (fun ls hl => ?_)
              refine lv_goto (tgt := 13) hx hb dX1_look_82 (by decide) ?_
              have hs : zc_sel pl g f q i = false := by simp [zc_sel, e50]
              rw [zc_cnt_f hs, zc_sum_f hs] at hP
              exact ih (i + 1) _ _ _ (by omega) (by omega) hP hS (lv_sub hl [1, 2, 3, 4, 0] rfl)
            · exact absurd c50 (by decide)
  refine lv_aload_n hx hb dX1_look_0 rfl (lv_at hl 0 rfl) ?_
  refine lv_iconst (v := nI 0) hx hb dX1_look_1 (by decide) ?_
  refine md_p3 hx hb hts hown hK hP hI hS dX1_look_2 (fun H locs hP hS => ?_)
  refine lv_aload_n hx hb dX1_look_5 rfl (lv_at hl 0 rfl) ?_
  refine lv_iconst (v := nI 0) hx hb dX1_look_6 (by decide) ?_
  refine md_p4 hx hb hts hown hK hP hI hS dX1_look_7 (fun H locs hP hS => ?_)
  refine lv_iconst (v := nI 0) hx hb dX1_look_10 (by decide) ?_
  refine lv_istore (lv' := [(4, .int (nI 0)), (0, .ref (bd 0)), (1, .int (nI q)), (2, .int (nI g)), (3, .int (nI f))]) hx hb dX1_look_11 hl (by decide) rfl (fun ls hl => ?_)
  exact L13 (n + 1) 0 _ _ _ (by omega) (by omega) hP hS (lv_sub hl [1, 2, 3, 4, 0] rfl)
end
section
set_option maxRecDepth 100000
set_option maxHeartbeats 4000000 in
theorem met1_count (l : Launch) (D : va_G) (bd : Nat → Nat) (dB : Nat → ClassId) (n : Nat) (F : Nat → Nat → Int32) (fo to : Int32) (hI : mdI bd) (pl : Nat → Nat) (am : Nat → Int32) (hmd : zc_md n pl am F) (a : Int32) : Met l yX1_count (ws_ yX1_count cX1_count 2 (some .int)) (rmL 3) (va_Pc [.ref (bd 0), .int a] (Pw D (mdw bd dB n F fo to) (mdT dB))) (Qm D (fun u : Nat × (Nat → Nat → Int32) × Int32 × Int32 => mdw bd dB u.1 u.2.1 u.2.2.1 u.2.2.2) (mdA bd) (fun r u => zc_RX (zc_okF a) (fun f r => r = nI (zc_C n pl 0 f 0)) r ∧ u.1 = n ∧ zc_md n pl am u.2.1)) 0 0 (mdA bd) := by
  refine zz_mkM (by decide) rfl (Nat.le_of_ble_eq_true rfl) ?_
  intro pr e s m args below meth c Q ls S hpre hl hret
  obtain ⟨hP, hK⟩ := hpre
  have hx := S.1
  have hb := S.2.1
  have hown : s.vm.findClass RX1 = some m.cls := S.2.2.2.1
  have hts := S.2.2.2.2
  have hS : va_S (mdA bd) s.heap s.heap [] := va_S.rf
  have hl : lv_has ls 2 [(0, .ref (bd 0)), (1, .int a)] := hl
  have hn40 := hmd.1
  refine lv_aload_n hx hb dX1_count_0 rfl (lv_at hl 0 rfl) ?_
  refine lv_iload_n hx hb dX1_count_1 rfl (lv_at hl 1 rfl) ?_
  refine zz_callR (As := [.int a]) (rest := []) S hK hP hS (met1_isFilter l D bd dB n F fo to a) (cwX1_isFilter hts (by decide)) (md_recv hK hP) rfl hl.1 rfl (by decide) dX1_count_2 ⟨Nat.le_refl 0, Nat.le_refl 0⟩ (fun r2 H locs hr2 hP hS => ?_)
  rcases hr2 with ⟨hr2, f, hf, ha⟩ | ⟨hr2, hno⟩
  · subst hr2
    rw [ha] at hl
    refine nv_if_ne (tgt := 11) (by omega) hx hb dX1_count_5 (by decide) (fun c5 => ?_) (fun c5 => ?_)
    · refine lv_aload_n hx hb dX1_count_11 rfl (lv_at hl 0 rfl) ?_
      refine lv_iconst (v := nI 0) hx hb dX1_count_12 (by decide) ?_
      refine lv_iconst (v := nI 0) hx hb dX1_count_13 (by decide) ?_
      refine lv_iload_n hx hb dX1_count_14 rfl (lv_at hl 1 rfl) ?_
      refine zz_callV (As := [.int (nI 0), .int (nI 0), .int (nI f)]) (rest := []) S hK hP hS (fun _ h => h) (met1_look l D bd dB n F fo to hI 0 0 f (by omega) (by omega) (by omega) pl am hmd) (cwX1_look hts (by decide)) (md_recv hK hP) rfl hl.1 rfl (by decide) dX1_count_15 ⟨Nat.le_refl 0, Nat.le_refl 0⟩ (fun u_1 H locs hr15 hP _ hS => ?_)
      subst hr15
      replace hP : va_P D vwCl (mdw bd dB n F (nI (zc_C n pl 0 f 0)) (zc_S n pl am 0 f 0)) H := hP
      refine lv_aload_n hx hb dX1_count_18 rfl (lv_at hl 0 rfl) ?_
      refine md_g3 hx hb hts hown hK hP dX1_count_19 ?_
      exact hret _ _ _ _ _ (n, F, nI (zc_C n pl 0 f 0), (zc_S n pl am 0 f 0)) hP hS (⟨Or.inl ⟨f, ⟨hf, ha⟩, rfl⟩, rfl, hmd⟩) dX1_count_22
    · exact absurd c5 (by decide)
  · subst hr2
    refine nv_if_ne (tgt := 11) (by omega) hx hb dX1_count_5 (by decide) (fun c5 => ?_) (fun c5 => ?_)
    · exact absurd c5 (by decide)
    · refine lv_ldc (v := (-1000000)) hx hb hown (hts _ q228) dX1_count_8 ?_
      exact hret _ _ _ _ _ (n, F, fo, to) hP hS (⟨Or.inr ⟨fun x w => hno ⟨x, w⟩, rfl⟩, rfl, hmd⟩) dX1_count_10
set_option maxHeartbeats 4000000 in
theorem met1_sum (l : Launch) (D : va_G) (bd : Nat → Nat) (dB : Nat → ClassId) (n : Nat) (F : Nat → Nat → Int32) (fo to : Int32) (hI : mdI bd) (pl : Nat → Nat) (am : Nat → Int32) (hmd : zc_md n pl am F) (a : Int32) : Met l yX1_sum (ws_ yX1_sum cX1_sum 2 (some .int)) (rmL 3) (va_Pc [.ref (bd 0), .int a] (Pw D (mdw bd dB n F fo to) (mdT dB))) (Qm D (fun u : Nat × (Nat → Nat → Int32) × Int32 × Int32 => mdw bd dB u.1 u.2.1 u.2.2.1 u.2.2.2) (mdA bd) (fun r u => zc_RX (zc_okF a) (fun f r => r = zc_S n pl am 0 f 0) r ∧ u.1 = n ∧ zc_md n pl am u.2.1)) 0 0 (mdA bd) := by
  refine zz_mkM (by decide) rfl (Nat.le_of_ble_eq_true rfl) ?_
  intro pr e s m args below meth c Q ls S hpre hl hret
  obtain ⟨hP, hK⟩ := hpre
  have hx := S.1
  have hb := S.2.1
  have hown : s.vm.findClass RX1 = some m.cls := S.2.2.2.1
  have hts := S.2.2.2.2
  have hS : va_S (mdA bd) s.heap s.heap [] := va_S.rf
  have hl : lv_has ls 2 [(0, .ref (bd 0)), (1, .int a)] := hl
  have hn40 := hmd.1
  refine lv_aload_n hx hb dX1_sum_0 rfl (lv_at hl 0 rfl) ?_
  refine lv_iload_n hx hb dX1_sum_1 rfl (lv_at hl 1 rfl) ?_
  refine zz_callR (As := [.int a]) (rest := []) S hK hP hS (met1_isFilter l D bd dB n F fo to a) (cwX1_isFilter hts (by decide)) (md_recv hK hP) rfl hl.1 rfl (by decide) dX1_sum_2 ⟨Nat.le_refl 0, Nat.le_refl 0⟩ (fun r2 H locs hr2 hP hS => ?_)
  rcases hr2 with ⟨hr2, f, hf, ha⟩ | ⟨hr2, hno⟩
  · subst hr2
    rw [ha] at hl
    refine nv_if_ne (tgt := 11) (by omega) hx hb dX1_sum_5 (by decide) (fun c5 => ?_) (fun c5 => ?_)
    · refine lv_aload_n hx hb dX1_sum_11 rfl (lv_at hl 0 rfl) ?_
      refine lv_iconst (v := nI 0) hx hb dX1_sum_12 (by decide) ?_
      refine lv_iconst (v := nI 0) hx hb dX1_sum_13 (by decide) ?_
      refine lv_iload_n hx hb dX1_sum_14 rfl (lv_at hl 1 rfl) ?_
      refine zz_callV (As := [.int (nI 0), .int (nI 0), .int (nI f)]) (rest := []) S hK hP hS (fun _ h => h) (met1_look l D bd dB n F fo to hI 0 0 f (by omega) (by omega) (by omega) pl am hmd) (cwX1_look hts (by decide)) (md_recv hK hP) rfl hl.1 rfl (by decide) dX1_sum_15 ⟨Nat.le_refl 0, Nat.le_refl 0⟩ (fun u_1 H locs hr15 hP _ hS => ?_)
      subst hr15
      replace hP : va_P D vwCl (mdw bd dB n F (nI (zc_C n pl 0 f 0)) (zc_S n pl am 0 f 0)) H := hP
      refine lv_aload_n hx hb dX1_sum_18 rfl (lv_at hl 0 rfl) ?_
      refine md_g4 hx hb hts hown hK hP dX1_sum_19 ?_
      exact hret _ _ _ _ _ (n, F, nI (zc_C n pl 0 f 0), (zc_S n pl am 0 f 0)) hP hS (⟨Or.inl ⟨f, ⟨hf, ha⟩, rfl⟩, rfl, hmd⟩) dX1_sum_22
    · exact absurd c5 (by decide)
  · subst hr2
    refine nv_if_ne (tgt := 11) (by omega) hx hb dX1_sum_5 (by decide) (fun c5 => ?_) (fun c5 => ?_)
    · exact absurd c5 (by decide)
    · refine lv_ldc (v := (-1000000)) hx hb hown (hts _ q228) dX1_sum_8 ?_
      exact hret _ _ _ _ _ (n, F, fo, to) hP hS (⟨Or.inr ⟨fun x w => hno ⟨x, w⟩, rfl⟩, rfl, hmd⟩) dX1_sum_10
set_option maxHeartbeats 4000000 in
theorem met1_facts (l : Launch) (D : va_G) (bd : Nat → Nat) (dB : Nat → ClassId) (n : Nat) (F : Nat → Nat → Int32) (fo to : Int32) (hI : mdI bd) (pl : Nat → Nat) (am : Nat → Int32) (hmd : zc_md n pl am F)  : Met l yX1_facts (ws_ yX1_facts cX1_facts 1 (some .int)) (rmL 0) (va_Pc [.ref (bd 0)] (Pw D (mdw bd dB n F fo to) (mdT dB))) (Qm D (fun u : Nat × (Nat → Nat → Int32) × Int32 × Int32 => mdw bd dB u.1 u.2.1 u.2.2.1 u.2.2.2) (mdA bd) (fun r u => r = nI n ∧ u.1 = n ∧ zc_md n pl am u.2.1)) 0 0 (mdA bd) := by
  refine zz_mkM (by decide) rfl (Nat.le_of_ble_eq_true rfl) ?_
  intro pr e s m args below meth c Q ls S hpre hl hret
  obtain ⟨hP, hK⟩ := hpre
  have hx := S.1
  have hb := S.2.1
  have hown : s.vm.findClass RX1 = some m.cls := S.2.2.2.1
  have hts := S.2.2.2.2
  have hS : va_S (mdA bd) s.heap s.heap [] := va_S.rf
  have hl : lv_has ls 1 [(0, .ref (bd 0))] := hl
  have hn40 := hmd.1
  refine lv_aload_n hx hb dX1_facts_0 rfl (lv_at hl 0 rfl) ?_
  refine md_g2 hx hb hts hown hK hP dX1_facts_1 ?_
  exact hret _ _ _ _ _ (n, F, fo, to) hP hS (⟨rfl, rfl, hmd⟩) dX1_facts_4
set_option maxHeartbeats 4000000 in
theorem met1_plan (l : Launch) (D : va_G) (bd : Nat → Nat) (dB : Nat → ClassId) (n : Nat) (F : Nat → Nat → Int32) (fo to : Int32) (hI : mdI bd) (pl : Nat → Nat) (am : Nat → Int32) (hmd : zc_md n pl am F) (a : Int32) : Met l yX1_plan (ws_ yX1_plan cX1_plan 2 (some .int)) (rmL 0) (va_Pc [.ref (bd 0), .int a] (Pw D (mdw bd dB n F fo to) (mdT dB))) (Qm D (fun u : Nat × (Nat → Nat → Int32) × Int32 × Int32 => mdw bd dB u.1 u.2.1 u.2.2.1 u.2.2.2) (mdA bd) (fun r u => zc_RX (zc_okP a) (fun _ r => r = nI 0) r ∧ u.1 = n ∧ zc_md n pl am u.2.1)) 0 0 (mdA bd) := by
  refine zz_mkM (by decide) rfl (Nat.le_of_ble_eq_true rfl) ?_
  intro pr e s m args below meth c Q ls S hpre hl hret
  obtain ⟨hP, hK⟩ := hpre
  have hx := S.1
  have hb := S.2.1
  have hown : s.vm.findClass RX1 = some m.cls := S.2.2.2.1
  have hts := S.2.2.2.2
  have hS : va_S (mdA bd) s.heap s.heap [] := va_S.rf
  have hl : lv_has ls 2 [(0, .ref (bd 0)), (1, .int a)] := hl
  have hn40 := hmd.1
  refine lv_iload_n hx hb dX1_plan_0 rfl (lv_at hl 1 rfl) ?_
  refine lv_if_lt (tgt := 11) hx hb dX1_plan_1 (by decide) (fun c1 => ?_) (fun c1 => ?_)
  · refine lv_ldc (v := (-1000000)) hx hb hown (hts _ q228) dX1_plan_11 ?_
    refine lv_goto (tgt := 17) hx hb dX1_plan_13 (by decide) ?_
    exact hret _ _ _ _ _ (n, F, fo, to) hP hS (⟨Or.inr ⟨fun x w => zc_no_lt c1 w.2 (by have := w.1; omega), rfl⟩, rfl, hmd⟩) dX1_plan_17
  · refine lv_iload_n hx hb dX1_plan_4 rfl (lv_at hl 1 rfl) ?_
    refine lv_sipush (v := nI 200) hx hb dX1_plan_5 (by decide) ?_
    refine lv_icmp_le (tgt := 16) hx hb dX1_plan_8 (by decide) (fun c8 => ?_) (fun c8 => ?_)
    · refine lv_iconst (v := nI 0) hx hb dX1_plan_16 (by decide) ?_
      obtain ⟨mm, hm, ha⟩ := zc_ge0 (b := 200) (by decide) c1 c8
      exact hret _ _ _ _ _ (n, F, fo, to) hP hS (⟨Or.inl ⟨mm, ⟨hm, ha⟩, rfl⟩, rfl, hmd⟩) dX1_plan_17
    · refine lv_ldc (v := (-1000000)) hx hb hown (hts _ q228) dX1_plan_11 ?_
      refine lv_goto (tgt := 17) hx hb dX1_plan_13 (by decide) ?_
      exact hret _ _ _ _ _ (n, F, fo, to) hP hS (⟨Or.inr ⟨fun x w => zc_no_nle c8 w.2 w.1 (by decide), rfl⟩, rfl, hmd⟩) dX1_plan_17
set_option maxHeartbeats 4000000 in
theorem met1_groups (l : Launch) (D : va_G) (bd : Nat → Nat) (dB : Nat → ClassId) (n : Nat) (F : Nat → Nat → Int32) (fo to : Int32) (hI : mdI bd) (pl : Nat → Nat) (am : Nat → Int32) (hmd : zc_md n pl am F) (a b : Int32) : Met l yX1_groups (ws_ yX1_groups cX1_groups 5 (some .int)) (rmL 3) (va_Pc [.ref (bd 0), .int a, .int b] (Pw D (mdw bd dB n F fo to) (mdT dB))) (Qm D (fun u : Nat × (Nat → Nat → Int32) × Int32 × Int32 => mdw bd dB u.1 u.2.1 u.2.2.1 u.2.2.2) (mdA bd) (fun r u => zc_RX (zc_okGF a b) (fun x r => r = nI (zc_ng (zc_C n pl x.1 x.2) 120)) r ∧ u.1 = n ∧ zc_md n pl am u.2.1)) 0 0 (mdA bd) := by
  refine zz_mkM (by decide) rfl (Nat.le_of_ble_eq_true rfl) ?_
  intro pr e s m args below meth c Q ls S hpre hl hret
  obtain ⟨hP, hK⟩ := hpre
  have hx := S.1
  have hb := S.2.1
  have hown : s.vm.findClass RX1 = some m.cls := S.2.2.2.1
  have hts := S.2.2.2.2
  have hS : va_S (mdA bd) s.heap s.heap [] := va_S.rf
  have hl : lv_has ls 5 [(0, .ref (bd 0)), (1, .int a), (2, .int b)] := hl
  have hn40 := hmd.1
  refine lv_aload_n hx hb dX1_groups_0 rfl (lv_at hl 0 rfl) ?_
  refine lv_iload_n hx hb dX1_groups_1 rfl (lv_at hl 1 rfl) ?_
  refine zz_callR (As := [.int a]) (rest := []) S hK hP hS (met1_isGrouping l D bd dB n F fo to a) (cwX1_isGrouping hts (by decide)) (md_recv hK hP) rfl hl.1 rfl (by decide) dX1_groups_2 ⟨Nat.le_refl 0, Nat.le_refl 0⟩ (fun r2 H locs hr2 hP hS => ?_)
  rcases hr2 with ⟨hr2, G, hG, ha⟩ | ⟨hr2, hno⟩
  · subst hr2
    rw [ha] at hl
    refine nv_if_eq (tgt := 16) (by omega) hx hb dX1_groups_5 (by decide) (fun c5 => ?_) (fun c5 => ?_)
    · exact absurd c5 (by decide)
    · refine lv_aload_n hx hb dX1_groups_8 rfl (lv_at hl 0 rfl) ?_
      refine lv_iload_n hx hb dX1_groups_9 rfl (lv_at hl 2 rfl) ?_
      refine zz_callR (As := [.int b]) (rest := []) S hK hP hS (met1_isFilter l D bd dB n F fo to b) (cwX1_isFilter hts (by decide)) (md_recv hK hP) rfl hl.1 rfl (by decide) dX1_groups_10 ⟨Nat.le_refl 0, Nat.le_refl 0⟩ (fun r10 H locs hr10 hP hS => ?_)
      rcases hr10 with ⟨hr10, f, hf, hb2⟩ | ⟨hr10, hno⟩
      · subst hr10
        rw [hb2] at hl
        refine nv_if_ne (tgt := 19) (by omega) hx hb dX1_groups_13 (by decide) (fun c13 => ?_) (fun c13 => ?_)
        · have L24 : ∀ (dd k : Nat) (fo1 to1 : Int32) (H : Heap) (locs : List Loc) (ls : Array Slot), k ≤ 120 → 120 + 1 ≤ k + dd → va_P D vwCl (mdw bd dB n F fo1 to1) H → va_S (mdA bd) s.heap H locs → lv_has ls 5 [(0, .ref (bd 0)), (1, .int (nI G)), (2, .int (nI f)), (3, .int (nI (zc_ng (zc_C n pl G f) k))), (4, .int (nI k))] → W pr l e (rmL 3) s m args below meth c H locs 0 0 Q (F0 m 24 ls []) := by
            intro dd
            induction dd with
            | zero =>
              intro k fo1 to1 H locs ls hle hdd
              exact absurd hdd (by omega)
            | succ dd ih =>
              intro k fo1 to1 H locs ls hle hdd  hP hS hl
              refine lv_iload hx hb dX1_groups_24 (lv_at hl 4 rfl) ?_
              refine lv_bipush (v := nI 120) hx hb dX1_groups_26 (by decide) ?_
              refine nv_icmp_ge (tgt := 60) (by omega) (by omega) hx hb dX1_groups_28 (by decide) (fun c28 => ?_) (fun c28 => ?_)
              · refine lv_iload_n hx hb dX1_groups_60 rfl (lv_at hl 3 rfl) ?_
                have hin : k = 120 := by omega
                rw [hin]
                exact hret _ _ _ _ _ (n, F, fo1, to1) hP hS (⟨Or.inl ⟨(G, f), ⟨⟨hG, ha⟩, hf, hb2⟩, rfl⟩, rfl, hmd⟩) dX1_groups_61
              · refine lv_aload_n hx hb dX1_groups_31 rfl (lv_at hl 0 rfl) ?_
                refine lv_iload hx hb dX1_groups_32 (lv_at hl 4 rfl) ?_
                refine lv_iload_n hx hb dX1_groups_34 rfl (lv_at hl 1 rfl) ?_
                refine lv_iload_n hx hb dX1_groups_35 rfl (lv_at hl 2 rfl) ?_
                refine zz_callV (As := [.int (nI k), .int (nI G), .int (nI f)]) (rest := []) S hK hP hS (fun _ h => h) (met1_look l D bd dB n F fo1 to1 hI k G f (by omega) (by omega) (by omega) pl am hmd) (cwX1_look hts (by decide)) (md_recv hK hP) rfl hl.1 rfl (by decide) dX1_groups_36 ⟨Nat.le_refl 0, Nat.le_refl 0⟩ (fun u_1 H locs hr36 hP _ hS => ?_)
                subst hr36
                replace hP : va_P D vwCl (mdw bd dB n F (nI (zc_C n pl G f k)) (zc_S n pl am G f k)) H := hP
                refine lv_aload_n hx hb dX1_groups_39 rfl (lv_at hl 0 rfl) ?_
                refine md_g3 hx hb hts hown hK hP dX1_groups_40 ?_
                have hcl := zc_C_le n pl G f k
                have hng := zc_ng_le (zc_C n pl G f) k
                refine nv_if_le (tgt := 52) (by omega) hx hb dX1_groups_43 (by decide) (fun c43 => ?_) (fun c43 => ?_)
                · refine lv_iload_n hx hb dX1_groups_52 rfl (lv_at hl 3 rfl) ?_
                  refine cv_top (b := nI (zc_ng (zc_C n pl G f) (k + 1))) (by rw [zc_ng_no c43]) ?_
                  refine lv_istore_n (lv' := [(3, .int (nI (zc_ng (zc_C n pl G f) (k + 1)))), (0, .ref (bd 0)), (1, .int (nI G)), (2, .int (nI f)), (4, .int (nI k))]) hx hb dX1_groups_53 rfl hl (by decide) rfl (fun ls hl => ?_)
                  refine lv_iinc (v := nI (k + 1)) (lv' := [(4, .int (nI (k + 1))), (3, .int (nI (zc_ng (zc_C n pl G f) (k + 1)))), (0, .ref (bd 0)), (1, .int (nI G)), (2, .int (nI f))]) hx hb dX1_groups_54 hl (k := 4) rfl (nI_inc) (by decide) rfl (fun ls hl => ?_)
                  refine lv_goto (tgt := 24) hx hb dX1_groups_57 (by decide) ?_
                  exact ih (k + 1) _ _ _ _ _ (by omega) (by omega) hP hS (lv_sub hl [2, 3, 4, 1, 0] rfl)
                · refine lv_iload_n hx hb dX1_groups_46 rfl (lv_at hl 3 rfl) ?_
                  refine lv_iconst (v := nI 1) hx hb dX1_groups_47 (by decide) ?_
                  refine lv_iadd hx hb dX1_groups_48 ?_
                  refine cv_top (nI_add _ _) ?_
                  refine lv_goto (tgt := 53) hx hb dX1_groups_49 (by decide) ?_
                  refine cv_top (b := nI (zc_ng (zc_C n pl G f) (k + 1))) (by rw [zc_ng_yes c43]) ?_
                  refine lv_istore_n (lv' := [(3, .int (nI (zc_ng (zc_C n pl G f) (k + 1)))), (0, .ref (bd 0)), (1, .int (nI G)), (2, .int (nI f)), (4, .int (nI k))]) hx hb dX1_groups_53 rfl hl (by decide) rfl (fun ls hl => ?_)
                  refine lv_iinc (v := nI (k + 1)) (lv' := [(4, .int (nI (k + 1))), (3, .int (nI (zc_ng (zc_C n pl G f) (k + 1)))), (0, .ref (bd 0)), (1, .int (nI G)), (2, .int (nI f))]) hx hb dX1_groups_54 hl (k := 4) rfl (nI_inc) (by decide) rfl (fun ls hl => ?_)
                  refine lv_goto (tgt := 24) hx hb dX1_groups_57 (by decide) ?_
                  exact ih (k + 1) _ _ _ _ _ (by omega) (by omega) hP hS (lv_sub hl [2, 3, 4, 1, 0] rfl)
          refine lv_iconst (v := nI 0) hx hb dX1_groups_19 (by decide) ?_
          refine lv_istore_n (lv' := [(3, .int (nI 0)), (0, .ref (bd 0)), (1, .int (nI G)), (2, .int (nI f))]) hx hb dX1_groups_20 rfl hl (by decide) rfl (fun ls hl => ?_)
          refine lv_iconst (v := nI 0) hx hb dX1_groups_21 (by decide) ?_
          refine lv_istore (lv' := [(4, .int (nI 0)), (3, .int (nI 0)), (0, .ref (bd 0)), (1, .int (nI G)), (2, .int (nI f))]) hx hb dX1_groups_22 hl (by decide) rfl (fun ls hl => ?_)
          exact L24 121 0 _ _ _ _ _ (by omega) (by omega) hP hS (lv_sub hl [2, 3, 4, 1, 0] rfl)
        · exact absurd c13 (by decide)
      · subst hr10
        refine nv_if_ne (tgt := 19) (by omega) hx hb dX1_groups_13 (by decide) (fun c13 => ?_) (fun c13 => ?_)
        · exact absurd c13 (by decide)
        · refine lv_ldc (v := (-1000000)) hx hb hown (hts _ q228) dX1_groups_16 ?_
          exact hret _ _ _ _ _ (n, F, fo, to) hP hS (⟨Or.inr ⟨fun x w => hno ⟨x.2, w.2⟩, rfl⟩, rfl, hmd⟩) dX1_groups_18
  · subst hr2
    refine nv_if_eq (tgt := 16) (by omega) hx hb dX1_groups_5 (by decide) (fun c5 => ?_) (fun c5 => ?_)
    · refine lv_ldc (v := (-1000000)) hx hb hown (hts _ q228) dX1_groups_16 ?_
      exact hret _ _ _ _ _ (n, F, fo, to) hP hS (⟨Or.inr ⟨fun x w => hno ⟨x.1, w.1⟩, rfl⟩, rfl, hmd⟩) dX1_groups_18
    · exact absurd c5 (by decide)
set_option maxHeartbeats 4000000 in
theorem met1_atLeast (l : Launch) (D : va_G) (bd : Nat → Nat) (dB : Nat → ClassId) (n : Nat) (F : Nat → Nat → Int32) (fo to : Int32) (hI : mdI bd) (pl : Nat → Nat) (am : Nat → Int32) (hmd : zc_md n pl am F) (a x : Int32) : Met l yX1_atLeast (ws_ yX1_atLeast cX1_atLeast 5 (some .int)) (rmL 3) (va_Pc [.ref (bd 0), .int a, .int x] (Pw D (mdw bd dB n F fo to) (mdT dB))) (Qm D (fun u : Nat × (Nat → Nat → Int32) × Int32 × Int32 => mdw bd dB u.1 u.2.1 u.2.2.1 u.2.2.2) (mdA bd) (fun r u => zc_RX (zc_okG a) (fun G r => r = nI (zc_na (zc_C n pl G 32767) (zc_S n pl am G 32767) x 120)) r ∧ u.1 = n ∧ zc_md n pl am u.2.1)) 0 0 (mdA bd) := by
  refine zz_mkM (by decide) rfl (Nat.le_of_ble_eq_true rfl) ?_
  intro pr e s m args below meth c Q ls S hpre hl hret
  obtain ⟨hP, hK⟩ := hpre
  have hx := S.1
  have hb := S.2.1
  have hown : s.vm.findClass RX1 = some m.cls := S.2.2.2.1
  have hts := S.2.2.2.2
  have hS : va_S (mdA bd) s.heap s.heap [] := va_S.rf
  have hl : lv_has ls 5 [(0, .ref (bd 0)), (1, .int a), (2, .int x)] := hl
  have hn40 := hmd.1
  refine lv_aload_n hx hb dX1_atLeast_0 rfl (lv_at hl 0 rfl) ?_
  refine lv_iload_n hx hb dX1_atLeast_1 rfl (lv_at hl 1 rfl) ?_
  refine zz_callR (As := [.int a]) (rest := []) S hK hP hS (met1_isGrouping l D bd dB n F fo to a) (cwX1_isGrouping hts (by decide)) (md_recv hK hP) rfl hl.1 rfl (by decide) dX1_atLeast_2 ⟨Nat.le_refl 0, Nat.le_refl 0⟩ (fun r2 H locs hr2 hP hS => ?_)
  rcases hr2 with ⟨hr2, G, hG, ha⟩ | ⟨hr2, hno⟩
  · subst hr2
    rw [ha] at hl
    refine nv_if_ne (tgt := 11) (by omega) hx hb dX1_atLeast_5 (by decide) (fun c5 => ?_) (fun c5 => ?_)
    · have L16 : ∀ (dd k : Nat) (fo1 to1 : Int32) (H : Heap) (locs : List Loc) (ls : Array Slot), k ≤ 120 → 120 + 1 ≤ k + dd → va_P D vwCl (mdw bd dB n F fo1 to1) H → va_S (mdA bd) s.heap H locs → lv_has ls 5 [(0, .ref (bd 0)), (1, .int (nI G)), (2, .int x), (3, .int (nI (zc_na (zc_C n pl G 32767) (zc_S n pl am G 32767) x k))), (4, .int (nI k))] → W pr l e (rmL 3) s m args below meth c H locs 0 0 Q (F0 m 16 ls []) := by
        intro dd
        induction dd with
        | zero =>
          intro k fo1 to1 H locs ls hle hdd
          exact absurd hdd (by omega)
        | succ dd ih =>
          intro k fo1 to1 H locs ls hle hdd  hP hS hl
          refine lv_iload hx hb dX1_atLeast_16 (lv_at hl 4 rfl) ?_
          refine lv_bipush (v := nI 120) hx hb dX1_atLeast_18 (by decide) ?_
          refine nv_icmp_ge (tgt := 62) (by omega) (by omega) hx hb dX1_atLeast_20 (by decide) (fun c20 => ?_) (fun c20 => ?_)
          · refine lv_iload_n hx hb dX1_atLeast_62 rfl (lv_at hl 3 rfl) ?_
            have hin : k = 120 := by omega
            rw [hin]
            exact hret _ _ _ _ _ (n, F, fo1, to1) hP hS (⟨Or.inl ⟨G, ⟨hG, ha⟩, rfl⟩, rfl, hmd⟩) dX1_atLeast_63
          · refine lv_aload_n hx hb dX1_atLeast_23 rfl (lv_at hl 0 rfl) ?_
            refine lv_iload hx hb dX1_atLeast_24 (lv_at hl 4 rfl) ?_
            refine lv_iload_n hx hb dX1_atLeast_26 rfl (lv_at hl 1 rfl) ?_
            refine lv_sipush (v := nI 32767) hx hb dX1_atLeast_27 (by decide) ?_
            refine zz_callV (As := [.int (nI k), .int (nI G), .int (nI 32767)]) (rest := []) S hK hP hS (fun _ h => h) (met1_look l D bd dB n F fo1 to1 hI k G 32767 (by omega) (by omega) (by omega) pl am hmd) (cwX1_look hts (by decide)) (md_recv hK hP) rfl hl.1 rfl (by decide) dX1_atLeast_30 ⟨Nat.le_refl 0, Nat.le_refl 0⟩ (fun u_1 H locs hr30 hP _ hS => ?_)
            subst hr30
            replace hP : va_P D vwCl (mdw bd dB n F (nI (zc_C n pl G 32767 k)) (zc_S n pl am G 32767 k)) H := hP
            refine lv_aload_n hx hb dX1_atLeast_33 rfl (lv_at hl 0 rfl) ?_
            refine md_g3 hx hb hts hown hK hP dX1_atLeast_34 ?_
            have hcl := zc_C_le n pl G 32767 k
            have hna := zc_na_le (zc_C n pl G 32767) (zc_S n pl am G 32767) x k
            refine nv_if_le (tgt := 54) (by omega) hx hb dX1_atLeast_37 (by decide) (fun c37 => ?_) (fun c37 => ?_)
            · refine lv_iload_n hx hb dX1_atLeast_54 rfl (lv_at hl 3 rfl) ?_
              refine cv_top (b := nI (zc_na (zc_C n pl G 32767) (zc_S n pl am G 32767) x (k + 1))) (by rw [zc_na_no c37]) ?_
              refine lv_istore_n (lv' := [(3, .int (nI (zc_na (zc_C n pl G 32767) (zc_S n pl am G 32767) x (k + 1)))), (0, .ref (bd 0)), (1, .int (nI G)), (2, .int x), (4, .int (nI k))]) hx hb dX1_atLeast_55 rfl hl (by decide) rfl (fun ls hl => ?_)
              refine lv_iinc (v := nI (k + 1)) (lv' := [(4, .int (nI (k + 1))), (3, .int (nI (zc_na (zc_C n pl G 32767) (zc_S n pl am G 32767) x (k + 1)))), (0, .ref (bd 0)), (1, .int (nI G)), (2, .int x)]) hx hb dX1_atLeast_56 hl (k := 4) rfl (nI_inc) (by decide) rfl (fun ls hl => ?_)
              refine lv_goto (tgt := 16) hx hb dX1_atLeast_59 (by decide) ?_
              exact ih (k + 1) _ _ _ _ _ (by omega) (by omega) hP hS (lv_sub hl [2, 3, 4, 1, 0] rfl)
            · refine lv_aload_n hx hb dX1_atLeast_40 rfl (lv_at hl 0 rfl) ?_
              refine md_g4 hx hb hts hown hK hP dX1_atLeast_41 ?_
              refine lv_iload_n hx hb dX1_atLeast_44 rfl (lv_at hl 2 rfl) ?_
              refine lv_icmp_lt (tgt := 54) hx hb dX1_atLeast_45 (by decide) (fun c45 => ?_) (fun c45 => ?_)
              · refine lv_iload_n hx hb dX1_atLeast_54 rfl (lv_at hl 3 rfl) ?_
                refine cv_top (b := nI (zc_na (zc_C n pl G 32767) (zc_S n pl am G 32767) x (k + 1))) (by rw [zc_na_lt c45]) ?_
                refine lv_istore_n (lv' := [(3, .int (nI (zc_na (zc_C n pl G 32767) (zc_S n pl am G 32767) x (k + 1)))), (0, .ref (bd 0)), (1, .int (nI G)), (2, .int x), (4, .int (nI k))]) hx hb dX1_atLeast_55 rfl hl (by decide) rfl (fun ls hl => ?_)
                refine lv_iinc (v := nI (k + 1)) (lv' := [(4, .int (nI (k + 1))), (3, .int (nI (zc_na (zc_C n pl G 32767) (zc_S n pl am G 32767) x (k + 1)))), (0, .ref (bd 0)), (1, .int (nI G)), (2, .int x)]) hx hb dX1_atLeast_56 hl (k := 4) rfl (nI_inc) (by decide) rfl (fun ls hl => ?_)
                refine lv_goto (tgt := 16) hx hb dX1_atLeast_59 (by decide) ?_
                exact ih (k + 1) _ _ _ _ _ (by omega) (by omega) hP hS (lv_sub hl [2, 3, 4, 1, 0] rfl)
              · refine lv_iload_n hx hb dX1_atLeast_48 rfl (lv_at hl 3 rfl) ?_
                refine lv_iconst (v := nI 1) hx hb dX1_atLeast_49 (by decide) ?_
                refine lv_iadd hx hb dX1_atLeast_50 ?_
                refine cv_top (nI_add _ _) ?_
                refine lv_goto (tgt := 55) hx hb dX1_atLeast_51 (by decide) ?_
                refine cv_top (b := nI (zc_na (zc_C n pl G 32767) (zc_S n pl am G 32767) x (k + 1))) (by rw [zc_na_yes c37 c45]) ?_
                refine lv_istore_n (lv' := [(3, .int (nI (zc_na (zc_C n pl G 32767) (zc_S n pl am G 32767) x (k + 1)))), (0, .ref (bd 0)), (1, .int (nI G)), (2, .int x), (4, .int (nI k))]) hx hb dX1_atLeast_55 rfl hl (by decide) rfl (fun ls hl => ?_)
                refine lv_iinc (v := nI (k + 1)) (lv' := [(4, .int (nI (k + 1))), (3, .int (nI (zc_na (zc_C n pl G 32767) (zc_S n pl am G 32767) x (k + 1)))), (0, .ref (bd 0)), (1, .int (nI G)), (2, .int x)]) hx hb dX1_atLeast_56 hl (k := 4) rfl (nI_inc) (by decide) rfl (fun ls hl => ?_)
                refine lv_goto (tgt := 16) hx hb dX1_atLeast_59 (by decide) ?_
                exact ih (k + 1) _ _ _ _ _ (by omega) (by omega) hP hS (lv_sub hl [2, 3, 4, 1, 0] rfl)
      refine lv_iconst (v := nI 0) hx hb dX1_atLeast_11 (by decide) ?_
      refine lv_istore_n (lv' := [(3, .int (nI 0)), (0, .ref (bd 0)), (1, .int (nI G)), (2, .int x)]) hx hb dX1_atLeast_12 rfl hl (by decide) rfl (fun ls hl => ?_)
      refine lv_iconst (v := nI 0) hx hb dX1_atLeast_13 (by decide) ?_
      refine lv_istore (lv' := [(4, .int (nI 0)), (3, .int (nI 0)), (0, .ref (bd 0)), (1, .int (nI G)), (2, .int x)]) hx hb dX1_atLeast_14 hl (by decide) rfl (fun ls hl => ?_)
      exact L16 121 0 _ _ _ _ _ (by omega) (by omega) hP hS (lv_sub hl [2, 3, 4, 1, 0] rfl)
    · exact absurd c5 (by decide)
  · subst hr2
    refine nv_if_ne (tgt := 11) (by omega) hx hb dX1_atLeast_5 (by decide) (fun c5 => ?_) (fun c5 => ?_)
    · exact absurd c5 (by decide)
    · refine lv_ldc (v := (-1000000)) hx hb hown (hts _ q228) dX1_atLeast_8 ?_
      exact hret _ _ _ _ _ (n, F, fo, to) hP hS (⟨Or.inr ⟨fun x w => hno ⟨x, w⟩, rfl⟩, rfl, hmd⟩) dX1_atLeast_10
set_option maxHeartbeats 4000000 in
theorem met1_topSum (l : Launch) (D : va_G) (bd : Nat → Nat) (dB : Nat → ClassId) (n : Nat) (F : Nat → Nat → Int32) (fo to : Int32) (hI : mdI bd) (pl : Nat → Nat) (am : Nat → Int32) (hmd : zc_md n pl am F) (a b : Int32) : Met l yX1_topSum (ws_ yX1_topSum cX1_topSum 5 (some .int)) (rmL 3) (va_Pc [.ref (bd 0), .int a, .int b] (Pw D (mdw bd dB n F fo to) (mdT dB))) (Qm D (fun u : Nat × (Nat → Nat → Int32) × Int32 × Int32 => mdw bd dB u.1 u.2.1 u.2.2.1 u.2.2.2) (mdA bd) (fun r u => zc_RX (zc_okGF a b) (fun x r => r = zc_os (zc_S n pl am x.1 x.2) (zc_top (zc_C n pl x.1 x.2) (zc_S n pl am x.1 x.2) 120)) r ∧ u.1 = n ∧ zc_md n pl am u.2.1)) 0 0 (mdA bd) := by
  refine zz_mkM (by decide) rfl (Nat.le_of_ble_eq_true rfl) ?_
  intro pr e s m args below meth c Q ls S hpre hl hret
  obtain ⟨hP, hK⟩ := hpre
  have hx := S.1
  have hb := S.2.1
  have hown : s.vm.findClass RX1 = some m.cls := S.2.2.2.1
  have hts := S.2.2.2.2
  have hS : va_S (mdA bd) s.heap s.heap [] := va_S.rf
  have hl : lv_has ls 5 [(0, .ref (bd 0)), (1, .int a), (2, .int b)] := hl
  have hn40 := hmd.1
  refine lv_aload_n hx hb dX1_topSum_0 rfl (lv_at hl 0 rfl) ?_
  refine lv_iload_n hx hb dX1_topSum_1 rfl (lv_at hl 1 rfl) ?_
  refine zz_callR (As := [.int a]) (rest := []) S hK hP hS (met1_isGrouping l D bd dB n F fo to a) (cwX1_isGrouping hts (by decide)) (md_recv hK hP) rfl hl.1 rfl (by decide) dX1_topSum_2 ⟨Nat.le_refl 0, Nat.le_refl 0⟩ (fun r2 H locs hr2 hP hS => ?_)
  rcases hr2 with ⟨hr2, G, hG, ha⟩ | ⟨hr2, hno⟩
  · subst hr2
    rw [ha] at hl
    refine nv_if_eq (tgt := 16) (by omega) hx hb dX1_topSum_5 (by decide) (fun c5 => ?_) (fun c5 => ?_)
    · exact absurd c5 (by decide)
    · refine lv_aload_n hx hb dX1_topSum_8 rfl (lv_at hl 0 rfl) ?_
      refine lv_iload_n hx hb dX1_topSum_9 rfl (lv_at hl 2 rfl) ?_
      refine zz_callR (As := [.int b]) (rest := []) S hK hP hS (met1_isFilter l D bd dB n F fo to b) (cwX1_isFilter hts (by decide)) (md_recv hK hP) rfl hl.1 rfl (by decide) dX1_topSum_10 ⟨Nat.le_refl 0, Nat.le_refl 0⟩ (fun r10 H locs hr10 hP hS => ?_)
      rcases hr10 with ⟨hr10, f, hf, hb2⟩ | ⟨hr10, hno⟩
      · subst hr10
        rw [hb2] at hl
        refine nv_if_ne (tgt := 19) (by omega) hx hb dX1_topSum_13 (by decide) (fun c13 => ?_) (fun c13 => ?_)
        · have L25 : ∀ (dd k : Nat) (o : Option Nat) (fo1 to1 : Int32) (H : Heap) (locs : List Loc) (ls : Array Slot), k ≤ 120 → 120 + 1 ≤ k + dd → o = zc_top (zc_C n pl G f) (zc_S n pl am G f) k → va_P D vwCl (mdw bd dB n F fo1 to1) H → va_S (mdA bd) s.heap H locs → lv_has ls 5 [(0, .ref (bd 0)), (1, .int (nI G)), (2, .int (nI f)), (3, .int (zc_os (zc_S n pl am G f) o)), (4, .int (nI k))] → W pr l e (rmL 3) s m args below meth c H locs 0 0 Q (F0 m 25 ls []) := by
            intro dd
            induction dd with
            | zero =>
              intro k o fo1 to1 H locs ls hle hdd
              exact absurd hdd (by omega)
            | succ dd ih =>
              intro k o fo1 to1 H locs ls hle hdd ho hP hS hl
              refine lv_iload hx hb dX1_topSum_25 (lv_at hl 4 rfl) ?_
              refine lv_bipush (v := nI 120) hx hb dX1_topSum_27 (by decide) ?_
              refine nv_icmp_ge (tgt := 70) (by omega) (by omega) hx hb dX1_topSum_29 (by decide) (fun c29 => ?_) (fun c29 => ?_)
              · refine lv_iload_n hx hb dX1_topSum_70 rfl (lv_at hl 3 rfl) ?_
                have hin : k = 120 := by omega
                rw [hin] at ho
                exact hret _ _ _ _ _ (n, F, fo1, to1) hP hS (⟨Or.inl ⟨(G, f), ⟨⟨hG, ha⟩, hf, hb2⟩, by rw [ho]⟩, rfl, hmd⟩) dX1_topSum_71
              · refine lv_aload_n hx hb dX1_topSum_32 rfl (lv_at hl 0 rfl) ?_
                refine lv_iload hx hb dX1_topSum_33 (lv_at hl 4 rfl) ?_
                refine lv_iload_n hx hb dX1_topSum_35 rfl (lv_at hl 1 rfl) ?_
                refine lv_iload_n hx hb dX1_topSum_36 rfl (lv_at hl 2 rfl) ?_
                refine zz_callV (As := [.int (nI k), .int (nI G), .int (nI f)]) (rest := []) S hK hP hS (fun _ h => h) (met1_look l D bd dB n F fo1 to1 hI k G f (by omega) (by omega) (by omega) pl am hmd) (cwX1_look hts (by decide)) (md_recv hK hP) rfl hl.1 rfl (by decide) dX1_topSum_37 ⟨Nat.le_refl 0, Nat.le_refl 0⟩ (fun u_1 H locs hr37 hP _ hS => ?_)
                subst hr37
                replace hP : va_P D vwCl (mdw bd dB n F (nI (zc_C n pl G f k)) (zc_S n pl am G f k)) H := hP
                refine lv_aload_n hx hb dX1_topSum_40 rfl (lv_at hl 0 rfl) ?_
                refine md_g3 hx hb hts hown hK hP dX1_topSum_41 ?_
                have hcl := zc_C_le n pl G f k
                refine nv_if_le (tgt := 62) (by omega) hx hb dX1_topSum_44 (by decide) (fun c44 => ?_) (fun c44 => ?_)
                · refine lv_iload_n hx hb dX1_topSum_62 rfl (lv_at hl 3 rfl) ?_
                  refine lv_istore_n (lv' := [(3, .int (zc_os (zc_S n pl am G f) o)), (0, .ref (bd 0)), (1, .int (nI G)), (2, .int (nI f)), (4, .int (nI k))]) hx hb dX1_topSum_63 rfl hl (by decide) rfl (fun ls hl => ?_)
                  refine lv_iinc (v := nI (k + 1)) (lv' := [(4, .int (nI (k + 1))), (3, .int (zc_os (zc_S n pl am G f) o)), (0, .ref (bd 0)), (1, .int (nI G)), (2, .int (nI f))]) hx hb dX1_topSum_64 hl (k := 4) rfl (nI_inc) (by decide) rfl (fun ls hl => ?_)
                  refine lv_goto (tgt := 25) hx hb dX1_topSum_67 (by decide) ?_
                  exact ih (k + 1) o _ _ _ _ _ (by omega) (by omega) (zc_top_0 ho c44) hP hS (lv_sub hl [2, 3, 4, 1, 0] rfl)
                · refine lv_aload_n hx hb dX1_topSum_47 rfl (lv_at hl 0 rfl) ?_
                  refine md_g4 hx hb hts hown hK hP dX1_topSum_48 ?_
                  refine lv_iload_n hx hb dX1_topSum_51 rfl (lv_at hl 3 rfl) ?_
                  refine lv_icmp_le (tgt := 62) hx hb dX1_topSum_52 (by decide) (fun c52 => ?_) (fun c52 => ?_)
                  · refine lv_iload_n hx hb dX1_topSum_62 rfl (lv_at hl 3 rfl) ?_
                    refine lv_istore_n (lv' := [(3, .int (zc_os (zc_S n pl am G f) o)), (0, .ref (bd 0)), (1, .int (nI G)), (2, .int (nI f)), (4, .int (nI k))]) hx hb dX1_topSum_63 rfl hl (by decide) rfl (fun ls hl => ?_)
                    refine lv_iinc (v := nI (k + 1)) (lv' := [(4, .int (nI (k + 1))), (3, .int (zc_os (zc_S n pl am G f) o)), (0, .ref (bd 0)), (1, .int (nI G)), (2, .int (nI f))]) hx hb dX1_topSum_64 hl (k := 4) rfl (nI_inc) (by decide) rfl (fun ls hl => ?_)
                    refine lv_goto (tgt := 25) hx hb dX1_topSum_67 (by decide) ?_
                    have hgt : (-4000000) < zc_S n pl am G f k := zc_sum_gt hn40 hmd.2.2
                    rcases zc_opt o with e | ⟨b, e⟩
                    · exact absurd (by rw [e] at c52; exact c52) (Int32.not_le.mpr hgt)
                    · exact ih (k + 1) o _ _ _ _ _ (by omega) (by omega) (by rw [e] at ho c52 ⊢; exact zc_top_l ho c52) hP hS (lv_sub hl [2, 3, 4, 1, 0] rfl)
                  · refine lv_aload_n hx hb dX1_topSum_55 rfl (lv_at hl 0 rfl) ?_
                    refine md_g4 hx hb hts hown hK hP dX1_topSum_56 ?_
                    refine lv_goto (tgt := 63) hx hb dX1_topSum_59 (by decide) ?_
                    refine lv_istore_n (lv' := [(3, .int (zc_S n pl am G f k)), (0, .ref (bd 0)), (1, .int (nI G)), (2, .int (nI f)), (4, .int (nI k))]) hx hb dX1_topSum_63 rfl hl (by decide) rfl (fun ls hl => ?_)
                    refine lv_iinc (v := nI (k + 1)) (lv' := [(4, .int (nI (k + 1))), (3, .int (zc_S n pl am G f k)), (0, .ref (bd 0)), (1, .int (nI G)), (2, .int (nI f))]) hx hb dX1_topSum_64 hl (k := 4) rfl (nI_inc) (by decide) rfl (fun ls hl => ?_)
                    refine lv_goto (tgt := 25) hx hb dX1_topSum_67 (by decide) ?_
                    have hgt : (-4000000) < zc_S n pl am G f k := zc_sum_gt hn40 hmd.2.2
                    rcases zc_opt o with e | ⟨b, e⟩
                    · exact ih (k + 1) (some k) _ _ _ _ _ (by omega) (by omega) (zc_top_n (e.symm.trans ho) c44) hP hS (lv_sub hl [2, 3, 4, 1, 0] rfl)
                    · exact ih (k + 1) (some k) _ _ _ _ _ (by omega) (by omega) (zc_top_g (e.symm.trans ho) c44 (by rw [e] at c52; exact c52)) hP hS (lv_sub hl [2, 3, 4, 1, 0] rfl)
          refine lv_ldc (v := (-4000000)) hx hb hown (hts _ q234) dX1_topSum_19 ?_
          refine lv_istore_n (lv' := [(3, .int (-4000000)), (0, .ref (bd 0)), (1, .int (nI G)), (2, .int (nI f))]) hx hb dX1_topSum_21 rfl hl (by decide) rfl (fun ls hl => ?_)
          refine lv_iconst (v := nI 0) hx hb dX1_topSum_22 (by decide) ?_
          refine lv_istore (lv' := [(4, .int (nI 0)), (3, .int (-4000000)), (0, .ref (bd 0)), (1, .int (nI G)), (2, .int (nI f))]) hx hb dX1_topSum_23 hl (by decide) rfl (fun ls hl => ?_)
          exact L25 121 0 none _ _ _ _ _ (by omega) (by omega) rfl hP hS (lv_sub hl [2, 3, 4, 1, 0] rfl)
        · exact absurd c13 (by decide)
      · subst hr10
        refine nv_if_ne (tgt := 19) (by omega) hx hb dX1_topSum_13 (by decide) (fun c13 => ?_) (fun c13 => ?_)
        · exact absurd c13 (by decide)
        · refine lv_ldc (v := (-1000000)) hx hb hown (hts _ q228) dX1_topSum_16 ?_
          exact hret _ _ _ _ _ (n, F, fo, to) hP hS (⟨Or.inr ⟨fun x w => hno ⟨x.2, w.2⟩, rfl⟩, rfl, hmd⟩) dX1_topSum_18
  · subst hr2
    refine nv_if_eq (tgt := 16) (by omega) hx hb dX1_topSum_5 (by decide) (fun c5 => ?_) (fun c5 => ?_)
    · refine lv_ldc (v := (-1000000)) hx hb hown (hts _ q228) dX1_topSum_16 ?_
      exact hret _ _ _ _ _ (n, F, fo, to) hP hS (⟨Or.inr ⟨fun x w => hno ⟨x.1, w.1⟩, rfl⟩, rfl, hmd⟩) dX1_topSum_18
    · exact absurd c5 (by decide)
set_option maxHeartbeats 4000000 in
theorem met1_topGroup (l : Launch) (D : va_G) (bd : Nat → Nat) (dB : Nat → ClassId) (n : Nat) (F : Nat → Nat → Int32) (fo to : Int32) (hI : mdI bd) (pl : Nat → Nat) (am : Nat → Int32) (hmd : zc_md n pl am F) (a b : Int32) : Met l yX1_topGroup (ws_ yX1_topGroup cX1_topGroup 6 (some .int)) (rmL 3) (va_Pc [.ref (bd 0), .int a, .int b] (Pw D (mdw bd dB n F fo to) (mdT dB))) (Qm D (fun u : Nat × (Nat → Nat → Int32) × Int32 × Int32 => mdw bd dB u.1 u.2.1 u.2.2.1 u.2.2.2) (mdA bd) (fun r u => zc_RX (zc_okGF a b) (fun x r => r = zc_og (zc_top (zc_C n pl x.1 x.2) (zc_S n pl am x.1 x.2) 120)) r ∧ u.1 = n ∧ zc_md n pl am u.2.1)) 0 0 (mdA bd) := by
  refine zz_mkM (by decide) rfl (Nat.le_of_ble_eq_true rfl) ?_
  intro pr e s m args below meth c Q ls S hpre hl hret
  obtain ⟨hP, hK⟩ := hpre
  have hx := S.1
  have hb := S.2.1
  have hown : s.vm.findClass RX1 = some m.cls := S.2.2.2.1
  have hts := S.2.2.2.2
  have hS : va_S (mdA bd) s.heap s.heap [] := va_S.rf
  have hl : lv_has ls 6 [(0, .ref (bd 0)), (1, .int a), (2, .int b)] := hl
  have hn40 := hmd.1
  refine lv_aload_n hx hb dX1_topGroup_0 rfl (lv_at hl 0 rfl) ?_
  refine lv_iload_n hx hb dX1_topGroup_1 rfl (lv_at hl 1 rfl) ?_
  refine zz_callR (As := [.int a]) (rest := []) S hK hP hS (met1_isGrouping l D bd dB n F fo to a) (cwX1_isGrouping hts (by decide)) (md_recv hK hP) rfl hl.1 rfl (by decide) dX1_topGroup_2 ⟨Nat.le_refl 0, Nat.le_refl 0⟩ (fun r2 H locs hr2 hP hS => ?_)
  rcases hr2 with ⟨hr2, G, hG, ha⟩ | ⟨hr2, hno⟩
  · subst hr2
    rw [ha] at hl
    refine nv_if_eq (tgt := 16) (by omega) hx hb dX1_topGroup_5 (by decide) (fun c5 => ?_) (fun c5 => ?_)
    · exact absurd c5 (by decide)
    · refine lv_aload_n hx hb dX1_topGroup_8 rfl (lv_at hl 0 rfl) ?_
      refine lv_iload_n hx hb dX1_topGroup_9 rfl (lv_at hl 2 rfl) ?_
      refine zz_callR (As := [.int b]) (rest := []) S hK hP hS (met1_isFilter l D bd dB n F fo to b) (cwX1_isFilter hts (by decide)) (md_recv hK hP) rfl hl.1 rfl (by decide) dX1_topGroup_10 ⟨Nat.le_refl 0, Nat.le_refl 0⟩ (fun r10 H locs hr10 hP hS => ?_)
      rcases hr10 with ⟨hr10, f, hf, hb2⟩ | ⟨hr10, hno⟩
      · subst hr10
        rw [hb2] at hl
        refine nv_if_ne (tgt := 19) (by omega) hx hb dX1_topGroup_13 (by decide) (fun c13 => ?_) (fun c13 => ?_)
        · have L29 : ∀ (dd k : Nat) (o : Option Nat) (fo1 to1 : Int32) (H : Heap) (locs : List Loc) (ls : Array Slot), k ≤ 120 → 120 + 1 ≤ k + dd → o = zc_top (zc_C n pl G f) (zc_S n pl am G f) k → va_P D vwCl (mdw bd dB n F fo1 to1) H → va_S (mdA bd) s.heap H locs → lv_has ls 6 [(0, .ref (bd 0)), (1, .int (nI G)), (2, .int (nI f)), (3, .int (zc_os (zc_S n pl am G f) o)), (4, .int (zc_og o)), (5, .int (nI k))] → W pr l e (rmL 3) s m args below meth c H locs 0 0 Q (F0 m 29 ls []) := by
            intro dd
            induction dd with
            | zero =>
              intro k o fo1 to1 H locs ls hle hdd
              exact absurd hdd (by omega)
            | succ dd ih =>
              intro k o fo1 to1 H locs ls hle hdd ho hP hS hl
              refine lv_iload hx hb dX1_topGroup_29 (lv_at hl 5 rfl) ?_
              refine lv_bipush (v := nI 120) hx hb dX1_topGroup_31 (by decide) ?_
              refine nv_icmp_ge (tgt := 98) (by omega) (by omega) hx hb dX1_topGroup_33 (by decide) (fun c33 => ?_) (fun c33 => ?_)
              · refine lv_iload hx hb dX1_topGroup_98 (lv_at hl 4 rfl) ?_
                have hin : k = 120 := by omega
                rw [hin] at ho
                exact hret _ _ _ _ _ (n, F, fo1, to1) hP hS (⟨Or.inl ⟨(G, f), ⟨⟨hG, ha⟩, hf, hb2⟩, by rw [ho]⟩, rfl, hmd⟩) dX1_topGroup_100
              · refine lv_aload_n hx hb dX1_topGroup_36 rfl (lv_at hl 0 rfl) ?_
                refine lv_iload hx hb dX1_topGroup_37 (lv_at hl 5 rfl) ?_
                refine lv_iload_n hx hb dX1_topGroup_39 rfl (lv_at hl 1 rfl) ?_
                refine lv_iload_n hx hb dX1_topGroup_40 rfl (lv_at hl 2 rfl) ?_
                refine zz_callV (As := [.int (nI k), .int (nI G), .int (nI f)]) (rest := []) S hK hP hS (fun _ h => h) (met1_look l D bd dB n F fo1 to1 hI k G f (by omega) (by omega) (by omega) pl am hmd) (cwX1_look hts (by decide)) (md_recv hK hP) rfl hl.1 rfl (by decide) dX1_topGroup_41 ⟨Nat.le_refl 0, Nat.le_refl 0⟩ (fun u_1 H locs hr41 hP _ hS => ?_)
                subst hr41
                replace hP : va_P D vwCl (mdw bd dB n F (nI (zc_C n pl G f k)) (zc_S n pl am G f k)) H := hP
                refine lv_aload_n hx hb dX1_topGroup_44 rfl (lv_at hl 0 rfl) ?_
                refine md_g3 hx hb hts hown hK hP dX1_topGroup_45 ?_
                have hcl := zc_C_le n pl G f k
                refine nv_if_le (tgt := 64) (by omega) hx hb dX1_topGroup_48 (by decide) (fun c48 => ?_) (fun c48 => ?_)
                · refine lv_iload hx hb dX1_topGroup_64 (lv_at hl 4 rfl) ?_
                  refine lv_istore (lv' := [(4, .int (zc_og o)), (0, .ref (bd 0)), (1, .int (nI G)), (2, .int (nI f)), (3, .int (zc_os (zc_S n pl am G f) o)), (5, .int (nI k))]) hx hb dX1_topGroup_66 hl (by decide) rfl (fun ls hl => ?_)
                  refine lv_aload_n hx hb dX1_topGroup_68 rfl (lv_at hl 1 rfl) ?_
                  refine md_g3 hx hb hts hown hK hP dX1_topGroup_69 ?_
                  refine nv_if_le (tgt := 90) (by omega) hx hb dX1_topGroup_72 (by decide) (fun c72 => ?_) (fun c72 => ?_)
                  · refine lv_iload_n hx hb dX1_topGroup_90 rfl (lv_at hl 4 rfl) ?_
                    refine lv_istore_n (lv' := [(3, .int (zc_os (zc_S n pl am G f) o)), (4, .int (zc_og o)), (0, .ref (bd 0)), (1, .int (nI G)), (2, .int (nI f)), (5, .int (nI k))]) hx hb dX1_topGroup_91 rfl hl (by decide) rfl (fun ls hl => ?_)
                    refine lv_iinc (v := nI (k + 1)) (lv' := [(5, .int (nI (k + 1))), (3, .int (zc_os (zc_S n pl am G f) o)), (4, .int (zc_og o)), (0, .ref (bd 0)), (1, .int (nI G)), (2, .int (nI f))]) hx hb dX1_topGroup_92 hl (k := 5) rfl (nI_inc) (by decide) rfl (fun ls hl => ?_)
                    refine lv_goto (tgt := 29) hx hb dX1_topGroup_95 (by decide) ?_
                    exact ih (k + 1) o _ _ _ _ _ (by omega) (by omega) (zc_top_0 ho c48) hP hS (lv_sub hl [3, 4, 5, 1, 2, 0] rfl)
                  · exact absurd c72 (by omega)
                · refine lv_aload_n hx hb dX1_topGroup_51 rfl (lv_at hl 0 rfl) ?_
                  refine md_g4 hx hb hts hown hK hP dX1_topGroup_52 ?_
                  refine lv_iload_n hx hb dX1_topGroup_55 rfl (lv_at hl 3 rfl) ?_
                  refine lv_icmp_le (tgt := 64) hx hb dX1_topGroup_56 (by decide) (fun c56 => ?_) (fun c56 => ?_)
                  · refine lv_iload hx hb dX1_topGroup_64 (lv_at hl 4 rfl) ?_
                    refine lv_istore (lv' := [(4, .int (zc_og o)), (0, .ref (bd 0)), (1, .int (nI G)), (2, .int (nI f)), (3, .int (zc_os (zc_S n pl am G f) o)), (5, .int (nI k))]) hx hb dX1_topGroup_66 hl (by decide) rfl (fun ls hl => ?_)
                    refine lv_aload_n hx hb dX1_topGroup_68 rfl (lv_at hl 1 rfl) ?_
                    refine md_g3 hx hb hts hown hK hP dX1_topGroup_69 ?_
                    refine nv_if_le (tgt := 90) (by omega) hx hb dX1_topGroup_72 (by decide) (fun c72 => ?_) (fun c72 => ?_)
                    · exact absurd c72 (by omega)
                    · refine lv_aload_n hx hb dX1_topGroup_75 rfl (lv_at hl 1 rfl) ?_
                      refine md_g4 hx hb hts hown hK hP dX1_topGroup_76 ?_
                      refine lv_iload_n hx hb dX1_topGroup_79 rfl (lv_at hl 4 rfl) ?_
                      refine lv_icmp_le (tgt := 90) hx hb dX1_topGroup_80 (by decide) (fun c80 => ?_) (fun c80 => ?_)
                      · refine lv_iload_n hx hb dX1_topGroup_90 rfl (lv_at hl 4 rfl) ?_
                        refine lv_istore_n (lv' := [(3, .int (zc_os (zc_S n pl am G f) o)), (4, .int (zc_og o)), (0, .ref (bd 0)), (1, .int (nI G)), (2, .int (nI f)), (5, .int (nI k))]) hx hb dX1_topGroup_91 rfl hl (by decide) rfl (fun ls hl => ?_)
                        refine lv_iinc (v := nI (k + 1)) (lv' := [(5, .int (nI (k + 1))), (3, .int (zc_os (zc_S n pl am G f) o)), (4, .int (zc_og o)), (0, .ref (bd 0)), (1, .int (nI G)), (2, .int (nI f))]) hx hb dX1_topGroup_92 hl (k := 5) rfl (nI_inc) (by decide) rfl (fun ls hl => ?_)
                        refine lv_goto (tgt := 29) hx hb dX1_topGroup_95 (by decide) ?_
                        have hgt : (-4000000) < zc_S n pl am G f k := zc_sum_gt hn40 hmd.2.2
                        rcases zc_opt o with e | ⟨b, e⟩
                        · exact absurd (by rw [e] at c56; exact c56) (Int32.not_le.mpr hgt)
                        · exact ih (k + 1) o _ _ _ _ _ (by omega) (by omega) (by rw [e] at ho c56 ⊢; exact zc_top_l ho c56) hP hS (lv_sub hl [3, 4, 5, 1, 2, 0] rfl)
                      · exact absurd c56 c80
                  · refine lv_iload hx hb dX1_topGroup_59 (lv_at hl 5 rfl) ?_
                    refine lv_goto (tgt := 66) hx hb dX1_topGroup_61 (by decide) ?_
                    refine lv_istore (lv' := [(4, .int (nI k)), (0, .ref (bd 0)), (1, .int (nI G)), (2, .int (nI f)), (3, .int (zc_os (zc_S n pl am G f) o)), (5, .int (nI k))]) hx hb dX1_topGroup_66 hl (by decide) rfl (fun ls hl => ?_)
                    refine lv_aload_n hx hb dX1_topGroup_68 rfl (lv_at hl 1 rfl) ?_
                    refine md_g3 hx hb hts hown hK hP dX1_topGroup_69 ?_
                    refine nv_if_le (tgt := 90) (by omega) hx hb dX1_topGroup_72 (by decide) (fun c72 => ?_) (fun c72 => ?_)
                    · exact absurd c72 (by omega)
                    · refine lv_aload_n hx hb dX1_topGroup_75 rfl (lv_at hl 1 rfl) ?_
                      refine md_g4 hx hb hts hown hK hP dX1_topGroup_76 ?_
                      refine lv_iload_n hx hb dX1_topGroup_79 rfl (lv_at hl 4 rfl) ?_
                      refine lv_icmp_le (tgt := 90) hx hb dX1_topGroup_80 (by decide) (fun c80 => ?_) (fun c80 => ?_)
                      · exact absurd c80 c56
                      · refine lv_aload_n hx hb dX1_topGroup_83 rfl (lv_at hl 1 rfl) ?_
                        refine md_g4 hx hb hts hown hK hP dX1_topGroup_84 ?_
                        refine lv_goto (tgt := 91) hx hb dX1_topGroup_87 (by decide) ?_
                        refine lv_istore_n (lv' := [(3, .int (zc_S n pl am G f k)), (4, .int (nI k)), (0, .ref (bd 0)), (1, .int (nI G)), (2, .int (nI f)), (5, .int (nI k))]) hx hb dX1_topGroup_91 rfl hl (by decide) rfl (fun ls hl => ?_)
                        refine lv_iinc (v := nI (k + 1)) (lv' := [(5, .int (nI (k + 1))), (3, .int (zc_S n pl am G f k)), (4, .int (nI k)), (0, .ref (bd 0)), (1, .int (nI G)), (2, .int (nI f))]) hx hb dX1_topGroup_92 hl (k := 5) rfl (nI_inc) (by decide) rfl (fun ls hl => ?_)
                        refine lv_goto (tgt := 29) hx hb dX1_topGroup_95 (by decide) ?_
                        have hgt : (-4000000) < zc_S n pl am G f k := zc_sum_gt hn40 hmd.2.2
                        rcases zc_opt o with e | ⟨b, e⟩
                        · exact ih (k + 1) (some k) _ _ _ _ _ (by omega) (by omega) (zc_top_n (e.symm.trans ho) c48) hP hS (lv_sub hl [3, 4, 5, 1, 2, 0] rfl)
                        · exact ih (k + 1) (some k) _ _ _ _ _ (by omega) (by omega) (zc_top_g (e.symm.trans ho) c48 (by rw [e] at c56; exact c56)) hP hS (lv_sub hl [3, 4, 5, 1, 2, 0] rfl)
          refine lv_ldc (v := (-4000000)) hx hb hown (hts _ q234) dX1_topGroup_19 ?_
          refine lv_istore_n (lv' := [(3, .int (-4000000)), (0, .ref (bd 0)), (1, .int (nI G)), (2, .int (nI f))]) hx hb dX1_topGroup_21 rfl hl (by decide) rfl (fun ls hl => ?_)
          refine lv_ldc (v := (-4000000)) hx hb hown (hts _ q234) dX1_topGroup_22 ?_
          refine lv_istore (lv' := [(4, .int (-4000000)), (3, .int (-4000000)), (0, .ref (bd 0)), (1, .int (nI G)), (2, .int (nI f))]) hx hb dX1_topGroup_24 hl (by decide) rfl (fun ls hl => ?_)
          refine lv_iconst (v := nI 0) hx hb dX1_topGroup_26 (by decide) ?_
          refine lv_istore (lv' := [(5, .int (nI 0)), (4, .int (-4000000)), (3, .int (-4000000)), (0, .ref (bd 0)), (1, .int (nI G)), (2, .int (nI f))]) hx hb dX1_topGroup_27 hl (by decide) rfl (fun ls hl => ?_)
          exact L29 121 0 none _ _ _ _ _ (by omega) (by omega) rfl hP hS (lv_sub hl [3, 4, 5, 2, 1, 0] rfl)
        · exact absurd c13 (by decide)
      · subst hr10
        refine nv_if_ne (tgt := 19) (by omega) hx hb dX1_topGroup_13 (by decide) (fun c13 => ?_) (fun c13 => ?_)
        · exact absurd c13 (by decide)
        · refine lv_ldc (v := (-1000000)) hx hb hown (hts _ q228) dX1_topGroup_16 ?_
          exact hret _ _ _ _ _ (n, F, fo, to) hP hS (⟨Or.inr ⟨fun x w => hno ⟨x.2, w.2⟩, rfl⟩, rfl, hmd⟩) dX1_topGroup_18
  · subst hr2
    refine nv_if_eq (tgt := 16) (by omega) hx hb dX1_topGroup_5 (by decide) (fun c5 => ?_) (fun c5 => ?_)
    · refine lv_ldc (v := (-1000000)) hx hb hown (hts _ q228) dX1_topGroup_16 ?_
      exact hret _ _ _ _ _ (n, F, fo, to) hP hS (⟨Or.inr ⟨fun x w => hno ⟨x.1, w.1⟩, rfl⟩, rfl, hmd⟩) dX1_topGroup_18
    · exact absurd c5 (by decide)
end
section
set_option maxRecDepth 100000
set_option maxHeartbeats 4000000 in
theorem met1_greatest (l : Launch) (D : va_G) (bd : Nat → Nat) (dB : Nat → ClassId) (n : Nat) (F : Nat → Nat → Int32) (fo to : Int32) (hI : mdI bd) (pl : Nat → Nat) (am : Nat → Int32) (hmd : zc_md n pl am F) (a : Int32) : Met l yX1_greatest (ws_ yX1_greatest cX1_greatest 4 (some .int)) (rmL 2) (va_Pc [.ref (bd 0), .int a] (Pw D (mdw bd dB n F fo to) (mdT dB))) (Qm D (fun u : Nat × (Nat → Nat → Int32) × Int32 × Int32 => mdw bd dB u.1 u.2.1 u.2.2.1 u.2.2.2) (mdA bd) (fun r u => zc_RX (zc_okF a) (fun f r => zc_max (fun i => zc_ps (pl i) f 7 = true) am n r) r ∧ u.1 = n ∧ zc_md n pl am u.2.1)) 0 0 (mdA bd) := by
  refine zz_mkM (by decide) rfl (Nat.le_of_ble_eq_true rfl) ?_
  intro pr e s m args below meth c Q ls S hpre hl hret
  obtain ⟨hP, hK⟩ := hpre
  have hx := S.1
  have hb := S.2.1
  have hown : s.vm.findClass RX1 = some m.cls := S.2.2.2.1
  have hts := S.2.2.2.2
  have hS : va_S (mdA bd) s.heap s.heap [] := va_S.rf
  have hl : lv_has ls 4 [(0, .ref (bd 0)), (1, .int a)] := hl
  have hn40 := hmd.1
  refine lv_aload_n hx hb dX1_greatest_0 rfl (lv_at hl 0 rfl) ?_
  refine lv_iload_n hx hb dX1_greatest_1 rfl (lv_at hl 1 rfl) ?_
  refine zz_callR (As := [.int a]) (rest := []) S hK hP hS (met1_isFilter l D bd dB n F fo to a) (cwX1_isFilter hts (by decide)) (md_recv hK hP) rfl hl.1 rfl (by decide) dX1_greatest_2 ⟨Nat.le_refl 0, Nat.le_refl 0⟩ (fun r2 H locs hr2 hP hS => ?_)
  rcases hr2 with ⟨hr2, f, hf, ha⟩ | ⟨hr2, hno⟩
  · subst hr2
    rw [ha] at hl
    refine nv_if_ne (tgt := 11) (by omega) hx hb dX1_greatest_5 (by decide) (fun c5 => ?_) (fun c5 => ?_)
    · have L16 : ∀ (dd i : Nat) (bv : Int32) (H : Heap) (locs : List Loc) (ls : Array Slot), i ≤ n → n + 1 ≤ i + dd → zc_max (fun j => j < i ∧ zc_ps (pl j) f 7 = true) am n bv → va_P D vwCl (mdw bd dB n F fo to) H → va_S (mdA bd) s.heap H locs → lv_has ls 4 [(0, .ref (bd 0)), (1, .int (nI f)), (2, .int bv), (3, .int (nI i))] → W pr l e (rmL 2) s m args below meth c H locs 0 0 Q (F0 m 16 ls []) := by
        intro dd
        induction dd with
        | zero =>
          intro i bv H locs ls hle hdd
          exact absurd hdd (by omega)
        | succ dd ih =>
          intro i bv H locs ls hle hdd hv hP hS hl
          refine lv_iload_n hx hb dX1_greatest_16 rfl (lv_at hl 3 rfl) ?_
          refine lv_aload_n hx hb dX1_greatest_17 rfl (lv_at hl 0 rfl) ?_
          refine md_g2 hx hb hts hown hK hP dX1_greatest_18 ?_
          refine nv_icmp_ge (tgt := 65) (by omega) (by omega) hx hb dX1_greatest_21 (by decide) (fun c21 => ?_) (fun c21 => ?_)
          · refine lv_iload_n hx hb dX1_greatest_65 rfl (lv_at hl 2 rfl) ?_
            have hin : i = n := by omega
            rw [hin] at hv
            exact hret _ _ _ _ _ (n, F, fo, to) hP hS (⟨Or.inl ⟨f, ⟨hf, ha⟩, zc_max_congr hv (fun j hj => ⟨fun w => ⟨hj, w⟩, fun w => w.2⟩)⟩, rfl, hmd⟩) dX1_greatest_66
          · refine lv_aload_n hx hb dX1_greatest_24 rfl (lv_at hl 0 rfl) ?_
            refine lv_aload_n hx hb dX1_greatest_25 rfl (lv_at hl 0 rfl) ?_
            refine md_g0 hx hb hts hown hK hP dX1_greatest_26 ?_
            refine lv_iload_n hx hb dX1_greatest_29 rfl (lv_at hl 3 rfl) ?_
            refine md_l1 hx hb hK hP i rfl (by omega) dX1_greatest_30 ?_
            obtain ⟨w1, w2, w3⟩ := hmd.2.1 i (by omega)
            refine cv_top (b := nI (pl i)) (w1) ?_
            refine lv_iload_n hx hb dX1_greatest_31 rfl (lv_at hl 1 rfl) ?_
            refine zz_callR (As := [.int (nI (pl i)), .int (nI f)]) (rest := []) S hK hP hS (met1_passes l D bd dB n F fo to (pl i) f (by omega) (by omega)) (cwX1_passes hts (by decide)) (md_recv hK hP) rfl hl.1 rfl (by decide) dX1_greatest_32 ⟨Nat.le_refl 0, Nat.le_refl 0⟩ (fun r32 H locs hr32 hP hS => ?_)
            rcases hr32 with ⟨hr32, e35⟩ | ⟨hr32, e35⟩
            · subst hr32
              refine nv_if_eq (tgt := 57) (by omega) hx hb dX1_greatest_35 (by decide) (fun c35 => ?_) (fun c35 => ?_)
              · exact absurd c35 (by decide)
              · refine lv_aload_n hx hb dX1_greatest_38 rfl (lv_at hl 0 rfl) ?_
                refine md_g1 hx hb hts hown hK hP dX1_greatest_39 ?_
                refine lv_iload_n hx hb dX1_greatest_42 rfl (lv_at hl 3 rfl) ?_
                refine md_l2 hx hb hK hP i rfl (by omega) dX1_greatest_43 ?_
                refine cv_top (b := am i) (w3) ?_
                refine lv_iload_n hx hb dX1_greatest_44 rfl (lv_at hl 2 rfl) ?_
                refine lv_icmp_le (tgt := 57) hx hb dX1_greatest_45 (by decide) (fun c45 => ?_) (fun c45 => ?_)
                · refine lv_iload_n hx hb dX1_greatest_57 rfl (lv_at hl 2 rfl) ?_
                  refine lv_istore_n (lv' := [(2, .int bv), (0, .ref (bd 0)), (1, .int (nI f)), (3, .int (nI i))]) hx hb dX1_greatest_58 rfl hl (by decide) rfl (fun ls hl => ?_)
                  refine lv_iinc (v := nI (i + 1)) (lv' := [(3, .int (nI (i + 1))), (2, .int bv), (0, .ref (bd 0)), (1, .int (nI f))]) hx hb dX1_greatest_59 hl (k := 3) rfl (nI_inc) (by decide) rfl (fun ls hl => ?_)
                  refine lv_goto (tgt := 16) hx hb dX1_greatest_62 (by decide) ?_
                  refine ih (i + 1) bv _ _ _ (by omega) (by omega) ?_ hP hS (lv_sub hl [2, 3, 1, 0] rfl)
                  exact zc_max_keep hv (fun j hj w => ⟨by have := w.1; omega, w.2⟩) (fun j hj w w2 => by
                    rcases Nat.eq_or_lt_of_le (Nat.le_of_lt_succ w.1) with q | q
                    · rw [q]; exact c45
                    · exact absurd ⟨q, w.2⟩ w2)
                · refine lv_aload_n hx hb dX1_greatest_48 rfl (lv_at hl 0 rfl) ?_
                  refine md_g1 hx hb hts hown hK hP dX1_greatest_49 ?_
                  refine lv_iload_n hx hb dX1_greatest_52 rfl (lv_at hl 3 rfl) ?_
                  refine md_l2 hx hb hK hP i rfl (by omega) dX1_greatest_53 ?_
                  refine cv_top (b := (am i)) (w3) ?_
                  refine lv_goto (tgt := 58) hx hb dX1_greatest_54 (by decide) ?_
                  refine lv_istore_n (lv' := [(2, .int (am i)), (0, .ref (bd 0)), (1, .int (nI f)), (3, .int (nI i))]) hx hb dX1_greatest_58 rfl hl (by decide) rfl (fun ls hl => ?_)
                  refine lv_iinc (v := nI (i + 1)) (lv' := [(3, .int (nI (i + 1))), (2, .int (am i)), (0, .ref (bd 0)), (1, .int (nI f))]) hx hb dX1_greatest_59 hl (k := 3) rfl (nI_inc) (by decide) rfl (fun ls hl => ?_)
                  refine lv_goto (tgt := 16) hx hb dX1_greatest_62 (by decide) ?_
                  refine ih (i + 1) (am i) _ _ _ (by omega) (by omega) ?_ hP hS (lv_sub hl [2, 3, 1, 0] rfl)
                  exact zc_max_new hv (by omega) ⟨Nat.lt_succ_self i, e35⟩ c45 (fun j hj w w2 => by
                    rcases Nat.eq_or_lt_of_le (Nat.le_of_lt_succ w.1) with q | q
                    · rw [q]; exact Int32.le_refl _
                    · exact absurd ⟨q, w.2⟩ w2)
            · subst hr32
              refine nv_if_eq (tgt := 57) (by omega) hx hb dX1_greatest_35 (by decide) (fun c35 => ?_) (fun c35 => ?_)
              · refine lv_iload_n hx hb dX1_greatest_57 rfl (lv_at hl 2 rfl) ?_
                refine lv_istore_n (lv' := [(2, .int bv), (0, .ref (bd 0)), (1, .int (nI f)), (3, .int (nI i))]) hx hb dX1_greatest_58 rfl hl (by decide) rfl (fun ls hl => ?_)
                refine lv_iinc (v := nI (i + 1)) (lv' := [(3, .int (nI (i + 1))), (2, .int bv), (0, .ref (bd 0)), (1, .int (nI f))]) hx hb dX1_greatest_59 hl (k := 3) rfl (nI_inc) (by decide) rfl (fun ls hl => ?_)
                refine lv_goto (tgt := 16) hx hb dX1_greatest_62 (by decide) ?_
                refine ih (i + 1) bv _ _ _ (by omega) (by omega) ?_ hP hS (lv_sub hl [2, 3, 1, 0] rfl)
                exact zc_max_keep hv (fun j hj w => ⟨by have := w.1; omega, w.2⟩) (fun j hj w w2 => by
                  rcases Nat.eq_or_lt_of_le (Nat.le_of_lt_succ w.1) with q | q
                  · exact absurd w.2 (by rw [q, e35]; decide)
                  · exact absurd ⟨q, w.2⟩ w2)
              · exact absurd c35 (by decide)
      refine lv_ldc (v := (-4000000)) hx hb hown (hts _ q234) dX1_greatest_11 ?_
      refine lv_istore_n (lv' := [(2, .int (-4000000)), (0, .ref (bd 0)), (1, .int (nI f))]) hx hb dX1_greatest_13 rfl hl (by decide) rfl (fun ls hl => ?_)
      refine lv_iconst (v := nI 0) hx hb dX1_greatest_14 (by decide) ?_
      refine lv_istore_n (lv' := [(3, .int (nI 0)), (2, .int (-4000000)), (0, .ref (bd 0)), (1, .int (nI f))]) hx hb dX1_greatest_15 rfl hl (by decide) rfl (fun ls hl => ?_)
      exact L16 (n + 1) 0 (-4000000) _ _ _ (by omega) (by omega) ⟨Int32.le_refl _, fun j hj w => by omega, Or.inl rfl⟩ hP hS (lv_sub hl [2, 3, 1, 0] rfl)
    · exact absurd c5 (by decide)
  · subst hr2
    refine nv_if_ne (tgt := 11) (by omega) hx hb dX1_greatest_5 (by decide) (fun c5 => ?_) (fun c5 => ?_)
    · exact absurd c5 (by decide)
    · refine lv_ldc (v := (-1000000)) hx hb hown (hts _ q228) dX1_greatest_8 ?_
      exact hret _ _ _ _ _ (n, F, fo, to) hP hS (⟨Or.inr ⟨fun x w => hno ⟨x, w⟩, rfl⟩, rfl, hmd⟩) dX1_greatest_10
set_option maxHeartbeats 4000000 in
theorem met1_quarter (l : Launch) (D : va_G) (bd : Nat → Nat) (dB : Nat → ClassId) (n : Nat) (F : Nat → Nat → Int32) (fo to : Int32) (hI : mdI bd) (pl : Nat → Nat) (am : Nat → Int32) (hmd : zc_md n pl am F) (a b : Int32) : Met l yX1_quarter (ws_ yX1_quarter cX1_quarter 5 (some .int)) (rmL 1) (va_Pc [.ref (bd 0), .int a, .int b] (Pw D (mdw bd dB n F fo to) (mdT dB))) (Qm D (fun u : Nat × (Nat → Nat → Int32) × Int32 × Int32 => mdw bd dB u.1 u.2.1 u.2.2.1 u.2.2.2) (mdA bd) (fun r u => zc_RX (zc_okQ a b) (fun x r => r = zc_sum (zc_qs pl x.1 x.2) am n) r ∧ u.1 = n ∧ zc_md n pl am u.2.1)) 0 0 (mdA bd) := by
  refine zz_mkM (by decide) rfl (Nat.le_of_ble_eq_true rfl) ?_
  intro pr e s m args below meth c Q ls S hpre hl hret
  obtain ⟨hP, hK⟩ := hpre
  have hx := S.1
  have hb := S.2.1
  have hown : s.vm.findClass RX1 = some m.cls := S.2.2.2.1
  have hts := S.2.2.2.2
  have hS : va_S (mdA bd) s.heap s.heap [] := va_S.rf
  have hl : lv_has ls 5 [(0, .ref (bd 0)), (1, .int a), (2, .int b)] := hl
  have hn40 := hmd.1
  refine lv_iload_n hx hb dX1_quarter_0 rfl (lv_at hl 1 rfl) ?_
  refine lv_if_lt (tgt := 18) hx hb dX1_quarter_1 (by decide) (fun c1 => ?_) (fun c1 => ?_)
  · refine lv_ldc (v := (-1000000)) hx hb hown (hts _ q228) dX1_quarter_18 ?_
    exact hret _ _ _ _ _ (n, F, fo, to) hP hS (⟨Or.inr ⟨fun x w => zc_no_lt c1 w.1.2 (by have := w.1.1; omega), rfl⟩, rfl, hmd⟩) dX1_quarter_20
  · refine lv_iload_n hx hb dX1_quarter_4 rfl (lv_at hl 1 rfl) ?_
    refine lv_iconst (v := nI 1) hx hb dX1_quarter_5 (by decide) ?_
    refine lv_icmp_gt (tgt := 18) hx hb dX1_quarter_6 (by decide) (fun c6 => ?_) (fun c6 => ?_)
    · refine lv_ldc (v := (-1000000)) hx hb hown (hts _ q228) dX1_quarter_18 ?_
      exact hret _ _ _ _ _ (n, F, fo, to) hP hS (⟨Or.inr ⟨fun x w => zc_no_gt c6 w.1.2 (by have := w.1.1; omega) (by decide), rfl⟩, rfl, hmd⟩) dX1_quarter_20
    · refine lv_iload_n hx hb dX1_quarter_9 rfl (lv_at hl 2 rfl) ?_
      refine lv_if_lt (tgt := 18) hx hb dX1_quarter_10 (by decide) (fun c10 => ?_) (fun c10 => ?_)
      · refine lv_ldc (v := (-1000000)) hx hb hown (hts _ q228) dX1_quarter_18 ?_
        exact hret _ _ _ _ _ (n, F, fo, to) hP hS (⟨Or.inr ⟨fun x w => zc_no_lt c10 w.2.2 (by have := w.2.1; omega), rfl⟩, rfl, hmd⟩) dX1_quarter_20
      · refine lv_iload_n hx hb dX1_quarter_13 rfl (lv_at hl 2 rfl) ?_
        refine lv_iconst (v := nI 3) hx hb dX1_quarter_14 (by decide) ?_
        refine lv_icmp_le (tgt := 21) hx hb dX1_quarter_15 (by decide) (fun c15 => ?_) (fun c15 => ?_)
        · obtain ⟨q, hq, ha⟩ := zc_ge0 (b := 1) (by decide) c1 (Int32.not_lt.mp c6)
          obtain ⟨gr, hg, hb2⟩ := zc_ge0 (b := 3) (by decide) c10 c15
          rw [ha, hb2] at hl
          have L26 : ∀ (dd i : Nat) (H : Heap) (locs : List Loc) (ls : Array Slot), i ≤ n → n + 1 ≤ i + dd → va_P D vwCl (mdw bd dB n F fo to) H → va_S (mdA bd) s.heap H locs → lv_has ls 5 [(0, .ref (bd 0)), (1, .int (nI q)), (2, .int (nI gr)), (3, .int (zc_sum (zc_qs pl q gr) am i)), (4, .int (nI i))] → W pr l e (rmL 1) s m args below meth c H locs 0 0 Q (F0 m 26 ls []) := by
            intro dd
            induction dd with
            | zero =>
              intro i  H locs ls hle hdd
              exact absurd hdd (by omega)
            | succ dd ih =>
              intro i  H locs ls hle hdd  hP hS hl
              refine lv_iload hx hb dX1_quarter_26 (lv_at hl 4 rfl) ?_
              refine lv_aload_n hx hb dX1_quarter_28 rfl (lv_at hl 0 rfl) ?_
              refine md_g2 hx hb hts hown hK hP dX1_quarter_29 ?_
              refine nv_icmp_ge (tgt := 87) (by omega) (by omega) hx hb dX1_quarter_32 (by decide) (fun c32 => ?_) (fun c32 => ?_)
              · refine lv_iload_n hx hb dX1_quarter_87 rfl (lv_at hl 3 rfl) ?_
                have hin : i = n := by omega
                rw [hin]
                exact hret _ _ _ _ _ (n, F, fo, to) hP hS (⟨Or.inl ⟨(q, gr), ⟨⟨by show q < 2; omega, ha⟩, by show gr < 4; omega, hb2⟩, rfl⟩, rfl, hmd⟩) dX1_quarter_88
              · refine lv_aload_n hx hb dX1_quarter_35 rfl (lv_at hl 0 rfl) ?_
                refine lv_aload_n hx hb dX1_quarter_36 rfl (lv_at hl 0 rfl) ?_
                refine md_g0 hx hb hts hown hK hP dX1_quarter_37 ?_
                refine lv_iload hx hb dX1_quarter_40 (lv_at hl 4 rfl) ?_
                refine md_l1 hx hb hK hP i rfl (by omega) dX1_quarter_42 ?_
                obtain ⟨w1, w2, w3⟩ := hmd.2.1 i (by omega)
                refine cv_top (b := nI (pl i)) (w1) ?_
                refine zz_callR (As := [.int (nI (pl i))]) (rest := []) S hK hP hS (met1_month l D bd dB n F fo to (pl i) (by omega)) (cwX1_month hts (by decide)) (md_recv hK hP) rfl hl.1 rfl (by decide) dX1_quarter_43 ⟨Nat.le_refl 0, Nat.le_refl 0⟩ (fun r43 H locs hr43 hP hS => ?_)
                subst hr43
                refine lv_iconst (v := nI 3) hx hb dX1_quarter_46 (by decide) ?_
                refine lv_idiv hx hb dX1_quarter_47 (by decide) ?_
                refine cv_top (pk_div (by omega) (by decide) (by decide)) ?_
                refine lv_iload_n hx hb dX1_quarter_48 rfl (lv_at hl 1 rfl) ?_
                refine nv_icmp_ne (tgt := 79) (by omega) (by omega) hx hb dX1_quarter_49 (by decide) (fun c49 => ?_) (fun c49 => ?_)
                · refine lv_iload_n hx hb dX1_quarter_79 rfl (lv_at hl 3 rfl) ?_
                  refine cv_top (b := (zc_sum (zc_qs pl q gr) am (i + 1))) (zc_sum_f (by simp [zc_qs, c49])) ?_
                  refine lv_istore_n (lv' := [(3, .int (zc_sum (zc_qs pl q gr) am (i + 1))), (0, .ref (bd 0)), (1, .int (nI q)), (2, .int (nI gr)), (4, .int (nI i))]) hx hb dX1_quarter_80 rfl hl (by decide) rfl (fun ls hl => ?_)
                  refine lv_iinc (v := nI (i + 1)) (lv' := [(4, .int (nI (i + 1))), (3, .int (zc_sum (zc_qs pl q gr) am (i + 1))), (0, .ref (bd 0)), (1, .int (nI q)), (2, .int (nI gr))]) hx hb dX1_quarter_81 hl (k := 4) rfl (nI_inc) (by decide) rfl (fun ls hl => ?_)
                  refine lv_goto (tgt := 26) hx hb dX1_quarter_84 (by decide) ?_
                  exact ih (i + 1) _ _ _ (by omega) (by omega) hP hS (lv_sub hl [2, 3, 4, 1, 0] rfl)
                · refine lv_aload_n hx hb dX1_quarter_52 rfl (lv_at hl 0 rfl) ?_
                  refine lv_aload_n hx hb dX1_quarter_53 rfl (lv_at hl 0 rfl) ?_
                  refine md_g0 hx hb hts hown hK hP dX1_quarter_54 ?_
                  refine lv_iload hx hb dX1_quarter_57 (lv_at hl 4 rfl) ?_
                  refine md_l1 hx hb hK hP i rfl (by omega) dX1_quarter_59 ?_
                  refine cv_top (b := nI (pl i)) (w1) ?_
                  refine zz_callR (As := [.int (nI (pl i))]) (rest := []) S hK hP hS (met1_region l D bd dB n F fo to (pl i) (by omega)) (cwX1_region hts (by decide)) (md_recv hK hP) rfl hl.1 rfl (by decide) dX1_quarter_60 ⟨Nat.le_refl 0, Nat.le_refl 0⟩ (fun r60 H locs hr60 hP hS => ?_)
                  subst hr60
                  refine lv_iload_n hx hb dX1_quarter_63 rfl (lv_at hl 2 rfl) ?_
                  refine nv_icmp_ne (tgt := 79) (by omega) (by omega) hx hb dX1_quarter_64 (by decide) (fun c64 => ?_) (fun c64 => ?_)
                  · refine lv_iload_n hx hb dX1_quarter_79 rfl (lv_at hl 3 rfl) ?_
                    refine cv_top (b := (zc_sum (zc_qs pl q gr) am (i + 1))) (zc_sum_f (by simp [zc_qs, c64])) ?_
                    refine lv_istore_n (lv' := [(3, .int (zc_sum (zc_qs pl q gr) am (i + 1))), (0, .ref (bd 0)), (1, .int (nI q)), (2, .int (nI gr)), (4, .int (nI i))]) hx hb dX1_quarter_80 rfl hl (by decide) rfl (fun ls hl => ?_)
                    refine lv_iinc (v := nI (i + 1)) (lv' := [(4, .int (nI (i + 1))), (3, .int (zc_sum (zc_qs pl q gr) am (i + 1))), (0, .ref (bd 0)), (1, .int (nI q)), (2, .int (nI gr))]) hx hb dX1_quarter_81 hl (k := 4) rfl (nI_inc) (by decide) rfl (fun ls hl => ?_)
                    refine lv_goto (tgt := 26) hx hb dX1_quarter_84 (by decide) ?_
                    exact ih (i + 1) _ _ _ (by omega) (by omega) hP hS (lv_sub hl [2, 3, 4, 1, 0] rfl)
                  · refine lv_iload_n hx hb dX1_quarter_67 rfl (lv_at hl 3 rfl) ?_
                    refine lv_aload_n hx hb dX1_quarter_68 rfl (lv_at hl 0 rfl) ?_
                    refine md_g1 hx hb hts hown hK hP dX1_quarter_69 ?_
                    refine lv_iload hx hb dX1_quarter_72 (lv_at hl 4 rfl) ?_
                    refine md_l2 hx hb hK hP i rfl (by omega) dX1_quarter_74 ?_
                    refine cv_top (b := am i) (w3) ?_
                    refine lv_iadd hx hb dX1_quarter_75 ?_
                    refine lv_goto (tgt := 80) hx hb dX1_quarter_76 (by decide) ?_
                    refine cv_top (b := (zc_sum (zc_qs pl q gr) am (i + 1))) (zc_sum_t (by simp [zc_qs, c49, c64])) ?_
                    refine lv_istore_n (lv' := [(3, .int (zc_sum (zc_qs pl q gr) am (i + 1))), (0, .ref (bd 0)), (1, .int (nI q)), (2, .int (nI gr)), (4, .int (nI i))]) hx hb dX1_quarter_80 rfl hl (by decide) rfl (fun ls hl => ?_)
                    refine lv_iinc (v := nI (i + 1)) (lv' := [(4, .int (nI (i + 1))), (3, .int (zc_sum (zc_qs pl q gr) am (i + 1))), (0, .ref (bd 0)), (1, .int (nI q)), (2, .int (nI gr))]) hx hb dX1_quarter_81 hl (k := 4) rfl (nI_inc) (by decide) rfl (fun ls hl => ?_)
                    refine lv_goto (tgt := 26) hx hb dX1_quarter_84 (by decide) ?_
                    exact ih (i + 1) _ _ _ (by omega) (by omega) hP hS (lv_sub hl [2, 3, 4, 1, 0] rfl)
          refine lv_iconst (v := nI 0) hx hb dX1_quarter_21 (by decide) ?_
          refine lv_istore_n (lv' := [(3, .int (nI 0)), (0, .ref (bd 0)), (1, .int (nI q)), (2, .int (nI gr))]) hx hb dX1_quarter_22 rfl hl (by decide) rfl (fun ls hl => ?_)
          refine lv_iconst (v := nI 0) hx hb dX1_quarter_23 (by decide) ?_
          refine lv_istore (lv' := [(4, .int (nI 0)), (3, .int (nI 0)), (0, .ref (bd 0)), (1, .int (nI q)), (2, .int (nI gr))]) hx hb dX1_quarter_24 hl (by decide) rfl (fun ls hl => ?_)
          exact L26 (n + 1) 0 _ _ _ (by omega) (by omega) hP hS (lv_sub hl [2, 3, 4, 1, 0] rfl)
        · refine lv_ldc (v := (-1000000)) hx hb hown (hts _ q228) dX1_quarter_18 ?_
          exact hret _ _ _ _ _ (n, F, fo, to) hP hS (⟨Or.inr ⟨fun x w => zc_no_nle c15 w.2.2 (by have := w.2.1; omega) (by decide), rfl⟩, rfl, hmd⟩) dX1_quarter_20
theorem zc_m_of5 {a : Int32} (h : ¬ a < nI 1) (h2 : a ≤ nI 5) : ∃ m, 1 ≤ m ∧ m < 6 ∧ a = nI m := zc_m_of h (Int32.lt_of_le_of_lt h2 (by decide))
set_option maxHeartbeats 4000000 in
theorem met1_growth (l : Launch) (D : va_G) (bd : Nat → Nat) (dB : Nat → ClassId) (n : Nat) (F : Nat → Nat → Int32) (fo to : Int32) (hI : mdI bd) (pl : Nat → Nat) (am : Nat → Int32) (hmd : zc_md n pl am F) (a : Int32) : Met l yX1_growth (ws_ yX1_growth cX1_growth 4 (some .int)) (rmL 1) (va_Pc [.ref (bd 0), .int a] (Pw D (mdw bd dB n F fo to) (mdT dB))) (Qm D (fun u : Nat × (Nat → Nat → Int32) × Int32 × Int32 => mdw bd dB u.1 u.2.1 u.2.2.1 u.2.2.2) (mdA bd) (fun r u => zc_RX (zc_okM a) (fun m r => r = zc_sum (zc_ms pl m) am n - zc_sum (zc_ms pl (m - 1)) am n) r ∧ u.1 = n ∧ zc_md n pl am u.2.1)) 0 0 (mdA bd) := by
  refine zz_mkM (by decide) rfl (Nat.le_of_ble_eq_true rfl) ?_
  intro pr e s m args below meth c Q ls S hpre hl hret
  obtain ⟨hP, hK⟩ := hpre
  have hx := S.1
  have hb := S.2.1
  have hown : s.vm.findClass RX1 = some m.cls := S.2.2.2.1
  have hts := S.2.2.2.2
  have hS : va_S (mdA bd) s.heap s.heap [] := va_S.rf
  have hl : lv_has ls 4 [(0, .ref (bd 0)), (1, .int a)] := hl
  have hn40 := hmd.1
  refine lv_iload_n hx hb dX1_growth_0 rfl (lv_at hl 1 rfl) ?_
  refine lv_iconst (v := nI 1) hx hb dX1_growth_1 (by decide) ?_
  refine lv_icmp_lt (tgt := 10) hx hb dX1_growth_2 (by decide) (fun c2 => ?_) (fun c2 => ?_)
  · refine lv_ldc (v := (-1000000)) hx hb hown (hts _ q228) dX1_growth_10 ?_
    exact hret _ _ _ _ _ (n, F, fo, to) hP hS (⟨Or.inr ⟨fun x w => zc_no_lt1 c2 w.2.2 w.1 (by have := w.2.1; omega), rfl⟩, rfl, hmd⟩) dX1_growth_12
  · refine lv_iload_n hx hb dX1_growth_5 rfl (lv_at hl 1 rfl) ?_
    refine lv_iconst (v := nI 5) hx hb dX1_growth_6 (by decide) ?_
    refine lv_icmp_le (tgt := 13) hx hb dX1_growth_7 (by decide) (fun c7 => ?_) (fun c7 => ?_)
    · obtain ⟨mo, hm1, hm6, ha⟩ := zc_m_of5 c2 c7
      rw [ha] at hl
      have L17 : ∀ (dd i : Nat) (H : Heap) (locs : List Loc) (ls : Array Slot), i ≤ n → n + 1 ≤ i + dd → va_P D vwCl (mdw bd dB n F fo to) H → va_S (mdA bd) s.heap H locs → lv_has ls 4 [(0, .ref (bd 0)), (1, .int (nI mo)), (2, .int (zc_sum (zc_ms pl mo) am i - zc_sum (zc_ms pl (mo - 1)) am i)), (3, .int (nI i))] → W pr l e (rmL 1) s m args below meth c H locs 0 0 Q (F0 m 17 ls []) := by
        intro dd
        induction dd with
        | zero =>
          intro i  H locs ls hle hdd
          exact absurd hdd (by omega)
        | succ dd ih =>
          intro i  H locs ls hle hdd  hP hS hl
          refine lv_iload_n hx hb dX1_growth_17 rfl (lv_at hl 3 rfl) ?_
          refine lv_aload_n hx hb dX1_growth_18 rfl (lv_at hl 0 rfl) ?_
          refine md_g2 hx hb hts hown hK hP dX1_growth_19 ?_
          refine nv_icmp_ge (tgt := 87) (by omega) (by omega) hx hb dX1_growth_22 (by decide) (fun c22 => ?_) (fun c22 => ?_)
          · refine lv_iload_n hx hb dX1_growth_87 rfl (lv_at hl 2 rfl) ?_
            have hin : i = n := by omega
            rw [hin]
            exact hret _ _ _ _ _ (n, F, fo, to) hP hS (⟨Or.inl ⟨mo, ⟨hm1, hm6, ha⟩, rfl⟩, rfl, hmd⟩) dX1_growth_88
          · refine lv_aload_n hx hb dX1_growth_25 rfl (lv_at hl 0 rfl) ?_
            refine lv_aload_n hx hb dX1_growth_26 rfl (lv_at hl 0 rfl) ?_
            refine md_g0 hx hb hts hown hK hP dX1_growth_27 ?_
            refine lv_iload_n hx hb dX1_growth_30 rfl (lv_at hl 3 rfl) ?_
            refine md_l1 hx hb hK hP i rfl (by omega) dX1_growth_31 ?_
            obtain ⟨w1, w2, w3⟩ := hmd.2.1 i (by omega)
            refine cv_top (b := nI (pl i)) (w1) ?_
            refine zz_callR (As := [.int (nI (pl i))]) (rest := []) S hK hP hS (met1_month l D bd dB n F fo to (pl i) (by omega)) (cwX1_month hts (by decide)) (md_recv hK hP) rfl hl.1 rfl (by decide) dX1_growth_32 ⟨Nat.le_refl 0, Nat.le_refl 0⟩ (fun r32 H locs hr32 hP hS => ?_)
            subst hr32
            refine lv_iload_n hx hb dX1_growth_35 rfl (lv_at hl 1 rfl) ?_
            refine nv_icmp_ne (tgt := 50) (by omega) (by omega) hx hb dX1_growth_36 (by decide) (fun c36 => ?_) (fun c36 => ?_)
            · refine lv_iload_n hx hb dX1_growth_50 rfl (lv_at hl 2 rfl) ?_
              refine cv_top (b := (zc_sum (zc_ms pl mo) am (i + 1) - zc_sum (zc_ms pl (mo - 1)) am i)) (by rw [← zc_sum_f (P := zc_ms pl mo) (by simp [zc_ms, c36])]) ?_
              refine lv_istore_n (lv' := [(2, .int (zc_sum (zc_ms pl mo) am (i + 1) - zc_sum (zc_ms pl (mo - 1)) am i)), (0, .ref (bd 0)), (1, .int (nI mo)), (3, .int (nI i))]) hx hb dX1_growth_51 rfl hl (by decide) rfl (fun ls hl => ?_)
              refine lv_aload_n hx hb dX1_growth_52 rfl (lv_at hl 1 rfl) ?_
              refine lv_aload_n hx hb dX1_growth_53 rfl (lv_at hl 1 rfl) ?_
              refine md_g0 hx hb hts hown hK hP dX1_growth_54 ?_
              refine lv_iload_n hx hb dX1_growth_57 rfl (lv_at hl 3 rfl) ?_
              refine md_l1 hx hb hK hP i rfl (by omega) dX1_growth_58 ?_
              refine cv_top (b := nI (pl i)) (w1) ?_
              refine zz_callR (As := [.int (nI (pl i))]) (rest := []) S hK hP hS (met1_month l D bd dB n F fo to (pl i) (by omega)) (cwX1_month hts (by decide)) (md_recv hK hP) rfl hl.1 rfl (by decide) dX1_growth_59 ⟨Nat.le_refl 0, Nat.le_refl 0⟩ (fun r59 H locs hr59 hP hS => ?_)
              subst hr59
              refine lv_iload_n hx hb dX1_growth_62 rfl (lv_at hl 2 rfl) ?_
              refine lv_iconst (v := nI 1) hx hb dX1_growth_63 (by decide) ?_
              refine lv_isub hx hb dX1_growth_64 ?_
              refine cv_top (b := nI (mo - 1)) (pk_sub hm1) ?_
              refine nv_icmp_ne (tgt := 79) (by omega) (by omega) hx hb dX1_growth_65 (by decide) (fun c65 => ?_) (fun c65 => ?_)
              · refine lv_iload_n hx hb dX1_growth_79 rfl (lv_at hl 0 rfl) ?_
                refine cv_top (b := (zc_sum (zc_ms pl mo) am (i + 1) - zc_sum (zc_ms pl (mo - 1)) am (i + 1))) (by rw [← zc_sum_f (P := zc_ms pl (mo - 1)) (by simp [zc_ms, c65])]) ?_
                refine lv_istore_n (lv' := [(2, .int (zc_sum (zc_ms pl mo) am (i + 1) - zc_sum (zc_ms pl (mo - 1)) am (i + 1))), (0, .ref (bd 0)), (1, .int (nI mo)), (3, .int (nI i))]) hx hb dX1_growth_80 rfl hl (by decide) rfl (fun ls hl => ?_)
                refine lv_iinc (v := nI (i + 1)) (lv' := [(3, .int (nI (i + 1))), (2, .int (zc_sum (zc_ms pl mo) am (i + 1) - zc_sum (zc_ms pl (mo - 1)) am (i + 1))), (0, .ref (bd 0)), (1, .int (nI mo))]) hx hb dX1_growth_81 hl (k := 3) rfl (nI_inc) (by decide) rfl (fun ls hl => ?_)
                refine lv_goto (tgt := 17) hx hb dX1_growth_84 (by decide) ?_
                exact ih (i + 1) _ _ _ (by omega) (by omega) hP hS (lv_sub hl [2, 3, 1, 0] rfl)
              · refine lv_iload_n hx hb dX1_growth_68 rfl (lv_at hl 0 rfl) ?_
                refine lv_aload_n hx hb dX1_growth_69 rfl (lv_at hl 1 rfl) ?_
                refine md_g1 hx hb hts hown hK hP dX1_growth_70 ?_
                refine lv_iload_n hx hb dX1_growth_73 rfl (lv_at hl 3 rfl) ?_
                refine md_l2 hx hb hK hP i rfl (by omega) dX1_growth_74 ?_
                refine cv_top (b := am i) (w3) ?_
                refine lv_isub hx hb dX1_growth_75 ?_
                refine lv_goto (tgt := 80) hx hb dX1_growth_76 (by decide) ?_
                refine cv_top (b := (zc_sum (zc_ms pl mo) am (i + 1) - zc_sum (zc_ms pl (mo - 1)) am (i + 1))) (by rw [← zc_sum_t (P := zc_ms pl (mo - 1)) (by simp [zc_ms, c65]), zc_ar2]) ?_
                refine lv_istore_n (lv' := [(2, .int (zc_sum (zc_ms pl mo) am (i + 1) - zc_sum (zc_ms pl (mo - 1)) am (i + 1))), (0, .ref (bd 0)), (1, .int (nI mo)), (3, .int (nI i))]) hx hb dX1_growth_80 rfl hl (by decide) rfl (fun ls hl => ?_)
                refine lv_iinc (v := nI (i + 1)) (lv' := [(3, .int (nI (i + 1))), (2, .int (zc_sum (zc_ms pl mo) am (i + 1) - zc_sum (zc_ms pl (mo - 1)) am (i + 1))), (0, .ref (bd 0)), (1, .int (nI mo))]) hx hb dX1_growth_81 hl (k := 3) rfl (nI_inc) (by decide) rfl (fun ls hl => ?_)
                refine lv_goto (tgt := 17) hx hb dX1_growth_84 (by decide) ?_
                exact ih (i + 1) _ _ _ (by omega) (by omega) hP hS (lv_sub hl [2, 3, 1, 0] rfl)
            · refine lv_iload_n hx hb dX1_growth_39 rfl (lv_at hl 2 rfl) ?_
              refine lv_aload_n hx hb dX1_growth_40 rfl (lv_at hl 0 rfl) ?_
              refine md_g1 hx hb hts hown hK hP dX1_growth_41 ?_
              refine lv_iload_n hx hb dX1_growth_44 rfl (lv_at hl 3 rfl) ?_
              refine md_l2 hx hb hK hP i rfl (by omega) dX1_growth_45 ?_
              refine cv_top (b := am i) (w3) ?_
              refine lv_iadd hx hb dX1_growth_46 ?_
              refine lv_goto (tgt := 51) hx hb dX1_growth_47 (by decide) ?_
              refine cv_top (b := (zc_sum (zc_ms pl mo) am (i + 1) - zc_sum (zc_ms pl (mo - 1)) am i)) (by rw [← zc_sum_t (P := zc_ms pl mo) (by simp [zc_ms, c36]), zc_ar1]) ?_
              refine lv_istore_n (lv' := [(2, .int (zc_sum (zc_ms pl mo) am (i + 1) - zc_sum (zc_ms pl (mo - 1)) am i)), (0, .ref (bd 0)), (1, .int (nI mo)), (3, .int (nI i))]) hx hb dX1_growth_51 rfl hl (by decide) rfl (fun ls hl => ?_)
              refine lv_aload_n hx hb dX1_growth_52 rfl (lv_at hl 1 rfl) ?_
              refine lv_aload_n hx hb dX1_growth_53 rfl (lv_at hl 1 rfl) ?_
              refine md_g0 hx hb hts hown hK hP dX1_growth_54 ?_
              refine lv_iload_n hx hb dX1_growth_57 rfl (lv_at hl 3 rfl) ?_
              refine md_l1 hx hb hK hP i rfl (by omega) dX1_growth_58 ?_
              refine cv_top (b := nI (pl i)) (w1) ?_
              refine zz_callR (As := [.int (nI (pl i))]) (rest := []) S hK hP hS (met1_month l D bd dB n F fo to (pl i) (by omega)) (cwX1_month hts (by decide)) (md_recv hK hP) rfl hl.1 rfl (by decide) dX1_growth_59 ⟨Nat.le_refl 0, Nat.le_refl 0⟩ (fun r59 H locs hr59 hP hS => ?_)
              subst hr59
              refine lv_iload_n hx hb dX1_growth_62 rfl (lv_at hl 2 rfl) ?_
              refine lv_iconst (v := nI 1) hx hb dX1_growth_63 (by decide) ?_
              refine lv_isub hx hb dX1_growth_64 ?_
              refine cv_top (b := nI (mo - 1)) (pk_sub hm1) ?_
              refine nv_icmp_ne (tgt := 79) (by omega) (by omega) hx hb dX1_growth_65 (by decide) (fun c65 => ?_) (fun c65 => ?_)
              · refine lv_iload_n hx hb dX1_growth_79 rfl (lv_at hl 0 rfl) ?_
                refine cv_top (b := (zc_sum (zc_ms pl mo) am (i + 1) - zc_sum (zc_ms pl (mo - 1)) am (i + 1))) (by rw [← zc_sum_f (P := zc_ms pl (mo - 1)) (by simp [zc_ms, c65])]) ?_
                refine lv_istore_n (lv' := [(2, .int (zc_sum (zc_ms pl mo) am (i + 1) - zc_sum (zc_ms pl (mo - 1)) am (i + 1))), (0, .ref (bd 0)), (1, .int (nI mo)), (3, .int (nI i))]) hx hb dX1_growth_80 rfl hl (by decide) rfl (fun ls hl => ?_)
                refine lv_iinc (v := nI (i + 1)) (lv' := [(3, .int (nI (i + 1))), (2, .int (zc_sum (zc_ms pl mo) am (i + 1) - zc_sum (zc_ms pl (mo - 1)) am (i + 1))), (0, .ref (bd 0)), (1, .int (nI mo))]) hx hb dX1_growth_81 hl (k := 3) rfl (nI_inc) (by decide) rfl (fun ls hl => ?_)
                refine lv_goto (tgt := 17) hx hb dX1_growth_84 (by decide) ?_
                exact ih (i + 1) _ _ _ (by omega) (by omega) hP hS (lv_sub hl [2, 3, 1, 0] rfl)
              · refine lv_iload_n hx hb dX1_growth_68 rfl (lv_at hl 0 rfl) ?_
                refine lv_aload_n hx hb dX1_growth_69 rfl (lv_at hl 1 rfl) ?_
                refine md_g1 hx hb hts hown hK hP dX1_growth_70 ?_
                refine lv_iload_n hx hb dX1_growth_73 rfl (lv_at hl 3 rfl) ?_
                refine md_l2 hx hb hK hP i rfl (by omega) dX1_growth_74 ?_
                refine cv_top (b := am i) (w3) ?_
                refine lv_isub hx hb dX1_growth_75 ?_
                refine lv_goto (tgt := 80) hx hb dX1_growth_76 (by decide) ?_
                refine cv_top (b := (zc_sum (zc_ms pl mo) am (i + 1) - zc_sum (zc_ms pl (mo - 1)) am (i + 1))) (by rw [← zc_sum_t (P := zc_ms pl (mo - 1)) (by simp [zc_ms, c65]), zc_ar2]) ?_
                refine lv_istore_n (lv' := [(2, .int (zc_sum (zc_ms pl mo) am (i + 1) - zc_sum (zc_ms pl (mo - 1)) am (i + 1))), (0, .ref (bd 0)), (1, .int (nI mo)), (3, .int (nI i))]) hx hb dX1_growth_80 rfl hl (by decide) rfl (fun ls hl => ?_)
                refine lv_iinc (v := nI (i + 1)) (lv' := [(3, .int (nI (i + 1))), (2, .int (zc_sum (zc_ms pl mo) am (i + 1) - zc_sum (zc_ms pl (mo - 1)) am (i + 1))), (0, .ref (bd 0)), (1, .int (nI mo))]) hx hb dX1_growth_81 hl (k := 3) rfl (nI_inc) (by decide) rfl (fun ls hl => ?_)
                refine lv_goto (tgt := 17) hx hb dX1_growth_84 (by decide) ?_
                exact ih (i + 1) _ _ _ (by omega) (by omega) hP hS (lv_sub hl [2, 3, 1, 0] rfl)
      refine lv_iconst (v := nI 0) hx hb dX1_growth_13 (by decide) ?_
      refine cv_top (b := (zc_sum (zc_ms pl mo) am 0 - zc_sum (zc_ms pl (mo - 1)) am 0)) (by show nI 0 = (0 : Int32) - 0; decide) ?_
      refine lv_istore_n (lv' := [(2, .int (zc_sum (zc_ms pl mo) am 0 - zc_sum (zc_ms pl (mo - 1)) am 0)), (0, .ref (bd 0)), (1, .int (nI mo))]) hx hb dX1_growth_14 rfl hl (by decide) rfl (fun ls hl => ?_)
      refine lv_iconst (v := nI 0) hx hb dX1_growth_15 (by decide) ?_
      refine lv_istore_n (lv' := [(3, .int (nI 0)), (2, .int (zc_sum (zc_ms pl mo) am 0 - zc_sum (zc_ms pl (mo - 1)) am 0)), (0, .ref (bd 0)), (1, .int (nI mo))]) hx hb dX1_growth_16 rfl hl (by decide) rfl (fun ls hl => ?_)
      exact L17 (n + 1) 0 _ _ _ (by omega) (by omega) hP hS (lv_sub hl [2, 3, 1, 0] rfl)
    · refine lv_ldc (v := (-1000000)) hx hb hown (hts _ q228) dX1_growth_10 ?_
      exact hret _ _ _ _ _ (n, F, fo, to) hP hS (⟨Or.inr ⟨fun x w => zc_no_nle c7 w.2.2 (by have := w.2.1; omega) (by decide), rfl⟩, rfl, hmd⟩) dX1_growth_12
set_option maxHeartbeats 4000000 in
theorem met1_add (l : Launch) (D : va_G) (bd : Nat → Nat) (dB : Nat → ClassId) (n : Nat) (F : Nat → Nat → Int32) (fo to : Int32) (hI : mdI bd) (pl : Nat → Nat) (am : Nat → Int32) (hmd : zc_md n pl am F) (a b : Int32) : Met l yX1_add (ws_ yX1_add cX1_add 3 (some .int)) (rmL 1) (va_Pc [.ref (bd 0), .int a, .int b] (Pw D (mdw bd dB n F fo to) (mdT dB))) (Qm D (fun u : Nat × (Nat → Nat → Int32) × Int32 × Int32 => mdw bd dB u.1 u.2.1 u.2.2.1 u.2.2.2) (mdA bd) (fun r u => ∃ n' pl' am', zc_Add n pl am a b r n' pl' am' ∧ u.1 = n' ∧ zc_md n' pl' am' u.2.1)) 0 0 (mdA bd) := by
  refine zz_mkM (by decide) rfl (Nat.le_of_ble_eq_true rfl) ?_
  intro pr e s m args below meth c Q ls S hpre hl hret
  obtain ⟨hP, hK⟩ := hpre
  have hx := S.1
  have hb := S.2.1
  have hown : s.vm.findClass RX1 = some m.cls := S.2.2.2.1
  have hts := S.2.2.2.2
  have hS : va_S (mdA bd) s.heap s.heap [] := va_S.rf
  have hl : lv_has ls 3 [(0, .ref (bd 0)), (1, .int a), (2, .int b)] := hl
  have hn40 := hmd.1
  refine lv_iload_n hx hb dX1_add_0 rfl (lv_at hl 1 rfl) ?_
  refine lv_if_lt (tgt := 18) hx hb dX1_add_1 (by decide) (fun c1 => ?_) (fun c1 => ?_)
  · refine lv_ldc (v := (-1000000)) hx hb hown (hts _ q228) dX1_add_18 ?_
    exact hret _ _ _ _ _ (n, F, fo, to) hP hS (⟨n, pl, am, Or.inr (Or.inr ⟨fun x w => zc_no_lt c1 w.2.1 (by have := w.1; omega), rfl, rfl, rfl, rfl⟩), rfl, hmd⟩) dX1_add_20
  · refine lv_iload_n hx hb dX1_add_4 rfl (lv_at hl 1 rfl) ?_
    refine lv_bipush (v := nI 119) hx hb dX1_add_5 (by decide) ?_
    refine lv_icmp_gt (tgt := 18) hx hb dX1_add_7 (by decide) (fun c7 => ?_) (fun c7 => ?_)
    · refine lv_ldc (v := (-1000000)) hx hb hown (hts _ q228) dX1_add_18 ?_
      exact hret _ _ _ _ _ (n, F, fo, to) hP hS (⟨n, pl, am, Or.inr (Or.inr ⟨fun x w => zc_no_gt c7 w.2.1 (by have := w.1; omega) (by decide), rfl, rfl, rfl, rfl⟩), rfl, hmd⟩) dX1_add_20
    · refine lv_aload_n hx hb dX1_add_10 rfl (lv_at hl 0 rfl) ?_
      refine lv_iload_n hx hb dX1_add_11 rfl (lv_at hl 2 rfl) ?_
      refine zz_callR (As := [.int b]) (rest := []) S hK hP hS (met1_isAmount l D bd dB n F fo to b) (cwX1_isAmount hts (by decide)) (md_recv hK hP) rfl hl.1 rfl (by decide) dX1_add_12 ⟨Nat.le_refl 0, Nat.le_refl 0⟩ (fun r12 H locs hr12 hP hS => ?_)
      rcases hr12 with ⟨hr12, hamt⟩ | ⟨hr12, hno⟩
      · subst hr12
        refine nv_if_ne (tgt := 21) (by omega) hx hb dX1_add_15 (by decide) (fun c15 => ?_) (fun c15 => ?_)
        · obtain ⟨p, hp, ha⟩ := zc_ge0 (b := 119) (by decide) c1 (Int32.not_lt.mp c7)
          have hp : p < 120 := by omega
          rw [ha] at hl
          refine lv_aload_n hx hb dX1_add_21 rfl (lv_at hl 0 rfl) ?_
          refine md_g2 hx hb hts hown hK hP dX1_add_22 ?_
          refine lv_bipush (v := nI 40) hx hb dX1_add_25 (by decide) ?_
          refine nv_icmp_ne (tgt := 33) (by omega) (by omega) hx hb dX1_add_27 (by decide) (fun c27 => ?_) (fun c27 => ?_)
          · refine lv_aload_n hx hb dX1_add_33 rfl (lv_at hl 0 rfl) ?_
            refine md_g0 hx hb hts hown hK hP dX1_add_34 ?_
            refine lv_aload_n hx hb dX1_add_37 rfl (lv_at hl 0 rfl) ?_
            refine md_g2 hx hb hts hown hK hP dX1_add_38 ?_
            refine lv_iload_n hx hb dX1_add_41 rfl (lv_at hl 1 rfl) ?_
            refine md_s1 hx hb hK hP hI hS n rfl (by omega) dX1_add_42 (fun F_1 H locs hF_1 hP hS => ?_)
            refine lv_aload_n hx hb dX1_add_43 rfl (lv_at hl 0 rfl) ?_
            refine md_g1 hx hb hts hown hK hP dX1_add_44 ?_
            refine lv_aload_n hx hb dX1_add_47 rfl (lv_at hl 0 rfl) ?_
            refine md_g2 hx hb hts hown hK hP dX1_add_48 ?_
            refine lv_iload_n hx hb dX1_add_51 rfl (lv_at hl 2 rfl) ?_
            refine md_s2 hx hb hK hP hI hS n rfl (by omega) dX1_add_52 (fun F_2 H locs hF_2 hP hS => ?_)
            refine lv_aload_n hx hb dX1_add_53 rfl (lv_at hl 0 rfl) ?_
            refine lv_dup hx hb dX1_add_54 rfl ?_
            refine md_g2 hx hb hts hown hK hP dX1_add_55 ?_
            refine lv_iconst (v := nI 1) hx hb dX1_add_58 (by decide) ?_
            refine lv_iadd hx hb dX1_add_59 ?_
            refine cv_top (nI_add _ _) ?_
            refine md_p2 hx hb hts hown hK hP hI hS (n + 1) rfl dX1_add_60 (fun H locs hP hS => ?_)
            refine lv_aload_n hx hb dX1_add_63 rfl (lv_at hl 0 rfl) ?_
            refine md_g2 hx hb hts hown hK hP dX1_add_64 ?_
            refine lv_iconst (v := nI 1) hx hb dX1_add_67 (by decide) ?_
            refine lv_isub hx hb dX1_add_68 ?_
            refine cv_top (b := nI n) (nI_pred n) ?_
            exact hret _ _ _ _ _ (n + 1, F_2, fo, to) hP hS (⟨n + 1, va_up pl n p, upd am n b, Or.inl ⟨p, ⟨hp, ha, hamt⟩, c27, rfl, rfl, rfl, rfl⟩, rfl, zc_md_add hmd c27 hp hamt hF_1 hF_2⟩) dX1_add_69
          · refine lv_ldc (v := (-2000000)) hx hb hown (hts _ q229) dX1_add_30 ?_
            exact hret _ _ _ _ _ (n, F, fo, to) hP hS (⟨n, pl, am, Or.inr (Or.inl ⟨⟨p, hp, ha, hamt⟩, c27, rfl, rfl, rfl, rfl⟩), rfl, hmd⟩) dX1_add_32
        · exact absurd c15 (by decide)
      · subst hr12
        refine nv_if_ne (tgt := 21) (by omega) hx hb dX1_add_15 (by decide) (fun c15 => ?_) (fun c15 => ?_)
        · exact absurd c15 (by decide)
        · refine lv_ldc (v := (-1000000)) hx hb hown (hts _ q228) dX1_add_18 ?_
          exact hret _ _ _ _ _ (n, F, fo, to) hP hS (⟨n, pl, am, Or.inr (Or.inr ⟨fun x w => hno w.2.2, rfl, rfl, rfl, rfl⟩), rfl, hmd⟩) dX1_add_20
set_option maxHeartbeats 4000000 in
theorem met1_remove (l : Launch) (D : va_G) (bd : Nat → Nat) (dB : Nat → ClassId) (n : Nat) (F : Nat → Nat → Int32) (fo to : Int32) (hI : mdI bd) (pl : Nat → Nat) (am : Nat → Int32) (hmd : zc_md n pl am F)  : Met l yX1_remove (ws_ yX1_remove cX1_remove 1 (some .int)) (rmL 0) (va_Pc [.ref (bd 0)] (Pw D (mdw bd dB n F fo to) (mdT dB))) (Qm D (fun u : Nat × (Nat → Nat → Int32) × Int32 × Int32 => mdw bd dB u.1 u.2.1 u.2.2.1 u.2.2.2) (mdA bd) (fun r u => ∃ n', zc_Rem n am r n' ∧ u.1 = n' ∧ zc_md n' pl am u.2.1)) 0 0 (mdA bd) := by
  refine zz_mkM (by decide) rfl (Nat.le_of_ble_eq_true rfl) ?_
  intro pr e s m args below meth c Q ls S hpre hl hret
  obtain ⟨hP, hK⟩ := hpre
  have hx := S.1
  have hb := S.2.1
  have hown : s.vm.findClass RX1 = some m.cls := S.2.2.2.1
  have hts := S.2.2.2.2
  have hS : va_S (mdA bd) s.heap s.heap [] := va_S.rf
  have hl : lv_has ls 1 [(0, .ref (bd 0))] := hl
  have hn40 := hmd.1
  refine lv_aload_n hx hb dX1_remove_0 rfl (lv_at hl 0 rfl) ?_
  refine md_g2 hx hb hts hown hK hP dX1_remove_1 ?_
  refine nv_if_ne (tgt := 10) (by omega) hx hb dX1_remove_4 (by decide) (fun c4 => ?_) (fun c4 => ?_)
  · obtain ⟨k, hk⟩ : ∃ k, n = k + 1 := ⟨n - 1, by omega⟩
    have hcw : zc_md (k + 1) pl am F := by rw [← hk]; exact hmd
    obtain ⟨w1, w2, w3⟩ := hcw.2.1 k (by omega)
    refine lv_aload_n hx hb dX1_remove_10 rfl (lv_at hl 0 rfl) ?_
    refine lv_dup hx hb dX1_remove_11 rfl ?_
    refine md_g2 hx hb hts hown hK hP dX1_remove_12 ?_
    refine lv_iconst (v := nI 1) hx hb dX1_remove_15 (by decide) ?_
    refine lv_isub hx hb dX1_remove_16 ?_
    refine cv_top (b := nI k) (by rw [hk]; exact nI_pred k) ?_
    refine md_p2 hx hb hts hown hK hP hI hS k rfl dX1_remove_17 (fun H locs hP hS => ?_)
    refine lv_aload_n hx hb dX1_remove_20 rfl (lv_at hl 0 rfl) ?_
    refine md_g1 hx hb hts hown hK hP dX1_remove_21 ?_
    refine lv_aload_n hx hb dX1_remove_24 rfl (lv_at hl 0 rfl) ?_
    refine md_g2 hx hb hts hown hK hP dX1_remove_25 ?_
    refine md_l2 hx hb hK hP k rfl (by omega) dX1_remove_28 ?_
    refine cv_top (b := am k) (w3) ?_
    exact hret _ _ _ _ _ (k, F, fo, to) hP hS (⟨k, Or.inr ⟨c4, by rw [hk]; rfl, by omega⟩, rfl, zc_md_rem hcw⟩) dX1_remove_29
  · refine lv_ldc (v := (-4000000)) hx hb hown (hts _ q234) dX1_remove_7 ?_
    exact hret _ _ _ _ _ (n, F, fo, to) hP hS (⟨n, Or.inl ⟨c4, rfl, rfl⟩, rfl, hmd⟩) dX1_remove_9
set_option maxHeartbeats 4000000 in
theorem met1_change (l : Launch) (D : va_G) (bd : Nat → Nat) (dB : Nat → ClassId) (n : Nat) (F : Nat → Nat → Int32) (fo to : Int32) (hI : mdI bd) (pl : Nat → Nat) (am : Nat → Int32) (hmd : zc_md n pl am F) (a b : Int32) : Met l yX1_change (ws_ yX1_change cX1_change 4 (some .int)) (rmL 1) (va_Pc [.ref (bd 0), .int a, .int b] (Pw D (mdw bd dB n F fo to) (mdT dB))) (Qm D (fun u : Nat × (Nat → Nat → Int32) × Int32 × Int32 => mdw bd dB u.1 u.2.1 u.2.2.1 u.2.2.2) (mdA bd) (fun r u => ∃ am', zc_Chg n am a b r am' ∧ u.1 = n ∧ zc_md n pl am' u.2.1)) 0 0 (mdA bd) := by
  refine zz_mkM (by decide) rfl (Nat.le_of_ble_eq_true rfl) ?_
  intro pr e s m args below meth c Q ls S hpre hl hret
  obtain ⟨hP, hK⟩ := hpre
  have hx := S.1
  have hb := S.2.1
  have hown : s.vm.findClass RX1 = some m.cls := S.2.2.2.1
  have hts := S.2.2.2.2
  have hS : va_S (mdA bd) s.heap s.heap [] := va_S.rf
  have hl : lv_has ls 4 [(0, .ref (bd 0)), (1, .int a), (2, .int b)] := hl
  have hn40 := hmd.1
  refine lv_iload_n hx hb dX1_change_0 rfl (lv_at hl 1 rfl) ?_
  refine lv_if_lt (tgt := 20) hx hb dX1_change_1 (by decide) (fun c1 => ?_) (fun c1 => ?_)
  · refine lv_ldc (v := (-1000000)) hx hb hown (hts _ q228) dX1_change_20 ?_
    exact hret _ _ _ _ _ (n, F, fo, to) hP hS (⟨am, Or.inr ⟨fun x w => zc_no_lt c1 w.2.1 (by have := w.1; omega), rfl, rfl⟩, rfl, hmd⟩) dX1_change_22
  · refine lv_iload_n hx hb dX1_change_4 rfl (lv_at hl 1 rfl) ?_
    refine lv_aload_n hx hb dX1_change_5 rfl (lv_at hl 0 rfl) ?_
    refine md_g2 hx hb hts hown hK hP dX1_change_6 ?_
    refine lv_icmp_ge (tgt := 20) hx hb dX1_change_9 (by decide) (fun c9 => ?_) (fun c9 => ?_)
    · refine lv_ldc (v := (-1000000)) hx hb hown (hts _ q228) dX1_change_20 ?_
      exact hret _ _ _ _ _ (n, F, fo, to) hP hS (⟨am, Or.inr ⟨fun x w => zc_no_le c9 w.2.1 w.1 (by omega), rfl, rfl⟩, rfl, hmd⟩) dX1_change_22
    · refine lv_aload_n hx hb dX1_change_12 rfl (lv_at hl 0 rfl) ?_
      refine lv_iload_n hx hb dX1_change_13 rfl (lv_at hl 2 rfl) ?_
      refine zz_callR (As := [.int b]) (rest := []) S hK hP hS (met1_isAmount l D bd dB n F fo to b) (cwX1_isAmount hts (by decide)) (md_recv hK hP) rfl hl.1 rfl (by decide) dX1_change_14 ⟨Nat.le_refl 0, Nat.le_refl 0⟩ (fun r14 H locs hr14 hP hS => ?_)
      rcases hr14 with ⟨hr14, hamt⟩ | ⟨hr14, hno⟩
      · subst hr14
        refine nv_if_ne (tgt := 23) (by omega) hx hb dX1_change_17 (by decide) (fun c17 => ?_) (fun c17 => ?_)
        · obtain ⟨j, hj, ha⟩ := zc_lt0 (b := n) (by omega) c1 (Int32.not_le.mp c9)
          rw [ha] at hl
          obtain ⟨w1, w2, w3⟩ := hmd.2.1 j hj
          refine lv_aload_n hx hb dX1_change_23 rfl (lv_at hl 0 rfl) ?_
          refine md_g1 hx hb hts hown hK hP dX1_change_24 ?_
          refine lv_iload_n hx hb dX1_change_27 rfl (lv_at hl 1 rfl) ?_
          refine md_l2 hx hb hK hP j rfl (by omega) dX1_change_28 ?_
          refine cv_top (b := (am j)) (w3) ?_
          refine lv_istore_n (lv' := [(3, .int (am j)), (0, .ref (bd 0)), (1, .int (nI j)), (2, .int b)]) hx hb dX1_change_29 rfl hl (by decide) rfl (fun ls hl => ?_)
          refine lv_aload_n hx hb dX1_change_30 rfl (lv_at hl 1 rfl) ?_
          refine md_g1 hx hb hts hown hK hP dX1_change_31 ?_
          refine lv_iload_n hx hb dX1_change_34 rfl (lv_at hl 2 rfl) ?_
          refine lv_iload_n hx hb dX1_change_35 rfl (lv_at hl 3 rfl) ?_
          refine md_s2 hx hb hK hP hI hS j rfl (by omega) dX1_change_36 (fun F_1 H locs hF_1 hP hS => ?_)
          refine lv_iload_n hx hb dX1_change_37 rfl (lv_at hl 0 rfl) ?_
          exact hret _ _ _ _ _ (n, F_1, fo, to) hP hS (⟨upd am j b, Or.inl ⟨j, ⟨hj, ha, hamt⟩, rfl, rfl⟩, rfl, zc_md_chg hmd hamt hF_1⟩) dX1_change_38
        · exact absurd c17 (by decide)
      · subst hr14
        refine nv_if_ne (tgt := 23) (by omega) hx hb dX1_change_17 (by decide) (fun c17 => ?_) (fun c17 => ?_)
        · exact absurd c17 (by decide)
        · refine lv_ldc (v := (-1000000)) hx hb hown (hts _ q228) dX1_change_20 ?_
          exact hret _ _ _ _ _ (n, F, fo, to) hP hS (⟨am, Or.inr ⟨fun x w => hno w.2.2, rfl, rfl⟩, rfl, hmd⟩) dX1_change_22
end
section
set_option maxRecDepth 100000
/-! the constructors -/
theorem cv_DA {A : Nat → Prop} {ad : Nat → Nat} {dA : Nat → ClassId} {n : Nat} {F : Nat → Nat → Int32} (hI : cvI ad) (hA : ∀ k, k < 10 → A (ad k)) : va_D A (cvw ad dA n F) := (cv_D hI).weaken (fun k q h _ => by
  have a := cv_key h
  rw [a.2]
  exact hA k a.1)
theorem md_DA {A : Nat → Prop} {bd : Nat → Nat} {dB : Nat → ClassId} {n : Nat} {G : Nat → Nat → Int32} {fo to : Int32} (hI : mdI bd) (hA : ∀ k, k < 3 → A (bd k)) : va_D A (mdw bd dB n G fo to) := (md_D hI).weaken (fun k q h _ => by
  have a := md_key h
  rw [a.2]
  exact hA k a.1)
theorem cv_atk {ad : Nat → Nat} {dA : Nat → ClassId} {n : Nat} {F : Nat → Nat → Int32} {i : Nat} (hi : i < 10) : ∃ e, (cvw ad dA n F)[i]? = some (ad i, e) := by
  match i, hi with
  | 0, _ => exact ⟨_, rfl⟩
  | 1, _ => exact ⟨_, rfl⟩
  | 2, _ => exact ⟨_, rfl⟩
  | 3, _ => exact ⟨_, rfl⟩
  | 4, _ => exact ⟨_, rfl⟩
  | 5, _ => exact ⟨_, rfl⟩
  | 6, _ => exact ⟨_, rfl⟩
  | 7, _ => exact ⟨_, rfl⟩
  | 8, _ => exact ⟨_, rfl⟩
  | 9, _ => exact ⟨_, rfl⟩
  | k + 10, h => omega
theorem md_atk {bd : Nat → Nat} {dB : Nat → ClassId} {n : Nat} {G : Nat → Nat → Int32} {fo to : Int32} {i : Nat} (hi : i < 3) : ∃ e, (mdw bd dB n G fo to)[i]? = some (bd i, e) := by
  match i, hi with
  | 0, _ => exact ⟨_, rfl⟩
  | 1, _ => exact ⟨_, rfl⟩
  | 2, _ => exact ⟨_, rfl⟩
  | k + 3, h => omega
theorem cv_IA {A : Nat → Prop} {ad : Nat → Nat} {dA : Nat → ClassId} {n : Nat} {F : Nat → Nat → Int32} (h : va_D A (cvw ad dA n F)) : cvI ad ∧ ∀ k, k < 10 → A (ad k) := by
  refine ⟨fun i j hi hj e => ?_, fun k hk => ?_⟩
  · obtain ⟨x, hx⟩ := cv_atk (ad := ad) (dA := dA) (n := n) (F := F) hi
    obtain ⟨y, hy⟩ := cv_atk (ad := ad) (dA := dA) (n := n) (F := F) hj
    exact h.1 i j _ _ hx hy e
  · obtain ⟨x, hx⟩ := cv_atk (ad := ad) (dA := dA) (n := n) (F := F) hk
    exact h.2 k _ hx
theorem md_IA {A : Nat → Prop} {bd : Nat → Nat} {dB : Nat → ClassId} {n : Nat} {G : Nat → Nat → Int32} {fo to : Int32} (h : va_D A (mdw bd dB n G fo to)) : mdI bd ∧ ∀ k, k < 3 → A (bd k) := by
  refine ⟨fun i j hi hj e => ?_, fun k hk => ?_⟩
  · obtain ⟨x, hx⟩ := md_atk (bd := bd) (dB := dB) (n := n) (G := G) (fo := fo) (to := to) hi
    obtain ⟨y, hy⟩ := md_atk (bd := bd) (dB := dB) (n := n) (G := G) (fo := fo) (to := to) hj
    exact h.1 i j _ _ hx hy e
  · obtain ⟨x, hx⟩ := md_atk (bd := bd) (dB := dB) (n := n) (G := G) (fo := fo) (to := to) hk
    exact h.2 k _ hx
section CtorLoop
variable {p : Program} {l : Launch} {e : Env} {R : Room} {s : State} {m : MethodId} {args : Array Value} {below : List Frame} {meth : Method} {c : Code} {H : Heap} {locs : List Loc} {cells slots : Nat} {Q : State → Prop}
variable {cc : ByteArray} {pc : Nat} {ls : Array Slot} {rest : List Value}
theorem cv_s3A {A : Nat → Prop} {D : va_G} {ad : Nat → Nat} {dA : Nat → ClassId} {n : Nat} {F : Nat → Nat → Int32} (hx : p.tables.exec = Jvm.exec) (hb : c.code = cc) (hK : va_K D vwCl (cvT dA) s) (hP : va_P D vwCl (cvw ad dA n F) H) (hD : va_D A (cvw ad dA n F)) {H0 : Heap} (hS : va_S A H0 H locs) {i x : Int32} (j : Nat) (hi : i = nI j) (hj : j < 120) (hdg : decode cc pc = .ok (.iastore, 1)) (kk : ∀ (F' : Nat → Nat → Int32) (H1 : Heap) (locs1 : List Loc), F' = sw F 3 (upd (F 3) j x) → va_P D vwCl (cvw ad dA n F') H1 → va_S A H0 H1 locs1 → W p l e R s m args below meth c H1 locs1 cells slots Q (F0 m (pc + 1) ls (rest))) : W p l e R s m args below meth c H locs cells slots Q (F0 m (pc) ls (.int x :: .int i :: .ref (ad 3) :: rest)) := by
  subst hi
  refine va_iast hx hb hK hP hD hS 3 2 rfl rfl (vp_in_nI hj (by decide)) hdg (fun H1 locs1 hP1 _ hS1 => ?_)
  rw [nI_clamp (by omega)] at hP1
  exact kk _ H1 locs1 rfl hP1 hS1
end CtorLoop
/-- at the start: no facts -/
theorem zc_cv_0 {F : Nat → Nat → Int32} (pl : Nat → Nat) (am : Nat → Int32) (h3 : ∀ q, q < 120 → F 3 q = (-1)) (h5 : ∀ g, F 5 g = 0) : zc_cv 0 pl am F := ⟨by decide, fun i hi => by omega, fun i hi => by omega, ⟨fun q hq => h3 q hq, fun i hi => by omega⟩, fun g _ hk => absurd (h5 g) hk⟩
theorem zc_md_0 (pl : Nat → Nat) (am : Nat → Int32) (F : Nat → Nat → Int32) : zc_md 0 pl am F := ⟨by decide, fun i hi => by omega, fun i hi => by omega⟩
set_option maxHeartbeats 4000000 in
theorem met0_init (l : Launch) (D : va_G) (h0 sz : Nat) : Met l yX0_init (ws_ yX0_init cX0_init 2 none) ({ frames := 1, cells := 9, slots := 2408, locals := 40 } : Room) (va_Pc [.ref h0] (fun U => U.heap.size = sz ∧ va_P D vwCl [(h0, .inr (0, [.int 0, .null, .null, .null, .null, .null, .null, .null, .null, .null]))] U.heap ∧ va_K D vwCl [] U ∧ va_D (fun _ => True) [(h0, .inr (0, [.int 0, .null, .null, .null, .null, .null, .null, .null, .null, .null]))])) (va_Qv (fun (u : (Nat → Nat) × (Nat → ClassId)) => u.1 0 = h0 ∧ cvI u.1 ∧ ∀ k, k < 10 → va_A [(h0, .inr (0, [.int 0, .null, .null, .null, .null, .null, .null, .null, .null, .null]))] sz (u.1 k)) (fun u t => ∃ F : Nat → Nat → Int32, (∀ pl am, zc_cv 0 pl am F) ∧ va_P D vwCl (cvw u.1 u.2 0 F) t.heap ∧ va_K D vwCl (cvT u.2) t) (va_A [(h0, .inr (0, [.int 0, .null, .null, .null, .null, .null, .null, .null, .null, .null]))] sz)) 9 2408 (va_A [(h0, .inr (0, [.int 0, .null, .null, .null, .null, .null, .null, .null, .null, .null]))] sz) := by
  refine Met.ofW (cc := cX0_init) (maxL := 2) (ret := none) (by decide) rfl ?_
  intro pr e s m args below meth c s₁ B hml hv
  obtain ⟨rfl, hsz, hP, hK, hD0⟩ := hv
  have hx := B.exec
  have hb := B.bytes
  have hr := B.returns
  have hts := atoms_spec (ws := ws_ yX0_init cX0_init 2 none) B.pre
  have hts : ∀ w ∈ lw_all, w.before _ s = true := fun w h => hts w (List.mem_cons_of_mem _ h)
  have hown : s.vm.findClass RX0 = some m.cls := findClass_of_methodNamed B.named
  have hlocks := B.notSynchronized
  have hin : meth.name = "<init>" := (name_of_methodNamed B.named B.method).1
  subst hsz
  have hD := hD0.self (sz := s.heap.size)
  generalize hAe : va_A [(h0, .inr (0, [.int 0, .null, .null, .null, .null, .null, .null, .null, .null, .null]))] s.heap.size = A at hD ⊢
  have hA : ∀ q : Nat, s.heap.size ≤ q → A q := fun q h => by rw [← hAe]; exact Or.inr h
  have hS : va_S A s.heap s.heap [] := va_S.rf
  have hl := lv_entry ([.ref h0]) (n := 2) (Nat.le_of_ble_eq_true rfl)
  rw [lg_entry_eq]
  generalize (lg_sl ([.ref h0]) ++ List.replicate (2 - (lg_sl ([.ref h0])).length) Slot.unset).toArray = ls at hl ⊢
  have hl : lv_has ls 2 [(0, .ref h0)] := hl
  refine lv_aload_n hx hb dX0_init_0 rfl (lv_at hl 0 rfl) ?_
  refine W.objInit hx hb hown (hts _ q35) (hts _ q36) (hts _ q37) rfl (by rw [hml]; exact hl.1) rfl dX0_init_1 (Nat.le_of_ble_eq_true rfl) (Nat.le_of_ble_eq_true rfl) ?_
  refine W.eq (g2 := F0 m 4 ls []) rfl ?_
  refine lv_aload_n hx hb dX0_init_4 rfl (lv_at hl 0 rfl) ?_
  refine lv_bipush (v := nI 40) hx hb dX0_init_5 (by decide) ?_
  refine va_newa (atype := .int) (a0 := (40, .inl (fun _ => 0))) (ty := .int) hx hb (hts _ q69) rfl hK hP hD hS hA (fun _ => rfl) (by decide) (by decide) (by decide) (Nat.le_of_ble_eq_true rfl) (Nat.le_of_ble_eq_true rfl) dX0_init_7 (fun q1_ cA1_ H hK hP hD hS => ?_)
  refine W.widen (k := 1) (n := 40) (Nat.le_refl _) (Nat.le_refl _) ?_
  replace hP : va_P D vwCl [(h0, .inr (0, [.int 0, .null, .null, .null, .null, .null, .null, .null, .null, .null])), (q1_, .inl (cA1_, 40, .inl (fun _ => 0)))] H := hP
  replace hD : va_D A [(h0, .inr (0, [.int 0, .null, .null, .null, .null, .null, .null, .null, .null, .null])), (q1_, .inl (cA1_, 40, .inl (fun _ => 0)))] := hD
  replace hK : va_K D vwCl [(cA1_, .int)] s := hK
  refine va_putF (D := D) (ci := 0) (v := .ref q1_) (ty := .array .int) (C := RX0) (T := TX0) (N := 10) hx hb hts in_X0 tyX0 tyX0_ok nmX0 hown hK hP hD hS 0 rfl rfl 1 (by decide) (hts _ q39) (fun _ h9 => h9) rfl hin rfl (by decide +kernel) rfl rfl (Nat.le_of_ble_eq_true rfl) dX0_init_9 (fun H locs hP hD hS => ?_)
  replace hP : va_P D vwCl [(h0, .inr (0, [.int 0, .ref q1_, .null, .null, .null, .null, .null, .null, .null, .null])), (q1_, .inl (cA1_, 40, .inl (fun _ => 0)))] H := hP
  replace hD : va_D A [(h0, .inr (0, [.int 0, .ref q1_, .null, .null, .null, .null, .null, .null, .null, .null])), (q1_, .inl (cA1_, 40, .inl (fun _ => 0)))] := hD
  refine lv_aload_n hx hb dX0_init_12 rfl (lv_at hl 0 rfl) ?_
  refine lv_bipush (v := nI 40) hx hb dX0_init_13 (by decide) ?_
  refine va_newa (atype := .int) (a0 := (40, .inl (fun _ => 0))) (ty := .int) hx hb (hts _ q69) rfl hK hP hD hS hA (fun _ => rfl) (by decide) (by decide) (by decide) (Nat.le_of_ble_eq_true rfl) (Nat.le_of_ble_eq_true rfl) dX0_init_15 (fun q2_ cA2_ H hK hP hD hS => ?_)
  refine W.widen (k := 2) (n := 80) (Nat.le_refl _) (Nat.le_refl _) ?_
  replace hP : va_P D vwCl [(h0, .inr (0, [.int 0, .ref q1_, .null, .null, .null, .null, .null, .null, .null, .null])), (q1_, .inl (cA1_, 40, .inl (fun _ => 0))), (q2_, .inl (cA2_, 40, .inl (fun _ => 0)))] H := hP
  replace hD : va_D A [(h0, .inr (0, [.int 0, .ref q1_, .null, .null, .null, .null, .null, .null, .null, .null])), (q1_, .inl (cA1_, 40, .inl (fun _ => 0))), (q2_, .inl (cA2_, 40, .inl (fun _ => 0)))] := hD
  replace hK : va_K D vwCl [(cA1_, .int), (cA2_, .int)] s := hK
  refine va_putF (D := D) (ci := 0) (v := .ref q2_) (ty := .array .int) (C := RX0) (T := TX0) (N := 10) hx hb hts in_X0 tyX0 tyX0_ok nmX0 hown hK hP hD hS 0 rfl rfl 2 (by decide) (hts _ q40) (fun _ h9 => h9) rfl hin rfl (by decide +kernel) rfl rfl (Nat.le_of_ble_eq_true rfl) dX0_init_17 (fun H locs hP hD hS => ?_)
  replace hP : va_P D vwCl [(h0, .inr (0, [.int 0, .ref q1_, .ref q2_, .null, .null, .null, .null, .null, .null, .null])), (q1_, .inl (cA1_, 40, .inl (fun _ => 0))), (q2_, .inl (cA2_, 40, .inl (fun _ => 0)))] H := hP
  replace hD : va_D A [(h0, .inr (0, [.int 0, .ref q1_, .ref q2_, .null, .null, .null, .null, .null, .null, .null])), (q1_, .inl (cA1_, 40, .inl (fun _ => 0))), (q2_, .inl (cA2_, 40, .inl (fun _ => 0)))] := hD
  refine lv_aload_n hx hb dX0_init_20 rfl (lv_at hl 0 rfl) ?_
  refine lv_bipush (v := nI 120) hx hb dX0_init_21 (by decide) ?_
  refine va_newa (atype := .int) (a0 := (120, .inl (fun _ => 0))) (ty := .int) hx hb (hts _ q69) rfl hK hP hD hS hA (fun _ => rfl) (by decide) (by decide) (by decide) (Nat.le_of_ble_eq_true rfl) (Nat.le_of_ble_eq_true rfl) dX0_init_23 (fun q3_ cA3_ H hK hP hD hS => ?_)
  refine W.widen (k := 3) (n := 200) (Nat.le_refl _) (Nat.le_refl _) ?_
  replace hP : va_P D vwCl [(h0, .inr (0, [.int 0, .ref q1_, .ref q2_, .null, .null, .null, .null, .null, .null, .null])), (q1_, .inl (cA1_, 40, .inl (fun _ => 0))), (q2_, .inl (cA2_, 40, .inl (fun _ => 0))), (q3_, .inl (cA3_, 120, .inl (fun _ => 0)))] H := hP
  replace hD : va_D A [(h0, .inr (0, [.int 0, .ref q1_, .ref q2_, .null, .null, .null, .null, .null, .null, .null])), (q1_, .inl (cA1_, 40, .inl (fun _ => 0))), (q2_, .inl (cA2_, 40, .inl (fun _ => 0))), (q3_, .inl (cA3_, 120, .inl (fun _ => 0)))] := hD
  replace hK : va_K D vwCl [(cA1_, .int), (cA2_, .int), (cA3_, .int)] s := hK
  refine va_putF (D := D) (ci := 0) (v := .ref q3_) (ty := .array .int) (C := RX0) (T := TX0) (N := 10) hx hb hts in_X0 tyX0 tyX0_ok nmX0 hown hK hP hD hS 0 rfl rfl 3 (by decide) (hts _ q41) (fun _ h9 => h9) rfl hin rfl (by decide +kernel) rfl rfl (Nat.le_of_ble_eq_true rfl) dX0_init_25 (fun H locs hP hD hS => ?_)
  replace hP : va_P D vwCl [(h0, .inr (0, [.int 0, .ref q1_, .ref q2_, .ref q3_, .null, .null, .null, .null, .null, .null])), (q1_, .inl (cA1_, 40, .inl (fun _ => 0))), (q2_, .inl (cA2_, 40, .inl (fun _ => 0))), (q3_, .inl (cA3_, 120, .inl (fun _ => 0)))] H := hP
  replace hD : va_D A [(h0, .inr (0, [.int 0, .ref q1_, .ref q2_, .ref q3_, .null, .null, .null, .null, .null, .null])), (q1_, .inl (cA1_, 40, .inl (fun _ => 0))), (q2_, .inl (cA2_, 40, .inl (fun _ => 0))), (q3_, .inl (cA3_, 120, .inl (fun _ => 0)))] := hD
  refine lv_aload_n hx hb dX0_init_28 rfl (lv_at hl 0 rfl) ?_
  refine lv_bipush (v := nI 40) hx hb dX0_init_29 (by decide) ?_
  refine va_newa (atype := .int) (a0 := (40, .inl (fun _ => 0))) (ty := .int) hx hb (hts _ q69) rfl hK hP hD hS hA (fun _ => rfl) (by decide) (by decide) (by decide) (Nat.le_of_ble_eq_true rfl) (Nat.le_of_ble_eq_true rfl) dX0_init_31 (fun q4_ cA4_ H hK hP hD hS => ?_)
  refine W.widen (k := 4) (n := 240) (Nat.le_refl _) (Nat.le_refl _) ?_
  replace hP : va_P D vwCl [(h0, .inr (0, [.int 0, .ref q1_, .ref q2_, .ref q3_, .null, .null, .null, .null, .null, .null])), (q1_, .inl (cA1_, 40, .inl (fun _ => 0))), (q2_, .inl (cA2_, 40, .inl (fun _ => 0))), (q3_, .inl (cA3_, 120, .inl (fun _ => 0))), (q4_, .inl (cA4_, 40, .inl (fun _ => 0)))] H := hP
  replace hD : va_D A [(h0, .inr (0, [.int 0, .ref q1_, .ref q2_, .ref q3_, .null, .null, .null, .null, .null, .null])), (q1_, .inl (cA1_, 40, .inl (fun _ => 0))), (q2_, .inl (cA2_, 40, .inl (fun _ => 0))), (q3_, .inl (cA3_, 120, .inl (fun _ => 0))), (q4_, .inl (cA4_, 40, .inl (fun _ => 0)))] := hD
  replace hK : va_K D vwCl [(cA1_, .int), (cA2_, .int), (cA3_, .int), (cA4_, .int)] s := hK
  refine va_putF (D := D) (ci := 0) (v := .ref q4_) (ty := .array .int) (C := RX0) (T := TX0) (N := 10) hx hb hts in_X0 tyX0 tyX0_ok nmX0 hown hK hP hD hS 0 rfl rfl 4 (by decide) (hts _ q42) (fun _ h9 => h9) rfl hin rfl (by decide +kernel) rfl rfl (Nat.le_of_ble_eq_true rfl) dX0_init_33 (fun H locs hP hD hS => ?_)
  replace hP : va_P D vwCl [(h0, .inr (0, [.int 0, .ref q1_, .ref q2_, .ref q3_, .ref q4_, .null, .null, .null, .null, .null])), (q1_, .inl (cA1_, 40, .inl (fun _ => 0))), (q2_, .inl (cA2_, 40, .inl (fun _ => 0))), (q3_, .inl (cA3_, 120, .inl (fun _ => 0))), (q4_, .inl (cA4_, 40, .inl (fun _ => 0)))] H := hP
  replace hD : va_D A [(h0, .inr (0, [.int 0, .ref q1_, .ref q2_, .ref q3_, .ref q4_, .null, .null, .null, .null, .null])), (q1_, .inl (cA1_, 40, .inl (fun _ => 0))), (q2_, .inl (cA2_, 40, .inl (fun _ => 0))), (q3_, .inl (cA3_, 120, .inl (fun _ => 0))), (q4_, .inl (cA4_, 40, .inl (fun _ => 0)))] := hD
  refine lv_aload_n hx hb dX0_init_36 rfl (lv_at hl 0 rfl) ?_
  refine lv_bipush (v := nI 8) hx hb dX0_init_37 (by decide) ?_
  refine va_newa (atype := .boolean) (a0 := (8, .inl (fun _ => 0))) (ty := .boolean) hx hb (hts _ q70) rfl hK hP hD hS hA (fun _ => rfl) (by decide) (by decide) (by decide) (Nat.le_of_ble_eq_true rfl) (Nat.le_of_ble_eq_true rfl) dX0_init_39 (fun q5_ cA5_ H hK hP hD hS => ?_)
  refine W.widen (k := 5) (n := 248) (Nat.le_refl _) (Nat.le_refl _) ?_
  replace hP : va_P D vwCl [(h0, .inr (0, [.int 0, .ref q1_, .ref q2_, .ref q3_, .ref q4_, .null, .null, .null, .null, .null])), (q1_, .inl (cA1_, 40, .inl (fun _ => 0))), (q2_, .inl (cA2_, 40, .inl (fun _ => 0))), (q3_, .inl (cA3_, 120, .inl (fun _ => 0))), (q4_, .inl (cA4_, 40, .inl (fun _ => 0))), (q5_, .inl (cA5_, 8, .inl (fun _ => 0)))] H := hP
  replace hD : va_D A [(h0, .inr (0, [.int 0, .ref q1_, .ref q2_, .ref q3_, .ref q4_, .null, .null, .null, .null, .null])), (q1_, .inl (cA1_, 40, .inl (fun _ => 0))), (q2_, .inl (cA2_, 40, .inl (fun _ => 0))), (q3_, .inl (cA3_, 120, .inl (fun _ => 0))), (q4_, .inl (cA4_, 40, .inl (fun _ => 0))), (q5_, .inl (cA5_, 8, .inl (fun _ => 0)))] := hD
  replace hK : va_K D vwCl [(cA1_, .int), (cA2_, .int), (cA3_, .int), (cA4_, .int), (cA5_, .boolean)] s := hK
  refine va_putF (D := D) (ci := 0) (v := .ref q5_) (ty := .array .boolean) (C := RX0) (T := TX0) (N := 10) hx hb hts in_X0 tyX0 tyX0_ok nmX0 hown hK hP hD hS 0 rfl rfl 5 (by decide) (hts _ q43) (fun _ h9 => h9) rfl hin rfl (by decide +kernel) rfl rfl (Nat.le_of_ble_eq_true rfl) dX0_init_41 (fun H locs hP hD hS => ?_)
  replace hP : va_P D vwCl [(h0, .inr (0, [.int 0, .ref q1_, .ref q2_, .ref q3_, .ref q4_, .ref q5_, .null, .null, .null, .null])), (q1_, .inl (cA1_, 40, .inl (fun _ => 0))), (q2_, .inl (cA2_, 40, .inl (fun _ => 0))), (q3_, .inl (cA3_, 120, .inl (fun _ => 0))), (q4_, .inl (cA4_, 40, .inl (fun _ => 0))), (q5_, .inl (cA5_, 8, .inl (fun _ => 0)))] H := hP
  replace hD : va_D A [(h0, .inr (0, [.int 0, .ref q1_, .ref q2_, .ref q3_, .ref q4_, .ref q5_, .null, .null, .null, .null])), (q1_, .inl (cA1_, 40, .inl (fun _ => 0))), (q2_, .inl (cA2_, 40, .inl (fun _ => 0))), (q3_, .inl (cA3_, 120, .inl (fun _ => 0))), (q4_, .inl (cA4_, 40, .inl (fun _ => 0))), (q5_, .inl (cA5_, 8, .inl (fun _ => 0)))] := hD
  refine lv_aload_n hx hb dX0_init_44 rfl (lv_at hl 0 rfl) ?_
  refine lv_sipush (v := nI 960) hx hb dX0_init_45 (by decide) ?_
  refine va_newa (atype := .int) (a0 := (960, .inl (fun _ => 0))) (ty := .int) hx hb (hts _ q69) rfl hK hP hD hS hA (fun _ => rfl) (by decide) (by decide) (by decide) (Nat.le_of_ble_eq_true rfl) (Nat.le_of_ble_eq_true rfl) dX0_init_48 (fun q6_ cA6_ H hK hP hD hS => ?_)
  refine W.widen (k := 6) (n := 1208) (Nat.le_refl _) (Nat.le_refl _) ?_
  replace hP : va_P D vwCl [(h0, .inr (0, [.int 0, .ref q1_, .ref q2_, .ref q3_, .ref q4_, .ref q5_, .null, .null, .null, .null])), (q1_, .inl (cA1_, 40, .inl (fun _ => 0))), (q2_, .inl (cA2_, 40, .inl (fun _ => 0))), (q3_, .inl (cA3_, 120, .inl (fun _ => 0))), (q4_, .inl (cA4_, 40, .inl (fun _ => 0))), (q5_, .inl (cA5_, 8, .inl (fun _ => 0))), (q6_, .inl (cA6_, 960, .inl (fun _ => 0)))] H := hP
  replace hD : va_D A [(h0, .inr (0, [.int 0, .ref q1_, .ref q2_, .ref q3_, .ref q4_, .ref q5_, .null, .null, .null, .null])), (q1_, .inl (cA1_, 40, .inl (fun _ => 0))), (q2_, .inl (cA2_, 40, .inl (fun _ => 0))), (q3_, .inl (cA3_, 120, .inl (fun _ => 0))), (q4_, .inl (cA4_, 40, .inl (fun _ => 0))), (q5_, .inl (cA5_, 8, .inl (fun _ => 0))), (q6_, .inl (cA6_, 960, .inl (fun _ => 0)))] := hD
  replace hK : va_K D vwCl [(cA1_, .int), (cA2_, .int), (cA3_, .int), (cA4_, .int), (cA5_, .boolean), (cA6_, .int)] s := hK
  refine va_putF (D := D) (ci := 0) (v := .ref q6_) (ty := .array .int) (C := RX0) (T := TX0) (N := 10) hx hb hts in_X0 tyX0 tyX0_ok nmX0 hown hK hP hD hS 0 rfl rfl 6 (by decide) (hts _ q44) (fun _ h9 => h9) rfl hin rfl (by decide +kernel) rfl rfl (Nat.le_of_ble_eq_true rfl) dX0_init_50 (fun H locs hP hD hS => ?_)
  replace hP : va_P D vwCl [(h0, .inr (0, [.int 0, .ref q1_, .ref q2_, .ref q3_, .ref q4_, .ref q5_, .ref q6_, .null, .null, .null])), (q1_, .inl (cA1_, 40, .inl (fun _ => 0))), (q2_, .inl (cA2_, 40, .inl (fun _ => 0))), (q3_, .inl (cA3_, 120, .inl (fun _ => 0))), (q4_, .inl (cA4_, 40, .inl (fun _ => 0))), (q5_, .inl (cA5_, 8, .inl (fun _ => 0))), (q6_, .inl (cA6_, 960, .inl (fun _ => 0)))] H := hP
  replace hD : va_D A [(h0, .inr (0, [.int 0, .ref q1_, .ref q2_, .ref q3_, .ref q4_, .ref q5_, .ref q6_, .null, .null, .null])), (q1_, .inl (cA1_, 40, .inl (fun _ => 0))), (q2_, .inl (cA2_, 40, .inl (fun _ => 0))), (q3_, .inl (cA3_, 120, .inl (fun _ => 0))), (q4_, .inl (cA4_, 40, .inl (fun _ => 0))), (q5_, .inl (cA5_, 8, .inl (fun _ => 0))), (q6_, .inl (cA6_, 960, .inl (fun _ => 0)))] := hD
  refine lv_aload_n hx hb dX0_init_53 rfl (lv_at hl 0 rfl) ?_
  refine lv_sipush (v := nI 960) hx hb dX0_init_54 (by decide) ?_
  refine va_newa (atype := .int) (a0 := (960, .inl (fun _ => 0))) (ty := .int) hx hb (hts _ q69) rfl hK hP hD hS hA (fun _ => rfl) (by decide) (by decide) (by decide) (Nat.le_of_ble_eq_true rfl) (Nat.le_of_ble_eq_true rfl) dX0_init_57 (fun q7_ cA7_ H hK hP hD hS => ?_)
  refine W.widen (k := 7) (n := 2168) (Nat.le_refl _) (Nat.le_refl _) ?_
  replace hP : va_P D vwCl [(h0, .inr (0, [.int 0, .ref q1_, .ref q2_, .ref q3_, .ref q4_, .ref q5_, .ref q6_, .null, .null, .null])), (q1_, .inl (cA1_, 40, .inl (fun _ => 0))), (q2_, .inl (cA2_, 40, .inl (fun _ => 0))), (q3_, .inl (cA3_, 120, .inl (fun _ => 0))), (q4_, .inl (cA4_, 40, .inl (fun _ => 0))), (q5_, .inl (cA5_, 8, .inl (fun _ => 0))), (q6_, .inl (cA6_, 960, .inl (fun _ => 0))), (q7_, .inl (cA7_, 960, .inl (fun _ => 0)))] H := hP
  replace hD : va_D A [(h0, .inr (0, [.int 0, .ref q1_, .ref q2_, .ref q3_, .ref q4_, .ref q5_, .ref q6_, .null, .null, .null])), (q1_, .inl (cA1_, 40, .inl (fun _ => 0))), (q2_, .inl (cA2_, 40, .inl (fun _ => 0))), (q3_, .inl (cA3_, 120, .inl (fun _ => 0))), (q4_, .inl (cA4_, 40, .inl (fun _ => 0))), (q5_, .inl (cA5_, 8, .inl (fun _ => 0))), (q6_, .inl (cA6_, 960, .inl (fun _ => 0))), (q7_, .inl (cA7_, 960, .inl (fun _ => 0)))] := hD
  replace hK : va_K D vwCl [(cA1_, .int), (cA2_, .int), (cA3_, .int), (cA4_, .int), (cA5_, .boolean), (cA6_, .int), (cA7_, .int)] s := hK
  refine va_putF (D := D) (ci := 0) (v := .ref q7_) (ty := .array .int) (C := RX0) (T := TX0) (N := 10) hx hb hts in_X0 tyX0 tyX0_ok nmX0 hown hK hP hD hS 0 rfl rfl 7 (by decide) (hts _ q45) (fun _ h9 => h9) rfl hin rfl (by decide +kernel) rfl rfl (Nat.le_of_ble_eq_true rfl) dX0_init_59 (fun H locs hP hD hS => ?_)
  replace hP : va_P D vwCl [(h0, .inr (0, [.int 0, .ref q1_, .ref q2_, .ref q3_, .ref q4_, .ref q5_, .ref q6_, .ref q7_, .null, .null])), (q1_, .inl (cA1_, 40, .inl (fun _ => 0))), (q2_, .inl (cA2_, 40, .inl (fun _ => 0))), (q3_, .inl (cA3_, 120, .inl (fun _ => 0))), (q4_, .inl (cA4_, 40, .inl (fun _ => 0))), (q5_, .inl (cA5_, 8, .inl (fun _ => 0))), (q6_, .inl (cA6_, 960, .inl (fun _ => 0))), (q7_, .inl (cA7_, 960, .inl (fun _ => 0)))] H := hP
  replace hD : va_D A [(h0, .inr (0, [.int 0, .ref q1_, .ref q2_, .ref q3_, .ref q4_, .ref q5_, .ref q6_, .ref q7_, .null, .null])), (q1_, .inl (cA1_, 40, .inl (fun _ => 0))), (q2_, .inl (cA2_, 40, .inl (fun _ => 0))), (q3_, .inl (cA3_, 120, .inl (fun _ => 0))), (q4_, .inl (cA4_, 40, .inl (fun _ => 0))), (q5_, .inl (cA5_, 8, .inl (fun _ => 0))), (q6_, .inl (cA6_, 960, .inl (fun _ => 0))), (q7_, .inl (cA7_, 960, .inl (fun _ => 0)))] := hD
  refine lv_aload_n hx hb dX0_init_62 rfl (lv_at hl 0 rfl) ?_
  refine lv_bipush (v := nI 120) hx hb dX0_init_63 (by decide) ?_
  refine va_newa (atype := .int) (a0 := (120, .inl (fun _ => 0))) (ty := .int) hx hb (hts _ q69) rfl hK hP hD hS hA (fun _ => rfl) (by decide) (by decide) (by decide) (Nat.le_of_ble_eq_true rfl) (Nat.le_of_ble_eq_true rfl) dX0_init_65 (fun q8_ cA8_ H hK hP hD hS => ?_)
  refine W.widen (k := 8) (n := 2288) (Nat.le_refl _) (Nat.le_refl _) ?_
  replace hP : va_P D vwCl [(h0, .inr (0, [.int 0, .ref q1_, .ref q2_, .ref q3_, .ref q4_, .ref q5_, .ref q6_, .ref q7_, .null, .null])), (q1_, .inl (cA1_, 40, .inl (fun _ => 0))), (q2_, .inl (cA2_, 40, .inl (fun _ => 0))), (q3_, .inl (cA3_, 120, .inl (fun _ => 0))), (q4_, .inl (cA4_, 40, .inl (fun _ => 0))), (q5_, .inl (cA5_, 8, .inl (fun _ => 0))), (q6_, .inl (cA6_, 960, .inl (fun _ => 0))), (q7_, .inl (cA7_, 960, .inl (fun _ => 0))), (q8_, .inl (cA8_, 120, .inl (fun _ => 0)))] H := hP
  replace hD : va_D A [(h0, .inr (0, [.int 0, .ref q1_, .ref q2_, .ref q3_, .ref q4_, .ref q5_, .ref q6_, .ref q7_, .null, .null])), (q1_, .inl (cA1_, 40, .inl (fun _ => 0))), (q2_, .inl (cA2_, 40, .inl (fun _ => 0))), (q3_, .inl (cA3_, 120, .inl (fun _ => 0))), (q4_, .inl (cA4_, 40, .inl (fun _ => 0))), (q5_, .inl (cA5_, 8, .inl (fun _ => 0))), (q6_, .inl (cA6_, 960, .inl (fun _ => 0))), (q7_, .inl (cA7_, 960, .inl (fun _ => 0))), (q8_, .inl (cA8_, 120, .inl (fun _ => 0)))] := hD
  replace hK : va_K D vwCl [(cA1_, .int), (cA2_, .int), (cA3_, .int), (cA4_, .int), (cA5_, .boolean), (cA6_, .int), (cA7_, .int), (cA8_, .int)] s := hK
  refine va_putF (D := D) (ci := 0) (v := .ref q8_) (ty := .array .int) (C := RX0) (T := TX0) (N := 10) hx hb hts in_X0 tyX0 tyX0_ok nmX0 hown hK hP hD hS 0 rfl rfl 8 (by decide) (hts _ q46) (fun _ h9 => h9) rfl hin rfl (by decide +kernel) rfl rfl (Nat.le_of_ble_eq_true rfl) dX0_init_67 (fun H locs hP hD hS => ?_)
  replace hP : va_P D vwCl [(h0, .inr (0, [.int 0, .ref q1_, .ref q2_, .ref q3_, .ref q4_, .ref q5_, .ref q6_, .ref q7_, .ref q8_, .null])), (q1_, .inl (cA1_, 40, .inl (fun _ => 0))), (q2_, .inl (cA2_, 40, .inl (fun _ => 0))), (q3_, .inl (cA3_, 120, .inl (fun _ => 0))), (q4_, .inl (cA4_, 40, .inl (fun _ => 0))), (q5_, .inl (cA5_, 8, .inl (fun _ => 0))), (q6_, .inl (cA6_, 960, .inl (fun _ => 0))), (q7_, .inl (cA7_, 960, .inl (fun _ => 0))), (q8_, .inl (cA8_, 120, .inl (fun _ => 0)))] H := hP
  replace hD : va_D A [(h0, .inr (0, [.int 0, .ref q1_, .ref q2_, .ref q3_, .ref q4_, .ref q5_, .ref q6_, .ref q7_, .ref q8_, .null])), (q1_, .inl (cA1_, 40, .inl (fun _ => 0))), (q2_, .inl (cA2_, 40, .inl (fun _ => 0))), (q3_, .inl (cA3_, 120, .inl (fun _ => 0))), (q4_, .inl (cA4_, 40, .inl (fun _ => 0))), (q5_, .inl (cA5_, 8, .inl (fun _ => 0))), (q6_, .inl (cA6_, 960, .inl (fun _ => 0))), (q7_, .inl (cA7_, 960, .inl (fun _ => 0))), (q8_, .inl (cA8_, 120, .inl (fun _ => 0)))] := hD
  refine lv_aload_n hx hb dX0_init_70 rfl (lv_at hl 0 rfl) ?_
  refine lv_bipush (v := nI 120) hx hb dX0_init_71 (by decide) ?_
  refine va_newa (atype := .int) (a0 := (120, .inl (fun _ => 0))) (ty := .int) hx hb (hts _ q69) rfl hK hP hD hS hA (fun _ => rfl) (by decide) (by decide) (by decide) (Nat.le_of_ble_eq_true rfl) (Nat.le_of_ble_eq_true rfl) dX0_init_73 (fun q9_ cA9_ H hK hP hD hS => ?_)
  refine W.widen (k := 9) (n := 2408) (Nat.le_refl _) (Nat.le_refl _) ?_
  replace hP : va_P D vwCl [(h0, .inr (0, [.int 0, .ref q1_, .ref q2_, .ref q3_, .ref q4_, .ref q5_, .ref q6_, .ref q7_, .ref q8_, .null])), (q1_, .inl (cA1_, 40, .inl (fun _ => 0))), (q2_, .inl (cA2_, 40, .inl (fun _ => 0))), (q3_, .inl (cA3_, 120, .inl (fun _ => 0))), (q4_, .inl (cA4_, 40, .inl (fun _ => 0))), (q5_, .inl (cA5_, 8, .inl (fun _ => 0))), (q6_, .inl (cA6_, 960, .inl (fun _ => 0))), (q7_, .inl (cA7_, 960, .inl (fun _ => 0))), (q8_, .inl (cA8_, 120, .inl (fun _ => 0))), (q9_, .inl (cA9_, 120, .inl (fun _ => 0)))] H := hP
  replace hD : va_D A [(h0, .inr (0, [.int 0, .ref q1_, .ref q2_, .ref q3_, .ref q4_, .ref q5_, .ref q6_, .ref q7_, .ref q8_, .null])), (q1_, .inl (cA1_, 40, .inl (fun _ => 0))), (q2_, .inl (cA2_, 40, .inl (fun _ => 0))), (q3_, .inl (cA3_, 120, .inl (fun _ => 0))), (q4_, .inl (cA4_, 40, .inl (fun _ => 0))), (q5_, .inl (cA5_, 8, .inl (fun _ => 0))), (q6_, .inl (cA6_, 960, .inl (fun _ => 0))), (q7_, .inl (cA7_, 960, .inl (fun _ => 0))), (q8_, .inl (cA8_, 120, .inl (fun _ => 0))), (q9_, .inl (cA9_, 120, .inl (fun _ => 0)))] := hD
  replace hK : va_K D vwCl [(cA1_, .int), (cA2_, .int), (cA3_, .int), (cA4_, .int), (cA5_, .boolean), (cA6_, .int), (cA7_, .int), (cA8_, .int), (cA9_, .int)] s := hK
  refine va_putF (D := D) (ci := 0) (v := .ref q9_) (ty := .array .int) (C := RX0) (T := TX0) (N := 10) hx hb hts in_X0 tyX0 tyX0_ok nmX0 hown hK hP hD hS 0 rfl rfl 9 (by decide) (hts _ q47) (fun _ h9 => h9) rfl hin rfl (by decide +kernel) rfl rfl (Nat.le_of_ble_eq_true rfl) dX0_init_75 (fun H locs hP hD hS => ?_)
  replace hP : va_P D vwCl [(h0, .inr (0, [.int 0, .ref q1_, .ref q2_, .ref q3_, .ref q4_, .ref q5_, .ref q6_, .ref q7_, .ref q8_, .ref q9_])), (q1_, .inl (cA1_, 40, .inl (fun _ => 0))), (q2_, .inl (cA2_, 40, .inl (fun _ => 0))), (q3_, .inl (cA3_, 120, .inl (fun _ => 0))), (q4_, .inl (cA4_, 40, .inl (fun _ => 0))), (q5_, .inl (cA5_, 8, .inl (fun _ => 0))), (q6_, .inl (cA6_, 960, .inl (fun _ => 0))), (q7_, .inl (cA7_, 960, .inl (fun _ => 0))), (q8_, .inl (cA8_, 120, .inl (fun _ => 0))), (q9_, .inl (cA9_, 120, .inl (fun _ => 0)))] H := hP
  replace hD : va_D A [(h0, .inr (0, [.int 0, .ref q1_, .ref q2_, .ref q3_, .ref q4_, .ref q5_, .ref q6_, .ref q7_, .ref q8_, .ref q9_])), (q1_, .inl (cA1_, 40, .inl (fun _ => 0))), (q2_, .inl (cA2_, 40, .inl (fun _ => 0))), (q3_, .inl (cA3_, 120, .inl (fun _ => 0))), (q4_, .inl (cA4_, 40, .inl (fun _ => 0))), (q5_, .inl (cA5_, 8, .inl (fun _ => 0))), (q6_, .inl (cA6_, 960, .inl (fun _ => 0))), (q7_, .inl (cA7_, 960, .inl (fun _ => 0))), (q8_, .inl (cA8_, 120, .inl (fun _ => 0))), (q9_, .inl (cA9_, 120, .inl (fun _ => 0)))] := hD
  obtain ⟨ad, had⟩ : ∃ f : Nat → Nat, f = (fun k => match k with | 0 => h0 | 1 => q1_ | 2 => q2_ | 3 => q3_ | 4 => q4_ | 5 => q5_ | 6 => q6_ | 7 => q7_ | 8 => q8_ | _ => q9_) := ⟨_, rfl⟩
  obtain ⟨dA, hdA⟩ : ∃ f : Nat → ClassId, f = (fun k => match k with | 1 => cA1_ | 2 => cA2_ | 3 => cA3_ | 4 => cA4_ | 5 => cA5_ | 6 => cA6_ | 7 => cA7_ | 8 => cA8_ | _ => cA9_) := ⟨_, rfl⟩
  replace hP : va_P D vwCl (cvw ad dA 0 (fun _ _ => 0)) H := by rw [had, hdA]; exact hP
  replace hD : va_D A (cvw ad dA 0 (fun _ _ => 0)) := by rw [had, hdA]; exact hD
  replace hK : va_K D vwCl (cvT dA) s := by rw [hdA]; exact hK
  have h00 : ad 0 = h0 := congrFun had 0
  obtain ⟨hI, hAk⟩ := cv_IA hD
  replace hl : lv_has ls 2 [(0, .ref (ad 0))] := by rw [h00]; exact hl
  clear hD
  have L80 : ∀ (dd i : Nat) (F1 : Nat → Nat → Int32) (H : Heap) (locs : List Loc) (ls : Array Slot), i ≤ 120 → 120 + 1 ≤ i + dd → (∀ q, q < i → F1 3 q = (-1)) → (∀ g, F1 5 g = 0) → va_P D vwCl (cvw ad dA 0 F1) H → va_S A s.heap H locs → lv_has ls 2 [(0, .ref (ad 0)), (1, .int (nI i))] → W pr l e ({ frames := 1, cells := 9, slots := 2408, locals := 40 } : Room) s m ([.ref h0] : List Value).toArray below meth c H locs 9 2408 (MQ below (va_Qv (fun (u : (Nat → Nat) × (Nat → ClassId)) => u.1 0 = h0 ∧ cvI u.1 ∧ ∀ k, k < 10 → A (u.1 k)) (fun u t => ∃ F : Nat → Nat → Int32, (∀ pl am, zc_cv 0 pl am F) ∧ va_P D vwCl (cvw u.1 u.2 0 F) t.heap ∧ va_K D vwCl (cvT u.2) t) A) ([.ref h0] : List Value).toArray s 9 2408 A) (F0 m 80 ls []) := by
    intro dd
    induction dd with
    | zero =>
      intro i F1 H locs ls hle hdd
      exact absurd hdd (by omega)
    | succ dd ih =>
      intro i F1 H locs ls hle hdd h3 h5 hP hS hl
      refine lv_iload_n hx hb dX0_init_80 rfl (lv_at hl 1 rfl) ?_
      refine lv_bipush (v := nI 120) hx hb dX0_init_81 (by decide) ?_
      refine nv_icmp_ge (tgt := 99) (by omega) (by omega) hx hb dX0_init_83 (by decide) (fun c83 => ?_) (fun c83 => ?_)
      · exact W.vret hx hb hr (fun t ht hW => ⟨⟨(ad, dA), rfl, ⟨h00, hI, hAk⟩, F1, fun pl am => zc_cv_0 pl am (fun q hq => h3 q (by omega)) h5, by rw [ht]; exact hP, va_K.moved hW.alike hK⟩, hS.F ht⟩) hS.2.2 dX0_init_99
      · refine lv_aload_n hx hb dX0_init_86 rfl (lv_at hl 0 rfl) ?_
        refine cv_g3 hx hb hts hown hK hP dX0_init_87 ?_
        refine lv_iload_n hx hb dX0_init_90 rfl (lv_at hl 1 rfl) ?_
        refine lv_iconst (v := (-1)) hx hb dX0_init_91 (by decide) ?_
        refine cv_s3A hx hb hK hP (cv_DA hI hAk) hS i rfl (by omega) dX0_init_92 (fun F2 H locs hF2 hP hS => ?_)
        refine lv_iinc (v := nI (i + 1)) (lv' := [(1, .int (nI (i + 1))), (0, .ref (ad 0))]) hx hb dX0_init_93 hl (k := 1) rfl (nI_inc) (by decide) rfl (fun ls hl => ?_)
        refine lv_goto (tgt := 80) hx hb dX0_init_96 (by decide) ?_
        refine ih (i + 1) F2 _ _ _ (by omega) (by omega) (fun q hq => ?_) (fun g => ?_) hP hS (lv_sub hl [1, 0] rfl)
        · rw [hF2, sw_s]
          by_cases hqi : q = i
          · rw [hqi, pk_us]
          · rw [pk_un hqi]
            exact h3 q (by omega)
        · rw [hF2, sw_n (by decide)]
          exact h5 g
  refine lv_iconst (v := nI 0) hx hb dX0_init_78 (by decide) ?_
  refine lv_istore_n (lv' := [(1, .int (nI 0)), (0, .ref (ad 0))]) hx hb dX0_init_79 rfl hl (by decide) rfl (fun ls hl => ?_)
  exact L80 121 0 _ _ _ _ (by omega) (by omega) (fun q hq => by omega) (fun g => rfl) hP hS (lv_sub hl [1, 0] rfl)
set_option maxHeartbeats 4000000 in
theorem met1_init (l : Launch) (D : va_G) (h0 sz : Nat) : Met l yX1_init (ws_ yX1_init cX1_init 1 none) ({ frames := 1, cells := 2, slots := 80, locals := 40 } : Room) (va_Pc [.ref h0] (fun U => U.heap.size = sz ∧ va_P D vwCl [(h0, .inr (1, [.null, .null, .int 0, .int 0, .int 0]))] U.heap ∧ va_K D vwCl [] U ∧ va_D (fun _ => True) [(h0, .inr (1, [.null, .null, .int 0, .int 0, .int 0]))])) (va_Qv (fun (u : (Nat → Nat) × (Nat → ClassId)) => u.1 0 = h0 ∧ mdI u.1 ∧ ∀ k, k < 3 → va_A [(h0, .inr (1, [.null, .null, .int 0, .int 0, .int 0]))] sz (u.1 k)) (fun u t => ∃ (F : Nat → Nat → Int32) (fo to : Int32), (∀ pl am, zc_md 0 pl am F) ∧ va_P D vwCl (mdw u.1 u.2 0 F fo to) t.heap ∧ va_K D vwCl (mdT u.2) t) (va_A [(h0, .inr (1, [.null, .null, .int 0, .int 0, .int 0]))] sz)) 2 80 (va_A [(h0, .inr (1, [.null, .null, .int 0, .int 0, .int 0]))] sz) := by
  refine Met.ofW (cc := cX1_init) (maxL := 1) (ret := none) (by decide) rfl ?_
  intro pr e s m args below meth c s₁ B hml hv
  obtain ⟨rfl, hsz, hP, hK, hD0⟩ := hv
  have hx := B.exec
  have hb := B.bytes
  have hr := B.returns
  have hts := atoms_spec (ws := ws_ yX1_init cX1_init 1 none) B.pre
  have hts : ∀ w ∈ lw_all, w.before _ s = true := fun w h => hts w (List.mem_cons_of_mem _ h)
  have hown : s.vm.findClass RX1 = some m.cls := findClass_of_methodNamed B.named
  have hlocks := B.notSynchronized
  have hin : meth.name = "<init>" := (name_of_methodNamed B.named B.method).1
  subst hsz
  have hD := hD0.self (sz := s.heap.size)
  generalize hAe : va_A [(h0, .inr (1, [.null, .null, .int 0, .int 0, .int 0]))] s.heap.size = A at hD ⊢
  have hA : ∀ q : Nat, s.heap.size ≤ q → A q := fun q h => by rw [← hAe]; exact Or.inr h
  have hS : va_S A s.heap s.heap [] := va_S.rf
  have hl := lv_entry ([.ref h0]) (n := 1) (Nat.le_of_ble_eq_true rfl)
  rw [lg_entry_eq]
  generalize (lg_sl ([.ref h0]) ++ List.replicate (1 - (lg_sl ([.ref h0])).length) Slot.unset).toArray = ls at hl ⊢
  have hl : lv_has ls 1 [(0, .ref h0)] := hl
  refine lv_aload_n hx hb dX1_init_0 rfl (lv_at hl 0 rfl) ?_
  refine W.objInit hx hb hown (hts _ q203) (hts _ q36) (hts _ q37) rfl (by rw [hml]; exact hl.1) rfl dX1_init_1 (Nat.le_of_ble_eq_true rfl) (Nat.le_of_ble_eq_true rfl) ?_
  refine W.eq (g2 := F0 m 4 ls []) rfl ?_
  refine lv_aload_n hx hb dX1_init_4 rfl (lv_at hl 0 rfl) ?_
  refine lv_bipush (v := nI 40) hx hb dX1_init_5 (by decide) ?_
  refine va_newa (atype := .int) (a0 := (40, .inl (fun _ => 0))) (ty := .int) hx hb (hts _ q69) rfl hK hP hD hS hA (fun _ => rfl) (by decide) (by decide) (by decide) (Nat.le_of_ble_eq_true rfl) (Nat.le_of_ble_eq_true rfl) dX1_init_7 (fun q0_ cA0_ H hK hP hD hS => ?_)
  refine W.widen (k := 1) (n := 40) (Nat.le_refl _) (Nat.le_refl _) ?_
  replace hP : va_P D vwCl [(h0, .inr (1, [.null, .null, .int 0, .int 0, .int 0])), (q0_, .inl (cA0_, 40, .inl (fun _ => 0)))] H := hP
  replace hD : va_D A [(h0, .inr (1, [.null, .null, .int 0, .int 0, .int 0])), (q0_, .inl (cA0_, 40, .inl (fun _ => 0)))] := hD
  replace hK : va_K D vwCl [(cA0_, .int)] s := hK
  refine va_putF (D := D) (ci := 1) (v := .ref q0_) (ty := .array .int) (C := RX1) (T := TX1) (N := 5) hx hb hts in_X1 tyX1 tyX1_ok nmX1 hown hK hP hD hS 0 rfl rfl 0 (by decide) (hts _ q204) (fun _ h9 => h9) rfl hin rfl (by decide +kernel) rfl rfl (Nat.le_of_ble_eq_true rfl) dX1_init_9 (fun H locs hP hD hS => ?_)
  replace hP : va_P D vwCl [(h0, .inr (1, [.ref q0_, .null, .int 0, .int 0, .int 0])), (q0_, .inl (cA0_, 40, .inl (fun _ => 0)))] H := hP
  replace hD : va_D A [(h0, .inr (1, [.ref q0_, .null, .int 0, .int 0, .int 0])), (q0_, .inl (cA0_, 40, .inl (fun _ => 0)))] := hD
  refine lv_aload_n hx hb dX1_init_12 rfl (lv_at hl 0 rfl) ?_
  refine lv_bipush (v := nI 40) hx hb dX1_init_13 (by decide) ?_
  refine va_newa (atype := .int) (a0 := (40, .inl (fun _ => 0))) (ty := .int) hx hb (hts _ q69) rfl hK hP hD hS hA (fun _ => rfl) (by decide) (by decide) (by decide) (Nat.le_of_ble_eq_true rfl) (Nat.le_of_ble_eq_true rfl) dX1_init_15 (fun q1_ cA1_ H hK hP hD hS => ?_)
  refine W.widen (k := 2) (n := 80) (Nat.le_refl _) (Nat.le_refl _) ?_
  replace hP : va_P D vwCl [(h0, .inr (1, [.ref q0_, .null, .int 0, .int 0, .int 0])), (q0_, .inl (cA0_, 40, .inl (fun _ => 0))), (q1_, .inl (cA1_, 40, .inl (fun _ => 0)))] H := hP
  replace hD : va_D A [(h0, .inr (1, [.ref q0_, .null, .int 0, .int 0, .int 0])), (q0_, .inl (cA0_, 40, .inl (fun _ => 0))), (q1_, .inl (cA1_, 40, .inl (fun _ => 0)))] := hD
  replace hK : va_K D vwCl [(cA0_, .int), (cA1_, .int)] s := hK
  refine va_putF (D := D) (ci := 1) (v := .ref q1_) (ty := .array .int) (C := RX1) (T := TX1) (N := 5) hx hb hts in_X1 tyX1 tyX1_ok nmX1 hown hK hP hD hS 0 rfl rfl 1 (by decide) (hts _ q205) (fun _ h9 => h9) rfl hin rfl (by decide +kernel) rfl rfl (Nat.le_of_ble_eq_true rfl) dX1_init_17 (fun H locs hP hD hS => ?_)
  replace hP : va_P D vwCl [(h0, .inr (1, [.ref q0_, .ref q1_, .int 0, .int 0, .int 0])), (q0_, .inl (cA0_, 40, .inl (fun _ => 0))), (q1_, .inl (cA1_, 40, .inl (fun _ => 0)))] H := hP
  replace hD : va_D A [(h0, .inr (1, [.ref q0_, .ref q1_, .int 0, .int 0, .int 0])), (q0_, .inl (cA0_, 40, .inl (fun _ => 0))), (q1_, .inl (cA1_, 40, .inl (fun _ => 0)))] := hD
  obtain ⟨bd, hbd⟩ : ∃ f : Nat → Nat, f = (fun k => match k with | 0 => h0 | 1 => q0_ | _ => q1_) := ⟨_, rfl⟩
  obtain ⟨dB, hdB⟩ : ∃ f : Nat → ClassId, f = (fun k => match k with | 1 => cA0_ | _ => cA1_) := ⟨_, rfl⟩
  replace hP : va_P D vwCl (mdw bd dB 0 (fun _ _ => 0) 0 0) H := by rw [hbd, hdB]; exact hP
  replace hD : va_D A (mdw bd dB 0 (fun _ _ => 0) 0 0) := by rw [hbd, hdB]; exact hD
  replace hK : va_K D vwCl (mdT dB) s := by rw [hdB]; exact hK
  have h00 : bd 0 = h0 := congrFun hbd 0
  obtain ⟨hI, hAk⟩ := md_IA hD
  exact W.vret hx hb hr (fun t ht hW => ⟨⟨(bd, dB), rfl, ⟨h00, hI, hAk⟩, (fun _ _ => 0), 0, 0, fun pl am => zc_md_0 pl am _, by rw [ht]; exact hP, va_K.moved hW.alike hK⟩, hS.F ht⟩) hS.2.2 dX1_init_20
end
section
set_option maxRecDepth 100000
/-! THE CLAIM OUT OF ONE WALK OF THE LAW'S BODY. Your part is whole_start (and what it stands on); all else here is the same for every law, but numbers. -/
def R_law : String := "CubeViewsLaw"
def lw_P (b : Addr) (xs : List Int32) (args : Array Value) (s : State) : Prop := args = #[.ref b] ∧ s.IntsAt b xs ∧ xs.length ≤ 192 ∧ (Jvm.Cond.and given_1 narrow_1).before args s = true
def lw_Q (_ : Array Value) (s : State) (o : Outcome) (t : State) : Prop := o = .returned (some (.int 1)) ∧ Framed s o t [] 600000 7290000
def lw_Z (below : List Frame) (a : Array Value) (s : State) : State → Prop := fun t => ∃ o, t.status = .running ∧ Ended t below o ∧ lw_Q a s o t
/-- the law's own end, with 1 on the stack, nothing written that was there before, its room as the claim has it -/
theorem lw_ret {p : Program} {l : Launch} {e : Env} {s : State} {m : MethodId} {below : List Frame} {meth : Method} {c : Code} {b : Nat} (hx : p.tables.exec = Jvm.exec) (hb : c.code = code) (hr : meth.sig.returnType = ret) (hlocks : meth.locks = false) {pc : Nat} {H : Heap} {ls : Array Slot} (hdg : decode code pc = .ok (.ireturn, 1)) : W p l e room_1 s m #[Value.ref b] below meth c H [] 600000 7290000 (lw_Z below #[Value.ref b] s) (F0 m pc ls [.int 1]) := by
  intro T hT X
  obtain ⟨fs, hret, hrun, hended, hW, hframe⟩ := X.leave (v := some (.int 1)) (hlocks := hlocks) (fun h => by rw [hr] at h; cases h)
  have hmeth' : T.vm.method? m = some meth := X.method'
  refine ⟨T.setFrames fs, ?_, .returned (some (.int 1)), hrun, hended, rfl, ⟨_, rfl⟩, hW, hframe⟩
  jvm_step X.here [X.here.top, hx, hb, hdg, hmeth', hr, ret, narrow_b1]
  (try refine ⟨rfl, ?_⟩); (try refine ⟨rfl, ?_⟩)
  first | (intro acts; rw [hret _ acts rfl rfl rfl]) | rw [hret _ _ rfl rfl rfl]
  exact Steps.refl _
/-- what holds at the law's entry: the machine, the code, the tables' words (any of lw_tbl by 'hts w (by decide +kernel)'), the script of L ints xs at the cell b, what the Statement gives of the start (any of its parts by flat_of_before) -/
def lw_At (p : Program) (s : State) (m : MethodId) (meth : Method) (c : Code) (b L : Nat) (xs : Nat → Int32) : Prop :=
  p.tables.exec = Jvm.exec ∧ c.code = code ∧ meth.sig.returnType = ret ∧ c.maxLocals = 4 ∧ s.vm.findClass R_law = some m.cls ∧ (∀ w ∈ lw_tbl, w.before #[Value.ref b] s = true) ∧ va_X b L xs s s.heap ∧ b < s.heap.size ∧ meth.locks = false ∧ (Jvm.Cond.and given_1 narrow_1).before #[Value.ref b] s = true
theorem cwLX0_add {R : Room} {s : State} {args : Array Value} (hts : ∀ w ∈ lw_all, w.before args s = true) (hR : 3 + 1 ≤ R.frames ∧ 8 + (3 + 11) + 40 * 3 ≤ R.locals) : CallW R s args R_law RX0 13 yX0_add cX0_add 3 (some .int) (ws_ yX0_add cX0_add 3 (some .int)) (rmL 3) 0 0 2 := cwV 2 hts (lw_V q71 q72 q73 q28 q74) rfl rfl rfl (by decide +kernel) hR
theorem cwLX1_add {R : Room} {s : State} {args : Array Value} (hts : ∀ w ∈ lw_all, w.before args s = true) (hR : 1 + 1 ≤ R.frames ∧ 8 + (3 + 11) + 40 * 1 ≤ R.locals) : CallW R s args R_law RX1 17 yX1_add cX1_add 3 (some .int) (ws_ yX1_add cX1_add 3 (some .int)) (rmL 1) 0 0 2 := cwV 2 hts (lw_V q220 q221 q222 q29 q223) rfl rfl rfl (by decide +kernel) hR
theorem cwLX0_remove {R : Room} {s : State} {args : Array Value} (hts : ∀ w ∈ lw_all, w.before args s = true) (hR : 3 + 1 ≤ R.frames ∧ 8 + (2 + 11) + 40 * 3 ≤ R.locals) : CallW R s args R_law RX0 18 yX0_remove cX0_remove 2 (some .int) (ws_ yX0_remove cX0_remove 2 (some .int)) (rmL 3) 0 0 0 := cwV 0 hts (lw_V q97 q98 q99 q28 q100) rfl rfl rfl (by decide +kernel) hR
theorem cwLX1_remove {R : Room} {s : State} {args : Array Value} (hts : ∀ w ∈ lw_all, w.before args s = true) (hR : 0 + 1 ≤ R.frames ∧ 8 + (1 + 11) + 40 * 0 ≤ R.locals) : CallW R s args R_law RX1 22 yX1_remove cX1_remove 1 (some .int) (ws_ yX1_remove cX1_remove 1 (some .int)) (rmL 0) 0 0 0 := cwV 0 hts (lw_V q230 q231 q232 q29 q233) rfl rfl rfl (by decide +kernel) hR
theorem cwLX0_change {R : Room} {s : State} {args : Array Value} (hts : ∀ w ∈ lw_all, w.before args s = true) (hR : 3 + 1 ≤ R.frames ∧ 8 + (4 + 11) + 40 * 3 ≤ R.locals) : CallW R s args R_law RX0 23 yX0_change cX0_change 4 (some .int) (ws_ yX0_change cX0_change 4 (some .int)) (rmL 3) 0 0 2 := cwV 2 hts (lw_V q102 q103 q104 q28 q105) rfl rfl rfl (by decide +kernel) hR
theorem cwLX1_change {R : Room} {s : State} {args : Array Value} (hts : ∀ w ∈ lw_all, w.before args s = true) (hR : 1 + 1 ≤ R.frames ∧ 8 + (4 + 11) + 40 * 1 ≤ R.locals) : CallW R s args R_law RX1 26 yX1_change cX1_change 4 (some .int) (ws_ yX1_change cX1_change 4 (some .int)) (rmL 1) 0 0 2 := cwV 2 hts (lw_V q235 q236 q237 q29 q238) rfl rfl rfl (by decide +kernel) hR
theorem cwLX0_facts {R : Room} {s : State} {args : Array Value} (hts : ∀ w ∈ lw_all, w.before args s = true) (hR : 0 + 1 ≤ R.frames ∧ 8 + (1 + 11) + 40 * 0 ≤ R.locals) : CallW R s args R_law RX0 27 yX0_facts cX0_facts 1 (some .int) (ws_ yX0_facts cX0_facts 1 (some .int)) (rmL 0) 0 0 0 := cwV 0 hts (lw_V q106 q107 q108 q28 q109) rfl rfl rfl (by decide +kernel) hR
theorem cwLX1_facts {R : Room} {s : State} {args : Array Value} (hts : ∀ w ∈ lw_all, w.before args s = true) (hR : 0 + 1 ≤ R.frames ∧ 8 + (1 + 11) + 40 * 0 ≤ R.locals) : CallW R s args R_law RX1 30 yX1_facts cX1_facts 1 (some .int) (ws_ yX1_facts cX1_facts 1 (some .int)) (rmL 0) 0 0 0 := cwV 0 hts (lw_V q239 q240 q241 q29 q242) rfl rfl rfl (by decide +kernel) hR
theorem cwLX0_count {R : Room} {s : State} {args : Array Value} (hts : ∀ w ∈ lw_all, w.before args s = true) (hR : 3 + 1 ≤ R.frames ∧ 8 + (2 + 11) + 40 * 3 ≤ R.locals) : CallW R s args R_law RX0 31 yX0_count cX0_count 2 (some .int) (ws_ yX0_count cX0_count 2 (some .int)) (rmL 3) 0 0 1 := cwV 1 hts (lw_V q110 q111 q112 q28 q113) rfl rfl rfl (by decide +kernel) hR
theorem cwLX1_count {R : Room} {s : State} {args : Array Value} (hts : ∀ w ∈ lw_all, w.before args s = true) (hR : 3 + 1 ≤ R.frames ∧ 8 + (2 + 11) + 40 * 3 ≤ R.locals) : CallW R s args R_law RX1 35 yX1_count cX1_count 2 (some .int) (ws_ yX1_count cX1_count 2 (some .int)) (rmL 3) 0 0 1 := cwV 1 hts (lw_V q243 q244 q245 q29 q246) rfl rfl rfl (by decide +kernel) hR
theorem cwLX0_sum {R : Room} {s : State} {args : Array Value} (hts : ∀ w ∈ lw_all, w.before args s = true) (hR : 3 + 1 ≤ R.frames ∧ 8 + (2 + 11) + 40 * 3 ≤ R.locals) : CallW R s args R_law RX0 36 yX0_sum cX0_sum 2 (some .int) (ws_ yX0_sum cX0_sum 2 (some .int)) (rmL 3) 0 0 1 := cwV 1 hts (lw_V q142 q143 q144 q28 q145) rfl rfl rfl (by decide +kernel) hR
theorem cwLX1_sum {R : Room} {s : State} {args : Array Value} (hts : ∀ w ∈ lw_all, w.before args s = true) (hR : 3 + 1 ≤ R.frames ∧ 8 + (2 + 11) + 40 * 3 ≤ R.locals) : CallW R s args R_law RX1 39 yX1_sum cX1_sum 2 (some .int) (ws_ yX1_sum cX1_sum 2 (some .int)) (rmL 3) 0 0 1 := cwV 1 hts (lw_V q279 q280 q281 q29 q282) rfl rfl rfl (by decide +kernel) hR
theorem cwLX0_greatest {R : Room} {s : State} {args : Array Value} (hts : ∀ w ∈ lw_all, w.before args s = true) (hR : 2 + 1 ≤ R.frames ∧ 8 + (5 + 11) + 40 * 2 ≤ R.locals) : CallW R s args R_law RX0 40 yX0_greatest cX0_greatest 5 (some .int) (ws_ yX0_greatest cX0_greatest 5 (some .int)) (rmL 2) 0 0 1 := cwV 1 hts (lw_V q146 q147 q148 q28 q149) rfl rfl rfl (by decide +kernel) hR
theorem cwLX1_greatest {R : Room} {s : State} {args : Array Value} (hts : ∀ w ∈ lw_all, w.before args s = true) (hR : 2 + 1 ≤ R.frames ∧ 8 + (4 + 11) + 40 * 2 ≤ R.locals) : CallW R s args R_law RX1 43 yX1_greatest cX1_greatest 4 (some .int) (ws_ yX1_greatest cX1_greatest 4 (some .int)) (rmL 2) 0 0 1 := cwV 1 hts (lw_V q283 q284 q285 q29 q286) rfl rfl rfl (by decide +kernel) hR
theorem cwLX0_groups {R : Room} {s : State} {args : Array Value} (hts : ∀ w ∈ lw_all, w.before args s = true) (hR : 3 + 1 ≤ R.frames ∧ 8 + (5 + 11) + 40 * 3 ≤ R.locals) : CallW R s args R_law RX0 44 yX0_groups cX0_groups 5 (some .int) (ws_ yX0_groups cX0_groups 5 (some .int)) (rmL 3) 0 0 2 := cwV 2 hts (lw_V q154 q155 q156 q28 q157) rfl rfl rfl (by decide +kernel) hR
theorem cwLX1_groups {R : Room} {s : State} {args : Array Value} (hts : ∀ w ∈ lw_all, w.before args s = true) (hR : 3 + 1 ≤ R.frames ∧ 8 + (5 + 11) + 40 * 3 ≤ R.locals) : CallW R s args R_law RX1 47 yX1_groups cX1_groups 5 (some .int) (ws_ yX1_groups cX1_groups 5 (some .int)) (rmL 3) 0 0 2 := cwV 2 hts (lw_V q287 q288 q289 q29 q290) rfl rfl rfl (by decide +kernel) hR
theorem cwLX0_topSum {R : Room} {s : State} {args : Array Value} (hts : ∀ w ∈ lw_all, w.before args s = true) (hR : 4 + 1 ≤ R.frames ∧ 8 + (4 + 11) + 40 * 4 ≤ R.locals) : CallW R s args R_law RX0 48 yX0_topSum cX0_topSum 4 (some .int) (ws_ yX0_topSum cX0_topSum 4 (some .int)) (rmL 4) 0 0 2 := cwV 2 hts (lw_V q162 q163 q164 q28 q165) rfl rfl rfl (by decide +kernel) hR
theorem cwLX1_topSum {R : Room} {s : State} {args : Array Value} (hts : ∀ w ∈ lw_all, w.before args s = true) (hR : 3 + 1 ≤ R.frames ∧ 8 + (5 + 11) + 40 * 3 ≤ R.locals) : CallW R s args R_law RX1 51 yX1_topSum cX1_topSum 5 (some .int) (ws_ yX1_topSum cX1_topSum 5 (some .int)) (rmL 3) 0 0 2 := cwV 2 hts (lw_V q295 q296 q297 q29 q298) rfl rfl rfl (by decide +kernel) hR
theorem cwLX0_topGroup {R : Room} {s : State} {args : Array Value} (hts : ∀ w ∈ lw_all, w.before args s = true) (hR : 4 + 1 ≤ R.frames ∧ 8 + (4 + 11) + 40 * 4 ≤ R.locals) : CallW R s args R_law RX0 52 yX0_topGroup cX0_topGroup 4 (some .int) (ws_ yX0_topGroup cX0_topGroup 4 (some .int)) (rmL 4) 0 0 2 := cwV 2 hts (lw_V q170 q171 q172 q28 q173) rfl rfl rfl (by decide +kernel) hR
theorem cwLX1_topGroup {R : Room} {s : State} {args : Array Value} (hts : ∀ w ∈ lw_all, w.before args s = true) (hR : 3 + 1 ≤ R.frames ∧ 8 + (6 + 11) + 40 * 3 ≤ R.locals) : CallW R s args R_law RX1 55 yX1_topGroup cX1_topGroup 6 (some .int) (ws_ yX1_topGroup cX1_topGroup 6 (some .int)) (rmL 3) 0 0 2 := cwV 2 hts (lw_V q299 q300 q301 q29 q302) rfl rfl rfl (by decide +kernel) hR
theorem cwLX0_quarter {R : Room} {s : State} {args : Array Value} (hts : ∀ w ∈ lw_all, w.before args s = true) (hR : 3 + 1 ≤ R.frames ∧ 8 + (3 + 11) + 40 * 3 ≤ R.locals) : CallW R s args R_law RX0 56 yX0_quarter cX0_quarter 3 (some .int) (ws_ yX0_quarter cX0_quarter 3 (some .int)) (rmL 3) 0 0 2 := cwV 2 hts (lw_V q174 q175 q176 q28 q177) rfl rfl rfl (by decide +kernel) hR
theorem cwLX1_quarter {R : Room} {s : State} {args : Array Value} (hts : ∀ w ∈ lw_all, w.before args s = true) (hR : 1 + 1 ≤ R.frames ∧ 8 + (5 + 11) + 40 * 1 ≤ R.locals) : CallW R s args R_law RX1 59 yX1_quarter cX1_quarter 5 (some .int) (ws_ yX1_quarter cX1_quarter 5 (some .int)) (rmL 1) 0 0 2 := cwV 2 hts (lw_V q303 q304 q305 q29 q306) rfl rfl rfl (by decide +kernel) hR
theorem cwLX0_growth {R : Room} {s : State} {args : Array Value} (hts : ∀ w ∈ lw_all, w.before args s = true) (hR : 3 + 1 ≤ R.frames ∧ 8 + (2 + 11) + 40 * 3 ≤ R.locals) : CallW R s args R_law RX0 60 yX0_growth cX0_growth 2 (some .int) (ws_ yX0_growth cX0_growth 2 (some .int)) (rmL 3) 0 0 1 := cwV 1 hts (lw_V q178 q179 q180 q28 q181) rfl rfl rfl (by decide +kernel) hR
theorem cwLX1_growth {R : Room} {s : State} {args : Array Value} (hts : ∀ w ∈ lw_all, w.before args s = true) (hR : 1 + 1 ≤ R.frames ∧ 8 + (4 + 11) + 40 * 1 ≤ R.locals) : CallW R s args R_law RX1 63 yX1_growth cX1_growth 4 (some .int) (ws_ yX1_growth cX1_growth 4 (some .int)) (rmL 1) 0 0 1 := cwV 1 hts (lw_V q307 q308 q309 q29 q310) rfl rfl rfl (by decide +kernel) hR
theorem cwLX0_atLeast {R : Room} {s : State} {args : Array Value} (hts : ∀ w ∈ lw_all, w.before args s = true) (hR : 3 + 1 ≤ R.frames ∧ 8 + (5 + 11) + 40 * 3 ≤ R.locals) : CallW R s args R_law RX0 64 yX0_atLeast cX0_atLeast 5 (some .int) (ws_ yX0_atLeast cX0_atLeast 5 (some .int)) (rmL 3) 0 0 2 := cwV 2 hts (lw_V q182 q183 q184 q28 q185) rfl rfl rfl (by decide +kernel) hR
theorem cwLX1_atLeast {R : Room} {s : State} {args : Array Value} (hts : ∀ w ∈ lw_all, w.before args s = true) (hR : 3 + 1 ≤ R.frames ∧ 8 + (5 + 11) + 40 * 3 ≤ R.locals) : CallW R s args R_law RX1 67 yX1_atLeast cX1_atLeast 5 (some .int) (ws_ yX1_atLeast cX1_atLeast 5 (some .int)) (rmL 3) 0 0 2 := cwV 2 hts (lw_V q311 q312 q313 q29 q314) rfl rfl rfl (by decide +kernel) hR
theorem cwLX0_plan {R : Room} {s : State} {args : Array Value} (hts : ∀ w ∈ lw_all, w.before args s = true) (hR : 3 + 1 ≤ R.frames ∧ 8 + (10 + 11) + 40 * 3 ≤ R.locals) : CallW R s args R_law RX0 68 yX0_plan cX0_plan 10 (some .int) (ws_ yX0_plan cX0_plan 10 (some .int)) (rmL 3) 0 0 1 := cwV 1 hts (lw_V q186 q187 q188 q28 q189) rfl rfl rfl (by decide +kernel) hR
theorem cwLX1_plan {R : Room} {s : State} {args : Array Value} (hts : ∀ w ∈ lw_all, w.before args s = true) (hR : 0 + 1 ≤ R.frames ∧ 8 + (2 + 11) + 40 * 0 ≤ R.locals) : CallW R s args R_law RX1 71 yX1_plan cX1_plan 2 (some .int) (ws_ yX1_plan cX1_plan 2 (some .int)) (rmL 0) 0 0 1 := cwV 1 hts (lw_V q315 q316 q317 q29 q318) rfl rfl rfl (by decide +kernel) hR
section LawRows
variable {p : Program} {l : Launch} {e : Env} {R : Room} {s : State} {m : MethodId} {args : Array Value} {below : List Frame} {meth : Method} {c : Code} {H : Heap} {locs : List Loc} {cells slots : Nat} {Q : State → Prop}
variable {cc : ByteArray} {pc : Nat} {ls : Array Slot} {rest : List Value}
theorem la_ld {b L : Nat} {xs : Nat → Int32} (hx : p.tables.exec = Jvm.exec) (hb : c.code = cc) (hX : va_X b L xs s s.heap) (hbl : b < s.heap.size) (hS : va_S (fun q => s.heap.size ≤ q) s.heap H locs) (hL : L ≤ 192) {i : Int32} (j : Nat) (hi : i = nI j) (hj : j < L) (hdg : decode cc pc = .ok (.iaload, 1)) (kk : W p l e R s m args below meth c H locs cells slots Q (F0 m (pc + 1) ls (.int (xs j) :: rest))) : W p l e R s m args below meth c H locs cells slots Q (F0 m pc ls (.int i :: .ref b :: rest)) := by
  subst hi
  refine va_sld hx hb hX hbl (Nat.not_le.mpr hbl) hS (vp_in_nI hj (by omega)) hdg ?_
  rw [nI_clamp (by omega)]
  exact kk
theorem la_keep {D : va_G} {w : va_W} {A1 : Nat → Prop} {H1 : Heap} (hP : va_P D vwCl w H) (hdis : ∀ (k : Nat) (q : Nat × va_E), w[k]? = some q → ¬ A1 q.1) (hfr : ∀ q : Nat, q < H.size → ¬ A1 q → H1[q]? = H[q]?) : va_P D vwCl w H1 := hP.kept (fun k q hq => hfr q.1 (hP k q hq).lt (hdis k q hq))
end LawRows
theorem la_dm {ad bd : Nat → Nat} {dB : Nat → ClassId} {n : Nat} {G : Nat → Nat → Int32} {fo to : Int32} (hd : ∀ i j, i < 10 → j < 3 → ad i ≠ bd j) (k : Nat) (q : Nat × va_E) (h : (mdw bd dB n G fo to)[k]? = some q) : ¬ cvA ad q.1 := by
  have a := md_key h
  rintro ⟨i, hi, e⟩
  exact hd i k hi a.1 (by rw [← e, a.2])
theorem la_dc {ad bd : Nat → Nat} {dA : Nat → ClassId} {n : Nat} {F : Nat → Nat → Int32} (hd : ∀ i j, i < 10 → j < 3 → ad i ≠ bd j) (k : Nat) (q : Nat × va_E) (h : (cvw ad dA n F)[k]? = some q) : ¬ mdA bd q.1 := by
  have a := cv_key h
  rintro ⟨i, hi, e⟩
  exact hd k i a.1 hi (by rw [← e, a.2])
theorem la_inx {ad : Nat → Nat} {sz : Nat} (h : ∀ k, k < 10 → sz ≤ ad k) (q : Nat) (hq : cvA ad q) : sz ≤ q := by
  obtain ⟨k, hk, e⟩ := hq
  rw [e]
  exact h k hk
theorem la_inm {bd : Nat → Nat} {sz : Nat} (h : ∀ k, k < 3 → sz ≤ bd k) (q : Nat) (hq : mdA bd q) : sz ≤ q := by
  obtain ⟨k, hk, e⟩ := hq
  rw [e]
  exact h k hk
theorem la_cond {L i : Nat} (hL : L ≤ 192) (hi : i ≤ L) (h : ¬ nI L - nI 3 < nI i) : i + 3 ≤ L := by
  have h1 := Int32.le_iff_toInt_le.mp (Int32.not_lt.mp h)
  rw [nI_toInt (by omega), pk_sub_toInt (by omega) (by decide)] at h1
  omega
/-- the class and the reference hold the same facts -/
def la_In (D : va_G) (ad bd : Nat → Nat) (dA dB : Nat → ClassId) (n : Nat) (pl : Nat → Nat) (am : Nat → Int32) (F F2 : Nat → Nat → Int32) (fo to : Int32) (H : Heap) : Prop := va_P D vwCl (cvw ad dA n F) H ∧ va_P D vwCl (mdw bd dB n F2 fo to) H ∧ zc_cv n pl am F ∧ zc_md n pl am F2
end
section
set_option maxRecDepth 100000

set_option maxHeartbeats 4000000 in
/-- the law's case 0: add -/
theorem la_case0 {p : Program} {l : Launch} {e : Env} {s : State} {m : MethodId} {args : Array Value} {below : List Frame} {meth : Method} {c : Code} {Q : State → Prop} {b L : Nat} {xs : Nat → Int32} {D : va_G} {ad bd : Nat → Nat} {dA dB : Nat → ClassId} (S : CallFix p m c cL_law 4 s args lw_all R_law) (hKx : va_K D vwCl (cvT dA) s) (hKm : va_K D vwCl (mdT dB) s) (hIx : cvI ad) (hIm : mdI bd) (hd : ∀ i j, i < 10 → j < 3 → ad i ≠ bd j) (hAx : ∀ k, k < 10 → s.heap.size ≤ ad k) (hAm : ∀ k, k < 3 → s.heap.size ≤ bd k) (hX : va_X b L xs s s.heap) (hbl : b < s.heap.size) (hL : L ≤ 192) (i : Nat) (hi : i + 3 ≤ L) (cont : ∀ (n : Nat) (pl : Nat → Nat) (am : Nat → Int32) (F F2 : Nat → Nat → Int32) (fo to : Int32) (H : Heap) (locs : List Loc) (ls : Array Slot), la_In D ad bd dA dB n pl am F F2 fo to H → va_S (fun q => s.heap.size ≤ q) s.heap H locs → lv_has ls 4 [(0, .ref b), (1, .ref (ad 0)), (2, .ref (bd 0)), (3, .int (nI i))] → W p l e room_1 s m args below meth c H locs 13 2503 Q (F0 m 476 ls [])) : ∀ (n : Nat) (pl : Nat → Nat) (am : Nat → Int32) (F F2 : Nat → Nat → Int32) (fo to : Int32) (H : Heap) (locs : List Loc) (ls : Array Slot), la_In D ad bd dA dB n pl am F F2 fo to H → va_S (fun q => s.heap.size ≤ q) s.heap H locs → lv_has ls 4 [(0, .ref b), (1, .ref (ad 0)), (2, .ref (bd 0)), (3, .int (nI i))] → W p l e room_1 s m args below meth c H locs 13 2503 Q (F0 m 104 ls []) := by
  intro n pl am F F2 fo to H locs ls hin hS hl
  obtain ⟨hP1, hP2, hcv, hmd⟩ := hin
  have hx := S.1
  have hb := S.2.1
  have hts := S.2.2.2.2
  refine lv_aload_n hx hb dL_law_104 rfl (lv_at hl 1 rfl) ?_
  refine lv_aload_n hx hb dL_law_105 rfl (lv_at hl 0 rfl) ?_
  refine lv_iload_n hx hb dL_law_106 rfl (lv_at hl 3 rfl) ?_
  refine lv_iconst (v := nI 1) hx hb dL_law_107 (by decide) ?_
  refine lv_iadd hx hb dL_law_108 ?_
  refine cv_top (nI_add _ _) ?_
  refine la_ld hx hb hX hbl hS hL (i + 1) rfl (by omega) dL_law_109 ?_
  refine lv_aload_n hx hb dL_law_110 rfl (lv_at hl 0 rfl) ?_
  refine lv_iload_n hx hb dL_law_111 rfl (lv_at hl 3 rfl) ?_
  refine lv_iconst (v := nI 2) hx hb dL_law_112 (by decide) ?_
  refine lv_iadd hx hb dL_law_113 ?_
  refine cv_top (nI_add _ _) ?_
  refine la_ld hx hb hX hbl hS hL (i + 2) rfl (by omega) dL_law_114 ?_
  refine zz_callM (As := [.int (xs (i + 1)), .int (xs (i + 2))]) (rest := []) S hKx hP1 hS (la_inx hAx) (met0_add l D ad dA n F hIx pl am hcv (xs (i + 1)) (xs (i + 2))) (cwLX0_add hts (by decide)) (cv_recv hKx hP1) rfl hl.1 rfl (Nat.le_of_ble_eq_true rfl) dL_law_115 ⟨Nat.le_of_ble_eq_true rfl, Nat.le_of_ble_eq_true rfl⟩ (fun r1 u1 H locs hr1 hP1 hfr hS => ?_)
  replace hP1 : va_P D vwCl (cvw ad dA u1.1 u1.2) H := hP1
  replace hP2 := la_keep hP2 (la_dm hd) hfr
  refine lv_aload_n hx hb dL_law_118 rfl (lv_at hl 2 rfl) ?_
  refine lv_aload_n hx hb dL_law_119 rfl (lv_at hl 0 rfl) ?_
  refine lv_iload_n hx hb dL_law_120 rfl (lv_at hl 3 rfl) ?_
  refine lv_iconst (v := nI 1) hx hb dL_law_121 (by decide) ?_
  refine lv_iadd hx hb dL_law_122 ?_
  refine cv_top (nI_add _ _) ?_
  refine la_ld hx hb hX hbl hS hL (i + 1) rfl (by omega) dL_law_123 ?_
  refine lv_aload_n hx hb dL_law_124 rfl (lv_at hl 0 rfl) ?_
  refine lv_iload_n hx hb dL_law_125 rfl (lv_at hl 3 rfl) ?_
  refine lv_iconst (v := nI 2) hx hb dL_law_126 (by decide) ?_
  refine lv_iadd hx hb dL_law_127 ?_
  refine cv_top (nI_add _ _) ?_
  refine la_ld hx hb hX hbl hS hL (i + 2) rfl (by omega) dL_law_128 ?_
  refine zz_callM (As := [.int (xs (i + 1)), .int (xs (i + 2))]) (rest := [.int r1]) S hKm hP2 hS (la_inm hAm) (met1_add l D bd dB n F2 fo to hIm pl am hmd (xs (i + 1)) (xs (i + 2))) (cwLX1_add hts (by decide)) (md_recv hKm hP2) rfl hl.1 rfl (Nat.le_of_ble_eq_true rfl) dL_law_129 ⟨Nat.le_of_ble_eq_true rfl, Nat.le_of_ble_eq_true rfl⟩ (fun r2 u2 H locs hr2 hP2 hfr hS => ?_)
  replace hP2 : va_P D vwCl (mdw bd dB u2.1 u2.2.1 u2.2.2.1 u2.2.2.2) H := hP2
  replace hP1 := la_keep hP1 (la_dc hd) hfr
  obtain ⟨n1, pl1, am1, hA1, hn1, hc1⟩ := hr1
  obtain ⟨n2, pl2, am2, hA2, hn2, hm2⟩ := hr2
  obtain ⟨er, en, ep, ea⟩ := zc_Add_one hA1 hA2
  rw [hn1] at hP1
  rw [hn2, ← en] at hP2
  rw [← en, ← ep, ← ea] at hm2
  refine lv_icmp_eq (tgt := 476) hx hb dL_law_132 (by decide) (fun cq => ?_) (fun cq => absurd er cq)
  exact cont n1 pl1 am1 u1.2 u2.2.1 u2.2.2.1 u2.2.2.2 _ _ _ ⟨hP1, hP2, hc1, hm2⟩ hS hl
set_option maxHeartbeats 4000000 in
/-- the law's case 1: remove -/
theorem la_case1 {p : Program} {l : Launch} {e : Env} {s : State} {m : MethodId} {args : Array Value} {below : List Frame} {meth : Method} {c : Code} {Q : State → Prop} {b L : Nat} {xs : Nat → Int32} {D : va_G} {ad bd : Nat → Nat} {dA dB : Nat → ClassId} (S : CallFix p m c cL_law 4 s args lw_all R_law) (hKx : va_K D vwCl (cvT dA) s) (hKm : va_K D vwCl (mdT dB) s) (hIx : cvI ad) (hIm : mdI bd) (hd : ∀ i j, i < 10 → j < 3 → ad i ≠ bd j) (hAx : ∀ k, k < 10 → s.heap.size ≤ ad k) (hAm : ∀ k, k < 3 → s.heap.size ≤ bd k) (hX : va_X b L xs s s.heap) (hbl : b < s.heap.size) (hL : L ≤ 192) (i : Nat) (hi : i + 3 ≤ L) (cont : ∀ (n : Nat) (pl : Nat → Nat) (am : Nat → Int32) (F F2 : Nat → Nat → Int32) (fo to : Int32) (H : Heap) (locs : List Loc) (ls : Array Slot), la_In D ad bd dA dB n pl am F F2 fo to H → va_S (fun q => s.heap.size ≤ q) s.heap H locs → lv_has ls 4 [(0, .ref b), (1, .ref (ad 0)), (2, .ref (bd 0)), (3, .int (nI i))] → W p l e room_1 s m args below meth c H locs 13 2503 Q (F0 m 476 ls [])) : ∀ (n : Nat) (pl : Nat → Nat) (am : Nat → Int32) (F F2 : Nat → Nat → Int32) (fo to : Int32) (H : Heap) (locs : List Loc) (ls : Array Slot), la_In D ad bd dA dB n pl am F F2 fo to H → va_S (fun q => s.heap.size ≤ q) s.heap H locs → lv_has ls 4 [(0, .ref b), (1, .ref (ad 0)), (2, .ref (bd 0)), (3, .int (nI i))] → W p l e room_1 s m args below meth c H locs 13 2503 Q (F0 m 137 ls []) := by
  intro n pl am F F2 fo to H locs ls hin hS hl
  obtain ⟨hP1, hP2, hcv, hmd⟩ := hin
  have hx := S.1
  have hb := S.2.1
  have hts := S.2.2.2.2
  refine lv_aload_n hx hb dL_law_137 rfl (lv_at hl 1 rfl) ?_
  refine zz_callM (As := []) (rest := []) S hKx hP1 hS (la_inx hAx) (met0_remove l D ad dA n F hIx pl am hcv) (cwLX0_remove hts (by decide)) (cv_recv hKx hP1) rfl hl.1 rfl (Nat.le_of_ble_eq_true rfl) dL_law_138 ⟨Nat.le_of_ble_eq_true rfl, Nat.le_of_ble_eq_true rfl⟩ (fun r1 u1 H locs hr1 hP1 hfr hS => ?_)
  replace hP1 : va_P D vwCl (cvw ad dA u1.1 u1.2) H := hP1
  replace hP2 := la_keep hP2 (la_dm hd) hfr
  refine lv_aload_n hx hb dL_law_141 rfl (lv_at hl 2 rfl) ?_
  refine zz_callM (As := []) (rest := [.int r1]) S hKm hP2 hS (la_inm hAm) (met1_remove l D bd dB n F2 fo to hIm pl am hmd) (cwLX1_remove hts (by decide)) (md_recv hKm hP2) rfl hl.1 rfl (Nat.le_of_ble_eq_true rfl) dL_law_142 ⟨Nat.le_of_ble_eq_true rfl, Nat.le_of_ble_eq_true rfl⟩ (fun r2 u2 H locs hr2 hP2 hfr hS => ?_)
  replace hP2 : va_P D vwCl (mdw bd dB u2.1 u2.2.1 u2.2.2.1 u2.2.2.2) H := hP2
  replace hP1 := la_keep hP1 (la_dc hd) hfr
  obtain ⟨n1, hA1, hn1, hc1⟩ := hr1
  obtain ⟨n2, hA2, hn2, hm2⟩ := hr2
  obtain ⟨er, en⟩ := zc_Rem_one hA1 hA2
  rw [hn1] at hP1
  rw [hn2, ← en] at hP2
  rw [← en] at hm2
  refine lv_icmp_eq (tgt := 476) hx hb dL_law_145 (by decide) (fun cq => ?_) (fun cq => absurd er cq)
  exact cont n1 pl am u1.2 u2.2.1 u2.2.2.1 u2.2.2.2 _ _ _ ⟨hP1, hP2, hc1, hm2⟩ hS hl
set_option maxHeartbeats 4000000 in
/-- the law's case 2: change -/
theorem la_case2 {p : Program} {l : Launch} {e : Env} {s : State} {m : MethodId} {args : Array Value} {below : List Frame} {meth : Method} {c : Code} {Q : State → Prop} {b L : Nat} {xs : Nat → Int32} {D : va_G} {ad bd : Nat → Nat} {dA dB : Nat → ClassId} (S : CallFix p m c cL_law 4 s args lw_all R_law) (hKx : va_K D vwCl (cvT dA) s) (hKm : va_K D vwCl (mdT dB) s) (hIx : cvI ad) (hIm : mdI bd) (hd : ∀ i j, i < 10 → j < 3 → ad i ≠ bd j) (hAx : ∀ k, k < 10 → s.heap.size ≤ ad k) (hAm : ∀ k, k < 3 → s.heap.size ≤ bd k) (hX : va_X b L xs s s.heap) (hbl : b < s.heap.size) (hL : L ≤ 192) (i : Nat) (hi : i + 3 ≤ L) (cont : ∀ (n : Nat) (pl : Nat → Nat) (am : Nat → Int32) (F F2 : Nat → Nat → Int32) (fo to : Int32) (H : Heap) (locs : List Loc) (ls : Array Slot), la_In D ad bd dA dB n pl am F F2 fo to H → va_S (fun q => s.heap.size ≤ q) s.heap H locs → lv_has ls 4 [(0, .ref b), (1, .ref (ad 0)), (2, .ref (bd 0)), (3, .int (nI i))] → W p l e room_1 s m args below meth c H locs 13 2503 Q (F0 m 476 ls [])) : ∀ (n : Nat) (pl : Nat → Nat) (am : Nat → Int32) (F F2 : Nat → Nat → Int32) (fo to : Int32) (H : Heap) (locs : List Loc) (ls : Array Slot), la_In D ad bd dA dB n pl am F F2 fo to H → va_S (fun q => s.heap.size ≤ q) s.heap H locs → lv_has ls 4 [(0, .ref b), (1, .ref (ad 0)), (2, .ref (bd 0)), (3, .int (nI i))] → W p l e room_1 s m args below meth c H locs 13 2503 Q (F0 m 150 ls []) := by
  intro n pl am F F2 fo to H locs ls hin hS hl
  obtain ⟨hP1, hP2, hcv, hmd⟩ := hin
  have hx := S.1
  have hb := S.2.1
  have hts := S.2.2.2.2
  refine lv_aload_n hx hb dL_law_150 rfl (lv_at hl 1 rfl) ?_
  refine lv_aload_n hx hb dL_law_151 rfl (lv_at hl 0 rfl) ?_
  refine lv_iload_n hx hb dL_law_152 rfl (lv_at hl 3 rfl) ?_
  refine lv_iconst (v := nI 1) hx hb dL_law_153 (by decide) ?_
  refine lv_iadd hx hb dL_law_154 ?_
  refine cv_top (nI_add _ _) ?_
  refine la_ld hx hb hX hbl hS hL (i + 1) rfl (by omega) dL_law_155 ?_
  refine lv_aload_n hx hb dL_law_156 rfl (lv_at hl 0 rfl) ?_
  refine lv_iload_n hx hb dL_law_157 rfl (lv_at hl 3 rfl) ?_
  refine lv_iconst (v := nI 2) hx hb dL_law_158 (by decide) ?_
  refine lv_iadd hx hb dL_law_159 ?_
  refine cv_top (nI_add _ _) ?_
  refine la_ld hx hb hX hbl hS hL (i + 2) rfl (by omega) dL_law_160 ?_
  refine zz_callM (As := [.int (xs (i + 1)), .int (xs (i + 2))]) (rest := []) S hKx hP1 hS (la_inx hAx) (met0_change l D ad dA n F hIx pl am hcv (xs (i + 1)) (xs (i + 2))) (cwLX0_change hts (by decide)) (cv_recv hKx hP1) rfl hl.1 rfl (Nat.le_of_ble_eq_true rfl) dL_law_161 ⟨Nat.le_of_ble_eq_true rfl, Nat.le_of_ble_eq_true rfl⟩ (fun r1 u1 H locs hr1 hP1 hfr hS => ?_)
  replace hP1 : va_P D vwCl (cvw ad dA u1.1 u1.2) H := hP1
  replace hP2 := la_keep hP2 (la_dm hd) hfr
  refine lv_aload_n hx hb dL_law_164 rfl (lv_at hl 2 rfl) ?_
  refine lv_aload_n hx hb dL_law_165 rfl (lv_at hl 0 rfl) ?_
  refine lv_iload_n hx hb dL_law_166 rfl (lv_at hl 3 rfl) ?_
  refine lv_iconst (v := nI 1) hx hb dL_law_167 (by decide) ?_
  refine lv_iadd hx hb dL_law_168 ?_
  refine cv_top (nI_add _ _) ?_
  refine la_ld hx hb hX hbl hS hL (i + 1) rfl (by omega) dL_law_169 ?_
  refine lv_aload_n hx hb dL_law_170 rfl (lv_at hl 0 rfl) ?_
  refine lv_iload_n hx hb dL_law_171 rfl (lv_at hl 3 rfl) ?_
  refine lv_iconst (v := nI 2) hx hb dL_law_172 (by decide) ?_
  refine lv_iadd hx hb dL_law_173 ?_
  refine cv_top (nI_add _ _) ?_
  refine la_ld hx hb hX hbl hS hL (i + 2) rfl (by omega) dL_law_174 ?_
  refine zz_callM (As := [.int (xs (i + 1)), .int (xs (i + 2))]) (rest := [.int r1]) S hKm hP2 hS (la_inm hAm) (met1_change l D bd dB n F2 fo to hIm pl am hmd (xs (i + 1)) (xs (i + 2))) (cwLX1_change hts (by decide)) (md_recv hKm hP2) rfl hl.1 rfl (Nat.le_of_ble_eq_true rfl) dL_law_175 ⟨Nat.le_of_ble_eq_true rfl, Nat.le_of_ble_eq_true rfl⟩ (fun r2 u2 H locs hr2 hP2 hfr hS => ?_)
  replace hP2 : va_P D vwCl (mdw bd dB u2.1 u2.2.1 u2.2.2.1 u2.2.2.2) H := hP2
  replace hP1 := la_keep hP1 (la_dc hd) hfr
  obtain ⟨am1, hA1, hn1, hc1⟩ := hr1
  obtain ⟨am2, hA2, hn2, hm2⟩ := hr2
  obtain ⟨er, ea⟩ := zc_Chg_one hcv.1 hA1 hA2
  rw [hn1] at hP1
  rw [hn2] at hP2
  rw [← ea] at hm2
  refine lv_icmp_eq (tgt := 476) hx hb dL_law_178 (by decide) (fun cq => ?_) (fun cq => absurd er cq)
  exact cont n pl am1 u1.2 u2.2.1 u2.2.2.1 u2.2.2.2 _ _ _ ⟨hP1, hP2, hc1, hm2⟩ hS hl
set_option maxHeartbeats 4000000 in
/-- the law's case 3: facts -/
theorem la_case3 {p : Program} {l : Launch} {e : Env} {s : State} {m : MethodId} {args : Array Value} {below : List Frame} {meth : Method} {c : Code} {Q : State → Prop} {b L : Nat} {xs : Nat → Int32} {D : va_G} {ad bd : Nat → Nat} {dA dB : Nat → ClassId} (S : CallFix p m c cL_law 4 s args lw_all R_law) (hKx : va_K D vwCl (cvT dA) s) (hKm : va_K D vwCl (mdT dB) s) (hIx : cvI ad) (hIm : mdI bd) (hd : ∀ i j, i < 10 → j < 3 → ad i ≠ bd j) (hAx : ∀ k, k < 10 → s.heap.size ≤ ad k) (hAm : ∀ k, k < 3 → s.heap.size ≤ bd k) (hX : va_X b L xs s s.heap) (hbl : b < s.heap.size) (hL : L ≤ 192) (i : Nat) (hi : i + 3 ≤ L) (cont : ∀ (n : Nat) (pl : Nat → Nat) (am : Nat → Int32) (F F2 : Nat → Nat → Int32) (fo to : Int32) (H : Heap) (locs : List Loc) (ls : Array Slot), la_In D ad bd dA dB n pl am F F2 fo to H → va_S (fun q => s.heap.size ≤ q) s.heap H locs → lv_has ls 4 [(0, .ref b), (1, .ref (ad 0)), (2, .ref (bd 0)), (3, .int (nI i))] → W p l e room_1 s m args below meth c H locs 13 2503 Q (F0 m 476 ls [])) : ∀ (n : Nat) (pl : Nat → Nat) (am : Nat → Int32) (F F2 : Nat → Nat → Int32) (fo to : Int32) (H : Heap) (locs : List Loc) (ls : Array Slot), la_In D ad bd dA dB n pl am F F2 fo to H → va_S (fun q => s.heap.size ≤ q) s.heap H locs → lv_has ls 4 [(0, .ref b), (1, .ref (ad 0)), (2, .ref (bd 0)), (3, .int (nI i))] → W p l e room_1 s m args below meth c H locs 13 2503 Q (F0 m 183 ls []) := by
  intro n pl am F F2 fo to H locs ls hin hS hl
  obtain ⟨hP1, hP2, hcv, hmd⟩ := hin
  have hx := S.1
  have hb := S.2.1
  have hts := S.2.2.2.2
  refine lv_aload_n hx hb dL_law_183 rfl (lv_at hl 1 rfl) ?_
  refine zz_callM (As := []) (rest := []) S hKx hP1 hS (la_inx hAx) (met0_facts l D ad dA n F hIx pl am hcv) (cwLX0_facts hts (by decide)) (cv_recv hKx hP1) rfl hl.1 rfl (Nat.le_of_ble_eq_true rfl) dL_law_184 ⟨Nat.le_of_ble_eq_true rfl, Nat.le_of_ble_eq_true rfl⟩ (fun r1 u1 H locs hr1 hP1 hfr hS => ?_)
  replace hP1 : va_P D vwCl (cvw ad dA u1.1 u1.2) H := hP1
  replace hP2 := la_keep hP2 (la_dm hd) hfr
  refine lv_aload_n hx hb dL_law_187 rfl (lv_at hl 2 rfl) ?_
  refine zz_callM (As := []) (rest := [.int r1]) S hKm hP2 hS (la_inm hAm) (met1_facts l D bd dB n F2 fo to hIm pl am hmd) (cwLX1_facts hts (by decide)) (md_recv hKm hP2) rfl hl.1 rfl (Nat.le_of_ble_eq_true rfl) dL_law_188 ⟨Nat.le_of_ble_eq_true rfl, Nat.le_of_ble_eq_true rfl⟩ (fun r2 u2 H locs hr2 hP2 hfr hS => ?_)
  replace hP2 : va_P D vwCl (mdw bd dB u2.1 u2.2.1 u2.2.2.1 u2.2.2.2) H := hP2
  replace hP1 := la_keep hP1 (la_dc hd) hfr
  obtain ⟨hq1, hn1, hc1⟩ := hr1
  obtain ⟨hq2, hn2, hm2⟩ := hr2
  have er : r1 = r2 := hq1.trans hq2.symm
  rw [hn1] at hP1
  rw [hn2] at hP2
  refine lv_icmp_eq (tgt := 476) hx hb dL_law_191 (by decide) (fun cq => ?_) (fun cq => absurd er cq)
  exact cont n pl am u1.2 u2.2.1 u2.2.2.1 u2.2.2.2 _ _ _ ⟨hP1, hP2, hc1, hm2⟩ hS hl
set_option maxHeartbeats 4000000 in
/-- the law's case 4: count -/
theorem la_case4 {p : Program} {l : Launch} {e : Env} {s : State} {m : MethodId} {args : Array Value} {below : List Frame} {meth : Method} {c : Code} {Q : State → Prop} {b L : Nat} {xs : Nat → Int32} {D : va_G} {ad bd : Nat → Nat} {dA dB : Nat → ClassId} (S : CallFix p m c cL_law 4 s args lw_all R_law) (hKx : va_K D vwCl (cvT dA) s) (hKm : va_K D vwCl (mdT dB) s) (hIx : cvI ad) (hIm : mdI bd) (hd : ∀ i j, i < 10 → j < 3 → ad i ≠ bd j) (hAx : ∀ k, k < 10 → s.heap.size ≤ ad k) (hAm : ∀ k, k < 3 → s.heap.size ≤ bd k) (hX : va_X b L xs s s.heap) (hbl : b < s.heap.size) (hL : L ≤ 192) (i : Nat) (hi : i + 3 ≤ L) (cont : ∀ (n : Nat) (pl : Nat → Nat) (am : Nat → Int32) (F F2 : Nat → Nat → Int32) (fo to : Int32) (H : Heap) (locs : List Loc) (ls : Array Slot), la_In D ad bd dA dB n pl am F F2 fo to H → va_S (fun q => s.heap.size ≤ q) s.heap H locs → lv_has ls 4 [(0, .ref b), (1, .ref (ad 0)), (2, .ref (bd 0)), (3, .int (nI i))] → W p l e room_1 s m args below meth c H locs 13 2503 Q (F0 m 476 ls [])) : ∀ (n : Nat) (pl : Nat → Nat) (am : Nat → Int32) (F F2 : Nat → Nat → Int32) (fo to : Int32) (H : Heap) (locs : List Loc) (ls : Array Slot), la_In D ad bd dA dB n pl am F F2 fo to H → va_S (fun q => s.heap.size ≤ q) s.heap H locs → lv_has ls 4 [(0, .ref b), (1, .ref (ad 0)), (2, .ref (bd 0)), (3, .int (nI i))] → W p l e room_1 s m args below meth c H locs 13 2503 Q (F0 m 196 ls []) := by
  intro n pl am F F2 fo to H locs ls hin hS hl
  obtain ⟨hP1, hP2, hcv, hmd⟩ := hin
  have hx := S.1
  have hb := S.2.1
  have hts := S.2.2.2.2
  refine lv_aload_n hx hb dL_law_196 rfl (lv_at hl 1 rfl) ?_
  refine lv_aload_n hx hb dL_law_197 rfl (lv_at hl 0 rfl) ?_
  refine lv_iload_n hx hb dL_law_198 rfl (lv_at hl 3 rfl) ?_
  refine lv_iconst (v := nI 1) hx hb dL_law_199 (by decide) ?_
  refine lv_iadd hx hb dL_law_200 ?_
  refine cv_top (nI_add _ _) ?_
  refine la_ld hx hb hX hbl hS hL (i + 1) rfl (by omega) dL_law_201 ?_
  refine zz_callM (As := [.int (xs (i + 1))]) (rest := []) S hKx hP1 hS (la_inx hAx) (met0_count l D ad dA n F hIx pl am hcv (xs (i + 1))) (cwLX0_count hts (by decide)) (cv_recv hKx hP1) rfl hl.1 rfl (Nat.le_of_ble_eq_true rfl) dL_law_202 ⟨Nat.le_of_ble_eq_true rfl, Nat.le_of_ble_eq_true rfl⟩ (fun r1 u1 H locs hr1 hP1 hfr hS => ?_)
  replace hP1 : va_P D vwCl (cvw ad dA u1.1 u1.2) H := hP1
  replace hP2 := la_keep hP2 (la_dm hd) hfr
  refine lv_aload_n hx hb dL_law_205 rfl (lv_at hl 2 rfl) ?_
  refine lv_aload_n hx hb dL_law_206 rfl (lv_at hl 0 rfl) ?_
  refine lv_iload_n hx hb dL_law_207 rfl (lv_at hl 3 rfl) ?_
  refine lv_iconst (v := nI 1) hx hb dL_law_208 (by decide) ?_
  refine lv_iadd hx hb dL_law_209 ?_
  refine cv_top (nI_add _ _) ?_
  refine la_ld hx hb hX hbl hS hL (i + 1) rfl (by omega) dL_law_210 ?_
  refine zz_callM (As := [.int (xs (i + 1))]) (rest := [.int r1]) S hKm hP2 hS (la_inm hAm) (met1_count l D bd dB n F2 fo to hIm pl am hmd (xs (i + 1))) (cwLX1_count hts (by decide)) (md_recv hKm hP2) rfl hl.1 rfl (Nat.le_of_ble_eq_true rfl) dL_law_211 ⟨Nat.le_of_ble_eq_true rfl, Nat.le_of_ble_eq_true rfl⟩ (fun r2 u2 H locs hr2 hP2 hfr hS => ?_)
  replace hP2 : va_P D vwCl (mdw bd dB u2.1 u2.2.1 u2.2.2.1 u2.2.2.2) H := hP2
  replace hP1 := la_keep hP1 (la_dc hd) hfr
  obtain ⟨hq1, hn1, hc1⟩ := hr1
  obtain ⟨hq2, hn2, hm2⟩ := hr2
  have er : r1 = r2 := zc_RX_one zc_okF_one (fun x r r' h h' => h.trans h'.symm) hq1 hq2
  rw [hn1] at hP1
  rw [hn2] at hP2
  refine lv_icmp_eq (tgt := 476) hx hb dL_law_214 (by decide) (fun cq => ?_) (fun cq => absurd er cq)
  exact cont n pl am u1.2 u2.2.1 u2.2.2.1 u2.2.2.2 _ _ _ ⟨hP1, hP2, hc1, hm2⟩ hS hl
set_option maxHeartbeats 4000000 in
/-- the law's case 5: sum -/
theorem la_case5 {p : Program} {l : Launch} {e : Env} {s : State} {m : MethodId} {args : Array Value} {below : List Frame} {meth : Method} {c : Code} {Q : State → Prop} {b L : Nat} {xs : Nat → Int32} {D : va_G} {ad bd : Nat → Nat} {dA dB : Nat → ClassId} (S : CallFix p m c cL_law 4 s args lw_all R_law) (hKx : va_K D vwCl (cvT dA) s) (hKm : va_K D vwCl (mdT dB) s) (hIx : cvI ad) (hIm : mdI bd) (hd : ∀ i j, i < 10 → j < 3 → ad i ≠ bd j) (hAx : ∀ k, k < 10 → s.heap.size ≤ ad k) (hAm : ∀ k, k < 3 → s.heap.size ≤ bd k) (hX : va_X b L xs s s.heap) (hbl : b < s.heap.size) (hL : L ≤ 192) (i : Nat) (hi : i + 3 ≤ L) (cont : ∀ (n : Nat) (pl : Nat → Nat) (am : Nat → Int32) (F F2 : Nat → Nat → Int32) (fo to : Int32) (H : Heap) (locs : List Loc) (ls : Array Slot), la_In D ad bd dA dB n pl am F F2 fo to H → va_S (fun q => s.heap.size ≤ q) s.heap H locs → lv_has ls 4 [(0, .ref b), (1, .ref (ad 0)), (2, .ref (bd 0)), (3, .int (nI i))] → W p l e room_1 s m args below meth c H locs 13 2503 Q (F0 m 476 ls [])) : ∀ (n : Nat) (pl : Nat → Nat) (am : Nat → Int32) (F F2 : Nat → Nat → Int32) (fo to : Int32) (H : Heap) (locs : List Loc) (ls : Array Slot), la_In D ad bd dA dB n pl am F F2 fo to H → va_S (fun q => s.heap.size ≤ q) s.heap H locs → lv_has ls 4 [(0, .ref b), (1, .ref (ad 0)), (2, .ref (bd 0)), (3, .int (nI i))] → W p l e room_1 s m args below meth c H locs 13 2503 Q (F0 m 219 ls []) := by
  intro n pl am F F2 fo to H locs ls hin hS hl
  obtain ⟨hP1, hP2, hcv, hmd⟩ := hin
  have hx := S.1
  have hb := S.2.1
  have hts := S.2.2.2.2
  refine lv_aload_n hx hb dL_law_219 rfl (lv_at hl 1 rfl) ?_
  refine lv_aload_n hx hb dL_law_220 rfl (lv_at hl 0 rfl) ?_
  refine lv_iload_n hx hb dL_law_221 rfl (lv_at hl 3 rfl) ?_
  refine lv_iconst (v := nI 1) hx hb dL_law_222 (by decide) ?_
  refine lv_iadd hx hb dL_law_223 ?_
  refine cv_top (nI_add _ _) ?_
  refine la_ld hx hb hX hbl hS hL (i + 1) rfl (by omega) dL_law_224 ?_
  refine zz_callM (As := [.int (xs (i + 1))]) (rest := []) S hKx hP1 hS (la_inx hAx) (met0_sum l D ad dA n F hIx pl am hcv (xs (i + 1))) (cwLX0_sum hts (by decide)) (cv_recv hKx hP1) rfl hl.1 rfl (Nat.le_of_ble_eq_true rfl) dL_law_225 ⟨Nat.le_of_ble_eq_true rfl, Nat.le_of_ble_eq_true rfl⟩ (fun r1 u1 H locs hr1 hP1 hfr hS => ?_)
  replace hP1 : va_P D vwCl (cvw ad dA u1.1 u1.2) H := hP1
  replace hP2 := la_keep hP2 (la_dm hd) hfr
  refine lv_aload_n hx hb dL_law_228 rfl (lv_at hl 2 rfl) ?_
  refine lv_aload_n hx hb dL_law_229 rfl (lv_at hl 0 rfl) ?_
  refine lv_iload_n hx hb dL_law_230 rfl (lv_at hl 3 rfl) ?_
  refine lv_iconst (v := nI 1) hx hb dL_law_231 (by decide) ?_
  refine lv_iadd hx hb dL_law_232 ?_
  refine cv_top (nI_add _ _) ?_
  refine la_ld hx hb hX hbl hS hL (i + 1) rfl (by omega) dL_law_233 ?_
  refine zz_callM (As := [.int (xs (i + 1))]) (rest := [.int r1]) S hKm hP2 hS (la_inm hAm) (met1_sum l D bd dB n F2 fo to hIm pl am hmd (xs (i + 1))) (cwLX1_sum hts (by decide)) (md_recv hKm hP2) rfl hl.1 rfl (Nat.le_of_ble_eq_true rfl) dL_law_234 ⟨Nat.le_of_ble_eq_true rfl, Nat.le_of_ble_eq_true rfl⟩ (fun r2 u2 H locs hr2 hP2 hfr hS => ?_)
  replace hP2 : va_P D vwCl (mdw bd dB u2.1 u2.2.1 u2.2.2.1 u2.2.2.2) H := hP2
  replace hP1 := la_keep hP1 (la_dc hd) hfr
  obtain ⟨hq1, hn1, hc1⟩ := hr1
  obtain ⟨hq2, hn2, hm2⟩ := hr2
  have er : r1 = r2 := zc_RX_one zc_okF_one (fun x r r' h h' => h.trans h'.symm) hq1 hq2
  rw [hn1] at hP1
  rw [hn2] at hP2
  refine lv_icmp_eq (tgt := 476) hx hb dL_law_237 (by decide) (fun cq => ?_) (fun cq => absurd er cq)
  exact cont n pl am u1.2 u2.2.1 u2.2.2.1 u2.2.2.2 _ _ _ ⟨hP1, hP2, hc1, hm2⟩ hS hl
set_option maxHeartbeats 4000000 in
/-- the law's case 6: greatest -/
theorem la_case6 {p : Program} {l : Launch} {e : Env} {s : State} {m : MethodId} {args : Array Value} {below : List Frame} {meth : Method} {c : Code} {Q : State → Prop} {b L : Nat} {xs : Nat → Int32} {D : va_G} {ad bd : Nat → Nat} {dA dB : Nat → ClassId} (S : CallFix p m c cL_law 4 s args lw_all R_law) (hKx : va_K D vwCl (cvT dA) s) (hKm : va_K D vwCl (mdT dB) s) (hIx : cvI ad) (hIm : mdI bd) (hd : ∀ i j, i < 10 → j < 3 → ad i ≠ bd j) (hAx : ∀ k, k < 10 → s.heap.size ≤ ad k) (hAm : ∀ k, k < 3 → s.heap.size ≤ bd k) (hX : va_X b L xs s s.heap) (hbl : b < s.heap.size) (hL : L ≤ 192) (i : Nat) (hi : i + 3 ≤ L) (cont : ∀ (n : Nat) (pl : Nat → Nat) (am : Nat → Int32) (F F2 : Nat → Nat → Int32) (fo to : Int32) (H : Heap) (locs : List Loc) (ls : Array Slot), la_In D ad bd dA dB n pl am F F2 fo to H → va_S (fun q => s.heap.size ≤ q) s.heap H locs → lv_has ls 4 [(0, .ref b), (1, .ref (ad 0)), (2, .ref (bd 0)), (3, .int (nI i))] → W p l e room_1 s m args below meth c H locs 13 2503 Q (F0 m 476 ls [])) : ∀ (n : Nat) (pl : Nat → Nat) (am : Nat → Int32) (F F2 : Nat → Nat → Int32) (fo to : Int32) (H : Heap) (locs : List Loc) (ls : Array Slot), la_In D ad bd dA dB n pl am F F2 fo to H → va_S (fun q => s.heap.size ≤ q) s.heap H locs → lv_has ls 4 [(0, .ref b), (1, .ref (ad 0)), (2, .ref (bd 0)), (3, .int (nI i))] → W p l e room_1 s m args below meth c H locs 13 2503 Q (F0 m 242 ls []) := by
  intro n pl am F F2 fo to H locs ls hin hS hl
  obtain ⟨hP1, hP2, hcv, hmd⟩ := hin
  have hx := S.1
  have hb := S.2.1
  have hts := S.2.2.2.2
  refine lv_aload_n hx hb dL_law_242 rfl (lv_at hl 1 rfl) ?_
  refine lv_aload_n hx hb dL_law_243 rfl (lv_at hl 0 rfl) ?_
  refine lv_iload_n hx hb dL_law_244 rfl (lv_at hl 3 rfl) ?_
  refine lv_iconst (v := nI 1) hx hb dL_law_245 (by decide) ?_
  refine lv_iadd hx hb dL_law_246 ?_
  refine cv_top (nI_add _ _) ?_
  refine la_ld hx hb hX hbl hS hL (i + 1) rfl (by omega) dL_law_247 ?_
  refine zz_callM (As := [.int (xs (i + 1))]) (rest := []) S hKx hP1 hS (la_inx hAx) (met0_greatest l D ad dA n F hIx pl am hcv (xs (i + 1))) (cwLX0_greatest hts (by decide)) (cv_recv hKx hP1) rfl hl.1 rfl (Nat.le_of_ble_eq_true rfl) dL_law_248 ⟨Nat.le_of_ble_eq_true rfl, Nat.le_of_ble_eq_true rfl⟩ (fun r1 u1 H locs hr1 hP1 hfr hS => ?_)
  replace hP1 : va_P D vwCl (cvw ad dA u1.1 u1.2) H := hP1
  replace hP2 := la_keep hP2 (la_dm hd) hfr
  refine lv_aload_n hx hb dL_law_251 rfl (lv_at hl 2 rfl) ?_
  refine lv_aload_n hx hb dL_law_252 rfl (lv_at hl 0 rfl) ?_
  refine lv_iload_n hx hb dL_law_253 rfl (lv_at hl 3 rfl) ?_
  refine lv_iconst (v := nI 1) hx hb dL_law_254 (by decide) ?_
  refine lv_iadd hx hb dL_law_255 ?_
  refine cv_top (nI_add _ _) ?_
  refine la_ld hx hb hX hbl hS hL (i + 1) rfl (by omega) dL_law_256 ?_
  refine zz_callM (As := [.int (xs (i + 1))]) (rest := [.int r1]) S hKm hP2 hS (la_inm hAm) (met1_greatest l D bd dB n F2 fo to hIm pl am hmd (xs (i + 1))) (cwLX1_greatest hts (by decide)) (md_recv hKm hP2) rfl hl.1 rfl (Nat.le_of_ble_eq_true rfl) dL_law_257 ⟨Nat.le_of_ble_eq_true rfl, Nat.le_of_ble_eq_true rfl⟩ (fun r2 u2 H locs hr2 hP2 hfr hS => ?_)
  replace hP2 : va_P D vwCl (mdw bd dB u2.1 u2.2.1 u2.2.2.1 u2.2.2.2) H := hP2
  replace hP1 := la_keep hP1 (la_dc hd) hfr
  obtain ⟨hq1, hn1, hc1⟩ := hr1
  obtain ⟨hq2, hn2, hm2⟩ := hr2
  have er : r1 = r2 := zc_RX_one (val := fun f r => zc_max (fun i => zc_ps (pl i) f 7 = true) am n r) zc_okF_one (fun x r r' h h' => zc_max_one h h') hq1 hq2
  rw [hn1] at hP1
  rw [hn2] at hP2
  refine lv_icmp_eq (tgt := 476) hx hb dL_law_260 (by decide) (fun cq => ?_) (fun cq => absurd er cq)
  exact cont n pl am u1.2 u2.2.1 u2.2.2.1 u2.2.2.2 _ _ _ ⟨hP1, hP2, hc1, hm2⟩ hS hl
set_option maxHeartbeats 4000000 in
/-- the law's case 7: groups -/
theorem la_case7 {p : Program} {l : Launch} {e : Env} {s : State} {m : MethodId} {args : Array Value} {below : List Frame} {meth : Method} {c : Code} {Q : State → Prop} {b L : Nat} {xs : Nat → Int32} {D : va_G} {ad bd : Nat → Nat} {dA dB : Nat → ClassId} (S : CallFix p m c cL_law 4 s args lw_all R_law) (hKx : va_K D vwCl (cvT dA) s) (hKm : va_K D vwCl (mdT dB) s) (hIx : cvI ad) (hIm : mdI bd) (hd : ∀ i j, i < 10 → j < 3 → ad i ≠ bd j) (hAx : ∀ k, k < 10 → s.heap.size ≤ ad k) (hAm : ∀ k, k < 3 → s.heap.size ≤ bd k) (hX : va_X b L xs s s.heap) (hbl : b < s.heap.size) (hL : L ≤ 192) (i : Nat) (hi : i + 3 ≤ L) (cont : ∀ (n : Nat) (pl : Nat → Nat) (am : Nat → Int32) (F F2 : Nat → Nat → Int32) (fo to : Int32) (H : Heap) (locs : List Loc) (ls : Array Slot), la_In D ad bd dA dB n pl am F F2 fo to H → va_S (fun q => s.heap.size ≤ q) s.heap H locs → lv_has ls 4 [(0, .ref b), (1, .ref (ad 0)), (2, .ref (bd 0)), (3, .int (nI i))] → W p l e room_1 s m args below meth c H locs 13 2503 Q (F0 m 476 ls [])) : ∀ (n : Nat) (pl : Nat → Nat) (am : Nat → Int32) (F F2 : Nat → Nat → Int32) (fo to : Int32) (H : Heap) (locs : List Loc) (ls : Array Slot), la_In D ad bd dA dB n pl am F F2 fo to H → va_S (fun q => s.heap.size ≤ q) s.heap H locs → lv_has ls 4 [(0, .ref b), (1, .ref (ad 0)), (2, .ref (bd 0)), (3, .int (nI i))] → W p l e room_1 s m args below meth c H locs 13 2503 Q (F0 m 265 ls []) := by
  intro n pl am F F2 fo to H locs ls hin hS hl
  obtain ⟨hP1, hP2, hcv, hmd⟩ := hin
  have hx := S.1
  have hb := S.2.1
  have hts := S.2.2.2.2
  refine lv_aload_n hx hb dL_law_265 rfl (lv_at hl 1 rfl) ?_
  refine lv_aload_n hx hb dL_law_266 rfl (lv_at hl 0 rfl) ?_
  refine lv_iload_n hx hb dL_law_267 rfl (lv_at hl 3 rfl) ?_
  refine lv_iconst (v := nI 1) hx hb dL_law_268 (by decide) ?_
  refine lv_iadd hx hb dL_law_269 ?_
  refine cv_top (nI_add _ _) ?_
  refine la_ld hx hb hX hbl hS hL (i + 1) rfl (by omega) dL_law_270 ?_
  refine lv_aload_n hx hb dL_law_271 rfl (lv_at hl 0 rfl) ?_
  refine lv_iload_n hx hb dL_law_272 rfl (lv_at hl 3 rfl) ?_
  refine lv_iconst (v := nI 2) hx hb dL_law_273 (by decide) ?_
  refine lv_iadd hx hb dL_law_274 ?_
  refine cv_top (nI_add _ _) ?_
  refine la_ld hx hb hX hbl hS hL (i + 2) rfl (by omega) dL_law_275 ?_
  refine zz_callM (As := [.int (xs (i + 1)), .int (xs (i + 2))]) (rest := []) S hKx hP1 hS (la_inx hAx) (met0_groups l D ad dA n F hIx pl am hcv (xs (i + 1)) (xs (i + 2))) (cwLX0_groups hts (by decide)) (cv_recv hKx hP1) rfl hl.1 rfl (Nat.le_of_ble_eq_true rfl) dL_law_276 ⟨Nat.le_of_ble_eq_true rfl, Nat.le_of_ble_eq_true rfl⟩ (fun r1 u1 H locs hr1 hP1 hfr hS => ?_)
  replace hP1 : va_P D vwCl (cvw ad dA u1.1 u1.2) H := hP1
  replace hP2 := la_keep hP2 (la_dm hd) hfr
  refine lv_aload_n hx hb dL_law_279 rfl (lv_at hl 2 rfl) ?_
  refine lv_aload_n hx hb dL_law_280 rfl (lv_at hl 0 rfl) ?_
  refine lv_iload_n hx hb dL_law_281 rfl (lv_at hl 3 rfl) ?_
  refine lv_iconst (v := nI 1) hx hb dL_law_282 (by decide) ?_
  refine lv_iadd hx hb dL_law_283 ?_
  refine cv_top (nI_add _ _) ?_
  refine la_ld hx hb hX hbl hS hL (i + 1) rfl (by omega) dL_law_284 ?_
  refine lv_aload_n hx hb dL_law_285 rfl (lv_at hl 0 rfl) ?_
  refine lv_iload_n hx hb dL_law_286 rfl (lv_at hl 3 rfl) ?_
  refine lv_iconst (v := nI 2) hx hb dL_law_287 (by decide) ?_
  refine lv_iadd hx hb dL_law_288 ?_
  refine cv_top (nI_add _ _) ?_
  refine la_ld hx hb hX hbl hS hL (i + 2) rfl (by omega) dL_law_289 ?_
  refine zz_callM (As := [.int (xs (i + 1)), .int (xs (i + 2))]) (rest := [.int r1]) S hKm hP2 hS (la_inm hAm) (met1_groups l D bd dB n F2 fo to hIm pl am hmd (xs (i + 1)) (xs (i + 2))) (cwLX1_groups hts (by decide)) (md_recv hKm hP2) rfl hl.1 rfl (Nat.le_of_ble_eq_true rfl) dL_law_290 ⟨Nat.le_of_ble_eq_true rfl, Nat.le_of_ble_eq_true rfl⟩ (fun r2 u2 H locs hr2 hP2 hfr hS => ?_)
  replace hP2 : va_P D vwCl (mdw bd dB u2.1 u2.2.1 u2.2.2.1 u2.2.2.2) H := hP2
  replace hP1 := la_keep hP1 (la_dc hd) hfr
  obtain ⟨hq1, hn1, hc1⟩ := hr1
  obtain ⟨hq2, hn2, hm2⟩ := hr2
  have er : r1 = r2 := zc_RX_one zc_okGF_one (fun x r r' h h' => h.trans h'.symm) hq1 hq2
  rw [hn1] at hP1
  rw [hn2] at hP2
  refine lv_icmp_eq (tgt := 476) hx hb dL_law_293 (by decide) (fun cq => ?_) (fun cq => absurd er cq)
  exact cont n pl am u1.2 u2.2.1 u2.2.2.1 u2.2.2.2 _ _ _ ⟨hP1, hP2, hc1, hm2⟩ hS hl
set_option maxHeartbeats 4000000 in
/-- the law's case 8: topSum -/
theorem la_case8 {p : Program} {l : Launch} {e : Env} {s : State} {m : MethodId} {args : Array Value} {below : List Frame} {meth : Method} {c : Code} {Q : State → Prop} {b L : Nat} {xs : Nat → Int32} {D : va_G} {ad bd : Nat → Nat} {dA dB : Nat → ClassId} (S : CallFix p m c cL_law 4 s args lw_all R_law) (hKx : va_K D vwCl (cvT dA) s) (hKm : va_K D vwCl (mdT dB) s) (hIx : cvI ad) (hIm : mdI bd) (hd : ∀ i j, i < 10 → j < 3 → ad i ≠ bd j) (hAx : ∀ k, k < 10 → s.heap.size ≤ ad k) (hAm : ∀ k, k < 3 → s.heap.size ≤ bd k) (hX : va_X b L xs s s.heap) (hbl : b < s.heap.size) (hL : L ≤ 192) (i : Nat) (hi : i + 3 ≤ L) (cont : ∀ (n : Nat) (pl : Nat → Nat) (am : Nat → Int32) (F F2 : Nat → Nat → Int32) (fo to : Int32) (H : Heap) (locs : List Loc) (ls : Array Slot), la_In D ad bd dA dB n pl am F F2 fo to H → va_S (fun q => s.heap.size ≤ q) s.heap H locs → lv_has ls 4 [(0, .ref b), (1, .ref (ad 0)), (2, .ref (bd 0)), (3, .int (nI i))] → W p l e room_1 s m args below meth c H locs 13 2503 Q (F0 m 476 ls [])) : ∀ (n : Nat) (pl : Nat → Nat) (am : Nat → Int32) (F F2 : Nat → Nat → Int32) (fo to : Int32) (H : Heap) (locs : List Loc) (ls : Array Slot), la_In D ad bd dA dB n pl am F F2 fo to H → va_S (fun q => s.heap.size ≤ q) s.heap H locs → lv_has ls 4 [(0, .ref b), (1, .ref (ad 0)), (2, .ref (bd 0)), (3, .int (nI i))] → W p l e room_1 s m args below meth c H locs 13 2503 Q (F0 m 298 ls []) := by
  intro n pl am F F2 fo to H locs ls hin hS hl
  obtain ⟨hP1, hP2, hcv, hmd⟩ := hin
  have hx := S.1
  have hb := S.2.1
  have hts := S.2.2.2.2
  refine lv_aload_n hx hb dL_law_298 rfl (lv_at hl 1 rfl) ?_
  refine lv_aload_n hx hb dL_law_299 rfl (lv_at hl 0 rfl) ?_
  refine lv_iload_n hx hb dL_law_300 rfl (lv_at hl 3 rfl) ?_
  refine lv_iconst (v := nI 1) hx hb dL_law_301 (by decide) ?_
  refine lv_iadd hx hb dL_law_302 ?_
  refine cv_top (nI_add _ _) ?_
  refine la_ld hx hb hX hbl hS hL (i + 1) rfl (by omega) dL_law_303 ?_
  refine lv_aload_n hx hb dL_law_304 rfl (lv_at hl 0 rfl) ?_
  refine lv_iload_n hx hb dL_law_305 rfl (lv_at hl 3 rfl) ?_
  refine lv_iconst (v := nI 2) hx hb dL_law_306 (by decide) ?_
  refine lv_iadd hx hb dL_law_307 ?_
  refine cv_top (nI_add _ _) ?_
  refine la_ld hx hb hX hbl hS hL (i + 2) rfl (by omega) dL_law_308 ?_
  refine zz_callM (As := [.int (xs (i + 1)), .int (xs (i + 2))]) (rest := []) S hKx hP1 hS (la_inx hAx) (met0_topSum l D ad dA n F hIx pl am hcv (xs (i + 1)) (xs (i + 2))) (cwLX0_topSum hts (by decide)) (cv_recv hKx hP1) rfl hl.1 rfl (Nat.le_of_ble_eq_true rfl) dL_law_309 ⟨Nat.le_of_ble_eq_true rfl, Nat.le_of_ble_eq_true rfl⟩ (fun r1 u1 H locs hr1 hP1 hfr hS => ?_)
  replace hP1 : va_P D vwCl (cvw ad dA u1.1 u1.2) H := hP1
  replace hP2 := la_keep hP2 (la_dm hd) hfr
  refine lv_aload_n hx hb dL_law_312 rfl (lv_at hl 2 rfl) ?_
  refine lv_aload_n hx hb dL_law_313 rfl (lv_at hl 0 rfl) ?_
  refine lv_iload_n hx hb dL_law_314 rfl (lv_at hl 3 rfl) ?_
  refine lv_iconst (v := nI 1) hx hb dL_law_315 (by decide) ?_
  refine lv_iadd hx hb dL_law_316 ?_
  refine cv_top (nI_add _ _) ?_
  refine la_ld hx hb hX hbl hS hL (i + 1) rfl (by omega) dL_law_317 ?_
  refine lv_aload_n hx hb dL_law_318 rfl (lv_at hl 0 rfl) ?_
  refine lv_iload_n hx hb dL_law_319 rfl (lv_at hl 3 rfl) ?_
  refine lv_iconst (v := nI 2) hx hb dL_law_320 (by decide) ?_
  refine lv_iadd hx hb dL_law_321 ?_
  refine cv_top (nI_add _ _) ?_
  refine la_ld hx hb hX hbl hS hL (i + 2) rfl (by omega) dL_law_322 ?_
  refine zz_callM (As := [.int (xs (i + 1)), .int (xs (i + 2))]) (rest := [.int r1]) S hKm hP2 hS (la_inm hAm) (met1_topSum l D bd dB n F2 fo to hIm pl am hmd (xs (i + 1)) (xs (i + 2))) (cwLX1_topSum hts (by decide)) (md_recv hKm hP2) rfl hl.1 rfl (Nat.le_of_ble_eq_true rfl) dL_law_323 ⟨Nat.le_of_ble_eq_true rfl, Nat.le_of_ble_eq_true rfl⟩ (fun r2 u2 H locs hr2 hP2 hfr hS => ?_)
  replace hP2 : va_P D vwCl (mdw bd dB u2.1 u2.2.1 u2.2.2.1 u2.2.2.2) H := hP2
  replace hP1 := la_keep hP1 (la_dc hd) hfr
  obtain ⟨hq1, hn1, hc1⟩ := hr1
  obtain ⟨hq2, hn2, hm2⟩ := hr2
  have er : r1 = r2 := zc_RX_one zc_okGF_one (fun x r r' h h' => h.trans h'.symm) hq1 hq2
  rw [hn1] at hP1
  rw [hn2] at hP2
  refine lv_icmp_eq (tgt := 476) hx hb dL_law_326 (by decide) (fun cq => ?_) (fun cq => absurd er cq)
  exact cont n pl am u1.2 u2.2.1 u2.2.2.1 u2.2.2.2 _ _ _ ⟨hP1, hP2, hc1, hm2⟩ hS hl
set_option maxHeartbeats 4000000 in
/-- the law's case 9: topGroup -/
theorem la_case9 {p : Program} {l : Launch} {e : Env} {s : State} {m : MethodId} {args : Array Value} {below : List Frame} {meth : Method} {c : Code} {Q : State → Prop} {b L : Nat} {xs : Nat → Int32} {D : va_G} {ad bd : Nat → Nat} {dA dB : Nat → ClassId} (S : CallFix p m c cL_law 4 s args lw_all R_law) (hKx : va_K D vwCl (cvT dA) s) (hKm : va_K D vwCl (mdT dB) s) (hIx : cvI ad) (hIm : mdI bd) (hd : ∀ i j, i < 10 → j < 3 → ad i ≠ bd j) (hAx : ∀ k, k < 10 → s.heap.size ≤ ad k) (hAm : ∀ k, k < 3 → s.heap.size ≤ bd k) (hX : va_X b L xs s s.heap) (hbl : b < s.heap.size) (hL : L ≤ 192) (i : Nat) (hi : i + 3 ≤ L) (cont : ∀ (n : Nat) (pl : Nat → Nat) (am : Nat → Int32) (F F2 : Nat → Nat → Int32) (fo to : Int32) (H : Heap) (locs : List Loc) (ls : Array Slot), la_In D ad bd dA dB n pl am F F2 fo to H → va_S (fun q => s.heap.size ≤ q) s.heap H locs → lv_has ls 4 [(0, .ref b), (1, .ref (ad 0)), (2, .ref (bd 0)), (3, .int (nI i))] → W p l e room_1 s m args below meth c H locs 13 2503 Q (F0 m 476 ls [])) : ∀ (n : Nat) (pl : Nat → Nat) (am : Nat → Int32) (F F2 : Nat → Nat → Int32) (fo to : Int32) (H : Heap) (locs : List Loc) (ls : Array Slot), la_In D ad bd dA dB n pl am F F2 fo to H → va_S (fun q => s.heap.size ≤ q) s.heap H locs → lv_has ls 4 [(0, .ref b), (1, .ref (ad 0)), (2, .ref (bd 0)), (3, .int (nI i))] → W p l e room_1 s m args below meth c H locs 13 2503 Q (F0 m 331 ls []) := by
  intro n pl am F F2 fo to H locs ls hin hS hl
  obtain ⟨hP1, hP2, hcv, hmd⟩ := hin
  have hx := S.1
  have hb := S.2.1
  have hts := S.2.2.2.2
  refine lv_aload_n hx hb dL_law_331 rfl (lv_at hl 1 rfl) ?_
  refine lv_aload_n hx hb dL_law_332 rfl (lv_at hl 0 rfl) ?_
  refine lv_iload_n hx hb dL_law_333 rfl (lv_at hl 3 rfl) ?_
  refine lv_iconst (v := nI 1) hx hb dL_law_334 (by decide) ?_
  refine lv_iadd hx hb dL_law_335 ?_
  refine cv_top (nI_add _ _) ?_
  refine la_ld hx hb hX hbl hS hL (i + 1) rfl (by omega) dL_law_336 ?_
  refine lv_aload_n hx hb dL_law_337 rfl (lv_at hl 0 rfl) ?_
  refine lv_iload_n hx hb dL_law_338 rfl (lv_at hl 3 rfl) ?_
  refine lv_iconst (v := nI 2) hx hb dL_law_339 (by decide) ?_
  refine lv_iadd hx hb dL_law_340 ?_
  refine cv_top (nI_add _ _) ?_
  refine la_ld hx hb hX hbl hS hL (i + 2) rfl (by omega) dL_law_341 ?_
  refine zz_callM (As := [.int (xs (i + 1)), .int (xs (i + 2))]) (rest := []) S hKx hP1 hS (la_inx hAx) (met0_topGroup l D ad dA n F hIx pl am hcv (xs (i + 1)) (xs (i + 2))) (cwLX0_topGroup hts (by decide)) (cv_recv hKx hP1) rfl hl.1 rfl (Nat.le_of_ble_eq_true rfl) dL_law_342 ⟨Nat.le_of_ble_eq_true rfl, Nat.le_of_ble_eq_true rfl⟩ (fun r1 u1 H locs hr1 hP1 hfr hS => ?_)
  replace hP1 : va_P D vwCl (cvw ad dA u1.1 u1.2) H := hP1
  replace hP2 := la_keep hP2 (la_dm hd) hfr
  refine lv_aload_n hx hb dL_law_345 rfl (lv_at hl 2 rfl) ?_
  refine lv_aload_n hx hb dL_law_346 rfl (lv_at hl 0 rfl) ?_
  refine lv_iload_n hx hb dL_law_347 rfl (lv_at hl 3 rfl) ?_
  refine lv_iconst (v := nI 1) hx hb dL_law_348 (by decide) ?_
  refine lv_iadd hx hb dL_law_349 ?_
  refine cv_top (nI_add _ _) ?_
  refine la_ld hx hb hX hbl hS hL (i + 1) rfl (by omega) dL_law_350 ?_
  refine lv_aload_n hx hb dL_law_351 rfl (lv_at hl 0 rfl) ?_
  refine lv_iload_n hx hb dL_law_352 rfl (lv_at hl 3 rfl) ?_
  refine lv_iconst (v := nI 2) hx hb dL_law_353 (by decide) ?_
  refine lv_iadd hx hb dL_law_354 ?_
  refine cv_top (nI_add _ _) ?_
  refine la_ld hx hb hX hbl hS hL (i + 2) rfl (by omega) dL_law_355 ?_
  refine zz_callM (As := [.int (xs (i + 1)), .int (xs (i + 2))]) (rest := [.int r1]) S hKm hP2 hS (la_inm hAm) (met1_topGroup l D bd dB n F2 fo to hIm pl am hmd (xs (i + 1)) (xs (i + 2))) (cwLX1_topGroup hts (by decide)) (md_recv hKm hP2) rfl hl.1 rfl (Nat.le_of_ble_eq_true rfl) dL_law_356 ⟨Nat.le_of_ble_eq_true rfl, Nat.le_of_ble_eq_true rfl⟩ (fun r2 u2 H locs hr2 hP2 hfr hS => ?_)
  replace hP2 : va_P D vwCl (mdw bd dB u2.1 u2.2.1 u2.2.2.1 u2.2.2.2) H := hP2
  replace hP1 := la_keep hP1 (la_dc hd) hfr
  obtain ⟨hq1, hn1, hc1⟩ := hr1
  obtain ⟨hq2, hn2, hm2⟩ := hr2
  have er : r1 = r2 := zc_RX_one zc_okGF_one (fun x r r' h h' => h.trans h'.symm) hq1 hq2
  rw [hn1] at hP1
  rw [hn2] at hP2
  refine lv_icmp_eq (tgt := 476) hx hb dL_law_359 (by decide) (fun cq => ?_) (fun cq => absurd er cq)
  exact cont n pl am u1.2 u2.2.1 u2.2.2.1 u2.2.2.2 _ _ _ ⟨hP1, hP2, hc1, hm2⟩ hS hl
set_option maxHeartbeats 4000000 in
/-- the law's case 10: quarter -/
theorem la_case10 {p : Program} {l : Launch} {e : Env} {s : State} {m : MethodId} {args : Array Value} {below : List Frame} {meth : Method} {c : Code} {Q : State → Prop} {b L : Nat} {xs : Nat → Int32} {D : va_G} {ad bd : Nat → Nat} {dA dB : Nat → ClassId} (S : CallFix p m c cL_law 4 s args lw_all R_law) (hKx : va_K D vwCl (cvT dA) s) (hKm : va_K D vwCl (mdT dB) s) (hIx : cvI ad) (hIm : mdI bd) (hd : ∀ i j, i < 10 → j < 3 → ad i ≠ bd j) (hAx : ∀ k, k < 10 → s.heap.size ≤ ad k) (hAm : ∀ k, k < 3 → s.heap.size ≤ bd k) (hX : va_X b L xs s s.heap) (hbl : b < s.heap.size) (hL : L ≤ 192) (i : Nat) (hi : i + 3 ≤ L) (cont : ∀ (n : Nat) (pl : Nat → Nat) (am : Nat → Int32) (F F2 : Nat → Nat → Int32) (fo to : Int32) (H : Heap) (locs : List Loc) (ls : Array Slot), la_In D ad bd dA dB n pl am F F2 fo to H → va_S (fun q => s.heap.size ≤ q) s.heap H locs → lv_has ls 4 [(0, .ref b), (1, .ref (ad 0)), (2, .ref (bd 0)), (3, .int (nI i))] → W p l e room_1 s m args below meth c H locs 13 2503 Q (F0 m 476 ls [])) : ∀ (n : Nat) (pl : Nat → Nat) (am : Nat → Int32) (F F2 : Nat → Nat → Int32) (fo to : Int32) (H : Heap) (locs : List Loc) (ls : Array Slot), la_In D ad bd dA dB n pl am F F2 fo to H → va_S (fun q => s.heap.size ≤ q) s.heap H locs → lv_has ls 4 [(0, .ref b), (1, .ref (ad 0)), (2, .ref (bd 0)), (3, .int (nI i))] → W p l e room_1 s m args below meth c H locs 13 2503 Q (F0 m 364 ls []) := by
  intro n pl am F F2 fo to H locs ls hin hS hl
  obtain ⟨hP1, hP2, hcv, hmd⟩ := hin
  have hx := S.1
  have hb := S.2.1
  have hts := S.2.2.2.2
  refine lv_aload_n hx hb dL_law_364 rfl (lv_at hl 1 rfl) ?_
  refine lv_aload_n hx hb dL_law_365 rfl (lv_at hl 0 rfl) ?_
  refine lv_iload_n hx hb dL_law_366 rfl (lv_at hl 3 rfl) ?_
  refine lv_iconst (v := nI 1) hx hb dL_law_367 (by decide) ?_
  refine lv_iadd hx hb dL_law_368 ?_
  refine cv_top (nI_add _ _) ?_
  refine la_ld hx hb hX hbl hS hL (i + 1) rfl (by omega) dL_law_369 ?_
  refine lv_aload_n hx hb dL_law_370 rfl (lv_at hl 0 rfl) ?_
  refine lv_iload_n hx hb dL_law_371 rfl (lv_at hl 3 rfl) ?_
  refine lv_iconst (v := nI 2) hx hb dL_law_372 (by decide) ?_
  refine lv_iadd hx hb dL_law_373 ?_
  refine cv_top (nI_add _ _) ?_
  refine la_ld hx hb hX hbl hS hL (i + 2) rfl (by omega) dL_law_374 ?_
  refine zz_callM (As := [.int (xs (i + 1)), .int (xs (i + 2))]) (rest := []) S hKx hP1 hS (la_inx hAx) (met0_quarter l D ad dA n F hIx pl am hcv (xs (i + 1)) (xs (i + 2))) (cwLX0_quarter hts (by decide)) (cv_recv hKx hP1) rfl hl.1 rfl (Nat.le_of_ble_eq_true rfl) dL_law_375 ⟨Nat.le_of_ble_eq_true rfl, Nat.le_of_ble_eq_true rfl⟩ (fun r1 u1 H locs hr1 hP1 hfr hS => ?_)
  replace hP1 : va_P D vwCl (cvw ad dA u1.1 u1.2) H := hP1
  replace hP2 := la_keep hP2 (la_dm hd) hfr
  refine lv_aload_n hx hb dL_law_378 rfl (lv_at hl 2 rfl) ?_
  refine lv_aload_n hx hb dL_law_379 rfl (lv_at hl 0 rfl) ?_
  refine lv_iload_n hx hb dL_law_380 rfl (lv_at hl 3 rfl) ?_
  refine lv_iconst (v := nI 1) hx hb dL_law_381 (by decide) ?_
  refine lv_iadd hx hb dL_law_382 ?_
  refine cv_top (nI_add _ _) ?_
  refine la_ld hx hb hX hbl hS hL (i + 1) rfl (by omega) dL_law_383 ?_
  refine lv_aload_n hx hb dL_law_384 rfl (lv_at hl 0 rfl) ?_
  refine lv_iload_n hx hb dL_law_385 rfl (lv_at hl 3 rfl) ?_
  refine lv_iconst (v := nI 2) hx hb dL_law_386 (by decide) ?_
  refine lv_iadd hx hb dL_law_387 ?_
  refine cv_top (nI_add _ _) ?_
  refine la_ld hx hb hX hbl hS hL (i + 2) rfl (by omega) dL_law_388 ?_
  refine zz_callM (As := [.int (xs (i + 1)), .int (xs (i + 2))]) (rest := [.int r1]) S hKm hP2 hS (la_inm hAm) (met1_quarter l D bd dB n F2 fo to hIm pl am hmd (xs (i + 1)) (xs (i + 2))) (cwLX1_quarter hts (by decide)) (md_recv hKm hP2) rfl hl.1 rfl (Nat.le_of_ble_eq_true rfl) dL_law_389 ⟨Nat.le_of_ble_eq_true rfl, Nat.le_of_ble_eq_true rfl⟩ (fun r2 u2 H locs hr2 hP2 hfr hS => ?_)
  replace hP2 : va_P D vwCl (mdw bd dB u2.1 u2.2.1 u2.2.2.1 u2.2.2.2) H := hP2
  replace hP1 := la_keep hP1 (la_dc hd) hfr
  obtain ⟨hq1, hn1, hc1⟩ := hr1
  obtain ⟨hq2, hn2, hm2⟩ := hr2
  have er : r1 = r2 := zc_RX_one zc_okQ_one (fun x r r' h h' => h.trans h'.symm) hq1 hq2
  rw [hn1] at hP1
  rw [hn2] at hP2
  refine lv_icmp_eq (tgt := 476) hx hb dL_law_392 (by decide) (fun cq => ?_) (fun cq => absurd er cq)
  exact cont n pl am u1.2 u2.2.1 u2.2.2.1 u2.2.2.2 _ _ _ ⟨hP1, hP2, hc1, hm2⟩ hS hl
set_option maxHeartbeats 4000000 in
/-- the law's case 11: growth -/
theorem la_case11 {p : Program} {l : Launch} {e : Env} {s : State} {m : MethodId} {args : Array Value} {below : List Frame} {meth : Method} {c : Code} {Q : State → Prop} {b L : Nat} {xs : Nat → Int32} {D : va_G} {ad bd : Nat → Nat} {dA dB : Nat → ClassId} (S : CallFix p m c cL_law 4 s args lw_all R_law) (hKx : va_K D vwCl (cvT dA) s) (hKm : va_K D vwCl (mdT dB) s) (hIx : cvI ad) (hIm : mdI bd) (hd : ∀ i j, i < 10 → j < 3 → ad i ≠ bd j) (hAx : ∀ k, k < 10 → s.heap.size ≤ ad k) (hAm : ∀ k, k < 3 → s.heap.size ≤ bd k) (hX : va_X b L xs s s.heap) (hbl : b < s.heap.size) (hL : L ≤ 192) (i : Nat) (hi : i + 3 ≤ L) (cont : ∀ (n : Nat) (pl : Nat → Nat) (am : Nat → Int32) (F F2 : Nat → Nat → Int32) (fo to : Int32) (H : Heap) (locs : List Loc) (ls : Array Slot), la_In D ad bd dA dB n pl am F F2 fo to H → va_S (fun q => s.heap.size ≤ q) s.heap H locs → lv_has ls 4 [(0, .ref b), (1, .ref (ad 0)), (2, .ref (bd 0)), (3, .int (nI i))] → W p l e room_1 s m args below meth c H locs 13 2503 Q (F0 m 476 ls [])) : ∀ (n : Nat) (pl : Nat → Nat) (am : Nat → Int32) (F F2 : Nat → Nat → Int32) (fo to : Int32) (H : Heap) (locs : List Loc) (ls : Array Slot), la_In D ad bd dA dB n pl am F F2 fo to H → va_S (fun q => s.heap.size ≤ q) s.heap H locs → lv_has ls 4 [(0, .ref b), (1, .ref (ad 0)), (2, .ref (bd 0)), (3, .int (nI i))] → W p l e room_1 s m args below meth c H locs 13 2503 Q (F0 m 397 ls []) := by
  intro n pl am F F2 fo to H locs ls hin hS hl
  obtain ⟨hP1, hP2, hcv, hmd⟩ := hin
  have hx := S.1
  have hb := S.2.1
  have hts := S.2.2.2.2
  refine lv_aload_n hx hb dL_law_397 rfl (lv_at hl 1 rfl) ?_
  refine lv_aload_n hx hb dL_law_398 rfl (lv_at hl 0 rfl) ?_
  refine lv_iload_n hx hb dL_law_399 rfl (lv_at hl 3 rfl) ?_
  refine lv_iconst (v := nI 1) hx hb dL_law_400 (by decide) ?_
  refine lv_iadd hx hb dL_law_401 ?_
  refine cv_top (nI_add _ _) ?_
  refine la_ld hx hb hX hbl hS hL (i + 1) rfl (by omega) dL_law_402 ?_
  refine zz_callM (As := [.int (xs (i + 1))]) (rest := []) S hKx hP1 hS (la_inx hAx) (met0_growth l D ad dA n F hIx pl am hcv (xs (i + 1))) (cwLX0_growth hts (by decide)) (cv_recv hKx hP1) rfl hl.1 rfl (Nat.le_of_ble_eq_true rfl) dL_law_403 ⟨Nat.le_of_ble_eq_true rfl, Nat.le_of_ble_eq_true rfl⟩ (fun r1 u1 H locs hr1 hP1 hfr hS => ?_)
  replace hP1 : va_P D vwCl (cvw ad dA u1.1 u1.2) H := hP1
  replace hP2 := la_keep hP2 (la_dm hd) hfr
  refine lv_aload_n hx hb dL_law_406 rfl (lv_at hl 2 rfl) ?_
  refine lv_aload_n hx hb dL_law_407 rfl (lv_at hl 0 rfl) ?_
  refine lv_iload_n hx hb dL_law_408 rfl (lv_at hl 3 rfl) ?_
  refine lv_iconst (v := nI 1) hx hb dL_law_409 (by decide) ?_
  refine lv_iadd hx hb dL_law_410 ?_
  refine cv_top (nI_add _ _) ?_
  refine la_ld hx hb hX hbl hS hL (i + 1) rfl (by omega) dL_law_411 ?_
  refine zz_callM (As := [.int (xs (i + 1))]) (rest := [.int r1]) S hKm hP2 hS (la_inm hAm) (met1_growth l D bd dB n F2 fo to hIm pl am hmd (xs (i + 1))) (cwLX1_growth hts (by decide)) (md_recv hKm hP2) rfl hl.1 rfl (Nat.le_of_ble_eq_true rfl) dL_law_412 ⟨Nat.le_of_ble_eq_true rfl, Nat.le_of_ble_eq_true rfl⟩ (fun r2 u2 H locs hr2 hP2 hfr hS => ?_)
  replace hP2 : va_P D vwCl (mdw bd dB u2.1 u2.2.1 u2.2.2.1 u2.2.2.2) H := hP2
  replace hP1 := la_keep hP1 (la_dc hd) hfr
  obtain ⟨hq1, hn1, hc1⟩ := hr1
  obtain ⟨hq2, hn2, hm2⟩ := hr2
  have er : r1 = r2 := zc_RX_one zc_okM_one (fun x r r' h h' => h.trans h'.symm) hq1 hq2
  rw [hn1] at hP1
  rw [hn2] at hP2
  refine lv_icmp_eq (tgt := 476) hx hb dL_law_415 (by decide) (fun cq => ?_) (fun cq => absurd er cq)
  exact cont n pl am u1.2 u2.2.1 u2.2.2.1 u2.2.2.2 _ _ _ ⟨hP1, hP2, hc1, hm2⟩ hS hl
set_option maxHeartbeats 4000000 in
/-- the law's case 12: atLeast -/
theorem la_case12 {p : Program} {l : Launch} {e : Env} {s : State} {m : MethodId} {args : Array Value} {below : List Frame} {meth : Method} {c : Code} {Q : State → Prop} {b L : Nat} {xs : Nat → Int32} {D : va_G} {ad bd : Nat → Nat} {dA dB : Nat → ClassId} (S : CallFix p m c cL_law 4 s args lw_all R_law) (hKx : va_K D vwCl (cvT dA) s) (hKm : va_K D vwCl (mdT dB) s) (hIx : cvI ad) (hIm : mdI bd) (hd : ∀ i j, i < 10 → j < 3 → ad i ≠ bd j) (hAx : ∀ k, k < 10 → s.heap.size ≤ ad k) (hAm : ∀ k, k < 3 → s.heap.size ≤ bd k) (hX : va_X b L xs s s.heap) (hbl : b < s.heap.size) (hL : L ≤ 192) (i : Nat) (hi : i + 3 ≤ L) (cont : ∀ (n : Nat) (pl : Nat → Nat) (am : Nat → Int32) (F F2 : Nat → Nat → Int32) (fo to : Int32) (H : Heap) (locs : List Loc) (ls : Array Slot), la_In D ad bd dA dB n pl am F F2 fo to H → va_S (fun q => s.heap.size ≤ q) s.heap H locs → lv_has ls 4 [(0, .ref b), (1, .ref (ad 0)), (2, .ref (bd 0)), (3, .int (nI i))] → W p l e room_1 s m args below meth c H locs 13 2503 Q (F0 m 476 ls [])) : ∀ (n : Nat) (pl : Nat → Nat) (am : Nat → Int32) (F F2 : Nat → Nat → Int32) (fo to : Int32) (H : Heap) (locs : List Loc) (ls : Array Slot), la_In D ad bd dA dB n pl am F F2 fo to H → va_S (fun q => s.heap.size ≤ q) s.heap H locs → lv_has ls 4 [(0, .ref b), (1, .ref (ad 0)), (2, .ref (bd 0)), (3, .int (nI i))] → W p l e room_1 s m args below meth c H locs 13 2503 Q (F0 m 420 ls []) := by
  intro n pl am F F2 fo to H locs ls hin hS hl
  obtain ⟨hP1, hP2, hcv, hmd⟩ := hin
  have hx := S.1
  have hb := S.2.1
  have hts := S.2.2.2.2
  refine lv_aload_n hx hb dL_law_420 rfl (lv_at hl 1 rfl) ?_
  refine lv_aload_n hx hb dL_law_421 rfl (lv_at hl 0 rfl) ?_
  refine lv_iload_n hx hb dL_law_422 rfl (lv_at hl 3 rfl) ?_
  refine lv_iconst (v := nI 1) hx hb dL_law_423 (by decide) ?_
  refine lv_iadd hx hb dL_law_424 ?_
  refine cv_top (nI_add _ _) ?_
  refine la_ld hx hb hX hbl hS hL (i + 1) rfl (by omega) dL_law_425 ?_
  refine lv_aload_n hx hb dL_law_426 rfl (lv_at hl 0 rfl) ?_
  refine lv_iload_n hx hb dL_law_427 rfl (lv_at hl 3 rfl) ?_
  refine lv_iconst (v := nI 2) hx hb dL_law_428 (by decide) ?_
  refine lv_iadd hx hb dL_law_429 ?_
  refine cv_top (nI_add _ _) ?_
  refine la_ld hx hb hX hbl hS hL (i + 2) rfl (by omega) dL_law_430 ?_
  refine zz_callM (As := [.int (xs (i + 1)), .int (xs (i + 2))]) (rest := []) S hKx hP1 hS (la_inx hAx) (met0_atLeast l D ad dA n F hIx pl am hcv (xs (i + 1)) (xs (i + 2))) (cwLX0_atLeast hts (by decide)) (cv_recv hKx hP1) rfl hl.1 rfl (Nat.le_of_ble_eq_true rfl) dL_law_431 ⟨Nat.le_of_ble_eq_true rfl, Nat.le_of_ble_eq_true rfl⟩ (fun r1 u1 H locs hr1 hP1 hfr hS => ?_)
  replace hP1 : va_P D vwCl (cvw ad dA u1.1 u1.2) H := hP1
  replace hP2 := la_keep hP2 (la_dm hd) hfr
  refine lv_aload_n hx hb dL_law_434 rfl (lv_at hl 2 rfl) ?_
  refine lv_aload_n hx hb dL_law_435 rfl (lv_at hl 0 rfl) ?_
  refine lv_iload_n hx hb dL_law_436 rfl (lv_at hl 3 rfl) ?_
  refine lv_iconst (v := nI 1) hx hb dL_law_437 (by decide) ?_
  refine lv_iadd hx hb dL_law_438 ?_
  refine cv_top (nI_add _ _) ?_
  refine la_ld hx hb hX hbl hS hL (i + 1) rfl (by omega) dL_law_439 ?_
  refine lv_aload_n hx hb dL_law_440 rfl (lv_at hl 0 rfl) ?_
  refine lv_iload_n hx hb dL_law_441 rfl (lv_at hl 3 rfl) ?_
  refine lv_iconst (v := nI 2) hx hb dL_law_442 (by decide) ?_
  refine lv_iadd hx hb dL_law_443 ?_
  refine cv_top (nI_add _ _) ?_
  refine la_ld hx hb hX hbl hS hL (i + 2) rfl (by omega) dL_law_444 ?_
  refine zz_callM (As := [.int (xs (i + 1)), .int (xs (i + 2))]) (rest := [.int r1]) S hKm hP2 hS (la_inm hAm) (met1_atLeast l D bd dB n F2 fo to hIm pl am hmd (xs (i + 1)) (xs (i + 2))) (cwLX1_atLeast hts (by decide)) (md_recv hKm hP2) rfl hl.1 rfl (Nat.le_of_ble_eq_true rfl) dL_law_445 ⟨Nat.le_of_ble_eq_true rfl, Nat.le_of_ble_eq_true rfl⟩ (fun r2 u2 H locs hr2 hP2 hfr hS => ?_)
  replace hP2 : va_P D vwCl (mdw bd dB u2.1 u2.2.1 u2.2.2.1 u2.2.2.2) H := hP2
  replace hP1 := la_keep hP1 (la_dc hd) hfr
  obtain ⟨hq1, hn1, hc1⟩ := hr1
  obtain ⟨hq2, hn2, hm2⟩ := hr2
  have er : r1 = r2 := zc_RX_one zc_okG_one (fun x r r' h h' => h.trans h'.symm) hq1 hq2
  rw [hn1] at hP1
  rw [hn2] at hP2
  refine lv_icmp_eq (tgt := 476) hx hb dL_law_448 (by decide) (fun cq => ?_) (fun cq => absurd er cq)
  exact cont n pl am u1.2 u2.2.1 u2.2.2.1 u2.2.2.2 _ _ _ ⟨hP1, hP2, hc1, hm2⟩ hS hl
set_option maxHeartbeats 4000000 in
/-- the law's case 13: plan -/
theorem la_case13 {p : Program} {l : Launch} {e : Env} {s : State} {m : MethodId} {args : Array Value} {below : List Frame} {meth : Method} {c : Code} {Q : State → Prop} {b L : Nat} {xs : Nat → Int32} {D : va_G} {ad bd : Nat → Nat} {dA dB : Nat → ClassId} (S : CallFix p m c cL_law 4 s args lw_all R_law) (hKx : va_K D vwCl (cvT dA) s) (hKm : va_K D vwCl (mdT dB) s) (hIx : cvI ad) (hIm : mdI bd) (hd : ∀ i j, i < 10 → j < 3 → ad i ≠ bd j) (hAx : ∀ k, k < 10 → s.heap.size ≤ ad k) (hAm : ∀ k, k < 3 → s.heap.size ≤ bd k) (hX : va_X b L xs s s.heap) (hbl : b < s.heap.size) (hL : L ≤ 192) (i : Nat) (hi : i + 3 ≤ L) (cont : ∀ (n : Nat) (pl : Nat → Nat) (am : Nat → Int32) (F F2 : Nat → Nat → Int32) (fo to : Int32) (H : Heap) (locs : List Loc) (ls : Array Slot), la_In D ad bd dA dB n pl am F F2 fo to H → va_S (fun q => s.heap.size ≤ q) s.heap H locs → lv_has ls 4 [(0, .ref b), (1, .ref (ad 0)), (2, .ref (bd 0)), (3, .int (nI i))] → W p l e room_1 s m args below meth c H locs 13 2503 Q (F0 m 476 ls [])) : ∀ (n : Nat) (pl : Nat → Nat) (am : Nat → Int32) (F F2 : Nat → Nat → Int32) (fo to : Int32) (H : Heap) (locs : List Loc) (ls : Array Slot), la_In D ad bd dA dB n pl am F F2 fo to H → va_S (fun q => s.heap.size ≤ q) s.heap H locs → lv_has ls 4 [(0, .ref b), (1, .ref (ad 0)), (2, .ref (bd 0)), (3, .int (nI i))] → W p l e room_1 s m args below meth c H locs 13 2503 Q (F0 m 453 ls []) := by
  intro n pl am F F2 fo to H locs ls hin hS hl
  obtain ⟨hP1, hP2, hcv, hmd⟩ := hin
  have hx := S.1
  have hb := S.2.1
  have hts := S.2.2.2.2
  refine lv_aload_n hx hb dL_law_453 rfl (lv_at hl 1 rfl) ?_
  refine lv_aload_n hx hb dL_law_454 rfl (lv_at hl 0 rfl) ?_
  refine lv_iload_n hx hb dL_law_455 rfl (lv_at hl 3 rfl) ?_
  refine lv_iconst (v := nI 1) hx hb dL_law_456 (by decide) ?_
  refine lv_iadd hx hb dL_law_457 ?_
  refine cv_top (nI_add _ _) ?_
  refine la_ld hx hb hX hbl hS hL (i + 1) rfl (by omega) dL_law_458 ?_
  refine zz_callM (As := [.int (xs (i + 1))]) (rest := []) S hKx hP1 hS (la_inx hAx) (met0_plan l D ad dA n F hIx pl am hcv (xs (i + 1))) (cwLX0_plan hts (by decide)) (cv_recv hKx hP1) rfl hl.1 rfl (Nat.le_of_ble_eq_true rfl) dL_law_459 ⟨Nat.le_of_ble_eq_true rfl, Nat.le_of_ble_eq_true rfl⟩ (fun r1 u1 H locs hr1 hP1 hfr hS => ?_)
  replace hP1 : va_P D vwCl (cvw ad dA u1.1 u1.2) H := hP1
  replace hP2 := la_keep hP2 (la_dm hd) hfr
  refine lv_aload_n hx hb dL_law_462 rfl (lv_at hl 2 rfl) ?_
  refine lv_aload_n hx hb dL_law_463 rfl (lv_at hl 0 rfl) ?_
  refine lv_iload_n hx hb dL_law_464 rfl (lv_at hl 3 rfl) ?_
  refine lv_iconst (v := nI 1) hx hb dL_law_465 (by decide) ?_
  refine lv_iadd hx hb dL_law_466 ?_
  refine cv_top (nI_add _ _) ?_
  refine la_ld hx hb hX hbl hS hL (i + 1) rfl (by omega) dL_law_467 ?_
  refine zz_callM (As := [.int (xs (i + 1))]) (rest := [.int r1]) S hKm hP2 hS (la_inm hAm) (met1_plan l D bd dB n F2 fo to hIm pl am hmd (xs (i + 1))) (cwLX1_plan hts (by decide)) (md_recv hKm hP2) rfl hl.1 rfl (Nat.le_of_ble_eq_true rfl) dL_law_468 ⟨Nat.le_of_ble_eq_true rfl, Nat.le_of_ble_eq_true rfl⟩ (fun r2 u2 H locs hr2 hP2 hfr hS => ?_)
  replace hP2 : va_P D vwCl (mdw bd dB u2.1 u2.2.1 u2.2.2.1 u2.2.2.2) H := hP2
  replace hP1 := la_keep hP1 (la_dc hd) hfr
  obtain ⟨hq1, hn1, hc1⟩ := hr1
  obtain ⟨hq2, hn2, hm2⟩ := hr2
  have er : r1 = r2 := zc_RX_one zc_okP_one (fun x r r' h h' => h.trans h'.symm) hq1 hq2
  rw [hn1] at hP1
  rw [hn2] at hP2
  refine lv_icmp_eq (tgt := 476) hx hb dL_law_471 (by decide) (fun cq => ?_) (fun cq => absurd er cq)
  exact cont n pl am u1.2 u2.2.1 u2.2.2.1 u2.2.2.2 _ _ _ ⟨hP1, hP2, hc1, hm2⟩ hS hl
end
section
set_option maxRecDepth 100000

set_option maxHeartbeats 4000000 in
/-- the law's loop: i ints read -/
theorem la_loop {p : Program} {l : Launch} {e : Env} {s : State} {m : MethodId} {args : Array Value} {below : List Frame} {meth : Method} {c : Code} {Q : State → Prop} {b L : Nat} {xs : Nat → Int32} {D : va_G} {ad bd : Nat → Nat} {dA dB : Nat → ClassId} (S : CallFix p m c cL_law 4 s args lw_all R_law) (hKx : va_K D vwCl (cvT dA) s) (hKm : va_K D vwCl (mdT dB) s) (hIx : cvI ad) (hIm : mdI bd) (hd : ∀ i j, i < 10 → j < 3 → ad i ≠ bd j) (hAx : ∀ k, k < 10 → s.heap.size ≤ ad k) (hAm : ∀ k, k < 3 → s.heap.size ≤ bd k) (hX : va_X b L xs s s.heap) (hbl : b < s.heap.size) (hL : L ≤ 192) (hend : ∀ (H : Heap) (locs : List Loc) (ls : Array Slot), va_S (fun q => s.heap.size ≤ q) s.heap H locs → W p l e room_1 s m args below meth c H locs 13 2503 Q (F0 m 482 ls [])) : ∀ (dd i : Nat), i ≤ L → L + 1 ≤ i + dd → ∀ (n : Nat) (pl : Nat → Nat) (am : Nat → Int32) (F F2 : Nat → Nat → Int32) (fo to : Int32) (H : Heap) (locs : List Loc) (ls : Array Slot), la_In D ad bd dA dB n pl am F F2 fo to H → va_S (fun q => s.heap.size ≤ q) s.heap H locs → lv_has ls 4 [(0, .ref b), (1, .ref (ad 0)), (2, .ref (bd 0)), (3, .int (nI i))] → W p l e room_1 s m args below meth c H locs 13 2503 Q (F0 m 18 ls []) := by
  have hx := S.1
  have hb := S.2.1
  have hts := S.2.2.2.2
  intro dd
  induction dd with
  | zero =>
    intro i hle hdd
    exact absurd hdd (by omega)
  | succ dd ih =>
    intro i hle hdd n pl am F F2 fo to H locs ls hin hS hl
    refine lv_iload_n hx hb dL_law_18 rfl (lv_at hl 3 rfl) ?_
    refine lv_aload_n hx hb dL_law_19 rfl (lv_at hl 0 rfl) ?_
    refine va_slen hx hb hX hbl (Nat.not_le.mpr hbl) hS dL_law_20 ?_
    refine cv_top (b := nI L) rfl ?_
    refine lv_iconst (v := nI 3) hx hb dL_law_21 (by decide) ?_
    refine lv_isub hx hb dL_law_22 ?_
    refine lv_icmp_gt (tgt := 482) hx hb dL_law_23 (by decide) (fun c23 => ?_) (fun c23 => ?_)
    · exact hend _ _ _ hS
    · have hi := la_cond hL hle c23
      have cont : ∀ (n : Nat) (pl : Nat → Nat) (am : Nat → Int32) (F F2 : Nat → Nat → Int32) (fo to : Int32) (H : Heap) (locs : List Loc) (ls : Array Slot), la_In D ad bd dA dB n pl am F F2 fo to H → va_S (fun q => s.heap.size ≤ q) s.heap H locs → lv_has ls 4 [(0, .ref b), (1, .ref (ad 0)), (2, .ref (bd 0)), (3, .int (nI i))] → W p l e room_1 s m args below meth c H locs 13 2503 Q (F0 m 476 ls []) := by
        intro n pl am F F2 fo to H locs ls hin hS hl
        refine lv_iinc (v := nI (i + 3)) (lv' := [(3, .int (nI (i + 3))), (0, .ref b), (1, .ref (ad 0)), (2, .ref (bd 0))]) hx hb dL_law_476 hl (k := 3) rfl (nI_add i 3) (by decide) rfl (fun ls hl => ?_)
        refine lv_goto (tgt := 18) hx hb dL_law_479 (by decide) ?_
        exact ih (i + 3) hi (by omega) n pl am F F2 fo to _ _ _ hin hS (lv_sub hl [1, 2, 3, 0] rfl)
      refine lv_aload_n hx hb dL_law_26 rfl (lv_at hl 0 rfl) ?_
      refine lv_iload_n hx hb dL_law_27 rfl (lv_at hl 3 rfl) ?_
      refine la_ld hx hb hX hbl hS hL i rfl (by omega) dL_law_28 ?_
      refine lv_bipush (v := nI 15) hx hb dL_law_29 (by decide) ?_
      refine lv_iand hx hb dL_law_31 ?_
      obtain ⟨j, hj, ej⟩ := pk_andE (xs i) (m := nI 15) 4 (by decide)
      refine cv_top ej ?_
      have hj : j < 16 := hj
      rcases (show j = 0 ∨ j = 1 ∨ j = 2 ∨ j = 3 ∨ j = 4 ∨ j = 5 ∨ j = 6 ∨ j = 7 ∨ j = 8 ∨ j = 9 ∨ j = 10 ∨ j = 11 ∨ j = 12 ∨ j = 13 ∨ j = 14 ∨ j = 15 by omega) with h | h | h | h | h | h | h | h | h | h | h | h | h | h | h | h
      · subst h
        refine lv_tableIn (off := 72) (tgt := 104) hx hb dL_law_32 (by decide) (by decide) (by decide) (by decide) ?_
        exact la_case0 S hKx hKm hIx hIm hd hAx hAm hX hbl hL i hi cont n pl am F F2 fo to _ _ _ hin hS hl
      · subst h
        refine lv_tableIn (off := 105) (tgt := 137) hx hb dL_law_32 (by decide) (by decide) (by decide) (by decide) ?_
        exact la_case1 S hKx hKm hIx hIm hd hAx hAm hX hbl hL i hi cont n pl am F F2 fo to _ _ _ hin hS hl
      · subst h
        refine lv_tableIn (off := 118) (tgt := 150) hx hb dL_law_32 (by decide) (by decide) (by decide) (by decide) ?_
        exact la_case2 S hKx hKm hIx hIm hd hAx hAm hX hbl hL i hi cont n pl am F F2 fo to _ _ _ hin hS hl
      · subst h
        refine lv_tableIn (off := 151) (tgt := 183) hx hb dL_law_32 (by decide) (by decide) (by decide) (by decide) ?_
        exact la_case3 S hKx hKm hIx hIm hd hAx hAm hX hbl hL i hi cont n pl am F F2 fo to _ _ _ hin hS hl
      · subst h
        refine lv_tableIn (off := 164) (tgt := 196) hx hb dL_law_32 (by decide) (by decide) (by decide) (by decide) ?_
        exact la_case4 S hKx hKm hIx hIm hd hAx hAm hX hbl hL i hi cont n pl am F F2 fo to _ _ _ hin hS hl
      · subst h
        refine lv_tableIn (off := 187) (tgt := 219) hx hb dL_law_32 (by decide) (by decide) (by decide) (by decide) ?_
        exact la_case5 S hKx hKm hIx hIm hd hAx hAm hX hbl hL i hi cont n pl am F F2 fo to _ _ _ hin hS hl
      · subst h
        refine lv_tableIn (off := 210) (tgt := 242) hx hb dL_law_32 (by decide) (by decide) (by decide) (by decide) ?_
        exact la_case6 S hKx hKm hIx hIm hd hAx hAm hX hbl hL i hi cont n pl am F F2 fo to _ _ _ hin hS hl
      · subst h
        refine lv_tableIn (off := 233) (tgt := 265) hx hb dL_law_32 (by decide) (by decide) (by decide) (by decide) ?_
        exact la_case7 S hKx hKm hIx hIm hd hAx hAm hX hbl hL i hi cont n pl am F F2 fo to _ _ _ hin hS hl
      · subst h
        refine lv_tableIn (off := 266) (tgt := 298) hx hb dL_law_32 (by decide) (by decide) (by decide) (by decide) ?_
        exact la_case8 S hKx hKm hIx hIm hd hAx hAm hX hbl hL i hi cont n pl am F F2 fo to _ _ _ hin hS hl
      · subst h
        refine lv_tableIn (off := 299) (tgt := 331) hx hb dL_law_32 (by decide) (by decide) (by decide) (by decide) ?_
        exact la_case9 S hKx hKm hIx hIm hd hAx hAm hX hbl hL i hi cont n pl am F F2 fo to _ _ _ hin hS hl
      · subst h
        refine lv_tableIn (off := 332) (tgt := 364) hx hb dL_law_32 (by decide) (by decide) (by decide) (by decide) ?_
        exact la_case10 S hKx hKm hIx hIm hd hAx hAm hX hbl hL i hi cont n pl am F F2 fo to _ _ _ hin hS hl
      · subst h
        refine lv_tableIn (off := 365) (tgt := 397) hx hb dL_law_32 (by decide) (by decide) (by decide) (by decide) ?_
        exact la_case11 S hKx hKm hIx hIm hd hAx hAm hX hbl hL i hi cont n pl am F F2 fo to _ _ _ hin hS hl
      · subst h
        refine lv_tableIn (off := 388) (tgt := 420) hx hb dL_law_32 (by decide) (by decide) (by decide) (by decide) ?_
        exact la_case12 S hKx hKm hIx hIm hd hAx hAm hX hbl hL i hi cont n pl am F F2 fo to _ _ _ hin hS hl
      · subst h
        refine lv_tableIn (off := 421) (tgt := 453) hx hb dL_law_32 (by decide) (by decide) (by decide) (by decide) ?_
        exact la_case13 S hKx hKm hIx hIm hd hAx hAm hX hbl hL i hi cont n pl am F F2 fo to _ _ _ hin hS hl
      · subst h
        refine lv_tableOut (tgt := 476) hx hb dL_law_32 (by decide) (by decide) ?_
        exact cont n pl am F F2 fo to _ _ _ hin hS hl
      · subst h
        refine lv_tableOut (tgt := 476) hx hb dL_law_32 (by decide) (by decide) ?_
        exact cont n pl am F F2 fo to _ _ _ hin hS hl
set_option maxHeartbeats 4000000 in
/-- YOUR PART: from the entry, for every script of at most 192 ints, the law comes to its end with true -/
theorem whole_start {p : Program} {e : Env} {s : State} {m : MethodId} {below : List Frame} {meth : Method} {c : Code} (l : Launch) {b L : Nat} {xs : Nat → Int32} (hL : L ≤ 192) (C0 : lw_At p s m meth c b L xs) : W p l e room_1 s m #[Value.ref b] below meth c s.heap [] 0 0 (lw_Z below #[Value.ref b] s) (entryFrame m ([Value.ref b] : List Value).toArray 4) := by
  obtain ⟨hx, hb, hr, hml, hown, hts0, hX, hbl, hlocks, -⟩ := C0
  have hts : ∀ w ∈ lw_all, w.before #[Value.ref b] s = true := fun w h => hts0 w (lw_all_tbl h)
  have S : CallFix p m c cL_law 4 s #[Value.ref b] lw_all R_law := ⟨hx, hb, hml, hown, hts⟩
  obtain ⟨c0_, iS0, hKn0⟩ := u_known (C := RX0) (T := TX0) (N := 10) (n := 10) hts0 (fun w h => lw_all_tbl (in_X0 w h)) (hts0 _ (lw_all_tbl q31))
  obtain ⟨c1_, iS1, hKn1⟩ := u_known (C := RX1) (T := TX1) (N := 5) (n := 5) hts0 (fun w h => lw_all_tbl (in_X1 w h)) (hts0 _ (lw_all_tbl q199))
  obtain ⟨D, hDd⟩ : ∃ D : va_G, D = (fun k => if k = 0 then c0_ else c1_, fun k => if k = 0 then iS0 else iS1) := ⟨_, rfl⟩
  have hK : va_K D vwCl [] s := by
    refine ⟨fun k q hq => ?_, fun k q h => by simp at h⟩
    rw [hDd]
    match k, hq with
    | 0, hq => cases hq; exact hKn0
    | 1, hq => cases hq; exact hKn1
    | k + 2, hq => simp [vwCl] at hq
  have hA : ∀ q : Nat, s.heap.size ≤ q → (fun q => s.heap.size ≤ q) q := fun q h => h
  have hP : va_P D vwCl [] s.heap := fun k q h => by simp at h
  have hD : va_D (fun q => s.heap.size ≤ q) [] := ⟨fun i j p q h => by simp at h, fun k q h => by simp at h⟩
  have hS : va_S (fun q => s.heap.size ≤ q) s.heap s.heap [] := va_S.rf
  have hl := lv_entry ([Value.ref b]) (n := 4) (Nat.le_of_ble_eq_true rfl)
  rw [lg_entry_eq]
  generalize (lg_sl ([Value.ref b]) ++ List.replicate (4 - (lg_sl ([Value.ref b])).length) Slot.unset).toArray = ls at hl ⊢
  have hl : lv_has ls 4 [(0, .ref b)] := hl
  refine va_new (ci := 0) (fs := [.int 0, .null, .null, .null, .null, .null, .null, .null, .null, .null]) (C := RX0) (T := TX0) (N := 10) hx hb hts in_X0 tyX0 tyX0_ok hown (hts _ q30) (hts _ q31) (hts _ q28) hK hP hD hS hA rfl (fun j hj => by rcases (show j = 0 ∨ j = 1 ∨ j = 2 ∨ j = 3 ∨ j = 4 ∨ j = 5 ∨ j = 6 ∨ j = 7 ∨ j = 8 ∨ j = 9 by omega) with h | h | h | h | h | h | h | h | h | h <;> subst h <;> rfl) (Nat.le_of_ble_eq_true rfl) (Nat.le_of_ble_eq_true rfl) dL_law_0 (fun qx H hP hD hS => ?_)
  refine W.widen (k := 1) (n := 10) (Nat.le_refl _) (Nat.le_refl _) ?_
  refine lv_dup hx hb dL_law_3 rfl ?_
  have hPc : va_P D vwCl [(qx, .inr (0, [.int 0, .null, .null, .null, .null, .null, .null, .null, .null, .null]))] H := hP
  have hDc : va_D (fun q => s.heap.size ≤ q) [(qx, .inr (0, [.int 0, .null, .null, .null, .null, .null, .null, .null, .null, .null]))] := hD
  have hFc := va_free (wc := [(qx, .inr (0, [.int 0, .null, .null, .null, .null, .null, .null, .null, .null, .null]))]) hDc hS hA [0] rfl
  refine va_callv (va_runI (As := []) (rest := [.ref qx]) S (met0_init l D qx H.size) (cwI 0 hts (lw_meth q34) rfl rfl rfl (hts _ q28) (hts _ q32) (hts _ q33) rfl (by decide +kernel) ⟨Nat.le_of_ble_eq_true rfl, Nat.le_of_ble_eq_true rfl⟩) ⟨fun a U g mk q => by obtain ⟨q0, q1, qP, qK, qD⟩ := q; exact ⟨q0, q1, qP, va_K.moved (u := U) (U := U.calling g mk a) (Vm.Alike.refl U.vm) qK, qD⟩, fun U hU hW => ⟨rfl, by rw [hU], by rw [hU]; exact hPc, va_K.moved hW.alike hK, hDc.weaken (fun _ _ _ _ => trivial)⟩⟩ rfl rfl hl.1 rfl (lv_room (Nat.le_of_ble_eq_true rfl)) dL_law_4 ⟨Nat.le_of_ble_eq_true rfl, Nat.le_of_ble_eq_true rfl⟩) hS (fun q _ h => hFc q h) hFc (fun u t H1 locs ht hvm hw1 hB hz1 hk1 hS => ?_)
  refine W.widen (k := 10) (n := 2418) (Nat.le_refl _) (Nat.le_refl _) ?_
  obtain ⟨ad, dA⟩ := u
  obtain ⟨h00, hIx, hAk⟩ := hw1
  obtain ⟨F, hcv0, hP1, hK1⟩ := hB
  replace h00 : ad 0 = qx := h00
  replace hIx : cvI ad := hIx
  have hAx : ∀ k, k < 10 → s.heap.size ≤ ad k := fun k hk => hFc _ (hAk k hk)
  replace hP1 : va_P D vwCl (cvw ad dA 0 F) t.heap := hP1
  rw [ht] at hP1
  have hKx : va_K D vwCl (cvT dA) s := va_K.moved hvm.symm hK1
  rw [← h00]
  refine lv_astore_n (lv' := [(1, .ref (ad 0)), (0, .ref b)]) hx hb dL_law_7 rfl hl (by decide) rfl (fun ls hl => ?_)
  clear hPc hDc hFc hk1 hP hD hAk
  have hD1 : va_D (fun q => s.heap.size ≤ q) (cvw ad dA 0 F) := cv_DA hIx hAx
  refine va_new (ci := 1) (fs := [.null, .null, .int 0, .int 0, .int 0]) (C := RX1) (T := TX1) (N := 5) hx hb hts in_X1 tyX1 tyX1_ok hown (hts _ q198) (hts _ q199) (hts _ q29) hK hP1 hD1 hS hA rfl (fun j hj => by rcases (show j = 0 ∨ j = 1 ∨ j = 2 ∨ j = 3 ∨ j = 4 by omega) with h | h | h | h | h <;> subst h <;> rfl) (Nat.le_of_ble_eq_true rfl) (Nat.le_of_ble_eq_true rfl) dL_law_8 (fun qm H hP hD hS => ?_)
  refine W.widen (k := 11) (n := 2423) (Nat.le_refl _) (Nat.le_refl _) ?_
  refine lv_dup hx hb dL_law_11 rfl ?_
  have hP1 : va_P D vwCl (cvw ad dA 0 F) H := fun k q h => hP k q (by rw [List.getElem?_append_left ((List.getElem?_eq_some_iff.mp h).1)]; exact h)
  have hPc : va_P D vwCl [(qm, .inr (1, [.null, .null, .int 0, .int 0, .int 0]))] H := hP.sub [10] rfl
  have hDc : va_D (fun q => s.heap.size ≤ q) [(qm, .inr (1, [.null, .null, .int 0, .int 0, .int 0]))] := hD.sub [10] (by decide) rfl
  have hne : ∀ k, k < 10 → ad k ≠ qm := fun k hk e => by
    obtain ⟨x, hx⟩ := cv_atk (ad := ad) (dA := dA) (n := 0) (F := F) hk
    have := hD.1 k 10 (ad k, x) (qm, .inr (1, [.null, .null, .int 0, .int 0, .int 0])) (by rw [List.getElem?_append_left ((List.getElem?_eq_some_iff.mp hx).1)]; exact hx) rfl e
    omega
  have hFc := va_free (wc := [(qm, .inr (1, [.null, .null, .int 0, .int 0, .int 0]))]) hDc hS hA [0] rfl
  have hno : ∀ (k : Nat) (q : Nat × va_E), (cvw ad dA 0 F)[k]? = some q → ¬ va_A [(qm, .inr (1, [.null, .null, .int 0, .int 0, .int 0]))] H.size q.1 := fun k q hq w => by
    have a := cv_key hq
    have hlt := (hP1 k q hq).lt
    rcases w with ⟨j, x, w⟩ | w
    · have hj : j = 0 := by
        have := (List.getElem?_eq_some_iff.mp w).1
        simp at this
        exact this
      subst hj
      cases w
      exact hne k a.1 a.2.symm
    · omega
  refine va_callv (va_runI (As := []) (rest := [.ref qm]) S (met1_init l D qm H.size) (cwI 0 hts (lw_meth q202) rfl rfl rfl (hts _ q29) (hts _ q200) (hts _ q201) rfl (by decide +kernel) ⟨Nat.le_of_ble_eq_true rfl, Nat.le_of_ble_eq_true rfl⟩) ⟨fun a U g mk q => by obtain ⟨q0, q1, qP, qK, qD⟩ := q; exact ⟨q0, q1, qP, va_K.moved (u := U) (U := U.calling g mk a) (Vm.Alike.refl U.vm) qK, qD⟩, fun U hU hW => ⟨rfl, by rw [hU], by rw [hU]; exact hPc, va_K.moved hW.alike hK, hDc.weaken (fun _ _ _ _ => trivial)⟩⟩ rfl rfl hl.1 rfl (lv_room (Nat.le_of_ble_eq_true rfl)) dL_law_12 ⟨Nat.le_of_ble_eq_true rfl, Nat.le_of_ble_eq_true rfl⟩) hS (fun q _ h => hFc q h) hFc (fun u t H1 locs ht hvm hw1 hB hz1 hk1 hS => ?_)
  refine W.widen (k := 13) (n := 2503) (Nat.le_refl _) (Nat.le_refl _) ?_
  obtain ⟨bd, dB⟩ := u
  obtain ⟨h01, hIm, hAk⟩ := hw1
  obtain ⟨F2, fo, to, hmd0, hP2, hK2⟩ := hB
  replace h01 : bd 0 = qm := h01
  replace hIm : mdI bd := hIm
  replace hAk : ∀ k, k < 3 → va_A [(qm, .inr (1, [.null, .null, .int 0, .int 0, .int 0]))] H.size (bd k) := hAk
  have hAm : ∀ k, k < 3 → s.heap.size ≤ bd k := fun k hk => hFc _ (hAk k hk)
  replace hP2 : va_P D vwCl (mdw bd dB 0 F2 fo to) t.heap := hP2
  rw [ht] at hP2
  have hKm : va_K D vwCl (mdT dB) s := va_K.moved hvm.symm hK2
  have hP1 : va_P D vwCl (cvw ad dA 0 F) H1 := la_keep hP1 hno hk1
  have hd : ∀ i j, i < 10 → j < 3 → ad i ≠ bd j := fun i j hi hj e => by
    obtain ⟨x, hx⟩ := cv_atk (ad := ad) (dA := dA) (n := 0) (F := F) hi
    exact hno i _ hx (by show va_A _ _ (ad i); rw [e]; exact hAk j hj)
  rw [← h01]
  refine lv_astore_n (lv' := [(2, .ref (bd 0)), (1, .ref (ad 0)), (0, .ref b)]) hx hb dL_law_15 rfl hl (by decide) rfl (fun ls hl => ?_)
  refine lv_iconst (v := nI 0) hx hb dL_law_16 (by decide) ?_
  refine lv_istore_n (lv' := [(3, .int (nI 0)), (2, .ref (bd 0)), (1, .ref (ad 0)), (0, .ref b)]) hx hb dL_law_17 rfl hl (by decide) rfl (fun ls hl => ?_)
  refine la_loop S hKx hKm hIx hIm hd hAx hAm hX hbl hL (fun H locs ls hS => ?_) (L + 1) 0 (by omega) (by omega) 0 (fun _ => 0) (fun _ => 0) F F2 fo to _ _ _ ⟨hP1, hP2, hcv0 _ _, hmd0 _ _⟩ hS (lv_sub hl [3, 2, 1, 0] rfl)
  refine lv_iconst (v := 1) hx hb dL_law_482 (by decide) ?_
  refine va_forget hS.2.2 ?_
  refine W.widen (k := 600000) (n := 7290000) (by decide) (by decide) ?_
  exact lw_ret hx hb hr hlocks dL_law_483
end
section
set_option maxRecDepth 100000
set_option maxHeartbeats 4000000 in
theorem lw_walk (l : Launch) (b : Addr) (xs : List Int32) : MetFree l x (headSpec (Jvm.Cond.code x code maxLocals ret :: tables_1) room_1) (lw_P b xs) (fun _ _ _ _ _ => True) lw_Q := by
  refine MetFree.of_bodyS (code := code) (maxLocals := maxLocals) (ret := ret) (by decide) ?_ ?_
  · intro args s m h hn
    obtain ⟨meth, c, h1, h2, h3, h4, h5, h6, -, -⟩ := Cond.code_spec hn (atoms_spec (ws := Jvm.Cond.code x code maxLocals ret :: tables_1) h _ List.mem_cons_self)
    exact ⟨meth, c, h1, h2, h3, h4, h5, h6⟩
  · intro p e s m args below meth c s₁ B hml0 hP _
    obtain ⟨rfl, hx, hbd, hgv⟩ := hP
    obtain ⟨scr, harrAt, hlist, hof, hsmall⟩ := hx
    obtain ⟨hcb, hkn, -, -⟩ := State.arrayAt?_spec harrAt
    have hown : s.vm.findClass R_law = some m.cls := findClass_of_methodNamed B.named
    have hts0 : ∀ c ∈ (Jvm.Cond.code x code maxLocals ret :: tables_1), c.before #[Value.ref b] s = true := atoms_spec (ws := Jvm.Cond.code x code maxLocals ret :: tables_1) B.pre
    have hts : ∀ w ∈ lw_tbl, w.before #[Value.ref b] s = true := k2_hts_sels lw_privs (fun w hw => hts0 w (List.mem_cons_of_mem _ hw)) lw_privs_ok
    have hml : c.maxLocals = 4 := B.maxLocals_eq (hts0 _ List.mem_cons_self)
    have X₀ : Stand p l e room_1 s m #[Value.ref b] below meth c s₁ [] 0 0 := Stand.of_body B
    have hh0 : s₁.heap = s.heap := by rw [B.state]; rfl
    have hsz : scr.slots.size = xs.length := by rw [← Array.length_toList, hlist, List.length_map]
    have hval : ∀ j : Nat, j < xs.length → scr.slots[j]? = some (.int (xs.getD j 0)) := fun j hj => by
      rw [← Array.getElem?_toList, hlist]
      simp [hj]
    have hbl : b < s.heap.size := (Array.getElem?_eq_some_iff.mp hcb).1
    have hX : va_X b xs.length (fun j => xs.getD j 0) s s.heap := ⟨scr, hcb, hof, hkn, hsz, hval⟩
    have K : W p l e room_1 s m #[Value.ref b] below meth c s₁.heap [] 0 0 (lw_Z below #[Value.ref b] s) (entryFrame m ([Value.ref b] : List Value).toArray 4) := by
      rw [hh0]
      exact whole_start l hbd ⟨B.exec, B.bytes, B.returns, hml, hown, hts, hX, hbl, B.notSynchronized, hgv⟩
    obtain ⟨t, a1, o, b1, b2, b3⟩ := K s₁ rfl X₀
    exact ⟨t, o, a1, b1, b2, b3⟩
theorem lw_pre_spec {args : Array Value} {s : State} (h : (Jvm.Cond.and given_1 narrow_1).before args s = true) (hr : rest_1_c.before args s = true) : ∃ (b : Addr) (xs : List Int32), lw_P b xs args s := by
  have hs := flat_of_before _ h
  have hq := flat_of_before _ hr
  have hc : (Cond.count 1).before args s = true := hs _ (by decide +kernel)
  have harr : (Cond.arrayOf (.arg 0) .int).before args s = true := hs _ (by decide +kernel)
  have hle : (Cond.le (.length (.arg 0)) (.int 192)).before args s = true := hs _ (by decide +kernel)
  have hlen : (Cond.isInt (.length (.arg 0))).before args s = true := hq _ (by decide +kernel)
  have hall : (Cond.all (.arg 0) (.isInt (.elem (.arg 0) (.index 0)))).before args s = true := hq _ (by decide +kernel)
  obtain ⟨b, xs, hb, hx⟩ := State.ints_of_pre rfl harr hlen hall
  have hsm : xs.length < 2 ^ 31 := hx.choose_spec.2.2.2
  have hev : (Term.length (.arg 0)).eval args s none [] s = some (.int xs.length.toInt32) := hx.length_eval hb
  have hv := Cond.le_ints hev (show (Term.int 192).eval args s none [] s = some (.int 192) from rfl)
  have hd : xs.length.toInt32 ≤ 192 := by
    simpa [Cond.before, Cond.holds, hv] using hle
  have hN : xs.length ≤ 192 := (Int32.ofNat_le_ofNat hsm (by decide)).mp (show Int32.ofNat xs.length ≤ Int32.ofNat 192 from hd)
  exact ⟨b, xs, Cond.one_arg hc (show args[0]? = some (.ref b) from hb), hx, hN, h⟩
theorem lw_comes (l : Launch) : Comes l x (Jvm.Cond.code x code maxLocals ret :: tables_1) room_1 (fun tb e args s => Calls_1 tb e args s ∧ rest_1 tb e args s ∧ Pre_1 tb e args s)
    (fun _ _ args s o t => lw_Q args s o t) := by
  intro p e ha hc hk s m args below hf hfit hheap happ hpre
  obtain ⟨b, xs, hP⟩ := lw_pre_spec hpre.2.2 hpre.2.1
  obtain ⟨k, o, h1, h2, h3, hQ⟩ := lw_walk l b xs p e ha hc hk s m args below hf ((Spec.applies_iff_loose hf).mp happ).1 hP trivial
  exact ⟨k, o, h1, h2, h3, hQ⟩
theorem lw_frame {s t : State} {o : Outcome} {args : Array Value} (h : Framed s o t [] 600000 7290000) :
    Framed s o t (fieldLocs frame_1_writes args s ++ arrayLocs frame_1_arrays args s ++ staticLocs frame_1_statics s) 600000 7290000 := h
theorem lw_limb (L : Cond) (hL : ∀ (args : Array Value) (s t : State), L.after args s (.returned (some (.int 1))) t = true) :
    ArmFor flags0 classFile x code maxLocals ret World_1 tables_1 room_1 Calls_1 rest_1 Pre_1
      (fun tb e a s o t => postC L tb e a s o t ∧ Framed s o t (fieldLocs frame_1_writes a s ++ arrayLocs frame_1_arrays a s ++ staticLocs frame_1_statics s) 600000 7290000) := by
  intro l _ _ _ p e ha hc hk s m args below hf hfit hheap happ hpre
  obtain ⟨k, o, h1, h2, h3, rfl, hF⟩ := lw_comes l p e ha hc hk s m args below hf hfit hheap happ hpre
  exact ⟨k, _, h1, h2, h3, hL args s _, lw_frame hF⟩
theorem i_vc : Claimed_1_1 ∧ Claimed_1_2 := ⟨lw_limb limb_1_1 (fun args s t => by simp [limb_1_1, Cond.after, Cond.holds, Cond.value]), lw_limb limb_1_2 (fun args s t => Cond.after_iff.mpr (by
  first | (rw [show limb_1_2 = Cond.eq .result (.int 1) from rfl, Cond.eq_ints (x := 1) (y := 1) rfl rfl]; simp; done) | (simp [limb_1_2, Cond.value, Term.eval]; done)))⟩
end
