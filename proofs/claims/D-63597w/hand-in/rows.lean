section
-- ===== PART A: goes FIRST, ahead of the names: the tables' words, and 'selects' of the private methods out of them =====
/-- a private method of a class that the tables say can be made, by its rows of tables_1 -/
def lw_okq (q : MethodName × Nat) : Prop := (q.1.cls ≠ "java/lang/invoke/MethodHandle" ∧ q.1.cls ≠ "java/lang/invoke/VarHandle") ∧ Cond.instantiable q.1.cls q.2 ∈ tables_1 ∧ Cond.privateMethod q.1 ∈ tables_1 ∧ Cond.instanceMethod q.1 ∈ tables_1
set_option maxRecDepth 100000
theorem lw_t1 {w : Cond} (h : w ∈ tables_1_1) : w ∈ tables_1 := List.mem_append_left _ h
theorem lw_t2 {w : Cond} (h : w ∈ tables_1_2) : w ∈ tables_1 := List.mem_append_right _ h
theorem lw_p0 : lw_okq (⟨"ParametricCut", "costOf", "(II)I"⟩, 14) := ⟨⟨by decide +kernel, by decide +kernel⟩, lw_t1 (List.mem_of_getElem? (i := 4) rfl), lw_t1 (List.mem_of_getElem? (i := 85) rfl), lw_t1 (List.mem_of_getElem? (i := 86) rfl)⟩
theorem lw_p1 : lw_okq (⟨"ParametricCut", "sinkPull", "(II)I"⟩, 14) := ⟨⟨by decide +kernel, by decide +kernel⟩, lw_t1 (List.mem_of_getElem? (i := 4) rfl), lw_t1 (List.mem_of_getElem? (i := 92) rfl), lw_t1 (List.mem_of_getElem? (i := 93) rfl)⟩
theorem lw_p2 : lw_okq (⟨"ParametricCut", "sourcePull", "(II)I"⟩, 14) := ⟨⟨by decide +kernel, by decide +kernel⟩, lw_t1 (List.mem_of_getElem? (i := 4) rfl), lw_t1 (List.mem_of_getElem? (i := 96) rfl), lw_t1 (List.mem_of_getElem? (i := 97) rfl)⟩
theorem lw_p3 : lw_okq (⟨"ParametricCut", "work", "(I)V"⟩, 14) := ⟨⟨by decide +kernel, by decide +kernel⟩, lw_t1 (List.mem_of_getElem? (i := 4) rfl), lw_t1 (List.mem_of_getElem? (i := 104) rfl), lw_t1 (List.mem_of_getElem? (i := 105) rfl)⟩
theorem lw_p4 : lw_okq (⟨"ParametricCut", "load", "(I)V"⟩, 14) := ⟨⟨by decide +kernel, by decide +kernel⟩, lw_t1 (List.mem_of_getElem? (i := 4) rfl), lw_t1 (List.mem_of_getElem? (i := 108) rfl), lw_t1 (List.mem_of_getElem? (i := 109) rfl)⟩
theorem lw_p5 : lw_okq (⟨"ParametricCut", "grow", "()V"⟩, 14) := ⟨⟨by decide +kernel, by decide +kernel⟩, lw_t1 (List.mem_of_getElem? (i := 4) rfl), lw_t1 (List.mem_of_getElem? (i := 112) rfl), lw_t1 (List.mem_of_getElem? (i := 113) rfl)⟩
theorem lw_p6 : lw_okq (⟨"ParametricCut", "findWay", "()Z"⟩, 14) := ⟨⟨by decide +kernel, by decide +kernel⟩, lw_t1 (List.mem_of_getElem? (i := 4) rfl), lw_t1 (List.mem_of_getElem? (i := 116) rfl), lw_t1 (List.mem_of_getElem? (i := 117) rfl)⟩
theorem lw_p7 : lw_okq (⟨"ParametricCut", "narrowest", "()I"⟩, 14) := ⟨⟨by decide +kernel, by decide +kernel⟩, lw_t1 (List.mem_of_getElem? (i := 4) rfl), lw_t1 (List.mem_of_getElem? (i := 120) rfl), lw_t1 (List.mem_of_getElem? (i := 121) rfl)⟩
theorem lw_p8 : lw_okq (⟨"ParametricCut", "push", "(I)V"⟩, 14) := ⟨⟨by decide +kernel, by decide +kernel⟩, lw_t1 (List.mem_of_getElem? (i := 4) rfl), lw_t1 (List.mem_of_getElem? (i := 125) rfl), lw_t1 (List.mem_of_getElem? (i := 126) rfl)⟩
theorem lw_p9 : lw_okq (⟨"ParametricCut", "closeReach", "()V"⟩, 14) := ⟨⟨by decide +kernel, by decide +kernel⟩, lw_t1 (List.mem_of_getElem? (i := 4) rfl), lw_t1 (List.mem_of_getElem? (i := 129) rfl), lw_t1 (List.mem_of_getElem? (i := 130) rfl)⟩
theorem lw_p10 : lw_okq (⟨"ParametricCut", "smallestSide", "()I"⟩, 14) := ⟨⟨by decide +kernel, by decide +kernel⟩, lw_t1 (List.mem_of_getElem? (i := 4) rfl), lw_t1 (List.mem_of_getElem? (i := 137) rfl), lw_t1 (List.mem_of_getElem? (i := 138) rfl)⟩
theorem lw_p11 : lw_okq (⟨"ParametricCut", "greatestSide", "()I"⟩, 14) := ⟨⟨by decide +kernel, by decide +kernel⟩, lw_t1 (List.mem_of_getElem? (i := 4) rfl), lw_t1 (List.mem_of_getElem? (i := 145) rfl), lw_t1 (List.mem_of_getElem? (i := 146) rfl)⟩
theorem lw_p12 : lw_okq (⟨"ParametricCut", "countClosed", "()I"⟩, 14) := ⟨⟨by decide +kernel, by decide +kernel⟩, lw_t1 (List.mem_of_getElem? (i := 4) rfl), lw_t1 (List.mem_of_getElem? (i := 153) rfl), lw_t1 (List.mem_of_getElem? (i := 154) rfl)⟩
theorem lw_p13 : lw_okq (⟨"ParametricCut", "unsettled", "(I)I"⟩, 14) := ⟨⟨by decide +kernel, by decide +kernel⟩, lw_t1 (List.mem_of_getElem? (i := 4) rfl), lw_t1 (List.mem_of_getElem? (i := 157) rfl), lw_t1 (List.mem_of_getElem? (i := 158) rfl)⟩
theorem lw_p14 : lw_okq (⟨"ParametricCut", "branch", "(II)V"⟩, 14) := ⟨⟨by decide +kernel, by decide +kernel⟩, lw_t1 (List.mem_of_getElem? (i := 4) rfl), lw_t1 (List.mem_of_getElem? (i := 161) rfl), lw_t1 (List.mem_of_getElem? (i := 162) rfl)⟩
theorem lw_p15 : lw_okq (⟨"ParametricCut", "reaching", "(I)I"⟩, 14) := ⟨⟨by decide +kernel, by decide +kernel⟩, lw_t1 (List.mem_of_getElem? (i := 4) rfl), lw_t1 (List.mem_of_getElem? (i := 165) rfl), lw_t1 (List.mem_of_getElem? (i := 166) rfl)⟩
def lw_privs_1 : List (MethodName × Nat) := [(⟨"ParametricCut", "costOf", "(II)I"⟩, 14), (⟨"ParametricCut", "sinkPull", "(II)I"⟩, 14), (⟨"ParametricCut", "sourcePull", "(II)I"⟩, 14), (⟨"ParametricCut", "work", "(I)V"⟩, 14), (⟨"ParametricCut", "load", "(I)V"⟩, 14), (⟨"ParametricCut", "grow", "()V"⟩, 14), (⟨"ParametricCut", "findWay", "()Z"⟩, 14), (⟨"ParametricCut", "narrowest", "()I"⟩, 14), (⟨"ParametricCut", "push", "(I)V"⟩, 14), (⟨"ParametricCut", "closeReach", "()V"⟩, 14), (⟨"ParametricCut", "smallestSide", "()I"⟩, 14), (⟨"ParametricCut", "greatestSide", "()I"⟩, 14), (⟨"ParametricCut", "countClosed", "()I"⟩, 14), (⟨"ParametricCut", "unsettled", "(I)I"⟩, 14), (⟨"ParametricCut", "branch", "(II)V"⟩, 14), (⟨"ParametricCut", "reaching", "(I)I"⟩, 14)]
theorem lw_r1 : ∀ q ∈ lw_privs_1, lw_okq q := List.forall_mem_cons.mpr ⟨lw_p0, List.forall_mem_cons.mpr ⟨lw_p1, List.forall_mem_cons.mpr ⟨lw_p2, List.forall_mem_cons.mpr ⟨lw_p3, List.forall_mem_cons.mpr ⟨lw_p4, List.forall_mem_cons.mpr ⟨lw_p5, List.forall_mem_cons.mpr ⟨lw_p6, List.forall_mem_cons.mpr ⟨lw_p7, List.forall_mem_cons.mpr ⟨lw_p8, List.forall_mem_cons.mpr ⟨lw_p9, List.forall_mem_cons.mpr ⟨lw_p10, List.forall_mem_cons.mpr ⟨lw_p11, List.forall_mem_cons.mpr ⟨lw_p12, List.forall_mem_cons.mpr ⟨lw_p13, List.forall_mem_cons.mpr ⟨lw_p14, List.forall_mem_cons.mpr ⟨lw_p15, fun _ h => absurd h List.not_mem_nil⟩⟩⟩⟩⟩⟩⟩⟩⟩⟩⟩⟩⟩⟩⟩⟩
theorem lw_p16 : lw_okq (⟨"ParametricCut", "leastApart", "(III)I"⟩, 14) := ⟨⟨by decide +kernel, by decide +kernel⟩, lw_t1 (List.mem_of_getElem? (i := 4) rfl), lw_t1 (List.mem_of_getElem? (i := 181) rfl), lw_t1 (List.mem_of_getElem? (i := 182) rfl)⟩
theorem lw_p17 : lw_okq (⟨"ParametricCutModel", "isNode", "(I)Z"⟩, 6) := ⟨⟨by decide +kernel, by decide +kernel⟩, lw_t1 (List.mem_of_getElem? (i := 190) rfl), lw_t1 (List.mem_of_getElem? (i := 220) rfl), lw_t1 (List.mem_of_getElem? (i := 221) rfl)⟩
theorem lw_p18 : lw_okq (⟨"ParametricCutModel", "isPull", "(II)Z"⟩, 6) := ⟨⟨by decide +kernel, by decide +kernel⟩, lw_t1 (List.mem_of_getElem? (i := 190) rfl), lw_t1 (List.mem_of_getElem? (i := 228) rfl), lw_t1 (List.mem_of_getElem? (i := 229) rfl)⟩
theorem lw_p19 : lw_okq (⟨"ParametricCutModel", "isNumber", "(I)Z"⟩, 6) := ⟨⟨by decide +kernel, by decide +kernel⟩, lw_t1 (List.mem_of_getElem? (i := 190) rfl), lw_t2 (List.mem_of_getElem? (i := 4) rfl), lw_t2 (List.mem_of_getElem? (i := 5) rfl)⟩
theorem lw_p20 : lw_okq (⟨"ParametricCutModel", "price", "(II)I"⟩, 6) := ⟨⟨by decide +kernel, by decide +kernel⟩, lw_t1 (List.mem_of_getElem? (i := 190) rfl), lw_t2 (List.mem_of_getElem? (i := 8) rfl), lw_t2 (List.mem_of_getElem? (i := 9) rfl)⟩
def lw_privs_2 : List (MethodName × Nat) := [(⟨"ParametricCut", "leastApart", "(III)I"⟩, 14), (⟨"ParametricCutModel", "isNode", "(I)Z"⟩, 6), (⟨"ParametricCutModel", "isPull", "(II)Z"⟩, 6), (⟨"ParametricCutModel", "isNumber", "(I)Z"⟩, 6), (⟨"ParametricCutModel", "price", "(II)I"⟩, 6)]
theorem lw_r2 : ∀ q ∈ lw_privs_2, lw_okq q := List.forall_mem_cons.mpr ⟨lw_p16, List.forall_mem_cons.mpr ⟨lw_p17, List.forall_mem_cons.mpr ⟨lw_p18, List.forall_mem_cons.mpr ⟨lw_p19, List.forall_mem_cons.mpr ⟨lw_p20, fun _ h => absurd h List.not_mem_nil⟩⟩⟩⟩⟩
def lw_privs : List (MethodName × Nat) := lw_privs_1 ++ (lw_privs_2)
def lw_tbl : List Cond := k2_sels lw_privs ++ tables_1
theorem lw_privs_ok : ∀ q ∈ lw_privs, lw_okq q := by
  show ∀ q ∈ lw_privs_1 ++ (lw_privs_2), lw_okq q
  exact List.forall_mem_append.mpr ⟨lw_r1, lw_r2⟩
-- ===== ONE list of words for every method: the tables' words that hold all through a run =====
def lw_all : List Cond := lw_tbl.filter goodWord
/-- a word of the tables by its place: claim/WORDS.tsv -/
theorem lw_w {w : Cond} (i : Nat) (h : lw_tbl[i]? = some w) (g : goodWord w = true) : w ∈ lw_all := List.mem_filter.mpr ⟨List.mem_of_getElem? h, g⟩
theorem lw_all_tbl {w : Cond} (h : w ∈ lw_all) : w ∈ lw_tbl := (List.mem_filter.mp h).1
theorem lw_self : GoodIn lw_all lw_all := fun w h => ⟨h, good_of_word (List.mem_filter.mp h).2⟩
/-- a class's field words, by their places -/
theorem lw_in (ws : List Cond) (ps : List Nat) (hp : ws = ps.filterMap (fun i => lw_tbl[i]?)) (hg : ws.all goodWord = true) : ∀ w ∈ ws, w ∈ lw_all := by
  intro w h
  have h1 := List.all_eq_true.mp hg w h
  rw [hp] at h
  obtain ⟨i, -, hi⟩ := List.mem_filterMap.mp h
  exact lw_w i hi h1
/-- the words of a contract for the method y with code b, L locals, answer r -/
abbrev ws_ (y : MethodName) (b : ByteArray) (L : Nat) (r : Option FieldType) : List Cond := Cond.code y b L r :: lw_all
theorem lw_meth {y : MethodName} {b : ByteArray} {L : Nat} {r : Option FieldType} (h : Cond.code y b L r ∈ lw_all) : GoodIn lw_all (ws_ y b L r) := by
  intro w hw
  rcases List.mem_cons.mp hw with e | e
  · rw [e]
    exact lw_self _ h
  · exact lw_self _ e
theorem lw_app {a c : List Cond} (ha : ∀ w ∈ a, w ∈ lw_all) (hc : GoodIn lw_all c) : GoodIn lw_all (a ++ c) := by
  intro w hw
  rcases List.mem_append.mp hw with e | e
  · exact lw_self w (ha w e)
  · exact hc w e
/-- what a call through an object asks: cwV n hts (lw_V ..) -/
theorem lw_V {own : String} {idx : Nat} {C : String} {y : MethodName} {b : ByteArray} {L : Nat} {r : Option FieldType} (h1 : Cond.methodLink own idx y ∈ lw_all) (h2 : Cond.instanceMethod y ∈ lw_all) (h3 : Cond.selects C y y ∈ lw_all) (h4 : Cond.initialized C ∈ lw_all) (h5 : Cond.code y b L r ∈ lw_all) : GoodIn lw_all (wsV own idx C y (ws_ y b L r)) := by
  refine lw_app ?_ (lw_meth h5)
  intro w hw
  simp only [List.mem_cons, List.not_mem_nil, or_false] at hw
  rcases hw with e | e | e | e
  · rw [e]; exact h1
  · rw [e]; exact h2
  · rw [e]; exact h3
  · rw [e]; exact h4
/-- what a static call asks: va_cwS n hts (lw_S ..) -/
theorem lw_S {own : String} {idx : Nat} {y : MethodName} {b : ByteArray} {L : Nat} {r : Option FieldType} (h1 : Cond.methodLink own idx y ∈ lw_all) (h2 : Cond.static y ∈ lw_all) (h3 : Cond.initialized y.cls ∈ lw_all) (h4 : Cond.code y b L r ∈ lw_all) : GoodIn lw_all (va_wsS own idx y (ws_ y b L r)) := by
  refine lw_app ?_ (lw_meth h4)
  intro w hw
  simp only [List.mem_cons, List.not_mem_nil, or_false] at hw
  rcases hw with e | e | e
  · rw [e]; exact h1
  · rw [e]; exact h2
  · rw [e]; exact h3
/-- the words of a contract for a method WITH HANDLERS (hh: its table) -/
abbrev wsW_ (y : MethodName) (b : ByteArray) (L : Nat) (r : Option FieldType) (hh : List (Nat × Nat × Nat × Nat)) : List Cond := Cond.codeWith y b L r hh :: lw_all
theorem lw_methW {y : MethodName} {b : ByteArray} {L : Nat} {r : Option FieldType} {hh : List (Nat × Nat × Nat × Nat)} (h : Cond.codeWith y b L r hh ∈ lw_all) : GoodIn lw_all (wsW_ y b L r hh) := by
  intro w hw
  rcases List.mem_cons.mp hw with e | e
  · rw [e]
    exact lw_self _ h
  · exact lw_self _ e
/-- any list of words by their places (lw_in), good -/
theorem lw_good {ws : List Cond} (h : ∀ w ∈ ws, w ∈ lw_all) : GoodIn lw_all ws := fun w hw => lw_self w (h w hw)
/-- what a call of a method with handlers asks: vx_cwVW n hts (lw_VW ..), vx_cwSW n hts (lw_SW ..) -/
theorem lw_VW {own : String} {idx : Nat} {C : String} {y : MethodName} {b : ByteArray} {L : Nat} {r : Option FieldType} {hh : List (Nat × Nat × Nat × Nat)} (h1 : Cond.methodLink own idx y ∈ lw_all) (h2 : Cond.instanceMethod y ∈ lw_all) (h3 : Cond.selects C y y ∈ lw_all) (h4 : Cond.initialized C ∈ lw_all) (h5 : Cond.codeWith y b L r hh ∈ lw_all) : GoodIn lw_all (wsV own idx C y (wsW_ y b L r hh)) := by
  refine lw_app ?_ (lw_methW h5)
  intro w hw
  simp only [List.mem_cons, List.not_mem_nil, or_false] at hw
  rcases hw with e | e | e | e
  · rw [e]; exact h1
  · rw [e]; exact h2
  · rw [e]; exact h3
  · rw [e]; exact h4
theorem lw_SW {own : String} {idx : Nat} {y : MethodName} {b : ByteArray} {L : Nat} {r : Option FieldType} {hh : List (Nat × Nat × Nat × Nat)} (h1 : Cond.methodLink own idx y ∈ lw_all) (h2 : Cond.static y ∈ lw_all) (h3 : Cond.initialized y.cls ∈ lw_all) (h4 : Cond.codeWith y b L r hh ∈ lw_all) : GoodIn lw_all (va_wsS own idx y (wsW_ y b L r hh)) := by
  refine lw_app ?_ (lw_methW h4)
  intro w hw
  simp only [List.mem_cons, List.not_mem_nil, or_false] at hw
  rcases hw with e | e | e
  · rw [e]; exact h1
  · rw [e]; exact h2
  · rw [e]; exact h3
/-- a word by its place in its run of the tables -/
theorem lw_at {r : List Cond} (hr : ∀ w ∈ r, w ∈ lw_tbl) {w : Cond} (i : Nat) (h : r[i]? = some w) : w ∈ lw_tbl := hr w (List.mem_of_getElem? h)
theorem lw_g {w : Cond} (h : w ∈ lw_tbl) (g : goodWord w = true) : w ∈ lw_all := List.mem_filter.mpr ⟨h, g⟩
theorem lw_ms : ∀ w ∈ k2_sels lw_privs, w ∈ lw_tbl := fun w h => show w ∈ k2_sels lw_privs ++ tables_1 from List.mem_append_left _ h
theorem lw_m1 : ∀ w ∈ tables_1_1, w ∈ lw_tbl := fun w h => show w ∈ k2_sels lw_privs ++ tables_1 from List.mem_append_right (k2_sels lw_privs) (show w ∈ tables_1 from List.mem_append_left _ h)
theorem lw_m2 : ∀ w ∈ tables_1_2, w ∈ lw_tbl := fun w h => show w ∈ k2_sels lw_privs ++ tables_1 from List.mem_append_right (k2_sels lw_privs) (show w ∈ tables_1 from List.mem_append_right _ h)
theorem qs0 : (Cond.selects "ParametricCut" ⟨"ParametricCut", "costOf", "(II)I"⟩ ⟨"ParametricCut", "costOf", "(II)I"⟩) ∈ lw_all := lw_g (lw_at lw_ms 0 rfl) rfl
theorem qs1 : (Cond.selects "ParametricCut" ⟨"ParametricCut", "sinkPull", "(II)I"⟩ ⟨"ParametricCut", "sinkPull", "(II)I"⟩) ∈ lw_all := lw_g (lw_at lw_ms 1 rfl) rfl
theorem qs2 : (Cond.selects "ParametricCut" ⟨"ParametricCut", "sourcePull", "(II)I"⟩ ⟨"ParametricCut", "sourcePull", "(II)I"⟩) ∈ lw_all := lw_g (lw_at lw_ms 2 rfl) rfl
theorem qs3 : (Cond.selects "ParametricCut" ⟨"ParametricCut", "work", "(I)V"⟩ ⟨"ParametricCut", "work", "(I)V"⟩) ∈ lw_all := lw_g (lw_at lw_ms 3 rfl) rfl
theorem qs4 : (Cond.selects "ParametricCut" ⟨"ParametricCut", "load", "(I)V"⟩ ⟨"ParametricCut", "load", "(I)V"⟩) ∈ lw_all := lw_g (lw_at lw_ms 4 rfl) rfl
theorem qs5 : (Cond.selects "ParametricCut" ⟨"ParametricCut", "grow", "()V"⟩ ⟨"ParametricCut", "grow", "()V"⟩) ∈ lw_all := lw_g (lw_at lw_ms 5 rfl) rfl
theorem qs6 : (Cond.selects "ParametricCut" ⟨"ParametricCut", "findWay", "()Z"⟩ ⟨"ParametricCut", "findWay", "()Z"⟩) ∈ lw_all := lw_g (lw_at lw_ms 6 rfl) rfl
theorem qs7 : (Cond.selects "ParametricCut" ⟨"ParametricCut", "narrowest", "()I"⟩ ⟨"ParametricCut", "narrowest", "()I"⟩) ∈ lw_all := lw_g (lw_at lw_ms 7 rfl) rfl
theorem qs8 : (Cond.selects "ParametricCut" ⟨"ParametricCut", "push", "(I)V"⟩ ⟨"ParametricCut", "push", "(I)V"⟩) ∈ lw_all := lw_g (lw_at lw_ms 8 rfl) rfl
theorem qs9 : (Cond.selects "ParametricCut" ⟨"ParametricCut", "closeReach", "()V"⟩ ⟨"ParametricCut", "closeReach", "()V"⟩) ∈ lw_all := lw_g (lw_at lw_ms 9 rfl) rfl
theorem qs10 : (Cond.selects "ParametricCut" ⟨"ParametricCut", "smallestSide", "()I"⟩ ⟨"ParametricCut", "smallestSide", "()I"⟩) ∈ lw_all := lw_g (lw_at lw_ms 10 rfl) rfl
theorem qs11 : (Cond.selects "ParametricCut" ⟨"ParametricCut", "greatestSide", "()I"⟩ ⟨"ParametricCut", "greatestSide", "()I"⟩) ∈ lw_all := lw_g (lw_at lw_ms 11 rfl) rfl
theorem qs12 : (Cond.selects "ParametricCut" ⟨"ParametricCut", "countClosed", "()I"⟩ ⟨"ParametricCut", "countClosed", "()I"⟩) ∈ lw_all := lw_g (lw_at lw_ms 12 rfl) rfl
theorem qs13 : (Cond.selects "ParametricCut" ⟨"ParametricCut", "unsettled", "(I)I"⟩ ⟨"ParametricCut", "unsettled", "(I)I"⟩) ∈ lw_all := lw_g (lw_at lw_ms 13 rfl) rfl
theorem qs14 : (Cond.selects "ParametricCut" ⟨"ParametricCut", "branch", "(II)V"⟩ ⟨"ParametricCut", "branch", "(II)V"⟩) ∈ lw_all := lw_g (lw_at lw_ms 14 rfl) rfl
theorem qs15 : (Cond.selects "ParametricCut" ⟨"ParametricCut", "reaching", "(I)I"⟩ ⟨"ParametricCut", "reaching", "(I)I"⟩) ∈ lw_all := lw_g (lw_at lw_ms 15 rfl) rfl
theorem qs16 : (Cond.selects "ParametricCut" ⟨"ParametricCut", "leastApart", "(III)I"⟩ ⟨"ParametricCut", "leastApart", "(III)I"⟩) ∈ lw_all := lw_g (lw_at lw_ms 16 rfl) rfl
theorem qs17 : (Cond.selects "ParametricCutModel" ⟨"ParametricCutModel", "isNode", "(I)Z"⟩ ⟨"ParametricCutModel", "isNode", "(I)Z"⟩) ∈ lw_all := lw_g (lw_at lw_ms 17 rfl) rfl
theorem qs18 : (Cond.selects "ParametricCutModel" ⟨"ParametricCutModel", "isPull", "(II)Z"⟩ ⟨"ParametricCutModel", "isPull", "(II)Z"⟩) ∈ lw_all := lw_g (lw_at lw_ms 18 rfl) rfl
theorem qs19 : (Cond.selects "ParametricCutModel" ⟨"ParametricCutModel", "isNumber", "(I)Z"⟩ ⟨"ParametricCutModel", "isNumber", "(I)Z"⟩) ∈ lw_all := lw_g (lw_at lw_ms 19 rfl) rfl
theorem qs20 : (Cond.selects "ParametricCutModel" ⟨"ParametricCutModel", "price", "(II)I"⟩ ⟨"ParametricCutModel", "price", "(II)I"⟩) ∈ lw_all := lw_g (lw_at lw_ms 20 rfl) rfl
end
section
/-! java/lang/Object -/
set_option maxRecDepth 100000
def RJ0 : String := "java/lang/Object"
abbrev cJ0_init : ByteArray := object_method_1_code
def yJ0_init : MethodName := ⟨RJ0, "<init>", "()V"⟩
theorem dJ0_init_0 : decode cJ0_init 0 = .ok (.return_, 1) := by decide +kernel
theorem q30 : (Jvm.Cond.instanceMethod ({ cls := "java/lang/Object", name := "<init>", desc := "()V" } : Jvm.MethodName)) ∈ lw_all := lw_g (lw_at lw_m1 9 rfl) rfl
theorem q31 : (Jvm.Cond.code ({ cls := "java/lang/Object", name := "<init>", desc := "()V" } : Jvm.MethodName) object_method_1_code (1 : Nat) (Option.none : Option Jvm.ClassFile.FieldType)) ∈ lw_all := lw_g (lw_at lw_m1 10 rfl) rfl

theorem q75 : (Jvm.Cond.arrayClass Jvm.ClassFile.FieldType.int) ∈ lw_all := lw_g (lw_at lw_m1 54 rfl) rfl
set_option maxRecDepth 100000
theorem q235 : (Jvm.Cond.arrayClass Jvm.ClassFile.FieldType.boolean) ∈ lw_all := lw_g (lw_at lw_m1 214 rfl) rfl

/-! ParametricCut -/
set_option maxRecDepth 100000
def RX0 : String := "ParametricCut"
def TX0 : u_T := fun k => match k with
  | 0 => ("ParametricCut", "capacity", "[I", true)
  | 1 => ("ParametricCut", "sourceBase", "[I", true)
  | 2 => ("ParametricCut", "sourceSlope", "[I", true)
  | 3 => ("ParametricCut", "sinkBase", "[I", true)
  | 4 => ("ParametricCut", "sinkSlope", "[I", true)
  | 5 => ("ParametricCut", "left", "[I", true)
  | 6 => ("ParametricCut", "workedFor", "I", false)
  | 7 => ("ParametricCut", "flow", "I", false)
  | 8 => ("ParametricCut", "queue", "[I", true)
  | 9 => ("ParametricCut", "came", "[I", true)
  | 10 => ("ParametricCut", "reach", "[I", true)
  | 11 => ("ParametricCut", "taken", "[I", true)
  | 12 => ("ParametricCut", "refused", "[I", true)
  | _ => ("ParametricCut", "stage", "[I", true)
def tyX0 : Nat → FieldType := fun k => match k with
  | 0 => .array .int
  | 1 => .array .int
  | 2 => .array .int
  | 3 => .array .int
  | 4 => .array .int
  | 5 => .array .int
  | 6 => .int
  | 7 => .int
  | 8 => .array .int
  | 9 => .array .int
  | 10 => .array .int
  | 11 => .array .int
  | 12 => .array .int
  | _ => .array .int
abbrev wsX00 : List Cond := u_ws RX0 TX0 14
set_option maxRecDepth 100000 in
theorem nmX0 : ∀ a, a < 14 → ∀ b, b < 14 → a ≠ b → (TX0 a).2.1 ≠ (TX0 b).2.1 := by decide +kernel
set_option maxRecDepth 100000 in
theorem tyX0_ok : ∀ k, k < 14 → parseFieldDescriptor (TX0 k).2.2.1 = some (tyX0 k) := by decide +kernel
abbrev cX0_init : ByteArray := prog_1_method_1_code
def yX0_init : MethodName := ⟨RX0, "<init>", "()V"⟩
abbrev cX0_link : ByteArray := prog_1_method_5_code
def yX0_link : MethodName := ⟨RX0, "link", "(III)I"⟩
abbrev cX0_bad : ByteArray := prog_1_method_2_code
def yX0_bad : MethodName := ⟨RX0, "bad", "(I)Z"⟩
abbrev cX0_toSource : ByteArray := prog_1_method_7_code
def yX0_toSource : MethodName := ⟨RX0, "toSource", "(III)I"⟩
abbrev cX0_badPull : ByteArray := prog_1_method_6_code
def yX0_badPull : MethodName := ⟨RX0, "badPull", "(II)Z"⟩
abbrev cX0_toSink : ByteArray := prog_1_method_8_code
def yX0_toSink : MethodName := ⟨RX0, "toSink", "(III)I"⟩
abbrev cX0_flip : ByteArray := prog_1_method_9_code
def yX0_flip : MethodName := ⟨RX0, "flip", "()V"⟩
abbrev cX0_cost : ByteArray := prog_1_method_20_code
def yX0_cost : MethodName := ⟨RX0, "cost", "(II)I"⟩
abbrev cX0_badX : ByteArray := prog_1_method_3_code
def yX0_badX : MethodName := ⟨RX0, "badX", "(I)Z"⟩
abbrev cX0_costOf : ByteArray := prog_1_method_19_code
def yX0_costOf : MethodName := ⟨RX0, "costOf", "(II)I"⟩
abbrev cX0_in : ByteArray := prog_1_method_4_code
def yX0_in : MethodName := ⟨RX0, "in", "(II)Z"⟩
abbrev cX0_sinkPull : ByteArray := prog_1_method_11_code
def yX0_sinkPull : MethodName := ⟨RX0, "sinkPull", "(II)I"⟩
abbrev cX0_sourcePull : ByteArray := prog_1_method_10_code
def yX0_sourcePull : MethodName := ⟨RX0, "sourcePull", "(II)I"⟩
abbrev cX0_least : ByteArray := prog_1_method_21_code
def yX0_least : MethodName := ⟨RX0, "least", "(I)I"⟩
abbrev cX0_work : ByteArray := prog_1_method_17_code
def yX0_work : MethodName := ⟨RX0, "work", "(I)V"⟩
abbrev cX0_load : ByteArray := prog_1_method_12_code
def yX0_load : MethodName := ⟨RX0, "load", "(I)V"⟩
abbrev cX0_grow : ByteArray := prog_1_method_16_code
def yX0_grow : MethodName := ⟨RX0, "grow", "()V"⟩
abbrev cX0_findWay : ByteArray := prog_1_method_13_code
def yX0_findWay : MethodName := ⟨RX0, "findWay", "()Z"⟩
abbrev cX0_narrowest : ByteArray := prog_1_method_14_code
def yX0_narrowest : MethodName := ⟨RX0, "narrowest", "()I"⟩
abbrev cX0_push : ByteArray := prog_1_method_15_code
def yX0_push : MethodName := ⟨RX0, "push", "(I)V"⟩
abbrev cX0_closeReach : ByteArray := prog_1_method_18_code
def yX0_closeReach : MethodName := ⟨RX0, "closeReach", "()V"⟩
abbrev cX0_always : ByteArray := prog_1_method_24_code
def yX0_always : MethodName := ⟨RX0, "always", "(I)I"⟩
abbrev cX0_smallestSide : ByteArray := prog_1_method_22_code
def yX0_smallestSide : MethodName := ⟨RX0, "smallestSide", "()I"⟩
abbrev cX0_ever : ByteArray := prog_1_method_25_code
def yX0_ever : MethodName := ⟨RX0, "ever", "(I)I"⟩
abbrev cX0_greatestSide : ByteArray := prog_1_method_23_code
def yX0_greatestSide : MethodName := ⟨RX0, "greatestSide", "()I"⟩
abbrev cX0_ties : ByteArray := prog_1_method_30_code
def yX0_ties : MethodName := ⟨RX0, "ties", "(I)I"⟩
abbrev cX0_countClosed : ByteArray := prog_1_method_28_code
def yX0_countClosed : MethodName := ⟨RX0, "countClosed", "()I"⟩
abbrev cX0_unsettled : ByteArray := prog_1_method_26_code
def yX0_unsettled : MethodName := ⟨RX0, "unsettled", "(I)I"⟩
abbrev cX0_branch : ByteArray := prog_1_method_29_code
def yX0_branch : MethodName := ⟨RX0, "branch", "(II)V"⟩
abbrev cX0_reaching : ByteArray := prog_1_method_27_code
def yX0_reaching : MethodName := ⟨RX0, "reaching", "(I)I"⟩
abbrev cX0_stages : ByteArray := prog_1_method_31_code
def yX0_stages : MethodName := ⟨RX0, "stages", "()I"⟩
abbrev cX0_worst : ByteArray := prog_1_method_32_code
def yX0_worst : MethodName := ⟨RX0, "worst", "()I"⟩
abbrev cX0_spare : ByteArray := prog_1_method_34_code
def yX0_spare : MethodName := ⟨RX0, "spare", "(III)I"⟩
abbrev cX0_leastApart : ByteArray := prog_1_method_33_code
def yX0_leastApart : MethodName := ⟨RX0, "leastApart", "(III)I"⟩
abbrev cX0_separates : ByteArray := prog_1_method_35_code
def yX0_separates : MethodName := ⟨RX0, "separates", "(III)Z"⟩
theorem q22 : (Jvm.Cond.initialized "ParametricCut") ∈ lw_all := lw_g (lw_at lw_m1 1 rfl) rfl
theorem q25 : (Jvm.Cond.instantiable "ParametricCut" (14 : Nat)) ∈ lw_all := lw_g (lw_at lw_m1 4 rfl) rfl
theorem q27 : (Jvm.Cond.instanceMethod ({ cls := "ParametricCut", name := "<init>", desc := "()V" } : Jvm.MethodName)) ∈ lw_all := lw_g (lw_at lw_m1 6 rfl) rfl
theorem q28 : (Jvm.Cond.code ({ cls := "ParametricCut", name := "<init>", desc := "()V" } : Jvm.MethodName) prog_1_method_1_code (1 : Nat) (Option.none : Option Jvm.ClassFile.FieldType)) ∈ lw_all := lw_g (lw_at lw_m1 7 rfl) rfl
theorem q29 : (Jvm.Cond.methodLink "ParametricCut" (1 : Nat) ({ cls := "java/lang/Object", name := "<init>", desc := "()V" } : Jvm.MethodName)) ∈ lw_all := lw_g (lw_at lw_m1 8 rfl) rfl
theorem q32 : (Jvm.Cond.fieldLink "ParametricCut" (7 : Nat) "ParametricCut" "capacity" "[I") ∈ lw_all := lw_g (lw_at lw_m1 11 rfl) rfl
theorem q33 : (Jvm.Cond.fieldLink "ParametricCut" (13 : Nat) "ParametricCut" "sourceBase" "[I") ∈ lw_all := lw_g (lw_at lw_m1 12 rfl) rfl
theorem q34 : (Jvm.Cond.fieldLink "ParametricCut" (16 : Nat) "ParametricCut" "sourceSlope" "[I") ∈ lw_all := lw_g (lw_at lw_m1 13 rfl) rfl
theorem q35 : (Jvm.Cond.fieldLink "ParametricCut" (19 : Nat) "ParametricCut" "sinkBase" "[I") ∈ lw_all := lw_g (lw_at lw_m1 14 rfl) rfl
theorem q36 : (Jvm.Cond.fieldLink "ParametricCut" (22 : Nat) "ParametricCut" "sinkSlope" "[I") ∈ lw_all := lw_g (lw_at lw_m1 15 rfl) rfl
theorem q37 : (Jvm.Cond.fieldLink "ParametricCut" (25 : Nat) "ParametricCut" "left" "[I") ∈ lw_all := lw_g (lw_at lw_m1 16 rfl) rfl
theorem q38 : (Jvm.Cond.fieldLink "ParametricCut" (46 : Nat) "ParametricCut" "workedFor" "I") ∈ lw_all := lw_g (lw_at lw_m1 17 rfl) rfl
theorem q39 : (Jvm.Cond.fieldLink "ParametricCut" (66 : Nat) "ParametricCut" "flow" "I") ∈ lw_all := lw_g (lw_at lw_m1 18 rfl) rfl
theorem q40 : (Jvm.Cond.fieldLink "ParametricCut" (28 : Nat) "ParametricCut" "queue" "[I") ∈ lw_all := lw_g (lw_at lw_m1 19 rfl) rfl
theorem q41 : (Jvm.Cond.fieldLink "ParametricCut" (31 : Nat) "ParametricCut" "came" "[I") ∈ lw_all := lw_g (lw_at lw_m1 20 rfl) rfl
theorem q42 : (Jvm.Cond.fieldLink "ParametricCut" (34 : Nat) "ParametricCut" "reach" "[I") ∈ lw_all := lw_g (lw_at lw_m1 21 rfl) rfl
theorem q43 : (Jvm.Cond.fieldLink "ParametricCut" (37 : Nat) "ParametricCut" "taken" "[I") ∈ lw_all := lw_g (lw_at lw_m1 22 rfl) rfl
theorem q44 : (Jvm.Cond.fieldLink "ParametricCut" (40 : Nat) "ParametricCut" "refused" "[I") ∈ lw_all := lw_g (lw_at lw_m1 23 rfl) rfl
theorem q45 : (Jvm.Cond.fieldLink "ParametricCut" (43 : Nat) "ParametricCut" "stage" "[I") ∈ lw_all := lw_g (lw_at lw_m1 24 rfl) rfl
theorem q46 : (Jvm.Cond.laysFinal "ParametricCut" "ParametricCut" "capacity" "[I") ∈ lw_all := lw_g (lw_at lw_m1 25 rfl) rfl
theorem q47 : (Jvm.Cond.soleField "ParametricCut" "capacity") ∈ lw_all := lw_g (lw_at lw_m1 26 rfl) rfl
theorem q48 : (Jvm.Cond.laysFinal "ParametricCut" "ParametricCut" "sourceBase" "[I") ∈ lw_all := lw_g (lw_at lw_m1 27 rfl) rfl
theorem q49 : (Jvm.Cond.soleField "ParametricCut" "sourceBase") ∈ lw_all := lw_g (lw_at lw_m1 28 rfl) rfl
theorem q50 : (Jvm.Cond.laysFinal "ParametricCut" "ParametricCut" "sourceSlope" "[I") ∈ lw_all := lw_g (lw_at lw_m1 29 rfl) rfl
theorem q51 : (Jvm.Cond.soleField "ParametricCut" "sourceSlope") ∈ lw_all := lw_g (lw_at lw_m1 30 rfl) rfl
theorem q52 : (Jvm.Cond.laysFinal "ParametricCut" "ParametricCut" "sinkBase" "[I") ∈ lw_all := lw_g (lw_at lw_m1 31 rfl) rfl
theorem q53 : (Jvm.Cond.soleField "ParametricCut" "sinkBase") ∈ lw_all := lw_g (lw_at lw_m1 32 rfl) rfl
theorem q54 : (Jvm.Cond.laysFinal "ParametricCut" "ParametricCut" "sinkSlope" "[I") ∈ lw_all := lw_g (lw_at lw_m1 33 rfl) rfl
theorem q55 : (Jvm.Cond.soleField "ParametricCut" "sinkSlope") ∈ lw_all := lw_g (lw_at lw_m1 34 rfl) rfl
theorem q56 : (Jvm.Cond.laysFinal "ParametricCut" "ParametricCut" "left" "[I") ∈ lw_all := lw_g (lw_at lw_m1 35 rfl) rfl
theorem q57 : (Jvm.Cond.soleField "ParametricCut" "left") ∈ lw_all := lw_g (lw_at lw_m1 36 rfl) rfl
theorem q58 : (Jvm.Cond.lays "ParametricCut" "ParametricCut" "workedFor" "I") ∈ lw_all := lw_g (lw_at lw_m1 37 rfl) rfl
theorem q59 : (Jvm.Cond.soleField "ParametricCut" "workedFor") ∈ lw_all := lw_g (lw_at lw_m1 38 rfl) rfl
theorem q60 : (Jvm.Cond.lays "ParametricCut" "ParametricCut" "flow" "I") ∈ lw_all := lw_g (lw_at lw_m1 39 rfl) rfl
theorem q61 : (Jvm.Cond.soleField "ParametricCut" "flow") ∈ lw_all := lw_g (lw_at lw_m1 40 rfl) rfl
theorem q62 : (Jvm.Cond.laysFinal "ParametricCut" "ParametricCut" "queue" "[I") ∈ lw_all := lw_g (lw_at lw_m1 41 rfl) rfl
theorem q63 : (Jvm.Cond.soleField "ParametricCut" "queue") ∈ lw_all := lw_g (lw_at lw_m1 42 rfl) rfl
theorem q64 : (Jvm.Cond.laysFinal "ParametricCut" "ParametricCut" "came" "[I") ∈ lw_all := lw_g (lw_at lw_m1 43 rfl) rfl
theorem q65 : (Jvm.Cond.soleField "ParametricCut" "came") ∈ lw_all := lw_g (lw_at lw_m1 44 rfl) rfl
theorem q66 : (Jvm.Cond.laysFinal "ParametricCut" "ParametricCut" "reach" "[I") ∈ lw_all := lw_g (lw_at lw_m1 45 rfl) rfl
theorem q67 : (Jvm.Cond.soleField "ParametricCut" "reach") ∈ lw_all := lw_g (lw_at lw_m1 46 rfl) rfl
theorem q68 : (Jvm.Cond.laysFinal "ParametricCut" "ParametricCut" "taken" "[I") ∈ lw_all := lw_g (lw_at lw_m1 47 rfl) rfl
theorem q69 : (Jvm.Cond.soleField "ParametricCut" "taken") ∈ lw_all := lw_g (lw_at lw_m1 48 rfl) rfl
theorem q70 : (Jvm.Cond.laysFinal "ParametricCut" "ParametricCut" "refused" "[I") ∈ lw_all := lw_g (lw_at lw_m1 49 rfl) rfl
theorem q71 : (Jvm.Cond.soleField "ParametricCut" "refused") ∈ lw_all := lw_g (lw_at lw_m1 50 rfl) rfl
theorem q72 : (Jvm.Cond.laysFinal "ParametricCut" "ParametricCut" "stage" "[I") ∈ lw_all := lw_g (lw_at lw_m1 51 rfl) rfl
theorem q73 : (Jvm.Cond.soleField "ParametricCut" "stage") ∈ lw_all := lw_g (lw_at lw_m1 52 rfl) rfl
theorem q74 : (Jvm.Cond.superclass "ParametricCut" "java/lang/Object") ∈ lw_all := lw_g (lw_at lw_m1 53 rfl) rfl
theorem q77 : (Jvm.Cond.instanceMethod ({ cls := "ParametricCut", name := "link", desc := "(III)I" } : Jvm.MethodName)) ∈ lw_all := lw_g (lw_at lw_m1 56 rfl) rfl
theorem q78 : (Jvm.Cond.selects "ParametricCut" ({ cls := "ParametricCut", name := "link", desc := "(III)I" } : Jvm.MethodName) ({ cls := "ParametricCut", name := "link", desc := "(III)I" } : Jvm.MethodName)) ∈ lw_all := lw_g (lw_at lw_m1 57 rfl) rfl
theorem q79 : (Jvm.Cond.code ({ cls := "ParametricCut", name := "link", desc := "(III)I" } : Jvm.MethodName) prog_1_method_5_code (5 : Nat) (Option.some Jvm.ClassFile.FieldType.int)) ∈ lw_all := lw_g (lw_at lw_m1 58 rfl) rfl
theorem q80 : (Jvm.Cond.methodLink "ParametricCut" (50 : Nat) ({ cls := "ParametricCut", name := "bad", desc := "(I)Z" } : Jvm.MethodName)) ∈ lw_all := lw_g (lw_at lw_m1 59 rfl) rfl
theorem q81 : (Jvm.Cond.static ({ cls := "ParametricCut", name := "bad", desc := "(I)Z" } : Jvm.MethodName)) ∈ lw_all := lw_g (lw_at lw_m1 60 rfl) rfl
theorem q82 : (Jvm.Cond.code ({ cls := "ParametricCut", name := "bad", desc := "(I)Z" } : Jvm.MethodName) prog_1_method_2_code (1 : Nat) (Option.some Jvm.ClassFile.FieldType.boolean)) ∈ lw_all := lw_g (lw_at lw_m1 61 rfl) rfl
theorem q84 : (Jvm.Cond.instanceMethod ({ cls := "ParametricCut", name := "toSource", desc := "(III)I" } : Jvm.MethodName)) ∈ lw_all := lw_g (lw_at lw_m1 63 rfl) rfl
theorem q85 : (Jvm.Cond.selects "ParametricCut" ({ cls := "ParametricCut", name := "toSource", desc := "(III)I" } : Jvm.MethodName) ({ cls := "ParametricCut", name := "toSource", desc := "(III)I" } : Jvm.MethodName)) ∈ lw_all := lw_g (lw_at lw_m1 64 rfl) rfl
theorem q86 : (Jvm.Cond.code ({ cls := "ParametricCut", name := "toSource", desc := "(III)I" } : Jvm.MethodName) prog_1_method_7_code (4 : Nat) (Option.some Jvm.ClassFile.FieldType.int)) ∈ lw_all := lw_g (lw_at lw_m1 65 rfl) rfl
theorem q87 : (Jvm.Cond.methodLink "ParametricCut" (54 : Nat) ({ cls := "ParametricCut", name := "badPull", desc := "(II)Z" } : Jvm.MethodName)) ∈ lw_all := lw_g (lw_at lw_m1 66 rfl) rfl
theorem q88 : (Jvm.Cond.static ({ cls := "ParametricCut", name := "badPull", desc := "(II)Z" } : Jvm.MethodName)) ∈ lw_all := lw_g (lw_at lw_m1 67 rfl) rfl
theorem q89 : (Jvm.Cond.code ({ cls := "ParametricCut", name := "badPull", desc := "(II)Z" } : Jvm.MethodName) prog_1_method_6_code (2 : Nat) (Option.some Jvm.ClassFile.FieldType.boolean)) ∈ lw_all := lw_g (lw_at lw_m1 68 rfl) rfl
theorem q91 : (Jvm.Cond.instanceMethod ({ cls := "ParametricCut", name := "toSink", desc := "(III)I" } : Jvm.MethodName)) ∈ lw_all := lw_g (lw_at lw_m1 70 rfl) rfl
theorem q92 : (Jvm.Cond.selects "ParametricCut" ({ cls := "ParametricCut", name := "toSink", desc := "(III)I" } : Jvm.MethodName) ({ cls := "ParametricCut", name := "toSink", desc := "(III)I" } : Jvm.MethodName)) ∈ lw_all := lw_g (lw_at lw_m1 71 rfl) rfl
theorem q93 : (Jvm.Cond.code ({ cls := "ParametricCut", name := "toSink", desc := "(III)I" } : Jvm.MethodName) prog_1_method_8_code (4 : Nat) (Option.some Jvm.ClassFile.FieldType.int)) ∈ lw_all := lw_g (lw_at lw_m1 72 rfl) rfl
theorem q95 : (Jvm.Cond.instanceMethod ({ cls := "ParametricCut", name := "flip", desc := "()V" } : Jvm.MethodName)) ∈ lw_all := lw_g (lw_at lw_m1 74 rfl) rfl
theorem q96 : (Jvm.Cond.selects "ParametricCut" ({ cls := "ParametricCut", name := "flip", desc := "()V" } : Jvm.MethodName) ({ cls := "ParametricCut", name := "flip", desc := "()V" } : Jvm.MethodName)) ∈ lw_all := lw_g (lw_at lw_m1 75 rfl) rfl
theorem q97 : (Jvm.Cond.code ({ cls := "ParametricCut", name := "flip", desc := "()V" } : Jvm.MethodName) prog_1_method_9_code (4 : Nat) (Option.none : Option Jvm.ClassFile.FieldType)) ∈ lw_all := lw_g (lw_at lw_m1 76 rfl) rfl
theorem q99 : (Jvm.Cond.instanceMethod ({ cls := "ParametricCut", name := "cost", desc := "(II)I" } : Jvm.MethodName)) ∈ lw_all := lw_g (lw_at lw_m1 78 rfl) rfl
theorem q100 : (Jvm.Cond.selects "ParametricCut" ({ cls := "ParametricCut", name := "cost", desc := "(II)I" } : Jvm.MethodName) ({ cls := "ParametricCut", name := "cost", desc := "(II)I" } : Jvm.MethodName)) ∈ lw_all := lw_g (lw_at lw_m1 79 rfl) rfl
theorem q101 : (Jvm.Cond.code ({ cls := "ParametricCut", name := "cost", desc := "(II)I" } : Jvm.MethodName) prog_1_method_20_code (3 : Nat) (Option.some Jvm.ClassFile.FieldType.int)) ∈ lw_all := lw_g (lw_at lw_m1 80 rfl) rfl
theorem q102 : (Jvm.Cond.methodLink "ParametricCut" (93 : Nat) ({ cls := "ParametricCut", name := "badX", desc := "(I)Z" } : Jvm.MethodName)) ∈ lw_all := lw_g (lw_at lw_m1 81 rfl) rfl
theorem q103 : (Jvm.Cond.static ({ cls := "ParametricCut", name := "badX", desc := "(I)Z" } : Jvm.MethodName)) ∈ lw_all := lw_g (lw_at lw_m1 82 rfl) rfl
theorem q104 : (Jvm.Cond.code ({ cls := "ParametricCut", name := "badX", desc := "(I)Z" } : Jvm.MethodName) prog_1_method_3_code (1 : Nat) (Option.some Jvm.ClassFile.FieldType.boolean)) ∈ lw_all := lw_g (lw_at lw_m1 83 rfl) rfl
theorem q105 : (Jvm.Cond.methodLink "ParametricCut" (96 : Nat) ({ cls := "ParametricCut", name := "costOf", desc := "(II)I" } : Jvm.MethodName)) ∈ lw_all := lw_g (lw_at lw_m1 84 rfl) rfl
theorem q106 : (Jvm.Cond.privateMethod ({ cls := "ParametricCut", name := "costOf", desc := "(II)I" } : Jvm.MethodName)) ∈ lw_tbl := lw_at lw_m1 85 rfl
theorem q107 : (Jvm.Cond.instanceMethod ({ cls := "ParametricCut", name := "costOf", desc := "(II)I" } : Jvm.MethodName)) ∈ lw_all := lw_g (lw_at lw_m1 86 rfl) rfl
theorem q108 : (Jvm.Cond.code ({ cls := "ParametricCut", name := "costOf", desc := "(II)I" } : Jvm.MethodName) prog_1_method_19_code (7 : Nat) (Option.some Jvm.ClassFile.FieldType.int)) ∈ lw_all := lw_g (lw_at lw_m1 87 rfl) rfl
theorem q109 : (Jvm.Cond.methodLink "ParametricCut" (90 : Nat) ({ cls := "ParametricCut", name := "in", desc := "(II)Z" } : Jvm.MethodName)) ∈ lw_all := lw_g (lw_at lw_m1 88 rfl) rfl
theorem q110 : (Jvm.Cond.static ({ cls := "ParametricCut", name := "in", desc := "(II)Z" } : Jvm.MethodName)) ∈ lw_all := lw_g (lw_at lw_m1 89 rfl) rfl
theorem q111 : (Jvm.Cond.code ({ cls := "ParametricCut", name := "in", desc := "(II)Z" } : Jvm.MethodName) prog_1_method_4_code (2 : Nat) (Option.some Jvm.ClassFile.FieldType.boolean)) ∈ lw_all := lw_g (lw_at lw_m1 90 rfl) rfl
theorem q112 : (Jvm.Cond.methodLink "ParametricCut" (62 : Nat) ({ cls := "ParametricCut", name := "sinkPull", desc := "(II)I" } : Jvm.MethodName)) ∈ lw_all := lw_g (lw_at lw_m1 91 rfl) rfl
theorem q113 : (Jvm.Cond.privateMethod ({ cls := "ParametricCut", name := "sinkPull", desc := "(II)I" } : Jvm.MethodName)) ∈ lw_tbl := lw_at lw_m1 92 rfl
theorem q114 : (Jvm.Cond.instanceMethod ({ cls := "ParametricCut", name := "sinkPull", desc := "(II)I" } : Jvm.MethodName)) ∈ lw_all := lw_g (lw_at lw_m1 93 rfl) rfl
theorem q115 : (Jvm.Cond.code ({ cls := "ParametricCut", name := "sinkPull", desc := "(II)I" } : Jvm.MethodName) prog_1_method_11_code (4 : Nat) (Option.some Jvm.ClassFile.FieldType.int)) ∈ lw_all := lw_g (lw_at lw_m1 94 rfl) rfl
theorem q116 : (Jvm.Cond.methodLink "ParametricCut" (58 : Nat) ({ cls := "ParametricCut", name := "sourcePull", desc := "(II)I" } : Jvm.MethodName)) ∈ lw_all := lw_g (lw_at lw_m1 95 rfl) rfl
theorem q117 : (Jvm.Cond.privateMethod ({ cls := "ParametricCut", name := "sourcePull", desc := "(II)I" } : Jvm.MethodName)) ∈ lw_tbl := lw_at lw_m1 96 rfl
theorem q118 : (Jvm.Cond.instanceMethod ({ cls := "ParametricCut", name := "sourcePull", desc := "(II)I" } : Jvm.MethodName)) ∈ lw_all := lw_g (lw_at lw_m1 97 rfl) rfl
theorem q119 : (Jvm.Cond.code ({ cls := "ParametricCut", name := "sourcePull", desc := "(II)I" } : Jvm.MethodName) prog_1_method_10_code (4 : Nat) (Option.some Jvm.ClassFile.FieldType.int)) ∈ lw_all := lw_g (lw_at lw_m1 98 rfl) rfl
theorem q121 : (Jvm.Cond.instanceMethod ({ cls := "ParametricCut", name := "least", desc := "(I)I" } : Jvm.MethodName)) ∈ lw_all := lw_g (lw_at lw_m1 100 rfl) rfl
theorem q122 : (Jvm.Cond.selects "ParametricCut" ({ cls := "ParametricCut", name := "least", desc := "(I)I" } : Jvm.MethodName) ({ cls := "ParametricCut", name := "least", desc := "(I)I" } : Jvm.MethodName)) ∈ lw_all := lw_g (lw_at lw_m1 101 rfl) rfl
theorem q123 : (Jvm.Cond.code ({ cls := "ParametricCut", name := "least", desc := "(I)I" } : Jvm.MethodName) prog_1_method_21_code (2 : Nat) (Option.some Jvm.ClassFile.FieldType.int)) ∈ lw_all := lw_g (lw_at lw_m1 102 rfl) rfl
theorem q124 : (Jvm.Cond.methodLink "ParametricCut" (99 : Nat) ({ cls := "ParametricCut", name := "work", desc := "(I)V" } : Jvm.MethodName)) ∈ lw_all := lw_g (lw_at lw_m1 103 rfl) rfl
theorem q125 : (Jvm.Cond.privateMethod ({ cls := "ParametricCut", name := "work", desc := "(I)V" } : Jvm.MethodName)) ∈ lw_tbl := lw_at lw_m1 104 rfl
theorem q126 : (Jvm.Cond.instanceMethod ({ cls := "ParametricCut", name := "work", desc := "(I)V" } : Jvm.MethodName)) ∈ lw_all := lw_g (lw_at lw_m1 105 rfl) rfl
theorem q127 : (Jvm.Cond.code ({ cls := "ParametricCut", name := "work", desc := "(I)V" } : Jvm.MethodName) prog_1_method_17_code (2 : Nat) (Option.none : Option Jvm.ClassFile.FieldType)) ∈ lw_all := lw_g (lw_at lw_m1 106 rfl) rfl
theorem q128 : (Jvm.Cond.methodLink "ParametricCut" (81 : Nat) ({ cls := "ParametricCut", name := "load", desc := "(I)V" } : Jvm.MethodName)) ∈ lw_all := lw_g (lw_at lw_m1 107 rfl) rfl
theorem q129 : (Jvm.Cond.privateMethod ({ cls := "ParametricCut", name := "load", desc := "(I)V" } : Jvm.MethodName)) ∈ lw_tbl := lw_at lw_m1 108 rfl
theorem q130 : (Jvm.Cond.instanceMethod ({ cls := "ParametricCut", name := "load", desc := "(I)V" } : Jvm.MethodName)) ∈ lw_all := lw_g (lw_at lw_m1 109 rfl) rfl
theorem q131 : (Jvm.Cond.code ({ cls := "ParametricCut", name := "load", desc := "(I)V" } : Jvm.MethodName) prog_1_method_12_code (4 : Nat) (Option.none : Option Jvm.ClassFile.FieldType)) ∈ lw_all := lw_g (lw_at lw_m1 110 rfl) rfl
theorem q132 : (Jvm.Cond.methodLink "ParametricCut" (84 : Nat) ({ cls := "ParametricCut", name := "grow", desc := "()V" } : Jvm.MethodName)) ∈ lw_all := lw_g (lw_at lw_m1 111 rfl) rfl
theorem q133 : (Jvm.Cond.privateMethod ({ cls := "ParametricCut", name := "grow", desc := "()V" } : Jvm.MethodName)) ∈ lw_tbl := lw_at lw_m1 112 rfl
theorem q134 : (Jvm.Cond.instanceMethod ({ cls := "ParametricCut", name := "grow", desc := "()V" } : Jvm.MethodName)) ∈ lw_all := lw_g (lw_at lw_m1 113 rfl) rfl
theorem q135 : (Jvm.Cond.code ({ cls := "ParametricCut", name := "grow", desc := "()V" } : Jvm.MethodName) prog_1_method_16_code (4 : Nat) (Option.none : Option Jvm.ClassFile.FieldType)) ∈ lw_all := lw_g (lw_at lw_m1 114 rfl) rfl
theorem q136 : (Jvm.Cond.methodLink "ParametricCut" (69 : Nat) ({ cls := "ParametricCut", name := "findWay", desc := "()Z" } : Jvm.MethodName)) ∈ lw_all := lw_g (lw_at lw_m1 115 rfl) rfl
theorem q137 : (Jvm.Cond.privateMethod ({ cls := "ParametricCut", name := "findWay", desc := "()Z" } : Jvm.MethodName)) ∈ lw_tbl := lw_at lw_m1 116 rfl
theorem q138 : (Jvm.Cond.instanceMethod ({ cls := "ParametricCut", name := "findWay", desc := "()Z" } : Jvm.MethodName)) ∈ lw_all := lw_g (lw_at lw_m1 117 rfl) rfl
theorem q139 : (Jvm.Cond.code ({ cls := "ParametricCut", name := "findWay", desc := "()Z" } : Jvm.MethodName) prog_1_method_13_code (4 : Nat) (Option.some Jvm.ClassFile.FieldType.boolean)) ∈ lw_all := lw_g (lw_at lw_m1 118 rfl) rfl
theorem q140 : (Jvm.Cond.methodLink "ParametricCut" (73 : Nat) ({ cls := "ParametricCut", name := "narrowest", desc := "()I" } : Jvm.MethodName)) ∈ lw_all := lw_g (lw_at lw_m1 119 rfl) rfl
theorem q141 : (Jvm.Cond.privateMethod ({ cls := "ParametricCut", name := "narrowest", desc := "()I" } : Jvm.MethodName)) ∈ lw_tbl := lw_at lw_m1 120 rfl
theorem q142 : (Jvm.Cond.instanceMethod ({ cls := "ParametricCut", name := "narrowest", desc := "()I" } : Jvm.MethodName)) ∈ lw_all := lw_g (lw_at lw_m1 121 rfl) rfl
theorem q143 : (Jvm.Cond.code ({ cls := "ParametricCut", name := "narrowest", desc := "()I" } : Jvm.MethodName) prog_1_method_14_code (5 : Nat) (Option.some Jvm.ClassFile.FieldType.int)) ∈ lw_all := lw_g (lw_at lw_m1 122 rfl) rfl
theorem q144 : (Jvm.Cond.constant "ParametricCut" (65 : Nat) (200000 : Int32)) ∈ lw_all := lw_g (lw_at lw_m1 123 rfl) rfl
theorem q145 : (Jvm.Cond.methodLink "ParametricCut" (77 : Nat) ({ cls := "ParametricCut", name := "push", desc := "(I)V" } : Jvm.MethodName)) ∈ lw_all := lw_g (lw_at lw_m1 124 rfl) rfl
theorem q146 : (Jvm.Cond.privateMethod ({ cls := "ParametricCut", name := "push", desc := "(I)V" } : Jvm.MethodName)) ∈ lw_tbl := lw_at lw_m1 125 rfl
theorem q147 : (Jvm.Cond.instanceMethod ({ cls := "ParametricCut", name := "push", desc := "(I)V" } : Jvm.MethodName)) ∈ lw_all := lw_g (lw_at lw_m1 126 rfl) rfl
theorem q148 : (Jvm.Cond.code ({ cls := "ParametricCut", name := "push", desc := "(I)V" } : Jvm.MethodName) prog_1_method_15_code (4 : Nat) (Option.none : Option Jvm.ClassFile.FieldType)) ∈ lw_all := lw_g (lw_at lw_m1 127 rfl) rfl
theorem q149 : (Jvm.Cond.methodLink "ParametricCut" (87 : Nat) ({ cls := "ParametricCut", name := "closeReach", desc := "()V" } : Jvm.MethodName)) ∈ lw_all := lw_g (lw_at lw_m1 128 rfl) rfl
theorem q150 : (Jvm.Cond.privateMethod ({ cls := "ParametricCut", name := "closeReach", desc := "()V" } : Jvm.MethodName)) ∈ lw_tbl := lw_at lw_m1 129 rfl
theorem q151 : (Jvm.Cond.instanceMethod ({ cls := "ParametricCut", name := "closeReach", desc := "()V" } : Jvm.MethodName)) ∈ lw_all := lw_g (lw_at lw_m1 130 rfl) rfl
theorem q152 : (Jvm.Cond.code ({ cls := "ParametricCut", name := "closeReach", desc := "()V" } : Jvm.MethodName) prog_1_method_18_code (3 : Nat) (Option.none : Option Jvm.ClassFile.FieldType)) ∈ lw_all := lw_g (lw_at lw_m1 131 rfl) rfl
theorem q154 : (Jvm.Cond.instanceMethod ({ cls := "ParametricCut", name := "always", desc := "(I)I" } : Jvm.MethodName)) ∈ lw_all := lw_g (lw_at lw_m1 133 rfl) rfl
theorem q155 : (Jvm.Cond.selects "ParametricCut" ({ cls := "ParametricCut", name := "always", desc := "(I)I" } : Jvm.MethodName) ({ cls := "ParametricCut", name := "always", desc := "(I)I" } : Jvm.MethodName)) ∈ lw_all := lw_g (lw_at lw_m1 134 rfl) rfl
theorem q156 : (Jvm.Cond.code ({ cls := "ParametricCut", name := "always", desc := "(I)I" } : Jvm.MethodName) prog_1_method_24_code (2 : Nat) (Option.some Jvm.ClassFile.FieldType.int)) ∈ lw_all := lw_g (lw_at lw_m1 135 rfl) rfl
theorem q157 : (Jvm.Cond.methodLink "ParametricCut" (102 : Nat) ({ cls := "ParametricCut", name := "smallestSide", desc := "()I" } : Jvm.MethodName)) ∈ lw_all := lw_g (lw_at lw_m1 136 rfl) rfl
theorem q158 : (Jvm.Cond.privateMethod ({ cls := "ParametricCut", name := "smallestSide", desc := "()I" } : Jvm.MethodName)) ∈ lw_tbl := lw_at lw_m1 137 rfl
theorem q159 : (Jvm.Cond.instanceMethod ({ cls := "ParametricCut", name := "smallestSide", desc := "()I" } : Jvm.MethodName)) ∈ lw_all := lw_g (lw_at lw_m1 138 rfl) rfl
theorem q160 : (Jvm.Cond.code ({ cls := "ParametricCut", name := "smallestSide", desc := "()I" } : Jvm.MethodName) prog_1_method_22_code (1 : Nat) (Option.some Jvm.ClassFile.FieldType.int)) ∈ lw_all := lw_g (lw_at lw_m1 139 rfl) rfl
theorem q162 : (Jvm.Cond.instanceMethod ({ cls := "ParametricCut", name := "ever", desc := "(I)I" } : Jvm.MethodName)) ∈ lw_all := lw_g (lw_at lw_m1 141 rfl) rfl
theorem q163 : (Jvm.Cond.selects "ParametricCut" ({ cls := "ParametricCut", name := "ever", desc := "(I)I" } : Jvm.MethodName) ({ cls := "ParametricCut", name := "ever", desc := "(I)I" } : Jvm.MethodName)) ∈ lw_all := lw_g (lw_at lw_m1 142 rfl) rfl
theorem q164 : (Jvm.Cond.code ({ cls := "ParametricCut", name := "ever", desc := "(I)I" } : Jvm.MethodName) prog_1_method_25_code (2 : Nat) (Option.some Jvm.ClassFile.FieldType.int)) ∈ lw_all := lw_g (lw_at lw_m1 143 rfl) rfl
theorem q165 : (Jvm.Cond.methodLink "ParametricCut" (105 : Nat) ({ cls := "ParametricCut", name := "greatestSide", desc := "()I" } : Jvm.MethodName)) ∈ lw_all := lw_g (lw_at lw_m1 144 rfl) rfl
theorem q166 : (Jvm.Cond.privateMethod ({ cls := "ParametricCut", name := "greatestSide", desc := "()I" } : Jvm.MethodName)) ∈ lw_tbl := lw_at lw_m1 145 rfl
theorem q167 : (Jvm.Cond.instanceMethod ({ cls := "ParametricCut", name := "greatestSide", desc := "()I" } : Jvm.MethodName)) ∈ lw_all := lw_g (lw_at lw_m1 146 rfl) rfl
theorem q168 : (Jvm.Cond.code ({ cls := "ParametricCut", name := "greatestSide", desc := "()I" } : Jvm.MethodName) prog_1_method_23_code (3 : Nat) (Option.some Jvm.ClassFile.FieldType.int)) ∈ lw_all := lw_g (lw_at lw_m1 147 rfl) rfl
theorem q170 : (Jvm.Cond.instanceMethod ({ cls := "ParametricCut", name := "ties", desc := "(I)I" } : Jvm.MethodName)) ∈ lw_all := lw_g (lw_at lw_m1 149 rfl) rfl
theorem q171 : (Jvm.Cond.selects "ParametricCut" ({ cls := "ParametricCut", name := "ties", desc := "(I)I" } : Jvm.MethodName) ({ cls := "ParametricCut", name := "ties", desc := "(I)I" } : Jvm.MethodName)) ∈ lw_all := lw_g (lw_at lw_m1 150 rfl) rfl
theorem q172 : (Jvm.Cond.code ({ cls := "ParametricCut", name := "ties", desc := "(I)I" } : Jvm.MethodName) prog_1_method_30_code (2 : Nat) (Option.some Jvm.ClassFile.FieldType.int)) ∈ lw_all := lw_g (lw_at lw_m1 151 rfl) rfl
theorem q173 : (Jvm.Cond.methodLink "ParametricCut" (119 : Nat) ({ cls := "ParametricCut", name := "countClosed", desc := "()I" } : Jvm.MethodName)) ∈ lw_all := lw_g (lw_at lw_m1 152 rfl) rfl
theorem q174 : (Jvm.Cond.privateMethod ({ cls := "ParametricCut", name := "countClosed", desc := "()I" } : Jvm.MethodName)) ∈ lw_tbl := lw_at lw_m1 153 rfl
theorem q175 : (Jvm.Cond.instanceMethod ({ cls := "ParametricCut", name := "countClosed", desc := "()I" } : Jvm.MethodName)) ∈ lw_all := lw_g (lw_at lw_m1 154 rfl) rfl
theorem q176 : (Jvm.Cond.code ({ cls := "ParametricCut", name := "countClosed", desc := "()I" } : Jvm.MethodName) prog_1_method_28_code (5 : Nat) (Option.some Jvm.ClassFile.FieldType.int)) ∈ lw_all := lw_g (lw_at lw_m1 155 rfl) rfl
theorem q177 : (Jvm.Cond.methodLink "ParametricCut" (108 : Nat) ({ cls := "ParametricCut", name := "unsettled", desc := "(I)I" } : Jvm.MethodName)) ∈ lw_all := lw_g (lw_at lw_m1 156 rfl) rfl
theorem q178 : (Jvm.Cond.privateMethod ({ cls := "ParametricCut", name := "unsettled", desc := "(I)I" } : Jvm.MethodName)) ∈ lw_tbl := lw_at lw_m1 157 rfl
theorem q179 : (Jvm.Cond.instanceMethod ({ cls := "ParametricCut", name := "unsettled", desc := "(I)I" } : Jvm.MethodName)) ∈ lw_all := lw_g (lw_at lw_m1 158 rfl) rfl
theorem q180 : (Jvm.Cond.code ({ cls := "ParametricCut", name := "unsettled", desc := "(I)I" } : Jvm.MethodName) prog_1_method_26_code (3 : Nat) (Option.some Jvm.ClassFile.FieldType.int)) ∈ lw_all := lw_g (lw_at lw_m1 159 rfl) rfl
theorem q181 : (Jvm.Cond.methodLink "ParametricCut" (112 : Nat) ({ cls := "ParametricCut", name := "branch", desc := "(II)V" } : Jvm.MethodName)) ∈ lw_all := lw_g (lw_at lw_m1 160 rfl) rfl
theorem q182 : (Jvm.Cond.privateMethod ({ cls := "ParametricCut", name := "branch", desc := "(II)V" } : Jvm.MethodName)) ∈ lw_tbl := lw_at lw_m1 161 rfl
theorem q183 : (Jvm.Cond.instanceMethod ({ cls := "ParametricCut", name := "branch", desc := "(II)V" } : Jvm.MethodName)) ∈ lw_all := lw_g (lw_at lw_m1 162 rfl) rfl
theorem q184 : (Jvm.Cond.code ({ cls := "ParametricCut", name := "branch", desc := "(II)V" } : Jvm.MethodName) prog_1_method_29_code (5 : Nat) (Option.none : Option Jvm.ClassFile.FieldType)) ∈ lw_all := lw_g (lw_at lw_m1 163 rfl) rfl
theorem q185 : (Jvm.Cond.methodLink "ParametricCut" (116 : Nat) ({ cls := "ParametricCut", name := "reaching", desc := "(I)I" } : Jvm.MethodName)) ∈ lw_all := lw_g (lw_at lw_m1 164 rfl) rfl
theorem q186 : (Jvm.Cond.privateMethod ({ cls := "ParametricCut", name := "reaching", desc := "(I)I" } : Jvm.MethodName)) ∈ lw_tbl := lw_at lw_m1 165 rfl
theorem q187 : (Jvm.Cond.instanceMethod ({ cls := "ParametricCut", name := "reaching", desc := "(I)I" } : Jvm.MethodName)) ∈ lw_all := lw_g (lw_at lw_m1 166 rfl) rfl
theorem q188 : (Jvm.Cond.code ({ cls := "ParametricCut", name := "reaching", desc := "(I)I" } : Jvm.MethodName) prog_1_method_27_code (4 : Nat) (Option.some Jvm.ClassFile.FieldType.int)) ∈ lw_all := lw_g (lw_at lw_m1 167 rfl) rfl
theorem q190 : (Jvm.Cond.instanceMethod ({ cls := "ParametricCut", name := "stages", desc := "()I" } : Jvm.MethodName)) ∈ lw_all := lw_g (lw_at lw_m1 169 rfl) rfl
theorem q191 : (Jvm.Cond.selects "ParametricCut" ({ cls := "ParametricCut", name := "stages", desc := "()I" } : Jvm.MethodName) ({ cls := "ParametricCut", name := "stages", desc := "()I" } : Jvm.MethodName)) ∈ lw_all := lw_g (lw_at lw_m1 170 rfl) rfl
theorem q192 : (Jvm.Cond.code ({ cls := "ParametricCut", name := "stages", desc := "()I" } : Jvm.MethodName) prog_1_method_31_code (11 : Nat) (Option.some Jvm.ClassFile.FieldType.int)) ∈ lw_all := lw_g (lw_at lw_m1 171 rfl) rfl
theorem q194 : (Jvm.Cond.instanceMethod ({ cls := "ParametricCut", name := "worst", desc := "()I" } : Jvm.MethodName)) ∈ lw_all := lw_g (lw_at lw_m1 173 rfl) rfl
theorem q195 : (Jvm.Cond.selects "ParametricCut" ({ cls := "ParametricCut", name := "worst", desc := "()I" } : Jvm.MethodName) ({ cls := "ParametricCut", name := "worst", desc := "()I" } : Jvm.MethodName)) ∈ lw_all := lw_g (lw_at lw_m1 174 rfl) rfl
theorem q196 : (Jvm.Cond.code ({ cls := "ParametricCut", name := "worst", desc := "()I" } : Jvm.MethodName) prog_1_method_32_code (4 : Nat) (Option.some Jvm.ClassFile.FieldType.int)) ∈ lw_all := lw_g (lw_at lw_m1 175 rfl) rfl
theorem q198 : (Jvm.Cond.instanceMethod ({ cls := "ParametricCut", name := "spare", desc := "(III)I" } : Jvm.MethodName)) ∈ lw_all := lw_g (lw_at lw_m1 177 rfl) rfl
theorem q199 : (Jvm.Cond.selects "ParametricCut" ({ cls := "ParametricCut", name := "spare", desc := "(III)I" } : Jvm.MethodName) ({ cls := "ParametricCut", name := "spare", desc := "(III)I" } : Jvm.MethodName)) ∈ lw_all := lw_g (lw_at lw_m1 178 rfl) rfl
theorem q200 : (Jvm.Cond.code ({ cls := "ParametricCut", name := "spare", desc := "(III)I" } : Jvm.MethodName) prog_1_method_34_code (8 : Nat) (Option.some Jvm.ClassFile.FieldType.int)) ∈ lw_all := lw_g (lw_at lw_m1 179 rfl) rfl
theorem q201 : (Jvm.Cond.methodLink "ParametricCut" (123 : Nat) ({ cls := "ParametricCut", name := "leastApart", desc := "(III)I" } : Jvm.MethodName)) ∈ lw_all := lw_g (lw_at lw_m1 180 rfl) rfl
theorem q202 : (Jvm.Cond.privateMethod ({ cls := "ParametricCut", name := "leastApart", desc := "(III)I" } : Jvm.MethodName)) ∈ lw_tbl := lw_at lw_m1 181 rfl
theorem q203 : (Jvm.Cond.instanceMethod ({ cls := "ParametricCut", name := "leastApart", desc := "(III)I" } : Jvm.MethodName)) ∈ lw_all := lw_g (lw_at lw_m1 182 rfl) rfl
theorem q204 : (Jvm.Cond.code ({ cls := "ParametricCut", name := "leastApart", desc := "(III)I" } : Jvm.MethodName) prog_1_method_33_code (4 : Nat) (Option.some Jvm.ClassFile.FieldType.int)) ∈ lw_all := lw_g (lw_at lw_m1 183 rfl) rfl
theorem q205 : (Jvm.Cond.constant "ParametricCut" (122 : Nat) (100000 : Int32)) ∈ lw_all := lw_g (lw_at lw_m1 184 rfl) rfl
theorem q207 : (Jvm.Cond.instanceMethod ({ cls := "ParametricCut", name := "separates", desc := "(III)Z" } : Jvm.MethodName)) ∈ lw_all := lw_g (lw_at lw_m1 186 rfl) rfl
theorem q208 : (Jvm.Cond.selects "ParametricCut" ({ cls := "ParametricCut", name := "separates", desc := "(III)Z" } : Jvm.MethodName) ({ cls := "ParametricCut", name := "separates", desc := "(III)Z" } : Jvm.MethodName)) ∈ lw_all := lw_g (lw_at lw_m1 187 rfl) rfl
theorem q209 : (Jvm.Cond.code ({ cls := "ParametricCut", name := "separates", desc := "(III)Z" } : Jvm.MethodName) prog_1_method_35_code (5 : Nat) (Option.some Jvm.ClassFile.FieldType.boolean)) ∈ lw_all := lw_g (lw_at lw_m1 188 rfl) rfl
theorem in_X0 : ∀ w ∈ wsX00, w ∈ lw_all := lw_in wsX00 [46, 48, 50, 52, 54, 56, 58, 60, 62, 64, 66, 68, 70, 72] (by decide +kernel) (by decide +kernel)
end
section
set_option maxRecDepth 100000
theorem dX0_init_0 : decode cX0_init 0 = .ok (.aload_n 0, 1) := by decide +kernel
theorem dX0_init_1 : decode cX0_init 1 = .ok (.invokespecial 1, 3) := by decide +kernel
theorem dX0_init_4 : decode cX0_init 4 = .ok (.aload_n 0, 1) := by decide +kernel
theorem dX0_init_5 : decode cX0_init 5 = .ok (.bipush 49, 2) := by decide +kernel
theorem dX0_init_7 : decode cX0_init 7 = .ok (.newarray .int, 2) := by decide +kernel
theorem dX0_init_9 : decode cX0_init 9 = .ok (.putfield 7, 3) := by decide +kernel
theorem dX0_init_12 : decode cX0_init 12 = .ok (.aload_n 0, 1) := by decide +kernel
theorem dX0_init_13 : decode cX0_init 13 = .ok (.bipush 7, 2) := by decide +kernel
theorem dX0_init_15 : decode cX0_init 15 = .ok (.newarray .int, 2) := by decide +kernel
theorem dX0_init_17 : decode cX0_init 17 = .ok (.putfield 13, 3) := by decide +kernel
theorem dX0_init_20 : decode cX0_init 20 = .ok (.aload_n 0, 1) := by decide +kernel
theorem dX0_init_21 : decode cX0_init 21 = .ok (.bipush 7, 2) := by decide +kernel
theorem dX0_init_23 : decode cX0_init 23 = .ok (.newarray .int, 2) := by decide +kernel
theorem dX0_init_25 : decode cX0_init 25 = .ok (.putfield 16, 3) := by decide +kernel
theorem dX0_init_28 : decode cX0_init 28 = .ok (.aload_n 0, 1) := by decide +kernel
theorem dX0_init_29 : decode cX0_init 29 = .ok (.bipush 7, 2) := by decide +kernel
theorem dX0_init_31 : decode cX0_init 31 = .ok (.newarray .int, 2) := by decide +kernel
theorem dX0_init_33 : decode cX0_init 33 = .ok (.putfield 19, 3) := by decide +kernel
theorem dX0_init_36 : decode cX0_init 36 = .ok (.aload_n 0, 1) := by decide +kernel
theorem dX0_init_37 : decode cX0_init 37 = .ok (.bipush 7, 2) := by decide +kernel
theorem dX0_init_39 : decode cX0_init 39 = .ok (.newarray .int, 2) := by decide +kernel
theorem dX0_init_41 : decode cX0_init 41 = .ok (.putfield 22, 3) := by decide +kernel
theorem dX0_init_44 : decode cX0_init 44 = .ok (.aload_n 0, 1) := by decide +kernel
theorem dX0_init_45 : decode cX0_init 45 = .ok (.bipush 81, 2) := by decide +kernel
theorem dX0_init_47 : decode cX0_init 47 = .ok (.newarray .int, 2) := by decide +kernel
theorem dX0_init_49 : decode cX0_init 49 = .ok (.putfield 25, 3) := by decide +kernel
theorem dX0_init_52 : decode cX0_init 52 = .ok (.aload_n 0, 1) := by decide +kernel
theorem dX0_init_53 : decode cX0_init 53 = .ok (.bipush 9, 2) := by decide +kernel
theorem dX0_init_55 : decode cX0_init 55 = .ok (.newarray .int, 2) := by decide +kernel
theorem dX0_init_57 : decode cX0_init 57 = .ok (.putfield 28, 3) := by decide +kernel
theorem dX0_init_60 : decode cX0_init 60 = .ok (.aload_n 0, 1) := by decide +kernel
theorem dX0_init_61 : decode cX0_init 61 = .ok (.bipush 9, 2) := by decide +kernel
theorem dX0_init_63 : decode cX0_init 63 = .ok (.newarray .int, 2) := by decide +kernel
theorem dX0_init_65 : decode cX0_init 65 = .ok (.putfield 31, 3) := by decide +kernel
theorem dX0_init_68 : decode cX0_init 68 = .ok (.aload_n 0, 1) := by decide +kernel
theorem dX0_init_69 : decode cX0_init 69 = .ok (.bipush 9, 2) := by decide +kernel
theorem dX0_init_71 : decode cX0_init 71 = .ok (.newarray .int, 2) := by decide +kernel
theorem dX0_init_73 : decode cX0_init 73 = .ok (.putfield 34, 3) := by decide +kernel
theorem dX0_init_76 : decode cX0_init 76 = .ok (.aload_n 0, 1) := by decide +kernel
theorem dX0_init_77 : decode cX0_init 77 = .ok (.bipush 9, 2) := by decide +kernel
theorem dX0_init_79 : decode cX0_init 79 = .ok (.newarray .int, 2) := by decide +kernel
theorem dX0_init_81 : decode cX0_init 81 = .ok (.putfield 37, 3) := by decide +kernel
theorem dX0_init_84 : decode cX0_init 84 = .ok (.aload_n 0, 1) := by decide +kernel
theorem dX0_init_85 : decode cX0_init 85 = .ok (.bipush 9, 2) := by decide +kernel
theorem dX0_init_87 : decode cX0_init 87 = .ok (.newarray .int, 2) := by decide +kernel
theorem dX0_init_89 : decode cX0_init 89 = .ok (.putfield 40, 3) := by decide +kernel
theorem dX0_init_92 : decode cX0_init 92 = .ok (.aload_n 0, 1) := by decide +kernel
theorem dX0_init_93 : decode cX0_init 93 = .ok (.bipush 9, 2) := by decide +kernel
theorem dX0_init_95 : decode cX0_init 95 = .ok (.newarray .int, 2) := by decide +kernel
theorem dX0_init_97 : decode cX0_init 97 = .ok (.putfield 43, 3) := by decide +kernel
theorem dX0_init_100 : decode cX0_init 100 = .ok (.aload_n 0, 1) := by decide +kernel
theorem dX0_init_101 : decode cX0_init 101 = .ok (.iconst (-1), 1) := by decide +kernel
theorem dX0_init_102 : decode cX0_init 102 = .ok (.putfield 46, 3) := by decide +kernel
theorem dX0_init_105 : decode cX0_init 105 = .ok (.return_, 1) := by decide +kernel
theorem dX0_link_0 : decode cX0_link 0 = .ok (.iload_n 1, 1) := by decide +kernel
theorem dX0_link_1 : decode cX0_link 1 = .ok (.invokestatic 50, 3) := by decide +kernel
theorem dX0_link_4 : decode cX0_link 4 = .ok (.ifCond .ne 15, 3) := by decide +kernel
theorem dX0_link_7 : decode cX0_link 7 = .ok (.iload_n 2, 1) := by decide +kernel
theorem dX0_link_8 : decode cX0_link 8 = .ok (.invokestatic 50, 3) := by decide +kernel
theorem dX0_link_11 : decode cX0_link 11 = .ok (.ifCond .ne 8, 3) := by decide +kernel
theorem dX0_link_14 : decode cX0_link 14 = .ok (.iload_n 1, 1) := by decide +kernel
theorem dX0_link_15 : decode cX0_link 15 = .ok (.iload_n 2, 1) := by decide +kernel
theorem dX0_link_16 : decode cX0_link 16 = .ok (.if_icmp .ne 5, 3) := by decide +kernel
theorem dX0_link_19 : decode cX0_link 19 = .ok (.iconst (-1), 1) := by decide +kernel
theorem dX0_link_20 : decode cX0_link 20 = .ok (.ireturn, 1) := by decide +kernel
theorem dX0_link_21 : decode cX0_link 21 = .ok (.iload_n 3, 1) := by decide +kernel
theorem dX0_link_22 : decode cX0_link 22 = .ok (.ifCond .lt 9, 3) := by decide +kernel
theorem dX0_link_25 : decode cX0_link 25 = .ok (.iload_n 3, 1) := by decide +kernel
theorem dX0_link_26 : decode cX0_link 26 = .ok (.bipush 20, 2) := by decide +kernel
theorem dX0_link_28 : decode cX0_link 28 = .ok (.if_icmp .le 6, 3) := by decide +kernel
theorem dX0_link_31 : decode cX0_link 31 = .ok (.bipush (-2), 2) := by decide +kernel
theorem dX0_link_33 : decode cX0_link 33 = .ok (.ireturn, 1) := by decide +kernel
theorem dX0_link_34 : decode cX0_link 34 = .ok (.aload_n 0, 1) := by decide +kernel
theorem dX0_link_35 : decode cX0_link 35 = .ok (.getfield 7, 3) := by decide +kernel
theorem dX0_link_38 : decode cX0_link 38 = .ok (.iload_n 1, 1) := by decide +kernel
theorem dX0_link_39 : decode cX0_link 39 = .ok (.bipush 7, 2) := by decide +kernel
theorem dX0_link_41 : decode cX0_link 41 = .ok (.imul, 1) := by decide +kernel
theorem dX0_link_42 : decode cX0_link 42 = .ok (.iload_n 2, 1) := by decide +kernel
theorem dX0_link_43 : decode cX0_link 43 = .ok (.iadd, 1) := by decide +kernel
theorem dX0_link_44 : decode cX0_link 44 = .ok (.iaload, 1) := by decide +kernel
theorem dX0_link_45 : decode cX0_link 45 = .ok (.istore 4, 2) := by decide +kernel
theorem dX0_link_47 : decode cX0_link 47 = .ok (.aload_n 0, 1) := by decide +kernel
theorem dX0_link_48 : decode cX0_link 48 = .ok (.getfield 7, 3) := by decide +kernel
theorem dX0_link_51 : decode cX0_link 51 = .ok (.iload_n 1, 1) := by decide +kernel
theorem dX0_link_52 : decode cX0_link 52 = .ok (.bipush 7, 2) := by decide +kernel
theorem dX0_link_54 : decode cX0_link 54 = .ok (.imul, 1) := by decide +kernel
theorem dX0_link_55 : decode cX0_link 55 = .ok (.iload_n 2, 1) := by decide +kernel
theorem dX0_link_56 : decode cX0_link 56 = .ok (.iadd, 1) := by decide +kernel
theorem dX0_link_57 : decode cX0_link 57 = .ok (.iload_n 3, 1) := by decide +kernel
theorem dX0_link_58 : decode cX0_link 58 = .ok (.iastore, 1) := by decide +kernel
theorem dX0_link_59 : decode cX0_link 59 = .ok (.aload_n 0, 1) := by decide +kernel
theorem dX0_link_60 : decode cX0_link 60 = .ok (.getfield 7, 3) := by decide +kernel
theorem dX0_link_63 : decode cX0_link 63 = .ok (.iload_n 2, 1) := by decide +kernel
theorem dX0_link_64 : decode cX0_link 64 = .ok (.bipush 7, 2) := by decide +kernel
theorem dX0_link_66 : decode cX0_link 66 = .ok (.imul, 1) := by decide +kernel
theorem dX0_link_67 : decode cX0_link 67 = .ok (.iload_n 1, 1) := by decide +kernel
theorem dX0_link_68 : decode cX0_link 68 = .ok (.iadd, 1) := by decide +kernel
theorem dX0_link_69 : decode cX0_link 69 = .ok (.iload_n 3, 1) := by decide +kernel
theorem dX0_link_70 : decode cX0_link 70 = .ok (.iastore, 1) := by decide +kernel
theorem dX0_link_71 : decode cX0_link 71 = .ok (.aload_n 0, 1) := by decide +kernel
theorem dX0_link_72 : decode cX0_link 72 = .ok (.iconst (-1), 1) := by decide +kernel
theorem dX0_link_73 : decode cX0_link 73 = .ok (.putfield 46, 3) := by decide +kernel
theorem dX0_link_76 : decode cX0_link 76 = .ok (.iload 4, 2) := by decide +kernel
theorem dX0_link_78 : decode cX0_link 78 = .ok (.ireturn, 1) := by decide +kernel
theorem dX0_bad_0 : decode cX0_bad 0 = .ok (.iload_n 0, 1) := by decide +kernel
theorem dX0_bad_1 : decode cX0_bad 1 = .ok (.ifCond .lt 9, 3) := by decide +kernel
theorem dX0_bad_4 : decode cX0_bad 4 = .ok (.iload_n 0, 1) := by decide +kernel
theorem dX0_bad_5 : decode cX0_bad 5 = .ok (.bipush 7, 2) := by decide +kernel
theorem dX0_bad_7 : decode cX0_bad 7 = .ok (.if_icmp .lt 7, 3) := by decide +kernel
theorem dX0_bad_10 : decode cX0_bad 10 = .ok (.iconst 1, 1) := by decide +kernel
theorem dX0_bad_11 : decode cX0_bad 11 = .ok (.goto 4, 3) := by decide +kernel
theorem dX0_bad_14 : decode cX0_bad 14 = .ok (.iconst 0, 1) := by decide +kernel
theorem dX0_bad_15 : decode cX0_bad 15 = .ok (.ireturn, 1) := by decide +kernel
theorem dX0_toSource_0 : decode cX0_toSource 0 = .ok (.iload_n 1, 1) := by decide +kernel
theorem dX0_toSource_1 : decode cX0_toSource 1 = .ok (.invokestatic 50, 3) := by decide +kernel
theorem dX0_toSource_4 : decode cX0_toSource 4 = .ok (.ifCond .eq 5, 3) := by decide +kernel
theorem dX0_toSource_7 : decode cX0_toSource 7 = .ok (.iconst (-1), 1) := by decide +kernel
theorem dX0_toSource_8 : decode cX0_toSource 8 = .ok (.ireturn, 1) := by decide +kernel
theorem dX0_toSource_9 : decode cX0_toSource 9 = .ok (.iload_n 2, 1) := by decide +kernel
theorem dX0_toSource_10 : decode cX0_toSource 10 = .ok (.iload_n 3, 1) := by decide +kernel
theorem dX0_toSource_11 : decode cX0_toSource 11 = .ok (.invokestatic 54, 3) := by decide +kernel
theorem dX0_toSource_14 : decode cX0_toSource 14 = .ok (.ifCond .eq 6, 3) := by decide +kernel
theorem dX0_toSource_17 : decode cX0_toSource 17 = .ok (.bipush (-2), 2) := by decide +kernel
theorem dX0_toSource_19 : decode cX0_toSource 19 = .ok (.ireturn, 1) := by decide +kernel
theorem dX0_toSource_20 : decode cX0_toSource 20 = .ok (.aload_n 0, 1) := by decide +kernel
theorem dX0_toSource_21 : decode cX0_toSource 21 = .ok (.getfield 13, 3) := by decide +kernel
theorem dX0_toSource_24 : decode cX0_toSource 24 = .ok (.iload_n 1, 1) := by decide +kernel
theorem dX0_toSource_25 : decode cX0_toSource 25 = .ok (.iload_n 2, 1) := by decide +kernel
theorem dX0_toSource_26 : decode cX0_toSource 26 = .ok (.iastore, 1) := by decide +kernel
theorem dX0_toSource_27 : decode cX0_toSource 27 = .ok (.aload_n 0, 1) := by decide +kernel
theorem dX0_toSource_28 : decode cX0_toSource 28 = .ok (.getfield 16, 3) := by decide +kernel
theorem dX0_toSource_31 : decode cX0_toSource 31 = .ok (.iload_n 1, 1) := by decide +kernel
theorem dX0_toSource_32 : decode cX0_toSource 32 = .ok (.iload_n 3, 1) := by decide +kernel
theorem dX0_toSource_33 : decode cX0_toSource 33 = .ok (.iastore, 1) := by decide +kernel
theorem dX0_toSource_34 : decode cX0_toSource 34 = .ok (.aload_n 0, 1) := by decide +kernel
theorem dX0_toSource_35 : decode cX0_toSource 35 = .ok (.iconst (-1), 1) := by decide +kernel
theorem dX0_toSource_36 : decode cX0_toSource 36 = .ok (.putfield 46, 3) := by decide +kernel
theorem dX0_toSource_39 : decode cX0_toSource 39 = .ok (.iconst 0, 1) := by decide +kernel
theorem dX0_toSource_40 : decode cX0_toSource 40 = .ok (.ireturn, 1) := by decide +kernel
theorem dX0_badPull_0 : decode cX0_badPull 0 = .ok (.iload_n 0, 1) := by decide +kernel
theorem dX0_badPull_1 : decode cX0_badPull 1 = .ok (.ifCond .lt 20, 3) := by decide +kernel
theorem dX0_badPull_4 : decode cX0_badPull 4 = .ok (.iload_n 0, 1) := by decide +kernel
theorem dX0_badPull_5 : decode cX0_badPull 5 = .ok (.bipush 40, 2) := by decide +kernel
theorem dX0_badPull_7 : decode cX0_badPull 7 = .ok (.if_icmp .gt 14, 3) := by decide +kernel
theorem dX0_badPull_10 : decode cX0_badPull 10 = .ok (.iload_n 1, 1) := by decide +kernel
theorem dX0_badPull_11 : decode cX0_badPull 11 = .ok (.bipush (-2), 2) := by decide +kernel
theorem dX0_badPull_13 : decode cX0_badPull 13 = .ok (.if_icmp .lt 8, 3) := by decide +kernel
theorem dX0_badPull_16 : decode cX0_badPull 16 = .ok (.iload_n 1, 1) := by decide +kernel
theorem dX0_badPull_17 : decode cX0_badPull 17 = .ok (.iconst 2, 1) := by decide +kernel
theorem dX0_badPull_18 : decode cX0_badPull 18 = .ok (.if_icmp .le 7, 3) := by decide +kernel
theorem dX0_badPull_21 : decode cX0_badPull 21 = .ok (.iconst 1, 1) := by decide +kernel
theorem dX0_badPull_22 : decode cX0_badPull 22 = .ok (.goto 4, 3) := by decide +kernel
theorem dX0_badPull_25 : decode cX0_badPull 25 = .ok (.iconst 0, 1) := by decide +kernel
theorem dX0_badPull_26 : decode cX0_badPull 26 = .ok (.ireturn, 1) := by decide +kernel
theorem dX0_toSink_0 : decode cX0_toSink 0 = .ok (.iload_n 1, 1) := by decide +kernel
theorem dX0_toSink_1 : decode cX0_toSink 1 = .ok (.invokestatic 50, 3) := by decide +kernel
theorem dX0_toSink_4 : decode cX0_toSink 4 = .ok (.ifCond .eq 5, 3) := by decide +kernel
theorem dX0_toSink_7 : decode cX0_toSink 7 = .ok (.iconst (-1), 1) := by decide +kernel
theorem dX0_toSink_8 : decode cX0_toSink 8 = .ok (.ireturn, 1) := by decide +kernel
theorem dX0_toSink_9 : decode cX0_toSink 9 = .ok (.iload_n 2, 1) := by decide +kernel
theorem dX0_toSink_10 : decode cX0_toSink 10 = .ok (.iload_n 3, 1) := by decide +kernel
theorem dX0_toSink_11 : decode cX0_toSink 11 = .ok (.invokestatic 54, 3) := by decide +kernel
theorem dX0_toSink_14 : decode cX0_toSink 14 = .ok (.ifCond .eq 6, 3) := by decide +kernel
theorem dX0_toSink_17 : decode cX0_toSink 17 = .ok (.bipush (-2), 2) := by decide +kernel
theorem dX0_toSink_19 : decode cX0_toSink 19 = .ok (.ireturn, 1) := by decide +kernel
theorem dX0_toSink_20 : decode cX0_toSink 20 = .ok (.aload_n 0, 1) := by decide +kernel
theorem dX0_toSink_21 : decode cX0_toSink 21 = .ok (.getfield 19, 3) := by decide +kernel
theorem dX0_toSink_24 : decode cX0_toSink 24 = .ok (.iload_n 1, 1) := by decide +kernel
theorem dX0_toSink_25 : decode cX0_toSink 25 = .ok (.iload_n 2, 1) := by decide +kernel
theorem dX0_toSink_26 : decode cX0_toSink 26 = .ok (.iastore, 1) := by decide +kernel
theorem dX0_toSink_27 : decode cX0_toSink 27 = .ok (.aload_n 0, 1) := by decide +kernel
theorem dX0_toSink_28 : decode cX0_toSink 28 = .ok (.getfield 22, 3) := by decide +kernel
theorem dX0_toSink_31 : decode cX0_toSink 31 = .ok (.iload_n 1, 1) := by decide +kernel
theorem dX0_toSink_32 : decode cX0_toSink 32 = .ok (.iload_n 3, 1) := by decide +kernel
theorem dX0_toSink_33 : decode cX0_toSink 33 = .ok (.iastore, 1) := by decide +kernel
theorem dX0_toSink_34 : decode cX0_toSink 34 = .ok (.aload_n 0, 1) := by decide +kernel
theorem dX0_toSink_35 : decode cX0_toSink 35 = .ok (.iconst (-1), 1) := by decide +kernel
theorem dX0_toSink_36 : decode cX0_toSink 36 = .ok (.putfield 46, 3) := by decide +kernel
theorem dX0_toSink_39 : decode cX0_toSink 39 = .ok (.iconst 0, 1) := by decide +kernel
theorem dX0_toSink_40 : decode cX0_toSink 40 = .ok (.ireturn, 1) := by decide +kernel
theorem dX0_flip_0 : decode cX0_flip 0 = .ok (.iconst 0, 1) := by decide +kernel
theorem dX0_flip_1 : decode cX0_flip 1 = .ok (.istore_n 1, 1) := by decide +kernel
theorem dX0_flip_2 : decode cX0_flip 2 = .ok (.iload_n 1, 1) := by decide +kernel
theorem dX0_flip_3 : decode cX0_flip 3 = .ok (.bipush 7, 2) := by decide +kernel
theorem dX0_flip_5 : decode cX0_flip 5 = .ok (.if_icmp .ge 61, 3) := by decide +kernel
theorem dX0_flip_8 : decode cX0_flip 8 = .ok (.aload_n 0, 1) := by decide +kernel
theorem dX0_flip_9 : decode cX0_flip 9 = .ok (.getfield 13, 3) := by decide +kernel
theorem dX0_flip_12 : decode cX0_flip 12 = .ok (.iload_n 1, 1) := by decide +kernel
theorem dX0_flip_13 : decode cX0_flip 13 = .ok (.iaload, 1) := by decide +kernel
theorem dX0_flip_14 : decode cX0_flip 14 = .ok (.istore_n 2, 1) := by decide +kernel
theorem dX0_flip_15 : decode cX0_flip 15 = .ok (.aload_n 0, 1) := by decide +kernel
theorem dX0_flip_16 : decode cX0_flip 16 = .ok (.getfield 16, 3) := by decide +kernel
theorem dX0_flip_19 : decode cX0_flip 19 = .ok (.iload_n 1, 1) := by decide +kernel
theorem dX0_flip_20 : decode cX0_flip 20 = .ok (.iaload, 1) := by decide +kernel
theorem dX0_flip_21 : decode cX0_flip 21 = .ok (.istore_n 3, 1) := by decide +kernel
theorem dX0_flip_22 : decode cX0_flip 22 = .ok (.aload_n 0, 1) := by decide +kernel
theorem dX0_flip_23 : decode cX0_flip 23 = .ok (.getfield 13, 3) := by decide +kernel
theorem dX0_flip_26 : decode cX0_flip 26 = .ok (.iload_n 1, 1) := by decide +kernel
theorem dX0_flip_27 : decode cX0_flip 27 = .ok (.aload_n 0, 1) := by decide +kernel
theorem dX0_flip_28 : decode cX0_flip 28 = .ok (.getfield 19, 3) := by decide +kernel
theorem dX0_flip_31 : decode cX0_flip 31 = .ok (.iload_n 1, 1) := by decide +kernel
theorem dX0_flip_32 : decode cX0_flip 32 = .ok (.iaload, 1) := by decide +kernel
theorem dX0_flip_33 : decode cX0_flip 33 = .ok (.iastore, 1) := by decide +kernel
theorem dX0_flip_34 : decode cX0_flip 34 = .ok (.aload_n 0, 1) := by decide +kernel
theorem dX0_flip_35 : decode cX0_flip 35 = .ok (.getfield 16, 3) := by decide +kernel
theorem dX0_flip_38 : decode cX0_flip 38 = .ok (.iload_n 1, 1) := by decide +kernel
theorem dX0_flip_39 : decode cX0_flip 39 = .ok (.aload_n 0, 1) := by decide +kernel
theorem dX0_flip_40 : decode cX0_flip 40 = .ok (.getfield 22, 3) := by decide +kernel
theorem dX0_flip_43 : decode cX0_flip 43 = .ok (.iload_n 1, 1) := by decide +kernel
theorem dX0_flip_44 : decode cX0_flip 44 = .ok (.iaload, 1) := by decide +kernel
theorem dX0_flip_45 : decode cX0_flip 45 = .ok (.iastore, 1) := by decide +kernel
theorem dX0_flip_46 : decode cX0_flip 46 = .ok (.aload_n 0, 1) := by decide +kernel
theorem dX0_flip_47 : decode cX0_flip 47 = .ok (.getfield 19, 3) := by decide +kernel
theorem dX0_flip_50 : decode cX0_flip 50 = .ok (.iload_n 1, 1) := by decide +kernel
theorem dX0_flip_51 : decode cX0_flip 51 = .ok (.iload_n 2, 1) := by decide +kernel
theorem dX0_flip_52 : decode cX0_flip 52 = .ok (.iastore, 1) := by decide +kernel
theorem dX0_flip_53 : decode cX0_flip 53 = .ok (.aload_n 0, 1) := by decide +kernel
theorem dX0_flip_54 : decode cX0_flip 54 = .ok (.getfield 22, 3) := by decide +kernel
theorem dX0_flip_57 : decode cX0_flip 57 = .ok (.iload_n 1, 1) := by decide +kernel
theorem dX0_flip_58 : decode cX0_flip 58 = .ok (.iload_n 3, 1) := by decide +kernel
theorem dX0_flip_59 : decode cX0_flip 59 = .ok (.iastore, 1) := by decide +kernel
theorem dX0_flip_60 : decode cX0_flip 60 = .ok (.iinc 1 1, 3) := by decide +kernel
theorem dX0_flip_63 : decode cX0_flip 63 = .ok (.goto (-61), 3) := by decide +kernel
theorem dX0_flip_66 : decode cX0_flip 66 = .ok (.aload_n 0, 1) := by decide +kernel
theorem dX0_flip_67 : decode cX0_flip 67 = .ok (.iconst (-1), 1) := by decide +kernel
theorem dX0_flip_68 : decode cX0_flip 68 = .ok (.putfield 46, 3) := by decide +kernel
theorem dX0_flip_71 : decode cX0_flip 71 = .ok (.return_, 1) := by decide +kernel
theorem dX0_cost_0 : decode cX0_cost 0 = .ok (.iload_n 2, 1) := by decide +kernel
theorem dX0_cost_1 : decode cX0_cost 1 = .ok (.invokestatic 93, 3) := by decide +kernel
theorem dX0_cost_4 : decode cX0_cost 4 = .ok (.ifCond .eq 8, 3) := by decide +kernel
theorem dX0_cost_7 : decode cX0_cost 7 = .ok (.bipush (-2), 2) := by decide +kernel
theorem dX0_cost_9 : decode cX0_cost 9 = .ok (.goto 9, 3) := by decide +kernel
theorem dX0_cost_12 : decode cX0_cost 12 = .ok (.aload_n 0, 1) := by decide +kernel
theorem dX0_cost_13 : decode cX0_cost 13 = .ok (.iload_n 1, 1) := by decide +kernel
theorem dX0_cost_14 : decode cX0_cost 14 = .ok (.iload_n 2, 1) := by decide +kernel
theorem dX0_cost_15 : decode cX0_cost 15 = .ok (.invokevirtual 96, 3) := by decide +kernel
theorem dX0_cost_18 : decode cX0_cost 18 = .ok (.ireturn, 1) := by decide +kernel
theorem dX0_badX_0 : decode cX0_badX 0 = .ok (.iload_n 0, 1) := by decide +kernel
theorem dX0_badX_1 : decode cX0_badX 1 = .ok (.ifCond .lt 9, 3) := by decide +kernel
theorem dX0_badX_4 : decode cX0_badX 4 = .ok (.iload_n 0, 1) := by decide +kernel
theorem dX0_badX_5 : decode cX0_badX 5 = .ok (.bipush 50, 2) := by decide +kernel
theorem dX0_badX_7 : decode cX0_badX 7 = .ok (.if_icmp .le 7, 3) := by decide +kernel
theorem dX0_badX_10 : decode cX0_badX 10 = .ok (.iconst 1, 1) := by decide +kernel
theorem dX0_badX_11 : decode cX0_badX 11 = .ok (.goto 4, 3) := by decide +kernel
theorem dX0_badX_14 : decode cX0_badX 14 = .ok (.iconst 0, 1) := by decide +kernel
theorem dX0_badX_15 : decode cX0_badX 15 = .ok (.ireturn, 1) := by decide +kernel
theorem dX0_costOf_0 : decode cX0_costOf 0 = .ok (.iconst 0, 1) := by decide +kernel
theorem dX0_costOf_1 : decode cX0_costOf 1 = .ok (.istore_n 3, 1) := by decide +kernel
theorem dX0_costOf_2 : decode cX0_costOf 2 = .ok (.iconst 0, 1) := by decide +kernel
theorem dX0_costOf_3 : decode cX0_costOf 3 = .ok (.istore 4, 2) := by decide +kernel
theorem dX0_costOf_5 : decode cX0_costOf 5 = .ok (.iload 4, 2) := by decide +kernel
theorem dX0_costOf_7 : decode cX0_costOf 7 = .ok (.bipush 7, 2) := by decide +kernel
theorem dX0_costOf_9 : decode cX0_costOf 9 = .ok (.if_icmp .ge 85, 3) := by decide +kernel
theorem dX0_costOf_12 : decode cX0_costOf 12 = .ok (.iload_n 1, 1) := by decide +kernel
theorem dX0_costOf_13 : decode cX0_costOf 13 = .ok (.iload 4, 2) := by decide +kernel
theorem dX0_costOf_15 : decode cX0_costOf 15 = .ok (.invokestatic 90, 3) := by decide +kernel
theorem dX0_costOf_18 : decode cX0_costOf 18 = .ok (.istore 5, 2) := by decide +kernel
theorem dX0_costOf_20 : decode cX0_costOf 20 = .ok (.iload_n 3, 1) := by decide +kernel
theorem dX0_costOf_21 : decode cX0_costOf 21 = .ok (.iload 5, 2) := by decide +kernel
theorem dX0_costOf_23 : decode cX0_costOf 23 = .ok (.ifCond .eq 13, 3) := by decide +kernel
theorem dX0_costOf_26 : decode cX0_costOf 26 = .ok (.aload_n 0, 1) := by decide +kernel
theorem dX0_costOf_27 : decode cX0_costOf 27 = .ok (.iload 4, 2) := by decide +kernel
theorem dX0_costOf_29 : decode cX0_costOf 29 = .ok (.iload_n 2, 1) := by decide +kernel
theorem dX0_costOf_30 : decode cX0_costOf 30 = .ok (.invokevirtual 62, 3) := by decide +kernel
theorem dX0_costOf_33 : decode cX0_costOf 33 = .ok (.goto 10, 3) := by decide +kernel
theorem dX0_costOf_36 : decode cX0_costOf 36 = .ok (.aload_n 0, 1) := by decide +kernel
theorem dX0_costOf_37 : decode cX0_costOf 37 = .ok (.iload 4, 2) := by decide +kernel
theorem dX0_costOf_39 : decode cX0_costOf 39 = .ok (.iload_n 2, 1) := by decide +kernel
theorem dX0_costOf_40 : decode cX0_costOf 40 = .ok (.invokevirtual 58, 3) := by decide +kernel
theorem dX0_costOf_43 : decode cX0_costOf 43 = .ok (.iadd, 1) := by decide +kernel
theorem dX0_costOf_44 : decode cX0_costOf 44 = .ok (.istore_n 3, 1) := by decide +kernel
theorem dX0_costOf_45 : decode cX0_costOf 45 = .ok (.iconst 0, 1) := by decide +kernel
theorem dX0_costOf_46 : decode cX0_costOf 46 = .ok (.istore 6, 2) := by decide +kernel
theorem dX0_costOf_48 : decode cX0_costOf 48 = .ok (.iload 6, 2) := by decide +kernel
theorem dX0_costOf_50 : decode cX0_costOf 50 = .ok (.iload 4, 2) := by decide +kernel
theorem dX0_costOf_52 : decode cX0_costOf 52 = .ok (.if_icmp .ge 36, 3) := by decide +kernel
theorem dX0_costOf_55 : decode cX0_costOf 55 = .ok (.iload_n 1, 1) := by decide +kernel
theorem dX0_costOf_56 : decode cX0_costOf 56 = .ok (.iload 6, 2) := by decide +kernel
theorem dX0_costOf_58 : decode cX0_costOf 58 = .ok (.invokestatic 90, 3) := by decide +kernel
theorem dX0_costOf_61 : decode cX0_costOf 61 = .ok (.iload 5, 2) := by decide +kernel
theorem dX0_costOf_63 : decode cX0_costOf 63 = .ok (.if_icmp .eq 19, 3) := by decide +kernel
theorem dX0_costOf_66 : decode cX0_costOf 66 = .ok (.iload_n 3, 1) := by decide +kernel
theorem dX0_costOf_67 : decode cX0_costOf 67 = .ok (.aload_n 0, 1) := by decide +kernel
theorem dX0_costOf_68 : decode cX0_costOf 68 = .ok (.getfield 7, 3) := by decide +kernel
theorem dX0_costOf_71 : decode cX0_costOf 71 = .ok (.iload 6, 2) := by decide +kernel
theorem dX0_costOf_73 : decode cX0_costOf 73 = .ok (.bipush 7, 2) := by decide +kernel
theorem dX0_costOf_75 : decode cX0_costOf 75 = .ok (.imul, 1) := by decide +kernel
theorem dX0_costOf_76 : decode cX0_costOf 76 = .ok (.iload 4, 2) := by decide +kernel
theorem dX0_costOf_78 : decode cX0_costOf 78 = .ok (.iadd, 1) := by decide +kernel
theorem dX0_costOf_79 : decode cX0_costOf 79 = .ok (.iaload, 1) := by decide +kernel
theorem dX0_costOf_80 : decode cX0_costOf 80 = .ok (.iadd, 1) := by decide +kernel
theorem dX0_costOf_81 : decode cX0_costOf 81 = .ok (.istore_n 3, 1) := by decide +kernel
theorem dX0_costOf_82 : decode cX0_costOf 82 = .ok (.iinc 6 1, 3) := by decide +kernel
theorem dX0_costOf_85 : decode cX0_costOf 85 = .ok (.goto (-37), 3) := by decide +kernel
theorem dX0_costOf_88 : decode cX0_costOf 88 = .ok (.iinc 4 1, 3) := by decide +kernel
theorem dX0_costOf_91 : decode cX0_costOf 91 = .ok (.goto (-86), 3) := by decide +kernel
theorem dX0_costOf_94 : decode cX0_costOf 94 = .ok (.iload_n 3, 1) := by decide +kernel
theorem dX0_costOf_95 : decode cX0_costOf 95 = .ok (.ireturn, 1) := by decide +kernel
theorem dX0_in_0 : decode cX0_in 0 = .ok (.iload_n 0, 1) := by decide +kernel
theorem dX0_in_1 : decode cX0_in 1 = .ok (.iload_n 1, 1) := by decide +kernel
theorem dX0_in_2 : decode cX0_in 2 = .ok (.ishr, 1) := by decide +kernel
theorem dX0_in_3 : decode cX0_in 3 = .ok (.iconst 1, 1) := by decide +kernel
theorem dX0_in_4 : decode cX0_in 4 = .ok (.iand, 1) := by decide +kernel
theorem dX0_in_5 : decode cX0_in 5 = .ok (.iconst 1, 1) := by decide +kernel
theorem dX0_in_6 : decode cX0_in 6 = .ok (.if_icmp .ne 7, 3) := by decide +kernel
theorem dX0_in_9 : decode cX0_in 9 = .ok (.iconst 1, 1) := by decide +kernel
theorem dX0_in_10 : decode cX0_in 10 = .ok (.goto 4, 3) := by decide +kernel
theorem dX0_in_13 : decode cX0_in 13 = .ok (.iconst 0, 1) := by decide +kernel
theorem dX0_in_14 : decode cX0_in 14 = .ok (.ireturn, 1) := by decide +kernel
theorem dX0_sinkPull_0 : decode cX0_sinkPull 0 = .ok (.aload_n 0, 1) := by decide +kernel
theorem dX0_sinkPull_1 : decode cX0_sinkPull 1 = .ok (.getfield 19, 3) := by decide +kernel
theorem dX0_sinkPull_4 : decode cX0_sinkPull 4 = .ok (.iload_n 1, 1) := by decide +kernel
theorem dX0_sinkPull_5 : decode cX0_sinkPull 5 = .ok (.iaload, 1) := by decide +kernel
theorem dX0_sinkPull_6 : decode cX0_sinkPull 6 = .ok (.aload_n 0, 1) := by decide +kernel
theorem dX0_sinkPull_7 : decode cX0_sinkPull 7 = .ok (.getfield 22, 3) := by decide +kernel
theorem dX0_sinkPull_10 : decode cX0_sinkPull 10 = .ok (.iload_n 1, 1) := by decide +kernel
theorem dX0_sinkPull_11 : decode cX0_sinkPull 11 = .ok (.iaload, 1) := by decide +kernel
theorem dX0_sinkPull_12 : decode cX0_sinkPull 12 = .ok (.iload_n 2, 1) := by decide +kernel
theorem dX0_sinkPull_13 : decode cX0_sinkPull 13 = .ok (.imul, 1) := by decide +kernel
theorem dX0_sinkPull_14 : decode cX0_sinkPull 14 = .ok (.iadd, 1) := by decide +kernel
theorem dX0_sinkPull_15 : decode cX0_sinkPull 15 = .ok (.istore_n 3, 1) := by decide +kernel
theorem dX0_sinkPull_16 : decode cX0_sinkPull 16 = .ok (.iload_n 3, 1) := by decide +kernel
theorem dX0_sinkPull_17 : decode cX0_sinkPull 17 = .ok (.ifCond .le 7, 3) := by decide +kernel
theorem dX0_sinkPull_20 : decode cX0_sinkPull 20 = .ok (.iload_n 3, 1) := by decide +kernel
theorem dX0_sinkPull_21 : decode cX0_sinkPull 21 = .ok (.goto 4, 3) := by decide +kernel
theorem dX0_sinkPull_24 : decode cX0_sinkPull 24 = .ok (.iconst 0, 1) := by decide +kernel
theorem dX0_sinkPull_25 : decode cX0_sinkPull 25 = .ok (.ireturn, 1) := by decide +kernel
theorem dX0_sourcePull_0 : decode cX0_sourcePull 0 = .ok (.aload_n 0, 1) := by decide +kernel
theorem dX0_sourcePull_1 : decode cX0_sourcePull 1 = .ok (.getfield 13, 3) := by decide +kernel
theorem dX0_sourcePull_4 : decode cX0_sourcePull 4 = .ok (.iload_n 1, 1) := by decide +kernel
theorem dX0_sourcePull_5 : decode cX0_sourcePull 5 = .ok (.iaload, 1) := by decide +kernel
theorem dX0_sourcePull_6 : decode cX0_sourcePull 6 = .ok (.aload_n 0, 1) := by decide +kernel
theorem dX0_sourcePull_7 : decode cX0_sourcePull 7 = .ok (.getfield 16, 3) := by decide +kernel
theorem dX0_sourcePull_10 : decode cX0_sourcePull 10 = .ok (.iload_n 1, 1) := by decide +kernel
theorem dX0_sourcePull_11 : decode cX0_sourcePull 11 = .ok (.iaload, 1) := by decide +kernel
theorem dX0_sourcePull_12 : decode cX0_sourcePull 12 = .ok (.iload_n 2, 1) := by decide +kernel
theorem dX0_sourcePull_13 : decode cX0_sourcePull 13 = .ok (.imul, 1) := by decide +kernel
theorem dX0_sourcePull_14 : decode cX0_sourcePull 14 = .ok (.iadd, 1) := by decide +kernel
theorem dX0_sourcePull_15 : decode cX0_sourcePull 15 = .ok (.istore_n 3, 1) := by decide +kernel
theorem dX0_sourcePull_16 : decode cX0_sourcePull 16 = .ok (.iload_n 3, 1) := by decide +kernel
theorem dX0_sourcePull_17 : decode cX0_sourcePull 17 = .ok (.ifCond .le 7, 3) := by decide +kernel
theorem dX0_sourcePull_20 : decode cX0_sourcePull 20 = .ok (.iload_n 3, 1) := by decide +kernel
theorem dX0_sourcePull_21 : decode cX0_sourcePull 21 = .ok (.goto 4, 3) := by decide +kernel
theorem dX0_sourcePull_24 : decode cX0_sourcePull 24 = .ok (.iconst 0, 1) := by decide +kernel
theorem dX0_sourcePull_25 : decode cX0_sourcePull 25 = .ok (.ireturn, 1) := by decide +kernel
theorem dX0_least_0 : decode cX0_least 0 = .ok (.iload_n 1, 1) := by decide +kernel
theorem dX0_least_1 : decode cX0_least 1 = .ok (.invokestatic 93, 3) := by decide +kernel
theorem dX0_least_4 : decode cX0_least 4 = .ok (.ifCond .eq 6, 3) := by decide +kernel
theorem dX0_least_7 : decode cX0_least 7 = .ok (.bipush (-2), 2) := by decide +kernel
theorem dX0_least_9 : decode cX0_least 9 = .ok (.ireturn, 1) := by decide +kernel
theorem dX0_least_10 : decode cX0_least 10 = .ok (.aload_n 0, 1) := by decide +kernel
theorem dX0_least_11 : decode cX0_least 11 = .ok (.iload_n 1, 1) := by decide +kernel
theorem dX0_least_12 : decode cX0_least 12 = .ok (.invokevirtual 99, 3) := by decide +kernel
theorem dX0_least_15 : decode cX0_least 15 = .ok (.aload_n 0, 1) := by decide +kernel
theorem dX0_least_16 : decode cX0_least 16 = .ok (.getfield 66, 3) := by decide +kernel
theorem dX0_least_19 : decode cX0_least 19 = .ok (.ireturn, 1) := by decide +kernel
theorem dX0_work_0 : decode cX0_work 0 = .ok (.aload_n 0, 1) := by decide +kernel
theorem dX0_work_1 : decode cX0_work 1 = .ok (.getfield 46, 3) := by decide +kernel
theorem dX0_work_4 : decode cX0_work 4 = .ok (.iload_n 1, 1) := by decide +kernel
theorem dX0_work_5 : decode cX0_work 5 = .ok (.if_icmp .ne 4, 3) := by decide +kernel
theorem dX0_work_8 : decode cX0_work 8 = .ok (.return_, 1) := by decide +kernel
theorem dX0_work_9 : decode cX0_work 9 = .ok (.aload_n 0, 1) := by decide +kernel
theorem dX0_work_10 : decode cX0_work 10 = .ok (.iload_n 1, 1) := by decide +kernel
theorem dX0_work_11 : decode cX0_work 11 = .ok (.putfield 46, 3) := by decide +kernel
theorem dX0_work_14 : decode cX0_work 14 = .ok (.aload_n 0, 1) := by decide +kernel
theorem dX0_work_15 : decode cX0_work 15 = .ok (.iload_n 1, 1) := by decide +kernel
theorem dX0_work_16 : decode cX0_work 16 = .ok (.invokevirtual 81, 3) := by decide +kernel
theorem dX0_work_19 : decode cX0_work 19 = .ok (.aload_n 0, 1) := by decide +kernel
theorem dX0_work_20 : decode cX0_work 20 = .ok (.invokevirtual 84, 3) := by decide +kernel
theorem dX0_work_23 : decode cX0_work 23 = .ok (.aload_n 0, 1) := by decide +kernel
theorem dX0_work_24 : decode cX0_work 24 = .ok (.invokevirtual 87, 3) := by decide +kernel
theorem dX0_work_27 : decode cX0_work 27 = .ok (.return_, 1) := by decide +kernel
theorem dX0_load_0 : decode cX0_load 0 = .ok (.iconst 0, 1) := by decide +kernel
theorem dX0_load_1 : decode cX0_load 1 = .ok (.istore_n 2, 1) := by decide +kernel
theorem dX0_load_2 : decode cX0_load 2 = .ok (.iload_n 2, 1) := by decide +kernel
theorem dX0_load_3 : decode cX0_load 3 = .ok (.bipush 81, 2) := by decide +kernel
theorem dX0_load_5 : decode cX0_load 5 = .ok (.if_icmp .ge 16, 3) := by decide +kernel
theorem dX0_load_8 : decode cX0_load 8 = .ok (.aload_n 0, 1) := by decide +kernel
theorem dX0_load_9 : decode cX0_load 9 = .ok (.getfield 25, 3) := by decide +kernel
theorem dX0_load_12 : decode cX0_load 12 = .ok (.iload_n 2, 1) := by decide +kernel
theorem dX0_load_13 : decode cX0_load 13 = .ok (.iconst 0, 1) := by decide +kernel
theorem dX0_load_14 : decode cX0_load 14 = .ok (.iastore, 1) := by decide +kernel
theorem dX0_load_15 : decode cX0_load 15 = .ok (.iinc 2 1, 3) := by decide +kernel
theorem dX0_load_18 : decode cX0_load 18 = .ok (.goto (-16), 3) := by decide +kernel
theorem dX0_load_21 : decode cX0_load 21 = .ok (.iconst 0, 1) := by decide +kernel
theorem dX0_load_22 : decode cX0_load 22 = .ok (.istore_n 2, 1) := by decide +kernel
theorem dX0_load_23 : decode cX0_load 23 = .ok (.iload_n 2, 1) := by decide +kernel
theorem dX0_load_24 : decode cX0_load 24 = .ok (.bipush 7, 2) := by decide +kernel
theorem dX0_load_26 : decode cX0_load 26 = .ok (.if_icmp .ge 78, 3) := by decide +kernel
theorem dX0_load_29 : decode cX0_load 29 = .ok (.iconst 0, 1) := by decide +kernel
theorem dX0_load_30 : decode cX0_load 30 = .ok (.istore_n 3, 1) := by decide +kernel
theorem dX0_load_31 : decode cX0_load 31 = .ok (.iload_n 3, 1) := by decide +kernel
end
section
set_option maxRecDepth 100000
theorem dX0_load_32 : decode cX0_load 32 = .ok (.bipush 7, 2) := by decide +kernel
theorem dX0_load_34 : decode cX0_load 34 = .ok (.if_icmp .ge 31, 3) := by decide +kernel
theorem dX0_load_37 : decode cX0_load 37 = .ok (.aload_n 0, 1) := by decide +kernel
theorem dX0_load_38 : decode cX0_load 38 = .ok (.getfield 25, 3) := by decide +kernel
theorem dX0_load_41 : decode cX0_load 41 = .ok (.iload_n 2, 1) := by decide +kernel
theorem dX0_load_42 : decode cX0_load 42 = .ok (.bipush 9, 2) := by decide +kernel
theorem dX0_load_44 : decode cX0_load 44 = .ok (.imul, 1) := by decide +kernel
theorem dX0_load_45 : decode cX0_load 45 = .ok (.iload_n 3, 1) := by decide +kernel
theorem dX0_load_46 : decode cX0_load 46 = .ok (.iadd, 1) := by decide +kernel
theorem dX0_load_47 : decode cX0_load 47 = .ok (.aload_n 0, 1) := by decide +kernel
theorem dX0_load_48 : decode cX0_load 48 = .ok (.getfield 7, 3) := by decide +kernel
theorem dX0_load_51 : decode cX0_load 51 = .ok (.iload_n 2, 1) := by decide +kernel
theorem dX0_load_52 : decode cX0_load 52 = .ok (.bipush 7, 2) := by decide +kernel
theorem dX0_load_54 : decode cX0_load 54 = .ok (.imul, 1) := by decide +kernel
theorem dX0_load_55 : decode cX0_load 55 = .ok (.iload_n 3, 1) := by decide +kernel
theorem dX0_load_56 : decode cX0_load 56 = .ok (.iadd, 1) := by decide +kernel
theorem dX0_load_57 : decode cX0_load 57 = .ok (.iaload, 1) := by decide +kernel
theorem dX0_load_58 : decode cX0_load 58 = .ok (.iastore, 1) := by decide +kernel
theorem dX0_load_59 : decode cX0_load 59 = .ok (.iinc 3 1, 3) := by decide +kernel
theorem dX0_load_62 : decode cX0_load 62 = .ok (.goto (-31), 3) := by decide +kernel
theorem dX0_load_65 : decode cX0_load 65 = .ok (.aload_n 0, 1) := by decide +kernel
theorem dX0_load_66 : decode cX0_load 66 = .ok (.getfield 25, 3) := by decide +kernel
theorem dX0_load_69 : decode cX0_load 69 = .ok (.bipush 63, 2) := by decide +kernel
theorem dX0_load_71 : decode cX0_load 71 = .ok (.iload_n 2, 1) := by decide +kernel
theorem dX0_load_72 : decode cX0_load 72 = .ok (.iadd, 1) := by decide +kernel
theorem dX0_load_73 : decode cX0_load 73 = .ok (.aload_n 0, 1) := by decide +kernel
theorem dX0_load_74 : decode cX0_load 74 = .ok (.iload_n 2, 1) := by decide +kernel
theorem dX0_load_75 : decode cX0_load 75 = .ok (.iload_n 1, 1) := by decide +kernel
theorem dX0_load_76 : decode cX0_load 76 = .ok (.invokevirtual 58, 3) := by decide +kernel
theorem dX0_load_79 : decode cX0_load 79 = .ok (.iastore, 1) := by decide +kernel
theorem dX0_load_80 : decode cX0_load 80 = .ok (.aload_n 0, 1) := by decide +kernel
theorem dX0_load_81 : decode cX0_load 81 = .ok (.getfield 25, 3) := by decide +kernel
theorem dX0_load_84 : decode cX0_load 84 = .ok (.iload_n 2, 1) := by decide +kernel
theorem dX0_load_85 : decode cX0_load 85 = .ok (.bipush 9, 2) := by decide +kernel
theorem dX0_load_87 : decode cX0_load 87 = .ok (.imul, 1) := by decide +kernel
theorem dX0_load_88 : decode cX0_load 88 = .ok (.bipush 8, 2) := by decide +kernel
theorem dX0_load_90 : decode cX0_load 90 = .ok (.iadd, 1) := by decide +kernel
theorem dX0_load_91 : decode cX0_load 91 = .ok (.aload_n 0, 1) := by decide +kernel
theorem dX0_load_92 : decode cX0_load 92 = .ok (.iload_n 2, 1) := by decide +kernel
theorem dX0_load_93 : decode cX0_load 93 = .ok (.iload_n 1, 1) := by decide +kernel
theorem dX0_load_94 : decode cX0_load 94 = .ok (.invokevirtual 62, 3) := by decide +kernel
theorem dX0_load_97 : decode cX0_load 97 = .ok (.iastore, 1) := by decide +kernel
theorem dX0_load_98 : decode cX0_load 98 = .ok (.iinc 2 1, 3) := by decide +kernel
theorem dX0_load_101 : decode cX0_load 101 = .ok (.goto (-78), 3) := by decide +kernel
theorem dX0_load_104 : decode cX0_load 104 = .ok (.return_, 1) := by decide +kernel
theorem dX0_grow_0 : decode cX0_grow 0 = .ok (.aload_n 0, 1) := by decide +kernel
theorem dX0_grow_1 : decode cX0_grow 1 = .ok (.iconst 0, 1) := by decide +kernel
theorem dX0_grow_2 : decode cX0_grow 2 = .ok (.putfield 66, 3) := by decide +kernel
theorem dX0_grow_5 : decode cX0_grow 5 = .ok (.aload_n 0, 1) := by decide +kernel
theorem dX0_grow_6 : decode cX0_grow 6 = .ok (.invokevirtual 69, 3) := by decide +kernel
theorem dX0_grow_9 : decode cX0_grow 9 = .ok (.istore_n 1, 1) := by decide +kernel
theorem dX0_grow_10 : decode cX0_grow 10 = .ok (.iconst 0, 1) := by decide +kernel
theorem dX0_grow_11 : decode cX0_grow 11 = .ok (.istore_n 2, 1) := by decide +kernel
theorem dX0_grow_12 : decode cX0_grow 12 = .ok (.iload_n 2, 1) := by decide +kernel
theorem dX0_grow_13 : decode cX0_grow 13 = .ok (.sipush 1000, 3) := by decide +kernel
theorem dX0_grow_16 : decode cX0_grow 16 = .ok (.if_icmp .ge 38, 3) := by decide +kernel
theorem dX0_grow_19 : decode cX0_grow 19 = .ok (.iload_n 1, 1) := by decide +kernel
theorem dX0_grow_20 : decode cX0_grow 20 = .ok (.ifCond .eq 34, 3) := by decide +kernel
theorem dX0_grow_23 : decode cX0_grow 23 = .ok (.aload_n 0, 1) := by decide +kernel
theorem dX0_grow_24 : decode cX0_grow 24 = .ok (.invokevirtual 73, 3) := by decide +kernel
theorem dX0_grow_27 : decode cX0_grow 27 = .ok (.istore_n 3, 1) := by decide +kernel
theorem dX0_grow_28 : decode cX0_grow 28 = .ok (.aload_n 0, 1) := by decide +kernel
theorem dX0_grow_29 : decode cX0_grow 29 = .ok (.iload_n 3, 1) := by decide +kernel
theorem dX0_grow_30 : decode cX0_grow 30 = .ok (.invokevirtual 77, 3) := by decide +kernel
theorem dX0_grow_33 : decode cX0_grow 33 = .ok (.aload_n 0, 1) := by decide +kernel
theorem dX0_grow_34 : decode cX0_grow 34 = .ok (.dup, 1) := by decide +kernel
theorem dX0_grow_35 : decode cX0_grow 35 = .ok (.getfield 66, 3) := by decide +kernel
theorem dX0_grow_38 : decode cX0_grow 38 = .ok (.iload_n 3, 1) := by decide +kernel
theorem dX0_grow_39 : decode cX0_grow 39 = .ok (.iadd, 1) := by decide +kernel
theorem dX0_grow_40 : decode cX0_grow 40 = .ok (.putfield 66, 3) := by decide +kernel
theorem dX0_grow_43 : decode cX0_grow 43 = .ok (.aload_n 0, 1) := by decide +kernel
theorem dX0_grow_44 : decode cX0_grow 44 = .ok (.invokevirtual 69, 3) := by decide +kernel
theorem dX0_grow_47 : decode cX0_grow 47 = .ok (.istore_n 1, 1) := by decide +kernel
theorem dX0_grow_48 : decode cX0_grow 48 = .ok (.iinc 2 1, 3) := by decide +kernel
theorem dX0_grow_51 : decode cX0_grow 51 = .ok (.goto (-39), 3) := by decide +kernel
theorem dX0_grow_54 : decode cX0_grow 54 = .ok (.return_, 1) := by decide +kernel
theorem dX0_findWay_0 : decode cX0_findWay 0 = .ok (.iconst 0, 1) := by decide +kernel
theorem dX0_findWay_1 : decode cX0_findWay 1 = .ok (.istore_n 1, 1) := by decide +kernel
theorem dX0_findWay_2 : decode cX0_findWay 2 = .ok (.iload_n 1, 1) := by decide +kernel
theorem dX0_findWay_3 : decode cX0_findWay 3 = .ok (.bipush 9, 2) := by decide +kernel
theorem dX0_findWay_5 : decode cX0_findWay 5 = .ok (.if_icmp .ge 16, 3) := by decide +kernel
theorem dX0_findWay_8 : decode cX0_findWay 8 = .ok (.aload_n 0, 1) := by decide +kernel
theorem dX0_findWay_9 : decode cX0_findWay 9 = .ok (.getfield 31, 3) := by decide +kernel
theorem dX0_findWay_12 : decode cX0_findWay 12 = .ok (.iload_n 1, 1) := by decide +kernel
theorem dX0_findWay_13 : decode cX0_findWay 13 = .ok (.iconst (-1), 1) := by decide +kernel
theorem dX0_findWay_14 : decode cX0_findWay 14 = .ok (.iastore, 1) := by decide +kernel
theorem dX0_findWay_15 : decode cX0_findWay 15 = .ok (.iinc 1 1, 3) := by decide +kernel
theorem dX0_findWay_18 : decode cX0_findWay 18 = .ok (.goto (-16), 3) := by decide +kernel
theorem dX0_findWay_21 : decode cX0_findWay 21 = .ok (.aload_n 0, 1) := by decide +kernel
theorem dX0_findWay_22 : decode cX0_findWay 22 = .ok (.getfield 31, 3) := by decide +kernel
theorem dX0_findWay_25 : decode cX0_findWay 25 = .ok (.bipush 7, 2) := by decide +kernel
theorem dX0_findWay_27 : decode cX0_findWay 27 = .ok (.bipush 7, 2) := by decide +kernel
theorem dX0_findWay_29 : decode cX0_findWay 29 = .ok (.iastore, 1) := by decide +kernel
theorem dX0_findWay_30 : decode cX0_findWay 30 = .ok (.aload_n 0, 1) := by decide +kernel
theorem dX0_findWay_31 : decode cX0_findWay 31 = .ok (.getfield 28, 3) := by decide +kernel
theorem dX0_findWay_34 : decode cX0_findWay 34 = .ok (.iconst 0, 1) := by decide +kernel
theorem dX0_findWay_35 : decode cX0_findWay 35 = .ok (.bipush 7, 2) := by decide +kernel
theorem dX0_findWay_37 : decode cX0_findWay 37 = .ok (.iastore, 1) := by decide +kernel
theorem dX0_findWay_38 : decode cX0_findWay 38 = .ok (.iconst 1, 1) := by decide +kernel
theorem dX0_findWay_39 : decode cX0_findWay 39 = .ok (.istore_n 1, 1) := by decide +kernel
theorem dX0_findWay_40 : decode cX0_findWay 40 = .ok (.iconst 0, 1) := by decide +kernel
theorem dX0_findWay_41 : decode cX0_findWay 41 = .ok (.istore_n 2, 1) := by decide +kernel
theorem dX0_findWay_42 : decode cX0_findWay 42 = .ok (.iload_n 2, 1) := by decide +kernel
theorem dX0_findWay_43 : decode cX0_findWay 43 = .ok (.iload_n 1, 1) := by decide +kernel
theorem dX0_findWay_44 : decode cX0_findWay 44 = .ok (.if_icmp .ge 83, 3) := by decide +kernel
theorem dX0_findWay_47 : decode cX0_findWay 47 = .ok (.aload_n 0, 1) := by decide +kernel
theorem dX0_findWay_48 : decode cX0_findWay 48 = .ok (.getfield 31, 3) := by decide +kernel
theorem dX0_findWay_51 : decode cX0_findWay 51 = .ok (.bipush 8, 2) := by decide +kernel
theorem dX0_findWay_53 : decode cX0_findWay 53 = .ok (.iaload, 1) := by decide +kernel
theorem dX0_findWay_54 : decode cX0_findWay 54 = .ok (.ifCond .ge 73, 3) := by decide +kernel
theorem dX0_findWay_57 : decode cX0_findWay 57 = .ok (.iconst 0, 1) := by decide +kernel
theorem dX0_findWay_58 : decode cX0_findWay 58 = .ok (.istore_n 3, 1) := by decide +kernel
theorem dX0_findWay_59 : decode cX0_findWay 59 = .ok (.iload_n 3, 1) := by decide +kernel
theorem dX0_findWay_60 : decode cX0_findWay 60 = .ok (.bipush 9, 2) := by decide +kernel
theorem dX0_findWay_62 : decode cX0_findWay 62 = .ok (.if_icmp .ge 59, 3) := by decide +kernel
theorem dX0_findWay_65 : decode cX0_findWay 65 = .ok (.aload_n 0, 1) := by decide +kernel
theorem dX0_findWay_66 : decode cX0_findWay 66 = .ok (.getfield 31, 3) := by decide +kernel
theorem dX0_findWay_69 : decode cX0_findWay 69 = .ok (.iload_n 3, 1) := by decide +kernel
theorem dX0_findWay_70 : decode cX0_findWay 70 = .ok (.iaload, 1) := by decide +kernel
theorem dX0_findWay_71 : decode cX0_findWay 71 = .ok (.ifCond .ge 44, 3) := by decide +kernel
theorem dX0_findWay_74 : decode cX0_findWay 74 = .ok (.aload_n 0, 1) := by decide +kernel
theorem dX0_findWay_75 : decode cX0_findWay 75 = .ok (.getfield 25, 3) := by decide +kernel
theorem dX0_findWay_78 : decode cX0_findWay 78 = .ok (.aload_n 0, 1) := by decide +kernel
theorem dX0_findWay_79 : decode cX0_findWay 79 = .ok (.getfield 28, 3) := by decide +kernel
theorem dX0_findWay_82 : decode cX0_findWay 82 = .ok (.iload_n 2, 1) := by decide +kernel
theorem dX0_findWay_83 : decode cX0_findWay 83 = .ok (.iaload, 1) := by decide +kernel
theorem dX0_findWay_84 : decode cX0_findWay 84 = .ok (.bipush 9, 2) := by decide +kernel
theorem dX0_findWay_86 : decode cX0_findWay 86 = .ok (.imul, 1) := by decide +kernel
theorem dX0_findWay_87 : decode cX0_findWay 87 = .ok (.iload_n 3, 1) := by decide +kernel
theorem dX0_findWay_88 : decode cX0_findWay 88 = .ok (.iadd, 1) := by decide +kernel
theorem dX0_findWay_89 : decode cX0_findWay 89 = .ok (.iaload, 1) := by decide +kernel
theorem dX0_findWay_90 : decode cX0_findWay 90 = .ok (.ifCond .le 25, 3) := by decide +kernel
theorem dX0_findWay_93 : decode cX0_findWay 93 = .ok (.aload_n 0, 1) := by decide +kernel
theorem dX0_findWay_94 : decode cX0_findWay 94 = .ok (.getfield 31, 3) := by decide +kernel
theorem dX0_findWay_97 : decode cX0_findWay 97 = .ok (.iload_n 3, 1) := by decide +kernel
theorem dX0_findWay_98 : decode cX0_findWay 98 = .ok (.aload_n 0, 1) := by decide +kernel
theorem dX0_findWay_99 : decode cX0_findWay 99 = .ok (.getfield 28, 3) := by decide +kernel
theorem dX0_findWay_102 : decode cX0_findWay 102 = .ok (.iload_n 2, 1) := by decide +kernel
theorem dX0_findWay_103 : decode cX0_findWay 103 = .ok (.iaload, 1) := by decide +kernel
theorem dX0_findWay_104 : decode cX0_findWay 104 = .ok (.iastore, 1) := by decide +kernel
theorem dX0_findWay_105 : decode cX0_findWay 105 = .ok (.aload_n 0, 1) := by decide +kernel
theorem dX0_findWay_106 : decode cX0_findWay 106 = .ok (.getfield 28, 3) := by decide +kernel
theorem dX0_findWay_109 : decode cX0_findWay 109 = .ok (.iload_n 1, 1) := by decide +kernel
theorem dX0_findWay_110 : decode cX0_findWay 110 = .ok (.iload_n 3, 1) := by decide +kernel
theorem dX0_findWay_111 : decode cX0_findWay 111 = .ok (.iastore, 1) := by decide +kernel
theorem dX0_findWay_112 : decode cX0_findWay 112 = .ok (.iinc 1 1, 3) := by decide +kernel
theorem dX0_findWay_115 : decode cX0_findWay 115 = .ok (.iinc 3 1, 3) := by decide +kernel
theorem dX0_findWay_118 : decode cX0_findWay 118 = .ok (.goto (-59), 3) := by decide +kernel
theorem dX0_findWay_121 : decode cX0_findWay 121 = .ok (.iinc 2 1, 3) := by decide +kernel
theorem dX0_findWay_124 : decode cX0_findWay 124 = .ok (.goto (-82), 3) := by decide +kernel
theorem dX0_findWay_127 : decode cX0_findWay 127 = .ok (.aload_n 0, 1) := by decide +kernel
theorem dX0_findWay_128 : decode cX0_findWay 128 = .ok (.getfield 31, 3) := by decide +kernel
theorem dX0_findWay_131 : decode cX0_findWay 131 = .ok (.bipush 8, 2) := by decide +kernel
theorem dX0_findWay_133 : decode cX0_findWay 133 = .ok (.iaload, 1) := by decide +kernel
theorem dX0_findWay_134 : decode cX0_findWay 134 = .ok (.ifCond .lt 7, 3) := by decide +kernel
theorem dX0_findWay_137 : decode cX0_findWay 137 = .ok (.iconst 1, 1) := by decide +kernel
theorem dX0_findWay_138 : decode cX0_findWay 138 = .ok (.goto 4, 3) := by decide +kernel
theorem dX0_findWay_141 : decode cX0_findWay 141 = .ok (.iconst 0, 1) := by decide +kernel
theorem dX0_findWay_142 : decode cX0_findWay 142 = .ok (.ireturn, 1) := by decide +kernel
theorem dX0_narrowest_0 : decode cX0_narrowest 0 = .ok (.ldc 65, 2) := by decide +kernel
theorem dX0_narrowest_2 : decode cX0_narrowest 2 = .ok (.istore_n 1, 1) := by decide +kernel
theorem dX0_narrowest_3 : decode cX0_narrowest 3 = .ok (.bipush 8, 2) := by decide +kernel
theorem dX0_narrowest_5 : decode cX0_narrowest 5 = .ok (.istore_n 2, 1) := by decide +kernel
theorem dX0_narrowest_6 : decode cX0_narrowest 6 = .ok (.iconst 0, 1) := by decide +kernel
theorem dX0_narrowest_7 : decode cX0_narrowest 7 = .ok (.istore_n 3, 1) := by decide +kernel
theorem dX0_narrowest_8 : decode cX0_narrowest 8 = .ok (.iload_n 3, 1) := by decide +kernel
theorem dX0_narrowest_9 : decode cX0_narrowest 9 = .ok (.bipush 9, 2) := by decide +kernel
theorem dX0_narrowest_11 : decode cX0_narrowest 11 = .ok (.if_icmp .ge 49, 3) := by decide +kernel
theorem dX0_narrowest_14 : decode cX0_narrowest 14 = .ok (.iload_n 2, 1) := by decide +kernel
theorem dX0_narrowest_15 : decode cX0_narrowest 15 = .ok (.bipush 7, 2) := by decide +kernel
theorem dX0_narrowest_17 : decode cX0_narrowest 17 = .ok (.if_icmp .eq 43, 3) := by decide +kernel
theorem dX0_narrowest_20 : decode cX0_narrowest 20 = .ok (.aload_n 0, 1) := by decide +kernel
theorem dX0_narrowest_21 : decode cX0_narrowest 21 = .ok (.getfield 25, 3) := by decide +kernel
theorem dX0_narrowest_24 : decode cX0_narrowest 24 = .ok (.aload_n 0, 1) := by decide +kernel
theorem dX0_narrowest_25 : decode cX0_narrowest 25 = .ok (.getfield 31, 3) := by decide +kernel
theorem dX0_narrowest_28 : decode cX0_narrowest 28 = .ok (.iload_n 2, 1) := by decide +kernel
theorem dX0_narrowest_29 : decode cX0_narrowest 29 = .ok (.iaload, 1) := by decide +kernel
theorem dX0_narrowest_30 : decode cX0_narrowest 30 = .ok (.bipush 9, 2) := by decide +kernel
theorem dX0_narrowest_32 : decode cX0_narrowest 32 = .ok (.imul, 1) := by decide +kernel
theorem dX0_narrowest_33 : decode cX0_narrowest 33 = .ok (.iload_n 2, 1) := by decide +kernel
theorem dX0_narrowest_34 : decode cX0_narrowest 34 = .ok (.iadd, 1) := by decide +kernel
theorem dX0_narrowest_35 : decode cX0_narrowest 35 = .ok (.iaload, 1) := by decide +kernel
theorem dX0_narrowest_36 : decode cX0_narrowest 36 = .ok (.istore 4, 2) := by decide +kernel
theorem dX0_narrowest_38 : decode cX0_narrowest 38 = .ok (.iload 4, 2) := by decide +kernel
theorem dX0_narrowest_40 : decode cX0_narrowest 40 = .ok (.iload_n 1, 1) := by decide +kernel
theorem dX0_narrowest_41 : decode cX0_narrowest 41 = .ok (.if_icmp .ge 6, 3) := by decide +kernel
theorem dX0_narrowest_44 : decode cX0_narrowest 44 = .ok (.iload 4, 2) := by decide +kernel
theorem dX0_narrowest_46 : decode cX0_narrowest 46 = .ok (.istore_n 1, 1) := by decide +kernel
theorem dX0_narrowest_47 : decode cX0_narrowest 47 = .ok (.aload_n 0, 1) := by decide +kernel
theorem dX0_narrowest_48 : decode cX0_narrowest 48 = .ok (.getfield 31, 3) := by decide +kernel
theorem dX0_narrowest_51 : decode cX0_narrowest 51 = .ok (.iload_n 2, 1) := by decide +kernel
theorem dX0_narrowest_52 : decode cX0_narrowest 52 = .ok (.iaload, 1) := by decide +kernel
theorem dX0_narrowest_53 : decode cX0_narrowest 53 = .ok (.istore_n 2, 1) := by decide +kernel
theorem dX0_narrowest_54 : decode cX0_narrowest 54 = .ok (.iinc 3 1, 3) := by decide +kernel
theorem dX0_narrowest_57 : decode cX0_narrowest 57 = .ok (.goto (-49), 3) := by decide +kernel
theorem dX0_narrowest_60 : decode cX0_narrowest 60 = .ok (.iload_n 1, 1) := by decide +kernel
theorem dX0_narrowest_61 : decode cX0_narrowest 61 = .ok (.ireturn, 1) := by decide +kernel
theorem dX0_push_0 : decode cX0_push 0 = .ok (.bipush 8, 2) := by decide +kernel
theorem dX0_push_2 : decode cX0_push 2 = .ok (.istore_n 2, 1) := by decide +kernel
theorem dX0_push_3 : decode cX0_push 3 = .ok (.iconst 0, 1) := by decide +kernel
theorem dX0_push_4 : decode cX0_push 4 = .ok (.istore_n 3, 1) := by decide +kernel
theorem dX0_push_5 : decode cX0_push 5 = .ok (.iload_n 3, 1) := by decide +kernel
theorem dX0_push_6 : decode cX0_push 6 = .ok (.bipush 9, 2) := by decide +kernel
theorem dX0_push_8 : decode cX0_push 8 = .ok (.if_icmp .ge 62, 3) := by decide +kernel
theorem dX0_push_11 : decode cX0_push 11 = .ok (.iload_n 2, 1) := by decide +kernel
theorem dX0_push_12 : decode cX0_push 12 = .ok (.bipush 7, 2) := by decide +kernel
theorem dX0_push_14 : decode cX0_push 14 = .ok (.if_icmp .eq 56, 3) := by decide +kernel
theorem dX0_push_17 : decode cX0_push 17 = .ok (.aload_n 0, 1) := by decide +kernel
theorem dX0_push_18 : decode cX0_push 18 = .ok (.getfield 25, 3) := by decide +kernel
theorem dX0_push_21 : decode cX0_push 21 = .ok (.aload_n 0, 1) := by decide +kernel
theorem dX0_push_22 : decode cX0_push 22 = .ok (.getfield 31, 3) := by decide +kernel
theorem dX0_push_25 : decode cX0_push 25 = .ok (.iload_n 2, 1) := by decide +kernel
theorem dX0_push_26 : decode cX0_push 26 = .ok (.iaload, 1) := by decide +kernel
theorem dX0_push_27 : decode cX0_push 27 = .ok (.bipush 9, 2) := by decide +kernel
theorem dX0_push_29 : decode cX0_push 29 = .ok (.imul, 1) := by decide +kernel
theorem dX0_push_30 : decode cX0_push 30 = .ok (.iload_n 2, 1) := by decide +kernel
theorem dX0_push_31 : decode cX0_push 31 = .ok (.iadd, 1) := by decide +kernel
theorem dX0_push_32 : decode cX0_push 32 = .ok (.dup2, 1) := by decide +kernel
theorem dX0_push_33 : decode cX0_push 33 = .ok (.iaload, 1) := by decide +kernel
theorem dX0_push_34 : decode cX0_push 34 = .ok (.iload_n 1, 1) := by decide +kernel
theorem dX0_push_35 : decode cX0_push 35 = .ok (.isub, 1) := by decide +kernel
theorem dX0_push_36 : decode cX0_push 36 = .ok (.iastore, 1) := by decide +kernel
theorem dX0_push_37 : decode cX0_push 37 = .ok (.aload_n 0, 1) := by decide +kernel
theorem dX0_push_38 : decode cX0_push 38 = .ok (.getfield 25, 3) := by decide +kernel
theorem dX0_push_41 : decode cX0_push 41 = .ok (.iload_n 2, 1) := by decide +kernel
theorem dX0_push_42 : decode cX0_push 42 = .ok (.bipush 9, 2) := by decide +kernel
theorem dX0_push_44 : decode cX0_push 44 = .ok (.imul, 1) := by decide +kernel
theorem dX0_push_45 : decode cX0_push 45 = .ok (.aload_n 0, 1) := by decide +kernel
theorem dX0_push_46 : decode cX0_push 46 = .ok (.getfield 31, 3) := by decide +kernel
theorem dX0_push_49 : decode cX0_push 49 = .ok (.iload_n 2, 1) := by decide +kernel
theorem dX0_push_50 : decode cX0_push 50 = .ok (.iaload, 1) := by decide +kernel
theorem dX0_push_51 : decode cX0_push 51 = .ok (.iadd, 1) := by decide +kernel
theorem dX0_push_52 : decode cX0_push 52 = .ok (.dup2, 1) := by decide +kernel
theorem dX0_push_53 : decode cX0_push 53 = .ok (.iaload, 1) := by decide +kernel
theorem dX0_push_54 : decode cX0_push 54 = .ok (.iload_n 1, 1) := by decide +kernel
theorem dX0_push_55 : decode cX0_push 55 = .ok (.iadd, 1) := by decide +kernel
theorem dX0_push_56 : decode cX0_push 56 = .ok (.iastore, 1) := by decide +kernel
theorem dX0_push_57 : decode cX0_push 57 = .ok (.aload_n 0, 1) := by decide +kernel
theorem dX0_push_58 : decode cX0_push 58 = .ok (.getfield 31, 3) := by decide +kernel
theorem dX0_push_61 : decode cX0_push 61 = .ok (.iload_n 2, 1) := by decide +kernel
theorem dX0_push_62 : decode cX0_push 62 = .ok (.iaload, 1) := by decide +kernel
theorem dX0_push_63 : decode cX0_push 63 = .ok (.istore_n 2, 1) := by decide +kernel
theorem dX0_push_64 : decode cX0_push 64 = .ok (.iinc 3 1, 3) := by decide +kernel
theorem dX0_push_67 : decode cX0_push 67 = .ok (.goto (-62), 3) := by decide +kernel
theorem dX0_push_70 : decode cX0_push 70 = .ok (.return_, 1) := by decide +kernel
theorem dX0_closeReach_0 : decode cX0_closeReach 0 = .ok (.iconst 0, 1) := by decide +kernel
theorem dX0_closeReach_1 : decode cX0_closeReach 1 = .ok (.istore_n 1, 1) := by decide +kernel
theorem dX0_closeReach_2 : decode cX0_closeReach 2 = .ok (.iload_n 1, 1) := by decide +kernel
theorem dX0_closeReach_3 : decode cX0_closeReach 3 = .ok (.bipush 9, 2) := by decide +kernel
theorem dX0_closeReach_5 : decode cX0_closeReach 5 = .ok (.if_icmp .ge 58, 3) := by decide +kernel
theorem dX0_closeReach_8 : decode cX0_closeReach 8 = .ok (.aload_n 0, 1) := by decide +kernel
theorem dX0_closeReach_9 : decode cX0_closeReach 9 = .ok (.getfield 34, 3) := by decide +kernel
theorem dX0_closeReach_12 : decode cX0_closeReach 12 = .ok (.iload_n 1, 1) := by decide +kernel
theorem dX0_closeReach_13 : decode cX0_closeReach 13 = .ok (.iconst 1, 1) := by decide +kernel
theorem dX0_closeReach_14 : decode cX0_closeReach 14 = .ok (.iload_n 1, 1) := by decide +kernel
theorem dX0_closeReach_15 : decode cX0_closeReach 15 = .ok (.ishl, 1) := by decide +kernel
theorem dX0_closeReach_16 : decode cX0_closeReach 16 = .ok (.iastore, 1) := by decide +kernel
theorem dX0_closeReach_17 : decode cX0_closeReach 17 = .ok (.iconst 0, 1) := by decide +kernel
theorem dX0_closeReach_18 : decode cX0_closeReach 18 = .ok (.istore_n 2, 1) := by decide +kernel
theorem dX0_closeReach_19 : decode cX0_closeReach 19 = .ok (.iload_n 2, 1) := by decide +kernel
theorem dX0_closeReach_20 : decode cX0_closeReach 20 = .ok (.bipush 9, 2) := by decide +kernel
theorem dX0_closeReach_22 : decode cX0_closeReach 22 = .ok (.if_icmp .ge 35, 3) := by decide +kernel
theorem dX0_closeReach_25 : decode cX0_closeReach 25 = .ok (.aload_n 0, 1) := by decide +kernel
theorem dX0_closeReach_26 : decode cX0_closeReach 26 = .ok (.getfield 25, 3) := by decide +kernel
theorem dX0_closeReach_29 : decode cX0_closeReach 29 = .ok (.iload_n 1, 1) := by decide +kernel
theorem dX0_closeReach_30 : decode cX0_closeReach 30 = .ok (.bipush 9, 2) := by decide +kernel
theorem dX0_closeReach_32 : decode cX0_closeReach 32 = .ok (.imul, 1) := by decide +kernel
theorem dX0_closeReach_33 : decode cX0_closeReach 33 = .ok (.iload_n 2, 1) := by decide +kernel
theorem dX0_closeReach_34 : decode cX0_closeReach 34 = .ok (.iadd, 1) := by decide +kernel
theorem dX0_closeReach_35 : decode cX0_closeReach 35 = .ok (.iaload, 1) := by decide +kernel
theorem dX0_closeReach_36 : decode cX0_closeReach 36 = .ok (.ifCond .le 15, 3) := by decide +kernel
theorem dX0_closeReach_39 : decode cX0_closeReach 39 = .ok (.aload_n 0, 1) := by decide +kernel
theorem dX0_closeReach_40 : decode cX0_closeReach 40 = .ok (.getfield 34, 3) := by decide +kernel
theorem dX0_closeReach_43 : decode cX0_closeReach 43 = .ok (.iload_n 1, 1) := by decide +kernel
theorem dX0_closeReach_44 : decode cX0_closeReach 44 = .ok (.dup2, 1) := by decide +kernel
theorem dX0_closeReach_45 : decode cX0_closeReach 45 = .ok (.iaload, 1) := by decide +kernel
theorem dX0_closeReach_46 : decode cX0_closeReach 46 = .ok (.iconst 1, 1) := by decide +kernel
theorem dX0_closeReach_47 : decode cX0_closeReach 47 = .ok (.iload_n 2, 1) := by decide +kernel
theorem dX0_closeReach_48 : decode cX0_closeReach 48 = .ok (.ishl, 1) := by decide +kernel
theorem dX0_closeReach_49 : decode cX0_closeReach 49 = .ok (.ior, 1) := by decide +kernel
theorem dX0_closeReach_50 : decode cX0_closeReach 50 = .ok (.iastore, 1) := by decide +kernel
theorem dX0_closeReach_51 : decode cX0_closeReach 51 = .ok (.iinc 2 1, 3) := by decide +kernel
theorem dX0_closeReach_54 : decode cX0_closeReach 54 = .ok (.goto (-35), 3) := by decide +kernel
theorem dX0_closeReach_57 : decode cX0_closeReach 57 = .ok (.iinc 1 1, 3) := by decide +kernel
theorem dX0_closeReach_60 : decode cX0_closeReach 60 = .ok (.goto (-58), 3) := by decide +kernel
theorem dX0_closeReach_63 : decode cX0_closeReach 63 = .ok (.iconst 0, 1) := by decide +kernel
theorem dX0_closeReach_64 : decode cX0_closeReach 64 = .ok (.istore_n 1, 1) := by decide +kernel
theorem dX0_closeReach_65 : decode cX0_closeReach 65 = .ok (.iload_n 1, 1) := by decide +kernel
theorem dX0_closeReach_66 : decode cX0_closeReach 66 = .ok (.bipush 9, 2) := by decide +kernel
theorem dX0_closeReach_68 : decode cX0_closeReach 68 = .ok (.if_icmp .ge 51, 3) := by decide +kernel
theorem dX0_closeReach_71 : decode cX0_closeReach 71 = .ok (.iconst 0, 1) := by decide +kernel
theorem dX0_closeReach_72 : decode cX0_closeReach 72 = .ok (.istore_n 2, 1) := by decide +kernel
theorem dX0_closeReach_73 : decode cX0_closeReach 73 = .ok (.iload_n 2, 1) := by decide +kernel
theorem dX0_closeReach_74 : decode cX0_closeReach 74 = .ok (.bipush 9, 2) := by decide +kernel
theorem dX0_closeReach_76 : decode cX0_closeReach 76 = .ok (.if_icmp .ge 37, 3) := by decide +kernel
theorem dX0_closeReach_79 : decode cX0_closeReach 79 = .ok (.aload_n 0, 1) := by decide +kernel
theorem dX0_closeReach_80 : decode cX0_closeReach 80 = .ok (.getfield 34, 3) := by decide +kernel
theorem dX0_closeReach_83 : decode cX0_closeReach 83 = .ok (.iload_n 2, 1) := by decide +kernel
theorem dX0_closeReach_84 : decode cX0_closeReach 84 = .ok (.iaload, 1) := by decide +kernel
theorem dX0_closeReach_85 : decode cX0_closeReach 85 = .ok (.iload_n 1, 1) := by decide +kernel
theorem dX0_closeReach_86 : decode cX0_closeReach 86 = .ok (.invokestatic 90, 3) := by decide +kernel
theorem dX0_closeReach_89 : decode cX0_closeReach 89 = .ok (.ifCond .eq 18, 3) := by decide +kernel
theorem dX0_closeReach_92 : decode cX0_closeReach 92 = .ok (.aload_n 0, 1) := by decide +kernel
theorem dX0_closeReach_93 : decode cX0_closeReach 93 = .ok (.getfield 34, 3) := by decide +kernel
theorem dX0_closeReach_96 : decode cX0_closeReach 96 = .ok (.iload_n 2, 1) := by decide +kernel
theorem dX0_closeReach_97 : decode cX0_closeReach 97 = .ok (.dup2, 1) := by decide +kernel
theorem dX0_closeReach_98 : decode cX0_closeReach 98 = .ok (.iaload, 1) := by decide +kernel
theorem dX0_closeReach_99 : decode cX0_closeReach 99 = .ok (.aload_n 0, 1) := by decide +kernel
theorem dX0_closeReach_100 : decode cX0_closeReach 100 = .ok (.getfield 34, 3) := by decide +kernel
theorem dX0_closeReach_103 : decode cX0_closeReach 103 = .ok (.iload_n 1, 1) := by decide +kernel
theorem dX0_closeReach_104 : decode cX0_closeReach 104 = .ok (.iaload, 1) := by decide +kernel
theorem dX0_closeReach_105 : decode cX0_closeReach 105 = .ok (.ior, 1) := by decide +kernel
theorem dX0_closeReach_106 : decode cX0_closeReach 106 = .ok (.iastore, 1) := by decide +kernel
theorem dX0_closeReach_107 : decode cX0_closeReach 107 = .ok (.iinc 2 1, 3) := by decide +kernel
theorem dX0_closeReach_110 : decode cX0_closeReach 110 = .ok (.goto (-37), 3) := by decide +kernel
theorem dX0_closeReach_113 : decode cX0_closeReach 113 = .ok (.iinc 1 1, 3) := by decide +kernel
theorem dX0_closeReach_116 : decode cX0_closeReach 116 = .ok (.goto (-51), 3) := by decide +kernel
theorem dX0_closeReach_119 : decode cX0_closeReach 119 = .ok (.return_, 1) := by decide +kernel
theorem dX0_always_0 : decode cX0_always 0 = .ok (.iload_n 1, 1) := by decide +kernel
theorem dX0_always_1 : decode cX0_always 1 = .ok (.invokestatic 93, 3) := by decide +kernel
theorem dX0_always_4 : decode cX0_always 4 = .ok (.ifCond .eq 6, 3) := by decide +kernel
theorem dX0_always_7 : decode cX0_always 7 = .ok (.bipush (-2), 2) := by decide +kernel
theorem dX0_always_9 : decode cX0_always 9 = .ok (.ireturn, 1) := by decide +kernel
theorem dX0_always_10 : decode cX0_always 10 = .ok (.aload_n 0, 1) := by decide +kernel
theorem dX0_always_11 : decode cX0_always 11 = .ok (.iload_n 1, 1) := by decide +kernel
theorem dX0_always_12 : decode cX0_always 12 = .ok (.invokevirtual 99, 3) := by decide +kernel
theorem dX0_always_15 : decode cX0_always 15 = .ok (.aload_n 0, 1) := by decide +kernel
theorem dX0_always_16 : decode cX0_always 16 = .ok (.invokevirtual 102, 3) := by decide +kernel
theorem dX0_always_19 : decode cX0_always 19 = .ok (.ireturn, 1) := by decide +kernel
theorem dX0_smallestSide_0 : decode cX0_smallestSide 0 = .ok (.aload_n 0, 1) := by decide +kernel
theorem dX0_smallestSide_1 : decode cX0_smallestSide 1 = .ok (.getfield 34, 3) := by decide +kernel
theorem dX0_smallestSide_4 : decode cX0_smallestSide 4 = .ok (.bipush 7, 2) := by decide +kernel
theorem dX0_smallestSide_6 : decode cX0_smallestSide 6 = .ok (.iaload, 1) := by decide +kernel
theorem dX0_smallestSide_7 : decode cX0_smallestSide 7 = .ok (.bipush 127, 2) := by decide +kernel
theorem dX0_smallestSide_9 : decode cX0_smallestSide 9 = .ok (.iand, 1) := by decide +kernel
theorem dX0_smallestSide_10 : decode cX0_smallestSide 10 = .ok (.ireturn, 1) := by decide +kernel
theorem dX0_ever_0 : decode cX0_ever 0 = .ok (.iload_n 1, 1) := by decide +kernel
theorem dX0_ever_1 : decode cX0_ever 1 = .ok (.invokestatic 93, 3) := by decide +kernel
theorem dX0_ever_4 : decode cX0_ever 4 = .ok (.ifCond .eq 6, 3) := by decide +kernel
theorem dX0_ever_7 : decode cX0_ever 7 = .ok (.bipush (-2), 2) := by decide +kernel
theorem dX0_ever_9 : decode cX0_ever 9 = .ok (.ireturn, 1) := by decide +kernel
theorem dX0_ever_10 : decode cX0_ever 10 = .ok (.aload_n 0, 1) := by decide +kernel
theorem dX0_ever_11 : decode cX0_ever 11 = .ok (.iload_n 1, 1) := by decide +kernel
theorem dX0_ever_12 : decode cX0_ever 12 = .ok (.invokevirtual 99, 3) := by decide +kernel
theorem dX0_ever_15 : decode cX0_ever 15 = .ok (.aload_n 0, 1) := by decide +kernel
theorem dX0_ever_16 : decode cX0_ever 16 = .ok (.invokevirtual 105, 3) := by decide +kernel
theorem dX0_ever_19 : decode cX0_ever 19 = .ok (.ireturn, 1) := by decide +kernel
theorem dX0_greatestSide_0 : decode cX0_greatestSide 0 = .ok (.iconst 0, 1) := by decide +kernel
theorem dX0_greatestSide_1 : decode cX0_greatestSide 1 = .ok (.istore_n 1, 1) := by decide +kernel
theorem dX0_greatestSide_2 : decode cX0_greatestSide 2 = .ok (.iconst 0, 1) := by decide +kernel
theorem dX0_greatestSide_3 : decode cX0_greatestSide 3 = .ok (.istore_n 2, 1) := by decide +kernel
theorem dX0_greatestSide_4 : decode cX0_greatestSide 4 = .ok (.iload_n 2, 1) := by decide +kernel
theorem dX0_greatestSide_5 : decode cX0_greatestSide 5 = .ok (.bipush 7, 2) := by decide +kernel
theorem dX0_greatestSide_7 : decode cX0_greatestSide 7 = .ok (.if_icmp .ge 29, 3) := by decide +kernel
theorem dX0_greatestSide_10 : decode cX0_greatestSide 10 = .ok (.aload_n 0, 1) := by decide +kernel
theorem dX0_greatestSide_11 : decode cX0_greatestSide 11 = .ok (.getfield 34, 3) := by decide +kernel
theorem dX0_greatestSide_14 : decode cX0_greatestSide 14 = .ok (.iload_n 2, 1) := by decide +kernel
theorem dX0_greatestSide_15 : decode cX0_greatestSide 15 = .ok (.iaload, 1) := by decide +kernel
theorem dX0_greatestSide_16 : decode cX0_greatestSide 16 = .ok (.bipush 8, 2) := by decide +kernel
theorem dX0_greatestSide_18 : decode cX0_greatestSide 18 = .ok (.invokestatic 90, 3) := by decide +kernel
theorem dX0_greatestSide_21 : decode cX0_greatestSide 21 = .ok (.ifCond .ne 9, 3) := by decide +kernel
theorem dX0_greatestSide_24 : decode cX0_greatestSide 24 = .ok (.iload_n 1, 1) := by decide +kernel
theorem dX0_greatestSide_25 : decode cX0_greatestSide 25 = .ok (.iconst 1, 1) := by decide +kernel
theorem dX0_greatestSide_26 : decode cX0_greatestSide 26 = .ok (.iload_n 2, 1) := by decide +kernel
theorem dX0_greatestSide_27 : decode cX0_greatestSide 27 = .ok (.ishl, 1) := by decide +kernel
theorem dX0_greatestSide_28 : decode cX0_greatestSide 28 = .ok (.ior, 1) := by decide +kernel
theorem dX0_greatestSide_29 : decode cX0_greatestSide 29 = .ok (.istore_n 1, 1) := by decide +kernel
theorem dX0_greatestSide_30 : decode cX0_greatestSide 30 = .ok (.iinc 2 1, 3) := by decide +kernel
theorem dX0_greatestSide_33 : decode cX0_greatestSide 33 = .ok (.goto (-29), 3) := by decide +kernel
theorem dX0_greatestSide_36 : decode cX0_greatestSide 36 = .ok (.iload_n 1, 1) := by decide +kernel
theorem dX0_greatestSide_37 : decode cX0_greatestSide 37 = .ok (.ireturn, 1) := by decide +kernel
theorem dX0_ties_0 : decode cX0_ties 0 = .ok (.iload_n 1, 1) := by decide +kernel
theorem dX0_ties_1 : decode cX0_ties 1 = .ok (.invokestatic 93, 3) := by decide +kernel
theorem dX0_ties_4 : decode cX0_ties 4 = .ok (.ifCond .eq 6, 3) := by decide +kernel
theorem dX0_ties_7 : decode cX0_ties 7 = .ok (.bipush (-2), 2) := by decide +kernel
theorem dX0_ties_9 : decode cX0_ties 9 = .ok (.ireturn, 1) := by decide +kernel
theorem dX0_ties_10 : decode cX0_ties 10 = .ok (.aload_n 0, 1) := by decide +kernel
theorem dX0_ties_11 : decode cX0_ties 11 = .ok (.iload_n 1, 1) := by decide +kernel
theorem dX0_ties_12 : decode cX0_ties 12 = .ok (.invokevirtual 99, 3) := by decide +kernel
theorem dX0_ties_15 : decode cX0_ties 15 = .ok (.aload_n 0, 1) := by decide +kernel
theorem dX0_ties_16 : decode cX0_ties 16 = .ok (.invokevirtual 119, 3) := by decide +kernel
theorem dX0_ties_19 : decode cX0_ties 19 = .ok (.ireturn, 1) := by decide +kernel
theorem dX0_countClosed_0 : decode cX0_countClosed 0 = .ok (.iconst 0, 1) := by decide +kernel
theorem dX0_countClosed_1 : decode cX0_countClosed 1 = .ok (.istore_n 1, 1) := by decide +kernel
theorem dX0_countClosed_2 : decode cX0_countClosed 2 = .ok (.iconst 0, 1) := by decide +kernel
theorem dX0_countClosed_3 : decode cX0_countClosed 3 = .ok (.istore_n 2, 1) := by decide +kernel
theorem dX0_countClosed_4 : decode cX0_countClosed 4 = .ok (.aload_n 0, 1) := by decide +kernel
theorem dX0_countClosed_5 : decode cX0_countClosed 5 = .ok (.getfield 37, 3) := by decide +kernel
theorem dX0_countClosed_8 : decode cX0_countClosed 8 = .ok (.iconst 0, 1) := by decide +kernel
theorem dX0_countClosed_9 : decode cX0_countClosed 9 = .ok (.aload_n 0, 1) := by decide +kernel
theorem dX0_countClosed_10 : decode cX0_countClosed 10 = .ok (.invokevirtual 102, 3) := by decide +kernel
theorem dX0_countClosed_13 : decode cX0_countClosed 13 = .ok (.iastore, 1) := by decide +kernel
end
section
set_option maxRecDepth 100000
theorem dX0_countClosed_14 : decode cX0_countClosed 14 = .ok (.aload_n 0, 1) := by decide +kernel
theorem dX0_countClosed_15 : decode cX0_countClosed 15 = .ok (.getfield 40, 3) := by decide +kernel
theorem dX0_countClosed_18 : decode cX0_countClosed 18 = .ok (.iconst 0, 1) := by decide +kernel
theorem dX0_countClosed_19 : decode cX0_countClosed 19 = .ok (.bipush 127, 2) := by decide +kernel
theorem dX0_countClosed_21 : decode cX0_countClosed 21 = .ok (.aload_n 0, 1) := by decide +kernel
theorem dX0_countClosed_22 : decode cX0_countClosed 22 = .ok (.invokevirtual 105, 3) := by decide +kernel
theorem dX0_countClosed_25 : decode cX0_countClosed 25 = .ok (.iconst (-1), 1) := by decide +kernel
theorem dX0_countClosed_26 : decode cX0_countClosed 26 = .ok (.ixor, 1) := by decide +kernel
theorem dX0_countClosed_27 : decode cX0_countClosed 27 = .ok (.iand, 1) := by decide +kernel
theorem dX0_countClosed_28 : decode cX0_countClosed 28 = .ok (.iastore, 1) := by decide +kernel
theorem dX0_countClosed_29 : decode cX0_countClosed 29 = .ok (.aload_n 0, 1) := by decide +kernel
theorem dX0_countClosed_30 : decode cX0_countClosed 30 = .ok (.getfield 43, 3) := by decide +kernel
theorem dX0_countClosed_33 : decode cX0_countClosed 33 = .ok (.iconst 0, 1) := by decide +kernel
theorem dX0_countClosed_34 : decode cX0_countClosed 34 = .ok (.iconst 0, 1) := by decide +kernel
theorem dX0_countClosed_35 : decode cX0_countClosed 35 = .ok (.iastore, 1) := by decide +kernel
theorem dX0_countClosed_36 : decode cX0_countClosed 36 = .ok (.iconst 0, 1) := by decide +kernel
theorem dX0_countClosed_37 : decode cX0_countClosed 37 = .ok (.istore_n 3, 1) := by decide +kernel
theorem dX0_countClosed_38 : decode cX0_countClosed 38 = .ok (.iload_n 3, 1) := by decide +kernel
theorem dX0_countClosed_39 : decode cX0_countClosed 39 = .ok (.sipush 4000, 3) := by decide +kernel
theorem dX0_countClosed_42 : decode cX0_countClosed 42 = .ok (.if_icmp .ge 62, 3) := by decide +kernel
theorem dX0_countClosed_45 : decode cX0_countClosed 45 = .ok (.iload_n 2, 1) := by decide +kernel
theorem dX0_countClosed_46 : decode cX0_countClosed 46 = .ok (.ifCond .lt 58, 3) := by decide +kernel
theorem dX0_countClosed_49 : decode cX0_countClosed 49 = .ok (.aload_n 0, 1) := by decide +kernel
theorem dX0_countClosed_50 : decode cX0_countClosed 50 = .ok (.iload_n 2, 1) := by decide +kernel
theorem dX0_countClosed_51 : decode cX0_countClosed 51 = .ok (.invokevirtual 108, 3) := by decide +kernel
theorem dX0_countClosed_54 : decode cX0_countClosed 54 = .ok (.istore 4, 2) := by decide +kernel
theorem dX0_countClosed_56 : decode cX0_countClosed 56 = .ok (.iload 4, 2) := by decide +kernel
theorem dX0_countClosed_58 : decode cX0_countClosed 58 = .ok (.bipush 7, 2) := by decide +kernel
theorem dX0_countClosed_60 : decode cX0_countClosed 60 = .ok (.if_icmp .ne 12, 3) := by decide +kernel
theorem dX0_countClosed_63 : decode cX0_countClosed 63 = .ok (.iinc 1 1, 3) := by decide +kernel
theorem dX0_countClosed_66 : decode cX0_countClosed 66 = .ok (.iinc 2 (-1), 3) := by decide +kernel
theorem dX0_countClosed_69 : decode cX0_countClosed 69 = .ok (.goto 29, 3) := by decide +kernel
theorem dX0_countClosed_72 : decode cX0_countClosed 72 = .ok (.aload_n 0, 1) := by decide +kernel
theorem dX0_countClosed_73 : decode cX0_countClosed 73 = .ok (.getfield 43, 3) := by decide +kernel
theorem dX0_countClosed_76 : decode cX0_countClosed 76 = .ok (.iload_n 2, 1) := by decide +kernel
theorem dX0_countClosed_77 : decode cX0_countClosed 77 = .ok (.iaload, 1) := by decide +kernel
theorem dX0_countClosed_78 : decode cX0_countClosed 78 = .ok (.iconst 2, 1) := by decide +kernel
theorem dX0_countClosed_79 : decode cX0_countClosed 79 = .ok (.if_icmp .ne 9, 3) := by decide +kernel
theorem dX0_countClosed_82 : decode cX0_countClosed 82 = .ok (.iinc 2 (-1), 3) := by decide +kernel
theorem dX0_countClosed_85 : decode cX0_countClosed 85 = .ok (.goto 13, 3) := by decide +kernel
theorem dX0_countClosed_88 : decode cX0_countClosed 88 = .ok (.aload_n 0, 1) := by decide +kernel
theorem dX0_countClosed_89 : decode cX0_countClosed 89 = .ok (.iload_n 2, 1) := by decide +kernel
theorem dX0_countClosed_90 : decode cX0_countClosed 90 = .ok (.iload 4, 2) := by decide +kernel
theorem dX0_countClosed_92 : decode cX0_countClosed 92 = .ok (.invokevirtual 112, 3) := by decide +kernel
theorem dX0_countClosed_95 : decode cX0_countClosed 95 = .ok (.iinc 2 1, 3) := by decide +kernel
theorem dX0_countClosed_98 : decode cX0_countClosed 98 = .ok (.iinc 3 1, 3) := by decide +kernel
theorem dX0_countClosed_101 : decode cX0_countClosed 101 = .ok (.goto (-63), 3) := by decide +kernel
theorem dX0_countClosed_104 : decode cX0_countClosed 104 = .ok (.iload_n 1, 1) := by decide +kernel
theorem dX0_countClosed_105 : decode cX0_countClosed 105 = .ok (.ireturn, 1) := by decide +kernel
theorem dX0_unsettled_0 : decode cX0_unsettled 0 = .ok (.iconst 0, 1) := by decide +kernel
theorem dX0_unsettled_1 : decode cX0_unsettled 1 = .ok (.istore_n 2, 1) := by decide +kernel
theorem dX0_unsettled_2 : decode cX0_unsettled 2 = .ok (.iload_n 2, 1) := by decide +kernel
theorem dX0_unsettled_3 : decode cX0_unsettled 3 = .ok (.bipush 7, 2) := by decide +kernel
theorem dX0_unsettled_5 : decode cX0_unsettled 5 = .ok (.if_icmp .ge 29, 3) := by decide +kernel
theorem dX0_unsettled_8 : decode cX0_unsettled 8 = .ok (.aload_n 0, 1) := by decide +kernel
theorem dX0_unsettled_9 : decode cX0_unsettled 9 = .ok (.getfield 37, 3) := by decide +kernel
theorem dX0_unsettled_12 : decode cX0_unsettled 12 = .ok (.iload_n 1, 1) := by decide +kernel
theorem dX0_unsettled_13 : decode cX0_unsettled 13 = .ok (.iaload, 1) := by decide +kernel
theorem dX0_unsettled_14 : decode cX0_unsettled 14 = .ok (.aload_n 0, 1) := by decide +kernel
theorem dX0_unsettled_15 : decode cX0_unsettled 15 = .ok (.getfield 40, 3) := by decide +kernel
theorem dX0_unsettled_18 : decode cX0_unsettled 18 = .ok (.iload_n 1, 1) := by decide +kernel
theorem dX0_unsettled_19 : decode cX0_unsettled 19 = .ok (.iaload, 1) := by decide +kernel
theorem dX0_unsettled_20 : decode cX0_unsettled 20 = .ok (.ior, 1) := by decide +kernel
theorem dX0_unsettled_21 : decode cX0_unsettled 21 = .ok (.iload_n 2, 1) := by decide +kernel
theorem dX0_unsettled_22 : decode cX0_unsettled 22 = .ok (.invokestatic 90, 3) := by decide +kernel
theorem dX0_unsettled_25 : decode cX0_unsettled 25 = .ok (.ifCond .eq 9, 3) := by decide +kernel
theorem dX0_unsettled_28 : decode cX0_unsettled 28 = .ok (.iinc 2 1, 3) := by decide +kernel
theorem dX0_unsettled_31 : decode cX0_unsettled 31 = .ok (.goto (-29), 3) := by decide +kernel
theorem dX0_unsettled_34 : decode cX0_unsettled 34 = .ok (.iload_n 2, 1) := by decide +kernel
theorem dX0_unsettled_35 : decode cX0_unsettled 35 = .ok (.ireturn, 1) := by decide +kernel
theorem dX0_branch_0 : decode cX0_branch 0 = .ok (.aload_n 0, 1) := by decide +kernel
theorem dX0_branch_1 : decode cX0_branch 1 = .ok (.getfield 43, 3) := by decide +kernel
theorem dX0_branch_4 : decode cX0_branch 4 = .ok (.iload_n 1, 1) := by decide +kernel
theorem dX0_branch_5 : decode cX0_branch 5 = .ok (.iaload, 1) := by decide +kernel
theorem dX0_branch_6 : decode cX0_branch 6 = .ok (.ifCond .ne 7, 3) := by decide +kernel
theorem dX0_branch_9 : decode cX0_branch 9 = .ok (.iconst 1, 1) := by decide +kernel
theorem dX0_branch_10 : decode cX0_branch 10 = .ok (.goto 4, 3) := by decide +kernel
theorem dX0_branch_13 : decode cX0_branch 13 = .ok (.iconst 0, 1) := by decide +kernel
theorem dX0_branch_14 : decode cX0_branch 14 = .ok (.istore_n 3, 1) := by decide +kernel
theorem dX0_branch_15 : decode cX0_branch 15 = .ok (.aload_n 0, 1) := by decide +kernel
theorem dX0_branch_16 : decode cX0_branch 16 = .ok (.getfield 43, 3) := by decide +kernel
theorem dX0_branch_19 : decode cX0_branch 19 = .ok (.iload_n 1, 1) := by decide +kernel
theorem dX0_branch_20 : decode cX0_branch 20 = .ok (.dup2, 1) := by decide +kernel
theorem dX0_branch_21 : decode cX0_branch 21 = .ok (.iaload, 1) := by decide +kernel
theorem dX0_branch_22 : decode cX0_branch 22 = .ok (.iconst 1, 1) := by decide +kernel
theorem dX0_branch_23 : decode cX0_branch 23 = .ok (.iadd, 1) := by decide +kernel
theorem dX0_branch_24 : decode cX0_branch 24 = .ok (.iastore, 1) := by decide +kernel
theorem dX0_branch_25 : decode cX0_branch 25 = .ok (.iload_n 3, 1) := by decide +kernel
theorem dX0_branch_26 : decode cX0_branch 26 = .ok (.ifCond .eq 15, 3) := by decide +kernel
theorem dX0_branch_29 : decode cX0_branch 29 = .ok (.aload_n 0, 1) := by decide +kernel
theorem dX0_branch_30 : decode cX0_branch 30 = .ok (.getfield 34, 3) := by decide +kernel
theorem dX0_branch_33 : decode cX0_branch 33 = .ok (.iload_n 2, 1) := by decide +kernel
theorem dX0_branch_34 : decode cX0_branch 34 = .ok (.iaload, 1) := by decide +kernel
theorem dX0_branch_35 : decode cX0_branch 35 = .ok (.bipush 127, 2) := by decide +kernel
theorem dX0_branch_37 : decode cX0_branch 37 = .ok (.iand, 1) := by decide +kernel
theorem dX0_branch_38 : decode cX0_branch 38 = .ok (.goto 10, 3) := by decide +kernel
theorem dX0_branch_41 : decode cX0_branch 41 = .ok (.aload_n 0, 1) := by decide +kernel
theorem dX0_branch_42 : decode cX0_branch 42 = .ok (.iconst 1, 1) := by decide +kernel
theorem dX0_branch_43 : decode cX0_branch 43 = .ok (.iload_n 2, 1) := by decide +kernel
theorem dX0_branch_44 : decode cX0_branch 44 = .ok (.ishl, 1) := by decide +kernel
theorem dX0_branch_45 : decode cX0_branch 45 = .ok (.invokevirtual 116, 3) := by decide +kernel
theorem dX0_branch_48 : decode cX0_branch 48 = .ok (.istore 4, 2) := by decide +kernel
theorem dX0_branch_50 : decode cX0_branch 50 = .ok (.aload_n 0, 1) := by decide +kernel
theorem dX0_branch_51 : decode cX0_branch 51 = .ok (.getfield 37, 3) := by decide +kernel
theorem dX0_branch_54 : decode cX0_branch 54 = .ok (.iload_n 1, 1) := by decide +kernel
theorem dX0_branch_55 : decode cX0_branch 55 = .ok (.iconst 1, 1) := by decide +kernel
theorem dX0_branch_56 : decode cX0_branch 56 = .ok (.iadd, 1) := by decide +kernel
theorem dX0_branch_57 : decode cX0_branch 57 = .ok (.iload_n 3, 1) := by decide +kernel
theorem dX0_branch_58 : decode cX0_branch 58 = .ok (.ifCond .eq 15, 3) := by decide +kernel
theorem dX0_branch_61 : decode cX0_branch 61 = .ok (.aload_n 0, 1) := by decide +kernel
theorem dX0_branch_62 : decode cX0_branch 62 = .ok (.getfield 37, 3) := by decide +kernel
theorem dX0_branch_65 : decode cX0_branch 65 = .ok (.iload_n 1, 1) := by decide +kernel
theorem dX0_branch_66 : decode cX0_branch 66 = .ok (.iaload, 1) := by decide +kernel
theorem dX0_branch_67 : decode cX0_branch 67 = .ok (.iload 4, 2) := by decide +kernel
theorem dX0_branch_69 : decode cX0_branch 69 = .ok (.ior, 1) := by decide +kernel
theorem dX0_branch_70 : decode cX0_branch 70 = .ok (.goto 9, 3) := by decide +kernel
theorem dX0_branch_73 : decode cX0_branch 73 = .ok (.aload_n 0, 1) := by decide +kernel
theorem dX0_branch_74 : decode cX0_branch 74 = .ok (.getfield 37, 3) := by decide +kernel
theorem dX0_branch_77 : decode cX0_branch 77 = .ok (.iload_n 1, 1) := by decide +kernel
theorem dX0_branch_78 : decode cX0_branch 78 = .ok (.iaload, 1) := by decide +kernel
theorem dX0_branch_79 : decode cX0_branch 79 = .ok (.iastore, 1) := by decide +kernel
theorem dX0_branch_80 : decode cX0_branch 80 = .ok (.aload_n 0, 1) := by decide +kernel
theorem dX0_branch_81 : decode cX0_branch 81 = .ok (.getfield 40, 3) := by decide +kernel
theorem dX0_branch_84 : decode cX0_branch 84 = .ok (.iload_n 1, 1) := by decide +kernel
theorem dX0_branch_85 : decode cX0_branch 85 = .ok (.iconst 1, 1) := by decide +kernel
theorem dX0_branch_86 : decode cX0_branch 86 = .ok (.iadd, 1) := by decide +kernel
theorem dX0_branch_87 : decode cX0_branch 87 = .ok (.iload_n 3, 1) := by decide +kernel
theorem dX0_branch_88 : decode cX0_branch 88 = .ok (.ifCond .eq 12, 3) := by decide +kernel
theorem dX0_branch_91 : decode cX0_branch 91 = .ok (.aload_n 0, 1) := by decide +kernel
theorem dX0_branch_92 : decode cX0_branch 92 = .ok (.getfield 40, 3) := by decide +kernel
theorem dX0_branch_95 : decode cX0_branch 95 = .ok (.iload_n 1, 1) := by decide +kernel
theorem dX0_branch_96 : decode cX0_branch 96 = .ok (.iaload, 1) := by decide +kernel
theorem dX0_branch_97 : decode cX0_branch 97 = .ok (.goto 12, 3) := by decide +kernel
theorem dX0_branch_100 : decode cX0_branch 100 = .ok (.aload_n 0, 1) := by decide +kernel
theorem dX0_branch_101 : decode cX0_branch 101 = .ok (.getfield 40, 3) := by decide +kernel
theorem dX0_branch_104 : decode cX0_branch 104 = .ok (.iload_n 1, 1) := by decide +kernel
theorem dX0_branch_105 : decode cX0_branch 105 = .ok (.iaload, 1) := by decide +kernel
theorem dX0_branch_106 : decode cX0_branch 106 = .ok (.iload 4, 2) := by decide +kernel
theorem dX0_branch_108 : decode cX0_branch 108 = .ok (.ior, 1) := by decide +kernel
theorem dX0_branch_109 : decode cX0_branch 109 = .ok (.iastore, 1) := by decide +kernel
theorem dX0_branch_110 : decode cX0_branch 110 = .ok (.aload_n 0, 1) := by decide +kernel
theorem dX0_branch_111 : decode cX0_branch 111 = .ok (.getfield 43, 3) := by decide +kernel
theorem dX0_branch_114 : decode cX0_branch 114 = .ok (.iload_n 1, 1) := by decide +kernel
theorem dX0_branch_115 : decode cX0_branch 115 = .ok (.iconst 1, 1) := by decide +kernel
theorem dX0_branch_116 : decode cX0_branch 116 = .ok (.iadd, 1) := by decide +kernel
theorem dX0_branch_117 : decode cX0_branch 117 = .ok (.iconst 0, 1) := by decide +kernel
theorem dX0_branch_118 : decode cX0_branch 118 = .ok (.iastore, 1) := by decide +kernel
theorem dX0_branch_119 : decode cX0_branch 119 = .ok (.return_, 1) := by decide +kernel
theorem dX0_reaching_0 : decode cX0_reaching 0 = .ok (.iconst 0, 1) := by decide +kernel
theorem dX0_reaching_1 : decode cX0_reaching 1 = .ok (.istore_n 2, 1) := by decide +kernel
theorem dX0_reaching_2 : decode cX0_reaching 2 = .ok (.iconst 0, 1) := by decide +kernel
theorem dX0_reaching_3 : decode cX0_reaching 3 = .ok (.istore_n 3, 1) := by decide +kernel
theorem dX0_reaching_4 : decode cX0_reaching 4 = .ok (.iload_n 3, 1) := by decide +kernel
theorem dX0_reaching_5 : decode cX0_reaching 5 = .ok (.bipush 7, 2) := by decide +kernel
theorem dX0_reaching_7 : decode cX0_reaching 7 = .ok (.if_icmp .ge 26, 3) := by decide +kernel
theorem dX0_reaching_10 : decode cX0_reaching 10 = .ok (.aload_n 0, 1) := by decide +kernel
theorem dX0_reaching_11 : decode cX0_reaching 11 = .ok (.getfield 34, 3) := by decide +kernel
theorem dX0_reaching_14 : decode cX0_reaching 14 = .ok (.iload_n 3, 1) := by decide +kernel
theorem dX0_reaching_15 : decode cX0_reaching 15 = .ok (.iaload, 1) := by decide +kernel
theorem dX0_reaching_16 : decode cX0_reaching 16 = .ok (.iload_n 1, 1) := by decide +kernel
theorem dX0_reaching_17 : decode cX0_reaching 17 = .ok (.iand, 1) := by decide +kernel
theorem dX0_reaching_18 : decode cX0_reaching 18 = .ok (.ifCond .eq 9, 3) := by decide +kernel
theorem dX0_reaching_21 : decode cX0_reaching 21 = .ok (.iload_n 2, 1) := by decide +kernel
theorem dX0_reaching_22 : decode cX0_reaching 22 = .ok (.iconst 1, 1) := by decide +kernel
theorem dX0_reaching_23 : decode cX0_reaching 23 = .ok (.iload_n 3, 1) := by decide +kernel
theorem dX0_reaching_24 : decode cX0_reaching 24 = .ok (.ishl, 1) := by decide +kernel
theorem dX0_reaching_25 : decode cX0_reaching 25 = .ok (.ior, 1) := by decide +kernel
theorem dX0_reaching_26 : decode cX0_reaching 26 = .ok (.istore_n 2, 1) := by decide +kernel
theorem dX0_reaching_27 : decode cX0_reaching 27 = .ok (.iinc 3 1, 3) := by decide +kernel
theorem dX0_reaching_30 : decode cX0_reaching 30 = .ok (.goto (-26), 3) := by decide +kernel
theorem dX0_reaching_33 : decode cX0_reaching 33 = .ok (.iload_n 2, 1) := by decide +kernel
theorem dX0_reaching_34 : decode cX0_reaching 34 = .ok (.ireturn, 1) := by decide +kernel
theorem dX0_stages_0 : decode cX0_stages 0 = .ok (.lconst 0, 1) := by decide +kernel
theorem dX0_stages_1 : decode cX0_stages 1 = .ok (.lstore_n 1, 1) := by decide +kernel
theorem dX0_stages_2 : decode cX0_stages 2 = .ok (.lconst 0, 1) := by decide +kernel
theorem dX0_stages_3 : decode cX0_stages 3 = .ok (.lstore_n 3, 1) := by decide +kernel
theorem dX0_stages_4 : decode cX0_stages 4 = .ok (.iconst 0, 1) := by decide +kernel
theorem dX0_stages_5 : decode cX0_stages 5 = .ok (.istore 5, 2) := by decide +kernel
theorem dX0_stages_7 : decode cX0_stages 7 = .ok (.iconst 0, 1) := by decide +kernel
theorem dX0_stages_8 : decode cX0_stages 8 = .ok (.istore 6, 2) := by decide +kernel
theorem dX0_stages_10 : decode cX0_stages 10 = .ok (.iload 6, 2) := by decide +kernel
theorem dX0_stages_12 : decode cX0_stages 12 = .ok (.bipush 50, 2) := by decide +kernel
theorem dX0_stages_14 : decode cX0_stages 14 = .ok (.if_icmp .gt 98, 3) := by decide +kernel
theorem dX0_stages_17 : decode cX0_stages 17 = .ok (.aload_n 0, 1) := by decide +kernel
theorem dX0_stages_18 : decode cX0_stages 18 = .ok (.iload 6, 2) := by decide +kernel
theorem dX0_stages_20 : decode cX0_stages 20 = .ok (.invokevirtual 99, 3) := by decide +kernel
theorem dX0_stages_23 : decode cX0_stages 23 = .ok (.aload_n 0, 1) := by decide +kernel
theorem dX0_stages_24 : decode cX0_stages 24 = .ok (.invokevirtual 102, 3) := by decide +kernel
theorem dX0_stages_27 : decode cX0_stages 27 = .ok (.istore 7, 2) := by decide +kernel
theorem dX0_stages_29 : decode cX0_stages 29 = .ok (.lconst 1, 1) := by decide +kernel
theorem dX0_stages_30 : decode cX0_stages 30 = .ok (.iload 7, 2) := by decide +kernel
theorem dX0_stages_32 : decode cX0_stages 32 = .ok (.bipush 63, 2) := by decide +kernel
theorem dX0_stages_34 : decode cX0_stages 34 = .ok (.iand, 1) := by decide +kernel
theorem dX0_stages_35 : decode cX0_stages 35 = .ok (.lshl, 1) := by decide +kernel
theorem dX0_stages_36 : decode cX0_stages 36 = .ok (.lstore 8, 2) := by decide +kernel
theorem dX0_stages_38 : decode cX0_stages 38 = .ok (.iload 7, 2) := by decide +kernel
theorem dX0_stages_40 : decode cX0_stages 40 = .ok (.bipush 64, 2) := by decide +kernel
theorem dX0_stages_42 : decode cX0_stages 42 = .ok (.if_icmp .ge 20, 3) := by decide +kernel
theorem dX0_stages_45 : decode cX0_stages 45 = .ok (.lload_n 1, 1) := by decide +kernel
theorem dX0_stages_46 : decode cX0_stages 46 = .ok (.lload 8, 2) := by decide +kernel
theorem dX0_stages_48 : decode cX0_stages 48 = .ok (.land, 1) := by decide +kernel
theorem dX0_stages_49 : decode cX0_stages 49 = .ok (.lconst 0, 1) := by decide +kernel
theorem dX0_stages_50 : decode cX0_stages 50 = .ok (.lcmp, 1) := by decide +kernel
theorem dX0_stages_51 : decode cX0_stages 51 = .ok (.ifCond .eq 7, 3) := by decide +kernel
theorem dX0_stages_54 : decode cX0_stages 54 = .ok (.iconst 1, 1) := by decide +kernel
theorem dX0_stages_55 : decode cX0_stages 55 = .ok (.goto 21, 3) := by decide +kernel
theorem dX0_stages_58 : decode cX0_stages 58 = .ok (.iconst 0, 1) := by decide +kernel
theorem dX0_stages_59 : decode cX0_stages 59 = .ok (.goto 17, 3) := by decide +kernel
theorem dX0_stages_62 : decode cX0_stages 62 = .ok (.lload_n 3, 1) := by decide +kernel
theorem dX0_stages_63 : decode cX0_stages 63 = .ok (.lload 8, 2) := by decide +kernel
theorem dX0_stages_65 : decode cX0_stages 65 = .ok (.land, 1) := by decide +kernel
theorem dX0_stages_66 : decode cX0_stages 66 = .ok (.lconst 0, 1) := by decide +kernel
theorem dX0_stages_67 : decode cX0_stages 67 = .ok (.lcmp, 1) := by decide +kernel
theorem dX0_stages_68 : decode cX0_stages 68 = .ok (.ifCond .eq 7, 3) := by decide +kernel
theorem dX0_stages_71 : decode cX0_stages 71 = .ok (.iconst 1, 1) := by decide +kernel
theorem dX0_stages_72 : decode cX0_stages 72 = .ok (.goto 4, 3) := by decide +kernel
theorem dX0_stages_75 : decode cX0_stages 75 = .ok (.iconst 0, 1) := by decide +kernel
theorem dX0_stages_76 : decode cX0_stages 76 = .ok (.istore 10, 2) := by decide +kernel
theorem dX0_stages_78 : decode cX0_stages 78 = .ok (.iload 10, 2) := by decide +kernel
theorem dX0_stages_80 : decode cX0_stages 80 = .ok (.ifCond .ne 6, 3) := by decide +kernel
theorem dX0_stages_83 : decode cX0_stages 83 = .ok (.iinc 5 1, 3) := by decide +kernel
theorem dX0_stages_86 : decode cX0_stages 86 = .ok (.iload 7, 2) := by decide +kernel
theorem dX0_stages_88 : decode cX0_stages 88 = .ok (.bipush 64, 2) := by decide +kernel
theorem dX0_stages_90 : decode cX0_stages 90 = .ok (.if_icmp .ge 11, 3) := by decide +kernel
theorem dX0_stages_93 : decode cX0_stages 93 = .ok (.lload_n 1, 1) := by decide +kernel
theorem dX0_stages_94 : decode cX0_stages 94 = .ok (.lload 8, 2) := by decide +kernel
theorem dX0_stages_96 : decode cX0_stages 96 = .ok (.lor, 1) := by decide +kernel
theorem dX0_stages_97 : decode cX0_stages 97 = .ok (.lstore_n 1, 1) := by decide +kernel
theorem dX0_stages_98 : decode cX0_stages 98 = .ok (.goto 8, 3) := by decide +kernel
theorem dX0_stages_101 : decode cX0_stages 101 = .ok (.lload_n 3, 1) := by decide +kernel
theorem dX0_stages_102 : decode cX0_stages 102 = .ok (.lload 8, 2) := by decide +kernel
theorem dX0_stages_104 : decode cX0_stages 104 = .ok (.lor, 1) := by decide +kernel
theorem dX0_stages_105 : decode cX0_stages 105 = .ok (.lstore_n 3, 1) := by decide +kernel
theorem dX0_stages_106 : decode cX0_stages 106 = .ok (.iinc 6 1, 3) := by decide +kernel
theorem dX0_stages_109 : decode cX0_stages 109 = .ok (.goto (-99), 3) := by decide +kernel
theorem dX0_stages_112 : decode cX0_stages 112 = .ok (.iload 5, 2) := by decide +kernel
theorem dX0_stages_114 : decode cX0_stages 114 = .ok (.ireturn, 1) := by decide +kernel
theorem dX0_worst_0 : decode cX0_worst 0 = .ok (.iconst 0, 1) := by decide +kernel
theorem dX0_worst_1 : decode cX0_worst 1 = .ok (.istore_n 1, 1) := by decide +kernel
theorem dX0_worst_2 : decode cX0_worst 2 = .ok (.iconst (-1), 1) := by decide +kernel
theorem dX0_worst_3 : decode cX0_worst 3 = .ok (.istore_n 2, 1) := by decide +kernel
theorem dX0_worst_4 : decode cX0_worst 4 = .ok (.iconst 0, 1) := by decide +kernel
theorem dX0_worst_5 : decode cX0_worst 5 = .ok (.istore_n 3, 1) := by decide +kernel
theorem dX0_worst_6 : decode cX0_worst 6 = .ok (.iload_n 3, 1) := by decide +kernel
theorem dX0_worst_7 : decode cX0_worst 7 = .ok (.bipush 50, 2) := by decide +kernel
theorem dX0_worst_9 : decode cX0_worst 9 = .ok (.if_icmp .gt 29, 3) := by decide +kernel
theorem dX0_worst_12 : decode cX0_worst 12 = .ok (.aload_n 0, 1) := by decide +kernel
theorem dX0_worst_13 : decode cX0_worst 13 = .ok (.iload_n 3, 1) := by decide +kernel
theorem dX0_worst_14 : decode cX0_worst 14 = .ok (.invokevirtual 99, 3) := by decide +kernel
theorem dX0_worst_17 : decode cX0_worst 17 = .ok (.aload_n 0, 1) := by decide +kernel
theorem dX0_worst_18 : decode cX0_worst 18 = .ok (.getfield 66, 3) := by decide +kernel
theorem dX0_worst_21 : decode cX0_worst 21 = .ok (.iload_n 2, 1) := by decide +kernel
theorem dX0_worst_22 : decode cX0_worst 22 = .ok (.if_icmp .le 10, 3) := by decide +kernel
theorem dX0_worst_25 : decode cX0_worst 25 = .ok (.aload_n 0, 1) := by decide +kernel
theorem dX0_worst_26 : decode cX0_worst 26 = .ok (.getfield 66, 3) := by decide +kernel
theorem dX0_worst_29 : decode cX0_worst 29 = .ok (.istore_n 2, 1) := by decide +kernel
theorem dX0_worst_30 : decode cX0_worst 30 = .ok (.iload_n 3, 1) := by decide +kernel
theorem dX0_worst_31 : decode cX0_worst 31 = .ok (.istore_n 1, 1) := by decide +kernel
theorem dX0_worst_32 : decode cX0_worst 32 = .ok (.iinc 3 1, 3) := by decide +kernel
theorem dX0_worst_35 : decode cX0_worst 35 = .ok (.goto (-29), 3) := by decide +kernel
theorem dX0_worst_38 : decode cX0_worst 38 = .ok (.iload_n 1, 1) := by decide +kernel
theorem dX0_worst_39 : decode cX0_worst 39 = .ok (.ireturn, 1) := by decide +kernel
theorem dX0_spare_0 : decode cX0_spare 0 = .ok (.iload_n 1, 1) := by decide +kernel
theorem dX0_spare_1 : decode cX0_spare 1 = .ok (.invokestatic 50, 3) := by decide +kernel
theorem dX0_spare_4 : decode cX0_spare 4 = .ok (.ifCond .ne 15, 3) := by decide +kernel
theorem dX0_spare_7 : decode cX0_spare 7 = .ok (.iload_n 2, 1) := by decide +kernel
theorem dX0_spare_8 : decode cX0_spare 8 = .ok (.invokestatic 50, 3) := by decide +kernel
theorem dX0_spare_11 : decode cX0_spare 11 = .ok (.ifCond .ne 8, 3) := by decide +kernel
theorem dX0_spare_14 : decode cX0_spare 14 = .ok (.iload_n 1, 1) := by decide +kernel
theorem dX0_spare_15 : decode cX0_spare 15 = .ok (.iload_n 2, 1) := by decide +kernel
theorem dX0_spare_16 : decode cX0_spare 16 = .ok (.if_icmp .ne 5, 3) := by decide +kernel
theorem dX0_spare_19 : decode cX0_spare 19 = .ok (.iconst (-1), 1) := by decide +kernel
theorem dX0_spare_20 : decode cX0_spare 20 = .ok (.ireturn, 1) := by decide +kernel
theorem dX0_spare_21 : decode cX0_spare 21 = .ok (.iload_n 3, 1) := by decide +kernel
theorem dX0_spare_22 : decode cX0_spare 22 = .ok (.invokestatic 93, 3) := by decide +kernel
theorem dX0_spare_25 : decode cX0_spare 25 = .ok (.ifCond .eq 6, 3) := by decide +kernel
theorem dX0_spare_28 : decode cX0_spare 28 = .ok (.bipush (-2), 2) := by decide +kernel
theorem dX0_spare_30 : decode cX0_spare 30 = .ok (.ireturn, 1) := by decide +kernel
theorem dX0_spare_31 : decode cX0_spare 31 = .ok (.aload_n 0, 1) := by decide +kernel
theorem dX0_spare_32 : decode cX0_spare 32 = .ok (.iload_n 1, 1) := by decide +kernel
theorem dX0_spare_33 : decode cX0_spare 33 = .ok (.iload_n 2, 1) := by decide +kernel
theorem dX0_spare_34 : decode cX0_spare 34 = .ok (.iload_n 3, 1) := by decide +kernel
theorem dX0_spare_35 : decode cX0_spare 35 = .ok (.invokevirtual 123, 3) := by decide +kernel
theorem dX0_spare_38 : decode cX0_spare 38 = .ok (.istore 4, 2) := by decide +kernel
theorem dX0_spare_40 : decode cX0_spare 40 = .ok (.aload_n 0, 1) := by decide +kernel
theorem dX0_spare_41 : decode cX0_spare 41 = .ok (.iload_n 2, 1) := by decide +kernel
theorem dX0_spare_42 : decode cX0_spare 42 = .ok (.iload_n 1, 1) := by decide +kernel
theorem dX0_spare_43 : decode cX0_spare 43 = .ok (.iload_n 3, 1) := by decide +kernel
theorem dX0_spare_44 : decode cX0_spare 44 = .ok (.invokevirtual 123, 3) := by decide +kernel
theorem dX0_spare_47 : decode cX0_spare 47 = .ok (.istore 5, 2) := by decide +kernel
theorem dX0_spare_49 : decode cX0_spare 49 = .ok (.aload_n 0, 1) := by decide +kernel
theorem dX0_spare_50 : decode cX0_spare 50 = .ok (.iload_n 3, 1) := by decide +kernel
theorem dX0_spare_51 : decode cX0_spare 51 = .ok (.invokevirtual 99, 3) := by decide +kernel
theorem dX0_spare_54 : decode cX0_spare 54 = .ok (.iload 4, 2) := by decide +kernel
theorem dX0_spare_56 : decode cX0_spare 56 = .ok (.iload 5, 2) := by decide +kernel
theorem dX0_spare_58 : decode cX0_spare 58 = .ok (.if_icmp .ge 8, 3) := by decide +kernel
theorem dX0_spare_61 : decode cX0_spare 61 = .ok (.iload 4, 2) := by decide +kernel
theorem dX0_spare_63 : decode cX0_spare 63 = .ok (.goto 5, 3) := by decide +kernel
theorem dX0_spare_66 : decode cX0_spare 66 = .ok (.iload 5, 2) := by decide +kernel
theorem dX0_spare_68 : decode cX0_spare 68 = .ok (.aload_n 0, 1) := by decide +kernel
theorem dX0_spare_69 : decode cX0_spare 69 = .ok (.getfield 66, 3) := by decide +kernel
theorem dX0_spare_72 : decode cX0_spare 72 = .ok (.isub, 1) := by decide +kernel
theorem dX0_spare_73 : decode cX0_spare 73 = .ok (.istore 6, 2) := by decide +kernel
theorem dX0_spare_75 : decode cX0_spare 75 = .ok (.aload_n 0, 1) := by decide +kernel
theorem dX0_spare_76 : decode cX0_spare 76 = .ok (.getfield 7, 3) := by decide +kernel
theorem dX0_spare_79 : decode cX0_spare 79 = .ok (.iload_n 1, 1) := by decide +kernel
theorem dX0_spare_80 : decode cX0_spare 80 = .ok (.bipush 7, 2) := by decide +kernel
theorem dX0_spare_82 : decode cX0_spare 82 = .ok (.imul, 1) := by decide +kernel
theorem dX0_spare_83 : decode cX0_spare 83 = .ok (.iload_n 2, 1) := by decide +kernel
theorem dX0_spare_84 : decode cX0_spare 84 = .ok (.iadd, 1) := by decide +kernel
theorem dX0_spare_85 : decode cX0_spare 85 = .ok (.iaload, 1) := by decide +kernel
theorem dX0_spare_86 : decode cX0_spare 86 = .ok (.istore 7, 2) := by decide +kernel
theorem dX0_spare_88 : decode cX0_spare 88 = .ok (.iload 6, 2) := by decide +kernel
theorem dX0_spare_90 : decode cX0_spare 90 = .ok (.iload 7, 2) := by decide +kernel
theorem dX0_spare_92 : decode cX0_spare 92 = .ok (.if_icmp .ge 8, 3) := by decide +kernel
theorem dX0_spare_95 : decode cX0_spare 95 = .ok (.iload 6, 2) := by decide +kernel
theorem dX0_spare_97 : decode cX0_spare 97 = .ok (.goto 5, 3) := by decide +kernel
theorem dX0_spare_100 : decode cX0_spare 100 = .ok (.iload 7, 2) := by decide +kernel
theorem dX0_spare_102 : decode cX0_spare 102 = .ok (.ireturn, 1) := by decide +kernel
theorem dX0_leastApart_0 : decode cX0_leastApart 0 = .ok (.aload_n 0, 1) := by decide +kernel
theorem dX0_leastApart_1 : decode cX0_leastApart 1 = .ok (.iload_n 3, 1) := by decide +kernel
theorem dX0_leastApart_2 : decode cX0_leastApart 2 = .ok (.invokevirtual 81, 3) := by decide +kernel
theorem dX0_leastApart_5 : decode cX0_leastApart 5 = .ok (.aload_n 0, 1) := by decide +kernel
theorem dX0_leastApart_6 : decode cX0_leastApart 6 = .ok (.getfield 25, 3) := by decide +kernel
theorem dX0_leastApart_9 : decode cX0_leastApart 9 = .ok (.bipush 63, 2) := by decide +kernel
theorem dX0_leastApart_11 : decode cX0_leastApart 11 = .ok (.iload_n 1, 1) := by decide +kernel
theorem dX0_leastApart_12 : decode cX0_leastApart 12 = .ok (.iadd, 1) := by decide +kernel
theorem dX0_leastApart_13 : decode cX0_leastApart 13 = .ok (.dup2, 1) := by decide +kernel
theorem dX0_leastApart_14 : decode cX0_leastApart 14 = .ok (.iaload, 1) := by decide +kernel
theorem dX0_leastApart_15 : decode cX0_leastApart 15 = .ok (.ldc 122, 2) := by decide +kernel
theorem dX0_leastApart_17 : decode cX0_leastApart 17 = .ok (.iadd, 1) := by decide +kernel
theorem dX0_leastApart_18 : decode cX0_leastApart 18 = .ok (.iastore, 1) := by decide +kernel
theorem dX0_leastApart_19 : decode cX0_leastApart 19 = .ok (.aload_n 0, 1) := by decide +kernel
theorem dX0_leastApart_20 : decode cX0_leastApart 20 = .ok (.getfield 25, 3) := by decide +kernel
theorem dX0_leastApart_23 : decode cX0_leastApart 23 = .ok (.iload_n 2, 1) := by decide +kernel
theorem dX0_leastApart_24 : decode cX0_leastApart 24 = .ok (.bipush 9, 2) := by decide +kernel
theorem dX0_leastApart_26 : decode cX0_leastApart 26 = .ok (.imul, 1) := by decide +kernel
theorem dX0_leastApart_27 : decode cX0_leastApart 27 = .ok (.bipush 8, 2) := by decide +kernel
theorem dX0_leastApart_29 : decode cX0_leastApart 29 = .ok (.iadd, 1) := by decide +kernel
theorem dX0_leastApart_30 : decode cX0_leastApart 30 = .ok (.dup2, 1) := by decide +kernel
theorem dX0_leastApart_31 : decode cX0_leastApart 31 = .ok (.iaload, 1) := by decide +kernel
theorem dX0_leastApart_32 : decode cX0_leastApart 32 = .ok (.ldc 122, 2) := by decide +kernel
theorem dX0_leastApart_34 : decode cX0_leastApart 34 = .ok (.iadd, 1) := by decide +kernel
theorem dX0_leastApart_35 : decode cX0_leastApart 35 = .ok (.iastore, 1) := by decide +kernel
theorem dX0_leastApart_36 : decode cX0_leastApart 36 = .ok (.aload_n 0, 1) := by decide +kernel
theorem dX0_leastApart_37 : decode cX0_leastApart 37 = .ok (.iconst (-1), 1) := by decide +kernel
theorem dX0_leastApart_38 : decode cX0_leastApart 38 = .ok (.putfield 46, 3) := by decide +kernel
theorem dX0_leastApart_41 : decode cX0_leastApart 41 = .ok (.aload_n 0, 1) := by decide +kernel
theorem dX0_leastApart_42 : decode cX0_leastApart 42 = .ok (.invokevirtual 84, 3) := by decide +kernel
theorem dX0_leastApart_45 : decode cX0_leastApart 45 = .ok (.aload_n 0, 1) := by decide +kernel
theorem dX0_leastApart_46 : decode cX0_leastApart 46 = .ok (.getfield 66, 3) := by decide +kernel
theorem dX0_leastApart_49 : decode cX0_leastApart 49 = .ok (.ireturn, 1) := by decide +kernel
theorem dX0_separates_0 : decode cX0_separates 0 = .ok (.iload_n 1, 1) := by decide +kernel
theorem dX0_separates_1 : decode cX0_separates 1 = .ok (.invokestatic 50, 3) := by decide +kernel
theorem dX0_separates_4 : decode cX0_separates 4 = .ok (.ifCond .ne 22, 3) := by decide +kernel
theorem dX0_separates_7 : decode cX0_separates 7 = .ok (.iload_n 2, 1) := by decide +kernel
theorem dX0_separates_8 : decode cX0_separates 8 = .ok (.invokestatic 50, 3) := by decide +kernel
theorem dX0_separates_11 : decode cX0_separates 11 = .ok (.ifCond .ne 15, 3) := by decide +kernel
theorem dX0_separates_14 : decode cX0_separates 14 = .ok (.iload_n 1, 1) := by decide +kernel
theorem dX0_separates_15 : decode cX0_separates 15 = .ok (.iload_n 2, 1) := by decide +kernel
theorem dX0_separates_16 : decode cX0_separates 16 = .ok (.if_icmp .eq 10, 3) := by decide +kernel
theorem dX0_separates_19 : decode cX0_separates 19 = .ok (.iload_n 3, 1) := by decide +kernel
theorem dX0_separates_20 : decode cX0_separates 20 = .ok (.invokestatic 93, 3) := by decide +kernel
theorem dX0_separates_23 : decode cX0_separates 23 = .ok (.ifCond .eq 5, 3) := by decide +kernel
theorem dX0_separates_26 : decode cX0_separates 26 = .ok (.iconst 0, 1) := by decide +kernel
theorem dX0_separates_27 : decode cX0_separates 27 = .ok (.ireturn, 1) := by decide +kernel
theorem dX0_separates_28 : decode cX0_separates 28 = .ok (.aload_n 0, 1) := by decide +kernel
theorem dX0_separates_29 : decode cX0_separates 29 = .ok (.iload_n 3, 1) := by decide +kernel
theorem dX0_separates_30 : decode cX0_separates 30 = .ok (.invokevirtual 99, 3) := by decide +kernel
theorem dX0_separates_33 : decode cX0_separates 33 = .ok (.aload_n 0, 1) := by decide +kernel
theorem dX0_separates_34 : decode cX0_separates 34 = .ok (.getfield 34, 3) := by decide +kernel
theorem dX0_separates_37 : decode cX0_separates 37 = .ok (.bipush 7, 2) := by decide +kernel
theorem dX0_separates_39 : decode cX0_separates 39 = .ok (.iaload, 1) := by decide +kernel
theorem dX0_separates_40 : decode cX0_separates 40 = .ok (.aload_n 0, 1) := by decide +kernel
theorem dX0_separates_41 : decode cX0_separates 41 = .ok (.getfield 34, 3) := by decide +kernel
theorem dX0_separates_44 : decode cX0_separates 44 = .ok (.iload_n 1, 1) := by decide +kernel
theorem dX0_separates_45 : decode cX0_separates 45 = .ok (.iaload, 1) := by decide +kernel
theorem dX0_separates_46 : decode cX0_separates 46 = .ok (.ior, 1) := by decide +kernel
theorem dX0_separates_47 : decode cX0_separates 47 = .ok (.istore 4, 2) := by decide +kernel
theorem dX0_separates_49 : decode cX0_separates 49 = .ok (.iload 4, 2) := by decide +kernel
theorem dX0_separates_51 : decode cX0_separates 51 = .ok (.iload_n 2, 1) := by decide +kernel
theorem dX0_separates_52 : decode cX0_separates 52 = .ok (.invokestatic 90, 3) := by decide +kernel
theorem dX0_separates_55 : decode cX0_separates 55 = .ok (.ifCond .ne 17, 3) := by decide +kernel
theorem dX0_separates_58 : decode cX0_separates 58 = .ok (.iload 4, 2) := by decide +kernel
theorem dX0_separates_60 : decode cX0_separates 60 = .ok (.bipush 8, 2) := by decide +kernel
theorem dX0_separates_62 : decode cX0_separates 62 = .ok (.invokestatic 90, 3) := by decide +kernel
theorem dX0_separates_65 : decode cX0_separates 65 = .ok (.ifCond .ne 7, 3) := by decide +kernel
theorem dX0_separates_68 : decode cX0_separates 68 = .ok (.iconst 1, 1) := by decide +kernel
theorem dX0_separates_69 : decode cX0_separates 69 = .ok (.goto 4, 3) := by decide +kernel
theorem dX0_separates_72 : decode cX0_separates 72 = .ok (.iconst 0, 1) := by decide +kernel
theorem dX0_separates_73 : decode cX0_separates 73 = .ok (.ireturn, 1) := by decide +kernel
end
section
/-! ParametricCutModel -/
set_option maxRecDepth 100000
def RX1 : String := "ParametricCutModel"
def TX1 : u_T := fun k => match k with
  | 0 => ("ParametricCutModel", "links", "[I", true)
  | 1 => ("ParametricCutModel", "sourceBase", "[I", true)
  | 2 => ("ParametricCutModel", "sourceSlope", "[I", true)
  | 3 => ("ParametricCutModel", "sinkBase", "[I", true)
  | 4 => ("ParametricCutModel", "sinkSlope", "[I", true)
  | _ => ("ParametricCutModel", "seen", "[Z", true)
def tyX1 : Nat → FieldType := fun k => match k with
  | 0 => .array .int
  | 1 => .array .int
  | 2 => .array .int
  | 3 => .array .int
  | 4 => .array .int
  | _ => .array .boolean
abbrev wsX10 : List Cond := u_ws RX1 TX1 6
theorem nmX1 : ∀ a, a < 6 → ∀ b, b < 6 → a ≠ b → (TX1 a).2.1 ≠ (TX1 b).2.1 := by decide +kernel
theorem tyX1_ok : ∀ k, k < 6 → parseFieldDescriptor (TX1 k).2.2.1 = some (tyX1 k) := by decide +kernel
abbrev cX1_init : ByteArray := prog_3_method_1_code
def yX1_init : MethodName := ⟨RX1, "<init>", "()V"⟩
abbrev cX1_link : ByteArray := prog_3_method_4_code
def yX1_link : MethodName := ⟨RX1, "link", "(III)I"⟩
abbrev cX1_isNode : ByteArray := prog_3_method_2_code
def yX1_isNode : MethodName := ⟨RX1, "isNode", "(I)Z"⟩
abbrev cX1_toSource : ByteArray := prog_3_method_6_code
def yX1_toSource : MethodName := ⟨RX1, "toSource", "(III)I"⟩
abbrev cX1_isPull : ByteArray := prog_3_method_5_code
def yX1_isPull : MethodName := ⟨RX1, "isPull", "(II)Z"⟩
abbrev cX1_toSink : ByteArray := prog_3_method_7_code
def yX1_toSink : MethodName := ⟨RX1, "toSink", "(III)I"⟩
abbrev cX1_flip : ByteArray := prog_3_method_8_code
def yX1_flip : MethodName := ⟨RX1, "flip", "()V"⟩
abbrev cX1_cost : ByteArray := prog_3_method_10_code
def yX1_cost : MethodName := ⟨RX1, "cost", "(II)I"⟩
abbrev cX1_isNumber : ByteArray := prog_3_method_3_code
def yX1_isNumber : MethodName := ⟨RX1, "isNumber", "(I)Z"⟩
abbrev cX1_price : ByteArray := prog_3_method_9_code
def yX1_price : MethodName := ⟨RX1, "price", "(II)I"⟩
abbrev cX1_least : ByteArray := prog_3_method_11_code
def yX1_least : MethodName := ⟨RX1, "least", "(I)I"⟩
abbrev cX1_always : ByteArray := prog_3_method_12_code
def yX1_always : MethodName := ⟨RX1, "always", "(I)I"⟩
abbrev cX1_ever : ByteArray := prog_3_method_13_code
def yX1_ever : MethodName := ⟨RX1, "ever", "(I)I"⟩
abbrev cX1_ties : ByteArray := prog_3_method_14_code
def yX1_ties : MethodName := ⟨RX1, "ties", "(I)I"⟩
abbrev cX1_stages : ByteArray := prog_3_method_15_code
def yX1_stages : MethodName := ⟨RX1, "stages", "()I"⟩
abbrev cX1_worst : ByteArray := prog_3_method_16_code
def yX1_worst : MethodName := ⟨RX1, "worst", "()I"⟩
abbrev cX1_spare : ByteArray := prog_3_method_17_code
def yX1_spare : MethodName := ⟨RX1, "spare", "(III)I"⟩
abbrev cX1_separates : ByteArray := prog_3_method_18_code
def yX1_separates : MethodName := ⟨RX1, "separates", "(III)Z"⟩
theorem q23 : (Jvm.Cond.initialized "ParametricCutModel") ∈ lw_all := lw_g (lw_at lw_m1 2 rfl) rfl
theorem q211 : (Jvm.Cond.instantiable "ParametricCutModel" (6 : Nat)) ∈ lw_all := lw_g (lw_at lw_m1 190 rfl) rfl
theorem q213 : (Jvm.Cond.instanceMethod ({ cls := "ParametricCutModel", name := "<init>", desc := "()V" } : Jvm.MethodName)) ∈ lw_all := lw_g (lw_at lw_m1 192 rfl) rfl
theorem q214 : (Jvm.Cond.code ({ cls := "ParametricCutModel", name := "<init>", desc := "()V" } : Jvm.MethodName) prog_3_method_1_code (1 : Nat) (Option.none : Option Jvm.ClassFile.FieldType)) ∈ lw_all := lw_g (lw_at lw_m1 193 rfl) rfl
theorem q215 : (Jvm.Cond.methodLink "ParametricCutModel" (1 : Nat) ({ cls := "java/lang/Object", name := "<init>", desc := "()V" } : Jvm.MethodName)) ∈ lw_all := lw_g (lw_at lw_m1 194 rfl) rfl
theorem q216 : (Jvm.Cond.fieldLink "ParametricCutModel" (7 : Nat) "ParametricCutModel" "links" "[I") ∈ lw_all := lw_g (lw_at lw_m1 195 rfl) rfl
theorem q217 : (Jvm.Cond.fieldLink "ParametricCutModel" (13 : Nat) "ParametricCutModel" "sourceBase" "[I") ∈ lw_all := lw_g (lw_at lw_m1 196 rfl) rfl
theorem q218 : (Jvm.Cond.fieldLink "ParametricCutModel" (16 : Nat) "ParametricCutModel" "sourceSlope" "[I") ∈ lw_all := lw_g (lw_at lw_m1 197 rfl) rfl
theorem q219 : (Jvm.Cond.fieldLink "ParametricCutModel" (19 : Nat) "ParametricCutModel" "sinkBase" "[I") ∈ lw_all := lw_g (lw_at lw_m1 198 rfl) rfl
theorem q220 : (Jvm.Cond.fieldLink "ParametricCutModel" (22 : Nat) "ParametricCutModel" "sinkSlope" "[I") ∈ lw_all := lw_g (lw_at lw_m1 199 rfl) rfl
theorem q221 : (Jvm.Cond.fieldLink "ParametricCutModel" (25 : Nat) "ParametricCutModel" "seen" "[Z") ∈ lw_all := lw_g (lw_at lw_m1 200 rfl) rfl
theorem q222 : (Jvm.Cond.laysFinal "ParametricCutModel" "ParametricCutModel" "links" "[I") ∈ lw_all := lw_g (lw_at lw_m1 201 rfl) rfl
theorem q223 : (Jvm.Cond.soleField "ParametricCutModel" "links") ∈ lw_all := lw_g (lw_at lw_m1 202 rfl) rfl
theorem q224 : (Jvm.Cond.laysFinal "ParametricCutModel" "ParametricCutModel" "sourceBase" "[I") ∈ lw_all := lw_g (lw_at lw_m1 203 rfl) rfl
theorem q225 : (Jvm.Cond.soleField "ParametricCutModel" "sourceBase") ∈ lw_all := lw_g (lw_at lw_m1 204 rfl) rfl
theorem q226 : (Jvm.Cond.laysFinal "ParametricCutModel" "ParametricCutModel" "sourceSlope" "[I") ∈ lw_all := lw_g (lw_at lw_m1 205 rfl) rfl
theorem q227 : (Jvm.Cond.soleField "ParametricCutModel" "sourceSlope") ∈ lw_all := lw_g (lw_at lw_m1 206 rfl) rfl
theorem q228 : (Jvm.Cond.laysFinal "ParametricCutModel" "ParametricCutModel" "sinkBase" "[I") ∈ lw_all := lw_g (lw_at lw_m1 207 rfl) rfl
theorem q229 : (Jvm.Cond.soleField "ParametricCutModel" "sinkBase") ∈ lw_all := lw_g (lw_at lw_m1 208 rfl) rfl
theorem q230 : (Jvm.Cond.laysFinal "ParametricCutModel" "ParametricCutModel" "sinkSlope" "[I") ∈ lw_all := lw_g (lw_at lw_m1 209 rfl) rfl
theorem q231 : (Jvm.Cond.soleField "ParametricCutModel" "sinkSlope") ∈ lw_all := lw_g (lw_at lw_m1 210 rfl) rfl
theorem q232 : (Jvm.Cond.laysFinal "ParametricCutModel" "ParametricCutModel" "seen" "[Z") ∈ lw_all := lw_g (lw_at lw_m1 211 rfl) rfl
theorem q233 : (Jvm.Cond.soleField "ParametricCutModel" "seen") ∈ lw_all := lw_g (lw_at lw_m1 212 rfl) rfl
theorem q234 : (Jvm.Cond.superclass "ParametricCutModel" "java/lang/Object") ∈ lw_all := lw_g (lw_at lw_m1 213 rfl) rfl
theorem q237 : (Jvm.Cond.instanceMethod ({ cls := "ParametricCutModel", name := "link", desc := "(III)I" } : Jvm.MethodName)) ∈ lw_all := lw_g (lw_at lw_m1 216 rfl) rfl
theorem q238 : (Jvm.Cond.selects "ParametricCutModel" ({ cls := "ParametricCutModel", name := "link", desc := "(III)I" } : Jvm.MethodName) ({ cls := "ParametricCutModel", name := "link", desc := "(III)I" } : Jvm.MethodName)) ∈ lw_all := lw_g (lw_at lw_m1 217 rfl) rfl
theorem q239 : (Jvm.Cond.code ({ cls := "ParametricCutModel", name := "link", desc := "(III)I" } : Jvm.MethodName) prog_3_method_4_code (5 : Nat) (Option.some Jvm.ClassFile.FieldType.int)) ∈ lw_all := lw_g (lw_at lw_m1 218 rfl) rfl
theorem q240 : (Jvm.Cond.methodLink "ParametricCutModel" (29 : Nat) ({ cls := "ParametricCutModel", name := "isNode", desc := "(I)Z" } : Jvm.MethodName)) ∈ lw_all := lw_g (lw_at lw_m1 219 rfl) rfl
theorem q241 : (Jvm.Cond.privateMethod ({ cls := "ParametricCutModel", name := "isNode", desc := "(I)Z" } : Jvm.MethodName)) ∈ lw_tbl := lw_at lw_m1 220 rfl
theorem q242 : (Jvm.Cond.instanceMethod ({ cls := "ParametricCutModel", name := "isNode", desc := "(I)Z" } : Jvm.MethodName)) ∈ lw_all := lw_g (lw_at lw_m1 221 rfl) rfl
theorem q243 : (Jvm.Cond.code ({ cls := "ParametricCutModel", name := "isNode", desc := "(I)Z" } : Jvm.MethodName) prog_3_method_2_code (2 : Nat) (Option.some Jvm.ClassFile.FieldType.boolean)) ∈ lw_all := lw_g (lw_at lw_m1 222 rfl) rfl
theorem q245 : (Jvm.Cond.instanceMethod ({ cls := "ParametricCutModel", name := "toSource", desc := "(III)I" } : Jvm.MethodName)) ∈ lw_all := lw_g (lw_at lw_m1 224 rfl) rfl
theorem q246 : (Jvm.Cond.selects "ParametricCutModel" ({ cls := "ParametricCutModel", name := "toSource", desc := "(III)I" } : Jvm.MethodName) ({ cls := "ParametricCutModel", name := "toSource", desc := "(III)I" } : Jvm.MethodName)) ∈ lw_all := lw_g (lw_at lw_m1 225 rfl) rfl
theorem q247 : (Jvm.Cond.code ({ cls := "ParametricCutModel", name := "toSource", desc := "(III)I" } : Jvm.MethodName) prog_3_method_6_code (4 : Nat) (Option.some Jvm.ClassFile.FieldType.int)) ∈ lw_all := lw_g (lw_at lw_m1 226 rfl) rfl
theorem q248 : (Jvm.Cond.methodLink "ParametricCutModel" (33 : Nat) ({ cls := "ParametricCutModel", name := "isPull", desc := "(II)Z" } : Jvm.MethodName)) ∈ lw_all := lw_g (lw_at lw_m1 227 rfl) rfl
theorem q249 : (Jvm.Cond.privateMethod ({ cls := "ParametricCutModel", name := "isPull", desc := "(II)Z" } : Jvm.MethodName)) ∈ lw_tbl := lw_at lw_m1 228 rfl
theorem q250 : (Jvm.Cond.instanceMethod ({ cls := "ParametricCutModel", name := "isPull", desc := "(II)Z" } : Jvm.MethodName)) ∈ lw_all := lw_g (lw_at lw_m1 229 rfl) rfl
theorem q251 : (Jvm.Cond.code ({ cls := "ParametricCutModel", name := "isPull", desc := "(II)Z" } : Jvm.MethodName) prog_3_method_5_code (3 : Nat) (Option.some Jvm.ClassFile.FieldType.boolean)) ∈ lw_all := lw_g (lw_at lw_m1 230 rfl) rfl
theorem q253 : (Jvm.Cond.instanceMethod ({ cls := "ParametricCutModel", name := "toSink", desc := "(III)I" } : Jvm.MethodName)) ∈ lw_all := lw_g (lw_at lw_m1 232 rfl) rfl
theorem q254 : (Jvm.Cond.selects "ParametricCutModel" ({ cls := "ParametricCutModel", name := "toSink", desc := "(III)I" } : Jvm.MethodName) ({ cls := "ParametricCutModel", name := "toSink", desc := "(III)I" } : Jvm.MethodName)) ∈ lw_all := lw_g (lw_at lw_m1 233 rfl) rfl
theorem q255 : (Jvm.Cond.code ({ cls := "ParametricCutModel", name := "toSink", desc := "(III)I" } : Jvm.MethodName) prog_3_method_7_code (4 : Nat) (Option.some Jvm.ClassFile.FieldType.int)) ∈ lw_all := lw_g (lw_at lw_m1 234 rfl) rfl
theorem q257 : (Jvm.Cond.instanceMethod ({ cls := "ParametricCutModel", name := "flip", desc := "()V" } : Jvm.MethodName)) ∈ lw_all := lw_g (lw_at lw_m1 236 rfl) rfl
theorem q258 : (Jvm.Cond.selects "ParametricCutModel" ({ cls := "ParametricCutModel", name := "flip", desc := "()V" } : Jvm.MethodName) ({ cls := "ParametricCutModel", name := "flip", desc := "()V" } : Jvm.MethodName)) ∈ lw_all := lw_g (lw_at lw_m1 237 rfl) rfl
theorem q259 : (Jvm.Cond.code ({ cls := "ParametricCutModel", name := "flip", desc := "()V" } : Jvm.MethodName) prog_3_method_8_code (4 : Nat) (Option.none : Option Jvm.ClassFile.FieldType)) ∈ lw_all := lw_g (lw_at lw_m1 238 rfl) rfl
theorem q261 : (Jvm.Cond.instanceMethod ({ cls := "ParametricCutModel", name := "cost", desc := "(II)I" } : Jvm.MethodName)) ∈ lw_all := lw_g (lw_at lw_m2 0 rfl) rfl
theorem q262 : (Jvm.Cond.selects "ParametricCutModel" ({ cls := "ParametricCutModel", name := "cost", desc := "(II)I" } : Jvm.MethodName) ({ cls := "ParametricCutModel", name := "cost", desc := "(II)I" } : Jvm.MethodName)) ∈ lw_all := lw_g (lw_at lw_m2 1 rfl) rfl
theorem q263 : (Jvm.Cond.code ({ cls := "ParametricCutModel", name := "cost", desc := "(II)I" } : Jvm.MethodName) prog_3_method_10_code (3 : Nat) (Option.some Jvm.ClassFile.FieldType.int)) ∈ lw_all := lw_g (lw_at lw_m2 2 rfl) rfl
theorem q264 : (Jvm.Cond.methodLink "ParametricCutModel" (37 : Nat) ({ cls := "ParametricCutModel", name := "isNumber", desc := "(I)Z" } : Jvm.MethodName)) ∈ lw_all := lw_g (lw_at lw_m2 3 rfl) rfl
theorem q265 : (Jvm.Cond.privateMethod ({ cls := "ParametricCutModel", name := "isNumber", desc := "(I)Z" } : Jvm.MethodName)) ∈ lw_tbl := lw_at lw_m2 4 rfl
theorem q266 : (Jvm.Cond.instanceMethod ({ cls := "ParametricCutModel", name := "isNumber", desc := "(I)Z" } : Jvm.MethodName)) ∈ lw_all := lw_g (lw_at lw_m2 5 rfl) rfl
theorem q267 : (Jvm.Cond.code ({ cls := "ParametricCutModel", name := "isNumber", desc := "(I)Z" } : Jvm.MethodName) prog_3_method_3_code (2 : Nat) (Option.some Jvm.ClassFile.FieldType.boolean)) ∈ lw_all := lw_g (lw_at lw_m2 6 rfl) rfl
theorem q268 : (Jvm.Cond.methodLink "ParametricCutModel" (40 : Nat) ({ cls := "ParametricCutModel", name := "price", desc := "(II)I" } : Jvm.MethodName)) ∈ lw_all := lw_g (lw_at lw_m2 7 rfl) rfl
theorem q269 : (Jvm.Cond.privateMethod ({ cls := "ParametricCutModel", name := "price", desc := "(II)I" } : Jvm.MethodName)) ∈ lw_tbl := lw_at lw_m2 8 rfl
theorem q270 : (Jvm.Cond.instanceMethod ({ cls := "ParametricCutModel", name := "price", desc := "(II)I" } : Jvm.MethodName)) ∈ lw_all := lw_g (lw_at lw_m2 9 rfl) rfl
theorem q271 : (Jvm.Cond.code ({ cls := "ParametricCutModel", name := "price", desc := "(II)I" } : Jvm.MethodName) prog_3_method_9_code (8 : Nat) (Option.some Jvm.ClassFile.FieldType.int)) ∈ lw_all := lw_g (lw_at lw_m2 10 rfl) rfl
theorem q273 : (Jvm.Cond.instanceMethod ({ cls := "ParametricCutModel", name := "least", desc := "(I)I" } : Jvm.MethodName)) ∈ lw_all := lw_g (lw_at lw_m2 12 rfl) rfl
theorem q274 : (Jvm.Cond.selects "ParametricCutModel" ({ cls := "ParametricCutModel", name := "least", desc := "(I)I" } : Jvm.MethodName) ({ cls := "ParametricCutModel", name := "least", desc := "(I)I" } : Jvm.MethodName)) ∈ lw_all := lw_g (lw_at lw_m2 13 rfl) rfl
theorem q275 : (Jvm.Cond.code ({ cls := "ParametricCutModel", name := "least", desc := "(I)I" } : Jvm.MethodName) prog_3_method_11_code (5 : Nat) (Option.some Jvm.ClassFile.FieldType.int)) ∈ lw_all := lw_g (lw_at lw_m2 14 rfl) rfl
theorem q277 : (Jvm.Cond.instanceMethod ({ cls := "ParametricCutModel", name := "always", desc := "(I)I" } : Jvm.MethodName)) ∈ lw_all := lw_g (lw_at lw_m2 16 rfl) rfl
theorem q278 : (Jvm.Cond.selects "ParametricCutModel" ({ cls := "ParametricCutModel", name := "always", desc := "(I)I" } : Jvm.MethodName) ({ cls := "ParametricCutModel", name := "always", desc := "(I)I" } : Jvm.MethodName)) ∈ lw_all := lw_g (lw_at lw_m2 17 rfl) rfl
theorem q279 : (Jvm.Cond.code ({ cls := "ParametricCutModel", name := "always", desc := "(I)I" } : Jvm.MethodName) prog_3_method_12_code (5 : Nat) (Option.some Jvm.ClassFile.FieldType.int)) ∈ lw_all := lw_g (lw_at lw_m2 18 rfl) rfl
theorem q280 : (Jvm.Cond.methodLink "ParametricCutModel" (44 : Nat) ({ cls := "ParametricCutModel", name := "least", desc := "(I)I" } : Jvm.MethodName)) ∈ lw_all := lw_g (lw_at lw_m2 19 rfl) rfl
theorem q282 : (Jvm.Cond.instanceMethod ({ cls := "ParametricCutModel", name := "ever", desc := "(I)I" } : Jvm.MethodName)) ∈ lw_all := lw_g (lw_at lw_m2 21 rfl) rfl
theorem q283 : (Jvm.Cond.selects "ParametricCutModel" ({ cls := "ParametricCutModel", name := "ever", desc := "(I)I" } : Jvm.MethodName) ({ cls := "ParametricCutModel", name := "ever", desc := "(I)I" } : Jvm.MethodName)) ∈ lw_all := lw_g (lw_at lw_m2 22 rfl) rfl
theorem q284 : (Jvm.Cond.code ({ cls := "ParametricCutModel", name := "ever", desc := "(I)I" } : Jvm.MethodName) prog_3_method_13_code (5 : Nat) (Option.some Jvm.ClassFile.FieldType.int)) ∈ lw_all := lw_g (lw_at lw_m2 23 rfl) rfl
theorem q286 : (Jvm.Cond.instanceMethod ({ cls := "ParametricCutModel", name := "ties", desc := "(I)I" } : Jvm.MethodName)) ∈ lw_all := lw_g (lw_at lw_m2 25 rfl) rfl
theorem q287 : (Jvm.Cond.selects "ParametricCutModel" ({ cls := "ParametricCutModel", name := "ties", desc := "(I)I" } : Jvm.MethodName) ({ cls := "ParametricCutModel", name := "ties", desc := "(I)I" } : Jvm.MethodName)) ∈ lw_all := lw_g (lw_at lw_m2 26 rfl) rfl
theorem q288 : (Jvm.Cond.code ({ cls := "ParametricCutModel", name := "ties", desc := "(I)I" } : Jvm.MethodName) prog_3_method_14_code (5 : Nat) (Option.some Jvm.ClassFile.FieldType.int)) ∈ lw_all := lw_g (lw_at lw_m2 27 rfl) rfl
theorem q290 : (Jvm.Cond.instanceMethod ({ cls := "ParametricCutModel", name := "stages", desc := "()I" } : Jvm.MethodName)) ∈ lw_all := lw_g (lw_at lw_m2 29 rfl) rfl
theorem q291 : (Jvm.Cond.selects "ParametricCutModel" ({ cls := "ParametricCutModel", name := "stages", desc := "()I" } : Jvm.MethodName) ({ cls := "ParametricCutModel", name := "stages", desc := "()I" } : Jvm.MethodName)) ∈ lw_all := lw_g (lw_at lw_m2 30 rfl) rfl
theorem q292 : (Jvm.Cond.code ({ cls := "ParametricCutModel", name := "stages", desc := "()I" } : Jvm.MethodName) prog_3_method_15_code (4 : Nat) (Option.some Jvm.ClassFile.FieldType.int)) ∈ lw_all := lw_g (lw_at lw_m2 31 rfl) rfl
theorem q293 : (Jvm.Cond.methodLink "ParametricCutModel" (48 : Nat) ({ cls := "ParametricCutModel", name := "always", desc := "(I)I" } : Jvm.MethodName)) ∈ lw_all := lw_g (lw_at lw_m2 32 rfl) rfl
theorem q295 : (Jvm.Cond.instanceMethod ({ cls := "ParametricCutModel", name := "worst", desc := "()I" } : Jvm.MethodName)) ∈ lw_all := lw_g (lw_at lw_m2 34 rfl) rfl
theorem q296 : (Jvm.Cond.selects "ParametricCutModel" ({ cls := "ParametricCutModel", name := "worst", desc := "()I" } : Jvm.MethodName) ({ cls := "ParametricCutModel", name := "worst", desc := "()I" } : Jvm.MethodName)) ∈ lw_all := lw_g (lw_at lw_m2 35 rfl) rfl
theorem q297 : (Jvm.Cond.code ({ cls := "ParametricCutModel", name := "worst", desc := "()I" } : Jvm.MethodName) prog_3_method_16_code (5 : Nat) (Option.some Jvm.ClassFile.FieldType.int)) ∈ lw_all := lw_g (lw_at lw_m2 36 rfl) rfl
theorem q299 : (Jvm.Cond.instanceMethod ({ cls := "ParametricCutModel", name := "spare", desc := "(III)I" } : Jvm.MethodName)) ∈ lw_all := lw_g (lw_at lw_m2 38 rfl) rfl
theorem q300 : (Jvm.Cond.selects "ParametricCutModel" ({ cls := "ParametricCutModel", name := "spare", desc := "(III)I" } : Jvm.MethodName) ({ cls := "ParametricCutModel", name := "spare", desc := "(III)I" } : Jvm.MethodName)) ∈ lw_all := lw_g (lw_at lw_m2 39 rfl) rfl
theorem q301 : (Jvm.Cond.code ({ cls := "ParametricCutModel", name := "spare", desc := "(III)I" } : Jvm.MethodName) prog_3_method_17_code (8 : Nat) (Option.some Jvm.ClassFile.FieldType.int)) ∈ lw_all := lw_g (lw_at lw_m2 40 rfl) rfl
theorem q302 : (Jvm.Cond.methodLink "ParametricCutModel" (51 : Nat) ({ cls := "ParametricCutModel", name := "link", desc := "(III)I" } : Jvm.MethodName)) ∈ lw_all := lw_g (lw_at lw_m2 41 rfl) rfl
theorem q304 : (Jvm.Cond.instanceMethod ({ cls := "ParametricCutModel", name := "separates", desc := "(III)Z" } : Jvm.MethodName)) ∈ lw_all := lw_g (lw_at lw_m2 43 rfl) rfl
theorem q305 : (Jvm.Cond.selects "ParametricCutModel" ({ cls := "ParametricCutModel", name := "separates", desc := "(III)Z" } : Jvm.MethodName) ({ cls := "ParametricCutModel", name := "separates", desc := "(III)Z" } : Jvm.MethodName)) ∈ lw_all := lw_g (lw_at lw_m2 44 rfl) rfl
theorem q306 : (Jvm.Cond.code ({ cls := "ParametricCutModel", name := "separates", desc := "(III)Z" } : Jvm.MethodName) prog_3_method_18_code (6 : Nat) (Option.some Jvm.ClassFile.FieldType.boolean)) ∈ lw_all := lw_g (lw_at lw_m2 45 rfl) rfl
theorem in_X1 : ∀ w ∈ wsX10, w ∈ lw_all := lw_in wsX10 [222, 224, 226, 228, 230, 232] (by decide +kernel) (by decide +kernel)

theorem q21 : (Jvm.Cond.initialized "ParametricCutLaw") ∈ lw_all := lw_g (lw_at lw_m1 0 rfl) rfl
set_option maxRecDepth 100000
theorem q24 : (Jvm.Cond.classLink "ParametricCutLaw" (7 : Nat) "ParametricCut") ∈ lw_all := lw_g (lw_at lw_m1 3 rfl) rfl
theorem q26 : (Jvm.Cond.methodLink "ParametricCutLaw" (9 : Nat) ({ cls := "ParametricCut", name := "<init>", desc := "()V" } : Jvm.MethodName)) ∈ lw_all := lw_g (lw_at lw_m1 5 rfl) rfl
theorem q76 : (Jvm.Cond.methodLink "ParametricCutLaw" (13 : Nat) ({ cls := "ParametricCut", name := "link", desc := "(III)I" } : Jvm.MethodName)) ∈ lw_all := lw_g (lw_at lw_m1 55 rfl) rfl
theorem q83 : (Jvm.Cond.methodLink "ParametricCutLaw" (18 : Nat) ({ cls := "ParametricCut", name := "toSource", desc := "(III)I" } : Jvm.MethodName)) ∈ lw_all := lw_g (lw_at lw_m1 62 rfl) rfl
theorem q90 : (Jvm.Cond.methodLink "ParametricCutLaw" (22 : Nat) ({ cls := "ParametricCut", name := "toSink", desc := "(III)I" } : Jvm.MethodName)) ∈ lw_all := lw_g (lw_at lw_m1 69 rfl) rfl
theorem q94 : (Jvm.Cond.methodLink "ParametricCutLaw" (26 : Nat) ({ cls := "ParametricCut", name := "flip", desc := "()V" } : Jvm.MethodName)) ∈ lw_all := lw_g (lw_at lw_m1 73 rfl) rfl
theorem q98 : (Jvm.Cond.methodLink "ParametricCutLaw" (30 : Nat) ({ cls := "ParametricCut", name := "cost", desc := "(II)I" } : Jvm.MethodName)) ∈ lw_all := lw_g (lw_at lw_m1 77 rfl) rfl
theorem q120 : (Jvm.Cond.methodLink "ParametricCutLaw" (35 : Nat) ({ cls := "ParametricCut", name := "least", desc := "(I)I" } : Jvm.MethodName)) ∈ lw_all := lw_g (lw_at lw_m1 99 rfl) rfl
theorem q153 : (Jvm.Cond.methodLink "ParametricCutLaw" (40 : Nat) ({ cls := "ParametricCut", name := "always", desc := "(I)I" } : Jvm.MethodName)) ∈ lw_all := lw_g (lw_at lw_m1 132 rfl) rfl
theorem q161 : (Jvm.Cond.methodLink "ParametricCutLaw" (44 : Nat) ({ cls := "ParametricCut", name := "ever", desc := "(I)I" } : Jvm.MethodName)) ∈ lw_all := lw_g (lw_at lw_m1 140 rfl) rfl
theorem q169 : (Jvm.Cond.methodLink "ParametricCutLaw" (48 : Nat) ({ cls := "ParametricCut", name := "ties", desc := "(I)I" } : Jvm.MethodName)) ∈ lw_all := lw_g (lw_at lw_m1 148 rfl) rfl
theorem q189 : (Jvm.Cond.methodLink "ParametricCutLaw" (52 : Nat) ({ cls := "ParametricCut", name := "stages", desc := "()I" } : Jvm.MethodName)) ∈ lw_all := lw_g (lw_at lw_m1 168 rfl) rfl
theorem q193 : (Jvm.Cond.methodLink "ParametricCutLaw" (57 : Nat) ({ cls := "ParametricCut", name := "worst", desc := "()I" } : Jvm.MethodName)) ∈ lw_all := lw_g (lw_at lw_m1 172 rfl) rfl
theorem q197 : (Jvm.Cond.methodLink "ParametricCutLaw" (61 : Nat) ({ cls := "ParametricCut", name := "spare", desc := "(III)I" } : Jvm.MethodName)) ∈ lw_all := lw_g (lw_at lw_m1 176 rfl) rfl
theorem q206 : (Jvm.Cond.methodLink "ParametricCutLaw" (65 : Nat) ({ cls := "ParametricCut", name := "separates", desc := "(III)Z" } : Jvm.MethodName)) ∈ lw_all := lw_g (lw_at lw_m1 185 rfl) rfl
theorem q210 : (Jvm.Cond.classLink "ParametricCutLaw" (10 : Nat) "ParametricCutModel") ∈ lw_all := lw_g (lw_at lw_m1 189 rfl) rfl
theorem q212 : (Jvm.Cond.methodLink "ParametricCutLaw" (12 : Nat) ({ cls := "ParametricCutModel", name := "<init>", desc := "()V" } : Jvm.MethodName)) ∈ lw_all := lw_g (lw_at lw_m1 191 rfl) rfl
theorem q236 : (Jvm.Cond.methodLink "ParametricCutLaw" (17 : Nat) ({ cls := "ParametricCutModel", name := "link", desc := "(III)I" } : Jvm.MethodName)) ∈ lw_all := lw_g (lw_at lw_m1 215 rfl) rfl
theorem q244 : (Jvm.Cond.methodLink "ParametricCutLaw" (21 : Nat) ({ cls := "ParametricCutModel", name := "toSource", desc := "(III)I" } : Jvm.MethodName)) ∈ lw_all := lw_g (lw_at lw_m1 223 rfl) rfl
theorem q252 : (Jvm.Cond.methodLink "ParametricCutLaw" (25 : Nat) ({ cls := "ParametricCutModel", name := "toSink", desc := "(III)I" } : Jvm.MethodName)) ∈ lw_all := lw_g (lw_at lw_m1 231 rfl) rfl
theorem q256 : (Jvm.Cond.methodLink "ParametricCutLaw" (29 : Nat) ({ cls := "ParametricCutModel", name := "flip", desc := "()V" } : Jvm.MethodName)) ∈ lw_all := lw_g (lw_at lw_m1 235 rfl) rfl
theorem q260 : (Jvm.Cond.methodLink "ParametricCutLaw" (34 : Nat) ({ cls := "ParametricCutModel", name := "cost", desc := "(II)I" } : Jvm.MethodName)) ∈ lw_all := lw_g (lw_at lw_m1 239 rfl) rfl
theorem q272 : (Jvm.Cond.methodLink "ParametricCutLaw" (39 : Nat) ({ cls := "ParametricCutModel", name := "least", desc := "(I)I" } : Jvm.MethodName)) ∈ lw_all := lw_g (lw_at lw_m2 11 rfl) rfl
theorem q276 : (Jvm.Cond.methodLink "ParametricCutLaw" (43 : Nat) ({ cls := "ParametricCutModel", name := "always", desc := "(I)I" } : Jvm.MethodName)) ∈ lw_all := lw_g (lw_at lw_m2 15 rfl) rfl
theorem q281 : (Jvm.Cond.methodLink "ParametricCutLaw" (47 : Nat) ({ cls := "ParametricCutModel", name := "ever", desc := "(I)I" } : Jvm.MethodName)) ∈ lw_all := lw_g (lw_at lw_m2 20 rfl) rfl
theorem q285 : (Jvm.Cond.methodLink "ParametricCutLaw" (51 : Nat) ({ cls := "ParametricCutModel", name := "ties", desc := "(I)I" } : Jvm.MethodName)) ∈ lw_all := lw_g (lw_at lw_m2 24 rfl) rfl
theorem q289 : (Jvm.Cond.methodLink "ParametricCutLaw" (56 : Nat) ({ cls := "ParametricCutModel", name := "stages", desc := "()I" } : Jvm.MethodName)) ∈ lw_all := lw_g (lw_at lw_m2 28 rfl) rfl
theorem q294 : (Jvm.Cond.methodLink "ParametricCutLaw" (60 : Nat) ({ cls := "ParametricCutModel", name := "worst", desc := "()I" } : Jvm.MethodName)) ∈ lw_all := lw_g (lw_at lw_m2 33 rfl) rfl
theorem q298 : (Jvm.Cond.methodLink "ParametricCutLaw" (64 : Nat) ({ cls := "ParametricCutModel", name := "spare", desc := "(III)I" } : Jvm.MethodName)) ∈ lw_all := lw_g (lw_at lw_m2 37 rfl) rfl
theorem q303 : (Jvm.Cond.methodLink "ParametricCutLaw" (69 : Nat) ({ cls := "ParametricCutModel", name := "separates", desc := "(III)Z" } : Jvm.MethodName)) ∈ lw_all := lw_g (lw_at lw_m2 42 rfl) rfl
end
section
set_option maxRecDepth 100000
theorem dX1_init_0 : decode cX1_init 0 = .ok (.aload_n 0, 1) := by decide +kernel
theorem dX1_init_1 : decode cX1_init 1 = .ok (.invokespecial 1, 3) := by decide +kernel
theorem dX1_init_4 : decode cX1_init 4 = .ok (.aload_n 0, 1) := by decide +kernel
theorem dX1_init_5 : decode cX1_init 5 = .ok (.bipush 49, 2) := by decide +kernel
theorem dX1_init_7 : decode cX1_init 7 = .ok (.newarray .int, 2) := by decide +kernel
theorem dX1_init_9 : decode cX1_init 9 = .ok (.putfield 7, 3) := by decide +kernel
theorem dX1_init_12 : decode cX1_init 12 = .ok (.aload_n 0, 1) := by decide +kernel
theorem dX1_init_13 : decode cX1_init 13 = .ok (.bipush 7, 2) := by decide +kernel
theorem dX1_init_15 : decode cX1_init 15 = .ok (.newarray .int, 2) := by decide +kernel
theorem dX1_init_17 : decode cX1_init 17 = .ok (.putfield 13, 3) := by decide +kernel
theorem dX1_init_20 : decode cX1_init 20 = .ok (.aload_n 0, 1) := by decide +kernel
theorem dX1_init_21 : decode cX1_init 21 = .ok (.bipush 7, 2) := by decide +kernel
theorem dX1_init_23 : decode cX1_init 23 = .ok (.newarray .int, 2) := by decide +kernel
theorem dX1_init_25 : decode cX1_init 25 = .ok (.putfield 16, 3) := by decide +kernel
theorem dX1_init_28 : decode cX1_init 28 = .ok (.aload_n 0, 1) := by decide +kernel
theorem dX1_init_29 : decode cX1_init 29 = .ok (.bipush 7, 2) := by decide +kernel
theorem dX1_init_31 : decode cX1_init 31 = .ok (.newarray .int, 2) := by decide +kernel
theorem dX1_init_33 : decode cX1_init 33 = .ok (.putfield 19, 3) := by decide +kernel
theorem dX1_init_36 : decode cX1_init 36 = .ok (.aload_n 0, 1) := by decide +kernel
theorem dX1_init_37 : decode cX1_init 37 = .ok (.bipush 7, 2) := by decide +kernel
theorem dX1_init_39 : decode cX1_init 39 = .ok (.newarray .int, 2) := by decide +kernel
theorem dX1_init_41 : decode cX1_init 41 = .ok (.putfield 22, 3) := by decide +kernel
theorem dX1_init_44 : decode cX1_init 44 = .ok (.aload_n 0, 1) := by decide +kernel
theorem dX1_init_45 : decode cX1_init 45 = .ok (.sipush 128, 3) := by decide +kernel
theorem dX1_init_48 : decode cX1_init 48 = .ok (.newarray .boolean, 2) := by decide +kernel
theorem dX1_init_50 : decode cX1_init 50 = .ok (.putfield 25, 3) := by decide +kernel
theorem dX1_init_53 : decode cX1_init 53 = .ok (.return_, 1) := by decide +kernel
theorem dX1_link_0 : decode cX1_link 0 = .ok (.aload_n 0, 1) := by decide +kernel
theorem dX1_link_1 : decode cX1_link 1 = .ok (.iload_n 1, 1) := by decide +kernel
theorem dX1_link_2 : decode cX1_link 2 = .ok (.invokevirtual 29, 3) := by decide +kernel
theorem dX1_link_5 : decode cX1_link 5 = .ok (.ifCond .eq 16, 3) := by decide +kernel
theorem dX1_link_8 : decode cX1_link 8 = .ok (.aload_n 0, 1) := by decide +kernel
theorem dX1_link_9 : decode cX1_link 9 = .ok (.iload_n 2, 1) := by decide +kernel
theorem dX1_link_10 : decode cX1_link 10 = .ok (.invokevirtual 29, 3) := by decide +kernel
theorem dX1_link_13 : decode cX1_link 13 = .ok (.ifCond .eq 8, 3) := by decide +kernel
theorem dX1_link_16 : decode cX1_link 16 = .ok (.iload_n 1, 1) := by decide +kernel
theorem dX1_link_17 : decode cX1_link 17 = .ok (.iload_n 2, 1) := by decide +kernel
theorem dX1_link_18 : decode cX1_link 18 = .ok (.if_icmp .ne 5, 3) := by decide +kernel
theorem dX1_link_21 : decode cX1_link 21 = .ok (.iconst (-1), 1) := by decide +kernel
theorem dX1_link_22 : decode cX1_link 22 = .ok (.ireturn, 1) := by decide +kernel
theorem dX1_link_23 : decode cX1_link 23 = .ok (.iload_n 3, 1) := by decide +kernel
theorem dX1_link_24 : decode cX1_link 24 = .ok (.ifCond .lt 9, 3) := by decide +kernel
theorem dX1_link_27 : decode cX1_link 27 = .ok (.iload_n 3, 1) := by decide +kernel
theorem dX1_link_28 : decode cX1_link 28 = .ok (.bipush 20, 2) := by decide +kernel
theorem dX1_link_30 : decode cX1_link 30 = .ok (.if_icmp .le 6, 3) := by decide +kernel
theorem dX1_link_33 : decode cX1_link 33 = .ok (.bipush (-2), 2) := by decide +kernel
theorem dX1_link_35 : decode cX1_link 35 = .ok (.ireturn, 1) := by decide +kernel
theorem dX1_link_36 : decode cX1_link 36 = .ok (.aload_n 0, 1) := by decide +kernel
theorem dX1_link_37 : decode cX1_link 37 = .ok (.getfield 7, 3) := by decide +kernel
theorem dX1_link_40 : decode cX1_link 40 = .ok (.iload_n 1, 1) := by decide +kernel
theorem dX1_link_41 : decode cX1_link 41 = .ok (.bipush 7, 2) := by decide +kernel
theorem dX1_link_43 : decode cX1_link 43 = .ok (.imul, 1) := by decide +kernel
theorem dX1_link_44 : decode cX1_link 44 = .ok (.iload_n 2, 1) := by decide +kernel
theorem dX1_link_45 : decode cX1_link 45 = .ok (.iadd, 1) := by decide +kernel
theorem dX1_link_46 : decode cX1_link 46 = .ok (.iaload, 1) := by decide +kernel
theorem dX1_link_47 : decode cX1_link 47 = .ok (.istore 4, 2) := by decide +kernel
theorem dX1_link_49 : decode cX1_link 49 = .ok (.aload_n 0, 1) := by decide +kernel
theorem dX1_link_50 : decode cX1_link 50 = .ok (.getfield 7, 3) := by decide +kernel
theorem dX1_link_53 : decode cX1_link 53 = .ok (.iload_n 1, 1) := by decide +kernel
theorem dX1_link_54 : decode cX1_link 54 = .ok (.bipush 7, 2) := by decide +kernel
theorem dX1_link_56 : decode cX1_link 56 = .ok (.imul, 1) := by decide +kernel
theorem dX1_link_57 : decode cX1_link 57 = .ok (.iload_n 2, 1) := by decide +kernel
theorem dX1_link_58 : decode cX1_link 58 = .ok (.iadd, 1) := by decide +kernel
theorem dX1_link_59 : decode cX1_link 59 = .ok (.iload_n 3, 1) := by decide +kernel
theorem dX1_link_60 : decode cX1_link 60 = .ok (.iastore, 1) := by decide +kernel
theorem dX1_link_61 : decode cX1_link 61 = .ok (.aload_n 0, 1) := by decide +kernel
theorem dX1_link_62 : decode cX1_link 62 = .ok (.getfield 7, 3) := by decide +kernel
theorem dX1_link_65 : decode cX1_link 65 = .ok (.iload_n 2, 1) := by decide +kernel
theorem dX1_link_66 : decode cX1_link 66 = .ok (.bipush 7, 2) := by decide +kernel
theorem dX1_link_68 : decode cX1_link 68 = .ok (.imul, 1) := by decide +kernel
theorem dX1_link_69 : decode cX1_link 69 = .ok (.iload_n 1, 1) := by decide +kernel
theorem dX1_link_70 : decode cX1_link 70 = .ok (.iadd, 1) := by decide +kernel
theorem dX1_link_71 : decode cX1_link 71 = .ok (.iload_n 3, 1) := by decide +kernel
theorem dX1_link_72 : decode cX1_link 72 = .ok (.iastore, 1) := by decide +kernel
theorem dX1_link_73 : decode cX1_link 73 = .ok (.iload 4, 2) := by decide +kernel
theorem dX1_link_75 : decode cX1_link 75 = .ok (.ireturn, 1) := by decide +kernel
theorem dX1_isNode_0 : decode cX1_isNode 0 = .ok (.iload_n 1, 1) := by decide +kernel
theorem dX1_isNode_1 : decode cX1_isNode 1 = .ok (.ifCond .lt 13, 3) := by decide +kernel
theorem dX1_isNode_4 : decode cX1_isNode 4 = .ok (.iload_n 1, 1) := by decide +kernel
theorem dX1_isNode_5 : decode cX1_isNode 5 = .ok (.bipush 7, 2) := by decide +kernel
theorem dX1_isNode_7 : decode cX1_isNode 7 = .ok (.if_icmp .ge 7, 3) := by decide +kernel
theorem dX1_isNode_10 : decode cX1_isNode 10 = .ok (.iconst 1, 1) := by decide +kernel
theorem dX1_isNode_11 : decode cX1_isNode 11 = .ok (.goto 4, 3) := by decide +kernel
theorem dX1_isNode_14 : decode cX1_isNode 14 = .ok (.iconst 0, 1) := by decide +kernel
theorem dX1_isNode_15 : decode cX1_isNode 15 = .ok (.ireturn, 1) := by decide +kernel
theorem dX1_toSource_0 : decode cX1_toSource 0 = .ok (.aload_n 0, 1) := by decide +kernel
theorem dX1_toSource_1 : decode cX1_toSource 1 = .ok (.iload_n 1, 1) := by decide +kernel
theorem dX1_toSource_2 : decode cX1_toSource 2 = .ok (.invokevirtual 29, 3) := by decide +kernel
theorem dX1_toSource_5 : decode cX1_toSource 5 = .ok (.ifCond .ne 5, 3) := by decide +kernel
theorem dX1_toSource_8 : decode cX1_toSource 8 = .ok (.iconst (-1), 1) := by decide +kernel
theorem dX1_toSource_9 : decode cX1_toSource 9 = .ok (.ireturn, 1) := by decide +kernel
theorem dX1_toSource_10 : decode cX1_toSource 10 = .ok (.aload_n 0, 1) := by decide +kernel
theorem dX1_toSource_11 : decode cX1_toSource 11 = .ok (.iload_n 2, 1) := by decide +kernel
theorem dX1_toSource_12 : decode cX1_toSource 12 = .ok (.iload_n 3, 1) := by decide +kernel
theorem dX1_toSource_13 : decode cX1_toSource 13 = .ok (.invokevirtual 33, 3) := by decide +kernel
theorem dX1_toSource_16 : decode cX1_toSource 16 = .ok (.ifCond .ne 6, 3) := by decide +kernel
theorem dX1_toSource_19 : decode cX1_toSource 19 = .ok (.bipush (-2), 2) := by decide +kernel
theorem dX1_toSource_21 : decode cX1_toSource 21 = .ok (.ireturn, 1) := by decide +kernel
theorem dX1_toSource_22 : decode cX1_toSource 22 = .ok (.aload_n 0, 1) := by decide +kernel
theorem dX1_toSource_23 : decode cX1_toSource 23 = .ok (.getfield 13, 3) := by decide +kernel
theorem dX1_toSource_26 : decode cX1_toSource 26 = .ok (.iload_n 1, 1) := by decide +kernel
theorem dX1_toSource_27 : decode cX1_toSource 27 = .ok (.iload_n 2, 1) := by decide +kernel
theorem dX1_toSource_28 : decode cX1_toSource 28 = .ok (.iastore, 1) := by decide +kernel
theorem dX1_toSource_29 : decode cX1_toSource 29 = .ok (.aload_n 0, 1) := by decide +kernel
theorem dX1_toSource_30 : decode cX1_toSource 30 = .ok (.getfield 16, 3) := by decide +kernel
theorem dX1_toSource_33 : decode cX1_toSource 33 = .ok (.iload_n 1, 1) := by decide +kernel
theorem dX1_toSource_34 : decode cX1_toSource 34 = .ok (.iload_n 3, 1) := by decide +kernel
theorem dX1_toSource_35 : decode cX1_toSource 35 = .ok (.iastore, 1) := by decide +kernel
theorem dX1_toSource_36 : decode cX1_toSource 36 = .ok (.iconst 0, 1) := by decide +kernel
theorem dX1_toSource_37 : decode cX1_toSource 37 = .ok (.ireturn, 1) := by decide +kernel
theorem dX1_isPull_0 : decode cX1_isPull 0 = .ok (.iload_n 1, 1) := by decide +kernel
theorem dX1_isPull_1 : decode cX1_isPull 1 = .ok (.ifCond .lt 24, 3) := by decide +kernel
theorem dX1_isPull_4 : decode cX1_isPull 4 = .ok (.iload_n 1, 1) := by decide +kernel
theorem dX1_isPull_5 : decode cX1_isPull 5 = .ok (.bipush 40, 2) := by decide +kernel
theorem dX1_isPull_7 : decode cX1_isPull 7 = .ok (.if_icmp .gt 18, 3) := by decide +kernel
theorem dX1_isPull_10 : decode cX1_isPull 10 = .ok (.iload_n 2, 1) := by decide +kernel
theorem dX1_isPull_11 : decode cX1_isPull 11 = .ok (.bipush (-2), 2) := by decide +kernel
theorem dX1_isPull_13 : decode cX1_isPull 13 = .ok (.if_icmp .lt 12, 3) := by decide +kernel
theorem dX1_isPull_16 : decode cX1_isPull 16 = .ok (.iload_n 2, 1) := by decide +kernel
theorem dX1_isPull_17 : decode cX1_isPull 17 = .ok (.iconst 2, 1) := by decide +kernel
theorem dX1_isPull_18 : decode cX1_isPull 18 = .ok (.if_icmp .gt 7, 3) := by decide +kernel
theorem dX1_isPull_21 : decode cX1_isPull 21 = .ok (.iconst 1, 1) := by decide +kernel
theorem dX1_isPull_22 : decode cX1_isPull 22 = .ok (.goto 4, 3) := by decide +kernel
theorem dX1_isPull_25 : decode cX1_isPull 25 = .ok (.iconst 0, 1) := by decide +kernel
theorem dX1_isPull_26 : decode cX1_isPull 26 = .ok (.ireturn, 1) := by decide +kernel
theorem dX1_toSink_0 : decode cX1_toSink 0 = .ok (.aload_n 0, 1) := by decide +kernel
theorem dX1_toSink_1 : decode cX1_toSink 1 = .ok (.iload_n 1, 1) := by decide +kernel
theorem dX1_toSink_2 : decode cX1_toSink 2 = .ok (.invokevirtual 29, 3) := by decide +kernel
theorem dX1_toSink_5 : decode cX1_toSink 5 = .ok (.ifCond .ne 5, 3) := by decide +kernel
theorem dX1_toSink_8 : decode cX1_toSink 8 = .ok (.iconst (-1), 1) := by decide +kernel
theorem dX1_toSink_9 : decode cX1_toSink 9 = .ok (.ireturn, 1) := by decide +kernel
theorem dX1_toSink_10 : decode cX1_toSink 10 = .ok (.aload_n 0, 1) := by decide +kernel
theorem dX1_toSink_11 : decode cX1_toSink 11 = .ok (.iload_n 2, 1) := by decide +kernel
theorem dX1_toSink_12 : decode cX1_toSink 12 = .ok (.iload_n 3, 1) := by decide +kernel
theorem dX1_toSink_13 : decode cX1_toSink 13 = .ok (.invokevirtual 33, 3) := by decide +kernel
theorem dX1_toSink_16 : decode cX1_toSink 16 = .ok (.ifCond .ne 6, 3) := by decide +kernel
theorem dX1_toSink_19 : decode cX1_toSink 19 = .ok (.bipush (-2), 2) := by decide +kernel
theorem dX1_toSink_21 : decode cX1_toSink 21 = .ok (.ireturn, 1) := by decide +kernel
theorem dX1_toSink_22 : decode cX1_toSink 22 = .ok (.aload_n 0, 1) := by decide +kernel
theorem dX1_toSink_23 : decode cX1_toSink 23 = .ok (.getfield 19, 3) := by decide +kernel
theorem dX1_toSink_26 : decode cX1_toSink 26 = .ok (.iload_n 1, 1) := by decide +kernel
theorem dX1_toSink_27 : decode cX1_toSink 27 = .ok (.iload_n 2, 1) := by decide +kernel
theorem dX1_toSink_28 : decode cX1_toSink 28 = .ok (.iastore, 1) := by decide +kernel
theorem dX1_toSink_29 : decode cX1_toSink 29 = .ok (.aload_n 0, 1) := by decide +kernel
theorem dX1_toSink_30 : decode cX1_toSink 30 = .ok (.getfield 22, 3) := by decide +kernel
theorem dX1_toSink_33 : decode cX1_toSink 33 = .ok (.iload_n 1, 1) := by decide +kernel
theorem dX1_toSink_34 : decode cX1_toSink 34 = .ok (.iload_n 3, 1) := by decide +kernel
theorem dX1_toSink_35 : decode cX1_toSink 35 = .ok (.iastore, 1) := by decide +kernel
theorem dX1_toSink_36 : decode cX1_toSink 36 = .ok (.iconst 0, 1) := by decide +kernel
theorem dX1_toSink_37 : decode cX1_toSink 37 = .ok (.ireturn, 1) := by decide +kernel
theorem dX1_flip_0 : decode cX1_flip 0 = .ok (.iconst 0, 1) := by decide +kernel
theorem dX1_flip_1 : decode cX1_flip 1 = .ok (.istore_n 1, 1) := by decide +kernel
theorem dX1_flip_2 : decode cX1_flip 2 = .ok (.iload_n 1, 1) := by decide +kernel
theorem dX1_flip_3 : decode cX1_flip 3 = .ok (.bipush 7, 2) := by decide +kernel
theorem dX1_flip_5 : decode cX1_flip 5 = .ok (.if_icmp .ge 61, 3) := by decide +kernel
theorem dX1_flip_8 : decode cX1_flip 8 = .ok (.aload_n 0, 1) := by decide +kernel
theorem dX1_flip_9 : decode cX1_flip 9 = .ok (.getfield 13, 3) := by decide +kernel
theorem dX1_flip_12 : decode cX1_flip 12 = .ok (.iload_n 1, 1) := by decide +kernel
theorem dX1_flip_13 : decode cX1_flip 13 = .ok (.iaload, 1) := by decide +kernel
theorem dX1_flip_14 : decode cX1_flip 14 = .ok (.istore_n 2, 1) := by decide +kernel
theorem dX1_flip_15 : decode cX1_flip 15 = .ok (.aload_n 0, 1) := by decide +kernel
theorem dX1_flip_16 : decode cX1_flip 16 = .ok (.getfield 16, 3) := by decide +kernel
theorem dX1_flip_19 : decode cX1_flip 19 = .ok (.iload_n 1, 1) := by decide +kernel
theorem dX1_flip_20 : decode cX1_flip 20 = .ok (.iaload, 1) := by decide +kernel
theorem dX1_flip_21 : decode cX1_flip 21 = .ok (.istore_n 3, 1) := by decide +kernel
theorem dX1_flip_22 : decode cX1_flip 22 = .ok (.aload_n 0, 1) := by decide +kernel
theorem dX1_flip_23 : decode cX1_flip 23 = .ok (.getfield 13, 3) := by decide +kernel
theorem dX1_flip_26 : decode cX1_flip 26 = .ok (.iload_n 1, 1) := by decide +kernel
theorem dX1_flip_27 : decode cX1_flip 27 = .ok (.aload_n 0, 1) := by decide +kernel
theorem dX1_flip_28 : decode cX1_flip 28 = .ok (.getfield 19, 3) := by decide +kernel
theorem dX1_flip_31 : decode cX1_flip 31 = .ok (.iload_n 1, 1) := by decide +kernel
theorem dX1_flip_32 : decode cX1_flip 32 = .ok (.iaload, 1) := by decide +kernel
theorem dX1_flip_33 : decode cX1_flip 33 = .ok (.iastore, 1) := by decide +kernel
theorem dX1_flip_34 : decode cX1_flip 34 = .ok (.aload_n 0, 1) := by decide +kernel
theorem dX1_flip_35 : decode cX1_flip 35 = .ok (.getfield 16, 3) := by decide +kernel
theorem dX1_flip_38 : decode cX1_flip 38 = .ok (.iload_n 1, 1) := by decide +kernel
theorem dX1_flip_39 : decode cX1_flip 39 = .ok (.aload_n 0, 1) := by decide +kernel
theorem dX1_flip_40 : decode cX1_flip 40 = .ok (.getfield 22, 3) := by decide +kernel
theorem dX1_flip_43 : decode cX1_flip 43 = .ok (.iload_n 1, 1) := by decide +kernel
theorem dX1_flip_44 : decode cX1_flip 44 = .ok (.iaload, 1) := by decide +kernel
theorem dX1_flip_45 : decode cX1_flip 45 = .ok (.iastore, 1) := by decide +kernel
theorem dX1_flip_46 : decode cX1_flip 46 = .ok (.aload_n 0, 1) := by decide +kernel
theorem dX1_flip_47 : decode cX1_flip 47 = .ok (.getfield 19, 3) := by decide +kernel
theorem dX1_flip_50 : decode cX1_flip 50 = .ok (.iload_n 1, 1) := by decide +kernel
theorem dX1_flip_51 : decode cX1_flip 51 = .ok (.iload_n 2, 1) := by decide +kernel
theorem dX1_flip_52 : decode cX1_flip 52 = .ok (.iastore, 1) := by decide +kernel
theorem dX1_flip_53 : decode cX1_flip 53 = .ok (.aload_n 0, 1) := by decide +kernel
theorem dX1_flip_54 : decode cX1_flip 54 = .ok (.getfield 22, 3) := by decide +kernel
theorem dX1_flip_57 : decode cX1_flip 57 = .ok (.iload_n 1, 1) := by decide +kernel
theorem dX1_flip_58 : decode cX1_flip 58 = .ok (.iload_n 3, 1) := by decide +kernel
theorem dX1_flip_59 : decode cX1_flip 59 = .ok (.iastore, 1) := by decide +kernel
theorem dX1_flip_60 : decode cX1_flip 60 = .ok (.iinc 1 1, 3) := by decide +kernel
theorem dX1_flip_63 : decode cX1_flip 63 = .ok (.goto (-61), 3) := by decide +kernel
theorem dX1_flip_66 : decode cX1_flip 66 = .ok (.return_, 1) := by decide +kernel
theorem dX1_cost_0 : decode cX1_cost 0 = .ok (.aload_n 0, 1) := by decide +kernel
theorem dX1_cost_1 : decode cX1_cost 1 = .ok (.iload_n 2, 1) := by decide +kernel
theorem dX1_cost_2 : decode cX1_cost 2 = .ok (.invokevirtual 37, 3) := by decide +kernel
theorem dX1_cost_5 : decode cX1_cost 5 = .ok (.ifCond .eq 15, 3) := by decide +kernel
theorem dX1_cost_8 : decode cX1_cost 8 = .ok (.aload_n 0, 1) := by decide +kernel
theorem dX1_cost_9 : decode cX1_cost 9 = .ok (.iload_n 1, 1) := by decide +kernel
theorem dX1_cost_10 : decode cX1_cost 10 = .ok (.bipush 127, 2) := by decide +kernel
theorem dX1_cost_12 : decode cX1_cost 12 = .ok (.iand, 1) := by decide +kernel
theorem dX1_cost_13 : decode cX1_cost 13 = .ok (.iload_n 2, 1) := by decide +kernel
theorem dX1_cost_14 : decode cX1_cost 14 = .ok (.invokevirtual 40, 3) := by decide +kernel
theorem dX1_cost_17 : decode cX1_cost 17 = .ok (.goto 5, 3) := by decide +kernel
theorem dX1_cost_20 : decode cX1_cost 20 = .ok (.bipush (-2), 2) := by decide +kernel
theorem dX1_cost_22 : decode cX1_cost 22 = .ok (.ireturn, 1) := by decide +kernel
theorem dX1_isNumber_0 : decode cX1_isNumber 0 = .ok (.iload_n 1, 1) := by decide +kernel
theorem dX1_isNumber_1 : decode cX1_isNumber 1 = .ok (.ifCond .lt 13, 3) := by decide +kernel
theorem dX1_isNumber_4 : decode cX1_isNumber 4 = .ok (.iload_n 1, 1) := by decide +kernel
theorem dX1_isNumber_5 : decode cX1_isNumber 5 = .ok (.bipush 50, 2) := by decide +kernel
theorem dX1_isNumber_7 : decode cX1_isNumber 7 = .ok (.if_icmp .gt 7, 3) := by decide +kernel
theorem dX1_isNumber_10 : decode cX1_isNumber 10 = .ok (.iconst 1, 1) := by decide +kernel
theorem dX1_isNumber_11 : decode cX1_isNumber 11 = .ok (.goto 4, 3) := by decide +kernel
theorem dX1_isNumber_14 : decode cX1_isNumber 14 = .ok (.iconst 0, 1) := by decide +kernel
theorem dX1_isNumber_15 : decode cX1_isNumber 15 = .ok (.ireturn, 1) := by decide +kernel
theorem dX1_price_0 : decode cX1_price 0 = .ok (.iconst 0, 1) := by decide +kernel
theorem dX1_price_1 : decode cX1_price 1 = .ok (.istore_n 3, 1) := by decide +kernel
theorem dX1_price_2 : decode cX1_price 2 = .ok (.iconst 0, 1) := by decide +kernel
theorem dX1_price_3 : decode cX1_price 3 = .ok (.istore 4, 2) := by decide +kernel
theorem dX1_price_5 : decode cX1_price 5 = .ok (.iload 4, 2) := by decide +kernel
theorem dX1_price_7 : decode cX1_price 7 = .ok (.bipush 7, 2) := by decide +kernel
theorem dX1_price_9 : decode cX1_price 9 = .ok (.if_icmp .ge 126, 3) := by decide +kernel
theorem dX1_price_12 : decode cX1_price 12 = .ok (.iload_n 1, 1) := by decide +kernel
theorem dX1_price_13 : decode cX1_price 13 = .ok (.iload 4, 2) := by decide +kernel
theorem dX1_price_15 : decode cX1_price 15 = .ok (.ishr, 1) := by decide +kernel
theorem dX1_price_16 : decode cX1_price 16 = .ok (.iconst 1, 1) := by decide +kernel
theorem dX1_price_17 : decode cX1_price 17 = .ok (.iand, 1) := by decide +kernel
theorem dX1_price_18 : decode cX1_price 18 = .ok (.ifCond .eq 7, 3) := by decide +kernel
theorem dX1_price_21 : decode cX1_price 21 = .ok (.iconst 1, 1) := by decide +kernel
theorem dX1_price_22 : decode cX1_price 22 = .ok (.goto 4, 3) := by decide +kernel
theorem dX1_price_25 : decode cX1_price 25 = .ok (.iconst 0, 1) := by decide +kernel
theorem dX1_price_26 : decode cX1_price 26 = .ok (.istore 5, 2) := by decide +kernel
theorem dX1_price_28 : decode cX1_price 28 = .ok (.iload 5, 2) := by decide +kernel
theorem dX1_price_30 : decode cX1_price 30 = .ok (.ifCond .eq 23, 3) := by decide +kernel
theorem dX1_price_33 : decode cX1_price 33 = .ok (.aload_n 0, 1) := by decide +kernel
theorem dX1_price_34 : decode cX1_price 34 = .ok (.getfield 19, 3) := by decide +kernel
theorem dX1_price_37 : decode cX1_price 37 = .ok (.iload 4, 2) := by decide +kernel
theorem dX1_price_39 : decode cX1_price 39 = .ok (.iaload, 1) := by decide +kernel
theorem dX1_price_40 : decode cX1_price 40 = .ok (.aload_n 0, 1) := by decide +kernel
theorem dX1_price_41 : decode cX1_price 41 = .ok (.getfield 22, 3) := by decide +kernel
theorem dX1_price_44 : decode cX1_price 44 = .ok (.iload 4, 2) := by decide +kernel
theorem dX1_price_46 : decode cX1_price 46 = .ok (.iaload, 1) := by decide +kernel
theorem dX1_price_47 : decode cX1_price 47 = .ok (.iload_n 2, 1) := by decide +kernel
theorem dX1_price_48 : decode cX1_price 48 = .ok (.imul, 1) := by decide +kernel
theorem dX1_price_49 : decode cX1_price 49 = .ok (.iadd, 1) := by decide +kernel
theorem dX1_price_50 : decode cX1_price 50 = .ok (.goto 20, 3) := by decide +kernel
theorem dX1_price_53 : decode cX1_price 53 = .ok (.aload_n 0, 1) := by decide +kernel
theorem dX1_price_54 : decode cX1_price 54 = .ok (.getfield 13, 3) := by decide +kernel
theorem dX1_price_57 : decode cX1_price 57 = .ok (.iload 4, 2) := by decide +kernel
theorem dX1_price_59 : decode cX1_price 59 = .ok (.iaload, 1) := by decide +kernel
theorem dX1_price_60 : decode cX1_price 60 = .ok (.aload_n 0, 1) := by decide +kernel
theorem dX1_price_61 : decode cX1_price 61 = .ok (.getfield 16, 3) := by decide +kernel
theorem dX1_price_64 : decode cX1_price 64 = .ok (.iload 4, 2) := by decide +kernel
theorem dX1_price_66 : decode cX1_price 66 = .ok (.iaload, 1) := by decide +kernel
theorem dX1_price_67 : decode cX1_price 67 = .ok (.iload_n 2, 1) := by decide +kernel
theorem dX1_price_68 : decode cX1_price 68 = .ok (.imul, 1) := by decide +kernel
theorem dX1_price_69 : decode cX1_price 69 = .ok (.iadd, 1) := by decide +kernel
theorem dX1_price_70 : decode cX1_price 70 = .ok (.istore 6, 2) := by decide +kernel
theorem dX1_price_72 : decode cX1_price 72 = .ok (.iload 6, 2) := by decide +kernel
theorem dX1_price_74 : decode cX1_price 74 = .ok (.ifCond .le 8, 3) := by decide +kernel
theorem dX1_price_77 : decode cX1_price 77 = .ok (.iload_n 3, 1) := by decide +kernel
theorem dX1_price_78 : decode cX1_price 78 = .ok (.iload 6, 2) := by decide +kernel
theorem dX1_price_80 : decode cX1_price 80 = .ok (.iadd, 1) := by decide +kernel
theorem dX1_price_81 : decode cX1_price 81 = .ok (.istore_n 3, 1) := by decide +kernel
theorem dX1_price_82 : decode cX1_price 82 = .ok (.iconst 0, 1) := by decide +kernel
theorem dX1_price_83 : decode cX1_price 83 = .ok (.istore 7, 2) := by decide +kernel
theorem dX1_price_85 : decode cX1_price 85 = .ok (.iload 7, 2) := by decide +kernel
theorem dX1_price_87 : decode cX1_price 87 = .ok (.iload 4, 2) := by decide +kernel
theorem dX1_price_89 : decode cX1_price 89 = .ok (.if_icmp .ge 40, 3) := by decide +kernel
theorem dX1_price_92 : decode cX1_price 92 = .ok (.iload_n 1, 1) := by decide +kernel
theorem dX1_price_93 : decode cX1_price 93 = .ok (.iload 7, 2) := by decide +kernel
theorem dX1_price_95 : decode cX1_price 95 = .ok (.ishr, 1) := by decide +kernel
theorem dX1_price_96 : decode cX1_price 96 = .ok (.iconst 1, 1) := by decide +kernel
theorem dX1_price_97 : decode cX1_price 97 = .ok (.iand, 1) := by decide +kernel
theorem dX1_price_98 : decode cX1_price 98 = .ok (.iload_n 1, 1) := by decide +kernel
theorem dX1_price_99 : decode cX1_price 99 = .ok (.iload 4, 2) := by decide +kernel
theorem dX1_price_101 : decode cX1_price 101 = .ok (.ishr, 1) := by decide +kernel
theorem dX1_price_102 : decode cX1_price 102 = .ok (.iconst 1, 1) := by decide +kernel
theorem dX1_price_103 : decode cX1_price 103 = .ok (.iand, 1) := by decide +kernel
theorem dX1_price_104 : decode cX1_price 104 = .ok (.if_icmp .eq 19, 3) := by decide +kernel
theorem dX1_price_107 : decode cX1_price 107 = .ok (.iload_n 3, 1) := by decide +kernel
theorem dX1_price_108 : decode cX1_price 108 = .ok (.aload_n 0, 1) := by decide +kernel
theorem dX1_price_109 : decode cX1_price 109 = .ok (.getfield 7, 3) := by decide +kernel
theorem dX1_price_112 : decode cX1_price 112 = .ok (.iload 7, 2) := by decide +kernel
theorem dX1_price_114 : decode cX1_price 114 = .ok (.bipush 7, 2) := by decide +kernel
theorem dX1_price_116 : decode cX1_price 116 = .ok (.imul, 1) := by decide +kernel
theorem dX1_price_117 : decode cX1_price 117 = .ok (.iload 4, 2) := by decide +kernel
theorem dX1_price_119 : decode cX1_price 119 = .ok (.iadd, 1) := by decide +kernel
theorem dX1_price_120 : decode cX1_price 120 = .ok (.iaload, 1) := by decide +kernel
theorem dX1_price_121 : decode cX1_price 121 = .ok (.iadd, 1) := by decide +kernel
theorem dX1_price_122 : decode cX1_price 122 = .ok (.istore_n 3, 1) := by decide +kernel
theorem dX1_price_123 : decode cX1_price 123 = .ok (.iinc 7 1, 3) := by decide +kernel
theorem dX1_price_126 : decode cX1_price 126 = .ok (.goto (-41), 3) := by decide +kernel
theorem dX1_price_129 : decode cX1_price 129 = .ok (.iinc 4 1, 3) := by decide +kernel
theorem dX1_price_132 : decode cX1_price 132 = .ok (.goto (-127), 3) := by decide +kernel
theorem dX1_price_135 : decode cX1_price 135 = .ok (.iload_n 3, 1) := by decide +kernel
theorem dX1_price_136 : decode cX1_price 136 = .ok (.ireturn, 1) := by decide +kernel
theorem dX1_least_0 : decode cX1_least 0 = .ok (.aload_n 0, 1) := by decide +kernel
theorem dX1_least_1 : decode cX1_least 1 = .ok (.iload_n 1, 1) := by decide +kernel
theorem dX1_least_2 : decode cX1_least 2 = .ok (.invokevirtual 37, 3) := by decide +kernel
theorem dX1_least_5 : decode cX1_least 5 = .ok (.ifCond .ne 6, 3) := by decide +kernel
theorem dX1_least_8 : decode cX1_least 8 = .ok (.bipush (-2), 2) := by decide +kernel
theorem dX1_least_10 : decode cX1_least 10 = .ok (.ireturn, 1) := by decide +kernel
theorem dX1_least_11 : decode cX1_least 11 = .ok (.aload_n 0, 1) := by decide +kernel
theorem dX1_least_12 : decode cX1_least 12 = .ok (.iconst 0, 1) := by decide +kernel
theorem dX1_least_13 : decode cX1_least 13 = .ok (.iload_n 1, 1) := by decide +kernel
theorem dX1_least_14 : decode cX1_least 14 = .ok (.invokevirtual 40, 3) := by decide +kernel
theorem dX1_least_17 : decode cX1_least 17 = .ok (.istore_n 2, 1) := by decide +kernel
theorem dX1_least_18 : decode cX1_least 18 = .ok (.iconst 1, 1) := by decide +kernel
theorem dX1_least_19 : decode cX1_least 19 = .ok (.istore_n 3, 1) := by decide +kernel
theorem dX1_least_20 : decode cX1_least 20 = .ok (.iload_n 3, 1) := by decide +kernel
theorem dX1_least_21 : decode cX1_least 21 = .ok (.sipush 128, 3) := by decide +kernel
theorem dX1_least_24 : decode cX1_least 24 = .ok (.if_icmp .ge 26, 3) := by decide +kernel
theorem dX1_least_27 : decode cX1_least 27 = .ok (.aload_n 0, 1) := by decide +kernel
theorem dX1_least_28 : decode cX1_least 28 = .ok (.iload_n 3, 1) := by decide +kernel
theorem dX1_least_29 : decode cX1_least 29 = .ok (.iload_n 1, 1) := by decide +kernel
theorem dX1_least_30 : decode cX1_least 30 = .ok (.invokevirtual 40, 3) := by decide +kernel
theorem dX1_least_33 : decode cX1_least 33 = .ok (.istore 4, 2) := by decide +kernel
theorem dX1_least_35 : decode cX1_least 35 = .ok (.iload 4, 2) := by decide +kernel
theorem dX1_least_37 : decode cX1_least 37 = .ok (.iload_n 2, 1) := by decide +kernel
theorem dX1_least_38 : decode cX1_least 38 = .ok (.if_icmp .ge 6, 3) := by decide +kernel
theorem dX1_least_41 : decode cX1_least 41 = .ok (.iload 4, 2) := by decide +kernel
theorem dX1_least_43 : decode cX1_least 43 = .ok (.istore_n 2, 1) := by decide +kernel
theorem dX1_least_44 : decode cX1_least 44 = .ok (.iinc 3 1, 3) := by decide +kernel
theorem dX1_least_47 : decode cX1_least 47 = .ok (.goto (-27), 3) := by decide +kernel
theorem dX1_least_50 : decode cX1_least 50 = .ok (.iload_n 2, 1) := by decide +kernel
theorem dX1_least_51 : decode cX1_least 51 = .ok (.ireturn, 1) := by decide +kernel
theorem dX1_always_0 : decode cX1_always 0 = .ok (.aload_n 0, 1) := by decide +kernel
theorem dX1_always_1 : decode cX1_always 1 = .ok (.iload_n 1, 1) := by decide +kernel
theorem dX1_always_2 : decode cX1_always 2 = .ok (.invokevirtual 37, 3) := by decide +kernel
theorem dX1_always_5 : decode cX1_always 5 = .ok (.ifCond .ne 6, 3) := by decide +kernel
theorem dX1_always_8 : decode cX1_always 8 = .ok (.bipush (-2), 2) := by decide +kernel
theorem dX1_always_10 : decode cX1_always 10 = .ok (.ireturn, 1) := by decide +kernel
theorem dX1_always_11 : decode cX1_always 11 = .ok (.bipush 127, 2) := by decide +kernel
theorem dX1_always_13 : decode cX1_always 13 = .ok (.istore_n 2, 1) := by decide +kernel
theorem dX1_always_14 : decode cX1_always 14 = .ok (.aload_n 0, 1) := by decide +kernel
theorem dX1_always_15 : decode cX1_always 15 = .ok (.iload_n 1, 1) := by decide +kernel
theorem dX1_always_16 : decode cX1_always 16 = .ok (.invokevirtual 44, 3) := by decide +kernel
theorem dX1_always_19 : decode cX1_always 19 = .ok (.istore_n 3, 1) := by decide +kernel
theorem dX1_always_20 : decode cX1_always 20 = .ok (.iconst 0, 1) := by decide +kernel
theorem dX1_always_21 : decode cX1_always 21 = .ok (.istore 4, 2) := by decide +kernel
theorem dX1_always_23 : decode cX1_always 23 = .ok (.iload 4, 2) := by decide +kernel
theorem dX1_always_25 : decode cX1_always 25 = .ok (.sipush 128, 3) := by decide +kernel
theorem dX1_always_28 : decode cX1_always 28 = .ok (.if_icmp .ge 25, 3) := by decide +kernel
theorem dX1_always_31 : decode cX1_always 31 = .ok (.aload_n 0, 1) := by decide +kernel
theorem dX1_always_32 : decode cX1_always 32 = .ok (.iload 4, 2) := by decide +kernel
theorem dX1_always_34 : decode cX1_always 34 = .ok (.iload_n 1, 1) := by decide +kernel
theorem dX1_always_35 : decode cX1_always 35 = .ok (.invokevirtual 40, 3) := by decide +kernel
theorem dX1_always_38 : decode cX1_always 38 = .ok (.iload_n 3, 1) := by decide +kernel
theorem dX1_always_39 : decode cX1_always 39 = .ok (.if_icmp .ne 8, 3) := by decide +kernel
theorem dX1_always_42 : decode cX1_always 42 = .ok (.iload_n 2, 1) := by decide +kernel
theorem dX1_always_43 : decode cX1_always 43 = .ok (.iload 4, 2) := by decide +kernel
theorem dX1_always_45 : decode cX1_always 45 = .ok (.iand, 1) := by decide +kernel
theorem dX1_always_46 : decode cX1_always 46 = .ok (.istore_n 2, 1) := by decide +kernel
theorem dX1_always_47 : decode cX1_always 47 = .ok (.iinc 4 1, 3) := by decide +kernel
theorem dX1_always_50 : decode cX1_always 50 = .ok (.goto (-27), 3) := by decide +kernel
theorem dX1_always_53 : decode cX1_always 53 = .ok (.iload_n 2, 1) := by decide +kernel
theorem dX1_always_54 : decode cX1_always 54 = .ok (.ireturn, 1) := by decide +kernel
theorem dX1_ever_0 : decode cX1_ever 0 = .ok (.aload_n 0, 1) := by decide +kernel
theorem dX1_ever_1 : decode cX1_ever 1 = .ok (.iload_n 1, 1) := by decide +kernel
theorem dX1_ever_2 : decode cX1_ever 2 = .ok (.invokevirtual 37, 3) := by decide +kernel
theorem dX1_ever_5 : decode cX1_ever 5 = .ok (.ifCond .ne 6, 3) := by decide +kernel
theorem dX1_ever_8 : decode cX1_ever 8 = .ok (.bipush (-2), 2) := by decide +kernel
theorem dX1_ever_10 : decode cX1_ever 10 = .ok (.ireturn, 1) := by decide +kernel
theorem dX1_ever_11 : decode cX1_ever 11 = .ok (.iconst 0, 1) := by decide +kernel
theorem dX1_ever_12 : decode cX1_ever 12 = .ok (.istore_n 2, 1) := by decide +kernel
theorem dX1_ever_13 : decode cX1_ever 13 = .ok (.aload_n 0, 1) := by decide +kernel
theorem dX1_ever_14 : decode cX1_ever 14 = .ok (.iload_n 1, 1) := by decide +kernel
theorem dX1_ever_15 : decode cX1_ever 15 = .ok (.invokevirtual 44, 3) := by decide +kernel
theorem dX1_ever_18 : decode cX1_ever 18 = .ok (.istore_n 3, 1) := by decide +kernel
theorem dX1_ever_19 : decode cX1_ever 19 = .ok (.iconst 0, 1) := by decide +kernel
theorem dX1_ever_20 : decode cX1_ever 20 = .ok (.istore 4, 2) := by decide +kernel
theorem dX1_ever_22 : decode cX1_ever 22 = .ok (.iload 4, 2) := by decide +kernel
theorem dX1_ever_24 : decode cX1_ever 24 = .ok (.sipush 128, 3) := by decide +kernel
theorem dX1_ever_27 : decode cX1_ever 27 = .ok (.if_icmp .ge 25, 3) := by decide +kernel
theorem dX1_ever_30 : decode cX1_ever 30 = .ok (.aload_n 0, 1) := by decide +kernel
theorem dX1_ever_31 : decode cX1_ever 31 = .ok (.iload 4, 2) := by decide +kernel
theorem dX1_ever_33 : decode cX1_ever 33 = .ok (.iload_n 1, 1) := by decide +kernel
theorem dX1_ever_34 : decode cX1_ever 34 = .ok (.invokevirtual 40, 3) := by decide +kernel
theorem dX1_ever_37 : decode cX1_ever 37 = .ok (.iload_n 3, 1) := by decide +kernel
theorem dX1_ever_38 : decode cX1_ever 38 = .ok (.if_icmp .ne 8, 3) := by decide +kernel
theorem dX1_ever_41 : decode cX1_ever 41 = .ok (.iload_n 2, 1) := by decide +kernel
theorem dX1_ever_42 : decode cX1_ever 42 = .ok (.iload 4, 2) := by decide +kernel
theorem dX1_ever_44 : decode cX1_ever 44 = .ok (.ior, 1) := by decide +kernel
theorem dX1_ever_45 : decode cX1_ever 45 = .ok (.istore_n 2, 1) := by decide +kernel
theorem dX1_ever_46 : decode cX1_ever 46 = .ok (.iinc 4 1, 3) := by decide +kernel
theorem dX1_ever_49 : decode cX1_ever 49 = .ok (.goto (-27), 3) := by decide +kernel
theorem dX1_ever_52 : decode cX1_ever 52 = .ok (.iload_n 2, 1) := by decide +kernel
theorem dX1_ever_53 : decode cX1_ever 53 = .ok (.ireturn, 1) := by decide +kernel
theorem dX1_ties_0 : decode cX1_ties 0 = .ok (.aload_n 0, 1) := by decide +kernel
theorem dX1_ties_1 : decode cX1_ties 1 = .ok (.iload_n 1, 1) := by decide +kernel
theorem dX1_ties_2 : decode cX1_ties 2 = .ok (.invokevirtual 37, 3) := by decide +kernel
theorem dX1_ties_5 : decode cX1_ties 5 = .ok (.ifCond .ne 6, 3) := by decide +kernel
theorem dX1_ties_8 : decode cX1_ties 8 = .ok (.bipush (-2), 2) := by decide +kernel
theorem dX1_ties_10 : decode cX1_ties 10 = .ok (.ireturn, 1) := by decide +kernel
theorem dX1_ties_11 : decode cX1_ties 11 = .ok (.iconst 0, 1) := by decide +kernel
theorem dX1_ties_12 : decode cX1_ties 12 = .ok (.istore_n 2, 1) := by decide +kernel
theorem dX1_ties_13 : decode cX1_ties 13 = .ok (.aload_n 0, 1) := by decide +kernel
theorem dX1_ties_14 : decode cX1_ties 14 = .ok (.iload_n 1, 1) := by decide +kernel
theorem dX1_ties_15 : decode cX1_ties 15 = .ok (.invokevirtual 44, 3) := by decide +kernel
theorem dX1_ties_18 : decode cX1_ties 18 = .ok (.istore_n 3, 1) := by decide +kernel
theorem dX1_ties_19 : decode cX1_ties 19 = .ok (.iconst 0, 1) := by decide +kernel
theorem dX1_ties_20 : decode cX1_ties 20 = .ok (.istore 4, 2) := by decide +kernel
theorem dX1_ties_22 : decode cX1_ties 22 = .ok (.iload 4, 2) := by decide +kernel
theorem dX1_ties_24 : decode cX1_ties 24 = .ok (.sipush 128, 3) := by decide +kernel
theorem dX1_ties_27 : decode cX1_ties 27 = .ok (.if_icmp .ge 23, 3) := by decide +kernel
theorem dX1_ties_30 : decode cX1_ties 30 = .ok (.aload_n 0, 1) := by decide +kernel
theorem dX1_ties_31 : decode cX1_ties 31 = .ok (.iload 4, 2) := by decide +kernel
theorem dX1_ties_33 : decode cX1_ties 33 = .ok (.iload_n 1, 1) := by decide +kernel
theorem dX1_ties_34 : decode cX1_ties 34 = .ok (.invokevirtual 40, 3) := by decide +kernel
theorem dX1_ties_37 : decode cX1_ties 37 = .ok (.iload_n 3, 1) := by decide +kernel
theorem dX1_ties_38 : decode cX1_ties 38 = .ok (.if_icmp .ne 6, 3) := by decide +kernel
theorem dX1_ties_41 : decode cX1_ties 41 = .ok (.iinc 2 1, 3) := by decide +kernel
theorem dX1_ties_44 : decode cX1_ties 44 = .ok (.iinc 4 1, 3) := by decide +kernel
theorem dX1_ties_47 : decode cX1_ties 47 = .ok (.goto (-25), 3) := by decide +kernel
theorem dX1_ties_50 : decode cX1_ties 50 = .ok (.iload_n 2, 1) := by decide +kernel
theorem dX1_ties_51 : decode cX1_ties 51 = .ok (.ireturn, 1) := by decide +kernel
theorem dX1_stages_0 : decode cX1_stages 0 = .ok (.iconst 0, 1) := by decide +kernel
theorem dX1_stages_1 : decode cX1_stages 1 = .ok (.istore_n 1, 1) := by decide +kernel
theorem dX1_stages_2 : decode cX1_stages 2 = .ok (.iconst 0, 1) := by decide +kernel
theorem dX1_stages_3 : decode cX1_stages 3 = .ok (.istore_n 2, 1) := by decide +kernel
theorem dX1_stages_4 : decode cX1_stages 4 = .ok (.iload_n 2, 1) := by decide +kernel
theorem dX1_stages_5 : decode cX1_stages 5 = .ok (.sipush 128, 3) := by decide +kernel
theorem dX1_stages_8 : decode cX1_stages 8 = .ok (.if_icmp .ge 16, 3) := by decide +kernel
theorem dX1_stages_11 : decode cX1_stages 11 = .ok (.aload_n 0, 1) := by decide +kernel
theorem dX1_stages_12 : decode cX1_stages 12 = .ok (.getfield 25, 3) := by decide +kernel
theorem dX1_stages_15 : decode cX1_stages 15 = .ok (.iload_n 2, 1) := by decide +kernel
theorem dX1_stages_16 : decode cX1_stages 16 = .ok (.iconst 0, 1) := by decide +kernel
theorem dX1_stages_17 : decode cX1_stages 17 = .ok (.bastore, 1) := by decide +kernel
theorem dX1_stages_18 : decode cX1_stages 18 = .ok (.iinc 2 1, 3) := by decide +kernel
theorem dX1_stages_21 : decode cX1_stages 21 = .ok (.goto (-17), 3) := by decide +kernel
theorem dX1_stages_24 : decode cX1_stages 24 = .ok (.iconst 0, 1) := by decide +kernel
theorem dX1_stages_25 : decode cX1_stages 25 = .ok (.istore_n 2, 1) := by decide +kernel
theorem dX1_stages_26 : decode cX1_stages 26 = .ok (.iload_n 2, 1) := by decide +kernel
theorem dX1_stages_27 : decode cX1_stages 27 = .ok (.bipush 50, 2) := by decide +kernel
theorem dX1_stages_29 : decode cX1_stages 29 = .ok (.if_icmp .gt 34, 3) := by decide +kernel
theorem dX1_stages_32 : decode cX1_stages 32 = .ok (.aload_n 0, 1) := by decide +kernel
theorem dX1_stages_33 : decode cX1_stages 33 = .ok (.iload_n 2, 1) := by decide +kernel
theorem dX1_stages_34 : decode cX1_stages 34 = .ok (.invokevirtual 48, 3) := by decide +kernel
theorem dX1_stages_37 : decode cX1_stages 37 = .ok (.istore_n 3, 1) := by decide +kernel
theorem dX1_stages_38 : decode cX1_stages 38 = .ok (.aload_n 0, 1) := by decide +kernel
theorem dX1_stages_39 : decode cX1_stages 39 = .ok (.getfield 25, 3) := by decide +kernel
theorem dX1_stages_42 : decode cX1_stages 42 = .ok (.iload_n 3, 1) := by decide +kernel
theorem dX1_stages_43 : decode cX1_stages 43 = .ok (.baload, 1) := by decide +kernel
theorem dX1_stages_44 : decode cX1_stages 44 = .ok (.ifCond .ne 6, 3) := by decide +kernel
theorem dX1_stages_47 : decode cX1_stages 47 = .ok (.iinc 1 1, 3) := by decide +kernel
theorem dX1_stages_50 : decode cX1_stages 50 = .ok (.aload_n 0, 1) := by decide +kernel
theorem dX1_stages_51 : decode cX1_stages 51 = .ok (.getfield 25, 3) := by decide +kernel
theorem dX1_stages_54 : decode cX1_stages 54 = .ok (.iload_n 3, 1) := by decide +kernel
theorem dX1_stages_55 : decode cX1_stages 55 = .ok (.iconst 1, 1) := by decide +kernel
theorem dX1_stages_56 : decode cX1_stages 56 = .ok (.bastore, 1) := by decide +kernel
theorem dX1_stages_57 : decode cX1_stages 57 = .ok (.iinc 2 1, 3) := by decide +kernel
theorem dX1_stages_60 : decode cX1_stages 60 = .ok (.goto (-34), 3) := by decide +kernel
theorem dX1_stages_63 : decode cX1_stages 63 = .ok (.iload_n 1, 1) := by decide +kernel
theorem dX1_stages_64 : decode cX1_stages 64 = .ok (.ireturn, 1) := by decide +kernel
theorem dX1_worst_0 : decode cX1_worst 0 = .ok (.iconst 0, 1) := by decide +kernel
theorem dX1_worst_1 : decode cX1_worst 1 = .ok (.istore_n 1, 1) := by decide +kernel
theorem dX1_worst_2 : decode cX1_worst 2 = .ok (.aload_n 0, 1) := by decide +kernel
theorem dX1_worst_3 : decode cX1_worst 3 = .ok (.iconst 0, 1) := by decide +kernel
theorem dX1_worst_4 : decode cX1_worst 4 = .ok (.invokevirtual 44, 3) := by decide +kernel
theorem dX1_worst_7 : decode cX1_worst 7 = .ok (.istore_n 2, 1) := by decide +kernel
theorem dX1_worst_8 : decode cX1_worst 8 = .ok (.iconst 1, 1) := by decide +kernel
theorem dX1_worst_9 : decode cX1_worst 9 = .ok (.istore_n 3, 1) := by decide +kernel
theorem dX1_worst_10 : decode cX1_worst 10 = .ok (.iload_n 3, 1) := by decide +kernel
theorem dX1_worst_11 : decode cX1_worst 11 = .ok (.bipush 50, 2) := by decide +kernel
theorem dX1_worst_13 : decode cX1_worst 13 = .ok (.if_icmp .gt 27, 3) := by decide +kernel
theorem dX1_worst_16 : decode cX1_worst 16 = .ok (.aload_n 0, 1) := by decide +kernel
theorem dX1_worst_17 : decode cX1_worst 17 = .ok (.iload_n 3, 1) := by decide +kernel
theorem dX1_worst_18 : decode cX1_worst 18 = .ok (.invokevirtual 44, 3) := by decide +kernel
theorem dX1_worst_21 : decode cX1_worst 21 = .ok (.istore 4, 2) := by decide +kernel
theorem dX1_worst_23 : decode cX1_worst 23 = .ok (.iload 4, 2) := by decide +kernel
theorem dX1_worst_25 : decode cX1_worst 25 = .ok (.iload_n 2, 1) := by decide +kernel
theorem dX1_worst_26 : decode cX1_worst 26 = .ok (.if_icmp .le 8, 3) := by decide +kernel
theorem dX1_worst_29 : decode cX1_worst 29 = .ok (.iload 4, 2) := by decide +kernel
theorem dX1_worst_31 : decode cX1_worst 31 = .ok (.istore_n 2, 1) := by decide +kernel
theorem dX1_worst_32 : decode cX1_worst 32 = .ok (.iload_n 3, 1) := by decide +kernel
theorem dX1_worst_33 : decode cX1_worst 33 = .ok (.istore_n 1, 1) := by decide +kernel
theorem dX1_worst_34 : decode cX1_worst 34 = .ok (.iinc 3 1, 3) := by decide +kernel
theorem dX1_worst_37 : decode cX1_worst 37 = .ok (.goto (-27), 3) := by decide +kernel
theorem dX1_worst_40 : decode cX1_worst 40 = .ok (.iload_n 1, 1) := by decide +kernel
theorem dX1_worst_41 : decode cX1_worst 41 = .ok (.ireturn, 1) := by decide +kernel
theorem dX1_spare_0 : decode cX1_spare 0 = .ok (.aload_n 0, 1) := by decide +kernel
theorem dX1_spare_1 : decode cX1_spare 1 = .ok (.iload_n 1, 1) := by decide +kernel
theorem dX1_spare_2 : decode cX1_spare 2 = .ok (.invokevirtual 29, 3) := by decide +kernel
theorem dX1_spare_5 : decode cX1_spare 5 = .ok (.ifCond .eq 16, 3) := by decide +kernel
theorem dX1_spare_8 : decode cX1_spare 8 = .ok (.aload_n 0, 1) := by decide +kernel
theorem dX1_spare_9 : decode cX1_spare 9 = .ok (.iload_n 2, 1) := by decide +kernel
theorem dX1_spare_10 : decode cX1_spare 10 = .ok (.invokevirtual 29, 3) := by decide +kernel
theorem dX1_spare_13 : decode cX1_spare 13 = .ok (.ifCond .eq 8, 3) := by decide +kernel
theorem dX1_spare_16 : decode cX1_spare 16 = .ok (.iload_n 1, 1) := by decide +kernel
theorem dX1_spare_17 : decode cX1_spare 17 = .ok (.iload_n 2, 1) := by decide +kernel
theorem dX1_spare_18 : decode cX1_spare 18 = .ok (.if_icmp .ne 5, 3) := by decide +kernel
theorem dX1_spare_21 : decode cX1_spare 21 = .ok (.iconst (-1), 1) := by decide +kernel
theorem dX1_spare_22 : decode cX1_spare 22 = .ok (.ireturn, 1) := by decide +kernel
theorem dX1_spare_23 : decode cX1_spare 23 = .ok (.aload_n 0, 1) := by decide +kernel
theorem dX1_spare_24 : decode cX1_spare 24 = .ok (.iload_n 3, 1) := by decide +kernel
theorem dX1_spare_25 : decode cX1_spare 25 = .ok (.invokevirtual 37, 3) := by decide +kernel
theorem dX1_spare_28 : decode cX1_spare 28 = .ok (.ifCond .ne 6, 3) := by decide +kernel
theorem dX1_spare_31 : decode cX1_spare 31 = .ok (.bipush (-2), 2) := by decide +kernel
theorem dX1_spare_33 : decode cX1_spare 33 = .ok (.ireturn, 1) := by decide +kernel
theorem dX1_spare_34 : decode cX1_spare 34 = .ok (.aload_n 0, 1) := by decide +kernel
theorem dX1_spare_35 : decode cX1_spare 35 = .ok (.getfield 7, 3) := by decide +kernel
theorem dX1_spare_38 : decode cX1_spare 38 = .ok (.iload_n 1, 1) := by decide +kernel
theorem dX1_spare_39 : decode cX1_spare 39 = .ok (.bipush 7, 2) := by decide +kernel
theorem dX1_spare_41 : decode cX1_spare 41 = .ok (.imul, 1) := by decide +kernel
theorem dX1_spare_42 : decode cX1_spare 42 = .ok (.iload_n 2, 1) := by decide +kernel
theorem dX1_spare_43 : decode cX1_spare 43 = .ok (.iadd, 1) := by decide +kernel
theorem dX1_spare_44 : decode cX1_spare 44 = .ok (.iaload, 1) := by decide +kernel
theorem dX1_spare_45 : decode cX1_spare 45 = .ok (.istore 4, 2) := by decide +kernel
theorem dX1_spare_47 : decode cX1_spare 47 = .ok (.aload_n 0, 1) := by decide +kernel
theorem dX1_spare_48 : decode cX1_spare 48 = .ok (.iload_n 3, 1) := by decide +kernel
theorem dX1_spare_49 : decode cX1_spare 49 = .ok (.invokevirtual 44, 3) := by decide +kernel
theorem dX1_spare_52 : decode cX1_spare 52 = .ok (.istore 5, 2) := by decide +kernel
theorem dX1_spare_54 : decode cX1_spare 54 = .ok (.iconst 0, 1) := by decide +kernel
theorem dX1_spare_55 : decode cX1_spare 55 = .ok (.istore 6, 2) := by decide +kernel
theorem dX1_spare_57 : decode cX1_spare 57 = .ok (.iconst 1, 1) := by decide +kernel
theorem dX1_spare_58 : decode cX1_spare 58 = .ok (.istore 7, 2) := by decide +kernel
theorem dX1_spare_60 : decode cX1_spare 60 = .ok (.iload 7, 2) := by decide +kernel
theorem dX1_spare_62 : decode cX1_spare 62 = .ok (.ifCond .eq 52, 3) := by decide +kernel
theorem dX1_spare_65 : decode cX1_spare 65 = .ok (.iload 6, 2) := by decide +kernel
theorem dX1_spare_67 : decode cX1_spare 67 = .ok (.iload 4, 2) := by decide +kernel
theorem dX1_spare_69 : decode cX1_spare 69 = .ok (.if_icmp .ge 45, 3) := by decide +kernel
theorem dX1_spare_72 : decode cX1_spare 72 = .ok (.aload_n 0, 1) := by decide +kernel
theorem dX1_spare_73 : decode cX1_spare 73 = .ok (.iload_n 1, 1) := by decide +kernel
theorem dX1_spare_74 : decode cX1_spare 74 = .ok (.iload_n 2, 1) := by decide +kernel
theorem dX1_spare_75 : decode cX1_spare 75 = .ok (.iload 4, 2) := by decide +kernel
theorem dX1_spare_77 : decode cX1_spare 77 = .ok (.iload 6, 2) := by decide +kernel
theorem dX1_spare_79 : decode cX1_spare 79 = .ok (.isub, 1) := by decide +kernel
theorem dX1_spare_80 : decode cX1_spare 80 = .ok (.iconst 1, 1) := by decide +kernel
theorem dX1_spare_81 : decode cX1_spare 81 = .ok (.isub, 1) := by decide +kernel
theorem dX1_spare_82 : decode cX1_spare 82 = .ok (.invokevirtual 51, 3) := by decide +kernel
theorem dX1_spare_85 : decode cX1_spare 85 = .ok (.pop, 1) := by decide +kernel
theorem dX1_spare_86 : decode cX1_spare 86 = .ok (.aload_n 0, 1) := by decide +kernel
theorem dX1_spare_87 : decode cX1_spare 87 = .ok (.iload_n 3, 1) := by decide +kernel
theorem dX1_spare_88 : decode cX1_spare 88 = .ok (.invokevirtual 44, 3) := by decide +kernel
theorem dX1_spare_91 : decode cX1_spare 91 = .ok (.iload 5, 2) := by decide +kernel
theorem dX1_spare_93 : decode cX1_spare 93 = .ok (.if_icmp .ne 7, 3) := by decide +kernel
theorem dX1_spare_96 : decode cX1_spare 96 = .ok (.iconst 1, 1) := by decide +kernel
theorem dX1_spare_97 : decode cX1_spare 97 = .ok (.goto 4, 3) := by decide +kernel
theorem dX1_spare_100 : decode cX1_spare 100 = .ok (.iconst 0, 1) := by decide +kernel
theorem dX1_spare_101 : decode cX1_spare 101 = .ok (.istore 7, 2) := by decide +kernel
theorem dX1_spare_103 : decode cX1_spare 103 = .ok (.iload 7, 2) := by decide +kernel
theorem dX1_spare_105 : decode cX1_spare 105 = .ok (.ifCond .eq (-45), 3) := by decide +kernel
theorem dX1_spare_108 : decode cX1_spare 108 = .ok (.iinc 6 1, 3) := by decide +kernel
theorem dX1_spare_111 : decode cX1_spare 111 = .ok (.goto (-51), 3) := by decide +kernel
theorem dX1_spare_114 : decode cX1_spare 114 = .ok (.aload_n 0, 1) := by decide +kernel
theorem dX1_spare_115 : decode cX1_spare 115 = .ok (.iload_n 1, 1) := by decide +kernel
theorem dX1_spare_116 : decode cX1_spare 116 = .ok (.iload_n 2, 1) := by decide +kernel
theorem dX1_spare_117 : decode cX1_spare 117 = .ok (.iload 4, 2) := by decide +kernel
theorem dX1_spare_119 : decode cX1_spare 119 = .ok (.invokevirtual 51, 3) := by decide +kernel
theorem dX1_spare_122 : decode cX1_spare 122 = .ok (.pop, 1) := by decide +kernel
theorem dX1_spare_123 : decode cX1_spare 123 = .ok (.iload 6, 2) := by decide +kernel
theorem dX1_spare_125 : decode cX1_spare 125 = .ok (.ireturn, 1) := by decide +kernel
theorem dX1_separates_0 : decode cX1_separates 0 = .ok (.aload_n 0, 1) := by decide +kernel
theorem dX1_separates_1 : decode cX1_separates 1 = .ok (.iload_n 1, 1) := by decide +kernel
theorem dX1_separates_2 : decode cX1_separates 2 = .ok (.invokevirtual 29, 3) := by decide +kernel
theorem dX1_separates_5 : decode cX1_separates 5 = .ok (.ifCond .eq 24, 3) := by decide +kernel
theorem dX1_separates_8 : decode cX1_separates 8 = .ok (.aload_n 0, 1) := by decide +kernel
theorem dX1_separates_9 : decode cX1_separates 9 = .ok (.iload_n 2, 1) := by decide +kernel
theorem dX1_separates_10 : decode cX1_separates 10 = .ok (.invokevirtual 29, 3) := by decide +kernel
theorem dX1_separates_13 : decode cX1_separates 13 = .ok (.ifCond .eq 16, 3) := by decide +kernel
theorem dX1_separates_16 : decode cX1_separates 16 = .ok (.iload_n 1, 1) := by decide +kernel
theorem dX1_separates_17 : decode cX1_separates 17 = .ok (.iload_n 2, 1) := by decide +kernel
theorem dX1_separates_18 : decode cX1_separates 18 = .ok (.if_icmp .eq 11, 3) := by decide +kernel
theorem dX1_separates_21 : decode cX1_separates 21 = .ok (.aload_n 0, 1) := by decide +kernel
theorem dX1_separates_22 : decode cX1_separates 22 = .ok (.iload_n 3, 1) := by decide +kernel
theorem dX1_separates_23 : decode cX1_separates 23 = .ok (.invokevirtual 37, 3) := by decide +kernel
theorem dX1_separates_26 : decode cX1_separates 26 = .ok (.ifCond .ne 5, 3) := by decide +kernel
theorem dX1_separates_29 : decode cX1_separates 29 = .ok (.iconst 0, 1) := by decide +kernel
theorem dX1_separates_30 : decode cX1_separates 30 = .ok (.ireturn, 1) := by decide +kernel
theorem dX1_separates_31 : decode cX1_separates 31 = .ok (.aload_n 0, 1) := by decide +kernel
theorem dX1_separates_32 : decode cX1_separates 32 = .ok (.iload_n 3, 1) := by decide +kernel
theorem dX1_separates_33 : decode cX1_separates 33 = .ok (.invokevirtual 44, 3) := by decide +kernel
theorem dX1_separates_36 : decode cX1_separates 36 = .ok (.istore 4, 2) := by decide +kernel
theorem dX1_separates_38 : decode cX1_separates 38 = .ok (.iconst 0, 1) := by decide +kernel
theorem dX1_separates_39 : decode cX1_separates 39 = .ok (.istore 5, 2) := by decide +kernel
theorem dX1_separates_41 : decode cX1_separates 41 = .ok (.iload 5, 2) := by decide +kernel
theorem dX1_separates_43 : decode cX1_separates 43 = .ok (.sipush 128, 3) := by decide +kernel
theorem dX1_separates_46 : decode cX1_separates 46 = .ok (.if_icmp .ge 41, 3) := by decide +kernel
theorem dX1_separates_49 : decode cX1_separates 49 = .ok (.iload 5, 2) := by decide +kernel
theorem dX1_separates_51 : decode cX1_separates 51 = .ok (.iload_n 1, 1) := by decide +kernel
theorem dX1_separates_52 : decode cX1_separates 52 = .ok (.ishr, 1) := by decide +kernel
theorem dX1_separates_53 : decode cX1_separates 53 = .ok (.iconst 1, 1) := by decide +kernel
theorem dX1_separates_54 : decode cX1_separates 54 = .ok (.iand, 1) := by decide +kernel
theorem dX1_separates_55 : decode cX1_separates 55 = .ok (.ifCond .eq 26, 3) := by decide +kernel
theorem dX1_separates_58 : decode cX1_separates 58 = .ok (.iload 5, 2) := by decide +kernel
theorem dX1_separates_60 : decode cX1_separates 60 = .ok (.iload_n 2, 1) := by decide +kernel
theorem dX1_separates_61 : decode cX1_separates 61 = .ok (.ishr, 1) := by decide +kernel
theorem dX1_separates_62 : decode cX1_separates 62 = .ok (.iconst 1, 1) := by decide +kernel
theorem dX1_separates_63 : decode cX1_separates 63 = .ok (.iand, 1) := by decide +kernel
theorem dX1_separates_64 : decode cX1_separates 64 = .ok (.ifCond .ne 17, 3) := by decide +kernel
theorem dX1_separates_67 : decode cX1_separates 67 = .ok (.aload_n 0, 1) := by decide +kernel
theorem dX1_separates_68 : decode cX1_separates 68 = .ok (.iload 5, 2) := by decide +kernel
theorem dX1_separates_70 : decode cX1_separates 70 = .ok (.iload_n 3, 1) := by decide +kernel
theorem dX1_separates_71 : decode cX1_separates 71 = .ok (.invokevirtual 40, 3) := by decide +kernel
theorem dX1_separates_74 : decode cX1_separates 74 = .ok (.iload 4, 2) := by decide +kernel
theorem dX1_separates_76 : decode cX1_separates 76 = .ok (.if_icmp .ne 5, 3) := by decide +kernel
theorem dX1_separates_79 : decode cX1_separates 79 = .ok (.iconst 1, 1) := by decide +kernel
theorem dX1_separates_80 : decode cX1_separates 80 = .ok (.ireturn, 1) := by decide +kernel
theorem dX1_separates_81 : decode cX1_separates 81 = .ok (.iinc 5 1, 3) := by decide +kernel
theorem dX1_separates_84 : decode cX1_separates 84 = .ok (.goto (-43), 3) := by decide +kernel
theorem dX1_separates_87 : decode cX1_separates 87 = .ok (.iconst 0, 1) := by decide +kernel
theorem dX1_separates_88 : decode cX1_separates 88 = .ok (.ireturn, 1) := by decide +kernel
end
section
/-! the law's own entry -/
set_option maxRecDepth 100000
abbrev cL_law : ByteArray := code
theorem dL_law_0 : decode cL_law 0 = .ok (.new 7, 3) := by decide +kernel
theorem dL_law_3 : decode cL_law 3 = .ok (.dup, 1) := by decide +kernel
theorem dL_law_4 : decode cL_law 4 = .ok (.invokespecial 9, 3) := by decide +kernel
theorem dL_law_7 : decode cL_law 7 = .ok (.astore_n 1, 1) := by decide +kernel
theorem dL_law_8 : decode cL_law 8 = .ok (.new 10, 3) := by decide +kernel
theorem dL_law_11 : decode cL_law 11 = .ok (.dup, 1) := by decide +kernel
theorem dL_law_12 : decode cL_law 12 = .ok (.invokespecial 12, 3) := by decide +kernel
theorem dL_law_15 : decode cL_law 15 = .ok (.astore_n 2, 1) := by decide +kernel
theorem dL_law_16 : decode cL_law 16 = .ok (.iconst 0, 1) := by decide +kernel
theorem dL_law_17 : decode cL_law 17 = .ok (.istore_n 3, 1) := by decide +kernel
theorem dL_law_18 : decode cL_law 18 = .ok (.iload_n 3, 1) := by decide +kernel
theorem dL_law_19 : decode cL_law 19 = .ok (.aload_n 0, 1) := by decide +kernel
theorem dL_law_20 : decode cL_law 20 = .ok (.arraylength, 1) := by decide +kernel
theorem dL_law_21 : decode cL_law 21 = .ok (.iconst 4, 1) := by decide +kernel
theorem dL_law_22 : decode cL_law 22 = .ok (.isub, 1) := by decide +kernel
theorem dL_law_23 : decode cL_law 23 = .ok (.if_icmp .gt 460, 3) := by decide +kernel
theorem dL_law_26 : decode cL_law 26 = .ok (.aload_n 0, 1) := by decide +kernel
theorem dL_law_27 : decode cL_law 27 = .ok (.iload_n 3, 1) := by decide +kernel
theorem dL_law_28 : decode cL_law 28 = .ok (.iaload, 1) := by decide +kernel
theorem dL_law_29 : decode cL_law 29 = .ok (.bipush 15, 2) := by decide +kernel
theorem dL_law_31 : decode cL_law 31 = .ok (.iand, 1) := by decide +kernel
theorem dL_law_32 : decode cL_law 32 = .ok (.tableswitch 445 0 12 #[68, 111, 154, 197, 208, 241, 264, 287, 310, 333, 346, 359, 402], 68) := by decide +kernel
theorem dL_law_100 : decode cL_law 100 = .ok (.aload_n 1, 1) := by decide +kernel
theorem dL_law_101 : decode cL_law 101 = .ok (.aload_n 0, 1) := by decide +kernel
theorem dL_law_102 : decode cL_law 102 = .ok (.iload_n 3, 1) := by decide +kernel
theorem dL_law_103 : decode cL_law 103 = .ok (.iconst 1, 1) := by decide +kernel
theorem dL_law_104 : decode cL_law 104 = .ok (.iadd, 1) := by decide +kernel
theorem dL_law_105 : decode cL_law 105 = .ok (.iaload, 1) := by decide +kernel
theorem dL_law_106 : decode cL_law 106 = .ok (.aload_n 0, 1) := by decide +kernel
theorem dL_law_107 : decode cL_law 107 = .ok (.iload_n 3, 1) := by decide +kernel
theorem dL_law_108 : decode cL_law 108 = .ok (.iconst 2, 1) := by decide +kernel
theorem dL_law_109 : decode cL_law 109 = .ok (.iadd, 1) := by decide +kernel
theorem dL_law_110 : decode cL_law 110 = .ok (.iaload, 1) := by decide +kernel
theorem dL_law_111 : decode cL_law 111 = .ok (.aload_n 0, 1) := by decide +kernel
theorem dL_law_112 : decode cL_law 112 = .ok (.iload_n 3, 1) := by decide +kernel
theorem dL_law_113 : decode cL_law 113 = .ok (.iconst 3, 1) := by decide +kernel
theorem dL_law_114 : decode cL_law 114 = .ok (.iadd, 1) := by decide +kernel
theorem dL_law_115 : decode cL_law 115 = .ok (.iaload, 1) := by decide +kernel
theorem dL_law_116 : decode cL_law 116 = .ok (.invokevirtual 13, 3) := by decide +kernel
theorem dL_law_119 : decode cL_law 119 = .ok (.aload_n 2, 1) := by decide +kernel
theorem dL_law_120 : decode cL_law 120 = .ok (.aload_n 0, 1) := by decide +kernel
theorem dL_law_121 : decode cL_law 121 = .ok (.iload_n 3, 1) := by decide +kernel
theorem dL_law_122 : decode cL_law 122 = .ok (.iconst 1, 1) := by decide +kernel
theorem dL_law_123 : decode cL_law 123 = .ok (.iadd, 1) := by decide +kernel
theorem dL_law_124 : decode cL_law 124 = .ok (.iaload, 1) := by decide +kernel
theorem dL_law_125 : decode cL_law 125 = .ok (.aload_n 0, 1) := by decide +kernel
theorem dL_law_126 : decode cL_law 126 = .ok (.iload_n 3, 1) := by decide +kernel
theorem dL_law_127 : decode cL_law 127 = .ok (.iconst 2, 1) := by decide +kernel
theorem dL_law_128 : decode cL_law 128 = .ok (.iadd, 1) := by decide +kernel
theorem dL_law_129 : decode cL_law 129 = .ok (.iaload, 1) := by decide +kernel
theorem dL_law_130 : decode cL_law 130 = .ok (.aload_n 0, 1) := by decide +kernel
theorem dL_law_131 : decode cL_law 131 = .ok (.iload_n 3, 1) := by decide +kernel
theorem dL_law_132 : decode cL_law 132 = .ok (.iconst 3, 1) := by decide +kernel
theorem dL_law_133 : decode cL_law 133 = .ok (.iadd, 1) := by decide +kernel
theorem dL_law_134 : decode cL_law 134 = .ok (.iaload, 1) := by decide +kernel
theorem dL_law_135 : decode cL_law 135 = .ok (.invokevirtual 17, 3) := by decide +kernel
theorem dL_law_138 : decode cL_law 138 = .ok (.if_icmp .eq 339, 3) := by decide +kernel
theorem dL_law_141 : decode cL_law 141 = .ok (.iconst 0, 1) := by decide +kernel
theorem dL_law_142 : decode cL_law 142 = .ok (.ireturn, 1) := by decide +kernel
theorem dL_law_143 : decode cL_law 143 = .ok (.aload_n 1, 1) := by decide +kernel
theorem dL_law_144 : decode cL_law 144 = .ok (.aload_n 0, 1) := by decide +kernel
theorem dL_law_145 : decode cL_law 145 = .ok (.iload_n 3, 1) := by decide +kernel
theorem dL_law_146 : decode cL_law 146 = .ok (.iconst 1, 1) := by decide +kernel
theorem dL_law_147 : decode cL_law 147 = .ok (.iadd, 1) := by decide +kernel
theorem dL_law_148 : decode cL_law 148 = .ok (.iaload, 1) := by decide +kernel
theorem dL_law_149 : decode cL_law 149 = .ok (.aload_n 0, 1) := by decide +kernel
theorem dL_law_150 : decode cL_law 150 = .ok (.iload_n 3, 1) := by decide +kernel
theorem dL_law_151 : decode cL_law 151 = .ok (.iconst 2, 1) := by decide +kernel
theorem dL_law_152 : decode cL_law 152 = .ok (.iadd, 1) := by decide +kernel
theorem dL_law_153 : decode cL_law 153 = .ok (.iaload, 1) := by decide +kernel
theorem dL_law_154 : decode cL_law 154 = .ok (.aload_n 0, 1) := by decide +kernel
theorem dL_law_155 : decode cL_law 155 = .ok (.iload_n 3, 1) := by decide +kernel
theorem dL_law_156 : decode cL_law 156 = .ok (.iconst 3, 1) := by decide +kernel
theorem dL_law_157 : decode cL_law 157 = .ok (.iadd, 1) := by decide +kernel
theorem dL_law_158 : decode cL_law 158 = .ok (.iaload, 1) := by decide +kernel
theorem dL_law_159 : decode cL_law 159 = .ok (.invokevirtual 18, 3) := by decide +kernel
theorem dL_law_162 : decode cL_law 162 = .ok (.aload_n 2, 1) := by decide +kernel
theorem dL_law_163 : decode cL_law 163 = .ok (.aload_n 0, 1) := by decide +kernel
theorem dL_law_164 : decode cL_law 164 = .ok (.iload_n 3, 1) := by decide +kernel
theorem dL_law_165 : decode cL_law 165 = .ok (.iconst 1, 1) := by decide +kernel
theorem dL_law_166 : decode cL_law 166 = .ok (.iadd, 1) := by decide +kernel
theorem dL_law_167 : decode cL_law 167 = .ok (.iaload, 1) := by decide +kernel
theorem dL_law_168 : decode cL_law 168 = .ok (.aload_n 0, 1) := by decide +kernel
theorem dL_law_169 : decode cL_law 169 = .ok (.iload_n 3, 1) := by decide +kernel
theorem dL_law_170 : decode cL_law 170 = .ok (.iconst 2, 1) := by decide +kernel
theorem dL_law_171 : decode cL_law 171 = .ok (.iadd, 1) := by decide +kernel
theorem dL_law_172 : decode cL_law 172 = .ok (.iaload, 1) := by decide +kernel
theorem dL_law_173 : decode cL_law 173 = .ok (.aload_n 0, 1) := by decide +kernel
theorem dL_law_174 : decode cL_law 174 = .ok (.iload_n 3, 1) := by decide +kernel
theorem dL_law_175 : decode cL_law 175 = .ok (.iconst 3, 1) := by decide +kernel
theorem dL_law_176 : decode cL_law 176 = .ok (.iadd, 1) := by decide +kernel
theorem dL_law_177 : decode cL_law 177 = .ok (.iaload, 1) := by decide +kernel
theorem dL_law_178 : decode cL_law 178 = .ok (.invokevirtual 21, 3) := by decide +kernel
theorem dL_law_181 : decode cL_law 181 = .ok (.if_icmp .eq 296, 3) := by decide +kernel
theorem dL_law_184 : decode cL_law 184 = .ok (.iconst 0, 1) := by decide +kernel
theorem dL_law_185 : decode cL_law 185 = .ok (.ireturn, 1) := by decide +kernel
theorem dL_law_186 : decode cL_law 186 = .ok (.aload_n 1, 1) := by decide +kernel
theorem dL_law_187 : decode cL_law 187 = .ok (.aload_n 0, 1) := by decide +kernel
theorem dL_law_188 : decode cL_law 188 = .ok (.iload_n 3, 1) := by decide +kernel
theorem dL_law_189 : decode cL_law 189 = .ok (.iconst 1, 1) := by decide +kernel
theorem dL_law_190 : decode cL_law 190 = .ok (.iadd, 1) := by decide +kernel
theorem dL_law_191 : decode cL_law 191 = .ok (.iaload, 1) := by decide +kernel
theorem dL_law_192 : decode cL_law 192 = .ok (.aload_n 0, 1) := by decide +kernel
theorem dL_law_193 : decode cL_law 193 = .ok (.iload_n 3, 1) := by decide +kernel
theorem dL_law_194 : decode cL_law 194 = .ok (.iconst 2, 1) := by decide +kernel
theorem dL_law_195 : decode cL_law 195 = .ok (.iadd, 1) := by decide +kernel
theorem dL_law_196 : decode cL_law 196 = .ok (.iaload, 1) := by decide +kernel
theorem dL_law_197 : decode cL_law 197 = .ok (.aload_n 0, 1) := by decide +kernel
theorem dL_law_198 : decode cL_law 198 = .ok (.iload_n 3, 1) := by decide +kernel
theorem dL_law_199 : decode cL_law 199 = .ok (.iconst 3, 1) := by decide +kernel
theorem dL_law_200 : decode cL_law 200 = .ok (.iadd, 1) := by decide +kernel
theorem dL_law_201 : decode cL_law 201 = .ok (.iaload, 1) := by decide +kernel
theorem dL_law_202 : decode cL_law 202 = .ok (.invokevirtual 22, 3) := by decide +kernel
theorem dL_law_205 : decode cL_law 205 = .ok (.aload_n 2, 1) := by decide +kernel
theorem dL_law_206 : decode cL_law 206 = .ok (.aload_n 0, 1) := by decide +kernel
theorem dL_law_207 : decode cL_law 207 = .ok (.iload_n 3, 1) := by decide +kernel
theorem dL_law_208 : decode cL_law 208 = .ok (.iconst 1, 1) := by decide +kernel
theorem dL_law_209 : decode cL_law 209 = .ok (.iadd, 1) := by decide +kernel
theorem dL_law_210 : decode cL_law 210 = .ok (.iaload, 1) := by decide +kernel
theorem dL_law_211 : decode cL_law 211 = .ok (.aload_n 0, 1) := by decide +kernel
theorem dL_law_212 : decode cL_law 212 = .ok (.iload_n 3, 1) := by decide +kernel
theorem dL_law_213 : decode cL_law 213 = .ok (.iconst 2, 1) := by decide +kernel
theorem dL_law_214 : decode cL_law 214 = .ok (.iadd, 1) := by decide +kernel
theorem dL_law_215 : decode cL_law 215 = .ok (.iaload, 1) := by decide +kernel
theorem dL_law_216 : decode cL_law 216 = .ok (.aload_n 0, 1) := by decide +kernel
theorem dL_law_217 : decode cL_law 217 = .ok (.iload_n 3, 1) := by decide +kernel
theorem dL_law_218 : decode cL_law 218 = .ok (.iconst 3, 1) := by decide +kernel
theorem dL_law_219 : decode cL_law 219 = .ok (.iadd, 1) := by decide +kernel
theorem dL_law_220 : decode cL_law 220 = .ok (.iaload, 1) := by decide +kernel
theorem dL_law_221 : decode cL_law 221 = .ok (.invokevirtual 25, 3) := by decide +kernel
theorem dL_law_224 : decode cL_law 224 = .ok (.if_icmp .eq 253, 3) := by decide +kernel
theorem dL_law_227 : decode cL_law 227 = .ok (.iconst 0, 1) := by decide +kernel
theorem dL_law_228 : decode cL_law 228 = .ok (.ireturn, 1) := by decide +kernel
theorem dL_law_229 : decode cL_law 229 = .ok (.aload_n 1, 1) := by decide +kernel
theorem dL_law_230 : decode cL_law 230 = .ok (.invokevirtual 26, 3) := by decide +kernel
theorem dL_law_233 : decode cL_law 233 = .ok (.aload_n 2, 1) := by decide +kernel
theorem dL_law_234 : decode cL_law 234 = .ok (.invokevirtual 29, 3) := by decide +kernel
theorem dL_law_237 : decode cL_law 237 = .ok (.goto 240, 3) := by decide +kernel
theorem dL_law_240 : decode cL_law 240 = .ok (.aload_n 1, 1) := by decide +kernel
theorem dL_law_241 : decode cL_law 241 = .ok (.aload_n 0, 1) := by decide +kernel
theorem dL_law_242 : decode cL_law 242 = .ok (.iload_n 3, 1) := by decide +kernel
theorem dL_law_243 : decode cL_law 243 = .ok (.iconst 1, 1) := by decide +kernel
theorem dL_law_244 : decode cL_law 244 = .ok (.iadd, 1) := by decide +kernel
theorem dL_law_245 : decode cL_law 245 = .ok (.iaload, 1) := by decide +kernel
theorem dL_law_246 : decode cL_law 246 = .ok (.aload_n 0, 1) := by decide +kernel
theorem dL_law_247 : decode cL_law 247 = .ok (.iload_n 3, 1) := by decide +kernel
theorem dL_law_248 : decode cL_law 248 = .ok (.iconst 2, 1) := by decide +kernel
theorem dL_law_249 : decode cL_law 249 = .ok (.iadd, 1) := by decide +kernel
theorem dL_law_250 : decode cL_law 250 = .ok (.iaload, 1) := by decide +kernel
theorem dL_law_251 : decode cL_law 251 = .ok (.invokevirtual 30, 3) := by decide +kernel
theorem dL_law_254 : decode cL_law 254 = .ok (.aload_n 2, 1) := by decide +kernel
theorem dL_law_255 : decode cL_law 255 = .ok (.aload_n 0, 1) := by decide +kernel
theorem dL_law_256 : decode cL_law 256 = .ok (.iload_n 3, 1) := by decide +kernel
theorem dL_law_257 : decode cL_law 257 = .ok (.iconst 1, 1) := by decide +kernel
theorem dL_law_258 : decode cL_law 258 = .ok (.iadd, 1) := by decide +kernel
theorem dL_law_259 : decode cL_law 259 = .ok (.iaload, 1) := by decide +kernel
theorem dL_law_260 : decode cL_law 260 = .ok (.aload_n 0, 1) := by decide +kernel
theorem dL_law_261 : decode cL_law 261 = .ok (.iload_n 3, 1) := by decide +kernel
theorem dL_law_262 : decode cL_law 262 = .ok (.iconst 2, 1) := by decide +kernel
theorem dL_law_263 : decode cL_law 263 = .ok (.iadd, 1) := by decide +kernel
theorem dL_law_264 : decode cL_law 264 = .ok (.iaload, 1) := by decide +kernel
theorem dL_law_265 : decode cL_law 265 = .ok (.invokevirtual 34, 3) := by decide +kernel
theorem dL_law_268 : decode cL_law 268 = .ok (.if_icmp .eq 209, 3) := by decide +kernel
theorem dL_law_271 : decode cL_law 271 = .ok (.iconst 0, 1) := by decide +kernel
theorem dL_law_272 : decode cL_law 272 = .ok (.ireturn, 1) := by decide +kernel
theorem dL_law_273 : decode cL_law 273 = .ok (.aload_n 1, 1) := by decide +kernel
theorem dL_law_274 : decode cL_law 274 = .ok (.aload_n 0, 1) := by decide +kernel
theorem dL_law_275 : decode cL_law 275 = .ok (.iload_n 3, 1) := by decide +kernel
theorem dL_law_276 : decode cL_law 276 = .ok (.iconst 1, 1) := by decide +kernel
theorem dL_law_277 : decode cL_law 277 = .ok (.iadd, 1) := by decide +kernel
theorem dL_law_278 : decode cL_law 278 = .ok (.iaload, 1) := by decide +kernel
theorem dL_law_279 : decode cL_law 279 = .ok (.invokevirtual 35, 3) := by decide +kernel
theorem dL_law_282 : decode cL_law 282 = .ok (.aload_n 2, 1) := by decide +kernel
theorem dL_law_283 : decode cL_law 283 = .ok (.aload_n 0, 1) := by decide +kernel
theorem dL_law_284 : decode cL_law 284 = .ok (.iload_n 3, 1) := by decide +kernel
theorem dL_law_285 : decode cL_law 285 = .ok (.iconst 1, 1) := by decide +kernel
theorem dL_law_286 : decode cL_law 286 = .ok (.iadd, 1) := by decide +kernel
theorem dL_law_287 : decode cL_law 287 = .ok (.iaload, 1) := by decide +kernel
theorem dL_law_288 : decode cL_law 288 = .ok (.invokevirtual 39, 3) := by decide +kernel
theorem dL_law_291 : decode cL_law 291 = .ok (.if_icmp .eq 186, 3) := by decide +kernel
theorem dL_law_294 : decode cL_law 294 = .ok (.iconst 0, 1) := by decide +kernel
theorem dL_law_295 : decode cL_law 295 = .ok (.ireturn, 1) := by decide +kernel
theorem dL_law_296 : decode cL_law 296 = .ok (.aload_n 1, 1) := by decide +kernel
theorem dL_law_297 : decode cL_law 297 = .ok (.aload_n 0, 1) := by decide +kernel
theorem dL_law_298 : decode cL_law 298 = .ok (.iload_n 3, 1) := by decide +kernel
theorem dL_law_299 : decode cL_law 299 = .ok (.iconst 1, 1) := by decide +kernel
theorem dL_law_300 : decode cL_law 300 = .ok (.iadd, 1) := by decide +kernel
theorem dL_law_301 : decode cL_law 301 = .ok (.iaload, 1) := by decide +kernel
theorem dL_law_302 : decode cL_law 302 = .ok (.invokevirtual 40, 3) := by decide +kernel
theorem dL_law_305 : decode cL_law 305 = .ok (.aload_n 2, 1) := by decide +kernel
theorem dL_law_306 : decode cL_law 306 = .ok (.aload_n 0, 1) := by decide +kernel
theorem dL_law_307 : decode cL_law 307 = .ok (.iload_n 3, 1) := by decide +kernel
theorem dL_law_308 : decode cL_law 308 = .ok (.iconst 1, 1) := by decide +kernel
theorem dL_law_309 : decode cL_law 309 = .ok (.iadd, 1) := by decide +kernel
theorem dL_law_310 : decode cL_law 310 = .ok (.iaload, 1) := by decide +kernel
theorem dL_law_311 : decode cL_law 311 = .ok (.invokevirtual 43, 3) := by decide +kernel
theorem dL_law_314 : decode cL_law 314 = .ok (.if_icmp .eq 163, 3) := by decide +kernel
theorem dL_law_317 : decode cL_law 317 = .ok (.iconst 0, 1) := by decide +kernel
theorem dL_law_318 : decode cL_law 318 = .ok (.ireturn, 1) := by decide +kernel
theorem dL_law_319 : decode cL_law 319 = .ok (.aload_n 1, 1) := by decide +kernel
theorem dL_law_320 : decode cL_law 320 = .ok (.aload_n 0, 1) := by decide +kernel
theorem dL_law_321 : decode cL_law 321 = .ok (.iload_n 3, 1) := by decide +kernel
theorem dL_law_322 : decode cL_law 322 = .ok (.iconst 1, 1) := by decide +kernel
theorem dL_law_323 : decode cL_law 323 = .ok (.iadd, 1) := by decide +kernel
theorem dL_law_324 : decode cL_law 324 = .ok (.iaload, 1) := by decide +kernel
theorem dL_law_325 : decode cL_law 325 = .ok (.invokevirtual 44, 3) := by decide +kernel
theorem dL_law_328 : decode cL_law 328 = .ok (.aload_n 2, 1) := by decide +kernel
theorem dL_law_329 : decode cL_law 329 = .ok (.aload_n 0, 1) := by decide +kernel
theorem dL_law_330 : decode cL_law 330 = .ok (.iload_n 3, 1) := by decide +kernel
theorem dL_law_331 : decode cL_law 331 = .ok (.iconst 1, 1) := by decide +kernel
theorem dL_law_332 : decode cL_law 332 = .ok (.iadd, 1) := by decide +kernel
theorem dL_law_333 : decode cL_law 333 = .ok (.iaload, 1) := by decide +kernel
theorem dL_law_334 : decode cL_law 334 = .ok (.invokevirtual 47, 3) := by decide +kernel
theorem dL_law_337 : decode cL_law 337 = .ok (.if_icmp .eq 140, 3) := by decide +kernel
theorem dL_law_340 : decode cL_law 340 = .ok (.iconst 0, 1) := by decide +kernel
theorem dL_law_341 : decode cL_law 341 = .ok (.ireturn, 1) := by decide +kernel
theorem dL_law_342 : decode cL_law 342 = .ok (.aload_n 1, 1) := by decide +kernel
theorem dL_law_343 : decode cL_law 343 = .ok (.aload_n 0, 1) := by decide +kernel
theorem dL_law_344 : decode cL_law 344 = .ok (.iload_n 3, 1) := by decide +kernel
theorem dL_law_345 : decode cL_law 345 = .ok (.iconst 1, 1) := by decide +kernel
theorem dL_law_346 : decode cL_law 346 = .ok (.iadd, 1) := by decide +kernel
theorem dL_law_347 : decode cL_law 347 = .ok (.iaload, 1) := by decide +kernel
theorem dL_law_348 : decode cL_law 348 = .ok (.invokevirtual 48, 3) := by decide +kernel
theorem dL_law_351 : decode cL_law 351 = .ok (.aload_n 2, 1) := by decide +kernel
theorem dL_law_352 : decode cL_law 352 = .ok (.aload_n 0, 1) := by decide +kernel
theorem dL_law_353 : decode cL_law 353 = .ok (.iload_n 3, 1) := by decide +kernel
theorem dL_law_354 : decode cL_law 354 = .ok (.iconst 1, 1) := by decide +kernel
theorem dL_law_355 : decode cL_law 355 = .ok (.iadd, 1) := by decide +kernel
theorem dL_law_356 : decode cL_law 356 = .ok (.iaload, 1) := by decide +kernel
theorem dL_law_357 : decode cL_law 357 = .ok (.invokevirtual 51, 3) := by decide +kernel
theorem dL_law_360 : decode cL_law 360 = .ok (.if_icmp .eq 117, 3) := by decide +kernel
theorem dL_law_363 : decode cL_law 363 = .ok (.iconst 0, 1) := by decide +kernel
theorem dL_law_364 : decode cL_law 364 = .ok (.ireturn, 1) := by decide +kernel
theorem dL_law_365 : decode cL_law 365 = .ok (.aload_n 1, 1) := by decide +kernel
theorem dL_law_366 : decode cL_law 366 = .ok (.invokevirtual 52, 3) := by decide +kernel
theorem dL_law_369 : decode cL_law 369 = .ok (.aload_n 2, 1) := by decide +kernel
theorem dL_law_370 : decode cL_law 370 = .ok (.invokevirtual 56, 3) := by decide +kernel
theorem dL_law_373 : decode cL_law 373 = .ok (.if_icmp .eq 104, 3) := by decide +kernel
theorem dL_law_376 : decode cL_law 376 = .ok (.iconst 0, 1) := by decide +kernel
theorem dL_law_377 : decode cL_law 377 = .ok (.ireturn, 1) := by decide +kernel
theorem dL_law_378 : decode cL_law 378 = .ok (.aload_n 1, 1) := by decide +kernel
theorem dL_law_379 : decode cL_law 379 = .ok (.invokevirtual 57, 3) := by decide +kernel
theorem dL_law_382 : decode cL_law 382 = .ok (.aload_n 2, 1) := by decide +kernel
theorem dL_law_383 : decode cL_law 383 = .ok (.invokevirtual 60, 3) := by decide +kernel
theorem dL_law_386 : decode cL_law 386 = .ok (.if_icmp .eq 91, 3) := by decide +kernel
theorem dL_law_389 : decode cL_law 389 = .ok (.iconst 0, 1) := by decide +kernel
theorem dL_law_390 : decode cL_law 390 = .ok (.ireturn, 1) := by decide +kernel
theorem dL_law_391 : decode cL_law 391 = .ok (.aload_n 1, 1) := by decide +kernel
theorem dL_law_392 : decode cL_law 392 = .ok (.aload_n 0, 1) := by decide +kernel
theorem dL_law_393 : decode cL_law 393 = .ok (.iload_n 3, 1) := by decide +kernel
theorem dL_law_394 : decode cL_law 394 = .ok (.iconst 1, 1) := by decide +kernel
theorem dL_law_395 : decode cL_law 395 = .ok (.iadd, 1) := by decide +kernel
theorem dL_law_396 : decode cL_law 396 = .ok (.iaload, 1) := by decide +kernel
theorem dL_law_397 : decode cL_law 397 = .ok (.aload_n 0, 1) := by decide +kernel
theorem dL_law_398 : decode cL_law 398 = .ok (.iload_n 3, 1) := by decide +kernel
theorem dL_law_399 : decode cL_law 399 = .ok (.iconst 2, 1) := by decide +kernel
theorem dL_law_400 : decode cL_law 400 = .ok (.iadd, 1) := by decide +kernel
theorem dL_law_401 : decode cL_law 401 = .ok (.iaload, 1) := by decide +kernel
theorem dL_law_402 : decode cL_law 402 = .ok (.aload_n 0, 1) := by decide +kernel
theorem dL_law_403 : decode cL_law 403 = .ok (.iload_n 3, 1) := by decide +kernel
theorem dL_law_404 : decode cL_law 404 = .ok (.iconst 3, 1) := by decide +kernel
theorem dL_law_405 : decode cL_law 405 = .ok (.iadd, 1) := by decide +kernel
theorem dL_law_406 : decode cL_law 406 = .ok (.iaload, 1) := by decide +kernel
theorem dL_law_407 : decode cL_law 407 = .ok (.invokevirtual 61, 3) := by decide +kernel
theorem dL_law_410 : decode cL_law 410 = .ok (.aload_n 2, 1) := by decide +kernel
theorem dL_law_411 : decode cL_law 411 = .ok (.aload_n 0, 1) := by decide +kernel
theorem dL_law_412 : decode cL_law 412 = .ok (.iload_n 3, 1) := by decide +kernel
theorem dL_law_413 : decode cL_law 413 = .ok (.iconst 1, 1) := by decide +kernel
theorem dL_law_414 : decode cL_law 414 = .ok (.iadd, 1) := by decide +kernel
theorem dL_law_415 : decode cL_law 415 = .ok (.iaload, 1) := by decide +kernel
theorem dL_law_416 : decode cL_law 416 = .ok (.aload_n 0, 1) := by decide +kernel
theorem dL_law_417 : decode cL_law 417 = .ok (.iload_n 3, 1) := by decide +kernel
theorem dL_law_418 : decode cL_law 418 = .ok (.iconst 2, 1) := by decide +kernel
theorem dL_law_419 : decode cL_law 419 = .ok (.iadd, 1) := by decide +kernel
theorem dL_law_420 : decode cL_law 420 = .ok (.iaload, 1) := by decide +kernel
theorem dL_law_421 : decode cL_law 421 = .ok (.aload_n 0, 1) := by decide +kernel
theorem dL_law_422 : decode cL_law 422 = .ok (.iload_n 3, 1) := by decide +kernel
theorem dL_law_423 : decode cL_law 423 = .ok (.iconst 3, 1) := by decide +kernel
theorem dL_law_424 : decode cL_law 424 = .ok (.iadd, 1) := by decide +kernel
theorem dL_law_425 : decode cL_law 425 = .ok (.iaload, 1) := by decide +kernel
theorem dL_law_426 : decode cL_law 426 = .ok (.invokevirtual 64, 3) := by decide +kernel
theorem dL_law_429 : decode cL_law 429 = .ok (.if_icmp .eq 48, 3) := by decide +kernel
theorem dL_law_432 : decode cL_law 432 = .ok (.iconst 0, 1) := by decide +kernel
theorem dL_law_433 : decode cL_law 433 = .ok (.ireturn, 1) := by decide +kernel
theorem dL_law_434 : decode cL_law 434 = .ok (.aload_n 1, 1) := by decide +kernel
theorem dL_law_435 : decode cL_law 435 = .ok (.aload_n 0, 1) := by decide +kernel
theorem dL_law_436 : decode cL_law 436 = .ok (.iload_n 3, 1) := by decide +kernel
theorem dL_law_437 : decode cL_law 437 = .ok (.iconst 1, 1) := by decide +kernel
theorem dL_law_438 : decode cL_law 438 = .ok (.iadd, 1) := by decide +kernel
theorem dL_law_439 : decode cL_law 439 = .ok (.iaload, 1) := by decide +kernel
theorem dL_law_440 : decode cL_law 440 = .ok (.aload_n 0, 1) := by decide +kernel
theorem dL_law_441 : decode cL_law 441 = .ok (.iload_n 3, 1) := by decide +kernel
theorem dL_law_442 : decode cL_law 442 = .ok (.iconst 2, 1) := by decide +kernel
theorem dL_law_443 : decode cL_law 443 = .ok (.iadd, 1) := by decide +kernel
theorem dL_law_444 : decode cL_law 444 = .ok (.iaload, 1) := by decide +kernel
theorem dL_law_445 : decode cL_law 445 = .ok (.aload_n 0, 1) := by decide +kernel
theorem dL_law_446 : decode cL_law 446 = .ok (.iload_n 3, 1) := by decide +kernel
theorem dL_law_447 : decode cL_law 447 = .ok (.iconst 3, 1) := by decide +kernel
theorem dL_law_448 : decode cL_law 448 = .ok (.iadd, 1) := by decide +kernel
theorem dL_law_449 : decode cL_law 449 = .ok (.iaload, 1) := by decide +kernel
theorem dL_law_450 : decode cL_law 450 = .ok (.invokevirtual 65, 3) := by decide +kernel
theorem dL_law_453 : decode cL_law 453 = .ok (.aload_n 2, 1) := by decide +kernel
theorem dL_law_454 : decode cL_law 454 = .ok (.aload_n 0, 1) := by decide +kernel
theorem dL_law_455 : decode cL_law 455 = .ok (.iload_n 3, 1) := by decide +kernel
theorem dL_law_456 : decode cL_law 456 = .ok (.iconst 1, 1) := by decide +kernel
theorem dL_law_457 : decode cL_law 457 = .ok (.iadd, 1) := by decide +kernel
theorem dL_law_458 : decode cL_law 458 = .ok (.iaload, 1) := by decide +kernel
theorem dL_law_459 : decode cL_law 459 = .ok (.aload_n 0, 1) := by decide +kernel
theorem dL_law_460 : decode cL_law 460 = .ok (.iload_n 3, 1) := by decide +kernel
theorem dL_law_461 : decode cL_law 461 = .ok (.iconst 2, 1) := by decide +kernel
theorem dL_law_462 : decode cL_law 462 = .ok (.iadd, 1) := by decide +kernel
theorem dL_law_463 : decode cL_law 463 = .ok (.iaload, 1) := by decide +kernel
theorem dL_law_464 : decode cL_law 464 = .ok (.aload_n 0, 1) := by decide +kernel
theorem dL_law_465 : decode cL_law 465 = .ok (.iload_n 3, 1) := by decide +kernel
theorem dL_law_466 : decode cL_law 466 = .ok (.iconst 3, 1) := by decide +kernel
theorem dL_law_467 : decode cL_law 467 = .ok (.iadd, 1) := by decide +kernel
theorem dL_law_468 : decode cL_law 468 = .ok (.iaload, 1) := by decide +kernel
theorem dL_law_469 : decode cL_law 469 = .ok (.invokevirtual 69, 3) := by decide +kernel
theorem dL_law_472 : decode cL_law 472 = .ok (.if_icmp .eq 5, 3) := by decide +kernel
theorem dL_law_475 : decode cL_law 475 = .ok (.iconst 0, 1) := by decide +kernel
theorem dL_law_476 : decode cL_law 476 = .ok (.ireturn, 1) := by decide +kernel
theorem dL_law_477 : decode cL_law 477 = .ok (.iinc 3 4, 3) := by decide +kernel
theorem dL_law_480 : decode cL_law 480 = .ok (.goto (-462), 3) := by decide +kernel
theorem dL_law_483 : decode cL_law 483 = .ok (.iconst 1, 1) := by decide +kernel
theorem dL_law_484 : decode cL_law 484 = .ok (.ireturn, 1) := by decide +kernel
end
section
/-! rows of the walk: loops, arrays by a number's index, compares of numbers, calls -/
abbrev vwCl : List vw_C := [(RX0, TX0, 14), (RX1, TX1, 6)]
/-- ParametricCut's cells: the object h and its arrays A k (k: the field's slot), their contents a k; workedFor w, flow f -/
abbrev xW (d : Nat → ClassId) (h : Nat) (A : Nat → Nat) (a : Nat → Nat → Int32) (w f : Int32) : va_W :=
  [(h, .inr (0, [.ref (A 0), .ref (A 1), .ref (A 2), .ref (A 3), .ref (A 4), .ref (A 5), .int w, .int f, .ref (A 8), .ref (A 9), .ref (A 10), .ref (A 11), .ref (A 12), .ref (A 13)])),
   (A 0, .inl (d 0, 49, .inl (a 0))), (A 1, .inl (d 1, 7, .inl (a 1))), (A 2, .inl (d 2, 7, .inl (a 2))), (A 3, .inl (d 3, 7, .inl (a 3))), (A 4, .inl (d 4, 7, .inl (a 4))),
   (A 5, .inl (d 5, 81, .inl (a 5))), (A 8, .inl (d 8, 9, .inl (a 8))), (A 9, .inl (d 9, 9, .inl (a 9))), (A 10, .inl (d 10, 9, .inl (a 10))), (A 11, .inl (d 11, 9, .inl (a 11))), (A 12, .inl (d 12, 9, .inl (a 12))), (A 13, .inl (d 13, 9, .inl (a 13)))]
abbrev xT (d : Nat → ClassId) : List (ClassId × FieldType) := [(d 0, .int), (d 1, .int), (d 2, .int), (d 3, .int), (d 4, .int), (d 5, .int), (d 8, .int), (d 9, .int), (d 10, .int), (d 11, .int), (d 12, .int), (d 13, .int)]
/-- ParametricCutModel's cells -/
abbrev mW (d : Nat → ClassId) (h : Nat) (A : Nat → Nat) (b : Nat → Nat → Int32) : va_W :=
  [(h, .inr (1, [.ref (A 0), .ref (A 1), .ref (A 2), .ref (A 3), .ref (A 4), .ref (A 5)])),
   (A 0, .inl (d 0, 49, .inl (b 0))), (A 1, .inl (d 1, 7, .inl (b 1))), (A 2, .inl (d 2, 7, .inl (b 2))), (A 3, .inl (d 3, 7, .inl (b 3))), (A 4, .inl (d 4, 7, .inl (b 4))), (A 5, .inl (d 5, 128, .inl (b 5)))]
abbrev mT (d : Nat → ClassId) : List (ClassId × FieldType) := [(d 0, .int), (d 1, .int), (d 2, .int), (d 3, .int), (d 4, .int), (d 5, .boolean)]
/-- a contract's start: the cells and the classes -/
def x_Pc (D : va_G) (tys : List (ClassId × FieldType)) (ws : va_W) (av : List Value) : Array Value → State → Prop := va_Pc av (fun U => va_P D vwCl ws U.heap ∧ va_K D vwCl tys U)
theorem x_Pc_blind {D : va_G} {tys : List (ClassId × FieldType)} {ws : va_W} {av : List Value} : FrameBlind (x_Pc D tys ws av) := fun a U g mk q => by
  obtain ⟨q0, qP, qK⟩ := q
  exact ⟨q0, qP, va_K.moved (u := U) (U := U.calling g mk a) (Vm.Alike.refl U.vm) qK⟩
theorem x_Pc_at {D : va_G} {tys : List (ClassId × FieldType)} {ws : va_W} {av : List Value} {s : State} {H : Heap} (hP : va_P D vwCl ws H) (hK : va_K D vwCl tys s) : ∀ U : State, U.heap = H → s.WarmedH U.vm → x_Pc D tys ws av av.toArray U :=
  fun U hU hW => ⟨rfl, by rw [hU]; exact hP, va_K.moved hW.alike hK⟩
/-- the end of a method that writes nothing -/
def x_QR (post : Int32 → Prop) : Array Value → State → Outcome → State → Prop := va_Qi (fun r (_ : Unit) => post r) (fun _ _ => True) (fun _ => False)
abbrev x_no : Nat → Prop := fun _ => False
theorem x_keep {D : va_G} {cl : List vw_C} {ws : va_W} {H H1 : Heap} (h : va_P D cl ws H) (hk : ∀ q : Nat, q < H.size → H1[q]? = H[q]?) : va_P D cl ws H1 := h.kept (fun k q hq => hk q.1 (h k q hq).lt)
theorem x_Dc {A : Nat → Prop} {ws ws' : va_W} (h : ws.map Prod.fst = ws'.map Prod.fst) (hD : va_D A ws) : va_D A ws' := by
  have key : ∀ (k : Nat) (q : Nat × va_E), ws'[k]? = some q → ∃ e, ws[k]? = some (q.1, e) := by
    intro k q hk
    have h1 : (ws'.map Prod.fst)[k]? = some q.1 := by rw [List.getElem?_map, hk]; rfl
    rw [← h, List.getElem?_map] at h1
    cases h2 : ws[k]? with
    | none => rw [h2] at h1; cases h1
    | some z => rw [h2] at h1; have h3 : z.1 = q.1 := Option.some.inj h1; exact ⟨z.2, by rw [← h3]⟩
  refine ⟨fun i j p q hi hj hpq => ?_, fun k q hk => ?_⟩
  · obtain ⟨e1, g1⟩ := key i p hi
    obtain ⟨e2, g2⟩ := key j q hj
    exact hD.1 i j _ _ g1 g2 hpq
  · obtain ⟨e1, g1⟩ := key k q hk
    exact hD.2 k (q.1, e1) g1
theorem x_Db {A : Nat → Prop} {ws ws' : va_W} (hD : va_D A ws) (h : ws.map Prod.fst = ws'.map Prod.fst) : va_D A ws' := x_Dc h hD
theorem x_P0 {D : va_G} {cl : List vw_C} {H : Heap} : va_P D cl [] H := fun k q h => by simp at h
abbrev xr0 : Room := { frames := 0, cells := 0, slots := 0, locals := 0 }
abbrev xr1 : Room := { frames := 1, cells := 0, slots := 0, locals := 30 }
abbrev xr2 : Room := { frames := 2, cells := 0, slots := 0, locals := 60 }
abbrev xr3 : Room := { frames := 3, cells := 0, slots := 0, locals := 90 }
theorem x_inc (i : Nat) : nI i + Int32.ofInt 1 = nI (i + 1) := nI_1 i
theorem x_dec (i : Nat) : nI (i + 1) + Int32.ofInt (-1) = nI i := pk_m1 i
section WB
variable {p : Program} {l : Launch} {e : Env} {R : Room} {s : State} {m : MethodId} {args : Array Value} {below : List Frame} {meth : Method} {c : Code} {H : Heap} {locs : List Loc} {cells slots : Nat} {Q : State → Prop}
variable {cc : ByteArray} {pc : Nat} {ls : Array Slot} {rest : List Value} {D : va_G} {cl : List vw_C} {A : Nat → Prop} {a : Nat} {tys : List (ClassId × FieldType)} {ws : va_W} {H0 : Heap}
/-- a loop over any state st with the world WS st and the locals LV st -/
theorem x_loop {σ : Type} (head nL : Nat) (WS : σ → va_W) (LV : σ → List (Nat × Value)) (I : σ → Prop) (μ : σ → Nat)
    (hs : ∀ st : σ, I st → (∀ st' : σ, I st' → μ st' < μ st → ∀ (H : Heap) (locs : List Loc) (ls : Array Slot), va_P D cl (WS st') H → va_D A (WS st') → va_S A H0 H locs → lv_has ls nL (LV st') → W p l e R s m args below meth c H locs cells slots Q (F0 m head ls [])) → ∀ (H : Heap) (locs : List Loc) (ls : Array Slot), va_P D cl (WS st) H → va_D A (WS st) → va_S A H0 H locs → lv_has ls nL (LV st) → W p l e R s m args below meth c H locs cells slots Q (F0 m head ls []))
    (st : σ) (hI : I st) (hP : va_P D cl (WS st) H) (hD : va_D A (WS st)) (hS : va_S A H0 H locs) (hl : lv_has ls nL (LV st)) : W p l e R s m args below meth c H locs cells slots Q (F0 m head ls []) := by
  have key : ∀ (n : Nat) (st : σ), μ st < n → I st → ∀ (H : Heap) (locs : List Loc) (ls : Array Slot), va_P D cl (WS st) H → va_D A (WS st) → va_S A H0 H locs → lv_has ls nL (LV st) → W p l e R s m args below meth c H locs cells slots Q (F0 m head ls []) := by
    intro n
    induction n with
    | zero => intro st h; exact absurd h (Nat.not_lt_zero _)
    | succ n ih => intro st h hI; exact hs st hI (fun st' hI' hlt => ih st' (Nat.lt_of_lt_of_le hlt (Nat.le_of_lt_succ h)) hI')
  exact key (μ st + 1) st (Nat.lt_succ_self _) hI H locs ls hP hD hS hl
/-- a loop of a method that writes nothing: the world stays ws -/
theorem x_loopR {σ : Type} (head nL : Nat) (LV : σ → List (Nat × Value)) (I : σ → Prop) (μ : σ → Nat)
    (hs : ∀ st : σ, I st → (∀ st' : σ, I st' → μ st' < μ st → ∀ (H : Heap) (locs : List Loc) (ls : Array Slot), va_P D cl ws H → va_S A H0 H locs → lv_has ls nL (LV st') → W p l e R s m args below meth c H locs cells slots Q (F0 m head ls [])) → ∀ (H : Heap) (locs : List Loc) (ls : Array Slot), va_P D cl ws H → va_S A H0 H locs → lv_has ls nL (LV st) → W p l e R s m args below meth c H locs cells slots Q (F0 m head ls []))
    (st : σ) (hI : I st) (hP : va_P D cl ws H) (hS : va_S A H0 H locs) (hl : lv_has ls nL (LV st)) : W p l e R s m args below meth c H locs cells slots Q (F0 m head ls []) := by
  have key : ∀ (n : Nat) (st : σ), μ st < n → I st → ∀ (H : Heap) (locs : List Loc) (ls : Array Slot), va_P D cl ws H → va_S A H0 H locs → lv_has ls nL (LV st) → W p l e R s m args below meth c H locs cells slots Q (F0 m head ls []) := by
    intro n
    induction n with
    | zero => intro st h; exact absurd h (Nat.not_lt_zero _)
    | succ n ih => intro st h hI; exact hs st hI (fun st' hI' hlt => ih st' (Nat.lt_of_lt_of_le hlt (Nat.le_of_lt_succ h)) hI')
  exact key (μ st + 1) st (Nat.lt_succ_self _) hI H locs ls hP hS hl
/-- two ways come together -/
theorem x_joini {locs : List Loc} {st : List Value} (hP : va_P D cl ws H) (hS : va_S A H0 H locs) (pc2 : Nat) (ls2 : Array Slot) (rest2 : List Value) (P : Int32 → Prop)
    (k : ∀ (r : Int32) (H : Heap) (locs : List Loc), P r → va_P D cl ws H → va_S A H0 H locs → W p l e R s m args below meth c H locs cells slots Q (F0 m pc2 ls2 (.int r :: rest2)))
    (h : (∀ (r : Int32) (H : Heap) (locs : List Loc), P r → va_P D cl ws H → va_S A H0 H locs → W p l e R s m args below meth c H locs cells slots Q (F0 m pc2 ls2 (.int r :: rest2))) → W p l e R s m args below meth c H locs cells slots Q (F0 m pc ls st)) : W p l e R s m args below meth c H locs cells slots Q (F0 m pc ls st) := h k
/-- the top number by another name -/
theorem x_top {x y : Int32} (h : x = y) (k : W p l e R s m args below meth c H locs cells slots Q (F0 m pc ls (.int y :: rest))) : W p l e R s m args below meth c H locs cells slots Q (F0 m pc ls (.int x :: rest)) := h ▸ k
theorem x_ald (hexec : p.tables.exec = Jvm.exec) (hb : c.code = cc) (hK : va_K D cl tys s) (hP : va_P D cl ws H) (q0 t0 : Nat) {cA : ClassId} {n : Nat} {f : Nat → Int32} (ha : ws[q0]? = some (a, .inl (cA, n, .inl f))) (ht : tys[t0]? = some (cA, .int)) {i : Int32} (j : Nat) (hi : i = nI j) (hj : j < n) (hn : n < 2 ^ 31) (hdg : decode cc pc = .ok (.iaload, 1))
    (kk : W p l e R s m args below meth c H locs cells slots Q (F0 m (pc + 1) ls (.int (f j) :: rest))) : W p l e R s m args below meth c H locs cells slots Q (F0 m pc ls (.int i :: .ref a :: rest)) := by
  subst hi
  refine va_iald hexec hb hK hP q0 t0 ha ht (vp_in_nI hj hn) hdg ?_
  rw [nI_clamp (Nat.lt_trans hj hn)]
  exact kk
theorem x_ast (hexec : p.tables.exec = Jvm.exec) (hb : c.code = cc) (hK : va_K D cl tys s) (hP : va_P D cl ws H) (hD : va_D A ws) (hS : va_S A H0 H locs) (q0 t0 : Nat) {cA : ClassId} {n : Nat} {f : Nat → Int32} (ha : ws[q0]? = some (a, .inl (cA, n, .inl f))) (ht : tys[t0]? = some (cA, .int)) {i : Int32} {x : Int32} (j : Nat) (hi : i = nI j) (hj : j < n) (hn : n < 2 ^ 31) (hdg : decode cc pc = .ok (.iastore, 1))
    (kk : ∀ (H1 : Heap) (locs1 : List Loc), va_P D cl (ws.set q0 (a, .inl (cA, n, .inl (upd f j x)))) H1 → va_D A (ws.set q0 (a, .inl (cA, n, .inl (upd f j x)))) → va_S A H0 H1 locs1 → W p l e R s m args below meth c H1 locs1 cells slots Q (F0 m (pc + 1) ls rest)) : W p l e R s m args below meth c H locs cells slots Q (F0 m pc ls (.int x :: .int i :: .ref a :: rest)) := by
  subst hi
  refine va_iast hexec hb hK hP hD hS q0 t0 ha ht (vp_in_nI hj hn) hdg ?_
  rw [nI_clamp (Nat.lt_trans hj hn)]
  exact kk
theorem x_zld (hexec : p.tables.exec = Jvm.exec) (hb : c.code = cc) (hK : va_K D cl tys s) (hP : va_P D cl ws H) (q0 t0 : Nat) {cA : ClassId} {n : Nat} {f : Nat → Int32} (ha : ws[q0]? = some (a, .inl (cA, n, .inl f))) (ht : tys[t0]? = some (cA, .boolean)) {i : Int32} (j : Nat) (hi : i = nI j) (hj : j < n) (hn : n < 2 ^ 31) (hdg : decode cc pc = .ok (.baload, 1))
    (kk : W p l e R s m args below meth c H locs cells slots Q (F0 m (pc + 1) ls (.int (f j) :: rest))) : W p l e R s m args below meth c H locs cells slots Q (F0 m pc ls (.int i :: .ref a :: rest)) := by
  subst hi
  refine va_zald hexec hb hK hP q0 t0 ha ht (vp_in_nI hj hn) hdg ?_
  rw [nI_clamp (Nat.lt_trans hj hn)]
  exact kk
theorem x_zst (hexec : p.tables.exec = Jvm.exec) (hb : c.code = cc) (hK : va_K D cl tys s) (hP : va_P D cl ws H) (hD : va_D A ws) (hS : va_S A H0 H locs) (q0 t0 : Nat) {cA : ClassId} {n : Nat} {f : Nat → Int32} (ha : ws[q0]? = some (a, .inl (cA, n, .inl f))) (ht : tys[t0]? = some (cA, .boolean)) {i : Int32} {x : Int32} (j : Nat) (hi : i = nI j) (hj : j < n) (hn : n < 2 ^ 31) (hx2 : vp_nar .boolean x = x) (hdg : decode cc pc = .ok (.bastore, 1))
    (kk : ∀ (H1 : Heap) (locs1 : List Loc), va_P D cl (ws.set q0 (a, .inl (cA, n, .inl (upd f j x)))) H1 → va_D A (ws.set q0 (a, .inl (cA, n, .inl (upd f j x)))) → va_S A H0 H1 locs1 → W p l e R s m args below meth c H1 locs1 cells slots Q (F0 m (pc + 1) ls rest)) : W p l e R s m args below meth c H locs cells slots Q (F0 m pc ls (.int x :: .int i :: .ref a :: rest)) := by
  subst hi
  refine va_zast hexec hb hK hP hD hS q0 t0 ha ht (vp_in_nI hj hn) hdg ?_
  rw [nI_clamp (Nat.lt_trans hj hn), hx2]
  exact kk
-- compares of two numbers that are nI
theorem x_ge (hexec : p.tables.exec = Jvm.exec) (hb : c.code = cc) {x y : Int32} (i j : Nat) (h1 : x = nI i) (h2 : y = nI j) (b1 : i < 2 ^ 31) (b2 : j < 2 ^ 31) {off : Int} {tgt : Nat} (hdg : decode cc pc = .ok (.if_icmp .ge off, 3)) (ht : (pc : Int) + off = (tgt : Int))
    (kt : j ≤ i → W p l e R s m args below meth c H locs cells slots Q (F0 m tgt ls rest)) (kf : i < j → W p l e R s m args below meth c H locs cells slots Q (F0 m (pc + 3) ls rest)) : W p l e R s m args below meth c H locs cells slots Q (F0 m pc ls (.int y :: .int x :: rest)) := by
  subst h1; subst h2
  exact lv_icmp_ge hexec hb hdg ht (fun q => kt ((nI_leI b2 b1).mp q)) (fun q => kf (Nat.not_le.mp fun z => q ((nI_leI b2 b1).mpr z)))
theorem x_gt (hexec : p.tables.exec = Jvm.exec) (hb : c.code = cc) {x y : Int32} (i j : Nat) (h1 : x = nI i) (h2 : y = nI j) (b1 : i < 2 ^ 31) (b2 : j < 2 ^ 31) {off : Int} {tgt : Nat} (hdg : decode cc pc = .ok (.if_icmp .gt off, 3)) (ht : (pc : Int) + off = (tgt : Int))
    (kt : j < i → W p l e R s m args below meth c H locs cells slots Q (F0 m tgt ls rest)) (kf : i ≤ j → W p l e R s m args below meth c H locs cells slots Q (F0 m (pc + 3) ls rest)) : W p l e R s m args below meth c H locs cells slots Q (F0 m pc ls (.int y :: .int x :: rest)) := by
  subst h1; subst h2
  exact lv_icmp_gt hexec hb hdg ht (fun q => kt ((nI_ltI b2 b1).mp q)) (fun q => kf (Nat.not_lt.mp fun z => q ((nI_ltI b2 b1).mpr z)))
theorem x_eq (hexec : p.tables.exec = Jvm.exec) (hb : c.code = cc) {x y : Int32} (i j : Nat) (h1 : x = nI i) (h2 : y = nI j) (b1 : i < 2 ^ 31) (b2 : j < 2 ^ 31) {off : Int} {tgt : Nat} (hdg : decode cc pc = .ok (.if_icmp .eq off, 3)) (ht : (pc : Int) + off = (tgt : Int))
    (kt : i = j → W p l e R s m args below meth c H locs cells slots Q (F0 m tgt ls rest)) (kf : i ≠ j → W p l e R s m args below meth c H locs cells slots Q (F0 m (pc + 3) ls rest)) : W p l e R s m args below meth c H locs cells slots Q (F0 m pc ls (.int y :: .int x :: rest)) := by
  subst h1; subst h2
  exact lv_icmp_eq hexec hb hdg ht (fun q => kt ((nI_eq b1 b2).mp q)) (fun q => kf (fun z => q ((nI_eq b1 b2).mpr z)))
theorem x_ne (hexec : p.tables.exec = Jvm.exec) (hb : c.code = cc) {x y : Int32} (i j : Nat) (h1 : x = nI i) (h2 : y = nI j) (b1 : i < 2 ^ 31) (b2 : j < 2 ^ 31) {off : Int} {tgt : Nat} (hdg : decode cc pc = .ok (.if_icmp .ne off, 3)) (ht : (pc : Int) + off = (tgt : Int))
    (kt : i ≠ j → W p l e R s m args below meth c H locs cells slots Q (F0 m tgt ls rest)) (kf : i = j → W p l e R s m args below meth c H locs cells slots Q (F0 m (pc + 3) ls rest)) : W p l e R s m args below meth c H locs cells slots Q (F0 m pc ls (.int y :: .int x :: rest)) := by
  subst h1; subst h2
  exact lv_icmp_ne hexec hb hdg ht (fun q => kt (fun z => q ((nI_eq b1 b2).mpr z))) (fun q => kf ((nI_eq b1 b2).mp q))
-- calls: of a method that writes nothing, of one that writes its own cells
variable {y : MethodName} {bytes : ByteArray} {maxL nL n index : Nat} {ret : Option FieldType} {wc : List Cond} {rm : Room} {own C : String} {b : Addr} {As : List Value} {w1 : va_W} {ty1 : List (ClassId × FieldType)} {lv : List (Nat × Value)}
theorem x_roS {post : Int32 → Prop} (S : CallFix p m c cc nL s args lw_all own) (hM : Met l y wc rm (x_Pc D ty1 w1 As) (x_QR post) 0 0 x_no) (cw : CallB R s args own index y bytes maxL ret wc rm 0 0 n ∧ (Cond.static y).before args s = true) (hP1 : va_P D vwCl w1 H) (hK1 : va_K D vwCl ty1 s) (hP : va_P D vwCl ws H) (hS : va_S A H0 H locs) (hl : lv_has ls nL lv) {st0 : List Value} (hst : st0 = As.reverse ++ rest) (hn : As.length = n) (hW : (rest.map fun v => v.category).sum ≤ 8) (hdg : decode cc pc = .ok (.invokestatic index, 3)) (hf : cells ≤ R.cells ∧ slots ≤ R.slots)
    (kk : ∀ (r : Int32) (H1 : Heap) (locs1 : List Loc), post r → va_P D vwCl ws H1 → va_S A H0 H1 locs1 → W p l e R s m args below meth c H1 locs1 cells slots Q (F0 m (pc + 3) ls (.int r :: rest))) : W p l e R s m args below meth c H locs cells slots Q (F0 m pc ls st0) := by
  subst hst
  refine va_calli (va_runS (As := As) (rest := rest) S hM cw ⟨x_Pc_blind, x_Pc_at hP1 hK1⟩ rfl hn hl.1 rfl (lv_room hW) hdg hf) hS (fun _ _ h => h.elim) (fun _ h => h.elim) (fun r u t H1 locs1 ht hvm hp hB hz hk hS1 => ?_)
  exact kk r H1 locs1 hp (x_keep hP (fun q h => hk q h id)) hS1
theorem x_roV {post : Int32 → Prop} (S : CallFix p m c cc nL s args lw_all own) (hM : Met l y wc rm (x_Pc D ty1 w1 (.ref b :: As)) (x_QR post) 0 0 x_no) (cw : CallW R s args own C index y bytes maxL ret wc rm 0 0 n) (hrc : ∃ cell : Cell, H[b]? = some cell ∧ cell.vm.isStatics = false ∧ s.vm.findClass C = some cell.cls) (hP1 : va_P D vwCl w1 H) (hK1 : va_K D vwCl ty1 s) (hP : va_P D vwCl ws H) (hS : va_S A H0 H locs) (hl : lv_has ls nL lv) {st0 : List Value} (hst : st0 = As.reverse ++ .ref b :: rest) (hn : As.length = n) (hW : (rest.map fun v => v.category).sum ≤ 8) (hdg : decode cc pc = .ok (.invokevirtual index, 3)) (hf : cells ≤ R.cells ∧ slots ≤ R.slots)
    (kk : ∀ (r : Int32) (H1 : Heap) (locs1 : List Loc), post r → va_P D vwCl ws H1 → va_S A H0 H1 locs1 → W p l e R s m args below meth c H1 locs1 cells slots Q (F0 m (pc + 3) ls (.int r :: rest))) : W p l e R s m args below meth c H locs cells slots Q (F0 m pc ls st0) := by
  subst hst
  refine va_calli (va_runV (As := As) (rest := rest) S hM cw ⟨x_Pc_blind, hrc, x_Pc_at hP1 hK1⟩ rfl hn hl.1 rfl (lv_room hW) hdg hf) hS (fun _ _ h => h.elim) (fun _ h => h.elim) (fun r u t H1 locs1 ht hvm hp hB hz hk hS1 => ?_)
  exact kk r H1 locs1 hp (x_keep hP (fun q h => hk q h id)) hS1
/-- a call that writes: its world is the caller's -/
theorem x_wrv {σ : Type} {post : σ → Prop} (WS : σ → va_W) (S : CallFix p m c cc nL s args lw_all own) (hM : Met l y wc rm (x_Pc D tys ws (.ref b :: As)) (va_Qv post (fun u t => va_P D vwCl (WS u) t.heap) A) 0 0 A) (cw : CallW R s args own C index y bytes maxL ret wc rm 0 0 n) (hrc : ∃ cell : Cell, H[b]? = some cell ∧ cell.vm.isStatics = false ∧ s.vm.findClass C = some cell.cls) (hK : va_K D vwCl tys s) (hP : va_P D vwCl ws H) (hS : va_S A H0 H locs) (hl : lv_has ls nL lv) {st0 : List Value} (hst : st0 = As.reverse ++ .ref b :: rest) (hn : As.length = n) (hW : (rest.map fun v => v.category).sum ≤ 8) (hdg : decode cc pc = .ok (.invokevirtual index, 3)) (hf : cells ≤ R.cells ∧ slots ≤ R.slots)
    (kk : ∀ (u : σ) (H1 : Heap) (locs1 : List Loc), post u → va_P D vwCl (WS u) H1 → va_S A H0 H1 locs1 → W p l e R s m args below meth c H1 locs1 cells slots Q (F0 m (pc + 3) ls rest)) : W p l e R s m args below meth c H locs cells slots Q (F0 m pc ls st0) := by
  subst hst
  refine va_callv (va_runV (As := As) (rest := rest) S hM cw ⟨x_Pc_blind, hrc, x_Pc_at hP hK⟩ rfl hn hl.1 rfl (lv_room hW) hdg hf) hS (fun _ _ h => h) (fun _ h => h) (fun u t H1 locs1 ht hvm hp hB hz hk hS1 => ?_)
  exact kk u H1 locs1 hp (by rw [← ht]; exact hB) hS1
theorem x_wri {σ : Type} {post : Int32 → σ → Prop} (WS : σ → va_W) (S : CallFix p m c cc nL s args lw_all own) (hM : Met l y wc rm (x_Pc D tys ws (.ref b :: As)) (va_Qi post (fun u t => va_P D vwCl (WS u) t.heap) A) 0 0 A) (cw : CallW R s args own C index y bytes maxL ret wc rm 0 0 n) (hrc : ∃ cell : Cell, H[b]? = some cell ∧ cell.vm.isStatics = false ∧ s.vm.findClass C = some cell.cls) (hK : va_K D vwCl tys s) (hP : va_P D vwCl ws H) (hS : va_S A H0 H locs) (hl : lv_has ls nL lv) {st0 : List Value} (hst : st0 = As.reverse ++ .ref b :: rest) (hn : As.length = n) (hW : (rest.map fun v => v.category).sum ≤ 8) (hdg : decode cc pc = .ok (.invokevirtual index, 3)) (hf : cells ≤ R.cells ∧ slots ≤ R.slots)
    (kk : ∀ (r : Int32) (u : σ) (H1 : Heap) (locs1 : List Loc), post r u → va_P D vwCl (WS u) H1 → va_S A H0 H1 locs1 → W p l e R s m args below meth c H1 locs1 cells slots Q (F0 m (pc + 3) ls (.int r :: rest))) : W p l e R s m args below meth c H locs cells slots Q (F0 m pc ls st0) := by
  subst hst
  refine va_calli (va_runV (As := As) (rest := rest) S hM cw ⟨x_Pc_blind, hrc, x_Pc_at hP hK⟩ rfl hn hl.1 rfl (lv_room hW) hdg hf) hS (fun _ _ h => h) (fun _ h => h) (fun r u t H1 locs1 ht hvm hp hB hz hk hS1 => ?_)
  exact kk r u H1 locs1 hp (by rw [← ht]; exact hB) hS1
/-- the end of a method that writes nothing -/
theorem x_iret {cc : ByteArray} {post : Int32 → Prop} {v : Int32} {pc : Nat} {ls : Array Slot} {locs : List Loc} (hexec : p.tables.exec = Jvm.exec) (hb : c.code = cc) (hr : meth.sig.returnType = some .int) (hlocks : meth.locks = false) (hS : va_S x_no s.heap H locs) (hdg : decode cc pc = .ok (.ireturn, 1)) (hp : post v) : W p l e R s m args below meth c H locs cells slots (MQ below (x_QR post) args s cells slots x_no) (F0 m pc ls [.int v]) :=
  W.iret (v := v) hexec hb hr (fun t ht hW => ⟨⟨v, (), rfl, hp, trivial⟩, hS.F ht⟩) hS.2.2 hdg
theorem x_zret {cc : ByteArray} {post : Int32 → Prop} {v : Int32} {pc : Nat} {ls : Array Slot} {locs : List Loc} (hexec : p.tables.exec = Jvm.exec) (hb : c.code = cc) (hr : meth.sig.returnType = some .boolean) (hlocks : meth.locks = false) (hS : va_S x_no s.heap H locs) (hdg : decode cc pc = .ok (.ireturn, 1)) (h01 : v = nI 0 ∨ v = nI 1) (hp : post v) : W p l e R s m args below meth c H locs cells slots (MQ below (x_QR post) args s cells slots x_no) (F0 m pc ls [.int v]) := by
  rcases h01 with rfl | rfl
  · exact W.zret (v := nI 0) hexec hb hr rfl (fun t ht hW => ⟨⟨nI 0, (), rfl, hp, trivial⟩, hS.F ht⟩) hS.2.2 hdg
  · exact W.zret (v := nI 1) hexec hb hr rfl (fun t ht hW => ⟨⟨nI 1, (), rfl, hp, trivial⟩, hS.F ht⟩) hS.2.2 hdg
theorem x_vretW {σ : Type} {cc : ByteArray} {post : σ → Prop} {WS : σ → va_W} {Fr : Nat → Prop} {pc : Nat} {ls : Array Slot} {locs : List Loc} (u : σ) (hexec : p.tables.exec = Jvm.exec) (hb : c.code = cc) (hr : meth.sig.returnType = none) (hlocks : meth.locks = false) (hS : va_S Fr s.heap H locs) (hP : va_P D vwCl (WS u) H) (hdg : decode cc pc = .ok (.return_, 1)) (hp : post u) : W p l e R s m args below meth c H locs cells slots (MQ below (va_Qv post (fun u t => va_P D vwCl (WS u) t.heap) Fr) args s cells slots Fr) (F0 m pc ls []) :=
  W.vret hexec hb hr (fun t ht hW => ⟨⟨u, rfl, hp, by show va_P D vwCl (WS u) t.heap; rw [ht]; exact hP⟩, hS.F ht⟩) hS.2.2 hdg
theorem x_iretW {σ : Type} {cc : ByteArray} {post : Int32 → σ → Prop} {WS : σ → va_W} {Fr : Nat → Prop} {v : Int32} {pc : Nat} {ls : Array Slot} {locs : List Loc} (u : σ) (hexec : p.tables.exec = Jvm.exec) (hb : c.code = cc) (hr : meth.sig.returnType = some .int) (hlocks : meth.locks = false) (hS : va_S Fr s.heap H locs) (hP : va_P D vwCl (WS u) H) (hdg : decode cc pc = .ok (.ireturn, 1)) (hp : post v u) : W p l e R s m args below meth c H locs cells slots (MQ below (va_Qi post (fun u t => va_P D vwCl (WS u) t.heap) Fr) args s cells slots Fr) (F0 m pc ls [.int v]) :=
  W.iret (v := v) hexec hb hr (fun t ht hW => ⟨⟨v, u, rfl, hp, by show va_P D vwCl (WS u) t.heap; rw [ht]; exact hP⟩, hS.F ht⟩) hS.2.2 hdg
theorem x_zretW {σ : Type} {cc : ByteArray} {post : Int32 → σ → Prop} {WS : σ → va_W} {Fr : Nat → Prop} {v : Int32} {pc : Nat} {ls : Array Slot} {locs : List Loc} (u : σ) (hexec : p.tables.exec = Jvm.exec) (hb : c.code = cc) (hr : meth.sig.returnType = some .boolean) (hlocks : meth.locks = false) (hS : va_S Fr s.heap H locs) (hP : va_P D vwCl (WS u) H) (hdg : decode cc pc = .ok (.ireturn, 1)) (h01 : v = nI 0 ∨ v = nI 1) (hp : post v u) : W p l e R s m args below meth c H locs cells slots (MQ below (va_Qi post (fun u t => va_P D vwCl (WS u) t.heap) Fr) args s cells slots Fr) (F0 m pc ls [.int v]) := by
  rcases h01 with rfl | rfl
  · exact W.zret (v := nI 0) hexec hb hr rfl (fun t ht hW => ⟨⟨nI 0, u, rfl, hp, by show va_P D vwCl (WS u) t.heap; rw [ht]; exact hP⟩, hS.F ht⟩) hS.2.2 hdg
  · exact W.zret (v := nI 1) hexec hb hr rfl (fun t ht hW => ⟨⟨nI 1, u, rfl, hp, by show va_P D vwCl (WS u) t.heap; rw [ht]; exact hP⟩, hS.F ht⟩) hS.2.2 hdg
end WB
abbrev xS : Type := (Nat → Nat → Int32) × Int32 × Int32
abbrev xV (d : Nat → ClassId) (h : Nat) (ad : Nat → Nat) (u : xS) : va_W := xW d h ad u.1 u.2.1 u.2.2
-- Int32 as whole numbers
theorem z_add {x y : Int32} (h1 : -2147483648 ≤ x.toInt + y.toInt) (h2 : x.toInt + y.toInt < 2147483648) : (x + y).toInt = x.toInt + y.toInt := by
  rw [Int32.toInt_add]; exact Int.bmod_eq_of_le (by omega) (by omega)
theorem z_sub {x y : Int32} (h1 : -2147483648 ≤ x.toInt - y.toInt) (h2 : x.toInt - y.toInt < 2147483648) : (x - y).toInt = x.toInt - y.toInt := by
  rw [Int32.toInt_sub]; exact Int.bmod_eq_of_le (by omega) (by omega)
theorem z_mul {x y : Int32} (h1 : -2147483648 ≤ x.toInt * y.toInt) (h2 : x.toInt * y.toInt < 2147483648) : (x * y).toInt = x.toInt * y.toInt := by
  rw [Int32.toInt_mul]; exact Int.bmod_eq_of_le (by omega) (by omega)
theorem z_lt {x y : Int32} : x < y ↔ x.toInt < y.toInt := Int32.lt_iff_toInt_lt
theorem z_le {x y : Int32} : x ≤ y ↔ x.toInt ≤ y.toInt := Int32.le_iff_toInt_le
theorem z_0 : (nI 0).toInt = 0 := rfl
theorem z_nI {n : Nat} (h : n < 2147483648) : (nI n).toInt = n := nI_toInt h
theorem z_eq {x y : Int32} : x = y ↔ x.toInt = y.toInt := ⟨fun h => by rw [h], fun h => Int32.toInt_inj.mp h⟩
theorem z_of {x : Int32} {N : Nat} (h0 : 0 ≤ x.toInt) (h1 : x.toInt < N) (hN : N < 2147483648) : ∃ n, n < N ∧ x = nI n := by
  refine ⟨x.toInt.toNat, by omega, z_eq.mpr ?_⟩
  rw [z_nI (by omega)]
  omega
theorem nb0 {b : Bool} : nI b.toNat = 0 ↔ b = false := by cases b <;> decide
theorem nbj {a b : Bool} : a.toNat = b.toNat ↔ a = b := by cases a <;> cases b <;> decide
theorem nbl (b : Bool) : b.toNat < 2 ^ 31 := by cases b <;> decide
end
section
/-! plain laws: sums, cuts and what is left, pushing along a way -/
def sm (f : Nat → Int) : Nat → Int
  | 0 => 0
  | n + 1 => sm f n + f n
theorem sm_congr {f g : Nat → Int} : ∀ (n : Nat), (∀ i, i < n → f i = g i) → sm f n = sm g n
  | 0, _ => rfl
  | n + 1, h => by
    show sm f n + f n = sm g n + g n
    rw [sm_congr n (fun i hi => h i (Nat.lt_succ_of_lt hi)), h n (Nat.lt_succ_self n)]
theorem sm_add (f g : Nat → Int) : ∀ n, sm (fun i => f i + g i) n = sm f n + sm g n
  | 0 => rfl
  | n + 1 => by
    show sm (fun i => f i + g i) n + (f n + g n) = (sm f n + f n) + (sm g n + g n)
    rw [sm_add f g n]; omega
theorem sm_zero {f : Nat → Int} : ∀ n, (∀ i, i < n → f i = 0) → sm f n = 0
  | 0, _ => rfl
  | n + 1, h => by
    show sm f n + f n = 0
    rw [sm_zero n (fun i hi => h i (Nat.lt_succ_of_lt hi)), h n (Nat.lt_succ_self n)]; rfl
theorem sm_nn {f : Nat → Int} : ∀ n, (∀ i, i < n → 0 ≤ f i) → 0 ≤ sm f n
  | 0, _ => Int.le_refl 0
  | n + 1, h => by
    have h1 := sm_nn n (fun i hi => h i (Nat.lt_succ_of_lt hi))
    have h2 := h n (Nat.lt_succ_self n)
    show 0 ≤ sm f n + f n
    omega
theorem sm_le {f : Nat → Int} {B : Int} : ∀ n : Nat, (∀ i, i < n → f i ≤ B) → sm f n ≤ n * B
  | 0, _ => by simp [sm]
  | n + 1, h => by
    have h1 := sm_le n (fun i hi => h i (Nat.lt_succ_of_lt hi))
    have h2 := h n (Nat.lt_succ_self n)
    show sm f n + f n ≤ (n + 1 : Nat) * B
    have h3 : ((n + 1 : Nat) : Int) * B = n * B + B := by rw [Int.natCast_add, Int.add_mul]; simp
    omega
/-- a term of a sum of numbers that aren't negative -/
theorem sm_ge {f : Nat → Int} : ∀ n, (∀ i, i < n → 0 ≤ f i) → ∀ k, k < n → f k ≤ sm f n
  | 0, _, k, hk => absurd hk (Nat.not_lt_zero _)
  | n + 1, h, k, hk => by
    have h0 := sm_nn n (fun i hi => h i (Nat.lt_succ_of_lt hi))
    have h2 := h n (Nat.lt_succ_self n)
    show f k ≤ sm f n + f n
    rcases Nat.lt_or_ge k n with q | q
    · have := sm_ge n (fun i hi => h i (Nat.lt_succ_of_lt hi)) k q
      omega
    · have : k = n := by omega
      subst this
      omega
/-- one term is another -/
theorem sm_one {f g : Nat → Int} {k : Nat} {z : Int} (hz : g k = f k + z) : ∀ n, (∀ i, i < n → i ≠ k → g i = f i) → sm g n = sm f n + (if k < n then z else 0)
  | 0, _ => by simp [sm]
  | n + 1, h => by
    have h1 := sm_one hz n (fun i hi => h i (Nat.lt_succ_of_lt hi))
    show sm g n + g n = sm f n + f n + _
    rw [h1]
    rcases Nat.decEq n k with q | q
    · rw [h n (Nat.lt_succ_self n) q]
      by_cases hk : k < n
      · rw [if_pos hk, if_pos (by omega)]; omega
      · rw [if_neg hk, if_neg (by omega)]; omega
    · subst q
      rw [hz, if_neg (by omega), if_pos (by omega)]
      omega
/-- a square sum by its corners -/
theorem sm_sq (g : Nat → Nat → Int) : ∀ n, sm (fun u => sm (fun v => g u v) n) n = sm (fun v => sm (fun u => g u v + g v u) v + g v v) n := by
  have row : ∀ n k : Nat, sm (fun u => sm (fun v => g u v) (n + 1)) k = sm (fun u => sm (fun v => g u v) n) k + sm (fun u => g u n) k := by
    intro n k
    rw [← sm_add]
    rfl
  intro n
  induction n with
  | zero => rfl
  | succ n ih =>
    show sm (fun u => sm (fun v => g u v) (n + 1)) n + sm (fun v => g n v) (n + 1) = sm (fun v => sm (fun u => g u v + g v u) v + g v v) n + (sm (fun u => g u n + g n u) n + g n n)
    rw [row, ih, sm_add (fun u => g u n) (fun u => g n u)]
    show _ + sm (fun u => g u n) n + (sm (fun v => g n v) n + g n n) = _
    omega
/-- how many -/
def cnt (P : Nat → Bool) : Nat → Nat
  | 0 => 0
  | n + 1 => cnt P n + (if P n then 1 else 0)
theorem cnt_le (P : Nat → Bool) : ∀ n, cnt P n ≤ n
  | 0 => Nat.le_refl 0
  | n + 1 => by
    have := cnt_le P n
    show cnt P n + (if P n then 1 else 0) ≤ n + 1
    split <;> omega
theorem cnt_congr {P P' : Nat → Bool} : ∀ n, (∀ i, i < n → P i = P' i) → cnt P n = cnt P' n
  | 0, _ => rfl
  | n + 1, h => by
    show cnt P n + _ = cnt P' n + _
    rw [cnt_congr n (fun i hi => h i (Nat.lt_succ_of_lt hi)), h n (Nat.lt_succ_self n)]
theorem cnt_mono {P P' : Nat → Bool} : ∀ n, (∀ i, i < n → P i = true → P' i = true) → cnt P n ≤ cnt P' n
  | 0, _ => Nat.le_refl 0
  | n + 1, h => by
    have h1 := cnt_mono n (fun i hi => h i (Nat.lt_succ_of_lt hi))
    have h2 := h n (Nat.lt_succ_self n)
    show cnt P n + (if P n then 1 else 0) ≤ cnt P' n + (if P' n then 1 else 0)
    cases hp : P n with
    | false => simp; omega
    | true => rw [h2 hp]; simp; omega
/-- one more: k comes in -/
theorem cnt_lt {P P' : Nat → Bool} {k : Nat} (hk0 : P k = false) (hk1 : P' k = true) : ∀ n, k < n → (∀ i, i < n → P i = true → P' i = true) → cnt P n + 1 ≤ cnt P' n
  | 0, h, _ => absurd h (Nat.not_lt_zero _)
  | n + 1, hk, h => by
    have h2 := h n (Nat.lt_succ_self n)
    show cnt P n + (if P n then 1 else 0) + 1 ≤ cnt P' n + (if P' n then 1 else 0)
    rcases Nat.decEq k n with q | q
    · have h1 := cnt_lt hk0 hk1 n (by omega) (fun i hi => h i (Nat.lt_succ_of_lt hi))
      cases hp : P n with
      | false => simp; omega
      | true => rw [h2 hp]; simp; omega
    · subst q
      have h1 := cnt_mono k (fun i hi => h i (Nat.lt_succ_of_lt hi))
      rw [hk0, hk1]
      simp
      omega
/-- just one more -/
theorem cnt_add {P P' : Nat → Bool} {k : Nat} (hk0 : P k = false) (hk1 : P' k = true) : ∀ n, k < n → (∀ i, i < n → i ≠ k → P' i = P i) → cnt P' n = cnt P n + 1
  | 0, h, _ => absurd h (Nat.not_lt_zero _)
  | n + 1, hk, h => by
    show cnt P' n + (if P' n then 1 else 0) = cnt P n + (if P n then 1 else 0) + 1
    rcases Nat.decEq k n with q | q
    · rw [cnt_add hk0 hk1 n (by omega) (fun i hi => h i (Nat.lt_succ_of_lt hi)), h n (Nat.lt_succ_self n) (fun z => q z.symm)]
      omega
    · subst q
      rw [hk0, hk1, cnt_congr k (fun i hi => h i (Nat.lt_succ_of_lt hi) (by omega))]
      simp
theorem cnt_pos {P : Nat → Bool} : ∀ n, 0 < cnt P n → ∃ k, k < n ∧ P k = true
  | 0, h => absurd h (Nat.lt_irrefl _)
  | n + 1, h => by
    cases hp : P n with
    | true => exact ⟨n, Nat.lt_succ_self n, hp⟩
    | false =>
      have h1 : 0 < cnt P n := by
        have h2 : cnt P (n + 1) = cnt P n + (if P n then 1 else 0) := rfl
        rw [hp] at h2
        simp at h2
        omega
      obtain ⟨k, a, b⟩ := cnt_pos n h1
      exact ⟨k, Nat.lt_succ_of_lt a, b⟩
theorem cnt_zero {P : Nat → Bool} {n : Nat} (h : cnt P n = 0) : ∀ k, k < n → P k = false := by
  intro k hk
  cases hp : P k with
  | false => rfl
  | true =>
    have := cnt_lt (P := fun _ => false) (P' := P) rfl hp n hk (fun i hi q => by cases q)
    omega
-- pulls, costs
def pl (b s : Int32) (x : Nat) : Int := if 0 < b.toInt + s.toInt * x then b.toInt + s.toInt * x else 0
/-- the cost of a side S at x, data g (0: capacities; 1, 2: source; 3, 4: sink) -/
def pr (g : Nat → Nat → Int32) (S : Nat → Bool) (x : Nat) : Int :=
  sm (fun v => (if S v then pl (g 3 v) (g 4 v) x else pl (g 1 v) (g 2 v) x) + sm (fun u => if S u = S v then 0 else (g 0 (u * 7 + v)).toInt) v) 7
def DOK (g : Nat → Nat → Int32) : Prop :=
  (∀ u v, u < 7 → v < 7 → 0 ≤ (g 0 (u * 7 + v)).toInt ∧ (g 0 (u * 7 + v)).toInt ≤ 20 ∧ g 0 (u * 7 + v) = g 0 (v * 7 + u)) ∧
  (∀ v, v < 7 → (0 ≤ (g 1 v).toInt ∧ (g 1 v).toInt ≤ 40) ∧ (-2 ≤ (g 2 v).toInt ∧ (g 2 v).toInt ≤ 2) ∧ (0 ≤ (g 3 v).toInt ∧ (g 3 v).toInt ≤ 40) ∧ (-2 ≤ (g 4 v).toInt ∧ (g 4 v).toInt ≤ 2))
theorem pl_in {b s : Int32} {x : Nat} (h1 : b.toInt ≤ 40) (h2 : -2 ≤ s.toInt) (h3 : s.toInt ≤ 2) (hx : x ≤ 50) : 0 ≤ pl b s x ∧ pl b s x ≤ 140 := by
  unfold pl
  have hx' : (x : Int) ≤ 50 := by omega
  have hx0 : (0 : Int) ≤ x := by omega
  have h4 : s.toInt * x ≤ 2 * x := Int.mul_le_mul_of_nonneg_right h3 hx0
  split <;> omega
theorem pl_raw {b s : Int32} {x : Nat} (h0 : 0 ≤ b.toInt) (h1 : b.toInt ≤ 40) (h2 : -2 ≤ s.toInt) (h3 : s.toInt ≤ 2) (hx : x ≤ 50) : -100 ≤ s.toInt * (x : Int) ∧ s.toInt * (x : Int) ≤ 100 := by
  have hx0 : (0 : Int) ≤ x := by omega
  have h4 : s.toInt * x ≤ 2 * x := Int.mul_le_mul_of_nonneg_right h3 hx0
  have h5 : -2 * (x : Int) ≤ s.toInt * x := Int.mul_le_mul_of_nonneg_right h2 hx0
  omega
theorem pr_congr {g g' : Nat → Nat → Int32} (h : ∀ k, k < 5 → g k = g' k) (S : Nat → Bool) (x : Nat) : pr g S x = pr g' S x := by
  unfold pr
  rw [h 0 (by omega), h 1 (by omega), h 2 (by omega), h 3 (by omega), h 4 (by omega)]
theorem pr_side {g : Nat → Nat → Int32} {S T : Nat → Bool} (h : ∀ v, v < 7 → S v = T v) (x : Nat) : pr g S x = pr g T x := by
  unfold pr
  refine sm_congr 7 (fun v hv => ?_)
  show _ + sm (fun u => _) v = _ + sm (fun u => _) v
  rw [h v hv]
  congr 1
  exact sm_congr v (fun u hu => by rw [h u (by omega)])
theorem DOK_congr {g g' : Nat → Nat → Int32} (h : ∀ k, k < 5 → g k = g' k) (hg : DOK g) : DOK g' := by
  unfold DOK at *
  rw [← h 0 (by omega), ← h 1 (by omega), ← h 2 (by omega), ← h 3 (by omega), ← h 4 (by omega)]
  exact hg
/-- a cost isn't negative, and not above 2000 -/
theorem pr_in {g : Nat → Nat → Int32} (hg : DOK g) (S : Nat → Bool) {x : Nat} (hx : x ≤ 50) : 0 ≤ pr g S x ∧ pr g S x ≤ 1820 := by
  have hp : ∀ v, v < 7 → 0 ≤ (if S v then pl (g 3 v) (g 4 v) x else pl (g 1 v) (g 2 v) x) ∧ (if S v then pl (g 3 v) (g 4 v) x else pl (g 1 v) (g 2 v) x) ≤ 140 := by
    intro v hv
    obtain ⟨a, b, c, d⟩ := hg.2 v hv
    cases S v
    · exact pl_in a.2 b.1 b.2 hx
    · exact pl_in c.2 d.1 d.2 hx
  have hc : ∀ v, v < 7 → ∀ u, u < v → 0 ≤ (if S u = S v then 0 else (g 0 (u * 7 + v)).toInt) ∧ (if S u = S v then 0 else (g 0 (u * 7 + v)).toInt) ≤ 20 := by
    intro v hv u hu
    have := hg.1 u v (by omega) hv
    split <;> omega
  constructor
  · refine sm_nn 7 (fun v hv => ?_)
    have h1 := hp v hv
    have h2 : 0 ≤ sm (fun u => if S u = S v then 0 else (g 0 (u * 7 + v)).toInt) v := sm_nn v (fun u hu => (hc v hv u hu).1)
    omega
  · have : pr g S x ≤ (7 : Nat) * (260 : Int) := by
      refine sm_le 7 (fun v hv => ?_)
      have h1 := hp v hv
      have h2 : sm (fun u => if S u = S v then 0 else (g 0 (u * 7 + v)).toInt) v ≤ (v : Nat) * (20 : Int) := sm_le v (fun u hu => (hc v hv u hu).2)
      omega
    omega
-- what is left over a cut
def rc (L : Nat → Int) (T : Nat → Bool) : Int := sm (fun u => sm (fun v => if T u && !T v then L (u * 9 + v) else 0) 9) 9
theorem rc_congr {L M : Nat → Int} (T : Nat → Bool) (h : ∀ u v, u < 9 → v < 9 → L (u * 9 + v) = M (u * 9 + v)) : rc L T = rc M T := by
  unfold rc
  exact sm_congr 9 (fun u hu => sm_congr 9 (fun v hv => by rw [h u v hu hv]))
theorem rc_nn {L : Nat → Int} (h : ∀ u v, u < 9 → v < 9 → 0 ≤ L (u * 9 + v)) (T : Nat → Bool) : 0 ≤ rc L T := by
  unfold rc
  refine sm_nn 9 (fun u hu => sm_nn 9 (fun v hv => ?_))
  have := h u v hu hv
  split <;> omega
theorem rc_ge {L : Nat → Int} (h : ∀ u v, u < 9 → v < 9 → 0 ≤ L (u * 9 + v)) {T : Nat → Bool} {u v : Nat} (hu : u < 9) (hv : v < 9) (h1 : T u = true) (h2 : T v = false) : L (u * 9 + v) ≤ rc L T := by
  have e1 : L (u * 9 + v) = (fun v => if T u && !T v then L (u * 9 + v) else 0) v := by simp [h1, h2]
  have nn : ∀ u, u < 9 → ∀ v, v < 9 → 0 ≤ (if T u && !T v then L (u * 9 + v) else 0) := by
    intro u hu v hv
    have := h u v hu hv
    split <;> omega
  have e2 := sm_ge (f := fun v => if T u && !T v then L (u * 9 + v) else 0) 9 (nn u hu) v hv
  have e3 := sm_ge (f := fun u => sm (fun v => if T u && !T v then L (u * 9 + v) else 0) 9) 9 (fun u hu => sm_nn 9 (nn u hu)) u hu
  rw [e1]
  exact Int.le_trans e2 e3
/-- one number is another -/
theorem rc_up {L : Nat → Int} {T : Nat → Bool} {p q : Nat} (hp : p < 9) (hq : q < 9) (z : Int) : rc (va_up L (p * 9 + q) z) T = rc L T + (if T p && !T q then z - L (p * 9 + q) else 0) := by
  have row : ∀ u, u < 9 → u ≠ p → sm (fun v => if T u && !T v then va_up L (p * 9 + q) z (u * 9 + v) else 0) 9 = sm (fun v => if T u && !T v then L (u * 9 + v) else 0) 9 := by
    intro u hu hne
    refine sm_congr 9 (fun v hv => ?_)
    have : va_up L (p * 9 + q) z (u * 9 + v) = L (u * 9 + v) := if_neg (by omega)
    rw [this]
  have rowp : sm (fun v => if T p && !T v then va_up L (p * 9 + q) z (p * 9 + v) else 0) 9 = sm (fun v => if T p && !T v then L (p * 9 + v) else 0) 9 + (if T p && !T q then z - L (p * 9 + q) else 0) := by
    have h1 : (fun v => if T p && !T v then va_up L (p * 9 + q) z (p * 9 + v) else 0) q = (fun v => if T p && !T v then L (p * 9 + v) else 0) q + (if T p && !T q then z - L (p * 9 + q) else 0) := by
      have : va_up L (p * 9 + q) z (p * 9 + q) = z := if_pos rfl
      show (if T p && !T q then va_up L (p * 9 + q) z (p * 9 + q) else 0) = (if T p && !T q then L (p * 9 + q) else 0) + _
      rw [this]
      split <;> omega
    have h2 := sm_one (k := q) h1 9 (fun v hv hne => by
      have : va_up L (p * 9 + q) z (p * 9 + v) = L (p * 9 + v) := if_neg (by omega)
      show (if T p && !T v then va_up L (p * 9 + q) z (p * 9 + v) else 0) = (if T p && !T v then L (p * 9 + v) else 0)
      rw [this])
    rw [h2, if_pos hq]
  have h3 := sm_one (f := fun u => sm (fun v => if T u && !T v then L (u * 9 + v) else 0) 9) (g := fun u => sm (fun v => if T u && !T v then va_up L (p * 9 + q) z (u * 9 + v) else 0) 9) (k := p) rowp 9 row
  show sm (fun u => sm (fun v => if T u && !T v then va_up L (p * 9 + q) z (u * 9 + v) else 0) 9) 9 = _
  rw [h3, if_pos hp]
  rfl
/-- what is loaded, between places u and v -/
def ldF (g : Nat → Nat → Int32) (x u v : Nat) : Int :=
  if u < 7 then (if v < 7 then (g 0 (u * 7 + v)).toInt else if v = 8 then pl (g 3 u) (g 4 u) x else 0) else if u = 7 then (if v < 7 then pl (g 1 v) (g 2 v) x else 0) else 0
theorem rc_load {g : Nat → Nat → Int32} (hg : DOK g) {x : Nat} {L : Nat → Int} (hL : ∀ u v, u < 9 → v < 9 → L (u * 9 + v) = ldF g x u v) {T : Nat → Bool} (h7 : T 7 = true) (h8 : T 8 = false) : rc L T = pr g T x := by
  have e : rc L T = sm (fun u => sm (fun v => if T u && !T v then ldF g x u v else 0) 9) 9 := by
    unfold rc
    exact sm_congr 9 (fun u hu => sm_congr 9 (fun v hv => by rw [hL u v hu hv]))
  have row : ∀ u, u < 7 → sm (fun v => if T u && !T v then ldF g x u v else 0) 9 = sm (fun v => if T u && !T v then (g 0 (u * 7 + v)).toInt else 0) 7 + (if T u then pl (g 3 u) (g 4 u) x else 0) := by
    intro u hu
    show sm (fun v => if T u && !T v then ldF g x u v else 0) 7 + (if T u && !T 7 then ldF g x u 7 else 0) + (if T u && !T 8 then ldF g x u 8 else 0) = _
    rw [h7, h8]
    have h1 : ldF g x u 8 = pl (g 3 u) (g 4 u) x := by simp [ldF, hu]
    have h2 : sm (fun v => if T u && !T v then ldF g x u v else 0) 7 = sm (fun v => if T u && !T v then (g 0 (u * 7 + v)).toInt else 0) 7 := sm_congr 7 (fun v hv => by simp [ldF, hu, hv])
    rw [h1, h2]
    simp
  have row7 : sm (fun v => if T 7 && !T v then ldF g x 7 v else 0) 9 = sm (fun v => if T v then 0 else pl (g 1 v) (g 2 v) x) 7 := by
    show sm (fun v => if T 7 && !T v then ldF g x 7 v else 0) 7 + (if T 7 && !T 7 then ldF g x 7 7 else 0) + (if T 7 && !T 8 then ldF g x 7 8 else 0) = _
    rw [h7, h8]
    have h2 : sm (fun v => if true && !T v then ldF g x 7 v else 0) 7 = sm (fun v => if T v then 0 else pl (g 1 v) (g 2 v) x) 7 := sm_congr 7 (fun v hv => by cases T v <;> simp [ldF, hv])
    rw [h2]
    simp [ldF]
  have row8 : sm (fun v => if T 8 && !T v then ldF g x 8 v else 0) 9 = 0 := sm_zero 9 (fun v hv => by simp [h8])
  rw [e]
  show sm (fun u => sm (fun v => if T u && !T v then ldF g x u v else 0) 9) 7 + sm (fun v => if T 7 && !T v then ldF g x 7 v else 0) 9 + sm (fun v => if T 8 && !T v then ldF g x 8 v else 0) 9 = _
  rw [row7, row8, sm_congr 7 row, sm_add, sm_sq (fun u v => if T u && !T v then (g 0 (u * 7 + v)).toInt else 0) 7]
  have fin : pr g T x = sm (fun v => sm (fun u => if T u = T v then 0 else (g 0 (u * 7 + v)).toInt) v) 7 + (sm (fun u => if T u then pl (g 3 u) (g 4 u) x else 0) 7 + sm (fun v => if T v then 0 else pl (g 1 v) (g 2 v) x) 7) := by
    rw [← sm_add, ← sm_add]
    refine sm_congr 7 (fun v hv => ?_)
    cases T v <;> simp <;> omega
  rw [fin]
  have corner : sm (fun v => sm (fun u => (if T u && !T v then (g 0 (u * 7 + v)).toInt else 0) + (if T v && !T u then (g 0 (v * 7 + u)).toInt else 0)) v + (if T v && !T v then (g 0 (v * 7 + v)).toInt else 0)) 7 = sm (fun v => sm (fun u => if T u = T v then 0 else (g 0 (u * 7 + v)).toInt) v) 7 := by
    refine sm_congr 7 (fun v hv => ?_)
    have h1 : (if T v && !T v then (g 0 (v * 7 + v)).toInt else 0) = 0 := by cases T v <;> simp
    show sm (fun u => (if T u && !T v then (g 0 (u * 7 + v)).toInt else 0) + (if T v && !T u then (g 0 (v * 7 + u)).toInt else 0)) v + (if T v && !T v then (g 0 (v * 7 + v)).toInt else 0) = sm (fun u => if T u = T v then 0 else (g 0 (u * 7 + v)).toInt) v
    rw [h1, Int.add_zero]
    refine sm_congr v (fun u hu => ?_)
    have h2 := (hg.1 u v (by omega) hv).2.2
    rw [← h2]
    cases T u <;> cases T v <;> simp
  rw [corner]
  omega
end
section
/-! plain laws: ways, pushing, and how long the growing goes on -/
def NN (L : Nat → Int) : Prop := ∀ u v, u < 9 → v < 9 → 0 ≤ L (u * 9 + v)
/-- a way from source to sink along what is left; a short one if a node is next to both -/
def Way (L : Nat → Int) (k : Nat) (pt : Nat → Nat) : Prop :=
  1 ≤ k ∧ k ≤ 8 ∧ pt 0 = 7 ∧ pt k = 8 ∧ (∀ i, i ≤ k → pt i < 9) ∧ (∀ i j, i ≤ k → j ≤ k → pt i = pt j → i = j) ∧ (∀ i, i < k → 0 < L (pt i * 9 + pt (i + 1))) ∧ ((∃ w, w < 7 ∧ 0 < L (63 + w) ∧ 0 < L (w * 9 + 8)) → k ≤ 2)
/-- one step of a push, from v back to u -/
def pst (L : Nat → Int) (u v : Nat) (am : Int) : Nat → Int :=
  va_up (va_up L (u * 9 + v) (L (u * 9 + v) - am)) (v * 9 + u) (va_up L (u * 9 + v) (L (u * 9 + v) - am) (v * 9 + u) + am)
/-- the push, i steps from the sink -/
def psh (L : Nat → Int) (pt : Nat → Nat) (am : Int) (k : Nat) : Nat → (Nat → Int)
  | 0 => L
  | i + 1 => pst (psh L pt am k i) (pt (k - 1 - i)) (pt (k - i)) am
theorem pst_rc {L : Nat → Int} {u v : Nat} {am : Int} (hu : u < 9) (hv : v < 9) (T : Nat → Bool) : rc (pst L u v am) T = rc L T - (if T u then am else 0) + (if T v then am else 0) := by
  unfold pst
  rw [rc_up hv hu, rc_up hu hv]
  cases T u <;> cases T v <;> simp <;> omega
theorem pst_self {L : Nat → Int} {u v : Nat} {am : Int} (hu : u < 9) (hv : v < 9) (hne : u ≠ v) : pst L u v am (u * 9 + v) = L (u * 9 + v) - am := by
  unfold pst va_up
  rw [if_neg (by omega), if_pos rfl]
theorem pst_back {L : Nat → Int} {u v : Nat} {am : Int} (hu : u < 9) (hv : v < 9) (hne : u ≠ v) : pst L u v am (v * 9 + u) = L (v * 9 + u) + am := by
  unfold pst va_up
  rw [if_pos rfl, if_neg (by omega)]
theorem pst_other {L : Nat → Int} {u v : Nat} {am : Int} {q : Nat} (h1 : q ≠ u * 9 + v) (h2 : q ≠ v * 9 + u) : pst L u v am q = L q := by
  unfold pst va_up
  rw [if_neg h2, if_neg h1]
/-- nothing gets below zero, what is left over each cut falls by the amount -/
theorem psh_inv {L : Nat → Int} {k : Nat} {pt : Nat → Nat} {am : Int} (hw : Way L k pt) (hn : NN L) (ha : 1 ≤ am) (hr : ∀ i, i < k → am ≤ L (pt i * 9 + pt (i + 1))) :
    ∀ i, i ≤ k → NN (psh L pt am k i) ∧ (∀ j, j < k - i → am ≤ psh L pt am k i (pt j * 9 + pt (j + 1))) ∧ ∀ T : Nat → Bool, T 8 = false → rc (psh L pt am k i) T = rc L T - (if T (pt (k - i)) then am else 0) := by
  obtain ⟨hk1, hk8, h0, hk, hlt, hinj, hpos, -⟩ := hw
  intro i
  induction i with
  | zero =>
    intro _
    refine ⟨hn, fun j hj => hr j (by omega), fun T hT => ?_⟩
    show rc L T = _
    rw [show k - 0 = k from rfl, hk, hT]
    simp
  | succ i ih =>
    intro hi
    obtain ⟨n1, e1, r1⟩ := ih (by omega)
    have hu := hlt (k - 1 - i) (by omega)
    have hv := hlt (k - i) (by omega)
    have hs : k - 1 - i + 1 = k - i := by omega
    have hne : pt (k - 1 - i) ≠ pt (k - i) := fun q => by
      have := hinj _ _ (by omega) (by omega) q
      omega
    have hroom := e1 (k - 1 - i) (by omega)
    rw [hs] at hroom
    refine ⟨?_, ?_, ?_⟩
    · intro u v hu2 hv2
      show 0 ≤ pst _ _ _ am (u * 9 + v)
      have hb := n1 u v hu2 hv2
      by_cases c1 : u * 9 + v = pt (k - 1 - i) * 9 + pt (k - i)
      · rw [c1, pst_self hu hv hne]; omega
      · by_cases c2 : u * 9 + v = pt (k - i) * 9 + pt (k - 1 - i)
        · rw [c2, pst_back hu hv hne]
          rw [c2] at hb
          omega
        · rw [pst_other c1 c2]; exact hb
    · intro j hj
      show am ≤ pst _ _ _ am (pt j * 9 + pt (j + 1))
      have hb := e1 j (by omega)
      have hj1 := hlt j (by omega)
      have hj2 := hlt (j + 1) (by omega)
      have c1 : pt j * 9 + pt (j + 1) ≠ pt (k - 1 - i) * 9 + pt (k - i) := fun q => by
        have h3 : pt j = pt (k - 1 - i) := by omega
        have := hinj _ _ (by omega) (by omega) h3
        omega
      by_cases c2 : pt j * 9 + pt (j + 1) = pt (k - i) * 9 + pt (k - 1 - i)
      · rw [c2, pst_back hu hv hne, ← c2]; omega
      · rw [pst_other c1 c2]; exact hb
    · intro T hT
      show rc (pst _ _ _ am) T = _
      rw [pst_rc hu hv, r1 T hT, show k - (i + 1) = k - 1 - i by omega]
      omega
theorem psh_nn {L : Nat → Int} {k : Nat} {pt : Nat → Nat} {am : Int} (hw : Way L k pt) (hn : NN L) (ha : 1 ≤ am) (hr : ∀ i, i < k → am ≤ L (pt i * 9 + pt (i + 1))) : NN (psh L pt am k k) := (psh_inv hw hn ha hr k (Nat.le_refl k)).1
theorem psh_rc {L : Nat → Int} {k : Nat} {pt : Nat → Nat} {am : Int} (hw : Way L k pt) (hn : NN L) (ha : 1 ≤ am) (hr : ∀ i, i < k → am ≤ L (pt i * 9 + pt (i + 1))) {T : Nat → Bool} (h7 : T 7 = true) (h8 : T 8 = false) : rc (psh L pt am k k) T = rc L T - am := by
  have h := (psh_inv hw hn ha hr k (Nat.le_refl k)).2.2 T h8
  rw [Nat.sub_self, hw.2.2.1, h7] at h
  exact h
/-- the two ways between two places hold the same sum all along -/
def PB (L : Nat → Int) : Prop := ∀ u v, u < 9 → v < 9 → L (u * 9 + v) + L (v * 9 + u) ≤ 300000
theorem pst_pb {L : Nat → Int} {u v : Nat} {am : Int} (hu : u < 9) (hv : v < 9) (hne : u ≠ v) (h : PB L) : PB (pst L u v am) := by
  intro p q hp hq
  have hb := h p q hp hq
  by_cases c1 : p = u ∧ q = v
  · obtain ⟨rfl, rfl⟩ := c1
    rw [pst_self hu hv hne, pst_back hu hv hne]; omega
  · by_cases c2 : p = v ∧ q = u
    · obtain ⟨rfl, rfl⟩ := c2
      rw [pst_self hu hv hne, pst_back hu hv hne]; omega
    · rw [pst_other (by omega) (by omega), pst_other (by omega) (by omega)]; exact hb
theorem psh_pb {L : Nat → Int} {k : Nat} {pt : Nat → Nat} {am : Int} (hw : Way L k pt) (h : PB L) : ∀ i, i ≤ k → PB (psh L pt am k i) := by
  intro i
  induction i with
  | zero => intro _; exact h
  | succ i ih =>
    intro hi
    exact pst_pb (hw.2.2.2.2.1 _ (by omega)) (hw.2.2.2.2.1 _ (by omega)) (fun q => by have := hw.2.2.2.2.2.1 _ _ (by omega) (by omega) q; have := hw.1; omega) (ih (by omega))
/-- along each way and each amount that the growing may take, it ends within n pushes -/
def Ends : Nat → (Nat → Int) → Prop
  | 0, L => ∀ k pt, ¬ Way L k pt
  | n + 1, L => ∀ k pt (am : Int), Way L k pt → 1 ≤ am → (∀ i, i < k → am ≤ L (pt i * 9 + pt (i + 1))) → ((∃ i, i < k ∧ L (pt i * 9 + pt (i + 1)) ≤ am) ∨ 200000 ≤ am) → Ends n (psh L pt am k k)
/-- each push takes one at least off any cut -/
theorem ends_cut {T : Nat → Bool} (h7 : T 7 = true) (h8 : T 8 = false) : ∀ (n : Nat) (L : Nat → Int), NN L → rc L T ≤ n → Ends n L
  | 0, L, hn, hr => by
    intro k pt hw
    have hr1 : ∀ i, i < k → (1 : Int) ≤ L (pt i * 9 + pt (i + 1)) := fun i hi => hw.2.2.2.2.2.2.1 i hi
    have h1 := psh_rc hw hn (Int.le_refl 1) hr1 h7 h8
    have h2 := rc_nn (psh_nn hw hn (Int.le_refl 1) hr1) T
    omega
  | n + 1, L, hn, hr => by
    intro k pt am hw ha hroom _
    refine ends_cut h7 h8 n _ (psh_nn hw hn ha hroom) ?_
    rw [psh_rc hw hn ha hroom h7 h8]
    omega
theorem ends_mono : ∀ (n m : Nat) (L : Nat → Int), n ≤ m → NN L → Ends n L → Ends m L
  | 0, 0, L, _, _, h => h
  | 0, m + 1, L, _, _, h => fun k pt am hw => absurd hw (h k pt)
  | n + 1, 0, L, hm, _, _ => absurd hm (by omega)
  | n + 1, m + 1, L, hm, hn, h => fun k pt am hw ha hr hs => ends_mono n m _ (by omega) (psh_nn hw hn ha hr) (h k pt am hw ha hr hs)
/-- nodes next to source and sink -/
def dir (L : Nat → Int) : Nat → Bool := fun w => decide (0 < L (63 + w) ∧ 0 < L (w * 9 + 8))
/-- what the first pushes of leastApart(u, v) keep -/
def Ap (L : Nat → Int) (u v : Nat) : Prop :=
  NN L ∧ L 71 ≤ 0 ∧ L (u * 9 + 8) < L (63 + u) ∧ L (63 + v) < L (v * 9 + 8) ∧ (∀ w, w < 7 → w ≠ u → w ≠ v → L (63 + w) ≤ 140) ∧ (∀ w, w < 7 → L (63 + w) < 200000) ∧ (∀ w, w < 7 → w ≠ u → L (u * 9 + w) ≤ 20)
theorem ap_cut {L : Nat → Int} {u v : Nat} (hu : u < 7) (hv : v < 7) (hne : u ≠ v) (h : Ap L u v) (h0 : cnt (dir L) 7 = 0) : rc L (fun w => w == 7 || w == u) ≤ 820 := by
  obtain ⟨nn, h71, hU, hV, hS, -, hI⟩ := h
  have nu : L (u * 9 + 8) ≤ 0 := by
    have h1 := cnt_zero h0 u hu
    have h2 := nn u 8 (by omega) (by omega)
    simp only [dir, decide_eq_false_iff_not] at h1
    omega
  have nv : L (63 + v) ≤ 0 := by
    have h1 := cnt_zero h0 v hv
    have h2 := nn 7 v (by omega) (by omega)
    simp only [dir, decide_eq_false_iff_not] at h1
    omega
  -- each row of the sum
  have rowO : ∀ z, z < 9 → z ≠ 7 → z ≠ u → sm (fun w => if (z == 7 || z == u) && !(w == 7 || w == u) then L (z * 9 + w) else 0) 9 = 0 := by
    intro z hz h1 h2
    refine sm_zero 9 (fun w hw => ?_)
    simp [h1, h2]
  have row7 : sm (fun w => if ((7 : Nat) == 7 || (7 : Nat) == u) && !(w == 7 || w == u) then L (7 * 9 + w) else 0) 9 ≤ 700 := by
    have key : ∀ w, w < 9 → (if ((7 : Nat) == 7 || (7 : Nat) == u) && !(w == 7 || w == u) then L (7 * 9 + w) else 0) ≤ (if w = u ∨ w = v ∨ w = 7 ∨ w = 8 then 0 else 140) := by
      intro w hw
      by_cases c1 : w = u ∨ w = 7
      · have : (w == 7 || w == u) = true := by rcases c1 with c | c <;> simp [c]
        rw [this]
        simp
        split <;> omega
      · have e1 : (w == 7 || w == u) = false := by simp; omega
        rw [e1]
        simp only [beq_self_eq_true, Bool.true_or, Bool.not_false, Bool.and_self, if_true]
        by_cases c2 : w = v
        · subst c2
          rw [if_pos (by omega)]
          exact nv
        · by_cases c3 : w = 8
          · subst c3
            rw [if_pos (by omega)]
            exact h71
          · rw [if_neg (by omega)]
            exact hS w (by omega) (by omega) c2
    have mono : ∀ (f g : Nat → Int) (n : Nat), (∀ i, i < n → f i ≤ g i) → sm f n ≤ sm g n := by
      intro f g n
      induction n with
      | zero => intro _; exact Int.le_refl _
      | succ n ih =>
        intro h
        have h1 := ih (fun i hi => h i (by omega))
        have h2 := h n (by omega)
        show sm f n + f n ≤ sm g n + g n
        omega
    refine Int.le_trans (mono _ _ 9 key) ?_
    have : ∀ u v : Fin 7, u ≠ v → sm (fun w => if w = u.val ∨ w = v.val ∨ w = 7 ∨ w = 8 then 0 else 140) 9 ≤ 700 := by decide +kernel
    exact this ⟨u, hu⟩ ⟨v, hv⟩ (fun q => hne (congrArg Fin.val q))
  have rowU : sm (fun w => if (u == 7 || u == u) && !(w == 7 || w == u) then L (u * 9 + w) else 0) 9 ≤ 120 := by
    have key : ∀ w, w < 9 → (if (u == 7 || u == u) && !(w == 7 || w == u) then L (u * 9 + w) else 0) ≤ (if w = u ∨ w = 7 ∨ w = 8 then 0 else 20) := by
      intro w hw
      by_cases c1 : w = u ∨ w = 7
      · have : (w == 7 || w == u) = true := by rcases c1 with c | c <;> simp [c]
        rw [this]
        simp
        split <;> omega
      · have e1 : (w == 7 || w == u) = false := by simp; omega
        rw [e1]
        simp only [beq_self_eq_true, Bool.or_true, Bool.not_false, Bool.and_self, if_true]
        by_cases c3 : w = 8
        · subst c3
          rw [if_pos (by omega)]
          exact nu
        · rw [if_neg (by omega)]
          exact hI w (by omega) (by omega)
    have mono : ∀ (f g : Nat → Int) (n : Nat), (∀ i, i < n → f i ≤ g i) → sm f n ≤ sm g n := by
      intro f g n
      induction n with
      | zero => intro _; exact Int.le_refl _
      | succ n ih =>
        intro h
        have h1 := ih (fun i hi => h i (by omega))
        have h2 := h n (by omega)
        show sm f n + f n ≤ sm g n + g n
        omega
    refine Int.le_trans (mono _ _ 9 key) ?_
    have : ∀ u : Fin 7, sm (fun w => if w = u.val ∨ w = 7 ∨ w = 8 then 0 else 20) 9 ≤ 120 := by decide +kernel
    exact this ⟨u, hu⟩
  -- the sum of the rows: two of them count
  have e1 := sm_one (f := fun z => if z = u then sm (fun w => if (u == 7 || u == u) && !(w == 7 || w == u) then L (u * 9 + w) else 0) 9 else 0) (g := fun z => sm (fun w => if (z == 7 || z == u) && !(w == 7 || w == u) then L (z * 9 + w) else 0) 9) (k := 7) (z := sm (fun w => if ((7 : Nat) == 7 || (7 : Nat) == u) && !(w == 7 || w == u) then L (7 * 9 + w) else 0) 9) (by show sm _ 9 = (if (7 : Nat) = u then _ else 0) + _; rw [if_neg (by omega)]; omega) 9 (fun z hz hz7 => by
    by_cases c : z = u
    · subst c; rw [if_pos rfl]
    · rw [if_neg c]; exact rowO z hz hz7 c)
  have e2 := sm_one (f := fun _ => 0) (g := fun z => if z = u then sm (fun w => if (u == 7 || u == u) && !(w == 7 || w == u) then L (u * 9 + w) else 0) 9 else 0) (k := u) (z := sm (fun w => if (u == 7 || u == u) && !(w == 7 || w == u) then L (u * 9 + w) else 0) 9) (by simp) 9 (fun z hz hzu => by rw [if_neg hzu])
  have e3 : sm (fun _ => 0) 9 = 0 := rfl
  show sm (fun z => sm (fun w => if (z == 7 || z == u) && !(w == 7 || w == u) then L (z * 9 + w) else 0) 9) 9 ≤ 820
  rw [e1, e2, e3, if_pos (by omega), if_pos (by omega)]
  omega
theorem ends_ap {u v : Nat} (hu : u < 7) (hv : v < 7) (hne : u ≠ v) : ∀ (n : Nat) (L : Nat → Int), cnt (dir L) 7 = n → Ap L u v → Ends (n + 820) L := by
  intro n
  induction n using Nat.strongRecOn with
  | _ n ih =>
    intro L hc h
    rcases Nat.eq_zero_or_pos n with h0 | h0
    · subst h0
      rw [Nat.zero_add]
      exact ends_cut (T := fun w => w == 7 || w == u) (by simp) (by simp; omega) 820 L h.1 (ap_cut hu hv hne h hc)
    · rw [show n + 820 = (n - 1 + 820) + 1 by omega]
      intro k pt am hw ha hr hs
      obtain ⟨w0, hw0, hd0⟩ := cnt_pos 7 (by rw [hc]; exact h0)
      simp only [dir, decide_eq_true_eq] at hd0
      obtain ⟨hk1, hk8, p0, pk, hlt, hinj, hpos, hsh⟩ := id hw
      have hk2 := hsh ⟨w0, hw0, hd0.1, hd0.2⟩
      obtain ⟨nn, h71, hU, hV, hS, hB, hI⟩ := id h
      have hk : k = 2 := by
        rcases Nat.lt_or_ge k 2 with q | q
        · have : k = 1 := by omega
          subst this
          have h1 := hpos 0 (by omega)
          rw [p0, pk, show 7 * 9 + 8 = 71 from rfl] at h1
          omega
        · omega
      subst hk
      have hw9 := hlt 1 (by omega)
      have hw7 : pt 1 ≠ 7 := fun q => by have := hinj 1 0 (by omega) (by omega) (by rw [q, p0]); omega
      have hw8 : pt 1 ≠ 8 := fun q => by have := hinj 1 2 (by omega) (by omega) (by rw [q, pk]); omega
      generalize hwe : pt 1 = w at hw9 hw7 hw8
      have hwlt : w < 7 := by omega
      have r0 := hr 0 (by omega)
      have r1 := hr 1 (by omega)
      rw [p0, hwe, show 7 * 9 + w = 63 + w by omega] at r0
      rw [hwe, pk] at r1
      -- the new numbers
      have val : psh L pt am 2 2 = pst (pst L w 8 am) 7 w am := by
        show pst (pst L (pt 1) (pt 2) am) (pt 0) (pt 1) am = _
        rw [p0, pk, hwe]
      have vS : ∀ z, z < 7 → psh L pt am 2 2 (63 + z) = if z = w then L (63 + w) - am else L (63 + z) := by
        intro z hz
        rw [val]
        by_cases c : z = w
        · subst c
          rw [if_pos rfl]
          have := pst_self (L := pst L z 8 am) (u := 7) (v := z) (am := am) (by omega) (by omega) (by omega)
          rw [show 63 + z = 7 * 9 + z by omega, this, pst_other (by omega) (by omega)]
        · rw [if_neg c, pst_other (by omega) (by omega), pst_other (by omega) (by omega)]
      have vK : ∀ z, z < 7 → psh L pt am 2 2 (z * 9 + 8) = if z = w then L (w * 9 + 8) - am else L (z * 9 + 8) := by
        intro z hz
        rw [val]
        by_cases c : z = w
        · subst c
          rw [if_pos rfl, pst_other (by omega) (by omega), pst_self (by omega) (by omega) (by omega)]
        · rw [if_neg c, pst_other (by omega) (by omega), pst_other (by omega) (by omega)]
      have vI : ∀ z y, z < 7 → y < 7 → psh L pt am 2 2 (z * 9 + y) = L (z * 9 + y) := by
        intro z y hz hy
        rw [val, pst_other (by omega) (by omega), pst_other (by omega) (by omega)]
      have v71 : psh L pt am 2 2 71 = L 71 := by
        rw [val, pst_other (by omega) (by omega), pst_other (by omega) (by omega)]
      have nn' := psh_nn hw nn ha hr
      -- one node less
      have hless : cnt (dir (psh L pt am 2 2)) 7 + 1 ≤ cnt (dir L) 7 := by
        refine cnt_lt (k := w) ?_ ?_ 7 hwlt ?_
        · simp only [dir, decide_eq_false_iff_not]
          rw [vS w hwlt, vK w hwlt, if_pos rfl, if_pos rfl]
          have hb := hB w hwlt
          rcases hs with ⟨i, hi, hle⟩ | hle
          · rcases (show i = 0 ∨ i = 1 by omega) with rfl | rfl
            · rw [p0, hwe, show 7 * 9 + w = 63 + w by omega] at hle
              omega
            · rw [hwe, pk] at hle
              omega
          · omega
        · simp only [dir, decide_eq_true_eq]
          omega
        · intro z hz hd
          simp only [dir, decide_eq_true_eq] at hd ⊢
          rw [vS z hz, vK z hz] at hd
          by_cases c : z = w
          · subst c
            omega
          · rw [if_neg c, if_neg c] at hd
            exact hd
      have hap : Ap (psh L pt am 2 2) u v := by
        refine ⟨nn', by rw [v71]; exact h71, ?_, ?_, ?_, ?_, ?_⟩
        · rw [vS u hu, vK u hu]
          by_cases c : u = w
          · subst c; rw [if_pos rfl, if_pos rfl]; omega
          · rw [if_neg c, if_neg c]; exact hU
        · rw [vS v hv, vK v hv]
          by_cases c : v = w
          · subst c; rw [if_pos rfl, if_pos rfl]; omega
          · rw [if_neg c, if_neg c]; exact hV
        · intro z hz h1 h2
          rw [vS z hz]
          have := hS z hz h1 h2
          by_cases c : z = w
          · subst c; rw [if_pos rfl]; omega
          · rw [if_neg c]; exact this
        · intro z hz
          rw [vS z hz]
          have := hB z hz
          by_cases c : z = w
          · subst c; rw [if_pos rfl]; omega
          · rw [if_neg c]; exact this
        · intro z hz h1
          rw [vI u z hu hz]
          exact hI z hz h1
      exact ends_mono (cnt (dir (psh L pt am 2 2)) 7 + 820) (n - 1 + 820) _ (by omega) nn' (ih _ (by omega) _ rfl hap)
/-- no more than seven nodes are next to both -/
theorem ends_apart {L : Nat → Int} {u v : Nat} (hu : u < 7) (hv : v < 7) (hne : u ≠ v) (h : Ap L u v) : Ends 1000 L :=
  ends_mono _ _ _ (by have := cnt_le (dir L) 7; omega) h.1 (ends_ap hu hv hne _ L rfl h)
end
section
/-! bits (out of kit/laws/BITS.to-paste), counts, least cuts out of what is left -/
def bt (x : Int32) (i : Nat) : Bool := x.toBitVec.getLsbD i
theorem b_ext {x y : Int32} (h : ∀ i, i < 32 → bt x i = bt y i) : x = y := Int32.toBitVec_inj.mp (BitVec.eq_of_getLsbD_eq (fun i hi => h i hi))
theorem b_or (x y : Int32) (i : Nat) : bt (x ||| y) i = (bt x i || bt y i) := by unfold bt; rw [Int32.toBitVec_or, BitVec.getLsbD_or]
theorem b_and (x y : Int32) (i : Nat) : bt (x &&& y) i = (bt x i && bt y i) := by unfold bt; rw [Int32.toBitVec_and, BitVec.getLsbD_and]
theorem b_xor (x y : Int32) (i : Nat) : bt (x ^^^ y) i = (bt x i ^^ bt y i) := by unfold bt; rw [Int32.toBitVec_xor, BitVec.getLsbD_xor]
theorem b_big {x : Int32} {i : Nat} (h : 32 ≤ i) : bt x i = false := BitVec.getLsbD_of_ge _ _ h
theorem b_m1 : ∀ i, i < 32 → bt (-1) i = true := by decide +kernel
theorem b_0 (i : Nat) : bt 0 i = false := BitVec.getLsbD_zero
theorem s_l : ∀ n, n < 32 → ((nI n &&& 31).toBitVec.smod 32).toNat = n := by decide +kernel
theorem b_sshr (n : Nat) (hn : n < 32) (x : Int32) {i : Nat} (hi : i < 32) : bt (x >>> (nI n &&& 31)) i = if n + i < 32 then bt x (n + i) else bt x 31 := by
  unfold bt
  rw [Int32.toBitVec_shiftRight]
  show (x.toBitVec.sshiftRight ((nI n &&& 31).toBitVec.smod 32).toNat).getLsbD i = _
  rw [s_l n hn, BitVec.getLsbD_sshiftRight, BitVec.msb_eq_getLsbD_last]
  simp [hi]
theorem b_127 : ∀ i, i < 32 → bt (nI 127) i = decide (i < 7) := by decide +kernel
theorem b_1 : ∀ i, i < 32 → bt (nI 1) i = decide (i = 0) := by decide +kernel
theorem b_one : ∀ v : Fin 16, ∀ i : Fin 32, bt (nI 1 <<< (nI v.val &&& 31)) i.val = decide (i = v.val) := by decide +kernel
theorem b_shl1 {v i : Nat} (hv : v < 16) (hi : i < 32) : bt (nI 1 <<< (nI v &&& 31)) i = decide (i = v) := b_one ⟨v, hv⟩ ⟨i, hi⟩
theorem b_nI {s i : Nat} (hi : i < 32) : bt (nI s) i = s.testBit i := by
  unfold bt nI
  show (BitVec.ofNat 32 s).getLsbD i = _
  rw [BitVec.getLsbD_ofNat]
  simp [hi]
/-- one bit, shifted down -/
theorem b_in {x : Int32} {v : Nat} (hv : v < 32) : (x >>> (nI v &&& 31)) &&& nI 1 = nI 1 ↔ bt x v = true := by
  constructor
  · intro h
    have h1 : bt ((x >>> (nI v &&& 31)) &&& nI 1) 0 = bt (nI 1) 0 := by rw [h]
    rw [b_and, b_sshr v hv x (by omega), b_1 0 (by omega)] at h1
    simpa [hv] using h1
  · intro h
    refine b_ext (fun i hi => ?_)
    rw [b_and, b_1 i hi]
    by_cases c : i = 0
    · subst c
      rw [b_sshr v hv x (by omega)]
      simp [hv, h]
    · simp [c]
theorem b_in0 {x : Int32} {v : Nat} (hv : v < 32) : (x >>> (nI v &&& 31)) &&& nI 1 = nI (if bt x v then 1 else 0) := by
  cases h : bt x v with
  | true => simpa using (b_in hv).mpr h
  | false =>
    refine b_ext (fun i hi => ?_)
    rw [b_and, b_1 i hi]
    by_cases c : i = 0
    · subst c
      rw [b_sshr v hv x (by omega)]
      simp [hv, h, b_nI]
    · simp [c, b_nI hi]
-- counting by a law
noncomputable def cp (P : Nat → Prop) : Nat → Nat
  | 0 => 0
  | n + 1 => cp P n + @ite _ (P n) (Classical.propDecidable _) 1 0
theorem cp_pos {P : Nat → Prop} {n : Nat} (h : P n) : cp P (n + 1) = cp P n + 1 := by
  show cp P n + @ite _ (P n) (Classical.propDecidable _) 1 0 = _
  rw [if_pos h]
theorem cp_neg {P : Nat → Prop} {n : Nat} (h : ¬ P n) : cp P (n + 1) = cp P n := by
  show cp P n + @ite _ (P n) (Classical.propDecidable _) 1 0 = _
  rw [if_neg h]
  rfl
theorem cp_congr {P Q : Nat → Prop} : ∀ n, (∀ s, s < n → (P s ↔ Q s)) → cp P n = cp Q n
  | 0, _ => rfl
  | n + 1, h => by
    have h1 := cp_congr n (fun s hs => h s (Nat.lt_succ_of_lt hs))
    by_cases c : P n
    · rw [cp_pos c, cp_pos ((h n (Nat.lt_succ_self n)).mp c), h1]
    · rw [cp_neg c, cp_neg (fun q => c ((h n (Nat.lt_succ_self n)).mpr q)), h1]
theorem cp_split (P Q : Nat → Prop) : ∀ n, cp P n = cp (fun s => P s ∧ Q s) n + cp (fun s => P s ∧ ¬ Q s) n
  | 0 => rfl
  | n + 1 => by
    have h1 := cp_split P Q n
    by_cases c : P n
    · by_cases d : Q n
      · rw [cp_pos c, cp_pos (P := fun s => P s ∧ Q s) ⟨c, d⟩, cp_neg (P := fun s => P s ∧ ¬ Q s) (fun q => q.2 d), h1]; omega
      · rw [cp_pos c, cp_neg (P := fun s => P s ∧ Q s) (fun q => d q.2), cp_pos (P := fun s => P s ∧ ¬ Q s) ⟨c, d⟩, h1]; omega
    · rw [cp_neg c, cp_neg (P := fun s => P s ∧ Q s) (fun q => c q.1), cp_neg (P := fun s => P s ∧ ¬ Q s) (fun q => c q.1), h1]
theorem cp_none {P : Nat → Prop} : ∀ n, (∀ s, s < n → ¬ P s) → cp P n = 0
  | 0, _ => rfl
  | n + 1, h => by rw [cp_neg (h n (Nat.lt_succ_self n)), cp_none n (fun s hs => h s (Nat.lt_succ_of_lt hs))]
theorem cp_one {P : Nat → Prop} {s0 : Nat} (h0 : P s0) : ∀ n, s0 < n → (∀ s, s < n → P s → s = s0) → cp P n = 1
  | 0, h, _ => absurd h (Nat.not_lt_zero _)
  | n + 1, hs, h => by
    rcases Nat.decEq s0 n with q | q
    · rw [cp_neg (fun z => q (h n (Nat.lt_succ_self n) z).symm)]
      exact cp_one h0 n (by omega) (fun s hs => h s (Nat.lt_succ_of_lt hs))
    · subst q
      rw [cp_pos h0, cp_none s0 (fun s hs z => by have := h s (Nat.lt_succ_of_lt hs) z; omega)]
theorem cp_le (P : Nat → Prop) : ∀ n, cp P n ≤ n
  | 0 => Nat.le_refl 0
  | n + 1 => by
    have := cp_le P n
    by_cases c : P n
    · rw [cp_pos c]; omega
    · rw [cp_neg c]; omega
-- sides as numbers
def ex (s : Nat) : Nat → Bool := fun v => if v < 7 then s.testBit v else v == 7
theorem mask_all : ∀ b0 b1 b2 b3 b4 b5 b6 : Bool, (b0.toNat + 2 * b1.toNat + 4 * b2.toNat + 8 * b3.toNat + 16 * b4.toNat + 32 * b5.toNat + 64 * b6.toNat) < 128 ∧ ((b0.toNat + 2 * b1.toNat + 4 * b2.toNat + 8 * b3.toNat + 16 * b4.toNat + 32 * b5.toNat + 64 * b6.toNat).testBit 0 = b0 ∧ (b0.toNat + 2 * b1.toNat + 4 * b2.toNat + 8 * b3.toNat + 16 * b4.toNat + 32 * b5.toNat + 64 * b6.toNat).testBit 1 = b1 ∧ (b0.toNat + 2 * b1.toNat + 4 * b2.toNat + 8 * b3.toNat + 16 * b4.toNat + 32 * b5.toNat + 64 * b6.toNat).testBit 2 = b2 ∧ (b0.toNat + 2 * b1.toNat + 4 * b2.toNat + 8 * b3.toNat + 16 * b4.toNat + 32 * b5.toNat + 64 * b6.toNat).testBit 3 = b3 ∧ (b0.toNat + 2 * b1.toNat + 4 * b2.toNat + 8 * b3.toNat + 16 * b4.toNat + 32 * b5.toNat + 64 * b6.toNat).testBit 4 = b4 ∧ (b0.toNat + 2 * b1.toNat + 4 * b2.toNat + 8 * b3.toNat + 16 * b4.toNat + 32 * b5.toNat + 64 * b6.toNat).testBit 5 = b5 ∧ (b0.toNat + 2 * b1.toNat + 4 * b2.toNat + 8 * b3.toNat + 16 * b4.toNat + 32 * b5.toNat + 64 * b6.toNat).testBit 6 = b6) := by decide +kernel
theorem mask_of (T : Nat → Bool) : ∃ s, s < 128 ∧ ∀ v, v < 7 → s.testBit v = T v := by
  have h := mask_all (T 0) (T 1) (T 2) (T 3) (T 4) (T 5) (T 6)
  generalize ((T 0).toNat + 2 * (T 1).toNat + 4 * (T 2).toNat + 8 * (T 3).toNat + 16 * (T 4).toNat + 32 * (T 5).toNat + 64 * (T 6).toNat) = s at h
  obtain ⟨hs, h0, h1, h2, h3, h4, h5, h6⟩ := h
  refine ⟨s, hs, fun v hv => ?_⟩
  match v, hv with
  | 0, _ => exact h0
  | 1, _ => exact h1
  | 2, _ => exact h2
  | 3, _ => exact h3
  | 4, _ => exact h4
  | 5, _ => exact h5
  | 6, _ => exact h6
  | n + 7, hv => omega
theorem mask_hi {s v : Nat} (hs : s < 128) (hv : 7 ≤ v) : s.testBit v = false := Nat.testBit_lt_two_pow (Nat.lt_of_lt_of_le hs (by exact Nat.pow_le_pow_right (n := 2) (by omega) hv))
theorem mask_inj {s t : Nat} (hs : s < 128) (ht : t < 128) (h : ∀ v, v < 7 → s.testBit v = t.testBit v) : s = t := by
  refine Nat.eq_of_testBit_eq (fun v => ?_)
  rcases Nat.lt_or_ge v 7 with q | q
  · exact h v q
  · rw [mask_hi hs q, mask_hi ht q]
def prs (g : Nat → Nat → Int32) (x s : Nat) : Int := pr g (fun v => s.testBit v) x
def mn (f : Nat → Int) : Nat → Int
  | 0 => f 0
  | n + 1 => if f (n + 1) < mn f n then f (n + 1) else mn f n
theorem mn_le (f : Nat → Int) : ∀ n s, s ≤ n → mn f n ≤ f s
  | 0, s, h => by have : s = 0 := by omega
                  subst this; exact Int.le_refl _
  | n + 1, s, h => by
    show (if f (n + 1) < mn f n then f (n + 1) else mn f n) ≤ f s
    rcases Nat.lt_or_ge s (n + 1) with q | q
    · have := mn_le f n s (by omega)
      split <;> omega
    · have : s = n + 1 := by omega
      subst this
      split <;> omega
theorem mn_ex (f : Nat → Int) : ∀ n, ∃ s, s ≤ n ∧ mn f n = f s
  | 0 => ⟨0, Nat.le_refl 0, rfl⟩
  | n + 1 => by
    obtain ⟨s, a, b⟩ := mn_ex f n
    by_cases c : f (n + 1) < mn f n
    · exact ⟨n + 1, Nat.le_refl _, if_pos c⟩
    · exact ⟨s, by omega, by rw [← b]; exact if_neg c⟩
/-- the least cost at x -/
def lst (g : Nat → Nat → Int32) (x : Nat) : Int := mn (prs g x) 127
theorem lst_le (g : Nat → Nat → Int32) (x : Nat) {s : Nat} (hs : s < 128) : lst g x ≤ prs g x s := mn_le _ 127 s (by omega)
theorem lst_ex (g : Nat → Nat → Int32) (x : Nat) : ∃ s, s < 128 ∧ lst g x = prs g x s := by
  obtain ⟨s, a, b⟩ := mn_ex (prs g x) 127
  exact ⟨s, by omega, b⟩
theorem lst_in {g : Nat → Nat → Int32} (hg : DOK g) {x : Nat} (hx : x ≤ 50) : 0 ≤ lst g x ∧ lst g x ≤ 1820 := by
  obtain ⟨s, hs, e⟩ := lst_ex g x
  rw [e]
  exact pr_in hg _ hx
theorem prs_congr {g g' : Nat → Nat → Int32} (h : ∀ k, k < 5 → g k = g' k) (x : Nat) : prs g x = prs g' x := funext fun s => pr_congr h _ x
theorem lst_congr {g g' : Nat → Nat → Int32} (h : ∀ k, k < 5 → g k = g' k) (x : Nat) : lst g x = lst g' x := by unfold lst; rw [prs_congr h]
def al (f : Nat → Int) (low : Int) : Nat → Int32
  | 0 => nI 127
  | n + 1 => if f n = low then al f low n &&& nI n else al f low n
def ev (f : Nat → Int) (low : Int) : Nat → Int32
  | 0 => nI 0
  | n + 1 => if f n = low then ev f low n ||| nI n else ev f low n
theorem al_bt (f : Nat → Int) (low : Int) {v : Nat} (hv : v < 32) : ∀ n, bt (al f low n) v = true ↔ v < 7 ∧ ∀ s, s < n → f s = low → s.testBit v = true
  | 0 => by
    show bt (nI 127) v = true ↔ _
    rw [b_127 v hv]
    simp
  | n + 1 => by
    have ih := al_bt f low hv n
    by_cases c : f n = low
    · have : al f low (n + 1) = al f low n &&& nI n := if_pos c
      rw [this, b_and, b_nI hv, Bool.and_eq_true, ih]
      constructor
      · intro ⟨⟨h1, h2⟩, h3⟩
        refine ⟨h1, fun s hs e => ?_⟩
        rcases Nat.lt_or_ge s n with q | q
        · exact h2 s q e
        · have : s = n := by omega
          subst this; exact h3
      · intro ⟨h1, h2⟩
        exact ⟨⟨h1, fun s hs => h2 s (by omega)⟩, h2 n (by omega) c⟩
    · have : al f low (n + 1) = al f low n := if_neg c
      rw [this, ih]
      constructor
      · intro ⟨h1, h2⟩
        refine ⟨h1, fun s hs e => ?_⟩
        rcases Nat.lt_or_ge s n with q | q
        · exact h2 s q e
        · have : s = n := by omega
          subst this; exact absurd e c
      · intro ⟨h1, h2⟩
        exact ⟨h1, fun s hs => h2 s (by omega)⟩
theorem ev_bt (f : Nat → Int) (low : Int) {v : Nat} (hv : v < 32) : ∀ n, bt (ev f low n) v = true ↔ ∃ s, s < n ∧ f s = low ∧ s.testBit v = true
  | 0 => by
    show bt (nI 0) v = true ↔ _
    rw [b_nI hv]
    simp
  | n + 1 => by
    have ih := ev_bt f low hv n
    by_cases c : f n = low
    · have : ev f low (n + 1) = ev f low n ||| nI n := if_pos c
      rw [this, b_or, b_nI hv, Bool.or_eq_true, ih]
      constructor
      · rintro (⟨s, h1, h2, h3⟩ | h3)
        · exact ⟨s, by omega, h2, h3⟩
        · exact ⟨n, by omega, c, h3⟩
      · intro ⟨s, h1, h2, h3⟩
        rcases Nat.lt_or_ge s n with q | q
        · exact Or.inl ⟨s, q, h2, h3⟩
        · have : s = n := by omega
          subst this; exact Or.inr h3
    · have : ev f low (n + 1) = ev f low n := if_neg c
      rw [this, ih]
      constructor
      · intro ⟨s, h1, h2, h3⟩
        exact ⟨s, by omega, h2, h3⟩
      · intro ⟨s, h1, h2, h3⟩
        rcases Nat.lt_or_ge s n with q | q
        · exact ⟨s, q, h2, h3⟩
        · have : s = n := by omega
          subst this; exact absurd h2 c
def alw (g : Nat → Nat → Int32) (x : Nat) : Int32 := al (prs g x) (lst g x) 128
def evr (g : Nat → Nat → Int32) (x : Nat) : Int32 := ev (prs g x) (lst g x) 128
noncomputable def tie (g : Nat → Nat → Int32) (x : Nat) : Nat := cp (fun s => prs g x s = lst g x) 128
def sepP (g : Nat → Nat → Int32) (u v x : Nat) : Prop := ∃ s, s < 128 ∧ s.testBit u = true ∧ s.testBit v = false ∧ prs g x s = lst g x
-- what is left, closed sides
def Clo (L : Nat → Int) (T : Nat → Bool) : Prop := ∀ u v, u < 9 → v < 9 → T u = true → T v = false → L (u * 9 + v) ≤ 0
/-- what each place reaches -/
def RC (L : Nat → Int) (re : Nat → Int32) : Prop :=
  (∀ u, u < 9 → bt (re u) u = true) ∧ (∀ u v, u < 9 → v < 9 → 0 < L (u * 9 + v) → bt (re u) v = true) ∧
  (∀ u k v, u < 9 → k < 9 → v < 9 → bt (re u) k = true → bt (re k) v = true → bt (re u) v = true) ∧
  (∀ T : Nat → Bool, (∀ u v, u < 9 → v < 9 → T u = true → 0 < L (u * 9 + v) → T v = true) → ∀ u v, u < 9 → v < 9 → T u = true → bt (re u) v = true → T v = true)
/-- the growing's end: the flow f at x -/
def Gr (g : Nat → Nat → Int32) (x : Nat) (L : Nat → Int) (f : Int) : Prop :=
  NN L ∧ (∀ T : Nat → Bool, T 7 = true → T 8 = false → rc L T = pr g T x - f) ∧ ∃ T : Nat → Bool, T 7 = true ∧ T 8 = false ∧ Clo L T
def Wk (g : Nat → Nat → Int32) (x : Nat) (L : Nat → Int) (f : Int) (re : Nat → Int32) : Prop := Gr g x L f ∧ RC L re
theorem rc_clo {L : Nat → Int} {T : Nat → Bool} (hn : NN L) : rc L T = 0 ↔ Clo L T := by
  constructor
  · intro h u v hu hv h1 h2
    have := rc_ge hn hu hv h1 h2
    omega
  · intro h
    refine sm_zero 9 (fun u hu => sm_zero 9 (fun v hv => ?_))
    cases h1 : T u <;> cases h2 : T v <;> simp
    have := h u v hu hv h1 h2
    have := hn u v hu hv
    omega
theorem ex_7 (s : Nat) : ex s 7 = true := rfl
theorem ex_8 (s : Nat) : ex s 8 = false := rfl
theorem ex_lt {s v : Nat} (h : v < 7) : ex s v = s.testBit v := if_pos h
theorem ex_pr (g : Nat → Nat → Int32) (x s : Nat) : pr g (ex s) x = prs g x s := pr_side (fun v hv => ex_lt hv) x
theorem gr_least {g : Nat → Nat → Int32} {x : Nat} {L : Nat → Int} {f : Int} (h : Gr g x L f) : f = lst g x := by
  obtain ⟨hn, hr, T, h7, h8, hT⟩ := h
  have e1 := hr T h7 h8
  rw [(rc_clo hn).mpr hT] at e1
  obtain ⟨s0, hs0, hm⟩ := mask_of T
  have e2 : prs g x s0 = pr g T x := pr_side (fun v hv => hm v hv) x
  have h1 := lst_le g x hs0
  obtain ⟨s1, hs1, e3⟩ := lst_ex g x
  have h2 := hr (ex s1) (ex_7 s1) (ex_8 s1)
  rw [ex_pr] at h2
  have h3 := rc_nn hn (ex s1)
  omega
theorem gr_min {g : Nat → Nat → Int32} {x : Nat} {L : Nat → Int} {f : Int} (h : Gr g x L f) (s : Nat) : prs g x s = lst g x ↔ Clo L (ex s) := by
  rw [← rc_clo h.1, h.2.1 (ex s) (ex_7 s) (ex_8 s), ex_pr, gr_least h]
  omega
/-- sides closed under what is reached -/
def CR (re : Nat → Int32) (s : Nat) : Prop := (∀ v, v < 7 → bt (re 7) v = true → s.testBit v = true) ∧ (∀ u, u < 7 → s.testBit u = true → bt (re u) 8 = false) ∧ (∀ u v, u < 7 → v < 7 → s.testBit u = true → bt (re u) v = true → s.testBit v = true)
/-- a union of what places reach is closed -/
theorem clo_re {L : Nat → Int} {re : Nat → Int32} (h : RC L re) (P : Nat → Prop) (hP : ∀ k, P k → k < 9) (T : Nat → Bool) (hT : ∀ v, v < 9 → (T v = true ↔ ∃ k, P k ∧ bt (re k) v = true)) : Clo L T := by
  intro u v hu hv h1 h2
  obtain ⟨k, hk, hb⟩ := (hT u hu).mp h1
  rcases (show 0 < L (u * 9 + v) ∨ L (u * 9 + v) ≤ 0 by omega) with q | q
  · have h3 := h.2.2.1 k u v (hP k hk) hu hv hb (h.2.1 u v hu hv q)
    rw [(hT v hv).mpr ⟨k, hk, h3⟩] at h2
    cases h2
  · exact q
theorem clo_in {L : Nat → Int} {re : Nat → Int32} {T : Nat → Bool} (h : RC L re) (hT : Clo L T) {u v : Nat} (hu : u < 9) (hv : v < 9) (h1 : T u = true) (h2 : bt (re u) v = true) : T v = true := by
  refine h.2.2.2 T (fun a b ha hb h3 h4 => ?_) u v hu hv h1 h2
  cases h5 : T b with
  | true => rfl
  | false => have := hT a b ha hb h3 h5; omega
theorem wk_78 {g : Nat → Nat → Int32} {x : Nat} {L : Nat → Int} {f : Int} {re : Nat → Int32} (h : Wk g x L f re) : bt (re 7) 8 = false := by
  obtain ⟨T, h7, h8, hT⟩ := h.1.2.2
  cases q : bt (re 7) 8 with
  | false => rfl
  | true =>
    rw [clo_in h.2 hT (by omega) (by omega) h7 q] at h8
    cases h8
theorem clo_CR {g : Nat → Nat → Int32} {x : Nat} {L : Nat → Int} {f : Int} {re : Nat → Int32} (h : Wk g x L f re) (s : Nat) : prs g x s = lst g x ↔ CR re s := by
  rw [gr_min h.1]
  constructor
  · intro hT
    refine ⟨fun v hv hb => ?_, fun u hu hb => ?_, fun u v hu hv h1 h2 => ?_⟩
    · rw [← ex_lt hv]
      exact clo_in h.2 hT (by omega) (by omega) (ex_7 s) hb
    · cases q : bt (re u) 8 with
      | false => rfl
      | true =>
        have := clo_in h.2 hT (by omega) (by omega) ((ex_lt hu).trans hb) q
        rw [ex_8] at this
        cases this
    · rw [← ex_lt hv]
      exact clo_in h.2 hT (by omega) (by omega) ((ex_lt hu).trans h1) h2
  · intro ⟨c1, c2, c3⟩ u v hu hv h1 h2
    rcases (show 0 < L (u * 9 + v) ∨ L (u * 9 + v) ≤ 0 by omega) with q | q
    · exfalso
      have hb := h.2.2.1 u v hu hv q
      rcases Nat.lt_or_ge u 7 with hu7 | hu7
      · rw [ex_lt hu7] at h1
        rcases Nat.lt_or_ge v 7 with hv7 | hv7
        · rw [ex_lt hv7, c3 u v hu7 hv7 h1 hb] at h2
          cases h2
        · rcases (show v = 7 ∨ v = 8 by omega) with rfl | rfl
          · rw [ex_7] at h2; cases h2
          · rw [c2 u hu7 h1] at hb; cases hb
      · rcases (show u = 7 ∨ u = 8 by omega) with rfl | rfl
        · rcases Nat.lt_or_ge v 7 with hv7 | hv7
          · rw [ex_lt hv7, c1 v hv7 hb] at h2
            cases h2
          · rcases (show v = 7 ∨ v = 8 by omega) with rfl | rfl
            · rw [ex_7] at h2; cases h2
            · rw [wk_78 h] at hb; cases hb
        · rw [ex_8] at h1; cases h1
    · exact q
/-- the smallest side -/
theorem wk_alw {g : Nat → Nat → Int32} {x : Nat} {L : Nat → Int} {f : Int} {re : Nat → Int32} (h : Wk g x L f re) : re 7 &&& nI 127 = alw g x := by
  refine b_ext (fun v hv => ?_)
  have key : bt (re 7 &&& nI 127) v = true ↔ bt (alw g x) v = true := by
    unfold alw
    rw [al_bt _ _ hv, b_and, b_127 v hv, Bool.and_eq_true, decide_eq_true_eq]
    constructor
    · intro ⟨h1, h2⟩
      exact ⟨h2, fun s hs e => ((clo_CR h s).mp e).1 v h2 h1⟩
    · intro ⟨h1, h2⟩
      refine ⟨?_, h1⟩
      obtain ⟨s0, hs0, hm⟩ := mask_of (fun v => bt (re 7) v)
      have hc : CR re s0 := by
        refine ⟨fun w hw hb => (hm w hw).trans hb, fun u hu hb => ?_, fun u w hu hw h3 h4 => ?_⟩
        · rw [hm u hu] at hb
          cases q : bt (re u) 8 with
          | false => rfl
          | true =>
            have := h.2.2.2.1 7 u 8 (by omega) (by omega) (by omega) hb q
            rw [wk_78 h] at this
            cases this
        · rw [hm u hu] at h3
          rw [hm w hw]
          exact h.2.2.2.1 7 u w (by omega) (by omega) (by omega) h3 h4
      have := h2 s0 hs0 ((clo_CR h s0).mpr hc)
      rw [hm v h1] at this
      exact this
  cases h1 : bt (re 7 &&& nI 127) v <;> cases h2 : bt (alw g x) v <;> simp_all
/-- a closed side with u (any place that doesn't reach the sink) and without all that 7 and u don't reach -/
theorem wk_pair {g : Nat → Nat → Int32} {x : Nat} {L : Nat → Int} {f : Int} {re : Nat → Int32} (h : Wk g x L f re) {u : Nat} (hu : u < 7) (h8 : bt (re u) 8 = false) : ∃ s, s < 128 ∧ CR re s ∧ ∀ v, v < 7 → s.testBit v = (bt (re 7) v || bt (re u) v) := by
  obtain ⟨s0, hs0, hm⟩ := mask_of (fun v => bt (re 7) v || bt (re u) v)
  have tr := h.2.2.2.1
  refine ⟨s0, hs0, ⟨fun w hw hb => by rw [hm w hw, hb]; rfl, fun a ha hb => ?_, fun a w ha hw h3 h4 => ?_⟩, hm⟩
  · rw [hm a ha, Bool.or_eq_true] at hb
    cases q : bt (re a) 8 with
    | false => rfl
    | true =>
      rcases hb with hb | hb
      · have := tr 7 a 8 (by omega) (by omega) (by omega) hb q
        rw [wk_78 h] at this
        cases this
      · have := tr u a 8 (by omega) (by omega) (by omega) hb q
        rw [h8] at this
        cases this
  · rw [hm a ha, Bool.or_eq_true] at h3
    rw [hm w hw, Bool.or_eq_true]
    rcases h3 with hb | hb
    · exact Or.inl (tr 7 a w (by omega) (by omega) (by omega) hb h4)
    · exact Or.inr (tr u a w (by omega) (by omega) (by omega) hb h4)
/-- the greatest side -/
theorem wk_evr {g : Nat → Nat → Int32} {x : Nat} {L : Nat → Int} {f : Int} {re : Nat → Int32} (h : Wk g x L f re) {r : Int32} (hr : ∀ v, v < 32 → (bt r v = true ↔ v < 7 ∧ bt (re v) 8 = false)) : r = evr g x := by
  refine b_ext (fun v hv => ?_)
  have key : bt r v = true ↔ bt (evr g x) v = true := by
    unfold evr
    rw [ev_bt _ _ hv, hr v hv]
    constructor
    · intro ⟨h1, h2⟩
      obtain ⟨s, hs, hc, hm⟩ := wk_pair h h1 h2
      refine ⟨s, hs, (clo_CR h s).mpr hc, ?_⟩
      rw [hm v h1, h.2.1 v (by omega)]
      simp
    · intro ⟨s, hs, e, hb⟩
      have h7 : v < 7 := by
        rcases Nat.lt_or_ge v 7 with q | q
        · exact q
        · rw [mask_hi hs q] at hb; cases hb
      exact ⟨h7, ((clo_CR h s).mp e).2.1 v h7 hb⟩
  cases h1 : bt r v <;> cases h2 : bt (evr g x) v <;> simp_all
theorem wk_tie {g : Nat → Nat → Int32} {x : Nat} {L : Nat → Int} {f : Int} {re : Nat → Int32} (h : Wk g x L f re) : cp (CR re) 128 = tie g x := cp_congr 128 (fun s _ => (clo_CR h s).symm)
theorem wk_sep {g : Nat → Nat → Int32} {x : Nat} {L : Nat → Int} {f : Int} {re : Nat → Int32} (h : Wk g x L f re) {u v : Nat} (hu : u < 7) (hv : v < 7) : sepP g u v x ↔ bt (re 7 ||| re u) v = false ∧ bt (re 7 ||| re u) 8 = false := by
  rw [b_or, b_or, Bool.or_eq_false_iff, Bool.or_eq_false_iff]
  constructor
  · intro ⟨s, hs, h1, h2, e⟩
    obtain ⟨c1, c2, c3⟩ := (clo_CR h s).mp e
    refine ⟨⟨?_, ?_⟩, wk_78 h, c2 u hu h1⟩
    · cases q : bt (re 7) v with
      | false => rfl
      | true => rw [c1 v hv q] at h2; cases h2
    · cases q : bt (re u) v with
      | false => rfl
      | true => rw [c3 u v hu hv h1 q] at h2; cases h2
  · intro ⟨⟨h1, h2⟩, h3, h4⟩
    obtain ⟨s, hs, hc, hm⟩ := wk_pair h hu h4
    refine ⟨s, hs, ?_, ?_, (clo_CR h s).mpr hc⟩
    · rw [hm u hu, h.2.1 u (by omega)]; simp
    · rw [hm v hv, h1, h2]; rfl
end
section
/-! plain laws: counting closed sides, two nodes apart, spare, stages, worst, the data's changes -/
def RT (re : Nat → Int32) : Prop := (∀ u, u < 9 → bt (re u) u = true) ∧ (∀ u k v, u < 9 → k < 9 → v < 9 → bt (re u) k = true → bt (re k) v = true → bt (re u) v = true) ∧ bt (re 7) 8 = false
theorem wk_RT {g : Nat → Nat → Int32} {x : Nat} {L : Nat → Int} {f : Int} {re : Nat → Int32} (h : Wk g x L f re) : RT re := ⟨h.2.1, h.2.2.2.1, wk_78 h⟩
/-- nodes t that are in, nodes r that are out -/
def FI (re : Nat → Int32) (t r : Int32) : Prop :=
  (∀ v, v < 7 → bt (re 7) v = true → bt t v = true) ∧ (∀ v, v < 7 → bt (re v) 8 = true → bt r v = true) ∧
  (∀ u v, u < 7 → v < 7 → bt t u = true → bt (re u) v = true → bt t v = true) ∧ (∀ u v, u < 7 → v < 7 → bt r v = true → bt (re u) v = true → bt r u = true) ∧
  (∀ v, v < 7 → bt t v = true → bt r v = false)
noncomputable def cF (re : Nat → Int32) (t r : Int32) : Nat := cp (fun s => CR re s ∧ (∀ v, v < 7 → bt t v = true → s.testBit v = true) ∧ (∀ v, v < 7 → bt r v = true → s.testBit v = false)) 128
def us (t r : Int32) : Nat := cnt (fun v => !(bt (t ||| r) v)) 7
theorem cF_all {re : Nat → Int32} {t r : Int32} (h : FI re t r) (ha : ∀ v, v < 7 → bt (t ||| r) v = true) : cF re t r = 1 := by
  obtain ⟨f1, f2, f3, f4, f5⟩ := h
  obtain ⟨s0, hs0, hm⟩ := mask_of (fun v => bt t v)
  have hc0 : CR re s0 ∧ (∀ v, v < 7 → bt t v = true → s0.testBit v = true) ∧ (∀ v, v < 7 → bt r v = true → s0.testBit v = false) := by
    refine ⟨⟨fun v hv hb => (hm v hv).trans (f1 v hv hb), fun u hu hb => ?_, fun u v hu hv h1 h2 => ?_⟩, fun v hv hb => (hm v hv).trans hb, fun v hv hb => ?_⟩
    · rw [hm u hu] at hb
      cases q : bt (re u) 8 with
      | false => rfl
      | true => have := f5 u hu hb; rw [f2 u hu q] at this; cases this
    · rw [hm u hu] at h1
      rw [hm v hv]
      exact f3 u v hu hv h1 h2
    · rw [hm v hv]
      cases q : bt t v with
      | false => rfl
      | true => have := f5 v hv q; rw [hb] at this; cases this
  unfold cF
  refine cp_one (s0 := s0) hc0 128 hs0 (fun s hs hP => mask_inj hs hs0 (fun v hv => ?_))
  · rw [hm v hv]
    have h1 := ha v hv
    rw [b_or, Bool.or_eq_true] at h1
    rcases h1 with h1 | h1
    · rw [h1]; exact hP.2.1 v hv h1
    · rw [hP.2.2 v hv h1]
      cases q : bt t v with
      | false => rfl
      | true => have := f5 v hv q; rw [h1] at this; cases this
theorem FI_take {re : Nat → Int32} (hR : RT re) {t r t' : Int32} {v : Nat} (hv : v < 7) (h : FI re t r) (h2 : bt r v = false) (ht : ∀ w, w < 7 → (bt t' w = true ↔ bt t w = true ∨ bt (re v) w = true)) : FI re t' r := by
  obtain ⟨f1, f2, f3, f4, f5⟩ := h
  refine ⟨fun w hw hb => (ht w hw).mpr (Or.inl (f1 w hw hb)), f2, fun u w hu hw h3 h4 => ?_, f4, fun w hw h3 => ?_⟩
  · rcases (ht u hu).mp h3 with q | q
    · exact (ht w hw).mpr (Or.inl (f3 u w hu hw q h4))
    · exact (ht w hw).mpr (Or.inr (hR.2.1 v u w (by omega) (by omega) (by omega) q h4))
  · rcases (ht w hw).mp h3 with q | q
    · exact f5 w hw q
    · cases z : bt r w with
      | false => rfl
      | true => rw [f4 v w hv hw z q] at h2; cases h2
theorem FI_drop {re : Nat → Int32} (hR : RT re) {t r r' : Int32} {v : Nat} (hv : v < 7) (h : FI re t r) (h1 : bt t v = false) (hr : ∀ w, w < 7 → (bt r' w = true ↔ bt r w = true ∨ bt (re w) v = true)) : FI re t r' := by
  obtain ⟨f1, f2, f3, f4, f5⟩ := h
  refine ⟨f1, fun w hw hb => (hr w hw).mpr (Or.inl (f2 w hw hb)), f3, fun u w hu hw h3 h4 => ?_, fun w hw h3 => ?_⟩
  · rcases (hr w hw).mp h3 with q | q
    · exact (hr u hu).mpr (Or.inl (f4 u w hu hw q h4))
    · exact (hr u hu).mpr (Or.inr (hR.2.1 u w v (by omega) (by omega) (by omega) h4 q))
  · cases z : bt r' w with
    | false => rfl
    | true =>
      rcases (hr w hw).mp z with q | q
      · have := f5 w hw h3; rw [q] at this; cases this
      · rw [f3 w v hw hv h3 q] at h1; cases h1
theorem cF_br {re : Nat → Int32} {t r t' r' : Int32} {v : Nat} (hR : RT re) (hv : v < 7) (ht : ∀ w, w < 7 → (bt t' w = true ↔ bt t w = true ∨ bt (re v) w = true)) (hr : ∀ w, w < 7 → (bt r' w = true ↔ bt r w = true ∨ bt (re w) v = true)) : cF re t r = cF re t' r + cF re t r' := by
  unfold cF
  refine (cp_split _ (fun s => s.testBit v = true) 128).trans (congr (congrArg HAdd.hAdd ?_) ?_)
  · refine cp_congr 128 (fun s _ => ?_)
    constructor
    · intro ⟨⟨h1, h2, h3⟩, h4⟩
      refine ⟨h1, fun w hw hb => ?_, h3⟩
      rcases (ht w hw).mp hb with q | q
      · exact h2 w hw q
      · exact h1.2.2 v w hv hw h4 q
    · intro ⟨h1, h2, h3⟩
      exact ⟨⟨h1, fun w hw hb => h2 w hw ((ht w hw).mpr (Or.inl hb)), h3⟩, h2 v hv ((ht v hv).mpr (Or.inr (hR.1 v (by omega))))⟩
  · refine cp_congr 128 (fun s _ => ?_)
    constructor
    · intro ⟨⟨h1, h2, h3⟩, h4⟩
      refine ⟨h1, h2, fun w hw hb => ?_⟩
      rcases (hr w hw).mp hb with q | q
      · exact h3 w hw q
      · cases z : s.testBit w with
        | false => rfl
        | true => exact absurd (h1.2.2 w v hw hv z q) h4
    · intro ⟨h1, h2, h3⟩
      refine ⟨⟨h1, h2, fun w hw hb => h3 w hw ((hr w hw).mpr (Or.inl hb))⟩, fun z => ?_⟩
      rw [h3 v hv ((hr v hv).mpr (Or.inr (hR.1 v (by omega))))] at z
      cases z
theorem us_less {t r t' r' : Int32} {v : Nat} (hv : v < 7) (h0 : bt (t ||| r) v = false) (h1 : bt (t' ||| r') v = true) (hm : ∀ w, w < 7 → bt (t ||| r) w = true → bt (t' ||| r') w = true) : us t' r' + 1 ≤ us t r := by
  refine cnt_lt (k := v) ?_ ?_ 7 hv ?_
  · simp [h1]
  · simp [h0]
  · intro w hw h
    cases z : bt (t ||| r) w with
    | false => rfl
    | true => rw [hm w hw z] at h; simp at h
theorem us_zero {t r : Int32} (h : us t r = 0) : ∀ v, v < 7 → bt (t ||| r) v = true := by
  intro v hv
  have := cnt_zero h v hv
  simpa using this
/-- the start: what 7 reaches is in, what reaches 8 is out -/
theorem FI_start {re : Nat → Int32} (hR : RT re) {t r : Int32} (ht : ∀ v, v < 7 → (bt t v = true ↔ bt (re 7) v = true)) (hr : ∀ v, v < 7 → (bt r v = true ↔ bt (re v) 8 = true)) : FI re t r ∧ cF re t r = cp (CR re) 128 := by
  refine ⟨⟨fun v hv hb => (ht v hv).mpr hb, fun v hv hb => (hr v hv).mpr hb, fun u v hu hv h1 h2 => (ht v hv).mpr (hR.2.1 7 u v (by omega) (by omega) (by omega) ((ht u hu).mp h1) h2), fun u v hu hv h1 h2 => (hr u hu).mpr (hR.2.1 u v 8 (by omega) (by omega) (by omega) h2 ((hr v hv).mp h1)), fun v hv h1 => ?_⟩, ?_⟩
  · cases z : bt r v with
    | false => rfl
    | true =>
      have := hR.2.1 7 v 8 (by omega) (by omega) (by omega) ((ht v hv).mp h1) ((hr v hv).mp z)
      rw [hR.2.2] at this
      cases this
  · refine cp_congr 128 (fun s _ => ?_)
    constructor
    · exact fun h => h.1
    · intro h
      refine ⟨h, fun v hv hb => h.1 v hv ((ht v hv).mp hb), fun v hv hb => ?_⟩
      cases z : s.testBit v with
      | false => rfl
      | true => have := h.2.1 v hv z; rw [(hr v hv).mp hb] at this; cases this
-- two nodes apart
def apM (g : Nat → Nat → Int32) (x u v : Nat) (f : Int) : Prop := (∃ s, s < 128 ∧ s.testBit u = true ∧ s.testBit v = false ∧ prs g x s = f) ∧ ∀ s, s < 128 → s.testBit u = true → s.testBit v = false → f ≤ prs g x s
/-- the loaded numbers, 100000 more at two places -/
def apL (L : Nat → Int) (u v : Nat) : Nat → Int := va_up (va_up L (63 + u) (L (63 + u) + 100000)) (v * 9 + 8) (va_up L (63 + u) (L (63 + u) + 100000) (v * 9 + 8) + 100000)
theorem apL_u {L : Nat → Int} {u v : Nat} (hu : u < 7) (hv : v < 7) : apL L u v (63 + u) = L (63 + u) + 100000 := by
  unfold apL va_up
  rw [if_neg (by omega), if_pos rfl]
theorem apL_v {L : Nat → Int} {u v : Nat} (hu : u < 7) (hv : v < 7) : apL L u v (v * 9 + 8) = L (v * 9 + 8) + 100000 := by
  unfold apL va_up
  rw [if_pos rfl, if_neg (by omega)]
theorem apL_o {L : Nat → Int} {u v q : Nat} (h1 : q ≠ 63 + u) (h2 : q ≠ v * 9 + 8) : apL L u v q = L q := by
  unfold apL va_up
  rw [if_neg h2, if_neg h1]
theorem apL_rc {L : Nat → Int} {u v : Nat} (hu : u < 7) (hv : v < 7) {T : Nat → Bool} (h7 : T 7 = true) (h8 : T 8 = false) : rc (apL L u v) T = rc L T + (if T u then 0 else 100000) + (if T v then 100000 else 0) := by
  unfold apL
  rw [show 63 + u = 7 * 9 + u by omega, rc_up (by omega) (by omega), rc_up (by omega) (by omega), h7, h8]
  cases T u <;> cases T v <;> simp <;> omega
/-- ldF's numbers -/
theorem ldF_in {g : Nat → Nat → Int32} (hg : DOK g) {x : Nat} (hx : x ≤ 50) {u v : Nat} (hu : u < 9) (hv : v < 9) : 0 ≤ ldF g x u v ∧ ldF g x u v ≤ 140 := by
  unfold ldF
  split
  · split
    · have := hg.1 u v (by assumption) (by assumption); omega
    · split
      · obtain ⟨a, b, c, d⟩ := hg.2 u (by assumption)
        exact pl_in c.2 d.1 d.2 hx
      · omega
  · split
    · split
      · obtain ⟨a, b, c, d⟩ := hg.2 v (by assumption)
        exact pl_in a.2 b.1 b.2 hx
      · omega
    · omega
theorem ld_nn {g : Nat → Nat → Int32} (hg : DOK g) {x : Nat} (hx : x ≤ 50) {L : Nat → Int} (hL : ∀ u v, u < 9 → v < 9 → L (u * 9 + v) = ldF g x u v) : NN L := fun u v hu hv => by
  rw [hL u v hu hv]; exact (ldF_in hg hx hu hv).1
theorem ld_pb {g : Nat → Nat → Int32} (hg : DOK g) {x : Nat} (hx : x ≤ 50) {L : Nat → Int} (hL : ∀ u v, u < 9 → v < 9 → L (u * 9 + v) = ldF g x u v) : PB L := fun u v hu hv => by
  rw [hL u v hu hv, hL v u hv hu]
  have := ldF_in hg hx hu hv
  have := ldF_in hg hx hv hu
  omega
/-- the plain load: the source's pulls bound the pushes -/
theorem ld_cut {g : Nat → Nat → Int32} (hg : DOK g) {x : Nat} (hx : x ≤ 50) {L : Nat → Int} (hL : ∀ u v, u < 9 → v < 9 → L (u * 9 + v) = ldF g x u v) : rc L (fun w => w == 7) ≤ 980 := by
  rw [rc_load hg hL (by rfl) (by rfl)]
  have : pr g (fun w => w == 7) x ≤ (7 : Nat) * (140 : Int) := by
    refine sm_le 7 (fun v hv => ?_)
    obtain ⟨a, b, c, d⟩ := hg.2 v hv
    have h1 := pl_in a.2 b.1 b.2 hx
    have h2 : sm (fun u => if (u == 7) = (v == 7) then 0 else (g 0 (u * 7 + v)).toInt) v = 0 := sm_zero v (fun u hu => by
      have e1 : (u == 7) = false := by simp; omega
      have e2 : (v == 7) = false := by simp; omega
      rw [e1, e2, if_pos rfl])
    have e2 : (v == 7) = false := by simp; omega
    show (if (v == 7) = true then _ else _) + sm (fun u => if (u == 7) = (v == 7) then 0 else (g 0 (u * 7 + v)).toInt) v ≤ 140
    rw [h2, e2]
    simp
    exact h1.2
  omega
theorem ld_ends {g : Nat → Nat → Int32} (hg : DOK g) {x : Nat} (hx : x ≤ 50) {L : Nat → Int} (hL : ∀ u v, u < 9 → v < 9 → L (u * 9 + v) = ldF g x u v) : Ends 1000 L :=
  ends_cut (T := fun w => w == 7) rfl rfl 1000 L (ld_nn hg hx hL) (by have := ld_cut hg hx hL; omega)
theorem ap_nn {g : Nat → Nat → Int32} (hg : DOK g) {x : Nat} (hx : x ≤ 50) {L : Nat → Int} (hL : ∀ u v, u < 9 → v < 9 → L (u * 9 + v) = ldF g x u v) {u v : Nat} (hu : u < 7) (hv : v < 7) : NN (apL L u v) := fun p q hp hq => by
  have h := ld_nn hg hx hL p q hp hq
  by_cases c2 : p * 9 + q = v * 9 + 8
  · rw [c2, apL_v hu hv]; rw [c2] at h; omega
  · by_cases c1 : p * 9 + q = 63 + u
    · rw [c1, apL_u hu hv]; rw [c1] at h; omega
    · rw [apL_o c1 c2]; exact h
theorem ap_pb {g : Nat → Nat → Int32} (hg : DOK g) {x : Nat} (hx : x ≤ 50) {L : Nat → Int} (hL : ∀ u v, u < 9 → v < 9 → L (u * 9 + v) = ldF g x u v) {u v : Nat} (hu : u < 7) (hv : v < 7) : PB (apL L u v) := by
  have one : ∀ p q, p < 9 → q < 9 → apL L u v (p * 9 + q) ≤ 100140 := by
    intro p q hp hq
    have h : L (p * 9 + q) ≤ 140 := by rw [hL p q hp hq]; exact (ldF_in hg hx hp hq).2
    by_cases c2 : p * 9 + q = v * 9 + 8
    · rw [c2, apL_v hu hv]; rw [c2] at h; omega
    · by_cases c1 : p * 9 + q = 63 + u
      · rw [c1, apL_u hu hv]; rw [c1] at h; omega
      · rw [apL_o c1 c2]; omega
  intro p q hp hq
  have := one p q hp hq
  have := one q p hq hp
  omega
theorem ap_ap {g : Nat → Nat → Int32} (hg : DOK g) {x : Nat} (hx : x ≤ 50) {L : Nat → Int} (hL : ∀ u v, u < 9 → v < 9 → L (u * 9 + v) = ldF g x u v) {u v : Nat} (hu : u < 7) (hv : v < 7) (hne : u ≠ v) : Ap (apL L u v) u v := by
  have b : ∀ p q, p < 9 → q < 9 → 0 ≤ L (p * 9 + q) ∧ L (p * 9 + q) ≤ 140 := fun p q hp hq => by rw [hL p q hp hq]; exact ldF_in hg hx hp hq
  refine ⟨ap_nn hg hx hL hu hv, ?_, ?_, ?_, ?_, ?_, ?_⟩
  · rw [apL_o (by omega) (by omega)]
    have := hL 7 8 (by omega) (by omega)
    rw [show 7 * 9 + 8 = 71 from rfl] at this
    rw [this]
    simp [ldF]
  · rw [apL_u hu hv, apL_o (by omega) (by omega)]
    have h1 := b u 8 (by omega) (by omega)
    have h2 := b 7 u (by omega) (by omega)
    rw [show 7 * 9 + u = 63 + u by omega] at h2
    omega
  · rw [apL_v hu hv, apL_o (by omega) (by omega)]
    have h1 := b v 8 (by omega) (by omega)
    have h2 := b 7 v (by omega) (by omega)
    rw [show 7 * 9 + v = 63 + v by omega] at h2
    omega
  · intro w hw h1 h2
    rw [apL_o (by omega) (by omega)]
    have h3 := b 7 w (by omega) (by omega)
    rw [show 7 * 9 + w = 63 + w by omega] at h3
    omega
  · intro w hw
    have h3 := b 7 w (by omega) (by omega)
    rw [show 7 * 9 + w = 63 + w by omega] at h3
    by_cases c : w = u
    · subst c; rw [apL_u hu hv]; omega
    · rw [apL_o (by omega) (by omega)]; omega
  · intro w hw h1
    rw [apL_o (by omega) (by omega), hL u w (by omega) (by omega)]
    have := hg.1 u w hu hw
    simp [ldF, hu, hw]
    omega
theorem ap_cutB {g : Nat → Nat → Int32} (hg : DOK g) {x : Nat} (hx : x ≤ 50) {L : Nat → Int} (hL : ∀ u v, u < 9 → v < 9 → L (u * 9 + v) = ldF g x u v) {u v : Nat} (hu : u < 7) (hv : v < 7) (hne : u ≠ v) : rc (apL L u v) (fun w => w == 7 || w == u) ≤ 1820 := by
  have e8 : ((8 : Nat) == 7 || (8 : Nat) == u) = false := by simp; omega
  rw [apL_rc hu hv (by rfl) e8, rc_load hg hL (by rfl) e8]
  have h1 := pr_in hg (fun w => w == 7 || w == u) hx
  have e1 : (u == 7 || u == u) = true := by simp
  have e2 : (v == 7 || v == u) = false := by simp; omega
  simp only [e1, e2]
  simp
  omega
theorem ap_res {g : Nat → Nat → Int32} (hg : DOK g) {x : Nat} (hx : x ≤ 50) {L L' : Nat → Int} (hL : ∀ u v, u < 9 → v < 9 → L (u * 9 + v) = ldF g x u v) {u v : Nat} (hu : u < 7) (hv : v < 7) (hne : u ≠ v) {f : Int} (hn : NN L') (hr : ∀ T : Nat → Bool, T 7 = true → T 8 = false → rc L' T = rc (apL L u v) T - f) (hT : ∃ T : Nat → Bool, T 7 = true ∧ T 8 = false ∧ Clo L' T) : apM g x u v f := by
  have low : ∀ s, s < 128 → s.testBit u = true → s.testBit v = false → f ≤ prs g x s := by
    intro s hs h1 h2
    have h3 := hr (ex s) (ex_7 s) (ex_8 s)
    rw [apL_rc hu hv (ex_7 s) (ex_8 s), rc_load hg hL (ex_7 s) (ex_8 s), ex_lt hu, ex_lt hv, h1, h2, ex_pr] at h3
    have h4 := rc_nn hn (ex s)
    simp at h3
    omega
  obtain ⟨T, h7, h8, hC⟩ := hT
  have e1 := hr T h7 h8
  rw [(rc_clo hn).mpr hC, apL_rc hu hv h7 h8, rc_load hg hL h7 h8] at e1
  obtain ⟨s1, hs1, hm1⟩ := mask_of (fun w => w == u)
  have b1 := low s1 hs1 (by rw [hm1 u hu]; simp) (by rw [hm1 v hv]; simp; omega)
  have b2 := pr_in hg (fun v => s1.testBit v) hx
  have b3 := pr_in hg T hx
  have b4 : prs g x s1 = pr g (fun v => s1.testBit v) x := rfl
  have hTu : T u = true := by
    cases q : T u with
    | true => rfl
    | false =>
      rw [q] at e1
      simp only [Bool.false_eq_true, if_false] at e1
      split at e1 <;> omega
  have hTv : T v = false := by
    cases q : T v with
    | false => rfl
    | true =>
      rw [q, hTu] at e1
      simp only [if_true] at e1
      omega
  rw [hTu, hTv] at e1
  simp at e1
  obtain ⟨s0, hs0, hm⟩ := mask_of T
  refine ⟨⟨s0, hs0, (hm u hu).trans hTu, (hm v hv).trans hTv, ?_⟩, low⟩
  have : prs g x s0 = pr g T x := pr_side (fun w hw => hm w hw) x
  omega
-- spare
def spS (g : Nat → Nat → Int32) (u v x : Nat) (r : Int) : Prop :=
  0 ≤ r ∧ r ≤ (g 0 (u * 7 + v)).toInt ∧ (∀ s, s < 128 → s.testBit u ≠ s.testBit v → lst g x + r ≤ prs g x s) ∧ (r = (g 0 (u * 7 + v)).toInt ∨ ∃ s, s < 128 ∧ s.testBit u ≠ s.testBit v ∧ prs g x s = lst g x + r)
theorem spS_uniq {g : Nat → Nat → Int32} {u v x : Nat} {r r' : Int} (h : spS g u v x r) (h' : spS g u v x r') : r = r' := by
  obtain ⟨a1, a2, a3, a4⟩ := h
  obtain ⟨b1, b2, b3, b4⟩ := h'
  rcases a4 with a4 | ⟨s, s1, s2, s3⟩
  · rcases b4 with b4 | ⟨t, t1, t2, t3⟩
    · omega
    · have := a3 t t1 t2; omega
  · have h1 := b3 s s1 s2
    rcases b4 with b4 | ⟨t, t1, t2, t3⟩
    · omega
    · have := a3 t t1 t2; omega
theorem spS_of {g : Nat → Nat → Int32} (hg : DOK g) {u v x : Nat} (hu : u < 7) (hv : v < 7) {one other r : Int} (h1 : apM g x u v one) (h2 : apM g x v u other) (hr : r = if (if one < other then one else other) - lst g x < (g 0 (u * 7 + v)).toInt then (if one < other then one else other) - lst g x else (g 0 (u * 7 + v)).toInt) : spS g u v x r := by
  obtain ⟨⟨s1, a1, a2, a3, a4⟩, l1⟩ := h1
  obtain ⟨⟨s2, b1, b2, b3, b4⟩, l2⟩ := h2
  have c0 := hg.1 u v hu hv
  have n1 := lst_le g x a1
  have n2 := lst_le g x b1
  have low : ∀ s, s < 128 → s.testBit u ≠ s.testBit v → (if one < other then one else other) ≤ prs g x s := by
    intro s hs hne
    cases p : s.testBit u with
    | true =>
      have q : s.testBit v = false := by
        cases z : s.testBit v with
        | false => rfl
        | true => exact absurd (p.trans z.symm) hne
      have := l1 s hs p q
      split <;> omega
    | false =>
      have q : s.testBit v = true := by
        cases z : s.testBit v with
        | true => rfl
        | false => exact absurd (p.trans z.symm) hne
      have := l2 s hs q p
      split <;> omega
  have att : ∃ s, s < 128 ∧ s.testBit u ≠ s.testBit v ∧ prs g x s = (if one < other then one else other) := by
    by_cases c : one < other
    · rw [if_pos c]; exact ⟨s1, a1, by rw [a2, a3]; simp, a4⟩
    · rw [if_neg c]; exact ⟨s2, b1, by rw [b2, b3]; simp, b4⟩
  have pos : lst g x ≤ (if one < other then one else other) := by split <;> omega
  generalize (if one < other then one else other) = z at hr low att pos
  by_cases c : z - lst g x < (g 0 (u * 7 + v)).toInt
  · rw [if_pos c] at hr
    obtain ⟨s, s1, s2, s3⟩ := att
    exact ⟨by omega, by omega, fun s hs hne => by have := low s hs hne; omega, Or.inr ⟨s, s1, s2, by omega⟩⟩
  · rw [if_neg c] at hr
    exact ⟨by omega, by omega, fun s hs hne => by have := low s hs hne; omega, Or.inl hr⟩
/-- the data with another capacity between u and v -/
def lkG (g : Nat → Nat → Int32) (u v : Nat) (c : Int32) : Nat → Nat → Int32 := va_up g 0 (upd (upd (g 0) (u * 7 + v) c) (v * 7 + u) c)
theorem lkG_0 (g : Nat → Nat → Int32) (u v : Nat) (c : Int32) (q : Nat) : lkG g u v c 0 q = if q = v * 7 + u then c else if q = u * 7 + v then c else g 0 q := rfl
theorem lkG_k {g : Nat → Nat → Int32} {u v : Nat} {c : Int32} {k : Nat} (h : k ≠ 0) : lkG g u v c k = g k := if_neg h
theorem DOK_link {g : Nat → Nat → Int32} (hg : DOK g) {u v : Nat} (hu : u < 7) (hv : v < 7) {c : Int32} (h0 : 0 ≤ c.toInt) (h1 : c.toInt ≤ 20) : DOK (lkG g u v c) := by
  refine ⟨fun p q hp hq => ?_, fun w hw => ?_⟩
  · have h := hg.1 p q hp hq
    rw [lkG_0, lkG_0]
    by_cases a : p * 7 + q = v * 7 + u
    · rw [if_pos a]
      refine ⟨h0, h1, ?_⟩
      by_cases b : q * 7 + p = v * 7 + u
      · rw [if_pos b]
      · rw [if_neg b, if_pos (by omega)]
    · rw [if_neg a]
      by_cases b : p * 7 + q = u * 7 + v
      · rw [if_pos b, if_pos (by omega)]
        exact ⟨h0, h1, rfl⟩
      · rw [if_neg b, if_neg (by omega), if_neg (by omega)]
        exact h
  · rw [lkG_k (by omega), lkG_k (by omega), lkG_k (by omega), lkG_k (by omega)]
    exact hg.2 w hw
theorem pr_link {g : Nat → Nat → Int32} (hg : DOK g) {u v : Nat} (hu : u < 7) (hv : v < 7) (hne : u ≠ v) (c : Int32) (S : Nat → Bool) (x : Nat) : pr (lkG g u v c) S x = pr g S x + (if S u = S v then 0 else c.toInt - (g 0 (u * 7 + v)).toInt) := by
  -- the lower and the higher of the two
  have main : ∀ lo hi, lo < hi → hi < 7 → (∀ p q, p < 7 → q < 7 → (lkG g u v c 0 (p * 7 + q)) = if (p = lo ∧ q = hi) ∨ (p = hi ∧ q = lo) then c else g 0 (p * 7 + q)) → g 0 (lo * 7 + hi) = g 0 (u * 7 + v) → pr (lkG g u v c) S x = pr g S x + (if S lo = S hi then 0 else c.toInt - (g 0 (u * 7 + v)).toInt) := by
    intro lo hi hlh hhi hval hown
    have hk1 : lkG g u v c 1 = g 1 := lkG_k (by omega)
    have hk2 : lkG g u v c 2 = g 2 := lkG_k (by omega)
    have hk3 : lkG g u v c 3 = g 3 := lkG_k (by omega)
    have hk4 : lkG g u v c 4 = g 4 := lkG_k (by omega)
    have inner : sm (fun p => if S p = S hi then 0 else (lkG g u v c 0 (p * 7 + hi)).toInt) hi = sm (fun p => if S p = S hi then 0 else (g 0 (p * 7 + hi)).toInt) hi + (if S lo = S hi then 0 else c.toInt - (g 0 (u * 7 + v)).toInt) := by
      have h1 := sm_one (f := fun p => if S p = S hi then 0 else (g 0 (p * 7 + hi)).toInt) (g := fun p => if S p = S hi then 0 else (lkG g u v c 0 (p * 7 + hi)).toInt) (k := lo) (z := if S lo = S hi then 0 else c.toInt - (g 0 (u * 7 + v)).toInt) (by
        show (if S lo = S hi then 0 else (lkG g u v c 0 (lo * 7 + hi)).toInt) = (if S lo = S hi then 0 else (g 0 (lo * 7 + hi)).toInt) + _
        rw [hval lo hi (by omega) hhi, if_pos (Or.inl ⟨rfl, rfl⟩), hown]
        split <;> omega) hi (fun p hp hpn => by
        show (if S p = S hi then 0 else (lkG g u v c 0 (p * 7 + hi)).toInt) = (if S p = S hi then 0 else (g 0 (p * 7 + hi)).toInt)
        rw [show lkG g u v c 0 (p * 7 + hi) = g 0 (p * 7 + hi) from (hval p hi (by omega) hhi).trans (if_neg (by omega))])
      rw [h1, if_pos hlh]
    have outer := sm_one (f := fun w => (if S w then pl (g 3 w) (g 4 w) x else pl (g 1 w) (g 2 w) x) + sm (fun p => if S p = S w then 0 else (g 0 (p * 7 + w)).toInt) w) (g := fun w => (if S w then pl (g 3 w) (g 4 w) x else pl (g 1 w) (g 2 w) x) + sm (fun p => if S p = S w then 0 else (lkG g u v c 0 (p * 7 + w)).toInt) w) (k := hi) (z := if S lo = S hi then 0 else c.toInt - (g 0 (u * 7 + v)).toInt) (by
        show _ + sm (fun p => if S p = S hi then 0 else (lkG g u v c 0 (p * 7 + hi)).toInt) hi = _ + sm (fun p => if S p = S hi then 0 else (g 0 (p * 7 + hi)).toInt) hi + _
        rw [inner]; omega) 7 (fun w hw hwn => by
        show _ + sm (fun p => if S p = S w then 0 else (lkG g u v c 0 (p * 7 + w)).toInt) w = _ + sm (fun p => if S p = S w then 0 else (g 0 (p * 7 + w)).toInt) w
        congr 1
        refine sm_congr w (fun p hp => ?_)
        rw [show lkG g u v c 0 (p * 7 + w) = g 0 (p * 7 + w) from (hval p w (by omega) hw).trans (if_neg (by omega))])
    unfold pr
    rw [hk1, hk2, hk3, hk4, outer, if_pos hhi]
  rcases Nat.lt_or_ge u v with q | q
  · have h := main u v q hv (fun p r hp hr => by
      rw [lkG_0]
      by_cases a : p * 7 + r = v * 7 + u
      · rw [if_pos a, if_pos (Or.inr (by omega))]
      · rw [if_neg a]
        by_cases b : p * 7 + r = u * 7 + v
        · rw [if_pos b, if_pos (Or.inl (by omega))]
        · rw [if_neg b, if_neg (by omega)]) rfl
    exact h
  · have h := main v u (by omega) hu (fun p r hp hr => by
      rw [lkG_0]
      by_cases a : p * 7 + r = v * 7 + u
      · rw [if_pos a, if_pos (Or.inl (by omega))]
      · rw [if_neg a]
        by_cases b : p * 7 + r = u * 7 + v
        · rw [if_pos b, if_pos (Or.inr (by omega))]
        · rw [if_neg b, if_neg (by omega)]) ((hg.1 u v hu hv).2.2).symm
    rw [h]
    by_cases c1 : S u = S v
    · rw [if_pos c1, if_pos c1.symm]
    · rw [if_neg c1, if_neg (fun z => c1 z.symm)]
/-- with k less between u and v the least cost stays just if all cuts between them can spare k -/
theorem lst_link {g : Nat → Nat → Int32} (hg : DOK g) {u v : Nat} (hu : u < 7) (hv : v < 7) (hne : u ≠ v) {c : Int32} {k : Int} (hk : 0 ≤ k) (hc : c.toInt = (g 0 (u * 7 + v)).toInt - k) (x : Nat) : lst (lkG g u v c) x = lst g x ↔ ∀ s, s < 128 → s.testBit u ≠ s.testBit v → lst g x + k ≤ prs g x s := by
  have e : ∀ s, prs (lkG g u v c) x s = prs g x s + (if s.testBit u = s.testBit v then 0 else - k) := by
    intro s
    unfold prs
    rw [pr_link hg hu hv hne]
    congr 1
    by_cases c1 : s.testBit u = s.testBit v
    · rw [if_pos c1, if_pos c1]
    · rw [if_neg c1, if_neg c1]; omega
  constructor
  · intro h s hs hn
    have h1 := lst_le (lkG g u v c) x hs
    rw [h, e s, if_neg hn] at h1
    omega
  · intro h
    obtain ⟨s1, hs1, e1⟩ := lst_ex (lkG g u v c) x
    obtain ⟨s2, hs2, e2⟩ := lst_ex g x
    have l1 := lst_le (lkG g u v c) x hs2
    have l2 := lst_le g x hs1
    rw [e s1] at e1
    rw [e s2] at l1
    by_cases c1 : s1.testBit u = s1.testBit v
    · rw [if_pos c1] at e1
      by_cases c2 : s2.testBit u = s2.testBit v
      · rw [if_pos c2] at l1; omega
      · rw [if_neg c2] at l1
        have := h s2 hs2 c2
        omega
    · rw [if_neg c1] at e1
      have := h s1 hs1 c1
      by_cases c2 : s2.testBit u = s2.testBit v
      · rw [if_pos c2] at l1; omega
      · rw [if_neg c2] at l1
        have := h s2 hs2 c2
        omega
-- stages, worst
def met (f : Nat → Int32) (z : Int32) : Nat → Bool
  | 0 => false
  | n + 1 => met f z n || f n == z
def nst (f : Nat → Int32) : Nat → Nat
  | 0 => 0
  | n + 1 => nst f n + (if met f (f n) n then 0 else 1)
theorem nst_le (f : Nat → Int32) : ∀ n, nst f n ≤ n
  | 0 => Nat.le_refl 0
  | n + 1 => by
    have := nst_le f n
    show nst f n + _ ≤ _
    split <;> omega
def wst (f : Nat → Int) : Nat → Nat × Int
  | 0 => (0, f 0)
  | n + 1 => if (wst f n).2 < f (n + 1) then (n + 1, f (n + 1)) else wst f n
theorem wst_le (f : Nat → Int) : ∀ n, (wst f n).1 ≤ n
  | 0 => Nat.le_refl 0
  | n + 1 => by
    have := wst_le f n
    show (if (wst f n).2 < f (n + 1) then (n + 1, f (n + 1)) else wst f n).1 ≤ n + 1
    split
    · exact Nat.le_refl _
    · omega
theorem wst_in (f : Nat → Int) {lo hi : Int} (h : ∀ n, n ≤ 50 → lo ≤ f n ∧ f n ≤ hi) : ∀ n, n ≤ 50 → lo ≤ (wst f n).2 ∧ (wst f n).2 ≤ hi
  | 0, _ => h 0 (by omega)
  | n + 1, hn => by
    have := wst_in f h n (by omega)
    show lo ≤ (if (wst f n).2 < f (n + 1) then (n + 1, f (n + 1)) else wst f n).2 ∧ (if (wst f n).2 < f (n + 1) then (n + 1, f (n + 1)) else wst f n).2 ≤ hi
    split
    · exact h (n + 1) hn
    · exact this
theorem alw_nI (g : Nat → Nat → Int32) (x : Nat) : ∃ k, k < 128 ∧ alw g x = nI k := by
  obtain ⟨s, hs, hm⟩ := mask_of (fun v => bt (alw g x) v)
  refine ⟨s, hs, b_ext (fun v hv => ?_)⟩
  rw [b_nI hv]
  rcases Nat.lt_or_ge v 7 with q | q
  · exact (hm v q).symm
  · rw [mask_hi hs q]
    cases z : bt (alw g x) v with
    | false => rfl
    | true => have := ((al_bt _ _ hv 128).mp z).1; omega
theorem alw_congr {g g' : Nat → Nat → Int32} (h : ∀ k, k < 5 → g k = g' k) (x : Nat) : alw g x = alw g' x := by unfold alw; rw [prs_congr h, lst_congr h]
theorem evr_congr {g g' : Nat → Nat → Int32} (h : ∀ k, k < 5 → g k = g' k) (x : Nat) : evr g x = evr g' x := by unfold evr; rw [prs_congr h, lst_congr h]
theorem tie_congr {g g' : Nat → Nat → Int32} (h : ∀ k, k < 5 → g k = g' k) (x : Nat) : tie g x = tie g' x := by unfold tie; rw [prs_congr h, lst_congr h]
theorem sepP_congr {g g' : Nat → Nat → Int32} (h : ∀ k, k < 5 → g k = g' k) (u v x : Nat) : sepP g u v x ↔ sepP g' u v x := by unfold sepP; rw [prs_congr h, lst_congr h]
theorem spS_congr {g g' : Nat → Nat → Int32} (h : ∀ k, k < 5 → g k = g' k) {u v x : Nat} {r : Int} (hs : spS g u v x r) : spS g' u v x r := by
  unfold spS at *
  rw [← prs_congr h, ← lst_congr h, ← h 0 (by omega)]
  exact hs
theorem Gr_congr {g g' : Nat → Nat → Int32} (h : ∀ k, k < 5 → g k = g' k) {x : Nat} {L : Nat → Int} {f : Int} (hG : Gr g x L f) : Gr g' x L f := ⟨hG.1, fun T h7 h8 => by rw [hG.2.1 T h7 h8, pr_congr h], hG.2.2⟩
theorem Wk_congr {g g' : Nat → Nat → Int32} (h : ∀ k, k < 5 → g k = g' k) {x : Nat} {L : Nat → Int} {f : Int} {re : Nat → Int32} (hG : Wk g x L f re) : Wk g' x L f re := ⟨Gr_congr h hG.1, hG.2⟩
-- the other changes of the data
def plG (g : Nat → Nat → Int32) (i j : Nat) (v : Nat) (b s : Int32) : Nat → Nat → Int32 := va_up (va_up g i (upd (g i) v b)) j (upd (g j) v s)
def fl (p q : Nat → Int32) : Nat → Int32 := fun i => if i < 7 then q i else p i
def flG (g : Nat → Nat → Int32) : Nat → Nat → Int32 := fun k => if k = 1 then fl (g 1) (g 3) else if k = 2 then fl (g 2) (g 4) else if k = 3 then fl (g 3) (g 1) else if k = 4 then fl (g 4) (g 2) else g k
theorem DOK_src {g : Nat → Nat → Int32} (hg : DOK g) {v : Nat} {b s : Int32} (h0 : 0 ≤ b.toInt) (h1 : b.toInt ≤ 40) (h2 : -2 ≤ s.toInt) (h3 : s.toInt ≤ 2) : DOK (plG g 1 2 v b s) := by
  refine ⟨fun p q hp hq => hg.1 p q hp hq, fun w hw => ?_⟩
  obtain ⟨c1, c2, c3, c4⟩ := hg.2 w hw
  refine ⟨?_, ?_, c3, c4⟩
  · show 0 ≤ (upd (g 1) v b w).toInt ∧ (upd (g 1) v b w).toInt ≤ 40
    unfold upd
    split
    · exact ⟨h0, h1⟩
    · exact c1
  · show -2 ≤ (upd (g 2) v s w).toInt ∧ (upd (g 2) v s w).toInt ≤ 2
    unfold upd
    split
    · exact ⟨h2, h3⟩
    · exact c2
theorem DOK_snk {g : Nat → Nat → Int32} (hg : DOK g) {v : Nat} {b s : Int32} (h0 : 0 ≤ b.toInt) (h1 : b.toInt ≤ 40) (h2 : -2 ≤ s.toInt) (h3 : s.toInt ≤ 2) : DOK (plG g 3 4 v b s) := by
  refine ⟨fun p q hp hq => hg.1 p q hp hq, fun w hw => ?_⟩
  obtain ⟨c1, c2, c3, c4⟩ := hg.2 w hw
  refine ⟨c1, c2, ?_, ?_⟩
  · show 0 ≤ (upd (g 3) v b w).toInt ∧ (upd (g 3) v b w).toInt ≤ 40
    unfold upd
    split
    · exact ⟨h0, h1⟩
    · exact c3
  · show -2 ≤ (upd (g 4) v s w).toInt ∧ (upd (g 4) v s w).toInt ≤ 2
    unfold upd
    split
    · exact ⟨h2, h3⟩
    · exact c4
theorem DOK_flip {g : Nat → Nat → Int32} (hg : DOK g) : DOK (flG g) := by
  refine ⟨fun p q hp hq => hg.1 p q hp hq, fun w hw => ?_⟩
  obtain ⟨c1, c2, c3, c4⟩ := hg.2 w hw
  have e1 : flG g 1 w = g 3 w := if_pos hw
  have e2 : flG g 2 w = g 4 w := if_pos hw
  have e3 : flG g 3 w = g 1 w := if_pos hw
  have e4 : flG g 4 w = g 2 w := if_pos hw
  rw [e1, e2, e3, e4]
  exact ⟨c3, c4, c1, c2⟩
theorem DOK_zero : DOK (fun _ _ => 0) := by
  have zz : 0 ≤ (0 : Int32).toInt ∧ (0 : Int32).toInt ≤ 20 ∧ (0 : Int32).toInt ≤ 40 ∧ -2 ≤ (0 : Int32).toInt ∧ (0 : Int32).toInt ≤ 2 := by decide
  refine ⟨fun p q _ _ => ⟨zz.1, zz.2.1, rfl⟩, fun w _ => ⟨⟨zz.1, zz.2.2.1⟩, ⟨zz.2.2.2.1, zz.2.2.2.2⟩, ⟨zz.1, zz.2.2.1⟩, ⟨zz.2.2.2.1, zz.2.2.2.2⟩⟩⟩
end
section
/-! leaves: bad, badX, in, badPull, sourcePull, sinkPull, costOf, cost, smallestSide, greatestSide, unsettled, reaching -/
def isN (v : Int32) (N : Nat) : Prop := ∃ n, n < N ∧ v = nI n
theorem isN_iff {v : Int32} {N : Nat} (hN : N < 2147483648) : isN v N ↔ 0 ≤ v.toInt ∧ v.toInt < N := by
  constructor
  · intro ⟨n, h1, h2⟩
    subst h2
    rw [z_nI (by omega)]
    omega
  · intro ⟨h1, h2⟩
    exact z_of h1 h2 hN
def okP (b s : Int32) : Prop := 0 ≤ b.toInt ∧ b.toInt ≤ 40 ∧ -2 ≤ s.toInt ∧ s.toInt ≤ 2
set_option maxHeartbeats 4000000 in
set_option maxRecDepth 100000 in
theorem mX0_bad (l : Launch) (D : va_G) (v : Int32) : Met l yX0_bad (ws_ yX0_bad cX0_bad 1 (some .boolean)) xr0 (x_Pc D [] [] [.int (v)]) (x_QR (fun r => (r = nI 1 ∧ ¬ isN v 7) ∨ (r = nI 0 ∧ isN v 7))) 0 0 x_no := by
  refine Met.ofW (cc := cX0_bad) (maxL := 1) (ret := (some .boolean)) (by decide) rfl ?_
  intro p e s m args below meth c s₁ B hml hv
  obtain ⟨rfl, hP, hK⟩ := hv
  have hx := B.exec
  have hb := B.bytes
  have hr := B.returns
  have hlocks := B.notSynchronized
  have hts := atoms_spec (ws := (ws_ yX0_bad cX0_bad 1 (some .boolean))) B.pre
  have hts : ∀ w ∈ lw_all, w.before _ s = true := fun w h => hts w (List.mem_cons_of_mem _ h)
  have hown : s.vm.findClass RX0 = some m.cls := findClass_of_methodNamed B.named
  have hS : va_S x_no s.heap s.heap [] := va_S.rf
  have hl := lv_entry ([.int (v)]) (n := 1) (Nat.le_of_ble_eq_true rfl)
  rw [lg_entry_eq]
  generalize (lg_sl ([.int (v)]) ++ List.replicate (1 - (lg_sl ([.int (v)])).length) Slot.unset).toArray = ls at hl ⊢
  have hl : lv_has ls 1 [(0, .int (v))] := hl
  have hP : va_P D vwCl [] s.heap := hP
  have hv0 := isN_iff (v := v) (N := 7) (by decide)
  have hz : (nI 7).toInt = 7 := rfl
  refine lv_iload_n hx hb dX0_bad_0 rfl (lv_at hl 0 rfl) ?_
  refine lv_if_lt (tgt := 10) hx hb dX0_bad_1 (by decide) (fun c1 => ?_) (fun c1 => ?_)
  · rw [z_lt] at c1
    have hz0 : (0 : Int32).toInt = 0 := rfl
    refine lv_iconst (v := nI 1) hx hb dX0_bad_10 (by decide) ?_
    refine lv_goto (tgt := 15) hx hb dX0_bad_11 (by decide) ?_
    exact x_zret hx hb hr hlocks hS dX0_bad_15 (Or.inr rfl) (Or.inl ⟨rfl, fun q => by have := hv0.mp q; omega⟩)
  · rw [z_lt] at c1
    have hz0 : (0 : Int32).toInt = 0 := rfl
    refine lv_iload_n hx hb dX0_bad_4 rfl (lv_at hl 0 rfl) ?_
    refine lv_bipush (v := nI 7) hx hb dX0_bad_5 (by decide) ?_
    refine lv_icmp_lt (tgt := 14) hx hb dX0_bad_7 (by decide) (fun c2 => ?_) (fun c2 => ?_)
    · rw [z_lt] at c2
      refine lv_iconst (v := nI 0) hx hb dX0_bad_14 (by decide) ?_
      exact x_zret hx hb hr hlocks hS dX0_bad_15 (Or.inl rfl) (Or.inr ⟨rfl, hv0.mpr (by omega)⟩)
    · rw [z_lt] at c2
      refine lv_iconst (v := nI 1) hx hb dX0_bad_10 (by decide) ?_
      refine lv_goto (tgt := 15) hx hb dX0_bad_11 (by decide) ?_
      exact x_zret hx hb hr hlocks hS dX0_bad_15 (Or.inr rfl) (Or.inl ⟨rfl, fun q => by have := hv0.mp q; omega⟩)
set_option maxHeartbeats 4000000 in
set_option maxRecDepth 100000 in
theorem mX0_badX (l : Launch) (D : va_G) (v : Int32) : Met l yX0_badX (ws_ yX0_badX cX0_badX 1 (some .boolean)) xr0 (x_Pc D [] [] [.int (v)]) (x_QR (fun r => (r = nI 1 ∧ ¬ isN v 51) ∨ (r = nI 0 ∧ isN v 51))) 0 0 x_no := by
  refine Met.ofW (cc := cX0_badX) (maxL := 1) (ret := (some .boolean)) (by decide) rfl ?_
  intro p e s m args below meth c s₁ B hml hv
  obtain ⟨rfl, hP, hK⟩ := hv
  have hx := B.exec
  have hb := B.bytes
  have hr := B.returns
  have hlocks := B.notSynchronized
  have hts := atoms_spec (ws := (ws_ yX0_badX cX0_badX 1 (some .boolean))) B.pre
  have hts : ∀ w ∈ lw_all, w.before _ s = true := fun w h => hts w (List.mem_cons_of_mem _ h)
  have hown : s.vm.findClass RX0 = some m.cls := findClass_of_methodNamed B.named
  have hS : va_S x_no s.heap s.heap [] := va_S.rf
  have hl := lv_entry ([.int (v)]) (n := 1) (Nat.le_of_ble_eq_true rfl)
  rw [lg_entry_eq]
  generalize (lg_sl ([.int (v)]) ++ List.replicate (1 - (lg_sl ([.int (v)])).length) Slot.unset).toArray = ls at hl ⊢
  have hl : lv_has ls 1 [(0, .int (v))] := hl
  have hP : va_P D vwCl [] s.heap := hP
  have hv0 := isN_iff (v := v) (N := 51) (by decide)
  have hz : (nI 50).toInt = 50 := rfl
  refine lv_iload_n hx hb dX0_badX_0 rfl (lv_at hl 0 rfl) ?_
  refine lv_if_lt (tgt := 10) hx hb dX0_badX_1 (by decide) (fun c1 => ?_) (fun c1 => ?_)
  · rw [z_lt] at c1
    have hz0 : (0 : Int32).toInt = 0 := rfl
    refine lv_iconst (v := nI 1) hx hb dX0_badX_10 (by decide) ?_
    refine lv_goto (tgt := 15) hx hb dX0_badX_11 (by decide) ?_
    exact x_zret hx hb hr hlocks hS dX0_badX_15 (Or.inr rfl) (Or.inl ⟨rfl, fun q => by have := hv0.mp q; omega⟩)
  · rw [z_lt] at c1
    have hz0 : (0 : Int32).toInt = 0 := rfl
    refine lv_iload_n hx hb dX0_badX_4 rfl (lv_at hl 0 rfl) ?_
    refine lv_bipush (v := nI 50) hx hb dX0_badX_5 (by decide) ?_
    refine lv_icmp_le (tgt := 14) hx hb dX0_badX_7 (by decide) (fun c2 => ?_) (fun c2 => ?_)
    · rw [z_le] at c2
      refine lv_iconst (v := nI 0) hx hb dX0_badX_14 (by decide) ?_
      exact x_zret hx hb hr hlocks hS dX0_badX_15 (Or.inl rfl) (Or.inr ⟨rfl, hv0.mpr (by omega)⟩)
    · rw [z_le] at c2
      refine lv_iconst (v := nI 1) hx hb dX0_badX_10 (by decide) ?_
      refine lv_goto (tgt := 15) hx hb dX0_badX_11 (by decide) ?_
      exact x_zret hx hb hr hlocks hS dX0_badX_15 (Or.inr rfl) (Or.inl ⟨rfl, fun q => by have := hv0.mp q; omega⟩)
set_option maxHeartbeats 4000000 in
set_option maxRecDepth 100000 in
theorem mX0_badPull (l : Launch) (D : va_G) (b sl : Int32) : Met l yX0_badPull (ws_ yX0_badPull cX0_badPull 2 (some .boolean)) xr0 (x_Pc D [] [] [.int (b), .int (sl)]) (x_QR (fun r => (r = nI 1 ∧ ¬ okP b sl) ∨ (r = nI 0 ∧ okP b sl))) 0 0 x_no := by
  refine Met.ofW (cc := cX0_badPull) (maxL := 2) (ret := (some .boolean)) (by decide) rfl ?_
  intro p e s m args below meth c s₁ B hml hv
  obtain ⟨rfl, hP, hK⟩ := hv
  have hx := B.exec
  have hb := B.bytes
  have hr := B.returns
  have hlocks := B.notSynchronized
  have hts := atoms_spec (ws := (ws_ yX0_badPull cX0_badPull 2 (some .boolean))) B.pre
  have hts : ∀ w ∈ lw_all, w.before _ s = true := fun w h => hts w (List.mem_cons_of_mem _ h)
  have hown : s.vm.findClass RX0 = some m.cls := findClass_of_methodNamed B.named
  have hS : va_S x_no s.heap s.heap [] := va_S.rf
  have hl := lv_entry ([.int (b), .int (sl)]) (n := 2) (Nat.le_of_ble_eq_true rfl)
  rw [lg_entry_eq]
  generalize (lg_sl ([.int (b), .int (sl)]) ++ List.replicate (2 - (lg_sl ([.int (b), .int (sl)])).length) Slot.unset).toArray = ls at hl ⊢
  have hl : lv_has ls 2 [(0, .int (b)), (1, .int (sl))] := hl
  have hP : va_P D vwCl [] s.heap := hP
  have hz0 : (0 : Int32).toInt = 0 := rfl
  have hz40 : (nI 40).toInt = 40 := rfl
  have hz2 : (nI 2).toInt = 2 := rfl
  have hzm : (-2 : Int32).toInt = -2 := rfl
  refine lv_iload_n hx hb dX0_badPull_0 rfl (lv_at hl 0 rfl) ?_
  refine lv_if_lt (tgt := 21) hx hb dX0_badPull_1 (by decide) (fun c1 => ?_) (fun c1 => ?_)
  · rw [z_lt] at c1
    refine lv_iconst (v := nI 1) hx hb dX0_badPull_21 (by decide) ?_
    refine lv_goto (tgt := 26) hx hb dX0_badPull_22 (by decide) ?_
    exact x_zret hx hb hr hlocks hS dX0_badPull_26 (Or.inr rfl) (Or.inl ⟨rfl, fun q => by unfold okP at q; omega⟩)
  · rw [z_lt] at c1
    refine lv_iload_n hx hb dX0_badPull_4 rfl (lv_at hl 0 rfl) ?_
    refine lv_bipush (v := nI 40) hx hb dX0_badPull_5 (by decide) ?_
    refine lv_icmp_gt (tgt := 21) hx hb dX0_badPull_7 (by decide) (fun c2 => ?_) (fun c2 => ?_)
    · rw [z_lt] at c2
      refine lv_iconst (v := nI 1) hx hb dX0_badPull_21 (by decide) ?_
      refine lv_goto (tgt := 26) hx hb dX0_badPull_22 (by decide) ?_
      exact x_zret hx hb hr hlocks hS dX0_badPull_26 (Or.inr rfl) (Or.inl ⟨rfl, fun q => by unfold okP at q; omega⟩)
    · rw [z_lt] at c2
      refine lv_iload_n hx hb dX0_badPull_10 rfl (lv_at hl 1 rfl) ?_
      refine lv_bipush (v := -2) hx hb dX0_badPull_11 (by decide) ?_
      refine lv_icmp_lt (tgt := 21) hx hb dX0_badPull_13 (by decide) (fun c3 => ?_) (fun c3 => ?_)
      · rw [z_lt] at c3
        refine lv_iconst (v := nI 1) hx hb dX0_badPull_21 (by decide) ?_
        refine lv_goto (tgt := 26) hx hb dX0_badPull_22 (by decide) ?_
        exact x_zret hx hb hr hlocks hS dX0_badPull_26 (Or.inr rfl) (Or.inl ⟨rfl, fun q => by unfold okP at q; omega⟩)
      · rw [z_lt] at c3
        refine lv_iload_n hx hb dX0_badPull_16 rfl (lv_at hl 1 rfl) ?_
        refine lv_iconst (v := nI 2) hx hb dX0_badPull_17 (by decide) ?_
        refine lv_icmp_le (tgt := 25) hx hb dX0_badPull_18 (by decide) (fun c4 => ?_) (fun c4 => ?_)
        · rw [z_le] at c4
          refine lv_iconst (v := nI 0) hx hb dX0_badPull_25 (by decide) ?_
          exact x_zret hx hb hr hlocks hS dX0_badPull_26 (Or.inl rfl) (Or.inr ⟨rfl, by unfold okP; omega⟩)
        · rw [z_le] at c4
          refine lv_iconst (v := nI 1) hx hb dX0_badPull_21 (by decide) ?_
          refine lv_goto (tgt := 26) hx hb dX0_badPull_22 (by decide) ?_
          exact x_zret hx hb hr hlocks hS dX0_badPull_26 (Or.inr rfl) (Or.inl ⟨rfl, fun q => by unfold okP at q; omega⟩)
set_option maxHeartbeats 4000000 in
set_option maxRecDepth 100000 in
theorem mX0_in (l : Launch) (D : va_G) (st : Int32) (v : Nat) (hv : v < 32) : Met l yX0_in (ws_ yX0_in cX0_in 2 (some .boolean)) xr0 (x_Pc D [] [] [.int (st), .int (nI v)]) (x_QR (fun r => r = nI (bt st v).toNat)) 0 0 x_no := by
  refine Met.ofW (cc := cX0_in) (maxL := 2) (ret := (some .boolean)) (by decide) rfl ?_
  intro p e s m args below meth c s₁ B hml hv
  obtain ⟨rfl, hP, hK⟩ := hv
  have hx := B.exec
  have hb := B.bytes
  have hr := B.returns
  have hlocks := B.notSynchronized
  have hts := atoms_spec (ws := (ws_ yX0_in cX0_in 2 (some .boolean))) B.pre
  have hts : ∀ w ∈ lw_all, w.before _ s = true := fun w h => hts w (List.mem_cons_of_mem _ h)
  have hown : s.vm.findClass RX0 = some m.cls := findClass_of_methodNamed B.named
  have hS : va_S x_no s.heap s.heap [] := va_S.rf
  have hl := lv_entry ([.int (st), .int (nI v)]) (n := 2) (Nat.le_of_ble_eq_true rfl)
  rw [lg_entry_eq]
  generalize (lg_sl ([.int (st), .int (nI v)]) ++ List.replicate (2 - (lg_sl ([.int (st), .int (nI v)])).length) Slot.unset).toArray = ls at hl ⊢
  have hl : lv_has ls 2 [(0, .int (st)), (1, .int (nI v))] := hl
  have hP : va_P D vwCl [] s.heap := hP
  refine lv_iload_n hx hb dX0_in_0 rfl (lv_at hl 0 rfl) ?_
  refine lv_iload_n hx hb dX0_in_1 rfl (lv_at hl 1 rfl) ?_
  refine lv_ishr hx hb dX0_in_2 ?_
  refine lv_iconst (v := nI 1) hx hb dX0_in_3 (by decide) ?_
  refine lv_iand hx hb dX0_in_4 ?_
  refine lv_iconst (v := nI 1) hx hb dX0_in_5 (by decide) ?_
  refine lv_icmp_ne (tgt := 13) hx hb dX0_in_6 (by decide) (fun c1 => ?_) (fun c1 => ?_)
  · have c2 : bt st v = false := by
      cases q : bt st v with
      | false => rfl
      | true => exact absurd ((b_in hv).mpr q) c1
    refine lv_iconst (v := nI 0) hx hb dX0_in_13 (by decide) ?_
    exact x_zret hx hb hr hlocks hS dX0_in_14 (Or.inl rfl) (by rw [c2]; rfl)
  · have c2 := (b_in hv).mp c1
    refine lv_iconst (v := nI 1) hx hb dX0_in_9 (by decide) ?_
    refine lv_goto (tgt := 14) hx hb dX0_in_10 (by decide) ?_
    exact x_zret hx hb hr hlocks hS dX0_in_14 (Or.inr rfl) (by rw [c2]; rfl)
set_option maxHeartbeats 4000000 in
set_option maxRecDepth 100000 in
theorem mX0_sourcePull (l : Launch) (D : va_G) (d : Nat → ClassId) (h : Nat) (ad : Nat → Nat) (a : Nat → Nat → Int32) (w f : Int32) (v x : Nat) (hv : v < 7) (hx5 : x ≤ 50) (hg : DOK a) : Met l yX0_sourcePull (ws_ yX0_sourcePull cX0_sourcePull 4 (some .int)) xr0 (x_Pc D (xT d) (xW d h ad a w f) [.ref (h), .int (nI v), .int (nI x)]) (x_QR (fun r => r.toInt = pl (a 1 v) (a 2 v) x)) 0 0 x_no := by
  refine Met.ofW (cc := cX0_sourcePull) (maxL := 4) (ret := (some .int)) (by decide) rfl ?_
  intro p e s m args below meth c s₁ B hml hv
  obtain ⟨rfl, hP, hK⟩ := hv
  have hx := B.exec
  have hb := B.bytes
  have hr := B.returns
  have hlocks := B.notSynchronized
  have hts := atoms_spec (ws := (ws_ yX0_sourcePull cX0_sourcePull 4 (some .int))) B.pre
  have hts : ∀ w ∈ lw_all, w.before _ s = true := fun w h => hts w (List.mem_cons_of_mem _ h)
  have hown : s.vm.findClass RX0 = some m.cls := findClass_of_methodNamed B.named
  have hS : va_S x_no s.heap s.heap [] := va_S.rf
  have hl := lv_entry ([.ref (h), .int (nI v), .int (nI x)]) (n := 4) (Nat.le_of_ble_eq_true rfl)
  rw [lg_entry_eq]
  generalize (lg_sl ([.ref (h), .int (nI v), .int (nI x)]) ++ List.replicate (4 - (lg_sl ([.ref (h), .int (nI v), .int (nI x)])).length) Slot.unset).toArray = ls at hl ⊢
  have hl : lv_has ls 4 [(0, .ref (h)), (1, .int (nI v)), (2, .int (nI x))] := hl
  have hP : va_P D vwCl (xW d h ad a w f) s.heap := hP
  obtain ⟨g1, g2, g3, g4⟩ := hg.2 v hv
  have hraw := pl_raw (b := a 1 v) (s := a 2 v) (x := x) g1.1 g1.2 g2.1 g2.2 hx5
  have hxn : (nI x).toInt = (x : Int) := z_nI (by omega)
  have hmul : (a 2 v * nI x).toInt = (a 2 v).toInt * x := by rw [z_mul (by rw [hxn]; omega) (by rw [hxn]; omega), hxn]
  have hsum : (a 1 v + a 2 v * nI x).toInt = (a 1 v).toInt + (a 2 v).toInt * x := by rw [z_add (by rw [hmul]; omega) (by rw [hmul]; omega), hmul]
  refine lv_aload_n hx hb dX0_sourcePull_0 rfl (lv_at hl 0 rfl) ?_
  refine va_get (D := D) (ci := 0) (v := .ref (ad 1)) (C := RX0) (T := TX0) (N := 14) hx hb hts in_X0 hown hK hP 0 rfl rfl 1 (by decide) (hts _ q33) (fun _ h9 => h9) rfl dX0_sourcePull_1 ?_
  refine lv_iload_n hx hb dX0_sourcePull_4 rfl (lv_at hl 1 rfl) ?_
  refine x_ald hx hb hK hP 2 1 rfl rfl (v) rfl hv (by decide) dX0_sourcePull_5 ?_
  refine lv_aload_n hx hb dX0_sourcePull_6 rfl (lv_at hl 0 rfl) ?_
  refine va_get (D := D) (ci := 0) (v := .ref (ad 2)) (C := RX0) (T := TX0) (N := 14) hx hb hts in_X0 hown hK hP 0 rfl rfl 2 (by decide) (hts _ q34) (fun _ h9 => h9) rfl dX0_sourcePull_7 ?_
  refine lv_iload_n hx hb dX0_sourcePull_10 rfl (lv_at hl 1 rfl) ?_
  refine x_ald hx hb hK hP 3 2 rfl rfl (v) rfl hv (by decide) dX0_sourcePull_11 ?_
  refine lv_iload_n hx hb dX0_sourcePull_12 rfl (lv_at hl 2 rfl) ?_
  refine lv_imul hx hb dX0_sourcePull_13 ?_
  refine lv_iadd hx hb dX0_sourcePull_14 ?_
  refine lv_istore_n (lv' := [(3, .int ((a 1 (v)) + ((a 2 (v)) * (nI x)))), (0, .ref (h)), (1, .int (nI v)), (2, .int (nI x))]) hx hb dX0_sourcePull_15 rfl hl (by decide) rfl (fun ls hl => ?_)
  refine lv_iload_n hx hb dX0_sourcePull_16 rfl (lv_at hl 0 rfl) ?_
  refine lv_if_le (tgt := 24) hx hb dX0_sourcePull_17 (by decide) (fun c1 => ?_) (fun c1 => ?_)
  · rw [z_le, hsum] at c1
    have hz0 : (0 : Int32).toInt = 0 := rfl
    refine lv_iconst (v := nI 0) hx hb dX0_sourcePull_24 (by decide) ?_
    exact x_iret hx hb hr hlocks hS dX0_sourcePull_25 (by unfold pl; rw [if_neg (by omega)]; rfl)
  · rw [z_le, hsum] at c1
    have hz0 : (0 : Int32).toInt = 0 := rfl
    refine lv_iload_n hx hb dX0_sourcePull_20 rfl (lv_at hl 0 rfl) ?_
    refine lv_goto (tgt := 25) hx hb dX0_sourcePull_21 (by decide) ?_
    exact x_iret hx hb hr hlocks hS dX0_sourcePull_25 (by unfold pl; rw [if_pos (by omega)]; exact hsum)
set_option maxHeartbeats 4000000 in
set_option maxRecDepth 100000 in
theorem mX0_sinkPull (l : Launch) (D : va_G) (d : Nat → ClassId) (h : Nat) (ad : Nat → Nat) (a : Nat → Nat → Int32) (w f : Int32) (v x : Nat) (hv : v < 7) (hx5 : x ≤ 50) (hg : DOK a) : Met l yX0_sinkPull (ws_ yX0_sinkPull cX0_sinkPull 4 (some .int)) xr0 (x_Pc D (xT d) (xW d h ad a w f) [.ref (h), .int (nI v), .int (nI x)]) (x_QR (fun r => r.toInt = pl (a 3 v) (a 4 v) x)) 0 0 x_no := by
  refine Met.ofW (cc := cX0_sinkPull) (maxL := 4) (ret := (some .int)) (by decide) rfl ?_
  intro p e s m args below meth c s₁ B hml hv
  obtain ⟨rfl, hP, hK⟩ := hv
  have hx := B.exec
  have hb := B.bytes
  have hr := B.returns
  have hlocks := B.notSynchronized
  have hts := atoms_spec (ws := (ws_ yX0_sinkPull cX0_sinkPull 4 (some .int))) B.pre
  have hts : ∀ w ∈ lw_all, w.before _ s = true := fun w h => hts w (List.mem_cons_of_mem _ h)
  have hown : s.vm.findClass RX0 = some m.cls := findClass_of_methodNamed B.named
  have hS : va_S x_no s.heap s.heap [] := va_S.rf
  have hl := lv_entry ([.ref (h), .int (nI v), .int (nI x)]) (n := 4) (Nat.le_of_ble_eq_true rfl)
  rw [lg_entry_eq]
  generalize (lg_sl ([.ref (h), .int (nI v), .int (nI x)]) ++ List.replicate (4 - (lg_sl ([.ref (h), .int (nI v), .int (nI x)])).length) Slot.unset).toArray = ls at hl ⊢
  have hl : lv_has ls 4 [(0, .ref (h)), (1, .int (nI v)), (2, .int (nI x))] := hl
  have hP : va_P D vwCl (xW d h ad a w f) s.heap := hP
  obtain ⟨g1, g2, g3, g4⟩ := hg.2 v hv
  have hraw := pl_raw (b := a 3 v) (s := a 4 v) (x := x) g3.1 g3.2 g4.1 g4.2 hx5
  have hxn : (nI x).toInt = (x : Int) := z_nI (by omega)
  have hmul : (a 4 v * nI x).toInt = (a 4 v).toInt * x := by rw [z_mul (by rw [hxn]; omega) (by rw [hxn]; omega), hxn]
  have hsum : (a 3 v + a 4 v * nI x).toInt = (a 3 v).toInt + (a 4 v).toInt * x := by rw [z_add (by rw [hmul]; omega) (by rw [hmul]; omega), hmul]
  refine lv_aload_n hx hb dX0_sinkPull_0 rfl (lv_at hl 0 rfl) ?_
  refine va_get (D := D) (ci := 0) (v := .ref (ad 3)) (C := RX0) (T := TX0) (N := 14) hx hb hts in_X0 hown hK hP 0 rfl rfl 3 (by decide) (hts _ q35) (fun _ h9 => h9) rfl dX0_sinkPull_1 ?_
  refine lv_iload_n hx hb dX0_sinkPull_4 rfl (lv_at hl 1 rfl) ?_
  refine x_ald hx hb hK hP 4 3 rfl rfl (v) rfl hv (by decide) dX0_sinkPull_5 ?_
  refine lv_aload_n hx hb dX0_sinkPull_6 rfl (lv_at hl 0 rfl) ?_
  refine va_get (D := D) (ci := 0) (v := .ref (ad 4)) (C := RX0) (T := TX0) (N := 14) hx hb hts in_X0 hown hK hP 0 rfl rfl 4 (by decide) (hts _ q36) (fun _ h9 => h9) rfl dX0_sinkPull_7 ?_
  refine lv_iload_n hx hb dX0_sinkPull_10 rfl (lv_at hl 1 rfl) ?_
  refine x_ald hx hb hK hP 5 4 rfl rfl (v) rfl hv (by decide) dX0_sinkPull_11 ?_
  refine lv_iload_n hx hb dX0_sinkPull_12 rfl (lv_at hl 2 rfl) ?_
  refine lv_imul hx hb dX0_sinkPull_13 ?_
  refine lv_iadd hx hb dX0_sinkPull_14 ?_
  refine lv_istore_n (lv' := [(3, .int ((a 3 (v)) + ((a 4 (v)) * (nI x)))), (0, .ref (h)), (1, .int (nI v)), (2, .int (nI x))]) hx hb dX0_sinkPull_15 rfl hl (by decide) rfl (fun ls hl => ?_)
  refine lv_iload_n hx hb dX0_sinkPull_16 rfl (lv_at hl 0 rfl) ?_
  refine lv_if_le (tgt := 24) hx hb dX0_sinkPull_17 (by decide) (fun c1 => ?_) (fun c1 => ?_)
  · rw [z_le, hsum] at c1
    have hz0 : (0 : Int32).toInt = 0 := rfl
    refine lv_iconst (v := nI 0) hx hb dX0_sinkPull_24 (by decide) ?_
    exact x_iret hx hb hr hlocks hS dX0_sinkPull_25 (by unfold pl; rw [if_neg (by omega)]; rfl)
  · rw [z_le, hsum] at c1
    have hz0 : (0 : Int32).toInt = 0 := rfl
    refine lv_iload_n hx hb dX0_sinkPull_20 rfl (lv_at hl 0 rfl) ?_
    refine lv_goto (tgt := 25) hx hb dX0_sinkPull_21 (by decide) ?_
    exact x_iret hx hb hr hlocks hS dX0_sinkPull_25 (by unfold pl; rw [if_pos (by omega)]; exact hsum)
end
section
/-! costs and sides -/
def prT (g : Nat → Nat → Int32) (S : Nat → Bool) (x v : Nat) : Int := if S v then pl (g 3 v) (g 4 v) x else pl (g 1 v) (g 2 v) x
def prC (g : Nat → Nat → Int32) (S : Nat → Bool) (v u : Nat) : Int := if S u = S v then 0 else (g 0 (u * 7 + v)).toInt
theorem pr_eq (g : Nat → Nat → Int32) (S : Nat → Bool) (x : Nat) : pr g S x = sm (fun v => prT g S x v + sm (prC g S v) v) 7 := rfl
theorem prT_in {g : Nat → Nat → Int32} (hg : DOK g) (S : Nat → Bool) {x v : Nat} (hx : x ≤ 50) (hv : v < 7) : 0 ≤ prT g S x v ∧ prT g S x v ≤ 140 := by
  obtain ⟨a, b, c, d⟩ := hg.2 v hv
  unfold prT
  split
  · exact pl_in c.2 d.1 d.2 hx
  · exact pl_in a.2 b.1 b.2 hx
theorem prC_in {g : Nat → Nat → Int32} (hg : DOK g) (S : Nat → Bool) {v u : Nat} (hv : v < 7) (hu : u < 7) : 0 ≤ prC g S v u ∧ prC g S v u ≤ 20 := by
  have := hg.1 u v hu hv
  unfold prC
  split <;> omega
theorem prCs_in {g : Nat → Nat → Int32} (hg : DOK g) (S : Nat → Bool) {v n : Nat} (hv : v < 7) (hn : n ≤ v) : 0 ≤ sm (prC g S v) n ∧ sm (prC g S v) n ≤ 140 := by
  refine ⟨sm_nn n (fun u hu => (prC_in hg S hv (by omega)).1), ?_⟩
  have : sm (prC g S v) n ≤ (n : Nat) * (20 : Int) := sm_le n (fun u hu => (prC_in hg S hv (by omega)).2)
  omega
theorem prP_in {g : Nat → Nat → Int32} (hg : DOK g) (S : Nat → Bool) {x n : Nat} (hx : x ≤ 50) (hn : n ≤ 7) : 0 ≤ sm (fun v => prT g S x v + sm (prC g S v) v) n ∧ sm (fun v => prT g S x v + sm (prC g S v) v) n ≤ 2000 := by
  refine ⟨sm_nn n (fun v hv => ?_), ?_⟩
  · have h1 := prT_in hg S hx (show v < 7 by omega)
    have h2 := prCs_in hg S (show v < 7 by omega) (Nat.le_refl v)
    omega
  · have : sm (fun v => prT g S x v + sm (prC g S v) v) n ≤ (n : Nat) * (280 : Int) := sm_le n (fun v hv => by
      have h1 := prT_in hg S hx (show v < 7 by omega)
      have h2 := prCs_in hg S (show v < 7 by omega) (Nat.le_refl v)
      show prT g S x v + sm (prC g S v) v ≤ 280
      omega)
    omega
theorem sm_s (f : Nat → Int) (n : Nat) : sm f (n + 1) = sm f n + f n := rfl
set_option maxHeartbeats 4000000 in
set_option maxRecDepth 100000 in
theorem mX0_costOf (l : Launch) (D : va_G) (d : Nat → ClassId) (h : Nat) (ad : Nat → Nat) (a : Nat → Nat → Int32) (w f : Int32) (side : Int32) (x : Nat) (hx5 : x ≤ 50) (hg : DOK a) : Met l yX0_costOf (ws_ yX0_costOf cX0_costOf 7 (some .int)) xr1 (x_Pc D (xT d) (xW d h ad a w f) [.ref (h), .int (side), .int (nI x)]) (x_QR (fun r => r.toInt = pr a (bt side) x)) 0 0 x_no := by
  refine Met.ofW (cc := cX0_costOf) (maxL := 7) (ret := (some .int)) (by decide) rfl ?_
  intro p e s m args below meth c s₁ B hml hv
  obtain ⟨rfl, hP, hK⟩ := hv
  have hx := B.exec
  have hb := B.bytes
  have hr := B.returns
  have hlocks := B.notSynchronized
  have hts := atoms_spec (ws := (ws_ yX0_costOf cX0_costOf 7 (some .int))) B.pre
  have hts : ∀ w ∈ lw_all, w.before _ s = true := fun w h => hts w (List.mem_cons_of_mem _ h)
  have hown : s.vm.findClass RX0 = some m.cls := findClass_of_methodNamed B.named
  have hS : va_S x_no s.heap s.heap [] := va_S.rf
  have hl := lv_entry ([.ref (h), .int (side), .int (nI x)]) (n := 7) (Nat.le_of_ble_eq_true rfl)
  rw [lg_entry_eq]
  generalize (lg_sl ([.ref (h), .int (side), .int (nI x)]) ++ List.replicate (7 - (lg_sl ([.ref (h), .int (side), .int (nI x)])).length) Slot.unset).toArray = ls at hl ⊢
  have hl : lv_has ls 7 [(0, .ref (h)), (1, .int (side)), (2, .int (nI x))] := hl
  have hP : va_P D vwCl (xW d h ad a w f) s.heap := hP
  refine lv_iconst (v := nI 0) hx hb dX0_costOf_0 (by decide) ?_
  refine lv_istore_n (lv' := [(3, .int (nI 0)), (0, .ref (h)), (1, .int (side)), (2, .int (nI x))]) hx hb dX0_costOf_1 rfl hl (by decide) rfl (fun ls hl => ?_)
  refine lv_iconst (v := nI 0) hx hb dX0_costOf_2 (by decide) ?_
  refine lv_istore (lv' := [(4, .int (nI 0)), (3, .int (nI 0)), (0, .ref (h)), (1, .int (side)), (2, .int (nI x))]) hx hb dX0_costOf_3 hl (by decide) rfl (fun ls hl => ?_)
  refine x_loopR (σ := (Nat) × (Int32)) 5 7 (fun st => [(0, .ref (h)), (1, .int (side)), (2, .int (nI x)), (3, .int (st.2)), (4, .int (nI st.1))]) (fun st => st.1 ≤ 7 ∧ (st.2).toInt = sm (fun v => prT a (bt side) x v + sm (prC a (bt side) v) v) st.1) (fun st => 7 - st.1) ?_ ((0, nI 0)) (show 0 ≤ 7 ∧ ((nI 0)).toInt = sm (fun v => prT a (bt side) x v + sm (prC a (bt side) v) v) 0 from ⟨by omega, rfl⟩) hP hS (lv_sub hl [2, 3, 4, 1, 0] rfl)
  intro st hI ih H locs ls hP hS hl
  obtain ⟨v, z⟩ := st
  have hI : v ≤ 7 ∧ (z).toInt = sm (fun v => prT a (bt side) x v + sm (prC a (bt side) v) v) v := hI
  have hl : lv_has ls 7 [(0, .ref (h)), (1, .int (side)), (2, .int (nI x)), (3, .int (z)), (4, .int (nI v))] := hl
  have hP : va_P D vwCl (xW d h ad a w f) H := hP
  obtain ⟨hv7, hz⟩ := hI
  refine lv_iload hx hb dX0_costOf_5 (lv_at hl 4 rfl) ?_
  refine lv_bipush (v := nI 7) hx hb dX0_costOf_7 (by decide) ?_
  refine x_ge hx hb (v) (7) rfl rfl (by omega) (by omega) (tgt := 94) dX0_costOf_9 (by decide) (fun c1 => ?_) (fun c1 => ?_)
  · have hv : v = 7 := by omega
    subst hv
    refine lv_iload_n hx hb dX0_costOf_94 rfl (lv_at hl 3 rfl) ?_
    exact x_iret hx hb hr hlocks hS dX0_costOf_95 (by rw [pr_eq]; exact hz)
  · have hP1 := prP_in hg (bt side) hx5 (show v ≤ 7 by omega)
    have hT1 := prT_in hg (bt side) hx5 c1
    refine lv_iload_n hx hb dX0_costOf_12 rfl (lv_at hl 1 rfl) ?_
    refine lv_iload hx hb dX0_costOf_13 (lv_at hl 4 rfl) ?_
    refine x_roS (As := [.int (side), .int (nI v)]) (rest := []) ⟨hx, hb, hml, hown, hts⟩ (mX0_in l D side v (by omega)) (va_cwS 2 hts (lw_S q109 q110 q22 q111) rfl rfl rfl (by decide +kernel) ⟨Nat.le_of_ble_eq_true rfl, Nat.le_of_ble_eq_true rfl⟩) x_P0 (hK.sub [] rfl) hP hS hl rfl rfl (Nat.le_of_ble_eq_true rfl) dX0_costOf_15 ⟨Nat.zero_le _, Nat.zero_le _⟩ (fun r1 H locs e1 hP hS => ?_)
    subst e1
    refine lv_istore (lv' := [(5, .int (nI (bt side v).toNat)), (0, .ref (h)), (1, .int (side)), (2, .int (nI x)), (3, .int (z)), (4, .int (nI v))]) hx hb dX0_costOf_18 hl (by decide) rfl (fun ls hl => ?_)
    refine lv_iload_n hx hb dX0_costOf_20 rfl (lv_at hl 4 rfl) ?_
    refine lv_iload hx hb dX0_costOf_21 (lv_at hl 0 rfl) ?_
    refine x_joini hP hS 43 ls [.int (z)] (fun r => r.toInt = prT a (bt side) x v) (fun r H locs hj hP hS => ?_) (fun J => ?_)
    · have hsum : (z + r).toInt = sm (fun v => prT a (bt side) x v + sm (prC a (bt side) v) v) v + prT a (bt side) x v := by rw [z_add (by omega) (by omega), hz, hj]
      refine lv_iadd hx hb dX0_costOf_43 ?_
      refine lv_istore_n (lv' := [(3, .int ((z) + (r))), (5, .int (nI (bt side v).toNat)), (0, .ref (h)), (1, .int (side)), (2, .int (nI x)), (4, .int (nI v))]) hx hb dX0_costOf_44 rfl hl (by decide) rfl (fun ls hl => ?_)
      refine lv_iconst (v := nI 0) hx hb dX0_costOf_45 (by decide) ?_
      refine lv_istore (lv' := [(6, .int (nI 0)), (3, .int ((z) + (r))), (5, .int (nI (bt side v).toNat)), (0, .ref (h)), (1, .int (side)), (2, .int (nI x)), (4, .int (nI v))]) hx hb dX0_costOf_46 hl (by decide) rfl (fun ls hl => ?_)
      refine x_loopR (σ := (Nat) × (Int32)) 48 7 (fun st => [(0, .ref (h)), (1, .int (side)), (2, .int (nI x)), (3, .int (st.2)), (4, .int (nI v)), (5, .int (nI (bt side v).toNat)), (6, .int (nI st.1))]) (fun st => st.1 ≤ v ∧ (st.2).toInt = sm (fun v => prT a (bt side) x v + sm (prC a (bt side) v) v) v + prT a (bt side) x v + sm (prC a (bt side) v) st.1) (fun st => v - st.1) ?_ ((0, z + r)) (show 0 ≤ v ∧ ((z + r)).toInt = sm (fun v => prT a (bt side) x v + sm (prC a (bt side) v) v) v + prT a (bt side) x v + sm (prC a (bt side) v) 0 from ⟨by omega, by rw [hsum]; show _ = _ + 0; omega⟩) hP hS (lv_sub hl [3, 4, 5, 1, 6, 2, 0] rfl)
      intro st hI2 ih2 H locs ls hP hS hl
      obtain ⟨u, y⟩ := st
      have hI2 : u ≤ v ∧ (y).toInt = sm (fun v => prT a (bt side) x v + sm (prC a (bt side) v) v) v + prT a (bt side) x v + sm (prC a (bt side) v) u := hI2
      have hl : lv_has ls 7 [(0, .ref (h)), (1, .int (side)), (2, .int (nI x)), (3, .int (y)), (4, .int (nI v)), (5, .int (nI (bt side v).toNat)), (6, .int (nI u))] := hl
      have hP : va_P D vwCl (xW d h ad a w f) H := hP
      obtain ⟨huv, hy⟩ := hI2
      refine lv_iload hx hb dX0_costOf_48 (lv_at hl 6 rfl) ?_
      refine lv_iload hx hb dX0_costOf_50 (lv_at hl 4 rfl) ?_
      refine x_ge hx hb (u) (v) rfl rfl (by omega) (by omega) (tgt := 88) dX0_costOf_52 (by decide) (fun c2 => ?_) (fun c2 => ?_)
      · have hu : v = u := by omega
        subst hu
        refine lv_iinc (v := nI (v + 1)) (lv' := [(4, .int (nI (v + 1))), (0, .ref (h)), (1, .int (side)), (2, .int (nI x)), (3, .int (y)), (5, .int (nI (bt side v).toNat)), (6, .int (nI v))]) hx hb dX0_costOf_88 hl (k := 4) rfl (x_inc _) (by decide) rfl (fun ls hl => ?_)
        refine lv_goto (tgt := 5) hx hb dX0_costOf_91 (by decide) ?_
        exact ih ((v + 1, y)) (show (v + 1) ≤ 7 ∧ (y).toInt = sm (fun v => prT a (bt side) x v + sm (prC a (bt side) v) v) (v + 1) from ⟨by omega, by rw [sm_s]; omega⟩) (by show 7 - (v + 1) < 7 - v; omega) _ _ _ hP hS (lv_sub hl [1, 2, 3, 4, 0] rfl)
      · have hC1 := prC_in hg (bt side) c1 (show u < 7 by omega)
        have hC2 := prCs_in hg (bt side) c1 huv
        refine lv_iload_n hx hb dX0_costOf_55 rfl (lv_at hl 1 rfl) ?_
        refine lv_iload hx hb dX0_costOf_56 (lv_at hl 6 rfl) ?_
        refine x_roS (As := [.int (side), .int (nI u)]) (rest := []) ⟨hx, hb, hml, hown, hts⟩ (mX0_in l D side u (by omega)) (va_cwS 2 hts (lw_S q109 q110 q22 q111) rfl rfl rfl (by decide +kernel) ⟨Nat.le_of_ble_eq_true rfl, Nat.le_of_ble_eq_true rfl⟩) x_P0 (hK.sub [] rfl) hP hS hl rfl rfl (Nat.le_of_ble_eq_true rfl) dX0_costOf_58 ⟨Nat.zero_le _, Nat.zero_le _⟩ (fun r2 H locs e2 hP hS => ?_)
        subst e2
        refine lv_iload hx hb dX0_costOf_61 (lv_at hl 5 rfl) ?_
        refine x_eq hx hb ((bt side u).toNat) ((bt side v).toNat) rfl rfl (nbl _) (nbl _) (tgt := 82) dX0_costOf_63 (by decide) (fun c3 => ?_) (fun c3 => ?_)
        · rw [nbj] at c3
          refine lv_iinc (v := nI (u + 1)) (lv' := [(6, .int (nI (u + 1))), (0, .ref (h)), (1, .int (side)), (2, .int (nI x)), (3, .int (y)), (4, .int (nI v)), (5, .int (nI (bt side v).toNat))]) hx hb dX0_costOf_82 hl (k := 6) rfl (x_inc _) (by decide) rfl (fun ls hl => ?_)
          refine lv_goto (tgt := 48) hx hb dX0_costOf_85 (by decide) ?_
          exact ih2 ((u + 1, y)) (show (u + 1) ≤ v ∧ (y).toInt = sm (fun v => prT a (bt side) x v + sm (prC a (bt side) v) v) v + prT a (bt side) x v + sm (prC a (bt side) v) (u + 1) from ⟨by omega, by rw [sm_s, show prC a (bt side) v u = 0 from if_pos c3]; omega⟩) (by show v - (u + 1) < v - u; omega) _ _ _ hP hS (lv_sub hl [1, 2, 3, 4, 5, 6, 0] rfl)
        · rw [Ne, nbj] at c3
          have hCv : prC a (bt side) v u = (a 0 (u * 7 + v)).toInt := if_neg c3
          refine lv_iload_n hx hb dX0_costOf_66 rfl (lv_at hl 3 rfl) ?_
          refine lv_aload_n hx hb dX0_costOf_67 rfl (lv_at hl 0 rfl) ?_
          refine va_get (D := D) (ci := 0) (v := .ref (ad 0)) (C := RX0) (T := TX0) (N := 14) hx hb hts in_X0 hown hK hP 0 rfl rfl 0 (by decide) (hts _ q32) (fun _ h9 => h9) rfl dX0_costOf_68 ?_
          refine lv_iload hx hb dX0_costOf_71 (lv_at hl 6 rfl) ?_
          refine lv_bipush (v := nI 7) hx hb dX0_costOf_73 (by decide) ?_
          refine lv_imul hx hb dX0_costOf_75 ?_
          refine lv_iload hx hb dX0_costOf_76 (lv_at hl 4 rfl) ?_
          refine lv_iadd hx hb dX0_costOf_78 ?_
          refine x_ald hx hb hK hP 1 0 rfl rfl (u * 7 + v) (by simp only [pk_mul, nI_add]) (by omega) (by decide) dX0_costOf_79 ?_
          refine lv_iadd hx hb dX0_costOf_80 ?_
          refine lv_istore_n (lv' := [(3, .int ((y) + (a 0 (u * 7 + v)))), (0, .ref (h)), (1, .int (side)), (2, .int (nI x)), (4, .int (nI v)), (5, .int (nI (bt side v).toNat)), (6, .int (nI u))]) hx hb dX0_costOf_81 rfl hl (by decide) rfl (fun ls hl => ?_)
          refine lv_iinc (v := nI (u + 1)) (lv' := [(6, .int (nI (u + 1))), (3, .int ((y) + (a 0 (u * 7 + v)))), (0, .ref (h)), (1, .int (side)), (2, .int (nI x)), (4, .int (nI v)), (5, .int (nI (bt side v).toNat))]) hx hb dX0_costOf_82 hl (k := 6) rfl (x_inc _) (by decide) rfl (fun ls hl => ?_)
          refine lv_goto (tgt := 48) hx hb dX0_costOf_85 (by decide) ?_
          exact ih2 ((u + 1, y + a 0 (u * 7 + v))) (show (u + 1) ≤ v ∧ ((y + a 0 (u * 7 + v))).toInt = sm (fun v => prT a (bt side) x v + sm (prC a (bt side) v) v) v + prT a (bt side) x v + sm (prC a (bt side) v) (u + 1) from ⟨by omega, by rw [z_add (by omega) (by omega), sm_s]; omega⟩) (by show v - (u + 1) < v - u; omega) _ _ _ hP hS (lv_sub hl [2, 3, 4, 1, 5, 6, 0] rfl)
    · refine lv_if_eq (tgt := 36) hx hb dX0_costOf_23 (by decide) (fun c4 => ?_) (fun c4 => ?_)
      · rw [nb0] at c4
        refine lv_aload_n hx hb dX0_costOf_36 rfl (lv_at hl 1 rfl) ?_
        refine lv_iload hx hb dX0_costOf_37 (lv_at hl 5 rfl) ?_
        refine lv_iload_n hx hb dX0_costOf_39 rfl (lv_at hl 3 rfl) ?_
        refine x_roV (As := [.int (nI v), .int (nI x)]) (rest := [.int (z)]) ⟨hx, hb, hml, hown, hts⟩ (mX0_sourcePull l D d h ad a w f v x c1 hx5 hg) (cwV 2 hts (lw_V q116 q118 qs2 q22 q119) rfl rfl rfl (by decide +kernel) ⟨Nat.le_of_ble_eq_true rfl, Nat.le_of_ble_eq_true rfl⟩) (va_recv hK hP (ci := 0) (q0 := 0) rfl rfl) hP hK hP hS hl rfl rfl (Nat.le_of_ble_eq_true rfl) dX0_costOf_40 ⟨Nat.zero_le _, Nat.zero_le _⟩ (fun r3 H locs e3 hP hS => ?_)
        exact J _ _ _ (by rw [e3]; unfold prT; rw [c4]; rfl) hP hS
      · rw [nb0, Bool.not_eq_false] at c4
        refine lv_aload_n hx hb dX0_costOf_26 rfl (lv_at hl 1 rfl) ?_
        refine lv_iload hx hb dX0_costOf_27 (lv_at hl 5 rfl) ?_
        refine lv_iload_n hx hb dX0_costOf_29 rfl (lv_at hl 3 rfl) ?_
        refine x_roV (As := [.int (nI v), .int (nI x)]) (rest := [.int (z)]) ⟨hx, hb, hml, hown, hts⟩ (mX0_sinkPull l D d h ad a w f v x c1 hx5 hg) (cwV 2 hts (lw_V q112 q114 qs1 q22 q115) rfl rfl rfl (by decide +kernel) ⟨Nat.le_of_ble_eq_true rfl, Nat.le_of_ble_eq_true rfl⟩) (va_recv hK hP (ci := 0) (q0 := 0) rfl rfl) hP hK hP hS hl rfl rfl (Nat.le_of_ble_eq_true rfl) dX0_costOf_30 ⟨Nat.zero_le _, Nat.zero_le _⟩ (fun r3 H locs e3 hP hS => ?_)
        refine lv_goto (tgt := 43) hx hb dX0_costOf_33 (by decide) ?_
        exact J _ _ _ (by rw [e3]; unfold prT; rw [c4]; rfl) hP hS
set_option maxHeartbeats 4000000 in
set_option maxRecDepth 100000 in
theorem mX0_cost (l : Launch) (D : va_G) (d : Nat → ClassId) (h : Nat) (ad : Nat → Nat) (a : Nat → Nat → Int32) (w f : Int32) (side x : Int32) (hg : DOK a) : Met l yX0_cost (ws_ yX0_cost cX0_cost 3 (some .int)) xr2 (x_Pc D (xT d) (xW d h ad a w f) [.ref (h), .int (side), .int (x)]) (x_QR (fun r => (¬ isN x 51 ∧ r = -2) ∨ ∃ n, n < 51 ∧ x = nI n ∧ r.toInt = pr a (bt side) n)) 0 0 x_no := by
  refine Met.ofW (cc := cX0_cost) (maxL := 3) (ret := (some .int)) (by decide) rfl ?_
  intro p e s m args below meth c s₁ B hml hv
  obtain ⟨rfl, hP, hK⟩ := hv
  have hx := B.exec
  have hb := B.bytes
  have hr := B.returns
  have hlocks := B.notSynchronized
  have hts := atoms_spec (ws := (ws_ yX0_cost cX0_cost 3 (some .int))) B.pre
  have hts : ∀ w ∈ lw_all, w.before _ s = true := fun w h => hts w (List.mem_cons_of_mem _ h)
  have hown : s.vm.findClass RX0 = some m.cls := findClass_of_methodNamed B.named
  have hS : va_S x_no s.heap s.heap [] := va_S.rf
  have hl := lv_entry ([.ref (h), .int (side), .int (x)]) (n := 3) (Nat.le_of_ble_eq_true rfl)
  rw [lg_entry_eq]
  generalize (lg_sl ([.ref (h), .int (side), .int (x)]) ++ List.replicate (3 - (lg_sl ([.ref (h), .int (side), .int (x)])).length) Slot.unset).toArray = ls at hl ⊢
  have hl : lv_has ls 3 [(0, .ref (h)), (1, .int (side)), (2, .int (x))] := hl
  have hP : va_P D vwCl (xW d h ad a w f) s.heap := hP
  refine lv_iload_n hx hb dX0_cost_0 rfl (lv_at hl 2 rfl) ?_
  refine x_roS (As := [.int (x)]) (rest := []) ⟨hx, hb, hml, hown, hts⟩ (mX0_badX l D x) (va_cwS 1 hts (lw_S q102 q103 q22 q104) rfl rfl rfl (by decide +kernel) ⟨Nat.le_of_ble_eq_true rfl, Nat.le_of_ble_eq_true rfl⟩) x_P0 (hK.sub [] rfl) hP hS hl rfl rfl (Nat.le_of_ble_eq_true rfl) dX0_cost_1 ⟨Nat.zero_le _, Nat.zero_le _⟩ (fun r1 H locs e1 hP hS => ?_)
  rcases e1 with ⟨e1, e2⟩ | ⟨e1, n, e2, e3⟩
  · subst e1
    refine lv_if_eq (tgt := 12) hx hb dX0_cost_4 (by decide) (fun c1 => ?_) (fun c1 => ?_)
    · exact absurd c1 (by decide)
    · refine lv_bipush (v := -2) hx hb dX0_cost_7 (by decide) ?_
      refine lv_goto (tgt := 18) hx hb dX0_cost_9 (by decide) ?_
      exact x_iret hx hb hr hlocks hS dX0_cost_18 (Or.inl ⟨e2, rfl⟩)
  · subst e1
    subst e3
    refine lv_if_eq (tgt := 12) hx hb dX0_cost_4 (by decide) (fun c1 => ?_) (fun c1 => ?_)
    · refine lv_aload_n hx hb dX0_cost_12 rfl (lv_at hl 0 rfl) ?_
      refine lv_iload_n hx hb dX0_cost_13 rfl (lv_at hl 1 rfl) ?_
      refine lv_iload_n hx hb dX0_cost_14 rfl (lv_at hl 2 rfl) ?_
      refine x_roV (As := [.int (side), .int (nI n)]) (rest := []) ⟨hx, hb, hml, hown, hts⟩ (mX0_costOf l D d h ad a w f side n (by omega) hg) (cwV 2 hts (lw_V q105 q107 qs0 q22 q108) rfl rfl rfl (by decide +kernel) ⟨Nat.le_of_ble_eq_true rfl, Nat.le_of_ble_eq_true rfl⟩) (va_recv hK hP (ci := 0) (q0 := 0) rfl rfl) hP hK hP hS hl rfl rfl (Nat.le_of_ble_eq_true rfl) dX0_cost_15 ⟨Nat.zero_le _, Nat.zero_le _⟩ (fun r2 H locs e4 hP hS => ?_)
      exact x_iret hx hb hr hlocks hS dX0_cost_18 (Or.inr ⟨n, e2, rfl, e4⟩)
    · exact absurd rfl c1
set_option maxHeartbeats 4000000 in
set_option maxRecDepth 100000 in
theorem mX0_smallestSide (l : Launch) (D : va_G) (d : Nat → ClassId) (h : Nat) (ad : Nat → Nat) (a : Nat → Nat → Int32) (w f : Int32)  : Met l yX0_smallestSide (ws_ yX0_smallestSide cX0_smallestSide 1 (some .int)) xr0 (x_Pc D (xT d) (xW d h ad a w f) [.ref (h)]) (x_QR (fun r => r = a 10 7 &&& nI 127)) 0 0 x_no := by
  refine Met.ofW (cc := cX0_smallestSide) (maxL := 1) (ret := (some .int)) (by decide) rfl ?_
  intro p e s m args below meth c s₁ B hml hv
  obtain ⟨rfl, hP, hK⟩ := hv
  have hx := B.exec
  have hb := B.bytes
  have hr := B.returns
  have hlocks := B.notSynchronized
  have hts := atoms_spec (ws := (ws_ yX0_smallestSide cX0_smallestSide 1 (some .int))) B.pre
  have hts : ∀ w ∈ lw_all, w.before _ s = true := fun w h => hts w (List.mem_cons_of_mem _ h)
  have hown : s.vm.findClass RX0 = some m.cls := findClass_of_methodNamed B.named
  have hS : va_S x_no s.heap s.heap [] := va_S.rf
  have hl := lv_entry ([.ref (h)]) (n := 1) (Nat.le_of_ble_eq_true rfl)
  rw [lg_entry_eq]
  generalize (lg_sl ([.ref (h)]) ++ List.replicate (1 - (lg_sl ([.ref (h)])).length) Slot.unset).toArray = ls at hl ⊢
  have hl : lv_has ls 1 [(0, .ref (h))] := hl
  have hP : va_P D vwCl (xW d h ad a w f) s.heap := hP
  refine lv_aload_n hx hb dX0_smallestSide_0 rfl (lv_at hl 0 rfl) ?_
  refine va_get (D := D) (ci := 0) (v := .ref (ad 10)) (C := RX0) (T := TX0) (N := 14) hx hb hts in_X0 hown hK hP 0 rfl rfl 10 (by decide) (hts _ q42) (fun _ h9 => h9) rfl dX0_smallestSide_1 ?_
  refine lv_bipush (v := nI 7) hx hb dX0_smallestSide_4 (by decide) ?_
  refine x_ald hx hb hK hP 9 8 rfl rfl (7) rfl (by decide) (by decide) dX0_smallestSide_6 ?_
  refine lv_bipush (v := nI 127) hx hb dX0_smallestSide_7 (by decide) ?_
  refine lv_iand hx hb dX0_smallestSide_9 ?_
  exact x_iret hx hb hr hlocks hS dX0_smallestSide_10 rfl
set_option maxHeartbeats 4000000 in
set_option maxRecDepth 100000 in
theorem mX0_greatestSide (l : Launch) (D : va_G) (d : Nat → ClassId) (h : Nat) (ad : Nat → Nat) (a : Nat → Nat → Int32) (w f : Int32)  : Met l yX0_greatestSide (ws_ yX0_greatestSide cX0_greatestSide 3 (some .int)) xr1 (x_Pc D (xT d) (xW d h ad a w f) [.ref (h)]) (x_QR (fun r => ∀ v, v < 32 → (bt r v = true ↔ v < 7 ∧ bt (a 10 v) 8 = false))) 0 0 x_no := by
  refine Met.ofW (cc := cX0_greatestSide) (maxL := 3) (ret := (some .int)) (by decide) rfl ?_
  intro p e s m args below meth c s₁ B hml hv
  obtain ⟨rfl, hP, hK⟩ := hv
  have hx := B.exec
  have hb := B.bytes
  have hr := B.returns
  have hlocks := B.notSynchronized
  have hts := atoms_spec (ws := (ws_ yX0_greatestSide cX0_greatestSide 3 (some .int))) B.pre
  have hts : ∀ w ∈ lw_all, w.before _ s = true := fun w h => hts w (List.mem_cons_of_mem _ h)
  have hown : s.vm.findClass RX0 = some m.cls := findClass_of_methodNamed B.named
  have hS : va_S x_no s.heap s.heap [] := va_S.rf
  have hl := lv_entry ([.ref (h)]) (n := 3) (Nat.le_of_ble_eq_true rfl)
  rw [lg_entry_eq]
  generalize (lg_sl ([.ref (h)]) ++ List.replicate (3 - (lg_sl ([.ref (h)])).length) Slot.unset).toArray = ls at hl ⊢
  have hl : lv_has ls 3 [(0, .ref (h))] := hl
  have hP : va_P D vwCl (xW d h ad a w f) s.heap := hP
  refine lv_iconst (v := nI 0) hx hb dX0_greatestSide_0 (by decide) ?_
  refine lv_istore_n (lv' := [(1, .int (nI 0)), (0, .ref (h))]) hx hb dX0_greatestSide_1 rfl hl (by decide) rfl (fun ls hl => ?_)
  refine lv_iconst (v := nI 0) hx hb dX0_greatestSide_2 (by decide) ?_
  refine lv_istore_n (lv' := [(2, .int (nI 0)), (1, .int (nI 0)), (0, .ref (h))]) hx hb dX0_greatestSide_3 rfl hl (by decide) rfl (fun ls hl => ?_)
  refine x_loopR (σ := (Nat) × (Int32)) 4 3 (fun st => [(0, .ref (h)), (1, .int (st.2)), (2, .int (nI st.1))]) (fun st => st.1 ≤ 7 ∧ ∀ v, v < 32 → (bt (st.2) v = true ↔ v < st.1 ∧ bt (a 10 v) 8 = false)) (fun st => 7 - st.1) ?_ ((0, nI 0)) (show 0 ≤ 7 ∧ ∀ v, v < 32 → (bt ((nI 0)) v = true ↔ v < 0 ∧ bt (a 10 v) 8 = false) from ⟨by omega, fun v hv => by rw [b_nI hv]; simp⟩) hP hS (lv_sub hl [2, 1, 0] rfl)
  intro st hI ih H locs ls hP hS hl
  obtain ⟨k, z⟩ := st
  have hI : k ≤ 7 ∧ ∀ v, v < 32 → (bt (z) v = true ↔ v < k ∧ bt (a 10 v) 8 = false) := hI
  have hl : lv_has ls 3 [(0, .ref (h)), (1, .int (z)), (2, .int (nI k))] := hl
  have hP : va_P D vwCl (xW d h ad a w f) H := hP
  obtain ⟨hk, hz⟩ := hI
  refine lv_iload_n hx hb dX0_greatestSide_4 rfl (lv_at hl 2 rfl) ?_
  refine lv_bipush (v := nI 7) hx hb dX0_greatestSide_5 (by decide) ?_
  refine x_ge hx hb (k) (7) rfl rfl (by omega) (by omega) (tgt := 36) dX0_greatestSide_7 (by decide) (fun c1 => ?_) (fun c1 => ?_)
  · have hk7 : k = 7 := by omega
    subst hk7
    refine lv_iload_n hx hb dX0_greatestSide_36 rfl (lv_at hl 1 rfl) ?_
    exact x_iret hx hb hr hlocks hS dX0_greatestSide_37 hz
  · refine lv_aload_n hx hb dX0_greatestSide_10 rfl (lv_at hl 0 rfl) ?_
    refine va_get (D := D) (ci := 0) (v := .ref (ad 10)) (C := RX0) (T := TX0) (N := 14) hx hb hts in_X0 hown hK hP 0 rfl rfl 10 (by decide) (hts _ q42) (fun _ h9 => h9) rfl dX0_greatestSide_11 ?_
    refine lv_iload_n hx hb dX0_greatestSide_14 rfl (lv_at hl 2 rfl) ?_
    refine x_ald hx hb hK hP 9 8 rfl rfl (k) rfl (by omega) (by decide) dX0_greatestSide_15 ?_
    refine lv_bipush (v := nI 8) hx hb dX0_greatestSide_16 (by decide) ?_
    refine x_roS (As := [.int (a 10 (k)), .int (nI 8)]) (rest := []) ⟨hx, hb, hml, hown, hts⟩ (mX0_in l D (a 10 k) 8 (by omega)) (va_cwS 2 hts (lw_S q109 q110 q22 q111) rfl rfl rfl (by decide +kernel) ⟨Nat.le_of_ble_eq_true rfl, Nat.le_of_ble_eq_true rfl⟩) x_P0 (hK.sub [] rfl) hP hS hl rfl rfl (Nat.le_of_ble_eq_true rfl) dX0_greatestSide_18 ⟨Nat.zero_le _, Nat.zero_le _⟩ (fun r1 H locs e1 hP hS => ?_)
    subst e1
    refine lv_if_ne (tgt := 30) hx hb dX0_greatestSide_21 (by decide) (fun c2 => ?_) (fun c2 => ?_)
    · rw [nb0, Bool.not_eq_false] at c2
      refine lv_iinc (v := nI (k + 1)) (lv' := [(2, .int (nI (k + 1))), (0, .ref (h)), (1, .int (z))]) hx hb dX0_greatestSide_30 hl (k := 2) rfl (x_inc _) (by decide) rfl (fun ls hl => ?_)
      refine lv_goto (tgt := 4) hx hb dX0_greatestSide_33 (by decide) ?_
      exact ih ((k + 1, z)) (show (k + 1) ≤ 7 ∧ ∀ v, v < 32 → (bt (z) v = true ↔ v < (k + 1) ∧ bt (a 10 v) 8 = false) from ⟨by omega, fun v hv => by
            rw [hz v hv]
            constructor
            · exact fun q => ⟨by omega, q.2⟩
            · intro ⟨q1, q2⟩
              refine ⟨?_, q2⟩
              rcases Nat.lt_or_ge v k with q | q
              · exact q
              · have : v = k := by omega
                subst this; rw [c2] at q2; cases q2⟩) (by show 7 - (k + 1) < 7 - k; omega) _ _ _ hP hS (lv_sub hl [1, 2, 0] rfl)
    · rw [nb0] at c2
      refine lv_iload_n hx hb dX0_greatestSide_24 rfl (lv_at hl 1 rfl) ?_
      refine lv_iconst (v := nI 1) hx hb dX0_greatestSide_25 (by decide) ?_
      refine lv_iload_n hx hb dX0_greatestSide_26 rfl (lv_at hl 2 rfl) ?_
      refine lv_ishl hx hb dX0_greatestSide_27 ?_
      refine lv_ior hx hb dX0_greatestSide_28 ?_
      refine lv_istore_n (lv' := [(1, .int ((z) ||| ((nI 1) <<< ((nI k) &&& 31)))), (0, .ref (h)), (2, .int (nI k))]) hx hb dX0_greatestSide_29 rfl hl (by decide) rfl (fun ls hl => ?_)
      refine lv_iinc (v := nI (k + 1)) (lv' := [(2, .int (nI (k + 1))), (1, .int ((z) ||| ((nI 1) <<< ((nI k) &&& 31)))), (0, .ref (h))]) hx hb dX0_greatestSide_30 hl (k := 2) rfl (x_inc _) (by decide) rfl (fun ls hl => ?_)
      refine lv_goto (tgt := 4) hx hb dX0_greatestSide_33 (by decide) ?_
      exact ih ((k + 1, z ||| nI 1 <<< (nI k &&& 31))) (show (k + 1) ≤ 7 ∧ ∀ v, v < 32 → (bt ((z ||| nI 1 <<< (nI k &&& 31))) v = true ↔ v < (k + 1) ∧ bt (a 10 v) 8 = false) from ⟨by omega, fun v hv => by
            rw [b_or, b_shl1 (by omega) hv, Bool.or_eq_true, hz v hv, decide_eq_true_eq]
            constructor
            · rintro (q | q)
              · exact ⟨by omega, q.2⟩
              · subst q; exact ⟨by omega, c2⟩
            · intro ⟨q1, q2⟩
              rcases Nat.lt_or_ge v k with q | q
              · exact Or.inl ⟨q, q2⟩
              · exact Or.inr (by omega)⟩) (by show 7 - (k + 1) < 7 - k; omega) _ _ _ hP hS (lv_sub hl [2, 1, 0] rfl)
set_option maxHeartbeats 4000000 in
set_option maxRecDepth 100000 in
theorem mX0_unsettled (l : Launch) (D : va_G) (d : Nat → ClassId) (h : Nat) (ad : Nat → Nat) (a : Nat → Nat → Int32) (w f : Int32) (k : Nat) (hk : k < 9) : Met l yX0_unsettled (ws_ yX0_unsettled cX0_unsettled 3 (some .int)) xr1 (x_Pc D (xT d) (xW d h ad a w f) [.ref (h), .int (nI k)]) (x_QR (fun r => ∃ v, v ≤ 7 ∧ r = nI v ∧ (∀ u, u < v → bt (a 11 k ||| a 12 k) u = true) ∧ (v < 7 → bt (a 11 k ||| a 12 k) v = false))) 0 0 x_no := by
  refine Met.ofW (cc := cX0_unsettled) (maxL := 3) (ret := (some .int)) (by decide) rfl ?_
  intro p e s m args below meth c s₁ B hml hv
  obtain ⟨rfl, hP, hK⟩ := hv
  have hx := B.exec
  have hb := B.bytes
  have hr := B.returns
  have hlocks := B.notSynchronized
  have hts := atoms_spec (ws := (ws_ yX0_unsettled cX0_unsettled 3 (some .int))) B.pre
  have hts : ∀ w ∈ lw_all, w.before _ s = true := fun w h => hts w (List.mem_cons_of_mem _ h)
  have hown : s.vm.findClass RX0 = some m.cls := findClass_of_methodNamed B.named
  have hS : va_S x_no s.heap s.heap [] := va_S.rf
  have hl := lv_entry ([.ref (h), .int (nI k)]) (n := 3) (Nat.le_of_ble_eq_true rfl)
  rw [lg_entry_eq]
  generalize (lg_sl ([.ref (h), .int (nI k)]) ++ List.replicate (3 - (lg_sl ([.ref (h), .int (nI k)])).length) Slot.unset).toArray = ls at hl ⊢
  have hl : lv_has ls 3 [(0, .ref (h)), (1, .int (nI k))] := hl
  have hP : va_P D vwCl (xW d h ad a w f) s.heap := hP
  refine lv_iconst (v := nI 0) hx hb dX0_unsettled_0 (by decide) ?_
  refine lv_istore_n (lv' := [(2, .int (nI 0)), (0, .ref (h)), (1, .int (nI k))]) hx hb dX0_unsettled_1 rfl hl (by decide) rfl (fun ls hl => ?_)
  refine x_loopR (σ := (Nat)) 2 3 (fun st => [(0, .ref (h)), (1, .int (nI k)), (2, .int (nI st))]) (fun st => st ≤ 7 ∧ ∀ u, u < st → bt (a 11 k ||| a 12 k) u = true) (fun st => 7 - st) ?_ (0) (show 0 ≤ 7 ∧ ∀ u, u < 0 → bt (a 11 k ||| a 12 k) u = true from ⟨by omega, fun u hu => absurd hu (by omega)⟩) hP hS (lv_sub hl [1, 2, 0] rfl)
  intro st hI ih H locs ls hP hS hl
  obtain ⟨v, rfl⟩ : ∃ z, z = st := ⟨_, rfl⟩
  have hI : v ≤ 7 ∧ ∀ u, u < v → bt (a 11 k ||| a 12 k) u = true := hI
  have hl : lv_has ls 3 [(0, .ref (h)), (1, .int (nI k)), (2, .int (nI v))] := hl
  have hP : va_P D vwCl (xW d h ad a w f) H := hP
  obtain ⟨hv, hz⟩ := hI
  refine lv_iload_n hx hb dX0_unsettled_2 rfl (lv_at hl 2 rfl) ?_
  refine lv_bipush (v := nI 7) hx hb dX0_unsettled_3 (by decide) ?_
  refine x_ge hx hb (v) (7) rfl rfl (by omega) (by omega) (tgt := 34) dX0_unsettled_5 (by decide) (fun c1 => ?_) (fun c1 => ?_)
  · have hv7 : v = 7 := by omega
    subst hv7
    refine lv_iload_n hx hb dX0_unsettled_34 rfl (lv_at hl 2 rfl) ?_
    exact x_iret hx hb hr hlocks hS dX0_unsettled_35 ⟨7, by omega, rfl, hz, fun q => absurd q (by omega)⟩
  · refine lv_aload_n hx hb dX0_unsettled_8 rfl (lv_at hl 0 rfl) ?_
    refine va_get (D := D) (ci := 0) (v := .ref (ad 11)) (C := RX0) (T := TX0) (N := 14) hx hb hts in_X0 hown hK hP 0 rfl rfl 11 (by decide) (hts _ q43) (fun _ h9 => h9) rfl dX0_unsettled_9 ?_
    refine lv_iload_n hx hb dX0_unsettled_12 rfl (lv_at hl 1 rfl) ?_
    refine x_ald hx hb hK hP 10 9 rfl rfl (k) rfl hk (by decide) dX0_unsettled_13 ?_
    refine lv_aload_n hx hb dX0_unsettled_14 rfl (lv_at hl 0 rfl) ?_
    refine va_get (D := D) (ci := 0) (v := .ref (ad 12)) (C := RX0) (T := TX0) (N := 14) hx hb hts in_X0 hown hK hP 0 rfl rfl 12 (by decide) (hts _ q44) (fun _ h9 => h9) rfl dX0_unsettled_15 ?_
    refine lv_iload_n hx hb dX0_unsettled_18 rfl (lv_at hl 1 rfl) ?_
    refine x_ald hx hb hK hP 11 10 rfl rfl (k) rfl hk (by decide) dX0_unsettled_19 ?_
    refine lv_ior hx hb dX0_unsettled_20 ?_
    refine lv_iload_n hx hb dX0_unsettled_21 rfl (lv_at hl 2 rfl) ?_
    refine x_roS (As := [.int ((a 11 (k)) ||| (a 12 (k))), .int (nI v)]) (rest := []) ⟨hx, hb, hml, hown, hts⟩ (mX0_in l D (a 11 k ||| a 12 k) v (by omega)) (va_cwS 2 hts (lw_S q109 q110 q22 q111) rfl rfl rfl (by decide +kernel) ⟨Nat.le_of_ble_eq_true rfl, Nat.le_of_ble_eq_true rfl⟩) x_P0 (hK.sub [] rfl) hP hS hl rfl rfl (Nat.le_of_ble_eq_true rfl) dX0_unsettled_22 ⟨Nat.zero_le _, Nat.zero_le _⟩ (fun r1 H locs e1 hP hS => ?_)
    subst e1
    refine lv_if_eq (tgt := 34) hx hb dX0_unsettled_25 (by decide) (fun c2 => ?_) (fun c2 => ?_)
    · rw [nb0] at c2
      refine lv_iload_n hx hb dX0_unsettled_34 rfl (lv_at hl 2 rfl) ?_
      exact x_iret hx hb hr hlocks hS dX0_unsettled_35 ⟨v, by omega, rfl, hz, fun _ => c2⟩
    · rw [nb0, Bool.not_eq_false] at c2
      refine lv_iinc (v := nI (v + 1)) (lv' := [(2, .int (nI (v + 1))), (0, .ref (h)), (1, .int (nI k))]) hx hb dX0_unsettled_28 hl (k := 2) rfl (x_inc _) (by decide) rfl (fun ls hl => ?_)
      refine lv_goto (tgt := 2) hx hb dX0_unsettled_31 (by decide) ?_
      exact ih (v + 1) (show (v + 1) ≤ 7 ∧ ∀ u, u < (v + 1) → bt (a 11 k ||| a 12 k) u = true from ⟨by omega, fun u hu => by
            rcases Nat.lt_or_ge u v with q | q
            · exact hz u q
            · have : u = v := by omega
              subst this; exact c2⟩) (by show 7 - (v + 1) < 7 - v; omega) _ _ _ hP hS (lv_sub hl [1, 2, 0] rfl)
set_option maxHeartbeats 4000000 in
set_option maxRecDepth 100000 in
theorem mX0_reaching (l : Launch) (D : va_G) (d : Nat → ClassId) (h : Nat) (ad : Nat → Nat) (a : Nat → Nat → Int32) (w f : Int32) (z0 : Int32) : Met l yX0_reaching (ws_ yX0_reaching cX0_reaching 4 (some .int)) xr0 (x_Pc D (xT d) (xW d h ad a w f) [.ref (h), .int (z0)]) (x_QR (fun r => ∀ v, v < 32 → (bt r v = true ↔ v < 7 ∧ a 10 v &&& z0 ≠ 0))) 0 0 x_no := by
  refine Met.ofW (cc := cX0_reaching) (maxL := 4) (ret := (some .int)) (by decide) rfl ?_
  intro p e s m args below meth c s₁ B hml hv
  obtain ⟨rfl, hP, hK⟩ := hv
  have hx := B.exec
  have hb := B.bytes
  have hr := B.returns
  have hlocks := B.notSynchronized
  have hts := atoms_spec (ws := (ws_ yX0_reaching cX0_reaching 4 (some .int))) B.pre
  have hts : ∀ w ∈ lw_all, w.before _ s = true := fun w h => hts w (List.mem_cons_of_mem _ h)
  have hown : s.vm.findClass RX0 = some m.cls := findClass_of_methodNamed B.named
  have hS : va_S x_no s.heap s.heap [] := va_S.rf
  have hl := lv_entry ([.ref (h), .int (z0)]) (n := 4) (Nat.le_of_ble_eq_true rfl)
  rw [lg_entry_eq]
  generalize (lg_sl ([.ref (h), .int (z0)]) ++ List.replicate (4 - (lg_sl ([.ref (h), .int (z0)])).length) Slot.unset).toArray = ls at hl ⊢
  have hl : lv_has ls 4 [(0, .ref (h)), (1, .int (z0))] := hl
  have hP : va_P D vwCl (xW d h ad a w f) s.heap := hP
  refine lv_iconst (v := nI 0) hx hb dX0_reaching_0 (by decide) ?_
  refine lv_istore_n (lv' := [(2, .int (nI 0)), (0, .ref (h)), (1, .int (z0))]) hx hb dX0_reaching_1 rfl hl (by decide) rfl (fun ls hl => ?_)
  refine lv_iconst (v := nI 0) hx hb dX0_reaching_2 (by decide) ?_
  refine lv_istore_n (lv' := [(3, .int (nI 0)), (2, .int (nI 0)), (0, .ref (h)), (1, .int (z0))]) hx hb dX0_reaching_3 rfl hl (by decide) rfl (fun ls hl => ?_)
  refine x_loopR (σ := (Nat) × (Int32)) 4 4 (fun st => [(0, .ref (h)), (1, .int (z0)), (2, .int (st.2)), (3, .int (nI st.1))]) (fun st => st.1 ≤ 7 ∧ ∀ v, v < 32 → (bt (st.2) v = true ↔ v < st.1 ∧ a 10 v &&& z0 ≠ 0)) (fun st => 7 - st.1) ?_ ((0, nI 0)) (show 0 ≤ 7 ∧ ∀ v, v < 32 → (bt ((nI 0)) v = true ↔ v < 0 ∧ a 10 v &&& z0 ≠ 0) from ⟨by omega, fun v hv => by rw [b_nI hv]; simp⟩) hP hS (lv_sub hl [2, 3, 1, 0] rfl)
  intro st hI ih H locs ls hP hS hl
  obtain ⟨k, z⟩ := st
  have hI : k ≤ 7 ∧ ∀ v, v < 32 → (bt (z) v = true ↔ v < k ∧ a 10 v &&& z0 ≠ 0) := hI
  have hl : lv_has ls 4 [(0, .ref (h)), (1, .int (z0)), (2, .int (z)), (3, .int (nI k))] := hl
  have hP : va_P D vwCl (xW d h ad a w f) H := hP
  obtain ⟨hk, hz⟩ := hI
  refine lv_iload_n hx hb dX0_reaching_4 rfl (lv_at hl 3 rfl) ?_
  refine lv_bipush (v := nI 7) hx hb dX0_reaching_5 (by decide) ?_
  refine x_ge hx hb (k) (7) rfl rfl (by omega) (by omega) (tgt := 33) dX0_reaching_7 (by decide) (fun c1 => ?_) (fun c1 => ?_)
  · have hk7 : k = 7 := by omega
    subst hk7
    refine lv_iload_n hx hb dX0_reaching_33 rfl (lv_at hl 2 rfl) ?_
    exact x_iret hx hb hr hlocks hS dX0_reaching_34 hz
  · refine lv_aload_n hx hb dX0_reaching_10 rfl (lv_at hl 0 rfl) ?_
    refine va_get (D := D) (ci := 0) (v := .ref (ad 10)) (C := RX0) (T := TX0) (N := 14) hx hb hts in_X0 hown hK hP 0 rfl rfl 10 (by decide) (hts _ q42) (fun _ h9 => h9) rfl dX0_reaching_11 ?_
    refine lv_iload_n hx hb dX0_reaching_14 rfl (lv_at hl 3 rfl) ?_
    refine x_ald hx hb hK hP 9 8 rfl rfl (k) rfl (by omega) (by decide) dX0_reaching_15 ?_
    refine lv_iload_n hx hb dX0_reaching_16 rfl (lv_at hl 1 rfl) ?_
    refine lv_iand hx hb dX0_reaching_17 ?_
    refine lv_if_eq (tgt := 27) hx hb dX0_reaching_18 (by decide) (fun c2 => ?_) (fun c2 => ?_)
    · refine lv_iinc (v := nI (k + 1)) (lv' := [(3, .int (nI (k + 1))), (0, .ref (h)), (1, .int (z0)), (2, .int (z))]) hx hb dX0_reaching_27 hl (k := 3) rfl (x_inc _) (by decide) rfl (fun ls hl => ?_)
      refine lv_goto (tgt := 4) hx hb dX0_reaching_30 (by decide) ?_
      exact ih ((k + 1, z)) (show (k + 1) ≤ 7 ∧ ∀ v, v < 32 → (bt (z) v = true ↔ v < (k + 1) ∧ a 10 v &&& z0 ≠ 0) from ⟨by omega, fun v hv => by
            rw [hz v hv]
            constructor
            · exact fun q => ⟨by omega, q.2⟩
            · intro ⟨q1, q2⟩
              refine ⟨?_, q2⟩
              rcases Nat.lt_or_ge v k with q | q
              · exact q
              · have : v = k := by omega
                subst this; exact absurd c2 q2⟩) (by show 7 - (k + 1) < 7 - k; omega) _ _ _ hP hS (lv_sub hl [1, 2, 3, 0] rfl)
    · refine lv_iload_n hx hb dX0_reaching_21 rfl (lv_at hl 2 rfl) ?_
      refine lv_iconst (v := nI 1) hx hb dX0_reaching_22 (by decide) ?_
      refine lv_iload_n hx hb dX0_reaching_23 rfl (lv_at hl 3 rfl) ?_
      refine lv_ishl hx hb dX0_reaching_24 ?_
      refine lv_ior hx hb dX0_reaching_25 ?_
      refine lv_istore_n (lv' := [(2, .int ((z) ||| ((nI 1) <<< ((nI k) &&& 31)))), (0, .ref (h)), (1, .int (z0)), (3, .int (nI k))]) hx hb dX0_reaching_26 rfl hl (by decide) rfl (fun ls hl => ?_)
      refine lv_iinc (v := nI (k + 1)) (lv' := [(3, .int (nI (k + 1))), (2, .int ((z) ||| ((nI 1) <<< ((nI k) &&& 31)))), (0, .ref (h)), (1, .int (z0))]) hx hb dX0_reaching_27 hl (k := 3) rfl (x_inc _) (by decide) rfl (fun ls hl => ?_)
      refine lv_goto (tgt := 4) hx hb dX0_reaching_30 (by decide) ?_
      exact ih ((k + 1, z ||| nI 1 <<< (nI k &&& 31))) (show (k + 1) ≤ 7 ∧ ∀ v, v < 32 → (bt ((z ||| nI 1 <<< (nI k &&& 31))) v = true ↔ v < (k + 1) ∧ a 10 v &&& z0 ≠ 0) from ⟨by omega, fun v hv => by
            rw [b_or, b_shl1 (by omega) hv, Bool.or_eq_true, hz v hv, decide_eq_true_eq]
            constructor
            · rintro (q | q)
              · exact ⟨by omega, q.2⟩
              · subst q; exact ⟨by omega, c2⟩
            · intro ⟨q1, q2⟩
              rcases Nat.lt_or_ge v k with q | q
              · exact Or.inl ⟨q, q2⟩
              · exact Or.inr (by omega)⟩) (by show 7 - (k + 1) < 7 - k; omega) _ _ _ hP hS (lv_sub hl [2, 3, 1, 0] rfl)
end
section
/-! plain laws: the search for a way, the closing of what is reached -/
theorem va_up_s {α : Type} {f : Nat → α} {k : Nat} {x : α} : va_up f k x k = x := if_pos rfl
theorem va_up_n {α : Type} {f : Nat → α} {k j : Nat} {x : α} (h : j ≠ k) : va_up f k x j = f j := if_neg h
def fnd (ca : Nat → Int32) : Nat → Bool := fun v => decide (0 ≤ (ca v).toInt)
def BQ (L : Nat → Int) (qu ca : Nat → Int32) (i b en : Nat) (qn : Nat → Nat) : Prop :=
  (1 ≤ en ∧ i ≤ en) ∧ (∀ j, j < en → qn j < 9 ∧ qu j = nI (qn j)) ∧ qn 0 = 7 ∧ en = cnt (fnd ca) 9 ∧
  (∀ v, v < 9 → (0 ≤ (ca v).toInt ↔ ∃ j, j < en ∧ qn j = v)) ∧
  (∀ j j', j < en → j' < en → qn j = qn j' → j = j') ∧
  (∀ j, 1 ≤ j → j < en → ∃ j', j' < j ∧ ca (qn j) = nI (qn j') ∧ 0 < L (qn j' * 9 + qn j)) ∧
  (∀ j, j < i → ∀ v, v < 9 → 0 < L (qn j * 9 + v) → 0 ≤ (ca v).toInt) ∧
  (0 ≤ (ca 8).toInt → ∃ j, j < b ∧ j < en ∧ ca 8 = nI (qn j) ∧ 0 < L (qn j * 9 + 8) ∧ ∀ j', j' < j → L (qn j' * 9 + 8) ≤ 0) ∧
  (i = 0 → ∀ j, 1 ≤ j → j < en → ca (qn j) = nI 7) ∧
  (1 ≤ i → ∃ m1, (∀ j, 1 ≤ j → j ≤ m1 → j < en ∧ ca (qn j) = nI 7) ∧ ∀ w, w < 9 → w ≠ 7 → 0 < L (63 + w) → ∃ j, 1 ≤ j ∧ j ≤ m1 ∧ qn j = w)
theorem BQ_wk {L : Nat → Int} {qu ca : Nat → Int32} {i b b' en : Nat} {qn : Nat → Nat} (h : BQ L qu ca i b en qn) (hb : b ≤ b') : BQ L qu ca i b' en qn := by
  obtain ⟨h1, h2, h3, h4, h5, h6, h7, h8, h9, h10, h11⟩ := h
  refine ⟨h1, h2, h3, h4, h5, h6, h7, h8, fun q => ?_, h10, h11⟩
  obtain ⟨j, a, c⟩ := h9 q
  exact ⟨j, by omega, c⟩
theorem BQ_room {L : Nat → Int} {qu ca : Nat → Int32} {i b en : Nat} {qn : Nat → Nat} (h : BQ L qu ca i b en qn) {v : Nat} (hv : v < 9) (nf : ¬ 0 ≤ (ca v).toInt) : en < 9 := by
  have h4 := h.2.2.2.1
  have h0 := cnt_lt (P := fnd ca) (P' := fun _ => true) (k := v) (decide_eq_false nf) rfl 9 hv (fun _ _ _ => rfl)
  have h1 := cnt_le (fun _ => true) 9
  omega
theorem BQ_add {L : Nat → Int} {qu ca : Nat → Int32} {i b en : Nat} {qn : Nat → Nat} (h : BQ L qu ca i b en qn) (hi : i < en) (hib : i < b) {v : Nat} (hv : v < 9) (nf : ¬ 0 ≤ (ca v).toInt) (hL : 0 < L (qn i * 9 + v)) : BQ L (upd qu en (nI v)) (upd ca v (nI (qn i))) i b (en + 1) (va_up qn en v) := by
  obtain ⟨h1, h2, h3, h4, h5, h6, h7, h8, h9, h10, h11⟩ := h
  have hq : ∀ j, j < en → va_up qn en v j = qn j := fun j hj => va_up_n (by omega)
  have hqe : va_up qn en v en = v := va_up_s
  have hqi := (h2 i hi).1
  have hcv : upd ca v (nI (qn i)) v = nI (qn i) := pk_us
  have hcn : ∀ z, z ≠ v → upd ca v (nI (qn i)) z = ca z := fun z hz => pk_un hz
  have hfv : 0 ≤ (upd ca v (nI (qn i)) v).toInt := by rw [hcv, z_nI (by omega)]; omega
  have hnq : ∀ j, j < en → qn j ≠ v := fun j hj q => nf ((h5 v hv).mpr ⟨j, hj, q⟩)
  have hmono : ∀ z, 0 ≤ (ca z).toInt → 0 ≤ (upd ca v (nI (qn i)) z).toInt := by
    intro z hz
    by_cases c : z = v
    · subst c; exact hfv
    · rw [hcn z c]; exact hz
  refine ⟨⟨by omega, by omega⟩, fun j hj => ?_, ?_, ?_, fun z hz => ?_, fun j j' hj hj' e => ?_, fun j hj1 hj => ?_, fun j hj z hz hz2 => ?_, fun hf => ?_, fun e j hj1 hj => ?_, fun e => ?_⟩
  · by_cases c : j = en
    · subst c; rw [hqe]; exact ⟨hv, pk_us⟩
    · rw [hq j (by omega)]
      exact ⟨(h2 j (by omega)).1, by rw [pk_un c]; exact (h2 j (by omega)).2⟩
  · rw [hq 0 (by omega)]; exact h3
  · rw [h4]
    refine (cnt_add (k := v) (decide_eq_false nf) (decide_eq_true hfv) 9 hv (fun z hz hzn => ?_)).symm
    show decide _ = decide _
    rw [hcn z hzn]
  · by_cases c : z = v
    · subst c
      exact ⟨fun _ => ⟨en, by omega, hqe⟩, fun _ => hfv⟩
    · rw [hcn z c, h5 z hz]
      constructor
      · intro ⟨j, hj, e⟩
        exact ⟨j, by omega, by rw [hq j hj]; exact e⟩
      · intro ⟨j, hj, e⟩
        by_cases c2 : j = en
        · subst c2; rw [hqe] at e; exact absurd e.symm c
        · rw [hq j (by omega)] at e; exact ⟨j, by omega, e⟩
  · by_cases c : j = en
    · by_cases c2 : j' = en
      · omega
      · rw [c, hqe, hq j' (by omega)] at e
        exact absurd e.symm (hnq j' (by omega))
    · by_cases c2 : j' = en
      · rw [c2, hqe, hq j (by omega)] at e
        exact absurd e (hnq j (by omega))
      · rw [hq j (by omega), hq j' (by omega)] at e
        exact h6 j j' (by omega) (by omega) e
  · by_cases c : j = en
    · subst c
      exact ⟨i, hi, by rw [hqe, hcv, hq i hi], by rw [hqe, hq i hi]; exact hL⟩
    · obtain ⟨j', a1, a2, a3⟩ := h7 j hj1 (by omega)
      refine ⟨j', a1, ?_, ?_⟩
      · rw [hq j (by omega), hq j' (by omega), hcn _ (hnq j (by omega))]; exact a2
      · rw [hq j (by omega), hq j' (by omega)]; exact a3
  · rw [hq j (by omega)] at hz2
    exact hmono z (h8 j hj z hz hz2)
  · by_cases c : v = 8
    · subst c
      refine ⟨i, hib, by omega, by rw [hq i hi, hcv], by rw [hq i hi]; exact hL, fun j' hj' => ?_⟩
      rw [hq j' (by omega)]
      rcases (show 0 < L (qn j' * 9 + 8) ∨ L (qn j' * 9 + 8) ≤ 0 by omega) with q | q
      · exact absurd (h8 j' hj' 8 (by omega) q) nf
      · exact q
    · rw [hcn 8 (by omega)] at hf
      obtain ⟨j, a1, a2, a3, a4, a5⟩ := h9 hf
      refine ⟨j, a1, by omega, by rw [hcn 8 (by omega), hq j a2]; exact a3, by rw [hq j a2]; exact a4, fun j' hj' => ?_⟩
      rw [hq j' (by omega)]
      exact a5 j' hj'
  · by_cases c : j = en
    · subst c
      rw [hqe, hcv]
      subst e
      rw [h3]
    · rw [hq j (by omega), hcn _ (hnq j (by omega))]
      exact h10 e j hj1 (by omega)
  · obtain ⟨m1, a1, a2⟩ := h11 e
    refine ⟨m1, fun j hj1 hj => ?_, fun w hw hw7 hwL => ?_⟩
    · obtain ⟨b1, b2⟩ := a1 j hj1 hj
      refine ⟨by omega, ?_⟩
      rw [hq j b1, hcn _ (hnq j b1)]
      exact b2
    · obtain ⟨j, b1, b2, b3⟩ := a2 w hw hw7 hwL
      exact ⟨j, b1, b2, by rw [hq j (a1 j b1 b2).1]; exact b3⟩
theorem BQ_next {L : Nat → Int} {qu ca : Nat → Int32} {i en : Nat} {qn : Nat → Nat} (h : BQ L qu ca i (i + 1) en qn) (hi : i < en) (hc : ∀ v, v < 9 → 0 < L (qn i * 9 + v) → 0 ≤ (ca v).toInt) : BQ L qu ca (i + 1) (i + 1) en qn := by
  obtain ⟨h1, h2, h3, h4, h5, h6, h7, h8, h9, h10, h11⟩ := h
  refine ⟨⟨h1.1, by omega⟩, h2, h3, h4, h5, h6, h7, fun j hj v hv hL => ?_, h9, fun e => absurd e (by omega), fun _ => ?_⟩
  · rcases Nat.lt_or_ge j i with q | q
    · exact h8 j q v hv hL
    · have : j = i := by omega
      subst this; exact hc v hv hL
  · rcases Nat.eq_zero_or_pos i with q | q
    · subst q
      refine ⟨en - 1, fun j hj1 hj => ⟨by omega, h10 rfl j hj1 (by omega)⟩, fun w hw hw7 hwL => ?_⟩
      have hf := hc w hw (by rw [h3]; exact hwL)
      obtain ⟨j, b1, b2⟩ := (h5 w hw).mp hf
      refine ⟨j, ?_, by omega, b2⟩
      rcases Nat.eq_zero_or_pos j with z | z
      · subst z; rw [h3] at b2; exact absurd b2.symm hw7
      · exact z
    · exact h11 q
theorem BQ_no {L : Nat → Int} {qu ca : Nat → Int32} {i b en : Nat} {qn : Nat → Nat} (h : BQ L qu ca i b en qn) (hi : en ≤ i) (h8f : ¬ 0 ≤ (ca 8).toInt) : ∃ T : Nat → Bool, T 7 = true ∧ T 8 = false ∧ Clo L T := by
  obtain ⟨h1, h2, h3, h4, h5, h6, h7, h8, h9, h10, h11⟩ := h
  refine ⟨fnd ca, decide_eq_true ((h5 7 (by omega)).mpr ⟨0, by omega, h3⟩), decide_eq_false h8f, fun u v hu hv hT1 hT2 => ?_⟩
  have f1 := of_decide_eq_true hT1
  have f2 := of_decide_eq_false hT2
  obtain ⟨j, b1, b2⟩ := (h5 u hu).mp f1
  rcases (show 0 < L (u * 9 + v) ∨ L (u * 9 + v) ≤ 0 by omega) with q | q
  · rw [← b2] at q
    exact absurd (h8 j (by omega) v hv q) f2
  · exact q
/-- positions of a way, back to the source -/
theorem BQ_path {L : Nat → Int} {qu ca : Nat → Int32} {i b en : Nat} {qn : Nat → Nat} (h : BQ L qu ca i b en qn) : ∀ j, j < en → ∃ (k : Nat) (ps : Nat → Nat), ps 0 = 0 ∧ ps k = j ∧ k ≤ j ∧ (∀ t, t < k → ps t < ps (t + 1) ∧ ca (qn (ps (t + 1))) = nI (qn (ps t)) ∧ 0 < L (qn (ps t) * 9 + qn (ps (t + 1)))) := by
  have h7 := h.2.2.2.2.2.2.1
  intro j
  induction j using Nat.strongRecOn with
  | _ j ih =>
    intro hj
    rcases Nat.eq_zero_or_pos j with q | q
    · subst q
      exact ⟨0, fun _ => 0, rfl, rfl, Nat.le_refl 0, fun t ht => absurd ht (by omega)⟩
    · obtain ⟨j', a1, a2, a3⟩ := h7 j q hj
      obtain ⟨k, ps, b1, b2, b3, b4⟩ := ih j' a1 (by omega)
      refine ⟨k + 1, fun t => if t ≤ k then ps t else j, ?_, ?_, by omega, fun t ht => ?_⟩
      · show (if 0 ≤ k then ps 0 else j) = 0
        rw [if_pos (by omega)]; exact b1
      · show (if k + 1 ≤ k then _ else j) = j
        rw [if_neg (by omega)]
      · show (if t ≤ k then ps t else j) < (if t + 1 ≤ k then ps (t + 1) else j) ∧ ca (qn (if t + 1 ≤ k then ps (t + 1) else j)) = nI (qn (if t ≤ k then ps t else j)) ∧ 0 < L (qn (if t ≤ k then ps t else j) * 9 + qn (if t + 1 ≤ k then ps (t + 1) else j))
        rw [if_pos (show t ≤ k by omega)]
        rcases Nat.lt_or_ge t k with z | z
        · rw [if_pos (show t + 1 ≤ k by omega)]
          exact b4 t z
        · have : t = k := by omega
          subst this
          rw [if_neg (by omega), b2]
          exact ⟨a1, a2, a3⟩
theorem BQ_yes {L : Nat → Int} {qu ca : Nat → Int32} {i en : Nat} {qn : Nat → Nat} (h : BQ L qu ca i i en qn) (h8f : 0 ≤ (ca 8).toInt) : ∃ (k : Nat) (pt : Nat → Nat), Way L k pt ∧ ∀ t, t < k → ca (pt (t + 1)) = nI (pt t) := by
  have hp := BQ_path h
  have h9en : en ≤ 9 := by rw [h.2.2.2.1]; exact cnt_le _ 9
  obtain ⟨h1, h2, h3, h4, h5, h6, h7, h8, h9, h10, h11⟩ := h
  obtain ⟨j8, d1, d2⟩ := (h5 8 (by omega)).mp h8f
  obtain ⟨jp, c1, c2, c3, c4, c5⟩ := h9 h8f
  by_cases hd : ∃ w, w < 7 ∧ 0 < L (63 + w) ∧ 0 < L (w * 9 + 8)
  · obtain ⟨w, w1, w2, w3⟩ := hd
    obtain ⟨m1, a1, a2⟩ := h11 (by omega)
    obtain ⟨jw, e1, e2, e3⟩ := a2 w (by omega) (by omega) w2
    have hle : jp ≤ jw := by
      rcases Nat.lt_or_ge jw jp with q | q
      · have := c5 jw q
        rw [e3] at this
        omega
      · exact q
    rcases Nat.eq_zero_or_pos jp with q | q
    · subst q
      rw [h3] at c3 c4
      refine ⟨1, fun t => if t = 0 then 7 else 8, ⟨by omega, by omega, rfl, rfl, fun t ht => ?_, fun s t hs ht e => ?_, fun t ht => ?_, fun _ => by omega⟩, fun t ht => ?_⟩
      · show (if t = 0 then 7 else 8) < 9
        split <;> omega
      · have e : (if s = 0 then 7 else 8) = (if t = 0 then 7 else 8) := e
        by_cases c : s = 0 <;> by_cases c' : t = 0
        · omega
        · rw [if_pos c, if_neg c'] at e; omega
        · rw [if_neg c, if_pos c'] at e; omega
        · omega
      · have : t = 0 := by omega
        subst this; exact c4
      · have : t = 0 := by omega
        subst this; exact c3
    · obtain ⟨f1, f2⟩ := a1 jp q (by omega)
      have hz := (h2 jp c2).1
      have g7 : qn jp ≠ 7 := fun e => by have := h6 jp 0 c2 (by omega) (by rw [e, h3]); omega
      have g8 : qn jp ≠ 8 := fun e => by
        rw [e] at f2
        rw [f2] at c3
        have h77 := (nI_eq (by omega) (by omega)).mp c3
        exact g7 h77.symm
      obtain ⟨jq, k1, k2, k3⟩ := h7 jp q c2
      rw [f2] at k2
      have k4 : qn jq = 7 := ((nI_eq (by omega) (by have := (h2 jq (by omega)).1; omega)).mp k2).symm
      rw [k4] at k3
      refine ⟨2, fun t => if t = 0 then 7 else if t = 1 then qn jp else 8, ⟨by omega, by omega, rfl, rfl, fun t ht => ?_, fun s t hs ht e => ?_, fun t ht => ?_, fun _ => by omega⟩, fun t ht => ?_⟩
      · show (if t = 0 then 7 else if t = 1 then qn jp else 8) < 9
        split
        · omega
        · split <;> omega
      · have e : (if s = 0 then 7 else if s = 1 then qn jp else 8) = (if t = 0 then 7 else if t = 1 then qn jp else 8) := e
        rcases (show s = 0 ∨ s = 1 ∨ s = 2 by omega) with rfl | rfl | rfl <;> rcases (show t = 0 ∨ t = 1 ∨ t = 2 by omega) with rfl | rfl | rfl <;> simp at e <;> omega
      · rcases (show t = 0 ∨ t = 1 by omega) with rfl | rfl
        · exact k3
        · exact c4
      · rcases (show t = 0 ∨ t = 1 by omega) with rfl | rfl
        · exact f2
        · exact c3
  · obtain ⟨k, ps, p0, pk, pkj, pst⟩ := hp j8 d1
    have mono : ∀ t, t ≤ k → ∀ s, s ≤ t → ps s + (t - s) ≤ ps t := by
      intro t
      induction t with
      | zero => intro _ s hs; have : s = 0 := by omega
                subst this; simp
      | succ t ih =>
        intro ht s hs
        rcases Nat.lt_or_ge s (t + 1) with q | q
        · have a1 := ih (by omega) s (by omega)
          have a2 := (pst t (by omega)).1
          omega
        · have : s = t + 1 := by omega
          subst this; simp
    have inr : ∀ t, t ≤ k → ps t < en := by
      intro t ht
      have := mono k (Nat.le_refl k) t ht
      omega
    refine ⟨k, fun t => qn (ps t), ⟨?_, by omega, by show qn (ps 0) = 7; rw [p0]; exact h3, by show qn (ps k) = 8; rw [pk]; exact d2, fun t ht => (h2 _ (inr t ht)).1, fun s t hs ht e => ?_, fun t ht => (pst t ht).2.2, fun q => absurd q hd⟩, fun t ht => (pst t ht).2.1⟩
    · rcases Nat.eq_zero_or_pos k with q | q
      · subst q
        rw [p0] at pk
        rw [← pk, h3] at d2
        omega
      · exact q
    · have e1 := h6 _ _ (inr s hs) (inr t ht) e
      rcases Nat.lt_or_ge s t with q | q
      · have := mono t ht s (by omega); omega
      · have := mono s hs t q; omega
-- the closing of what is reached
def RK (L : Nat → Int) (re : Nat → Int32) (k : Nat) : Prop :=
  (∀ u, u < 9 → bt (re u) u = true) ∧ (∀ u v, u < 9 → v < 9 → 0 < L (u * 9 + v) → bt (re u) v = true) ∧
  (∀ u j v, u < 9 → j < k → v < 9 → bt (re u) j = true → bt (re j) v = true → bt (re u) v = true) ∧
  (∀ T : Nat → Bool, (∀ u v, u < 9 → v < 9 → T u = true → 0 < L (u * 9 + v) → T v = true) → ∀ u v, u < 9 → v < 9 → T u = true → bt (re u) v = true → T v = true)
theorem RK_9 {L : Nat → Int} {re : Nat → Int32} (h : RK L re 9) : RC L re := ⟨h.1, h.2.1, fun u k v hu hk hv => h.2.2.1 u k v hu hk hv, h.2.2.2⟩
theorem RK_0 {L : Nat → Int} {re : Nat → Int32} (h : ∀ p, p < 9 → ∀ q, q < 32 → (bt (re p) q = true ↔ q = p ∨ (q < 9 ∧ 0 < L (p * 9 + q)))) : RK L re 0 := by
  refine ⟨fun u hu => (h u hu u (by omega)).mpr (Or.inl rfl), fun u v hu hv hL => (h u hu v (by omega)).mpr (Or.inr ⟨hv, hL⟩), fun u j v hu hj => absurd hj (by omega), fun T hT u v hu hv h1 h2 => ?_⟩
  rcases (h u hu v (by omega)).mp h2 with q | q
  · subst q; exact h1
  · exact hT u v hu hv h1 q.2
theorem RK_s {L : Nat → Int} {re re' : Nat → Int32} {k : Nat} (hk : k < 9) (h : RK L re k) (hs : ∀ p, p < 9 → ∀ q, q < 32 → (bt (re' p) q = true ↔ bt (re p) q = true ∨ (bt (re p) k = true ∧ bt (re k) q = true))) : RK L re' (k + 1) := by
  obtain ⟨h1, h2, h3, h4⟩ := h
  refine ⟨fun u hu => (hs u hu u (by omega)).mpr (Or.inl (h1 u hu)), fun u v hu hv hL => (hs u hu v (by omega)).mpr (Or.inl (h2 u v hu hv hL)), fun u j v hu hj hv a b => ?_, fun T hT u v hu hv a b => ?_⟩
  · have hj9 : j < 9 := by omega
    have a := (hs u hu j (by omega)).mp a
    have b := (hs j hj9 v (by omega)).mp b
    refine (hs u hu v (by omega)).mpr ?_
    rcases Nat.lt_or_ge j k with q | q
    · rcases a with a | ⟨a1, a2⟩
      · rcases b with b | ⟨b1, b2⟩
        · exact Or.inl (h3 u j v hu q hv a b)
        · exact Or.inr ⟨h3 u j k hu q hk a b1, b2⟩
      · rcases b with b | ⟨b1, b2⟩
        · exact Or.inr ⟨a1, h3 k j v hk q hv a2 b⟩
        · exact Or.inr ⟨a1, b2⟩
    · have : j = k := by omega
      subst this
      have a' : bt (re u) j = true := by
        rcases a with a | a
        · exact a
        · exact a.1
      rcases b with b | ⟨b1, b2⟩
      · exact Or.inr ⟨a', b⟩
      · exact Or.inr ⟨a', b2⟩
  · rcases (hs u hu v (by omega)).mp b with b | ⟨b1, b2⟩
    · exact h4 T hT u v hu hv a b
    · exact h4 T hT k v hk hv (h4 T hT u k hu hk a b1) b2
-- load, by rows
def ldI (g : Nat → Nat → Int32) (x u p q : Nat) : Int := if p < u ∨ (p = 7 ∧ q < u) then ldF g x p q else 0
theorem ldI_7 (g : Nat → Nat → Int32) (x : Nat) {p q : Nat} (hp : p < 9) (hq : q < 9) : ldI g x 7 p q = ldF g x p q := by
  unfold ldI
  by_cases c : p < 7 ∨ (p = 7 ∧ q < 7)
  · rw [if_pos c]
  · rw [if_neg c]
    unfold ldF
    rw [if_neg (by omega)]
    by_cases c2 : p = 7
    · rw [if_pos c2, if_neg (by omega)]
    · rw [if_neg c2]
end
section
/-! load, findWay, narrowest, push -/
abbrev zL (f : Nat → Int32) : Nat → Int := fun q => (f q).toInt
set_option maxHeartbeats 4000000 in
set_option maxRecDepth 100000 in
theorem mX0_load (l : Launch) (D : va_G) (d : Nat → ClassId) (h : Nat) (ad : Nat → Nat) (Fr : Nat → Prop) (a : Nat → Nat → Int32) (w f : Int32) (x : Nat) (hx5 : x ≤ 50) (hg : DOK a) (hD : va_D Fr (xW d h ad a w f)) : Met l yX0_load (ws_ yX0_load cX0_load 4 none) xr1 (x_Pc D (xT d) (xW d h ad a w f) [.ref (h), .int (nI x)]) (va_Qv (fun u : xS => (∀ k, k ≠ 5 → u.1 k = a k) ∧ u.2.1 = w ∧ u.2.2 = f ∧ ∀ p q, p < 9 → q < 9 → (u.1 5 (p * 9 + q)).toInt = ldF a x p q) (fun u t => va_P D vwCl (xV d h ad u) t.heap) Fr) 0 0 Fr := by
  refine Met.ofW (cc := cX0_load) (maxL := 4) (ret := none) (by decide) rfl ?_
  intro p e s m args below meth c s₁ B hml hv
  obtain ⟨rfl, hP, hK⟩ := hv
  have hx := B.exec
  have hb := B.bytes
  have hr := B.returns
  have hlocks := B.notSynchronized
  have hts := atoms_spec (ws := (ws_ yX0_load cX0_load 4 none)) B.pre
  have hts : ∀ w ∈ lw_all, w.before _ s = true := fun w h => hts w (List.mem_cons_of_mem _ h)
  have hown : s.vm.findClass RX0 = some m.cls := findClass_of_methodNamed B.named
  have hS : va_S Fr s.heap s.heap [] := va_S.rf
  have hl := lv_entry ([.ref (h), .int (nI x)]) (n := 4) (Nat.le_of_ble_eq_true rfl)
  rw [lg_entry_eq]
  generalize (lg_sl ([.ref (h), .int (nI x)]) ++ List.replicate (4 - (lg_sl ([.ref (h), .int (nI x)])).length) Slot.unset).toArray = ls at hl ⊢
  have hl : lv_has ls 4 [(0, .ref (h)), (1, .int (nI x))] := hl
  have hP : va_P D vwCl (xW d h ad a w f) s.heap := hP
  refine lv_iconst (v := nI 0) hx hb dX0_load_0 (by decide) ?_
  refine lv_istore_n (lv' := [(2, .int (nI 0)), (0, .ref (h)), (1, .int (nI x))]) hx hb dX0_load_1 rfl hl (by decide) rfl (fun ls hl => ?_)
  refine x_loop (σ := (Nat) × (Nat → Nat → Int32)) 2 4 (fun st => (xW d h ad st.2 w f)) (fun st => [(0, .ref (h)), (1, .int (nI x)), (2, .int (nI st.1))]) (fun st => st.1 ≤ 81 ∧ (∀ k, k ≠ 5 → st.2 k = a k) ∧ ∀ j, j < st.1 → st.2 5 j = nI 0) (fun st => 81 - st.1) ?_ ((0, a)) (show 0 ≤ 81 ∧ (∀ k, k ≠ 5 → a k = a k) ∧ ∀ j, j < 0 → a 5 j = nI 0 from ⟨by omega, fun _ _ => rfl, fun j hj => absurd hj (by omega)⟩) hP hD hS (lv_sub hl [1, 2, 0] rfl)
  intro st hI ih H locs ls hP hD hS hl
  obtain ⟨i, a1⟩ := st
  have hI : i ≤ 81 ∧ (∀ k, k ≠ 5 → a1 k = a k) ∧ ∀ j, j < i → a1 5 j = nI 0 := hI
  have hl : lv_has ls 4 [(0, .ref (h)), (1, .int (nI x)), (2, .int (nI i))] := hl
  have hP : va_P D vwCl (xW d h ad a1 w f) H := hP
  have hD : va_D Fr (xW d h ad a1 w f) := hD
  obtain ⟨hi, hfr, hz⟩ := hI
  refine lv_iload_n hx hb dX0_load_2 rfl (lv_at hl 2 rfl) ?_
  refine lv_bipush (v := nI 81) hx hb dX0_load_3 (by decide) ?_
  refine x_ge hx hb (i) (81) rfl rfl (by omega) (by omega) (tgt := 21) dX0_load_5 (by decide) (fun c1 => ?_) (fun c1 => ?_)
  · have hi81 : i = 81 := by omega
    subst hi81
    refine lv_iconst (v := nI 0) hx hb dX0_load_21 (by decide) ?_
    refine lv_istore_n (lv' := [(2, .int (nI 0)), (0, .ref (h)), (1, .int (nI x))]) hx hb dX0_load_22 rfl hl (by decide) rfl (fun ls hl => ?_)
    refine x_loop (σ := (Nat) × (Nat → Nat → Int32)) 23 4 (fun st => (xW d h ad st.2 w f)) (fun st => [(0, .ref (h)), (1, .int (nI x)), (2, .int (nI st.1))]) (fun st => st.1 ≤ 7 ∧ (∀ k, k ≠ 5 → st.2 k = a k) ∧ ∀ p q, p < 9 → q < 9 → (st.2 5 (p * 9 + q)).toInt = ldI a x st.1 p q) (fun st => 7 - st.1) ?_ ((0, a1)) (show 0 ≤ 7 ∧ (∀ k, k ≠ 5 → a1 k = a k) ∧ ∀ p q, p < 9 → q < 9 → (a1 5 (p * 9 + q)).toInt = ldI a x 0 p q from ⟨by omega, hfr, fun p q hp hq => by rw [hz _ (by omega)]; unfold ldI; rw [if_neg (by omega)]; rfl⟩) hP hD hS (lv_sub hl [1, 2, 0] rfl)
    intro st hI2 ih2 H locs ls hP hD hS hl
    obtain ⟨u, a2⟩ := st
    have hI2 : u ≤ 7 ∧ (∀ k, k ≠ 5 → a2 k = a k) ∧ ∀ p q, p < 9 → q < 9 → (a2 5 (p * 9 + q)).toInt = ldI a x u p q := hI2
    have hl : lv_has ls 4 [(0, .ref (h)), (1, .int (nI x)), (2, .int (nI u))] := hl
    have hP : va_P D vwCl (xW d h ad a2 w f) H := hP
    have hD : va_D Fr (xW d h ad a2 w f) := hD
    obtain ⟨hu, hfr2, hz2⟩ := hI2
    refine lv_iload_n hx hb dX0_load_23 rfl (lv_at hl 2 rfl) ?_
    refine lv_bipush (v := nI 7) hx hb dX0_load_24 (by decide) ?_
    refine x_ge hx hb (u) (7) rfl rfl (by omega) (by omega) (tgt := 104) dX0_load_26 (by decide) (fun c2 => ?_) (fun c2 => ?_)
    · have hu7 : u = 7 := by omega
      subst hu7
      exact x_vretW (WS := xV d h ad) ((a2, w, f)) hx hb hr hlocks hS hP dX0_load_104 ⟨hfr2, rfl, rfl, fun p q hp hq => by rw [← ldI_7 a x hp hq]; exact hz2 p q hp hq⟩
    · refine lv_iconst (v := nI 0) hx hb dX0_load_29 (by decide) ?_
      refine lv_istore_n (lv' := [(3, .int (nI 0)), (0, .ref (h)), (1, .int (nI x)), (2, .int (nI u))]) hx hb dX0_load_30 rfl hl (by decide) rfl (fun ls hl => ?_)
      refine x_loop (σ := (Nat) × (Nat → Nat → Int32)) 31 4 (fun st => (xW d h ad st.2 w f)) (fun st => [(0, .ref (h)), (1, .int (nI x)), (2, .int (nI u)), (3, .int (nI st.1))]) (fun st => st.1 ≤ 7 ∧ (∀ k, k ≠ 5 → st.2 k = a k) ∧ ∀ p q, p < 9 → q < 9 → (st.2 5 (p * 9 + q)).toInt = if p = u ∧ q < st.1 then ldF a x u q else ldI a x u p q) (fun st => 7 - st.1) ?_ ((0, a2)) (show 0 ≤ 7 ∧ (∀ k, k ≠ 5 → a2 k = a k) ∧ ∀ p q, p < 9 → q < 9 → (a2 5 (p * 9 + q)).toInt = if p = u ∧ q < 0 then ldF a x u q else ldI a x u p q from ⟨by omega, hfr2, fun p q hp hq => by rw [if_neg (by omega)]; exact hz2 p q hp hq⟩) hP hD hS (lv_sub hl [1, 2, 3, 0] rfl)
      intro st hI3 ih3 H locs ls hP hD hS hl
      obtain ⟨v, a3⟩ := st
      have hI3 : v ≤ 7 ∧ (∀ k, k ≠ 5 → a3 k = a k) ∧ ∀ p q, p < 9 → q < 9 → (a3 5 (p * 9 + q)).toInt = if p = u ∧ q < v then ldF a x u q else ldI a x u p q := hI3
      have hl : lv_has ls 4 [(0, .ref (h)), (1, .int (nI x)), (2, .int (nI u)), (3, .int (nI v))] := hl
      have hP : va_P D vwCl (xW d h ad a3 w f) H := hP
      have hD : va_D Fr (xW d h ad a3 w f) := hD
      obtain ⟨hv, hfr3, hz3⟩ := hI3
      refine lv_iload_n hx hb dX0_load_31 rfl (lv_at hl 3 rfl) ?_
      refine lv_bipush (v := nI 7) hx hb dX0_load_32 (by decide) ?_
      refine x_ge hx hb (v) (7) rfl rfl (by omega) (by omega) (tgt := 65) dX0_load_34 (by decide) (fun c3 => ?_) (fun c3 => ?_)
      · have hv7 : v = 7 := by omega
        subst hv7
        have hg3 : DOK a3 := DOK_congr (fun k hk => (hfr3 k (by omega)).symm) hg
        refine lv_aload_n hx hb dX0_load_65 rfl (lv_at hl 0 rfl) ?_
        refine va_get (D := D) (ci := 0) (v := .ref (ad 5)) (C := RX0) (T := TX0) (N := 14) hx hb hts in_X0 hown hK hP 0 rfl rfl 5 (by decide) (hts _ q37) (fun _ h9 => h9) rfl dX0_load_66 ?_
        refine lv_bipush (v := nI 63) hx hb dX0_load_69 (by decide) ?_
        refine lv_iload_n hx hb dX0_load_71 rfl (lv_at hl 2 rfl) ?_
        refine lv_iadd hx hb dX0_load_72 ?_
        refine lv_aload_n hx hb dX0_load_73 rfl (lv_at hl 0 rfl) ?_
        refine lv_iload_n hx hb dX0_load_74 rfl (lv_at hl 2 rfl) ?_
        refine lv_iload_n hx hb dX0_load_75 rfl (lv_at hl 1 rfl) ?_
        refine x_roV (As := [.int (nI u), .int (nI x)]) (rest := [.int ((nI 63) + (nI u)), .ref (ad 5)]) ⟨hx, hb, hml, hown, hts⟩ (mX0_sourcePull l D d h ad a3 w f u x c2 hx5 hg3) (cwV 2 hts (lw_V q116 q118 qs2 q22 q119) rfl rfl rfl (by decide +kernel) ⟨Nat.le_of_ble_eq_true rfl, Nat.le_of_ble_eq_true rfl⟩) (va_recv hK hP (ci := 0) (q0 := 0) rfl rfl) hP hK hP hS hl rfl rfl (Nat.le_of_ble_eq_true rfl) dX0_load_76 ⟨Nat.zero_le _, Nat.zero_le _⟩ (fun r1 H locs e1 hP hS => ?_)
        refine x_ast hx hb hK hP hD hS 6 5 rfl rfl (63 + u) (by simp only [pk_mul, nI_add]) (by omega) (by decide) dX0_load_79 (fun H locs hP hD hS => ?_)
        have hP : va_P D vwCl (xW d h ad (va_up a3 5 (upd (a3 5) (63 + u) (r1))) w f) H := hP
        have hD : va_D Fr (xW d h ad (va_up a3 5 (upd (a3 5) (63 + u) (r1))) w f) := hD
        obtain ⟨a4, ea4⟩ : ∃ z, z = (va_up a3 5 (upd (a3 5) (63 + u) (r1))) := ⟨_, rfl⟩
        have hP : va_P D vwCl (xW d h ad a4 w f) H := by rw [ea4]; exact hP
        have hD : va_D Fr (xW d h ad a4 w f) := by rw [ea4]; exact hD
        have hfr4 : ∀ k, k ≠ 5 → a4 k = a k := fun k hk => by rw [ea4, va_up_n hk]; exact hfr3 k hk
        have hz4 : ∀ q, a4 5 q = if q = 63 + u then r1 else a3 5 q := fun q => by rw [ea4, va_up_s]; rfl
        have hg4 : DOK a4 := DOK_congr (fun k hk => (hfr4 k (by omega)).symm) hg
        refine lv_aload_n hx hb dX0_load_80 rfl (lv_at hl 0 rfl) ?_
        refine va_get (D := D) (ci := 0) (v := .ref (ad 5)) (C := RX0) (T := TX0) (N := 14) hx hb hts in_X0 hown hK hP 0 rfl rfl 5 (by decide) (hts _ q37) (fun _ h9 => h9) rfl dX0_load_81 ?_
        refine lv_iload_n hx hb dX0_load_84 rfl (lv_at hl 2 rfl) ?_
        refine lv_bipush (v := nI 9) hx hb dX0_load_85 (by decide) ?_
        refine lv_imul hx hb dX0_load_87 ?_
        refine lv_bipush (v := nI 8) hx hb dX0_load_88 (by decide) ?_
        refine lv_iadd hx hb dX0_load_90 ?_
        refine lv_aload_n hx hb dX0_load_91 rfl (lv_at hl 0 rfl) ?_
        refine lv_iload_n hx hb dX0_load_92 rfl (lv_at hl 2 rfl) ?_
        refine lv_iload_n hx hb dX0_load_93 rfl (lv_at hl 1 rfl) ?_
        refine x_roV (As := [.int (nI u), .int (nI x)]) (rest := [.int (((nI u) * (nI 9)) + (nI 8)), .ref (ad 5)]) ⟨hx, hb, hml, hown, hts⟩ (mX0_sinkPull l D d h ad a4 w f u x c2 hx5 hg4) (cwV 2 hts (lw_V q112 q114 qs1 q22 q115) rfl rfl rfl (by decide +kernel) ⟨Nat.le_of_ble_eq_true rfl, Nat.le_of_ble_eq_true rfl⟩) (va_recv hK hP (ci := 0) (q0 := 0) rfl rfl) hP hK hP hS hl rfl rfl (Nat.le_of_ble_eq_true rfl) dX0_load_94 ⟨Nat.zero_le _, Nat.zero_le _⟩ (fun r2 H locs e2 hP hS => ?_)
        refine x_ast hx hb hK hP hD hS 6 5 rfl rfl (u * 9 + 8) (by simp only [pk_mul, nI_add]) (by omega) (by decide) dX0_load_97 (fun H locs hP hD hS => ?_)
        have hP : va_P D vwCl (xW d h ad (va_up a4 5 (upd (a4 5) (u * 9 + 8) (r2))) w f) H := hP
        have hD : va_D Fr (xW d h ad (va_up a4 5 (upd (a4 5) (u * 9 + 8) (r2))) w f) := hD
        obtain ⟨a5, ea5⟩ : ∃ z, z = (va_up a4 5 (upd (a4 5) (u * 9 + 8) (r2))) := ⟨_, rfl⟩
        have hP : va_P D vwCl (xW d h ad a5 w f) H := by rw [ea5]; exact hP
        have hD : va_D Fr (xW d h ad a5 w f) := by rw [ea5]; exact hD
        have hfr5 : ∀ k, k ≠ 5 → a5 k = a k := fun k hk => by rw [ea5, va_up_n hk]; exact hfr4 k hk
        have hz5 : ∀ q, a5 5 q = if q = u * 9 + 8 then r2 else a4 5 q := fun q => by rw [ea5, va_up_s]; rfl
        rw [hfr3 1 (by omega), hfr3 2 (by omega)] at e1
        rw [hfr4 3 (by omega), hfr4 4 (by omega)] at e2
        refine lv_iinc (v := nI (u + 1)) (lv' := [(2, .int (nI (u + 1))), (0, .ref (h)), (1, .int (nI x)), (3, .int (nI 7))]) hx hb dX0_load_98 hl (k := 2) rfl (x_inc _) (by decide) rfl (fun ls hl => ?_)
        refine lv_goto (tgt := 23) hx hb dX0_load_101 (by decide) ?_
        exact ih2 ((u + 1, a5)) (show (u + 1) ≤ 7 ∧ (∀ k, k ≠ 5 → a5 k = a k) ∧ ∀ p q, p < 9 → q < 9 → (a5 5 (p * 9 + q)).toInt = ldI a x (u + 1) p q from ⟨by omega, hfr5, fun p q hp hq => by
                rw [hz5]
                by_cases d1 : p * 9 + q = u * 9 + 8
                · obtain ⟨rfl, rfl⟩ : p = u ∧ q = 8 := by omega
                  rw [if_pos rfl, e2]
                  unfold ldI
                  rw [if_pos (by omega)]
                  simp [ldF, c2]
                · rw [if_neg d1, hz4]
                  by_cases d2 : p * 9 + q = 63 + u
                  · obtain ⟨rfl, rfl⟩ : p = 7 ∧ q = u := by omega
                    rw [if_pos (by omega), e1]
                    unfold ldI
                    rw [if_pos (by omega)]
                    simp [ldF, c2]
                  · rw [if_neg d2, hz3 p q hp hq]
                    unfold ldI
                    by_cases d3 : p = u ∧ q < 7
                    · obtain ⟨rfl, d4⟩ := d3
                      rw [if_pos ⟨rfl, d4⟩, if_pos (by omega)]
                    · rw [if_neg d3]
                      by_cases d5 : p < u ∨ (p = 7 ∧ q < u)
                      · rw [if_pos d5, if_pos (by omega)]
                      · rw [if_neg d5]
                        by_cases d6 : p < u + 1 ∨ (p = 7 ∧ q < u + 1)
                        · obtain ⟨rfl, rfl⟩ : p = u ∧ q = 7 := by omega
                          rw [if_pos d6]
                          simp [ldF, c2]
                        · rw [if_neg d6]⟩) (by show 7 - (u + 1) < 7 - u; omega) _ _ _ hP hD hS (lv_sub hl [1, 2, 0] rfl)
      · refine lv_aload_n hx hb dX0_load_37 rfl (lv_at hl 0 rfl) ?_
        refine va_get (D := D) (ci := 0) (v := .ref (ad 5)) (C := RX0) (T := TX0) (N := 14) hx hb hts in_X0 hown hK hP 0 rfl rfl 5 (by decide) (hts _ q37) (fun _ h9 => h9) rfl dX0_load_38 ?_
        refine lv_iload_n hx hb dX0_load_41 rfl (lv_at hl 2 rfl) ?_
        refine lv_bipush (v := nI 9) hx hb dX0_load_42 (by decide) ?_
        refine lv_imul hx hb dX0_load_44 ?_
        refine lv_iload_n hx hb dX0_load_45 rfl (lv_at hl 3 rfl) ?_
        refine lv_iadd hx hb dX0_load_46 ?_
        refine lv_aload_n hx hb dX0_load_47 rfl (lv_at hl 0 rfl) ?_
        refine va_get (D := D) (ci := 0) (v := .ref (ad 0)) (C := RX0) (T := TX0) (N := 14) hx hb hts in_X0 hown hK hP 0 rfl rfl 0 (by decide) (hts _ q32) (fun _ h9 => h9) rfl dX0_load_48 ?_
        refine lv_iload_n hx hb dX0_load_51 rfl (lv_at hl 2 rfl) ?_
        refine lv_bipush (v := nI 7) hx hb dX0_load_52 (by decide) ?_
        refine lv_imul hx hb dX0_load_54 ?_
        refine lv_iload_n hx hb dX0_load_55 rfl (lv_at hl 3 rfl) ?_
        refine lv_iadd hx hb dX0_load_56 ?_
        refine x_ald hx hb hK hP 1 0 rfl rfl (u * 7 + v) (by simp only [pk_mul, nI_add]) (by omega) (by decide) dX0_load_57 ?_
        refine x_ast hx hb hK hP hD hS 6 5 rfl rfl (u * 9 + v) (by simp only [pk_mul, nI_add]) (by omega) (by decide) dX0_load_58 (fun H locs hP hD hS => ?_)
        have hP : va_P D vwCl (xW d h ad (va_up a3 5 (upd (a3 5) (u * 9 + v) (a3 0 (u * 7 + v)))) w f) H := hP
        have hD : va_D Fr (xW d h ad (va_up a3 5 (upd (a3 5) (u * 9 + v) (a3 0 (u * 7 + v)))) w f) := hD
        refine lv_iinc (v := nI (v + 1)) (lv' := [(3, .int (nI (v + 1))), (0, .ref (h)), (1, .int (nI x)), (2, .int (nI u))]) hx hb dX0_load_59 hl (k := 3) rfl (x_inc _) (by decide) rfl (fun ls hl => ?_)
        refine lv_goto (tgt := 31) hx hb dX0_load_62 (by decide) ?_
        exact ih3 ((v + 1, (va_up a3 5 (upd (a3 5) (u * 9 + v) (a3 0 (u * 7 + v)))))) (show (v + 1) ≤ 7 ∧ (∀ k, k ≠ 5 → ((va_up a3 5 (upd (a3 5) (u * 9 + v) (a3 0 (u * 7 + v))))) k = a k) ∧ ∀ p q, p < 9 → q < 9 → (((va_up a3 5 (upd (a3 5) (u * 9 + v) (a3 0 (u * 7 + v))))) 5 (p * 9 + q)).toInt = if p = u ∧ q < (v + 1) then ldF a x u q else ldI a x u p q from ⟨by omega, fun k hk => by rw [va_up_n hk]; exact hfr3 k hk, fun p q hp hq => by
                rw [va_up_s]
                unfold upd
                by_cases d1 : p * 9 + q = u * 9 + v
                · obtain ⟨rfl, rfl⟩ : p = u ∧ q = v := by omega
                  rw [if_pos rfl, if_pos ⟨rfl, by omega⟩, hfr3 0 (by omega)]
                  simp [ldF, c2, c3]
                · rw [if_neg d1, hz3 p q hp hq]
                  by_cases d2 : p = u ∧ q < v
                  · rw [if_pos d2, if_pos ⟨d2.1, by omega⟩]
                  · rw [if_neg d2, if_neg (by omega)]⟩) (by show 7 - (v + 1) < 7 - v; omega) _ _ _ hP hD hS (lv_sub hl [1, 2, 3, 0] rfl)
  · refine lv_aload_n hx hb dX0_load_8 rfl (lv_at hl 0 rfl) ?_
    refine va_get (D := D) (ci := 0) (v := .ref (ad 5)) (C := RX0) (T := TX0) (N := 14) hx hb hts in_X0 hown hK hP 0 rfl rfl 5 (by decide) (hts _ q37) (fun _ h9 => h9) rfl dX0_load_9 ?_
    refine lv_iload_n hx hb dX0_load_12 rfl (lv_at hl 2 rfl) ?_
    refine lv_iconst (v := nI 0) hx hb dX0_load_13 (by decide) ?_
    refine x_ast hx hb hK hP hD hS 6 5 rfl rfl (i) rfl (by omega) (by decide) dX0_load_14 (fun H locs hP hD hS => ?_)
    have hP : va_P D vwCl (xW d h ad (va_up a1 5 (upd (a1 5) (i) (nI 0))) w f) H := hP
    have hD : va_D Fr (xW d h ad (va_up a1 5 (upd (a1 5) (i) (nI 0))) w f) := hD
    refine lv_iinc (v := nI (i + 1)) (lv' := [(2, .int (nI (i + 1))), (0, .ref (h)), (1, .int (nI x))]) hx hb dX0_load_15 hl (k := 2) rfl (x_inc _) (by decide) rfl (fun ls hl => ?_)
    refine lv_goto (tgt := 2) hx hb dX0_load_18 (by decide) ?_
    exact ih ((i + 1, (va_up a1 5 (upd (a1 5) (i) (nI 0))))) (show (i + 1) ≤ 81 ∧ (∀ k, k ≠ 5 → ((va_up a1 5 (upd (a1 5) (i) (nI 0)))) k = a k) ∧ ∀ j, j < (i + 1) → ((va_up a1 5 (upd (a1 5) (i) (nI 0)))) 5 j = nI 0 from ⟨by omega, fun k hk => by rw [va_up_n hk]; exact hfr k hk, fun j hj => by
          rw [va_up_s]
          unfold upd
          split
          · rfl
          · exact hz j (by omega)⟩) (by show 81 - (i + 1) < 81 - i; omega) _ _ _ hP hD hS (lv_sub hl [1, 2, 0] rfl)
set_option maxHeartbeats 4000000 in
set_option maxRecDepth 100000 in
theorem mX0_findWay (l : Launch) (D : va_G) (d : Nat → ClassId) (h : Nat) (ad : Nat → Nat) (Fr : Nat → Prop) (a : Nat → Nat → Int32) (w f : Int32)  (hD : va_D Fr (xW d h ad a w f)) : Met l yX0_findWay (ws_ yX0_findWay cX0_findWay 4 (some .boolean)) xr0 (x_Pc D (xT d) (xW d h ad a w f) [.ref (h)]) (va_Qi (fun r (u : xS) => (∀ k, k ≠ 8 → k ≠ 9 → u.1 k = a k) ∧ u.2.1 = w ∧ u.2.2 = f ∧ ((r = nI 1 ∧ ∃ (k : Nat) (pt : Nat → Nat), Way (zL (a 5)) k pt ∧ ∀ t, t < k → u.1 9 (pt (t + 1)) = nI (pt t)) ∨ (r = nI 0 ∧ ∃ T : Nat → Bool, T 7 = true ∧ T 8 = false ∧ Clo (zL (a 5)) T))) (fun u t => va_P D vwCl (xV d h ad u) t.heap) Fr) 0 0 Fr := by
  refine Met.ofW (cc := cX0_findWay) (maxL := 4) (ret := (some .boolean)) (by decide) rfl ?_
  intro p e s m args below meth c s₁ B hml hv
  obtain ⟨rfl, hP, hK⟩ := hv
  have hx := B.exec
  have hb := B.bytes
  have hr := B.returns
  have hlocks := B.notSynchronized
  have hts := atoms_spec (ws := (ws_ yX0_findWay cX0_findWay 4 (some .boolean))) B.pre
  have hts : ∀ w ∈ lw_all, w.before _ s = true := fun w h => hts w (List.mem_cons_of_mem _ h)
  have hown : s.vm.findClass RX0 = some m.cls := findClass_of_methodNamed B.named
  have hS : va_S Fr s.heap s.heap [] := va_S.rf
  have hl := lv_entry ([.ref (h)]) (n := 4) (Nat.le_of_ble_eq_true rfl)
  rw [lg_entry_eq]
  generalize (lg_sl ([.ref (h)]) ++ List.replicate (4 - (lg_sl ([.ref (h)])).length) Slot.unset).toArray = ls at hl ⊢
  have hl : lv_has ls 4 [(0, .ref (h))] := hl
  have hP : va_P D vwCl (xW d h ad a w f) s.heap := hP
  refine lv_iconst (v := nI 0) hx hb dX0_findWay_0 (by decide) ?_
  refine lv_istore_n (lv' := [(1, .int (nI 0)), (0, .ref (h))]) hx hb dX0_findWay_1 rfl hl (by decide) rfl (fun ls hl => ?_)
  refine x_loop (σ := (Nat) × (Nat → Nat → Int32)) 2 4 (fun st => (xW d h ad st.2 w f)) (fun st => [(0, .ref (h)), (1, .int (nI st.1))]) (fun st => st.1 ≤ 9 ∧ (∀ k, k ≠ 8 → k ≠ 9 → st.2 k = a k) ∧ ∀ j, j < st.1 → st.2 9 j = -1) (fun st => 9 - st.1) ?_ ((0, a)) (show 0 ≤ 9 ∧ (∀ k, k ≠ 8 → k ≠ 9 → a k = a k) ∧ ∀ j, j < 0 → a 9 j = -1 from ⟨by omega, fun _ _ _ => rfl, fun j hj => absurd hj (by omega)⟩) hP hD hS (lv_sub hl [1, 0] rfl)
  intro st hI ih H locs ls hP hD hS hl
  obtain ⟨i, a1⟩ := st
  have hI : i ≤ 9 ∧ (∀ k, k ≠ 8 → k ≠ 9 → a1 k = a k) ∧ ∀ j, j < i → a1 9 j = -1 := hI
  have hl : lv_has ls 4 [(0, .ref (h)), (1, .int (nI i))] := hl
  have hP : va_P D vwCl (xW d h ad a1 w f) H := hP
  have hD : va_D Fr (xW d h ad a1 w f) := hD
  obtain ⟨hi, hfr, hz⟩ := hI
  refine lv_iload_n hx hb dX0_findWay_2 rfl (lv_at hl 1 rfl) ?_
  refine lv_bipush (v := nI 9) hx hb dX0_findWay_3 (by decide) ?_
  refine x_ge hx hb (i) (9) rfl rfl (by omega) (by omega) (tgt := 21) dX0_findWay_5 (by decide) (fun c1 => ?_) (fun c1 => ?_)
  · have hi9 : i = 9 := by omega
    subst hi9
    refine lv_aload_n hx hb dX0_findWay_21 rfl (lv_at hl 0 rfl) ?_
    refine va_get (D := D) (ci := 0) (v := .ref (ad 9)) (C := RX0) (T := TX0) (N := 14) hx hb hts in_X0 hown hK hP 0 rfl rfl 9 (by decide) (hts _ q41) (fun _ h9 => h9) rfl dX0_findWay_22 ?_
    refine lv_bipush (v := nI 7) hx hb dX0_findWay_25 (by decide) ?_
    refine lv_bipush (v := nI 7) hx hb dX0_findWay_27 (by decide) ?_
    refine x_ast hx hb hK hP hD hS 8 7 rfl rfl (7) rfl (by decide) (by decide) dX0_findWay_29 (fun H locs hP hD hS => ?_)
    have hP : va_P D vwCl (xW d h ad (va_up a1 9 (upd (a1 9) (7) (nI 7))) w f) H := hP
    have hD : va_D Fr (xW d h ad (va_up a1 9 (upd (a1 9) (7) (nI 7))) w f) := hD
    refine lv_aload_n hx hb dX0_findWay_30 rfl (lv_at hl 0 rfl) ?_
    refine va_get (D := D) (ci := 0) (v := .ref (ad 8)) (C := RX0) (T := TX0) (N := 14) hx hb hts in_X0 hown hK hP 0 rfl rfl 8 (by decide) (hts _ q40) (fun _ h9 => h9) rfl dX0_findWay_31 ?_
    refine lv_iconst (v := nI 0) hx hb dX0_findWay_34 (by decide) ?_
    refine lv_bipush (v := nI 7) hx hb dX0_findWay_35 (by decide) ?_
    refine x_ast hx hb hK hP hD hS 7 6 rfl rfl (0) rfl (by decide) (by decide) dX0_findWay_37 (fun H locs hP hD hS => ?_)
    have hP : va_P D vwCl (xW d h ad (va_up (va_up a1 9 (upd (a1 9) (7) (nI 7))) 8 (upd ((va_up a1 9 (upd (a1 9) (7) (nI 7))) 8) (0) (nI 7))) w f) H := hP
    have hD : va_D Fr (xW d h ad (va_up (va_up a1 9 (upd (a1 9) (7) (nI 7))) 8 (upd ((va_up a1 9 (upd (a1 9) (7) (nI 7))) 8) (0) (nI 7))) w f) := hD
    refine lv_iconst (v := nI 1) hx hb dX0_findWay_38 (by decide) ?_
    refine lv_istore_n (lv' := [(1, .int (nI 1)), (0, .ref (h))]) hx hb dX0_findWay_39 rfl hl (by decide) rfl (fun ls hl => ?_)
    refine lv_iconst (v := nI 0) hx hb dX0_findWay_40 (by decide) ?_
    refine lv_istore_n (lv' := [(2, .int (nI 0)), (1, .int (nI 1)), (0, .ref (h))]) hx hb dX0_findWay_41 rfl hl (by decide) rfl (fun ls hl => ?_)
    obtain ⟨a2, ea2⟩ : ∃ z, z = (va_up (va_up a1 9 (upd (a1 9) (7) (nI 7))) 8 (upd ((va_up a1 9 (upd (a1 9) (7) (nI 7))) 8) (0) (nI 7))) := ⟨_, rfl⟩
    have hP : va_P D vwCl (xW d h ad a2 w f) H := by rw [ea2]; exact hP
    have hD : va_D Fr (xW d h ad a2 w f) := by rw [ea2]; exact hD
    have hfr2 : ∀ k, k ≠ 8 → k ≠ 9 → a2 k = a k := fun k h8 h9 => by rw [ea2, va_up_n h8, va_up_n h9]; exact hfr k h8 h9
    have hq2 : a2 8 0 = nI 7 := by rw [ea2, va_up_s]; rfl
    have hc2 : ∀ v, v < 9 → a2 9 v = if v = 7 then nI 7 else -1 := fun v hv => by rw [ea2, va_up_n (by omega), va_up_s]; unfold upd; split; rfl; exact hz v hv
    have hB0 : BQ (zL (a 5)) (a2 8) (a2 9) 0 0 1 (fun _ => 7) := by
      have hf : ∀ v, v < 9 → (0 ≤ (a2 9 v).toInt ↔ v = 7) := by
        intro v hv
        rw [hc2 v hv]
        by_cases d1 : v = 7
        · rw [if_pos d1]; exact ⟨fun _ => d1, fun _ => by decide⟩
        · rw [if_neg d1]; exact ⟨fun q => absurd q (by decide), fun q => absurd q d1⟩
      refine ⟨⟨by omega, by omega⟩, fun j hj => ⟨by show 7 < 9; omega, ?_⟩, rfl, ?_, fun v hv => ?_, fun j j' hj hj' _ => by omega, fun j h1 h2 => by omega, fun j hj => by omega, fun q => ?_, fun _ j h1 h2 => by omega, fun q => by omega⟩
      · have : j = 0 := by omega
        subst this; exact hq2
      · have e0 : cnt (fnd (a2 9)) 9 = cnt (fun v => v == 7) 9 := cnt_congr 9 (fun v hv => by
          show decide _ = _
          by_cases d1 : v = 7
          · subst d1; exact decide_eq_true ((hf 7 (by omega)).mpr rfl)
          · rw [decide_eq_false (fun q => d1 ((hf v hv).mp q))]; simp [d1])
        rw [e0]; rfl
      · rw [hf v hv]
        exact ⟨fun q => ⟨0, by omega, q.symm⟩, fun ⟨j, _, q⟩ => q.symm⟩
      · have := (hf 8 (by omega)).mp q
        omega
    refine x_loop (σ := (Nat) × (Nat) × (Nat → Nat) × (Nat → Nat → Int32)) 42 4 (fun st => (xW d h ad st.2.2.2 w f)) (fun st => [(0, .ref (h)), (1, .int (nI st.2.1)), (2, .int (nI st.1))]) (fun st => (∀ k, k ≠ 8 → k ≠ 9 → st.2.2.2 k = a k) ∧ BQ (zL (a 5)) (st.2.2.2 8) (st.2.2.2 9) st.1 st.1 st.2.1 st.2.2.1) (fun st => 9 - st.1) ?_ ((0, 1, fun _ => 7, a2)) (show (∀ k, k ≠ 8 → k ≠ 9 → a2 k = a k) ∧ BQ (zL (a 5)) (a2 8) (a2 9) 0 0 1 (fun _ => 7) from ⟨hfr2, hB0⟩) hP hD hS (lv_sub hl [2, 1, 0] rfl)
    intro st hI2 ih2 H locs ls hP hD hS hl
    obtain ⟨i, en, qn, a3⟩ := st
    have hI2 : (∀ k, k ≠ 8 → k ≠ 9 → a3 k = a k) ∧ BQ (zL (a 5)) (a3 8) (a3 9) i i en qn := hI2
    have hl : lv_has ls 4 [(0, .ref (h)), (1, .int (nI en)), (2, .int (nI i))] := hl
    have hP : va_P D vwCl (xW d h ad a3 w f) H := hP
    have hD : va_D Fr (xW d h ad a3 w f) := hD
    obtain ⟨hfr3, hB⟩ := hI2
    have hen : en ≤ 9 := by rw [hB.2.2.2.1]; exact cnt_le _ 9
    have hien := hB.1
    refine lv_iload_n hx hb dX0_findWay_42 rfl (lv_at hl 2 rfl) ?_
    refine lv_iload_n hx hb dX0_findWay_43 rfl (lv_at hl 1 rfl) ?_
    refine x_ge hx hb (i) (en) rfl rfl (by omega) (by omega) (tgt := 127) dX0_findWay_44 (by decide) (fun c2 => ?_) (fun c2 => ?_)
    · refine lv_aload_n hx hb dX0_findWay_127 rfl (lv_at hl 0 rfl) ?_
      refine va_get (D := D) (ci := 0) (v := .ref (ad 9)) (C := RX0) (T := TX0) (N := 14) hx hb hts in_X0 hown hK hP 0 rfl rfl 9 (by decide) (hts _ q41) (fun _ h9 => h9) rfl dX0_findWay_128 ?_
      refine lv_bipush (v := nI 8) hx hb dX0_findWay_131 (by decide) ?_
      refine x_ald hx hb hK hP 8 7 rfl rfl (8) rfl (by decide) (by decide) dX0_findWay_133 ?_
      refine lv_if_lt (tgt := 141) hx hb dX0_findWay_134 (by decide) (fun c9 => ?_) (fun c9 => ?_)
      · rw [z_lt] at c9
        have hz0 : (0 : Int32).toInt = 0 := rfl
        refine lv_iconst (v := nI 0) hx hb dX0_findWay_141 (by decide) ?_
        exact x_zretW (WS := xV d h ad) ((a3, w, f)) hx hb hr hlocks hS hP dX0_findWay_142 (Or.inl rfl) ⟨hfr3, rfl, rfl, Or.inr ⟨rfl, BQ_no hB c2 (by omega)⟩⟩
      · rw [z_lt] at c9
        have hz0 : (0 : Int32).toInt = 0 := rfl
        refine lv_iconst (v := nI 1) hx hb dX0_findWay_137 (by decide) ?_
        refine lv_goto (tgt := 142) hx hb dX0_findWay_138 (by decide) ?_
        exact x_zretW (WS := xV d h ad) ((a3, w, f)) hx hb hr hlocks hS hP dX0_findWay_142 (Or.inr rfl) ⟨hfr3, rfl, rfl, Or.inl ⟨rfl, BQ_yes hB (show 0 ≤ (a3 9 8).toInt by omega)⟩⟩
    · refine lv_aload_n hx hb dX0_findWay_47 rfl (lv_at hl 0 rfl) ?_
      refine va_get (D := D) (ci := 0) (v := .ref (ad 9)) (C := RX0) (T := TX0) (N := 14) hx hb hts in_X0 hown hK hP 0 rfl rfl 9 (by decide) (hts _ q41) (fun _ h9 => h9) rfl dX0_findWay_48 ?_
      refine lv_bipush (v := nI 8) hx hb dX0_findWay_51 (by decide) ?_
      refine x_ald hx hb hK hP 8 7 rfl rfl (8) rfl (by decide) (by decide) dX0_findWay_53 ?_
      refine lv_if_ge (tgt := 127) hx hb dX0_findWay_54 (by decide) (fun c3 => ?_) (fun c3 => ?_)
      · rw [z_le] at c3
        have hz0 : (0 : Int32).toInt = 0 := rfl
        refine lv_aload_n hx hb dX0_findWay_127 rfl (lv_at hl 0 rfl) ?_
        refine va_get (D := D) (ci := 0) (v := .ref (ad 9)) (C := RX0) (T := TX0) (N := 14) hx hb hts in_X0 hown hK hP 0 rfl rfl 9 (by decide) (hts _ q41) (fun _ h9 => h9) rfl dX0_findWay_128 ?_
        refine lv_bipush (v := nI 8) hx hb dX0_findWay_131 (by decide) ?_
        refine x_ald hx hb hK hP 8 7 rfl rfl (8) rfl (by decide) (by decide) dX0_findWay_133 ?_
        refine lv_if_lt (tgt := 141) hx hb dX0_findWay_134 (by decide) (fun c9 => ?_) (fun c9 => ?_)
        · rw [z_lt] at c9
          have hz0 : (0 : Int32).toInt = 0 := rfl
          refine lv_iconst (v := nI 0) hx hb dX0_findWay_141 (by decide) ?_
          exact absurd c9 (by omega)
        · rw [z_lt] at c9
          have hz0 : (0 : Int32).toInt = 0 := rfl
          refine lv_iconst (v := nI 1) hx hb dX0_findWay_137 (by decide) ?_
          refine lv_goto (tgt := 142) hx hb dX0_findWay_138 (by decide) ?_
          exact x_zretW (WS := xV d h ad) ((a3, w, f)) hx hb hr hlocks hS hP dX0_findWay_142 (Or.inr rfl) ⟨hfr3, rfl, rfl, Or.inl ⟨rfl, BQ_yes hB (show 0 ≤ (a3 9 8).toInt by omega)⟩⟩
      · rw [z_le] at c3
        have hz0 : (0 : Int32).toInt = 0 := rfl
        refine lv_iconst (v := nI 0) hx hb dX0_findWay_57 (by decide) ?_
        refine lv_istore_n (lv' := [(3, .int (nI 0)), (0, .ref (h)), (1, .int (nI en)), (2, .int (nI i))]) hx hb dX0_findWay_58 rfl hl (by decide) rfl (fun ls hl => ?_)
        refine x_loop (σ := (Nat) × (Nat) × (Nat → Nat) × (Nat → Nat → Int32)) 59 4 (fun st => (xW d h ad st.2.2.2 w f)) (fun st => [(0, .ref (h)), (1, .int (nI st.2.1)), (2, .int (nI i)), (3, .int (nI st.1))]) (fun st => st.1 ≤ 9 ∧ i < st.2.1 ∧ (∀ k, k ≠ 8 → k ≠ 9 → st.2.2.2 k = a k) ∧ BQ (zL (a 5)) (st.2.2.2 8) (st.2.2.2 9) i (i + 1) st.2.1 st.2.2.1 ∧ ∀ z, z < st.1 → 0 < zL (a 5) (st.2.2.1 i * 9 + z) → 0 ≤ (st.2.2.2 9 z).toInt) (fun st => 9 - st.1) ?_ ((0, en, qn, a3)) (show 0 ≤ 9 ∧ i < en ∧ (∀ k, k ≠ 8 → k ≠ 9 → a3 k = a k) ∧ BQ (zL (a 5)) (a3 8) (a3 9) i (i + 1) en qn ∧ ∀ z, z < 0 → 0 < zL (a 5) (qn i * 9 + z) → 0 ≤ (a3 9 z).toInt from ⟨by omega, c2, hfr3, BQ_wk hB (by omega), fun z hz => absurd hz (by omega)⟩) hP hD hS (lv_sub hl [1, 2, 3, 0] rfl)
        intro st hI3 ih3 H locs ls hP hD hS hl
        obtain ⟨v, en2, qm, a4⟩ := st
        have hI3 : v ≤ 9 ∧ i < en2 ∧ (∀ k, k ≠ 8 → k ≠ 9 → a4 k = a k) ∧ BQ (zL (a 5)) (a4 8) (a4 9) i (i + 1) en2 qm ∧ ∀ z, z < v → 0 < zL (a 5) (qm i * 9 + z) → 0 ≤ (a4 9 z).toInt := hI3
        have hl : lv_has ls 4 [(0, .ref (h)), (1, .int (nI en2)), (2, .int (nI i)), (3, .int (nI v))] := hl
        have hP : va_P D vwCl (xW d h ad a4 w f) H := hP
        have hD : va_D Fr (xW d h ad a4 w f) := hD
        obtain ⟨hv, hie, hfr4, hB4, hcl⟩ := hI3
        have hen2 : en2 ≤ 9 := by rw [hB4.2.2.2.1]; exact cnt_le _ 9
        have hqi := hB4.2.1 i hie
        refine lv_iload_n hx hb dX0_findWay_59 rfl (lv_at hl 3 rfl) ?_
        refine lv_bipush (v := nI 9) hx hb dX0_findWay_60 (by decide) ?_
        refine x_ge hx hb (v) (9) rfl rfl (by omega) (by omega) (tgt := 121) dX0_findWay_62 (by decide) (fun c4 => ?_) (fun c4 => ?_)
        · have hv9 : v = 9 := by omega
          subst hv9
          refine lv_iinc (v := nI (i + 1)) (lv' := [(2, .int (nI (i + 1))), (0, .ref (h)), (1, .int (nI en2)), (3, .int (nI 9))]) hx hb dX0_findWay_121 hl (k := 2) rfl (x_inc _) (by decide) rfl (fun ls hl => ?_)
          refine lv_goto (tgt := 42) hx hb dX0_findWay_124 (by decide) ?_
          exact ih2 ((i + 1, en2, qm, a4)) (show (∀ k, k ≠ 8 → k ≠ 9 → a4 k = a k) ∧ BQ (zL (a 5)) (a4 8) (a4 9) (i + 1) (i + 1) en2 qm from ⟨hfr4, BQ_next hB4 hie (fun z hz => hcl z hz)⟩) (by show 9 - (i + 1) < 9 - i; omega) _ _ _ hP hD hS (lv_sub hl [1, 2, 0] rfl)
        · refine lv_aload_n hx hb dX0_findWay_65 rfl (lv_at hl 0 rfl) ?_
          refine va_get (D := D) (ci := 0) (v := .ref (ad 9)) (C := RX0) (T := TX0) (N := 14) hx hb hts in_X0 hown hK hP 0 rfl rfl 9 (by decide) (hts _ q41) (fun _ h9 => h9) rfl dX0_findWay_66 ?_
          refine lv_iload_n hx hb dX0_findWay_69 rfl (lv_at hl 3 rfl) ?_
          refine x_ald hx hb hK hP 8 7 rfl rfl (v) rfl c4 (by decide) dX0_findWay_70 ?_
          refine lv_if_ge (tgt := 115) hx hb dX0_findWay_71 (by decide) (fun c5 => ?_) (fun c5 => ?_)
          · rw [z_le] at c5
            have hz0 : (0 : Int32).toInt = 0 := rfl
            refine lv_iinc (v := nI (v + 1)) (lv' := [(3, .int (nI (v + 1))), (0, .ref (h)), (1, .int (nI en2)), (2, .int (nI i))]) hx hb dX0_findWay_115 hl (k := 3) rfl (x_inc _) (by decide) rfl (fun ls hl => ?_)
            refine lv_goto (tgt := 59) hx hb dX0_findWay_118 (by decide) ?_
            exact ih3 ((v + 1, en2, qm, a4)) (show (v + 1) ≤ 9 ∧ i < en2 ∧ (∀ k, k ≠ 8 → k ≠ 9 → a4 k = a k) ∧ BQ (zL (a 5)) (a4 8) (a4 9) i (i + 1) en2 qm ∧ ∀ z, z < (v + 1) → 0 < zL (a 5) (qm i * 9 + z) → 0 ≤ (a4 9 z).toInt from ⟨by omega, hie, hfr4, hB4, fun z hz hzL => by
                    rcases Nat.lt_or_ge z v with q | q
                    · exact hcl z q hzL
                    · have : z = v := by omega
                      subst this
                      omega⟩) (by show 9 - (v + 1) < 9 - v; omega) _ _ _ hP hD hS (lv_sub hl [1, 2, 3, 0] rfl)
          · rw [z_le] at c5
            have hz0 : (0 : Int32).toInt = 0 := rfl
            refine lv_aload_n hx hb dX0_findWay_74 rfl (lv_at hl 0 rfl) ?_
            refine va_get (D := D) (ci := 0) (v := .ref (ad 5)) (C := RX0) (T := TX0) (N := 14) hx hb hts in_X0 hown hK hP 0 rfl rfl 5 (by decide) (hts _ q37) (fun _ h9 => h9) rfl dX0_findWay_75 ?_
            refine lv_aload_n hx hb dX0_findWay_78 rfl (lv_at hl 0 rfl) ?_
            refine va_get (D := D) (ci := 0) (v := .ref (ad 8)) (C := RX0) (T := TX0) (N := 14) hx hb hts in_X0 hown hK hP 0 rfl rfl 8 (by decide) (hts _ q40) (fun _ h9 => h9) rfl dX0_findWay_79 ?_
            refine lv_iload_n hx hb dX0_findWay_82 rfl (lv_at hl 2 rfl) ?_
            refine x_ald hx hb hK hP 7 6 rfl rfl (i) rfl (by omega) (by decide) dX0_findWay_83 ?_
            refine lv_bipush (v := nI 9) hx hb dX0_findWay_84 (by decide) ?_
            refine lv_imul hx hb dX0_findWay_86 ?_
            refine lv_iload_n hx hb dX0_findWay_87 rfl (lv_at hl 3 rfl) ?_
            refine lv_iadd hx hb dX0_findWay_88 ?_
            refine x_ald hx hb hK hP 6 5 rfl rfl (qm i * 9 + v) (by rw [hqi.2]; simp only [pk_mul, nI_add]) (by omega) (by decide) dX0_findWay_89 ?_
            refine x_top (y := a 5 (qm i * 9 + v)) (by rw [hfr4 5 (by omega) (by omega)]) ?_
            refine lv_if_le (tgt := 115) hx hb dX0_findWay_90 (by decide) (fun c6 => ?_) (fun c6 => ?_)
            · rw [z_le] at c6
              refine lv_iinc (v := nI (v + 1)) (lv' := [(3, .int (nI (v + 1))), (0, .ref (h)), (1, .int (nI en2)), (2, .int (nI i))]) hx hb dX0_findWay_115 hl (k := 3) rfl (x_inc _) (by decide) rfl (fun ls hl => ?_)
              refine lv_goto (tgt := 59) hx hb dX0_findWay_118 (by decide) ?_
              exact ih3 ((v + 1, en2, qm, a4)) (show (v + 1) ≤ 9 ∧ i < en2 ∧ (∀ k, k ≠ 8 → k ≠ 9 → a4 k = a k) ∧ BQ (zL (a 5)) (a4 8) (a4 9) i (i + 1) en2 qm ∧ ∀ z, z < (v + 1) → 0 < zL (a 5) (qm i * 9 + z) → 0 ≤ (a4 9 z).toInt from ⟨by omega, hie, hfr4, hB4, fun z hz hzL => by
                      rcases Nat.lt_or_ge z v with q | q
                      · exact hcl z q hzL
                      · have : z = v := by omega
                        subst this
                        have hzL : 0 < (a 5 (qm i * 9 + z)).toInt := hzL
                        omega⟩) (by show 9 - (v + 1) < 9 - v; omega) _ _ _ hP hD hS (lv_sub hl [1, 2, 3, 0] rfl)
            · rw [z_le] at c6
              have hroom := BQ_room hB4 c4 (by omega)
              have hB5 := BQ_add hB4 hie (by omega) c4 (by omega) (show 0 < zL (a 5) (qm i * 9 + v) by show 0 < (a 5 (qm i * 9 + v)).toInt; omega)
              refine lv_aload_n hx hb dX0_findWay_93 rfl (lv_at hl 0 rfl) ?_
              refine va_get (D := D) (ci := 0) (v := .ref (ad 9)) (C := RX0) (T := TX0) (N := 14) hx hb hts in_X0 hown hK hP 0 rfl rfl 9 (by decide) (hts _ q41) (fun _ h9 => h9) rfl dX0_findWay_94 ?_
              refine lv_iload_n hx hb dX0_findWay_97 rfl (lv_at hl 3 rfl) ?_
              refine lv_aload_n hx hb dX0_findWay_98 rfl (lv_at hl 0 rfl) ?_
              refine va_get (D := D) (ci := 0) (v := .ref (ad 8)) (C := RX0) (T := TX0) (N := 14) hx hb hts in_X0 hown hK hP 0 rfl rfl 8 (by decide) (hts _ q40) (fun _ h9 => h9) rfl dX0_findWay_99 ?_
              refine lv_iload_n hx hb dX0_findWay_102 rfl (lv_at hl 2 rfl) ?_
              refine x_ald hx hb hK hP 7 6 rfl rfl (i) rfl (by omega) (by decide) dX0_findWay_103 ?_
              refine x_top (y := nI (qm i)) hqi.2 ?_
              refine x_ast hx hb hK hP hD hS 8 7 rfl rfl (v) rfl c4 (by decide) dX0_findWay_104 (fun H locs hP hD hS => ?_)
              have hP : va_P D vwCl (xW d h ad (va_up a4 9 (upd (a4 9) (v) (nI (qm i)))) w f) H := hP
              have hD : va_D Fr (xW d h ad (va_up a4 9 (upd (a4 9) (v) (nI (qm i)))) w f) := hD
              obtain ⟨a5, ea5⟩ : ∃ z, z = (va_up a4 9 (upd (a4 9) (v) (nI (qm i)))) := ⟨_, rfl⟩
              have hP : va_P D vwCl (xW d h ad a5 w f) H := by rw [ea5]; exact hP
              have hD : va_D Fr (xW d h ad a5 w f) := by rw [ea5]; exact hD
              refine lv_aload_n hx hb dX0_findWay_105 rfl (lv_at hl 0 rfl) ?_
              refine va_get (D := D) (ci := 0) (v := .ref (ad 8)) (C := RX0) (T := TX0) (N := 14) hx hb hts in_X0 hown hK hP 0 rfl rfl 8 (by decide) (hts _ q40) (fun _ h9 => h9) rfl dX0_findWay_106 ?_
              refine lv_iload_n hx hb dX0_findWay_109 rfl (lv_at hl 1 rfl) ?_
              refine lv_iload_n hx hb dX0_findWay_110 rfl (lv_at hl 3 rfl) ?_
              refine x_ast hx hb hK hP hD hS 7 6 rfl rfl (en2) rfl hroom (by decide) dX0_findWay_111 (fun H locs hP hD hS => ?_)
              have hP : va_P D vwCl (xW d h ad (va_up a5 8 (upd (a5 8) (en2) (nI v))) w f) H := hP
              have hD : va_D Fr (xW d h ad (va_up a5 8 (upd (a5 8) (en2) (nI v))) w f) := hD
              obtain ⟨a6, ea6⟩ : ∃ z, z = (va_up a5 8 (upd (a5 8) (en2) (nI v))) := ⟨_, rfl⟩
              have hP : va_P D vwCl (xW d h ad a6 w f) H := by rw [ea6]; exact hP
              have hD : va_D Fr (xW d h ad a6 w f) := by rw [ea6]; exact hD
              have hfr6 : ∀ k, k ≠ 8 → k ≠ 9 → a6 k = a k := fun k h8 h9 => by rw [ea6, va_up_n h8, ea5, va_up_n h9]; exact hfr4 k h8 h9
              have h68 : a6 8 = upd (a4 8) en2 (nI v) := by rw [ea6, va_up_s, ea5, va_up_n (by omega)]
              have h69 : a6 9 = upd (a4 9) v (nI (qm i)) := by rw [ea6, va_up_n (by omega), ea5, va_up_s]
              refine lv_iinc (v := nI (en2 + 1)) (lv' := [(1, .int (nI (en2 + 1))), (0, .ref (h)), (2, .int (nI i)), (3, .int (nI v))]) hx hb dX0_findWay_112 hl (k := 1) rfl (x_inc _) (by decide) rfl (fun ls hl => ?_)
              refine lv_iinc (v := nI (v + 1)) (lv' := [(3, .int (nI (v + 1))), (1, .int (nI (en2 + 1))), (0, .ref (h)), (2, .int (nI i))]) hx hb dX0_findWay_115 hl (k := 3) rfl (x_inc _) (by decide) rfl (fun ls hl => ?_)
              refine lv_goto (tgt := 59) hx hb dX0_findWay_118 (by decide) ?_
              exact ih3 ((v + 1, en2 + 1, va_up qm en2 v, a6)) (show (v + 1) ≤ 9 ∧ i < (en2 + 1) ∧ (∀ k, k ≠ 8 → k ≠ 9 → a6 k = a k) ∧ BQ (zL (a 5)) (a6 8) (a6 9) i (i + 1) (en2 + 1) (va_up qm en2 v) ∧ ∀ z, z < (v + 1) → 0 < zL (a 5) ((va_up qm en2 v) i * 9 + z) → 0 ≤ (a6 9 z).toInt from ⟨by omega, by omega, hfr6, by rw [h68, h69]; exact hB5, fun z hz hzL => by
                      rw [h69]
                      by_cases d1 : z = v
                      · subst d1; rw [pk_us, z_nI (by omega)]; omega
                      · rw [pk_un d1]
                        rw [va_up_n (show i ≠ en2 by omega)] at hzL
                        exact hcl z (by omega) hzL⟩) (by show 9 - (v + 1) < 9 - v; omega) _ _ _ hP hD hS (lv_sub hl [2, 1, 3, 0] rfl)
  · refine lv_aload_n hx hb dX0_findWay_8 rfl (lv_at hl 0 rfl) ?_
    refine va_get (D := D) (ci := 0) (v := .ref (ad 9)) (C := RX0) (T := TX0) (N := 14) hx hb hts in_X0 hown hK hP 0 rfl rfl 9 (by decide) (hts _ q41) (fun _ h9 => h9) rfl dX0_findWay_9 ?_
    refine lv_iload_n hx hb dX0_findWay_12 rfl (lv_at hl 1 rfl) ?_
    refine lv_iconst (v := -1) hx hb dX0_findWay_13 (by decide) ?_
    refine x_ast hx hb hK hP hD hS 8 7 rfl rfl (i) rfl (by omega) (by decide) dX0_findWay_14 (fun H locs hP hD hS => ?_)
    have hP : va_P D vwCl (xW d h ad (va_up a1 9 (upd (a1 9) (i) ((-1)))) w f) H := hP
    have hD : va_D Fr (xW d h ad (va_up a1 9 (upd (a1 9) (i) ((-1)))) w f) := hD
    refine lv_iinc (v := nI (i + 1)) (lv' := [(1, .int (nI (i + 1))), (0, .ref (h))]) hx hb dX0_findWay_15 hl (k := 1) rfl (x_inc _) (by decide) rfl (fun ls hl => ?_)
    refine lv_goto (tgt := 2) hx hb dX0_findWay_18 (by decide) ?_
    exact ih ((i + 1, (va_up a1 9 (upd (a1 9) (i) ((-1)))))) (show (i + 1) ≤ 9 ∧ (∀ k, k ≠ 8 → k ≠ 9 → ((va_up a1 9 (upd (a1 9) (i) ((-1))))) k = a k) ∧ ∀ j, j < (i + 1) → ((va_up a1 9 (upd (a1 9) (i) ((-1))))) 9 j = -1 from ⟨by omega, fun k h8 h9 => by rw [va_up_n h9]; exact hfr k h8 h9, fun j hj => by
          rw [va_up_s]
          unfold upd
          split
          · rfl
          · exact hz j (by omega)⟩) (by show 9 - (i + 1) < 9 - i; omega) _ _ _ hP hD hS (lv_sub hl [1, 0] rfl)
end
section
/-! narrowest, push -/
theorem zL_up (g : Nat → Int32) (j : Nat) (z : Int32) : zL (upd g j z) = va_up (zL g) j z.toInt := by
  funext q
  show (if q = j then z else g q).toInt = if q = j then z.toInt else (g q).toInt
  split <;> rfl
set_option maxHeartbeats 4000000 in
set_option maxRecDepth 100000 in
theorem mX0_narrowest (l : Launch) (D : va_G) (d : Nat → ClassId) (h : Nat) (ad : Nat → Nat) (a : Nat → Nat → Int32) (w f : Int32) (k : Nat) (pt : Nat → Nat) (hw : Way (zL (a 5)) k pt) (hch : ∀ t, t < k → a 9 (pt (t + 1)) = nI (pt t)) : Met l yX0_narrowest (ws_ yX0_narrowest cX0_narrowest 5 (some .int)) xr0 (x_Pc D (xT d) (xW d h ad a w f) [.ref (h)]) (x_QR (fun r => 1 ≤ r.toInt ∧ (∀ t, t < k → r.toInt ≤ (a 5 (pt t * 9 + pt (t + 1))).toInt) ∧ ((∃ t, t < k ∧ (a 5 (pt t * 9 + pt (t + 1))).toInt ≤ r.toInt) ∨ 200000 ≤ r.toInt))) 0 0 x_no := by
  refine Met.ofW (cc := cX0_narrowest) (maxL := 5) (ret := (some .int)) (by decide) rfl ?_
  intro p e s m args below meth c s₁ B hml hv
  obtain ⟨rfl, hP, hK⟩ := hv
  have hx := B.exec
  have hb := B.bytes
  have hr := B.returns
  have hlocks := B.notSynchronized
  have hts := atoms_spec (ws := (ws_ yX0_narrowest cX0_narrowest 5 (some .int))) B.pre
  have hts : ∀ w ∈ lw_all, w.before _ s = true := fun w h => hts w (List.mem_cons_of_mem _ h)
  have hown : s.vm.findClass RX0 = some m.cls := findClass_of_methodNamed B.named
  have hS : va_S x_no s.heap s.heap [] := va_S.rf
  have hl := lv_entry ([.ref (h)]) (n := 5) (Nat.le_of_ble_eq_true rfl)
  rw [lg_entry_eq]
  generalize (lg_sl ([.ref (h)]) ++ List.replicate (5 - (lg_sl ([.ref (h)])).length) Slot.unset).toArray = ls at hl ⊢
  have hl : lv_has ls 5 [(0, .ref (h))] := hl
  have hP : va_P D vwCl (xW d h ad a w f) s.heap := hP
  obtain ⟨hk1, hk8, h0, hk, hlt, hinj, hpos, -⟩ := hw
  refine lv_ldc (v := nI 200000) hx hb hown (hts _ q144) dX0_narrowest_0 ?_
  refine lv_istore_n (lv' := [(1, .int (nI 200000)), (0, .ref (h))]) hx hb dX0_narrowest_2 rfl hl (by decide) rfl (fun ls hl => ?_)
  refine lv_bipush (v := nI 8) hx hb dX0_narrowest_3 (by decide) ?_
  refine lv_istore_n (lv' := [(2, .int (nI 8)), (1, .int (nI 200000)), (0, .ref (h))]) hx hb dX0_narrowest_5 rfl hl (by decide) rfl (fun ls hl => ?_)
  refine lv_iconst (v := nI 0) hx hb dX0_narrowest_6 (by decide) ?_
  refine lv_istore_n (lv' := [(3, .int (nI 0)), (2, .int (nI 8)), (1, .int (nI 200000)), (0, .ref (h))]) hx hb dX0_narrowest_7 rfl hl (by decide) rfl (fun ls hl => ?_)
  rw [show nI 8 = nI (pt k) by rw [hk], show nI 0 = nI (k - k) by rw [Nat.sub_self]] at hl
  refine x_loopR (σ := (Nat) × (Int32)) 8 5 (fun st => [(0, .ref (h)), (1, .int (st.2)), (2, .int (nI (pt st.1))), (3, .int (nI (k - st.1)))]) (fun st => st.1 ≤ k ∧ 1 ≤ (st.2).toInt ∧ (∀ j, st.1 ≤ j → j < k → (st.2).toInt ≤ (a 5 (pt j * 9 + pt (j + 1))).toInt) ∧ ((∃ j, j < k ∧ (a 5 (pt j * 9 + pt (j + 1))).toInt ≤ (st.2).toInt) ∨ 200000 ≤ (st.2).toInt)) (fun st => st.1) ?_ ((k, nI 200000)) (show k ≤ k ∧ 1 ≤ ((nI 200000)).toInt ∧ (∀ j, k ≤ j → j < k → ((nI 200000)).toInt ≤ (a 5 (pt j * 9 + pt (j + 1))).toInt) ∧ ((∃ j, j < k ∧ (a 5 (pt j * 9 + pt (j + 1))).toInt ≤ ((nI 200000)).toInt) ∨ 200000 ≤ ((nI 200000)).toInt) from ⟨Nat.le_refl k, by decide, fun j h1 h2 => absurd h2 (by omega), Or.inr (by decide)⟩) hP hS (lv_sub hl [3, 2, 1, 0] rfl)
  intro st hI ih H locs ls hP hS hl
  obtain ⟨t, z⟩ := st
  have hI : t ≤ k ∧ 1 ≤ (z).toInt ∧ (∀ j, t ≤ j → j < k → (z).toInt ≤ (a 5 (pt j * 9 + pt (j + 1))).toInt) ∧ ((∃ j, j < k ∧ (a 5 (pt j * 9 + pt (j + 1))).toInt ≤ (z).toInt) ∨ 200000 ≤ (z).toInt) := hI
  have hl : lv_has ls 5 [(0, .ref (h)), (1, .int (z)), (2, .int (nI (pt t))), (3, .int (nI (k - t)))] := hl
  have hP : va_P D vwCl (xW d h ad a w f) H := hP
  obtain ⟨ht, hz1, hz2, hz3⟩ := hI
  have hpt := hlt t ht
  refine lv_iload_n hx hb dX0_narrowest_8 rfl (lv_at hl 3 rfl) ?_
  refine lv_bipush (v := nI 9) hx hb dX0_narrowest_9 (by decide) ?_
  refine x_ge hx hb (k - t) (9) rfl rfl (by omega) (by omega) (tgt := 60) dX0_narrowest_11 (by decide) (fun c1 => ?_) (fun c1 => ?_)
  · exact absurd c1 (by omega)
  · refine lv_iload_n hx hb dX0_narrowest_14 rfl (lv_at hl 2 rfl) ?_
    refine lv_bipush (v := nI 7) hx hb dX0_narrowest_15 (by decide) ?_
    refine x_eq hx hb (pt t) (7) rfl rfl (by omega) (by omega) (tgt := 60) dX0_narrowest_17 (by decide) (fun c2 => ?_) (fun c2 => ?_)
    · have ht0 : t = 0 := hinj t 0 ht (by omega) (by rw [c2, h0])
      subst ht0
      refine lv_iload_n hx hb dX0_narrowest_60 rfl (lv_at hl 1 rfl) ?_
      exact x_iret hx hb hr hlocks hS dX0_narrowest_61 ⟨hz1, fun j hj => hz2 j (by omega) hj, hz3⟩
    · obtain ⟨t', rfl⟩ : ∃ t', t = t' + 1 := by
        cases t with
        | zero => exact absurd h0 c2
        | succ t' => exact ⟨t', rfl⟩
      have hpt2 := hlt t' (by omega)
      have hct := hch t' (by omega)
      have hps : 0 < (a 5 (pt t' * 9 + pt (t' + 1))).toInt := hpos t' (by omega)
      refine lv_aload_n hx hb dX0_narrowest_20 rfl (lv_at hl 0 rfl) ?_
      refine va_get (D := D) (ci := 0) (v := .ref (ad 5)) (C := RX0) (T := TX0) (N := 14) hx hb hts in_X0 hown hK hP 0 rfl rfl 5 (by decide) (hts _ q37) (fun _ h9 => h9) rfl dX0_narrowest_21 ?_
      refine lv_aload_n hx hb dX0_narrowest_24 rfl (lv_at hl 0 rfl) ?_
      refine va_get (D := D) (ci := 0) (v := .ref (ad 9)) (C := RX0) (T := TX0) (N := 14) hx hb hts in_X0 hown hK hP 0 rfl rfl 9 (by decide) (hts _ q41) (fun _ h9 => h9) rfl dX0_narrowest_25 ?_
      refine lv_iload_n hx hb dX0_narrowest_28 rfl (lv_at hl 2 rfl) ?_
      refine x_ald hx hb hK hP 8 7 rfl rfl (pt (t' + 1)) rfl hpt (by decide) dX0_narrowest_29 ?_
      refine lv_bipush (v := nI 9) hx hb dX0_narrowest_30 (by decide) ?_
      refine lv_imul hx hb dX0_narrowest_32 ?_
      refine lv_iload_n hx hb dX0_narrowest_33 rfl (lv_at hl 2 rfl) ?_
      refine lv_iadd hx hb dX0_narrowest_34 ?_
      refine x_ald hx hb hK hP 6 5 rfl rfl (pt t' * 9 + pt (t' + 1)) (by rw [hct]; simp only [pk_mul, nI_add]) (by omega) (by decide) dX0_narrowest_35 ?_
      refine lv_istore (lv' := [(4, .int (a 5 (pt t' * 9 + pt (t' + 1)))), (0, .ref (h)), (1, .int (z)), (2, .int (nI (pt (t' + 1)))), (3, .int (nI (k - (t' + 1))))]) hx hb dX0_narrowest_36 hl (by decide) rfl (fun ls hl => ?_)
      refine lv_iload hx hb dX0_narrowest_38 (lv_at hl 0 rfl) ?_
      refine lv_iload_n hx hb dX0_narrowest_40 rfl (lv_at hl 2 rfl) ?_
      refine lv_icmp_ge (tgt := 47) hx hb dX0_narrowest_41 (by decide) (fun c3 => ?_) (fun c3 => ?_)
      · rw [z_le] at c3
        refine lv_aload_n hx hb dX0_narrowest_47 rfl (lv_at hl 1 rfl) ?_
        refine va_get (D := D) (ci := 0) (v := .ref (ad 9)) (C := RX0) (T := TX0) (N := 14) hx hb hts in_X0 hown hK hP 0 rfl rfl 9 (by decide) (hts _ q41) (fun _ h9 => h9) rfl dX0_narrowest_48 ?_
        refine lv_iload_n hx hb dX0_narrowest_51 rfl (lv_at hl 3 rfl) ?_
        refine x_ald hx hb hK hP 8 7 rfl rfl (pt (t' + 1)) rfl hpt (by decide) dX0_narrowest_52 ?_
        refine x_top (y := nI (pt t')) hct ?_
        refine lv_istore_n (lv' := [(2, .int (nI (pt t'))), (4, .int (a 5 (pt t' * 9 + pt (t' + 1)))), (0, .ref (h)), (1, .int (z)), (3, .int (nI (k - (t' + 1))))]) hx hb dX0_narrowest_53 rfl hl (by decide) rfl (fun ls hl => ?_)
        refine lv_iinc (v := nI (k - t')) (lv' := [(3, .int (nI (k - t'))), (2, .int (nI (pt t'))), (4, .int (a 5 (pt t' * 9 + pt (t' + 1)))), (0, .ref (h)), (1, .int (z))]) hx hb dX0_narrowest_54 hl (k := 4) rfl (by rw [show k - t' = k - (t' + 1) + 1 by omega]; exact x_inc _) (by decide) rfl (fun ls hl => ?_)
        refine lv_goto (tgt := 8) hx hb dX0_narrowest_57 (by decide) ?_
        exact ih ((t', z)) (show (t') ≤ k ∧ 1 ≤ (z).toInt ∧ (∀ j, (t') ≤ j → j < k → (z).toInt ≤ (a 5 (pt j * 9 + pt (j + 1))).toInt) ∧ ((∃ j, j < k ∧ (a 5 (pt j * 9 + pt (j + 1))).toInt ≤ (z).toInt) ∨ 200000 ≤ (z).toInt) from ⟨by omega, by omega, fun j h1 h2 => by
                rcases Nat.lt_or_ge t' j with q | q
                · exact hz2 j (by omega) h2
                · have : j = t' := by omega
                  subst this
                  omega, hz3⟩) (by show t' < t' + 1; omega) _ _ _ hP hS (lv_sub hl [3, 4, 1, 0] rfl)
      · rw [z_le] at c3
        refine lv_iload hx hb dX0_narrowest_44 (lv_at hl 0 rfl) ?_
        refine lv_istore_n (lv' := [(1, .int (a 5 (pt t' * 9 + pt (t' + 1)))), (4, .int (a 5 (pt t' * 9 + pt (t' + 1)))), (0, .ref (h)), (2, .int (nI (pt (t' + 1)))), (3, .int (nI (k - (t' + 1))))]) hx hb dX0_narrowest_46 rfl hl (by decide) rfl (fun ls hl => ?_)
        refine lv_aload_n hx hb dX0_narrowest_47 rfl (lv_at hl 2 rfl) ?_
        refine va_get (D := D) (ci := 0) (v := .ref (ad 9)) (C := RX0) (T := TX0) (N := 14) hx hb hts in_X0 hown hK hP 0 rfl rfl 9 (by decide) (hts _ q41) (fun _ h9 => h9) rfl dX0_narrowest_48 ?_
        refine lv_iload_n hx hb dX0_narrowest_51 rfl (lv_at hl 3 rfl) ?_
        refine x_ald hx hb hK hP 8 7 rfl rfl (pt (t' + 1)) rfl hpt (by decide) dX0_narrowest_52 ?_
        refine x_top (y := nI (pt t')) hct ?_
        refine lv_istore_n (lv' := [(2, .int (nI (pt t'))), (1, .int (a 5 (pt t' * 9 + pt (t' + 1)))), (4, .int (a 5 (pt t' * 9 + pt (t' + 1)))), (0, .ref (h)), (3, .int (nI (k - (t' + 1))))]) hx hb dX0_narrowest_53 rfl hl (by decide) rfl (fun ls hl => ?_)
        refine lv_iinc (v := nI (k - t')) (lv' := [(3, .int (nI (k - t'))), (2, .int (nI (pt t'))), (1, .int (a 5 (pt t' * 9 + pt (t' + 1)))), (4, .int (a 5 (pt t' * 9 + pt (t' + 1)))), (0, .ref (h))]) hx hb dX0_narrowest_54 hl (k := 4) rfl (by rw [show k - t' = k - (t' + 1) + 1 by omega]; exact x_inc _) (by decide) rfl (fun ls hl => ?_)
        refine lv_goto (tgt := 8) hx hb dX0_narrowest_57 (by decide) ?_
        exact ih ((t', a 5 (pt t' * 9 + pt (t' + 1)))) (show (t') ≤ k ∧ 1 ≤ ((a 5 (pt t' * 9 + pt (t' + 1)))).toInt ∧ (∀ j, (t') ≤ j → j < k → ((a 5 (pt t' * 9 + pt (t' + 1)))).toInt ≤ (a 5 (pt j * 9 + pt (j + 1))).toInt) ∧ ((∃ j, j < k ∧ (a 5 (pt j * 9 + pt (j + 1))).toInt ≤ ((a 5 (pt t' * 9 + pt (t' + 1)))).toInt) ∨ 200000 ≤ ((a 5 (pt t' * 9 + pt (t' + 1)))).toInt) from ⟨by omega, by omega, fun j h1 h2 => by
                rcases Nat.lt_or_ge t' j with q | q
                · have := hz2 j (by omega) h2; omega
                · have : j = t' := by omega
                  subst this
                  omega, Or.inl ⟨t', by omega, Int.le_refl _⟩⟩) (by show t' < t' + 1; omega) _ _ _ hP hS (lv_sub hl [4, 2, 1, 0] rfl)
set_option maxHeartbeats 4000000 in
set_option maxRecDepth 100000 in
theorem mX0_push (l : Launch) (D : va_G) (d : Nat → ClassId) (h : Nat) (ad : Nat → Nat) (Fr : Nat → Prop) (a : Nat → Nat → Int32) (w f : Int32) (am : Int32) (k : Nat) (pt : Nat → Nat) (hw : Way (zL (a 5)) k pt) (hch : ∀ t, t < k → a 9 (pt (t + 1)) = nI (pt t)) (hn : NN (zL (a 5))) (hpb : PB (zL (a 5))) (ha1 : 1 ≤ am.toInt) (har : ∀ t, t < k → am.toInt ≤ zL (a 5) (pt t * 9 + pt (t + 1))) (hD : va_D Fr (xW d h ad a w f)) : Met l yX0_push (ws_ yX0_push cX0_push 4 none) xr0 (x_Pc D (xT d) (xW d h ad a w f) [.ref (h), .int (am)]) (va_Qv (fun u : xS => (∀ j, j ≠ 5 → u.1 j = a j) ∧ u.2.1 = w ∧ u.2.2 = f ∧ zL (u.1 5) = psh (zL (a 5)) pt am.toInt k k) (fun u t => va_P D vwCl (xV d h ad u) t.heap) Fr) 0 0 Fr := by
  refine Met.ofW (cc := cX0_push) (maxL := 4) (ret := none) (by decide) rfl ?_
  intro p e s m args below meth c s₁ B hml hv
  obtain ⟨rfl, hP, hK⟩ := hv
  have hx := B.exec
  have hb := B.bytes
  have hr := B.returns
  have hlocks := B.notSynchronized
  have hts := atoms_spec (ws := (ws_ yX0_push cX0_push 4 none)) B.pre
  have hts : ∀ w ∈ lw_all, w.before _ s = true := fun w h => hts w (List.mem_cons_of_mem _ h)
  have hown : s.vm.findClass RX0 = some m.cls := findClass_of_methodNamed B.named
  have hS : va_S Fr s.heap s.heap [] := va_S.rf
  have hl := lv_entry ([.ref (h), .int (am)]) (n := 4) (Nat.le_of_ble_eq_true rfl)
  rw [lg_entry_eq]
  generalize (lg_sl ([.ref (h), .int (am)]) ++ List.replicate (4 - (lg_sl ([.ref (h), .int (am)])).length) Slot.unset).toArray = ls at hl ⊢
  have hl : lv_has ls 4 [(0, .ref (h)), (1, .int (am))] := hl
  have hP : va_P D vwCl (xW d h ad a w f) s.heap := hP
  have hw0 := hw
  obtain ⟨hk1, hk8, h0, hk, hlt, hinj, hpos, -⟩ := hw
  refine lv_bipush (v := nI 8) hx hb dX0_push_0 (by decide) ?_
  refine lv_istore_n (lv' := [(2, .int (nI 8)), (0, .ref (h)), (1, .int (am))]) hx hb dX0_push_2 rfl hl (by decide) rfl (fun ls hl => ?_)
  refine lv_iconst (v := nI 0) hx hb dX0_push_3 (by decide) ?_
  refine lv_istore_n (lv' := [(3, .int (nI 0)), (2, .int (nI 8)), (0, .ref (h)), (1, .int (am))]) hx hb dX0_push_4 rfl hl (by decide) rfl (fun ls hl => ?_)
  rw [show nI 8 = nI (pt k) by rw [hk], show nI 0 = nI (k - k) by rw [Nat.sub_self]] at hl
  refine x_loop (σ := (Nat) × (Nat → Nat → Int32)) 5 4 (fun st => (xW d h ad st.2 w f)) (fun st => [(0, .ref (h)), (1, .int (am)), (2, .int (nI (pt st.1))), (3, .int (nI (k - st.1)))]) (fun st => st.1 ≤ k ∧ (∀ j, j ≠ 5 → st.2 j = a j) ∧ zL (st.2 5) = psh (zL (a 5)) pt am.toInt k (k - st.1)) (fun st => st.1) ?_ ((k, a)) (show k ≤ k ∧ (∀ j, j ≠ 5 → a j = a j) ∧ zL (a 5) = psh (zL (a 5)) pt am.toInt k (k - k) from ⟨Nat.le_refl k, fun _ _ => rfl, by rw [Nat.sub_self]; rfl⟩) hP hD hS (lv_sub hl [2, 3, 1, 0] rfl)
  intro st hI ih H locs ls hP hD hS hl
  obtain ⟨t, a1⟩ := st
  have hI : t ≤ k ∧ (∀ j, j ≠ 5 → a1 j = a j) ∧ zL (a1 5) = psh (zL (a 5)) pt am.toInt k (k - t) := hI
  have hl : lv_has ls 4 [(0, .ref (h)), (1, .int (am)), (2, .int (nI (pt t))), (3, .int (nI (k - t)))] := hl
  have hP : va_P D vwCl (xW d h ad a1 w f) H := hP
  have hD : va_D Fr (xW d h ad a1 w f) := hD
  obtain ⟨ht, hfr, hz⟩ := hI
  have hpt := hlt t ht
  refine lv_iload_n hx hb dX0_push_5 rfl (lv_at hl 3 rfl) ?_
  refine lv_bipush (v := nI 9) hx hb dX0_push_6 (by decide) ?_
  refine x_ge hx hb (k - t) (9) rfl rfl (by omega) (by omega) (tgt := 70) dX0_push_8 (by decide) (fun c1 => ?_) (fun c1 => ?_)
  · exact absurd c1 (by omega)
  · refine lv_iload_n hx hb dX0_push_11 rfl (lv_at hl 2 rfl) ?_
    refine lv_bipush (v := nI 7) hx hb dX0_push_12 (by decide) ?_
    refine x_eq hx hb (pt t) (7) rfl rfl (by omega) (by omega) (tgt := 70) dX0_push_14 (by decide) (fun c2 => ?_) (fun c2 => ?_)
    · have ht0 : t = 0 := hinj t 0 ht (by omega) (by rw [c2, h0])
      subst ht0
      exact x_vretW (WS := xV d h ad) ((a1, w, f)) hx hb hr hlocks hS hP dX0_push_70 ⟨hfr, rfl, rfl, hz⟩
    · obtain ⟨t', rfl⟩ : ∃ t', t = t' + 1 := by
        cases t with
        | zero => exact absurd h0 c2
        | succ t' => exact ⟨t', rfl⟩
      have hpt2 := hlt t' (by omega)
      have hct : a1 9 (pt (t' + 1)) = nI (pt t') := by rw [hfr 9 (by omega)]; exact hch t' (by omega)
      have hne : pt t' ≠ pt (t' + 1) := fun q => by have := hinj _ _ (by omega) (by omega) q; omega
      have hinv := psh_inv hw0 hn ha1 har (k - (t' + 1)) (by omega)
      have hpbi := psh_pb (am := am.toInt) hw0 hpb (k - (t' + 1)) (by omega)
      have hroom := hinv.2.1 t' (by omega)
      have hE := hinv.1 (pt t') (pt (t' + 1)) hpt2 hpt
      have hR := hinv.1 (pt (t' + 1)) (pt t') hpt hpt2
      have hB := hpbi (pt t') (pt (t' + 1)) hpt2 hpt
      rw [← hz] at hroom hE hR hB
      have hroom : am.toInt ≤ (a1 5 (pt t' * 9 + pt (t' + 1))).toInt := hroom
      have hE : 0 ≤ (a1 5 (pt t' * 9 + pt (t' + 1))).toInt := hE
      have hR : 0 ≤ (a1 5 (pt (t' + 1) * 9 + pt t')).toInt := hR
      have hB : (a1 5 (pt t' * 9 + pt (t' + 1))).toInt + (a1 5 (pt (t' + 1) * 9 + pt t')).toInt ≤ 300000 := hB
      refine lv_aload_n hx hb dX0_push_17 rfl (lv_at hl 0 rfl) ?_
      refine va_get (D := D) (ci := 0) (v := .ref (ad 5)) (C := RX0) (T := TX0) (N := 14) hx hb hts in_X0 hown hK hP 0 rfl rfl 5 (by decide) (hts _ q37) (fun _ h9 => h9) rfl dX0_push_18 ?_
      refine lv_aload_n hx hb dX0_push_21 rfl (lv_at hl 0 rfl) ?_
      refine va_get (D := D) (ci := 0) (v := .ref (ad 9)) (C := RX0) (T := TX0) (N := 14) hx hb hts in_X0 hown hK hP 0 rfl rfl 9 (by decide) (hts _ q41) (fun _ h9 => h9) rfl dX0_push_22 ?_
      refine lv_iload_n hx hb dX0_push_25 rfl (lv_at hl 2 rfl) ?_
      refine x_ald hx hb hK hP 8 7 rfl rfl (pt (t' + 1)) rfl hpt (by decide) dX0_push_26 ?_
      refine x_top (y := nI (pt t')) hct ?_
      refine lv_bipush (v := nI 9) hx hb dX0_push_27 (by decide) ?_
      refine lv_imul hx hb dX0_push_29 ?_
      refine lv_iload_n hx hb dX0_push_30 rfl (lv_at hl 2 rfl) ?_
      refine lv_iadd hx hb dX0_push_31 ?_
      refine lv_dup2_11 hx hb dX0_push_32 rfl rfl ?_
      refine x_ald hx hb hK hP 6 5 rfl rfl (pt t' * 9 + pt (t' + 1)) (by simp only [pk_mul, nI_add]) (by omega) (by decide) dX0_push_33 ?_
      refine lv_iload_n hx hb dX0_push_34 rfl (lv_at hl 1 rfl) ?_
      refine lv_isub hx hb dX0_push_35 ?_
      refine x_ast hx hb hK hP hD hS 6 5 rfl rfl (pt t' * 9 + pt (t' + 1)) (by simp only [pk_mul, nI_add]) (by omega) (by decide) dX0_push_36 (fun H locs hP hD hS => ?_)
      have hP : va_P D vwCl (xW d h ad (va_up a1 5 (upd (a1 5) (pt t' * 9 + pt (t' + 1)) ((a1 5 (pt t' * 9 + pt (t' + 1))) - (am)))) w f) H := hP
      have hD : va_D Fr (xW d h ad (va_up a1 5 (upd (a1 5) (pt t' * 9 + pt (t' + 1)) ((a1 5 (pt t' * 9 + pt (t' + 1))) - (am)))) w f) := hD
      obtain ⟨a2, ea2⟩ : ∃ z, z = (va_up a1 5 (upd (a1 5) (pt t' * 9 + pt (t' + 1)) ((a1 5 (pt t' * 9 + pt (t' + 1))) - (am)))) := ⟨_, rfl⟩
      have hP : va_P D vwCl (xW d h ad a2 w f) H := by rw [ea2]; exact hP
      have hD : va_D Fr (xW d h ad a2 w f) := by rw [ea2]; exact hD
      have hfr2 : ∀ j, j ≠ 5 → a2 j = a j := fun j hj => by rw [ea2, va_up_n hj]; exact hfr j hj
      have h25 : a2 5 = upd (a1 5) (pt t' * 9 + pt (t' + 1)) (a1 5 (pt t' * 9 + pt (t' + 1)) - am) := by rw [ea2, va_up_s]
      have h25r : a2 5 (pt (t' + 1) * 9 + pt t') = a1 5 (pt (t' + 1) * 9 + pt t') := by rw [h25]; exact pk_un (by omega)
      refine lv_aload_n hx hb dX0_push_37 rfl (lv_at hl 0 rfl) ?_
      refine va_get (D := D) (ci := 0) (v := .ref (ad 5)) (C := RX0) (T := TX0) (N := 14) hx hb hts in_X0 hown hK hP 0 rfl rfl 5 (by decide) (hts _ q37) (fun _ h9 => h9) rfl dX0_push_38 ?_
      refine lv_iload_n hx hb dX0_push_41 rfl (lv_at hl 2 rfl) ?_
      refine lv_bipush (v := nI 9) hx hb dX0_push_42 (by decide) ?_
      refine lv_imul hx hb dX0_push_44 ?_
      refine lv_aload_n hx hb dX0_push_45 rfl (lv_at hl 0 rfl) ?_
      refine va_get (D := D) (ci := 0) (v := .ref (ad 9)) (C := RX0) (T := TX0) (N := 14) hx hb hts in_X0 hown hK hP 0 rfl rfl 9 (by decide) (hts _ q41) (fun _ h9 => h9) rfl dX0_push_46 ?_
      refine lv_iload_n hx hb dX0_push_49 rfl (lv_at hl 2 rfl) ?_
      refine x_ald hx hb hK hP 8 7 rfl rfl (pt (t' + 1)) rfl hpt (by decide) dX0_push_50 ?_
      refine x_top (y := nI (pt t')) (by rw [hfr2 9 (by omega), ← hfr 9 (by omega)]; exact hct) ?_
      refine lv_iadd hx hb dX0_push_51 ?_
      refine lv_dup2_11 hx hb dX0_push_52 rfl rfl ?_
      refine x_ald hx hb hK hP 6 5 rfl rfl (pt (t' + 1) * 9 + pt t') (by simp only [pk_mul, nI_add]) (by omega) (by decide) dX0_push_53 ?_
      refine lv_iload_n hx hb dX0_push_54 rfl (lv_at hl 1 rfl) ?_
      refine lv_iadd hx hb dX0_push_55 ?_
      refine x_ast hx hb hK hP hD hS 6 5 rfl rfl (pt (t' + 1) * 9 + pt t') (by simp only [pk_mul, nI_add]) (by omega) (by decide) dX0_push_56 (fun H locs hP hD hS => ?_)
      have hP : va_P D vwCl (xW d h ad (va_up a2 5 (upd (a2 5) (pt (t' + 1) * 9 + pt t') ((a2 5 (pt (t' + 1) * 9 + pt t')) + (am)))) w f) H := hP
      have hD : va_D Fr (xW d h ad (va_up a2 5 (upd (a2 5) (pt (t' + 1) * 9 + pt t') ((a2 5 (pt (t' + 1) * 9 + pt t')) + (am)))) w f) := hD
      obtain ⟨a3, ea3⟩ : ∃ z, z = (va_up a2 5 (upd (a2 5) (pt (t' + 1) * 9 + pt t') ((a2 5 (pt (t' + 1) * 9 + pt t')) + (am)))) := ⟨_, rfl⟩
      have hP : va_P D vwCl (xW d h ad a3 w f) H := by rw [ea3]; exact hP
      have hD : va_D Fr (xW d h ad a3 w f) := by rw [ea3]; exact hD
      have hfr3 : ∀ j, j ≠ 5 → a3 j = a j := fun j hj => by rw [ea3, va_up_n hj]; exact hfr2 j hj
      have h35 : a3 5 = upd (a2 5) (pt (t' + 1) * 9 + pt t') (a2 5 (pt (t' + 1) * 9 + pt t') + am) := by rw [ea3, va_up_s]
      refine lv_aload_n hx hb dX0_push_57 rfl (lv_at hl 0 rfl) ?_
      refine va_get (D := D) (ci := 0) (v := .ref (ad 9)) (C := RX0) (T := TX0) (N := 14) hx hb hts in_X0 hown hK hP 0 rfl rfl 9 (by decide) (hts _ q41) (fun _ h9 => h9) rfl dX0_push_58 ?_
      refine lv_iload_n hx hb dX0_push_61 rfl (lv_at hl 2 rfl) ?_
      refine x_ald hx hb hK hP 8 7 rfl rfl (pt (t' + 1)) rfl hpt (by decide) dX0_push_62 ?_
      refine x_top (y := nI (pt t')) (by rw [hfr3 9 (by omega), ← hfr 9 (by omega)]; exact hct) ?_
      refine lv_istore_n (lv' := [(2, .int (nI (pt t'))), (0, .ref (h)), (1, .int (am)), (3, .int (nI (k - (t' + 1))))]) hx hb dX0_push_63 rfl hl (by decide) rfl (fun ls hl => ?_)
      refine lv_iinc (v := nI (k - t')) (lv' := [(3, .int (nI (k - t'))), (2, .int (nI (pt t'))), (0, .ref (h)), (1, .int (am))]) hx hb dX0_push_64 hl (k := 3) rfl (by rw [show k - t' = k - (t' + 1) + 1 by omega]; exact x_inc _) (by decide) rfl (fun ls hl => ?_)
      refine lv_goto (tgt := 5) hx hb dX0_push_67 (by decide) ?_
      exact ih ((t', a3)) (show (t') ≤ k ∧ (∀ j, j ≠ 5 → a3 j = a j) ∧ zL (a3 5) = psh (zL (a 5)) pt am.toInt k (k - (t')) from ⟨by omega, hfr3, by
            rw [show k - t' = (k - (t' + 1)) + 1 by omega]
            show _ = pst (psh (zL (a 5)) pt am.toInt k (k - (t' + 1))) (pt (k - 1 - (k - (t' + 1)))) (pt (k - (k - (t' + 1)))) am.toInt
            rw [← hz, show k - 1 - (k - (t' + 1)) = t' by omega, show k - (k - (t' + 1)) = t' + 1 by omega, h35, zL_up, h25r, h25, zL_up]
            unfold pst
            rw [z_sub (by omega) (by omega), z_add (by omega) (by omega), va_up_n (show pt (t' + 1) * 9 + pt t' ≠ pt t' * 9 + pt (t' + 1) by omega)]⟩) (by show t' < t' + 1; omega) _ _ _ hP hD hS (lv_sub hl [2, 3, 1, 0] rfl)
end
section
/-! grow, closeReach, work -/
/-- what a search answered -/
def FWp (a1 : Nat → Nat → Int32) (mo : Int32) : Prop := (mo = nI 1 ∧ ∃ (k : Nat) (pt : Nat → Nat), Way (zL (a1 5)) k pt ∧ ∀ t, t < k → a1 9 (pt (t + 1)) = nI (pt t)) ∨ (mo = nI 0 ∧ ∃ T : Nat → Bool, T 7 = true ∧ T 8 = false ∧ Clo (zL (a1 5)) T)
set_option maxHeartbeats 4000000 in
set_option maxRecDepth 100000 in
theorem mX0_grow (l : Launch) (D : va_G) (d : Nat → ClassId) (h : Nat) (ad : Nat → Nat) (Fr : Nat → Prop) (a : Nat → Nat → Int32) (w f : Int32)  (hn : NN (zL (a 5))) (hpb : PB (zL (a 5))) (hE : Ends 1000 (zL (a 5))) (hcut : ∃ T : Nat → Bool, T 7 = true ∧ T 8 = false ∧ rc (zL (a 5)) T ≤ 1000000) (hD : va_D Fr (xW d h ad a w f)) : Met l yX0_grow (ws_ yX0_grow cX0_grow 4 none) xr1 (x_Pc D (xT d) (xW d h ad a w f) [.ref (h)]) (va_Qv (fun u : xS => (∀ j, j ≠ 5 → j ≠ 8 → j ≠ 9 → u.1 j = a j) ∧ u.2.1 = w ∧ NN (zL (u.1 5)) ∧ 0 ≤ u.2.2.toInt ∧ (∀ T : Nat → Bool, T 7 = true → T 8 = false → rc (zL (u.1 5)) T = rc (zL (a 5)) T - u.2.2.toInt) ∧ ∃ T : Nat → Bool, T 7 = true ∧ T 8 = false ∧ Clo (zL (u.1 5)) T) (fun u t => va_P D vwCl (xV d h ad u) t.heap) Fr) 0 0 Fr := by
  refine Met.ofW (cc := cX0_grow) (maxL := 4) (ret := none) (by decide) rfl ?_
  intro p e s m args below meth c s₁ B hml hv
  obtain ⟨rfl, hP, hK⟩ := hv
  have hx := B.exec
  have hb := B.bytes
  have hr := B.returns
  have hlocks := B.notSynchronized
  have hts := atoms_spec (ws := (ws_ yX0_grow cX0_grow 4 none)) B.pre
  have hts : ∀ w ∈ lw_all, w.before _ s = true := fun w h => hts w (List.mem_cons_of_mem _ h)
  have hown : s.vm.findClass RX0 = some m.cls := findClass_of_methodNamed B.named
  have hS : va_S Fr s.heap s.heap [] := va_S.rf
  have hl := lv_entry ([.ref (h)]) (n := 4) (Nat.le_of_ble_eq_true rfl)
  rw [lg_entry_eq]
  generalize (lg_sl ([.ref (h)]) ++ List.replicate (4 - (lg_sl ([.ref (h)])).length) Slot.unset).toArray = ls at hl ⊢
  have hl : lv_has ls 4 [(0, .ref (h))] := hl
  have hP : va_P D vwCl (xW d h ad a w f) s.heap := hP
  obtain ⟨TB, tb7, tb8, hcut⟩ := hcut
  refine lv_aload_n hx hb dX0_grow_0 rfl (lv_at hl 0 rfl) ?_
  refine lv_iconst (v := nI 0) hx hb dX0_grow_1 (by decide) ?_
  refine va_put (D := D) (ci := 0) (v := .int (nI 0)) (ty := .int) (C := RX0) (T := TX0) (N := 14) hx hb hts in_X0 tyX0 tyX0_ok nmX0 hown hK hP hD hS 0 rfl rfl 7 (by decide) (hts _ q39) (fun _ h9 => h9) rfl (by decide +kernel) rfl rfl (Nat.le_of_ble_eq_true rfl) dX0_grow_2 (fun H locs hP hD hS => ?_)
  have hP : va_P D vwCl (xW d h ad a w (nI 0)) H := hP
  have hD : va_D Fr (xW d h ad a w (nI 0)) := hD
  refine lv_aload_n hx hb dX0_grow_5 rfl (lv_at hl 0 rfl) ?_
  refine x_wri (xV d h ad) (As := []) (rest := []) ⟨hx, hb, hml, hown, hts⟩ (mX0_findWay l D d h ad Fr a w (nI 0) hD) (cwV 0 hts (lw_V q136 q138 qs6 q22 q139) rfl rfl rfl (by decide +kernel) ⟨Nat.le_of_ble_eq_true rfl, Nat.le_of_ble_eq_true rfl⟩) (va_recv hK hP (ci := 0) (q0 := 0) rfl rfl) hK hP hS hl rfl rfl (Nat.le_of_ble_eq_true rfl) dX0_grow_6 ⟨Nat.zero_le _, Nat.zero_le _⟩ (fun mo u_ H locs hq hP hS => ?_)
  obtain ⟨a1, w1, f1⟩ := u_
  have hP : va_P D vwCl (xW d h ad a1 w1 f1) H := hP
  have hD : va_D Fr (xW d h ad a1 w1 f1) := x_Db hD rfl
  obtain ⟨hf1, e1, e2, hq⟩ := hq
  have e1 : w1 = w := e1
  rw [e1] at hP hD
  have e2 : f1 = (nI 0) := e2
  rw [e2] at hP hD
  have h15 : a1 5 = a 5 := hf1 5 (by omega) (by omega)
  refine lv_istore_n (lv' := [(1, .int (mo)), (0, .ref (h))]) hx hb dX0_grow_9 rfl hl (by decide) rfl (fun ls hl => ?_)
  refine lv_iconst (v := nI 0) hx hb dX0_grow_10 (by decide) ?_
  refine lv_istore_n (lv' := [(2, .int (nI 0)), (1, .int (mo)), (0, .ref (h))]) hx hb dX0_grow_11 rfl hl (by decide) rfl (fun ls hl => ?_)
  refine x_loop (σ := (Nat) × (Nat → Nat → Int32) × (Int32) × (Int32)) 12 4 (fun st => (xW d h ad st.2.1 w st.2.2.1)) (fun st => [(0, .ref (h)), (1, .int (st.2.2.2)), (2, .int (nI st.1))]) (fun st => st.1 ≤ 1000 ∧ (∀ j, j ≠ 5 → j ≠ 8 → j ≠ 9 → st.2.1 j = a j) ∧ NN (zL (st.2.1 5)) ∧ PB (zL (st.2.1 5)) ∧ Ends (1000 - st.1) (zL (st.2.1 5)) ∧ 0 ≤ (st.2.2.1).toInt ∧ (∀ T : Nat → Bool, T 7 = true → T 8 = false → rc (zL (st.2.1 5)) T = rc (zL (a 5)) T - (st.2.2.1).toInt) ∧ FWp st.2.1 st.2.2.2) (fun st => 1000 - st.1) ?_ ((0, a1, nI 0, mo)) (show 0 ≤ 1000 ∧ (∀ j, j ≠ 5 → j ≠ 8 → j ≠ 9 → a1 j = a j) ∧ NN (zL (a1 5)) ∧ PB (zL (a1 5)) ∧ Ends (1000 - 0) (zL (a1 5)) ∧ 0 ≤ ((nI 0)).toInt ∧ (∀ T : Nat → Bool, T 7 = true → T 8 = false → rc (zL (a1 5)) T = rc (zL (a 5)) T - ((nI 0)).toInt) ∧ FWp a1 mo from ⟨by omega, fun j h5 h8 h9 => hf1 j h8 h9, by rw [h15]; exact hn, by rw [h15]; exact hpb, by rw [h15]; exact hE, by decide, fun T _ _ => by rw [h15, z_0]; omega, by unfold FWp; rw [h15]; exact hq⟩) hP hD hS (lv_sub hl [2, 1, 0] rfl)
  intro st hI ih H locs ls hP hD hS hl
  obtain ⟨i, a2, fl, mo2⟩ := st
  have hI : i ≤ 1000 ∧ (∀ j, j ≠ 5 → j ≠ 8 → j ≠ 9 → a2 j = a j) ∧ NN (zL (a2 5)) ∧ PB (zL (a2 5)) ∧ Ends (1000 - i) (zL (a2 5)) ∧ 0 ≤ (fl).toInt ∧ (∀ T : Nat → Bool, T 7 = true → T 8 = false → rc (zL (a2 5)) T = rc (zL (a 5)) T - (fl).toInt) ∧ FWp a2 mo2 := hI
  have hl : lv_has ls 4 [(0, .ref (h)), (1, .int (mo2)), (2, .int (nI i))] := hl
  have hP : va_P D vwCl (xW d h ad a2 w fl) H := hP
  have hD : va_D Fr (xW d h ad a2 w fl) := hD
  obtain ⟨hi, hfr, hn2, hpb2, hE2, hfl, hrc, hfw⟩ := hI
  refine lv_iload_n hx hb dX0_grow_12 rfl (lv_at hl 2 rfl) ?_
  refine lv_sipush (v := nI 1000) hx hb dX0_grow_13 (by decide) ?_
  refine x_ge hx hb (i) (1000) rfl rfl (by omega) (by omega) (tgt := 54) dX0_grow_16 (by decide) (fun c1 => ?_) (fun c1 => ?_)
  · have hi0 : 1000 - i = 0 := by omega
    rw [hi0] at hE2
    rcases hfw with ⟨_, k, pt, hw, _⟩ | ⟨_, hT⟩
    · exact absurd hw (hE2 k pt)
    · exact x_vretW (WS := xV d h ad) ((a2, w, fl)) hx hb hr hlocks hS hP dX0_grow_54 ⟨hfr, rfl, hn2, hfl, hrc, hT⟩
  · have hi1 : 1000 - i = (1000 - (i + 1)) + 1 := by omega
    rw [hi1] at hE2
    refine lv_iload_n hx hb dX0_grow_19 rfl (lv_at hl 1 rfl) ?_
    rcases hfw with ⟨rfl, k, pt, hw, hch⟩ | ⟨rfl, hT⟩
    · refine lv_if_eq (tgt := 54) hx hb dX0_grow_20 (by decide) (fun c2 => ?_) (fun c2 => ?_)
      · exact absurd c2 (by decide)
      · refine lv_aload_n hx hb dX0_grow_23 rfl (lv_at hl 0 rfl) ?_
        refine x_roV (As := []) (rest := []) ⟨hx, hb, hml, hown, hts⟩ (mX0_narrowest l D d h ad a2 w fl k pt hw hch) (cwV 0 hts (lw_V q140 q142 qs7 q22 q143) rfl rfl rfl (by decide +kernel) ⟨Nat.le_of_ble_eq_true rfl, Nat.le_of_ble_eq_true rfl⟩) (va_recv hK hP (ci := 0) (q0 := 0) rfl rfl) hP hK hP hS hl rfl rfl (Nat.le_of_ble_eq_true rfl) dX0_grow_24 ⟨Nat.zero_le _, Nat.zero_le _⟩ (fun am H locs ham hP hS => ?_)
        obtain ⟨ha1, ha2, ha3⟩ := ham
        have hnn := psh_nn hw hn2 ha1 ha2
        have hrc2 := fun (T : Nat → Bool) h7 h8 => psh_rc (T := T) hw hn2 ha1 ha2 h7 h8
        have hpbn := psh_pb (am := am.toInt) hw hpb2 k (Nat.le_refl k)
        have hEn := hE2 k pt am.toInt hw ha1 ha2 ha3
        refine lv_istore_n (lv' := [(3, .int (am)), (0, .ref (h)), (1, .int ((nI 1))), (2, .int (nI i))]) hx hb dX0_grow_27 rfl hl (by decide) rfl (fun ls hl => ?_)
        refine lv_aload_n hx hb dX0_grow_28 rfl (lv_at hl 1 rfl) ?_
        refine lv_iload_n hx hb dX0_grow_29 rfl (lv_at hl 0 rfl) ?_
        refine x_wrv (xV d h ad) (As := [.int (am)]) (rest := []) ⟨hx, hb, hml, hown, hts⟩ (mX0_push l D d h ad Fr a2 w fl am k pt hw hch hn2 hpb2 ha1 ha2 hD) (cwV 1 hts (lw_V q145 q147 qs8 q22 q148) rfl rfl rfl (by decide +kernel) ⟨Nat.le_of_ble_eq_true rfl, Nat.le_of_ble_eq_true rfl⟩) (va_recv hK hP (ci := 0) (q0 := 0) rfl rfl) hK hP hS hl rfl rfl (Nat.le_of_ble_eq_true rfl) dX0_grow_30 ⟨Nat.zero_le _, Nat.zero_le _⟩ (fun u_ H locs hq3 hP hS => ?_)
        obtain ⟨a3, w3, f3⟩ := u_
        have hP : va_P D vwCl (xW d h ad a3 w3 f3) H := hP
        have hD : va_D Fr (xW d h ad a3 w3 f3) := x_Db hD rfl
        obtain ⟨hf3, e3, e4, h35⟩ := hq3
        have e3 : w3 = w := e3
        rw [e3] at hP hD
        have e4 : f3 = fl := e4
        rw [e4] at hP hD
        have h35 : zL (a3 5) = psh (zL (a2 5)) pt am.toInt k k := h35
        rw [← h35] at hnn hpbn hEn hrc2
        have hsum : (fl + am).toInt = fl.toInt + am.toInt := by
          have q1 := hrc TB tb7 tb8
          have q2 := hrc2 TB tb7 tb8
          have q3 := rc_nn hnn TB
          exact z_add (by omega) (by omega)
        refine lv_aload_n hx hb dX0_grow_33 rfl (lv_at hl 1 rfl) ?_
        refine lv_dup hx hb dX0_grow_34 rfl ?_
        refine va_get (D := D) (ci := 0) (v := .int (fl)) (C := RX0) (T := TX0) (N := 14) hx hb hts in_X0 hown hK hP 0 rfl rfl 7 (by decide) (hts _ q39) (fun _ h9 => h9) rfl dX0_grow_35 ?_
        refine lv_iload_n hx hb dX0_grow_38 rfl (lv_at hl 0 rfl) ?_
        refine lv_iadd hx hb dX0_grow_39 ?_
        refine va_put (D := D) (ci := 0) (v := .int ((fl) + (am))) (ty := .int) (C := RX0) (T := TX0) (N := 14) hx hb hts in_X0 tyX0 tyX0_ok nmX0 hown hK hP hD hS 0 rfl rfl 7 (by decide) (hts _ q39) (fun _ h9 => h9) rfl (by decide +kernel) rfl rfl (Nat.le_of_ble_eq_true rfl) dX0_grow_40 (fun H locs hP hD hS => ?_)
        have hP : va_P D vwCl (xW d h ad a3 w ((fl) + (am))) H := hP
        have hD : va_D Fr (xW d h ad a3 w ((fl) + (am))) := hD
        refine lv_aload_n hx hb dX0_grow_43 rfl (lv_at hl 1 rfl) ?_
        refine x_wri (xV d h ad) (As := []) (rest := []) ⟨hx, hb, hml, hown, hts⟩ (mX0_findWay l D d h ad Fr a3 w (fl + am) hD) (cwV 0 hts (lw_V q136 q138 qs6 q22 q139) rfl rfl rfl (by decide +kernel) ⟨Nat.le_of_ble_eq_true rfl, Nat.le_of_ble_eq_true rfl⟩) (va_recv hK hP (ci := 0) (q0 := 0) rfl rfl) hK hP hS hl rfl rfl (Nat.le_of_ble_eq_true rfl) dX0_grow_44 ⟨Nat.zero_le _, Nat.zero_le _⟩ (fun mo4 u_ H locs hq4 hP hS => ?_)
        obtain ⟨a4, w4, f4⟩ := u_
        have hP : va_P D vwCl (xW d h ad a4 w4 f4) H := hP
        have hD : va_D Fr (xW d h ad a4 w4 f4) := x_Db hD rfl
        obtain ⟨hf4, e5, e6, hq4⟩ := hq4
        have e5 : w4 = w := e5
        rw [e5] at hP hD
        have e6 : f4 = (fl + am) := e6
        rw [e6] at hP hD
        have h45 : a4 5 = a3 5 := hf4 5 (by omega) (by omega)
        refine lv_istore_n (lv' := [(1, .int (mo4)), (3, .int (am)), (0, .ref (h)), (2, .int (nI i))]) hx hb dX0_grow_47 rfl hl (by decide) rfl (fun ls hl => ?_)
        refine lv_iinc (v := nI (i + 1)) (lv' := [(2, .int (nI (i + 1))), (1, .int (mo4)), (3, .int (am)), (0, .ref (h))]) hx hb dX0_grow_48 hl (k := 3) rfl (x_inc _) (by decide) rfl (fun ls hl => ?_)
        refine lv_goto (tgt := 12) hx hb dX0_grow_51 (by decide) ?_
        exact ih ((i + 1, a4, fl + am, mo4)) (show (i + 1) ≤ 1000 ∧ (∀ j, j ≠ 5 → j ≠ 8 → j ≠ 9 → a4 j = a j) ∧ NN (zL (a4 5)) ∧ PB (zL (a4 5)) ∧ Ends (1000 - (i + 1)) (zL (a4 5)) ∧ 0 ≤ ((fl + am)).toInt ∧ (∀ T : Nat → Bool, T 7 = true → T 8 = false → rc (zL (a4 5)) T = rc (zL (a 5)) T - ((fl + am)).toInt) ∧ FWp a4 mo4 from ⟨by omega, fun j h5 h8 h9 => (hf4 j h8 h9).trans ((hf3 j h5).trans (hfr j h5 h8 h9)), by rw [h45]; exact hnn, by rw [h45]; exact hpbn, by rw [h45]; exact hEn, by omega, fun T h7 h8 => by rw [h45, hrc2 T h7 h8, hrc T h7 h8, hsum]; omega, by unfold FWp; rw [h45]; exact hq4⟩) (by show 1000 - (i + 1) < 1000 - i; omega) _ _ _ hP hD hS (lv_sub hl [3, 1, 0] rfl)
    · refine lv_if_eq (tgt := 54) hx hb dX0_grow_20 (by decide) (fun c2 => ?_) (fun c2 => ?_)
      · exact x_vretW (WS := xV d h ad) ((a2, w, fl)) hx hb hr hlocks hS hP dX0_grow_54 ⟨hfr, rfl, hn2, hfl, hrc, hT⟩
      · exact absurd rfl c2
set_option maxHeartbeats 4000000 in
set_option maxRecDepth 100000 in
theorem mX0_closeReach (l : Launch) (D : va_G) (d : Nat → ClassId) (h : Nat) (ad : Nat → Nat) (Fr : Nat → Prop) (a : Nat → Nat → Int32) (w f : Int32)  (hD : va_D Fr (xW d h ad a w f)) : Met l yX0_closeReach (ws_ yX0_closeReach cX0_closeReach 3 none) xr1 (x_Pc D (xT d) (xW d h ad a w f) [.ref (h)]) (va_Qv (fun u : xS => (∀ j, j ≠ 10 → u.1 j = a j) ∧ u.2.1 = w ∧ u.2.2 = f ∧ RC (zL (a 5)) (u.1 10)) (fun u t => va_P D vwCl (xV d h ad u) t.heap) Fr) 0 0 Fr := by
  refine Met.ofW (cc := cX0_closeReach) (maxL := 3) (ret := none) (by decide) rfl ?_
  intro p e s m args below meth c s₁ B hml hv
  obtain ⟨rfl, hP, hK⟩ := hv
  have hx := B.exec
  have hb := B.bytes
  have hr := B.returns
  have hlocks := B.notSynchronized
  have hts := atoms_spec (ws := (ws_ yX0_closeReach cX0_closeReach 3 none)) B.pre
  have hts : ∀ w ∈ lw_all, w.before _ s = true := fun w h => hts w (List.mem_cons_of_mem _ h)
  have hown : s.vm.findClass RX0 = some m.cls := findClass_of_methodNamed B.named
  have hS : va_S Fr s.heap s.heap [] := va_S.rf
  have hl := lv_entry ([.ref (h)]) (n := 3) (Nat.le_of_ble_eq_true rfl)
  rw [lg_entry_eq]
  generalize (lg_sl ([.ref (h)]) ++ List.replicate (3 - (lg_sl ([.ref (h)])).length) Slot.unset).toArray = ls at hl ⊢
  have hl : lv_has ls 3 [(0, .ref (h))] := hl
  have hP : va_P D vwCl (xW d h ad a w f) s.heap := hP
  refine lv_iconst (v := nI 0) hx hb dX0_closeReach_0 (by decide) ?_
  refine lv_istore_n (lv' := [(1, .int (nI 0)), (0, .ref (h))]) hx hb dX0_closeReach_1 rfl hl (by decide) rfl (fun ls hl => ?_)
  refine x_loop (σ := (Nat) × (Nat → Nat → Int32)) 2 3 (fun st => (xW d h ad st.2 w f)) (fun st => [(0, .ref (h)), (1, .int (nI st.1))]) (fun st => st.1 ≤ 9 ∧ (∀ j, j ≠ 10 → st.2 j = a j) ∧ ∀ p, p < st.1 → ∀ q, q < 32 → (bt (st.2 10 p) q = true ↔ q = p ∨ (q < 9 ∧ 0 < zL (a 5) (p * 9 + q)))) (fun st => 9 - st.1) ?_ ((0, a)) (show 0 ≤ 9 ∧ (∀ j, j ≠ 10 → a j = a j) ∧ ∀ p, p < 0 → ∀ q, q < 32 → (bt (a 10 p) q = true ↔ q = p ∨ (q < 9 ∧ 0 < zL (a 5) (p * 9 + q))) from ⟨by omega, fun _ _ => rfl, fun p hp => absurd hp (by omega)⟩) hP hD hS (lv_sub hl [1, 0] rfl)
  intro st hI ih H locs ls hP hD hS hl
  obtain ⟨u, a1⟩ := st
  have hI : u ≤ 9 ∧ (∀ j, j ≠ 10 → a1 j = a j) ∧ ∀ p, p < u → ∀ q, q < 32 → (bt (a1 10 p) q = true ↔ q = p ∨ (q < 9 ∧ 0 < zL (a 5) (p * 9 + q))) := hI
  have hl : lv_has ls 3 [(0, .ref (h)), (1, .int (nI u))] := hl
  have hP : va_P D vwCl (xW d h ad a1 w f) H := hP
  have hD : va_D Fr (xW d h ad a1 w f) := hD
  obtain ⟨hu, hfr, hb1⟩ := hI
  refine lv_iload_n hx hb dX0_closeReach_2 rfl (lv_at hl 1 rfl) ?_
  refine lv_bipush (v := nI 9) hx hb dX0_closeReach_3 (by decide) ?_
  refine x_ge hx hb (u) (9) rfl rfl (by omega) (by omega) (tgt := 63) dX0_closeReach_5 (by decide) (fun c1 => ?_) (fun c1 => ?_)
  · have hu9 : u = 9 := by omega
    subst hu9
    refine lv_iconst (v := nI 0) hx hb dX0_closeReach_63 (by decide) ?_
    refine lv_istore_n (lv' := [(1, .int (nI 0)), (0, .ref (h))]) hx hb dX0_closeReach_64 rfl hl (by decide) rfl (fun ls hl => ?_)
    refine x_loop (σ := (Nat) × (Nat → Nat → Int32)) 65 3 (fun st => (xW d h ad st.2 w f)) (fun st => [(0, .ref (h)), (1, .int (nI st.1))]) (fun st => st.1 ≤ 9 ∧ (∀ j, j ≠ 10 → st.2 j = a j) ∧ RK (zL (a 5)) (st.2 10) st.1) (fun st => 9 - st.1) ?_ ((0, a1)) (show 0 ≤ 9 ∧ (∀ j, j ≠ 10 → a1 j = a j) ∧ RK (zL (a 5)) (a1 10) 0 from ⟨by omega, hfr, RK_0 hb1⟩) hP hD hS (lv_sub hl [1, 0] rfl)
    intro st hI2 ih2 H locs ls hP hD hS hl
    obtain ⟨k, a2⟩ := st
    have hI2 : k ≤ 9 ∧ (∀ j, j ≠ 10 → a2 j = a j) ∧ RK (zL (a 5)) (a2 10) k := hI2
    have hl : lv_has ls 3 [(0, .ref (h)), (1, .int (nI k))] := hl
    have hP : va_P D vwCl (xW d h ad a2 w f) H := hP
    have hD : va_D Fr (xW d h ad a2 w f) := hD
    obtain ⟨hk, hfr2, hR⟩ := hI2
    refine lv_iload_n hx hb dX0_closeReach_65 rfl (lv_at hl 1 rfl) ?_
    refine lv_bipush (v := nI 9) hx hb dX0_closeReach_66 (by decide) ?_
    refine x_ge hx hb (k) (9) rfl rfl (by omega) (by omega) (tgt := 119) dX0_closeReach_68 (by decide) (fun c2 => ?_) (fun c2 => ?_)
    · have hk9 : k = 9 := by omega
      subst hk9
      exact x_vretW (WS := xV d h ad) ((a2, w, f)) hx hb hr hlocks hS hP dX0_closeReach_119 ⟨hfr2, rfl, rfl, RK_9 hR⟩
    · refine lv_iconst (v := nI 0) hx hb dX0_closeReach_71 (by decide) ?_
      refine lv_istore_n (lv' := [(2, .int (nI 0)), (0, .ref (h)), (1, .int (nI k))]) hx hb dX0_closeReach_72 rfl hl (by decide) rfl (fun ls hl => ?_)
      refine x_loop (σ := (Nat) × (Nat → Nat → Int32)) 73 3 (fun st => (xW d h ad st.2 w f)) (fun st => [(0, .ref (h)), (1, .int (nI k)), (2, .int (nI st.1))]) (fun st => st.1 ≤ 9 ∧ (∀ j, j ≠ 10 → st.2 j = a j) ∧ (∀ p, p < st.1 → ∀ q, q < 32 → (bt (st.2 10 p) q = true ↔ bt (a2 10 p) q = true ∨ (bt (a2 10 p) k = true ∧ bt (a2 10 k) q = true))) ∧ (∀ p, st.1 ≤ p → p < 9 → st.2 10 p = a2 10 p)) (fun st => 9 - st.1) ?_ ((0, a2)) (show 0 ≤ 9 ∧ (∀ j, j ≠ 10 → a2 j = a j) ∧ (∀ p, p < 0 → ∀ q, q < 32 → (bt (a2 10 p) q = true ↔ bt (a2 10 p) q = true ∨ (bt (a2 10 p) k = true ∧ bt (a2 10 k) q = true))) ∧ (∀ p, 0 ≤ p → p < 9 → a2 10 p = a2 10 p) from ⟨by omega, hfr2, fun p hp => absurd hp (by omega), fun _ _ _ => rfl⟩) hP hD hS (lv_sub hl [1, 2, 0] rfl)
      intro st hI3 ih3 H locs ls hP hD hS hl
      obtain ⟨u, a3⟩ := st
      have hI3 : u ≤ 9 ∧ (∀ j, j ≠ 10 → a3 j = a j) ∧ (∀ p, p < u → ∀ q, q < 32 → (bt (a3 10 p) q = true ↔ bt (a2 10 p) q = true ∨ (bt (a2 10 p) k = true ∧ bt (a2 10 k) q = true))) ∧ (∀ p, u ≤ p → p < 9 → a3 10 p = a2 10 p) := hI3
      have hl : lv_has ls 3 [(0, .ref (h)), (1, .int (nI k)), (2, .int (nI u))] := hl
      have hP : va_P D vwCl (xW d h ad a3 w f) H := hP
      have hD : va_D Fr (xW d h ad a3 w f) := hD
      obtain ⟨hu3, hfr3, hlo, hhi⟩ := hI3
      refine lv_iload_n hx hb dX0_closeReach_73 rfl (lv_at hl 2 rfl) ?_
      refine lv_bipush (v := nI 9) hx hb dX0_closeReach_74 (by decide) ?_
      refine x_ge hx hb (u) (9) rfl rfl (by omega) (by omega) (tgt := 113) dX0_closeReach_76 (by decide) (fun c3 => ?_) (fun c3 => ?_)
      · have hu9 : u = 9 := by omega
        subst hu9
        refine lv_iinc (v := nI (k + 1)) (lv' := [(1, .int (nI (k + 1))), (0, .ref (h)), (2, .int (nI 9))]) hx hb dX0_closeReach_113 hl (k := 1) rfl (x_inc _) (by decide) rfl (fun ls hl => ?_)
        refine lv_goto (tgt := 65) hx hb dX0_closeReach_116 (by decide) ?_
        exact ih2 ((k + 1, a3)) (show (k + 1) ≤ 9 ∧ (∀ j, j ≠ 10 → a3 j = a j) ∧ RK (zL (a 5)) (a3 10) (k + 1) from ⟨by omega, hfr3, RK_s c2 hR hlo⟩) (by show 9 - (k + 1) < 9 - k; omega) _ _ _ hP hD hS (lv_sub hl [1, 0] rfl)
      · have hau := hhi u (Nat.le_refl u) c3
        have hak : ∀ q, q < 32 → (bt (a3 10 k) q = true ↔ bt (a2 10 k) q = true) := fun q hq => by
          rcases Nat.lt_or_ge k u with z | z
          · rw [hlo k z q hq]
            constructor
            · rintro (y | y)
              · exact y
              · exact y.2
            · exact Or.inl
          · rw [hhi k z c2]
        refine lv_aload_n hx hb dX0_closeReach_79 rfl (lv_at hl 0 rfl) ?_
        refine va_get (D := D) (ci := 0) (v := .ref (ad 10)) (C := RX0) (T := TX0) (N := 14) hx hb hts in_X0 hown hK hP 0 rfl rfl 10 (by decide) (hts _ q42) (fun _ h9 => h9) rfl dX0_closeReach_80 ?_
        refine lv_iload_n hx hb dX0_closeReach_83 rfl (lv_at hl 2 rfl) ?_
        refine x_ald hx hb hK hP 9 8 rfl rfl (u) rfl c3 (by decide) dX0_closeReach_84 ?_
        refine lv_iload_n hx hb dX0_closeReach_85 rfl (lv_at hl 1 rfl) ?_
        refine x_roS (As := [.int (a3 10 (u)), .int (nI k)]) (rest := []) ⟨hx, hb, hml, hown, hts⟩ (mX0_in l D (a3 10 u) k (by omega)) (va_cwS 2 hts (lw_S q109 q110 q22 q111) rfl rfl rfl (by decide +kernel) ⟨Nat.le_of_ble_eq_true rfl, Nat.le_of_ble_eq_true rfl⟩) x_P0 (hK.sub [] rfl) hP hS hl rfl rfl (Nat.le_of_ble_eq_true rfl) dX0_closeReach_86 ⟨Nat.zero_le _, Nat.zero_le _⟩ (fun r1 H locs e1 hP hS => ?_)
        subst e1
        refine lv_if_eq (tgt := 107) hx hb dX0_closeReach_89 (by decide) (fun c4 => ?_) (fun c4 => ?_)
        · rw [nb0, hau] at c4
          refine lv_iinc (v := nI (u + 1)) (lv' := [(2, .int (nI (u + 1))), (0, .ref (h)), (1, .int (nI k))]) hx hb dX0_closeReach_107 hl (k := 2) rfl (x_inc _) (by decide) rfl (fun ls hl => ?_)
          refine lv_goto (tgt := 73) hx hb dX0_closeReach_110 (by decide) ?_
          exact ih3 ((u + 1, a3)) (show (u + 1) ≤ 9 ∧ (∀ j, j ≠ 10 → a3 j = a j) ∧ (∀ p, p < (u + 1) → ∀ q, q < 32 → (bt (a3 10 p) q = true ↔ bt (a2 10 p) q = true ∨ (bt (a2 10 p) k = true ∧ bt (a2 10 k) q = true))) ∧ (∀ p, (u + 1) ≤ p → p < 9 → a3 10 p = a2 10 p) from ⟨by omega, hfr3, fun p hp q hq => by
                  rcases Nat.lt_or_ge p u with z | z
                  · exact hlo p z q hq
                  · have : p = u := by omega
                    subst this
                    rw [hau, c4]
                    simp, fun p h1 h2 => hhi p (by omega) h2⟩) (by show 9 - (u + 1) < 9 - u; omega) _ _ _ hP hD hS (lv_sub hl [1, 2, 0] rfl)
        · rw [nb0, Bool.not_eq_false, hau] at c4
          refine lv_aload_n hx hb dX0_closeReach_92 rfl (lv_at hl 0 rfl) ?_
          refine va_get (D := D) (ci := 0) (v := .ref (ad 10)) (C := RX0) (T := TX0) (N := 14) hx hb hts in_X0 hown hK hP 0 rfl rfl 10 (by decide) (hts _ q42) (fun _ h9 => h9) rfl dX0_closeReach_93 ?_
          refine lv_iload_n hx hb dX0_closeReach_96 rfl (lv_at hl 2 rfl) ?_
          refine lv_dup2_11 hx hb dX0_closeReach_97 rfl rfl ?_
          refine x_ald hx hb hK hP 9 8 rfl rfl (u) rfl c3 (by decide) dX0_closeReach_98 ?_
          refine lv_aload_n hx hb dX0_closeReach_99 rfl (lv_at hl 0 rfl) ?_
          refine va_get (D := D) (ci := 0) (v := .ref (ad 10)) (C := RX0) (T := TX0) (N := 14) hx hb hts in_X0 hown hK hP 0 rfl rfl 10 (by decide) (hts _ q42) (fun _ h9 => h9) rfl dX0_closeReach_100 ?_
          refine lv_iload_n hx hb dX0_closeReach_103 rfl (lv_at hl 1 rfl) ?_
          refine x_ald hx hb hK hP 9 8 rfl rfl (k) rfl c2 (by decide) dX0_closeReach_104 ?_
          refine lv_ior hx hb dX0_closeReach_105 ?_
          refine x_ast hx hb hK hP hD hS 9 8 rfl rfl (u) rfl c3 (by decide) dX0_closeReach_106 (fun H locs hP hD hS => ?_)
          have hP : va_P D vwCl (xW d h ad (va_up a3 10 (upd (a3 10) (u) ((a3 10 (u)) ||| (a3 10 (k))))) w f) H := hP
          have hD : va_D Fr (xW d h ad (va_up a3 10 (upd (a3 10) (u) ((a3 10 (u)) ||| (a3 10 (k))))) w f) := hD
          refine lv_iinc (v := nI (u + 1)) (lv' := [(2, .int (nI (u + 1))), (0, .ref (h)), (1, .int (nI k))]) hx hb dX0_closeReach_107 hl (k := 2) rfl (x_inc _) (by decide) rfl (fun ls hl => ?_)
          refine lv_goto (tgt := 73) hx hb dX0_closeReach_110 (by decide) ?_
          exact ih3 ((u + 1, (va_up a3 10 (upd (a3 10) (u) ((a3 10 (u)) ||| (a3 10 (k))))))) (show (u + 1) ≤ 9 ∧ (∀ j, j ≠ 10 → ((va_up a3 10 (upd (a3 10) (u) ((a3 10 (u)) ||| (a3 10 (k)))))) j = a j) ∧ (∀ p, p < (u + 1) → ∀ q, q < 32 → (bt (((va_up a3 10 (upd (a3 10) (u) ((a3 10 (u)) ||| (a3 10 (k)))))) 10 p) q = true ↔ bt (a2 10 p) q = true ∨ (bt (a2 10 p) k = true ∧ bt (a2 10 k) q = true))) ∧ (∀ p, (u + 1) ≤ p → p < 9 → ((va_up a3 10 (upd (a3 10) (u) ((a3 10 (u)) ||| (a3 10 (k)))))) 10 p = a2 10 p) from ⟨by omega, fun j hj => by rw [va_up_n hj]; exact hfr3 j hj, fun p hp q hq => by
                  rw [va_up_s]
                  unfold upd
                  by_cases d1 : p = u
                  · subst d1
                    rw [if_pos rfl, b_or, Bool.or_eq_true, hak q hq, hau, c4]
                    simp
                  · rw [if_neg d1]
                    exact hlo p (by omega) q hq, fun p h1 h2 => by
                  rw [va_up_s]
                  unfold upd
                  rw [if_neg (by omega)]
                  exact hhi p (by omega) h2⟩) (by show 9 - (u + 1) < 9 - u; omega) _ _ _ hP hD hS (lv_sub hl [1, 2, 0] rfl)
  · refine lv_aload_n hx hb dX0_closeReach_8 rfl (lv_at hl 0 rfl) ?_
    refine va_get (D := D) (ci := 0) (v := .ref (ad 10)) (C := RX0) (T := TX0) (N := 14) hx hb hts in_X0 hown hK hP 0 rfl rfl 10 (by decide) (hts _ q42) (fun _ h9 => h9) rfl dX0_closeReach_9 ?_
    refine lv_iload_n hx hb dX0_closeReach_12 rfl (lv_at hl 1 rfl) ?_
    refine lv_iconst (v := nI 1) hx hb dX0_closeReach_13 (by decide) ?_
    refine lv_iload_n hx hb dX0_closeReach_14 rfl (lv_at hl 1 rfl) ?_
    refine lv_ishl hx hb dX0_closeReach_15 ?_
    refine x_ast hx hb hK hP hD hS 9 8 rfl rfl (u) rfl c1 (by decide) dX0_closeReach_16 (fun H locs hP hD hS => ?_)
    have hP : va_P D vwCl (xW d h ad (va_up a1 10 (upd (a1 10) (u) ((nI 1) <<< ((nI u) &&& 31)))) w f) H := hP
    have hD : va_D Fr (xW d h ad (va_up a1 10 (upd (a1 10) (u) ((nI 1) <<< ((nI u) &&& 31)))) w f) := hD
    refine lv_iconst (v := nI 0) hx hb dX0_closeReach_17 (by decide) ?_
    refine lv_istore_n (lv' := [(2, .int (nI 0)), (0, .ref (h)), (1, .int (nI u))]) hx hb dX0_closeReach_18 rfl hl (by decide) rfl (fun ls hl => ?_)
    obtain ⟨a4, ea4⟩ : ∃ z, z = (va_up a1 10 (upd (a1 10) (u) ((nI 1) <<< ((nI u) &&& 31)))) := ⟨_, rfl⟩
    have hP : va_P D vwCl (xW d h ad a4 w f) H := by rw [ea4]; exact hP
    have hD : va_D Fr (xW d h ad a4 w f) := by rw [ea4]; exact hD
    have hfr4 : (∀ j, j ≠ 10 → a4 j = a j) := fun j hj => by rw [ea4, va_up_n hj]; exact hfr j hj
    have h4 : ∀ p, a4 10 p = if p = u then nI 1 <<< (nI u &&& 31) else a1 10 p := fun p => by rw [ea4, va_up_s]; rfl
    refine x_loop (σ := (Nat) × (Nat → Nat → Int32)) 19 3 (fun st => (xW d h ad st.2 w f)) (fun st => [(0, .ref (h)), (1, .int (nI u)), (2, .int (nI st.1))]) (fun st => st.1 ≤ 9 ∧ (∀ j, j ≠ 10 → st.2 j = a j) ∧ (∀ p, p < u → ∀ q, q < 32 → (bt (st.2 10 p) q = true ↔ q = p ∨ (q < 9 ∧ 0 < zL (a 5) (p * 9 + q)))) ∧ ∀ q, q < 32 → (bt (st.2 10 u) q = true ↔ q = u ∨ (q < st.1 ∧ 0 < zL (a 5) (u * 9 + q)))) (fun st => 9 - st.1) ?_ ((0, a4)) (show 0 ≤ 9 ∧ (∀ j, j ≠ 10 → a4 j = a j) ∧ (∀ p, p < u → ∀ q, q < 32 → (bt (a4 10 p) q = true ↔ q = p ∨ (q < 9 ∧ 0 < zL (a 5) (p * 9 + q)))) ∧ ∀ q, q < 32 → (bt (a4 10 u) q = true ↔ q = u ∨ (q < 0 ∧ 0 < zL (a 5) (u * 9 + q))) from ⟨by omega, hfr4, fun p hp q hq => by rw [h4 p, if_neg (by omega)]; exact hb1 p hp q hq, fun q hq => by rw [h4 u, if_pos rfl, b_shl1 (by omega) hq]; simp⟩) hP hD hS (lv_sub hl [1, 2, 0] rfl)
    intro st hI4 ih4 H locs ls hP hD hS hl
    obtain ⟨v, a5⟩ := st
    have hI4 : v ≤ 9 ∧ (∀ j, j ≠ 10 → a5 j = a j) ∧ (∀ p, p < u → ∀ q, q < 32 → (bt (a5 10 p) q = true ↔ q = p ∨ (q < 9 ∧ 0 < zL (a 5) (p * 9 + q)))) ∧ ∀ q, q < 32 → (bt (a5 10 u) q = true ↔ q = u ∨ (q < v ∧ 0 < zL (a 5) (u * 9 + q))) := hI4
    have hl : lv_has ls 3 [(0, .ref (h)), (1, .int (nI u)), (2, .int (nI v))] := hl
    have hP : va_P D vwCl (xW d h ad a5 w f) H := hP
    have hD : va_D Fr (xW d h ad a5 w f) := hD
    obtain ⟨hv, hfr5, hb5, hbu⟩ := hI4
    refine lv_iload_n hx hb dX0_closeReach_19 rfl (lv_at hl 2 rfl) ?_
    refine lv_bipush (v := nI 9) hx hb dX0_closeReach_20 (by decide) ?_
    refine x_ge hx hb (v) (9) rfl rfl (by omega) (by omega) (tgt := 57) dX0_closeReach_22 (by decide) (fun c5 => ?_) (fun c5 => ?_)
    · have hv9 : v = 9 := by omega
      subst hv9
      refine lv_iinc (v := nI (u + 1)) (lv' := [(1, .int (nI (u + 1))), (0, .ref (h)), (2, .int (nI 9))]) hx hb dX0_closeReach_57 hl (k := 1) rfl (x_inc _) (by decide) rfl (fun ls hl => ?_)
      refine lv_goto (tgt := 2) hx hb dX0_closeReach_60 (by decide) ?_
      exact ih ((u + 1, a5)) (show (u + 1) ≤ 9 ∧ (∀ j, j ≠ 10 → a5 j = a j) ∧ ∀ p, p < (u + 1) → ∀ q, q < 32 → (bt (a5 10 p) q = true ↔ q = p ∨ (q < 9 ∧ 0 < zL (a 5) (p * 9 + q))) from ⟨by omega, hfr5, fun p hp q hq => by
            rcases Nat.lt_or_ge p u with z | z
            · exact hb5 p z q hq
            · have : p = u := by omega
              subst this; exact hbu q hq⟩) (by show 9 - (u + 1) < 9 - u; omega) _ _ _ hP hD hS (lv_sub hl [1, 0] rfl)
    · refine lv_aload_n hx hb dX0_closeReach_25 rfl (lv_at hl 0 rfl) ?_
      refine va_get (D := D) (ci := 0) (v := .ref (ad 5)) (C := RX0) (T := TX0) (N := 14) hx hb hts in_X0 hown hK hP 0 rfl rfl 5 (by decide) (hts _ q37) (fun _ h9 => h9) rfl dX0_closeReach_26 ?_
      refine lv_iload_n hx hb dX0_closeReach_29 rfl (lv_at hl 1 rfl) ?_
      refine lv_bipush (v := nI 9) hx hb dX0_closeReach_30 (by decide) ?_
      refine lv_imul hx hb dX0_closeReach_32 ?_
      refine lv_iload_n hx hb dX0_closeReach_33 rfl (lv_at hl 2 rfl) ?_
      refine lv_iadd hx hb dX0_closeReach_34 ?_
      refine x_ald hx hb hK hP 6 5 rfl rfl (u * 9 + v) (by simp only [pk_mul, nI_add]) (by omega) (by decide) dX0_closeReach_35 ?_
      refine x_top (y := a 5 (u * 9 + v)) (by rw [hfr5 5 (by omega)]) ?_
      refine lv_if_le (tgt := 51) hx hb dX0_closeReach_36 (by decide) (fun c6 => ?_) (fun c6 => ?_)
      · rw [z_le] at c6
        have hz0 : (0 : Int32).toInt = 0 := rfl
        refine lv_iinc (v := nI (v + 1)) (lv' := [(2, .int (nI (v + 1))), (0, .ref (h)), (1, .int (nI u))]) hx hb dX0_closeReach_51 hl (k := 2) rfl (x_inc _) (by decide) rfl (fun ls hl => ?_)
        refine lv_goto (tgt := 19) hx hb dX0_closeReach_54 (by decide) ?_
        exact ih4 ((v + 1, a5)) (show (v + 1) ≤ 9 ∧ (∀ j, j ≠ 10 → a5 j = a j) ∧ (∀ p, p < u → ∀ q, q < 32 → (bt (a5 10 p) q = true ↔ q = p ∨ (q < 9 ∧ 0 < zL (a 5) (p * 9 + q)))) ∧ ∀ q, q < 32 → (bt (a5 10 u) q = true ↔ q = u ∨ (q < (v + 1) ∧ 0 < zL (a 5) (u * 9 + q))) from ⟨by omega, hfr5, hb5, fun q hq => by
                rw [hbu q hq]
                constructor
                · rintro (z | z)
                  · exact Or.inl z
                  · exact Or.inr ⟨by omega, z.2⟩
                · rintro (z | ⟨z1, z2⟩)
                  · exact Or.inl z
                  · rcases Nat.lt_or_ge q v with y | y
                    · exact Or.inr ⟨y, z2⟩
                    · have : q = v := by omega
                      subst this
                      have z2 : 0 < (a 5 (u * 9 + q)).toInt := z2
                      omega⟩) (by show 9 - (v + 1) < 9 - v; omega) _ _ _ hP hD hS (lv_sub hl [1, 2, 0] rfl)
      · rw [z_le] at c6
        have hz0 : (0 : Int32).toInt = 0 := rfl
        have c7 : 0 < zL (a 5) (u * 9 + v) := by show 0 < (a 5 (u * 9 + v)).toInt; omega
        refine lv_aload_n hx hb dX0_closeReach_39 rfl (lv_at hl 0 rfl) ?_
        refine va_get (D := D) (ci := 0) (v := .ref (ad 10)) (C := RX0) (T := TX0) (N := 14) hx hb hts in_X0 hown hK hP 0 rfl rfl 10 (by decide) (hts _ q42) (fun _ h9 => h9) rfl dX0_closeReach_40 ?_
        refine lv_iload_n hx hb dX0_closeReach_43 rfl (lv_at hl 1 rfl) ?_
        refine lv_dup2_11 hx hb dX0_closeReach_44 rfl rfl ?_
        refine x_ald hx hb hK hP 9 8 rfl rfl (u) rfl c1 (by decide) dX0_closeReach_45 ?_
        refine lv_iconst (v := nI 1) hx hb dX0_closeReach_46 (by decide) ?_
        refine lv_iload_n hx hb dX0_closeReach_47 rfl (lv_at hl 2 rfl) ?_
        refine lv_ishl hx hb dX0_closeReach_48 ?_
        refine lv_ior hx hb dX0_closeReach_49 ?_
        refine x_ast hx hb hK hP hD hS 9 8 rfl rfl (u) rfl c1 (by decide) dX0_closeReach_50 (fun H locs hP hD hS => ?_)
        have hP : va_P D vwCl (xW d h ad (va_up a5 10 (upd (a5 10) (u) ((a5 10 (u)) ||| ((nI 1) <<< ((nI v) &&& 31))))) w f) H := hP
        have hD : va_D Fr (xW d h ad (va_up a5 10 (upd (a5 10) (u) ((a5 10 (u)) ||| ((nI 1) <<< ((nI v) &&& 31))))) w f) := hD
        refine lv_iinc (v := nI (v + 1)) (lv' := [(2, .int (nI (v + 1))), (0, .ref (h)), (1, .int (nI u))]) hx hb dX0_closeReach_51 hl (k := 2) rfl (x_inc _) (by decide) rfl (fun ls hl => ?_)
        refine lv_goto (tgt := 19) hx hb dX0_closeReach_54 (by decide) ?_
        exact ih4 ((v + 1, (va_up a5 10 (upd (a5 10) (u) ((a5 10 (u)) ||| ((nI 1) <<< ((nI v) &&& 31))))))) (show (v + 1) ≤ 9 ∧ (∀ j, j ≠ 10 → ((va_up a5 10 (upd (a5 10) (u) ((a5 10 (u)) ||| ((nI 1) <<< ((nI v) &&& 31)))))) j = a j) ∧ (∀ p, p < u → ∀ q, q < 32 → (bt (((va_up a5 10 (upd (a5 10) (u) ((a5 10 (u)) ||| ((nI 1) <<< ((nI v) &&& 31)))))) 10 p) q = true ↔ q = p ∨ (q < 9 ∧ 0 < zL (a 5) (p * 9 + q)))) ∧ ∀ q, q < 32 → (bt (((va_up a5 10 (upd (a5 10) (u) ((a5 10 (u)) ||| ((nI 1) <<< ((nI v) &&& 31)))))) 10 u) q = true ↔ q = u ∨ (q < (v + 1) ∧ 0 < zL (a 5) (u * 9 + q))) from ⟨by omega, fun j hj => by rw [va_up_n hj]; exact hfr5 j hj, fun p hp q hq => by
                rw [va_up_s]
                unfold upd
                rw [if_neg (by omega)]
                exact hb5 p hp q hq, fun q hq => by
                rw [va_up_s]
                unfold upd
                rw [if_pos rfl, b_or, Bool.or_eq_true, hbu q hq, b_shl1 (by omega) hq, decide_eq_true_eq]
                constructor
                · rintro ((z | z) | z)
                  · exact Or.inl z
                  · exact Or.inr ⟨by omega, z.2⟩
                  · subst z; exact Or.inr ⟨by omega, c7⟩
                · rintro (z | ⟨z1, z2⟩)
                  · exact Or.inl (Or.inl z)
                  · rcases Nat.lt_or_ge q v with y | y
                    · exact Or.inl (Or.inr ⟨y, z2⟩)
                    · exact Or.inr (by omega)⟩) (by show 9 - (v + 1) < 9 - v; omega) _ _ _ hP hD hS (lv_sub hl [1, 2, 0] rfl)
/-- what the object holds between calls -/
def XOK (a : Nat → Nat → Int32) (w f : Int32) : Prop := DOK a ∧ (w = -1 ∨ ∃ x, x ≤ 50 ∧ w = nI x ∧ Wk a x (zL (a 5)) f.toInt (a 10))
set_option maxHeartbeats 4000000 in
set_option maxRecDepth 100000 in
theorem mX0_work (l : Launch) (D : va_G) (d : Nat → ClassId) (h : Nat) (ad : Nat → Nat) (Fr : Nat → Prop) (a : Nat → Nat → Int32) (w f : Int32) (x : Nat) (hx5 : x ≤ 50) (hok : XOK a w f) (hD : va_D Fr (xW d h ad a w f)) : Met l yX0_work (ws_ yX0_work cX0_work 2 none) xr2 (x_Pc D (xT d) (xW d h ad a w f) [.ref (h), .int (nI x)]) (va_Qv (fun u : xS => (∀ j, j < 5 → u.1 j = a j) ∧ u.2.1 = nI x ∧ Wk a x (zL (u.1 5)) u.2.2.toInt (u.1 10)) (fun u t => va_P D vwCl (xV d h ad u) t.heap) Fr) 0 0 Fr := by
  refine Met.ofW (cc := cX0_work) (maxL := 2) (ret := none) (by decide) rfl ?_
  intro p e s m args below meth c s₁ B hml hv
  obtain ⟨rfl, hP, hK⟩ := hv
  have hx := B.exec
  have hb := B.bytes
  have hr := B.returns
  have hlocks := B.notSynchronized
  have hts := atoms_spec (ws := (ws_ yX0_work cX0_work 2 none)) B.pre
  have hts : ∀ w ∈ lw_all, w.before _ s = true := fun w h => hts w (List.mem_cons_of_mem _ h)
  have hown : s.vm.findClass RX0 = some m.cls := findClass_of_methodNamed B.named
  have hS : va_S Fr s.heap s.heap [] := va_S.rf
  have hl := lv_entry ([.ref (h), .int (nI x)]) (n := 2) (Nat.le_of_ble_eq_true rfl)
  rw [lg_entry_eq]
  generalize (lg_sl ([.ref (h), .int (nI x)]) ++ List.replicate (2 - (lg_sl ([.ref (h), .int (nI x)])).length) Slot.unset).toArray = ls at hl ⊢
  have hl : lv_has ls 2 [(0, .ref (h)), (1, .int (nI x))] := hl
  have hP : va_P D vwCl (xW d h ad a w f) s.heap := hP
  obtain ⟨hg, hwk⟩ := hok
  refine lv_aload_n hx hb dX0_work_0 rfl (lv_at hl 0 rfl) ?_
  refine va_get (D := D) (ci := 0) (v := .int (w)) (C := RX0) (T := TX0) (N := 14) hx hb hts in_X0 hown hK hP 0 rfl rfl 6 (by decide) (hts _ q38) (fun _ h9 => h9) rfl dX0_work_1 ?_
  refine lv_iload_n hx hb dX0_work_4 rfl (lv_at hl 1 rfl) ?_
  refine lv_icmp_ne (tgt := 9) hx hb dX0_work_5 (by decide) (fun c1 => ?_) (fun c1 => ?_)
  · refine lv_aload_n hx hb dX0_work_9 rfl (lv_at hl 0 rfl) ?_
    refine lv_iload_n hx hb dX0_work_10 rfl (lv_at hl 1 rfl) ?_
    refine va_put (D := D) (ci := 0) (v := .int (nI x)) (ty := .int) (C := RX0) (T := TX0) (N := 14) hx hb hts in_X0 tyX0 tyX0_ok nmX0 hown hK hP hD hS 0 rfl rfl 6 (by decide) (hts _ q38) (fun _ h9 => h9) rfl (by decide +kernel) rfl rfl (Nat.le_of_ble_eq_true rfl) dX0_work_11 (fun H locs hP hD hS => ?_)
    have hP : va_P D vwCl (xW d h ad a (nI x) f) H := hP
    have hD : va_D Fr (xW d h ad a (nI x) f) := hD
    refine lv_aload_n hx hb dX0_work_14 rfl (lv_at hl 0 rfl) ?_
    refine lv_iload_n hx hb dX0_work_15 rfl (lv_at hl 1 rfl) ?_
    refine x_wrv (xV d h ad) (As := [.int (nI x)]) (rest := []) ⟨hx, hb, hml, hown, hts⟩ (mX0_load l D d h ad Fr a (nI x) f x hx5 hg hD) (cwV 1 hts (lw_V q128 q130 qs4 q22 q131) rfl rfl rfl (by decide +kernel) ⟨Nat.le_of_ble_eq_true rfl, Nat.le_of_ble_eq_true rfl⟩) (va_recv hK hP (ci := 0) (q0 := 0) rfl rfl) hK hP hS hl rfl rfl (Nat.le_of_ble_eq_true rfl) dX0_work_16 ⟨Nat.zero_le _, Nat.zero_le _⟩ (fun u_ H locs hq1 hP hS => ?_)
    obtain ⟨a1, w1, f1⟩ := u_
    have hP : va_P D vwCl (xW d h ad a1 w1 f1) H := hP
    have hD : va_D Fr (xW d h ad a1 w1 f1) := x_Db hD rfl
    obtain ⟨hf1, e1, e2, hld⟩ := hq1
    have e1 : w1 = (nI x) := e1
    rw [e1] at hP hD
    have e2 : f1 = f := e2
    rw [e2] at hP hD
    have hld : ∀ p q, p < 9 → q < 9 → zL (a1 5) (p * 9 + q) = ldF a x p q := hld
    refine lv_aload_n hx hb dX0_work_19 rfl (lv_at hl 0 rfl) ?_
    refine x_wrv (xV d h ad) (As := []) (rest := []) ⟨hx, hb, hml, hown, hts⟩ (mX0_grow l D d h ad Fr a1 (nI x) f (ld_nn hg hx5 hld) (ld_pb hg hx5 hld) (ld_ends hg hx5 hld) ⟨fun w => w == 7, rfl, rfl, by have := ld_cut hg hx5 hld; omega⟩ hD) (cwV 0 hts (lw_V q132 q134 qs5 q22 q135) rfl rfl rfl (by decide +kernel) ⟨Nat.le_of_ble_eq_true rfl, Nat.le_of_ble_eq_true rfl⟩) (va_recv hK hP (ci := 0) (q0 := 0) rfl rfl) hK hP hS hl rfl rfl (Nat.le_of_ble_eq_true rfl) dX0_work_20 ⟨Nat.zero_le _, Nat.zero_le _⟩ (fun u_ H locs hq2 hP hS => ?_)
    obtain ⟨a2, w2, f2⟩ := u_
    have hP : va_P D vwCl (xW d h ad a2 w2 f2) H := hP
    have hD : va_D Fr (xW d h ad a2 w2 f2) := x_Db hD rfl
    obtain ⟨hf2, e3, hn2, hfl, hrc, hT⟩ := hq2
    have e3 : w2 = (nI x) := e3
    rw [e3] at hP hD
    refine lv_aload_n hx hb dX0_work_23 rfl (lv_at hl 0 rfl) ?_
    refine x_wrv (xV d h ad) (As := []) (rest := []) ⟨hx, hb, hml, hown, hts⟩ (mX0_closeReach l D d h ad Fr a2 (nI x) f2 hD) (cwV 0 hts (lw_V q149 q151 qs9 q22 q152) rfl rfl rfl (by decide +kernel) ⟨Nat.le_of_ble_eq_true rfl, Nat.le_of_ble_eq_true rfl⟩) (va_recv hK hP (ci := 0) (q0 := 0) rfl rfl) hK hP hS hl rfl rfl (Nat.le_of_ble_eq_true rfl) dX0_work_24 ⟨Nat.zero_le _, Nat.zero_le _⟩ (fun u_ H locs hq3 hP hS => ?_)
    obtain ⟨a3, w3, f3⟩ := u_
    have hP : va_P D vwCl (xW d h ad a3 w3 f3) H := hP
    have hD : va_D Fr (xW d h ad a3 w3 f3) := x_Db hD rfl
    obtain ⟨hf3, e4, e5, hRC⟩ := hq3
    have e4 : w3 = (nI x) := e4
    rw [e4] at hP hD
    have e5 : f3 = f2 := e5
    rw [e5] at hP hD
    have h35 : a3 5 = a2 5 := hf3 5 (by omega)
    exact x_vretW (WS := xV d h ad) ((a3, nI x, f2)) hx hb hr hlocks hS hP dX0_work_27 ⟨fun j hj => (hf3 j (by omega)).trans ((hf2 j (by omega) (by omega) (by omega)).trans (hf1 j (by omega))), rfl, by show Wk a x (zL (a3 5)) f2.toInt (a3 10); rw [h35]; exact ⟨⟨hn2, fun T h7 h8 => (hrc T h7 h8).trans (by rw [rc_load hg hld h7 h8]), hT⟩, hRC⟩⟩
  · have hW : Wk a x (zL (a 5)) f.toInt (a 10) := by
      rcases hwk with q | ⟨y, y1, y2, y3⟩
      · rw [q] at c1
        have : (-1 : Int32).toInt = (nI x).toInt := by rw [c1]
        rw [z_nI (by omega), show (-1 : Int32).toInt = -1 from rfl] at this
        omega
      · rw [y2] at c1
        have := (nI_eq (by omega) (by omega)).mp c1
        subst this; exact y3
    exact x_vretW (WS := xV d h ad) ((a, w, f)) hx hb hr hlocks hS hP dX0_work_8 ⟨fun _ _ => rfl, c1, hW⟩
end
section
/-! the class's questions and changes -/
theorem XOK_of {a a1 : Nat → Nat → Int32} {f1 : Int32} {n : Nat} (hg : DOK a) (hf : ∀ j, j < 5 → a1 j = a j) (hn : n < 51) (hW : Wk a n (zL (a1 5)) f1.toInt (a1 10)) : XOK a1 (nI n) f1 :=
  ⟨DOK_congr (fun k hk => (hf k hk).symm) hg, Or.inr ⟨n, by omega, rfl, Wk_congr (fun k hk => (hf k hk).symm) hW⟩⟩
def XK (a : Nat → Nat → Int32) (u : xS) : Prop := XOK u.1 u.2.1 u.2.2 ∧ ∀ j, j < 5 → u.1 j = a j
def lkB (u v : Int32) : Prop := ¬ isN u 7 ∨ ¬ isN v 7 ∨ u = v
/-- what link answers and leaves; the data g -/
def lkQ (g : Nat → Nat → Int32) (u v c r : Int32) (g' : Nat → Nat → Int32) : Prop :=
  (lkB u v ∧ r = -1 ∧ g' = g) ∨ (¬ lkB u v ∧ ¬ isN c 21 ∧ r = -2 ∧ g' = g) ∨ ∃ nu nv, nu < 7 ∧ nv < 7 ∧ nu ≠ nv ∧ u = nI nu ∧ v = nI nv ∧ isN c 21 ∧ r = g 0 (nu * 7 + nv) ∧ g' = lkG g nu nv c
def plQ (i j : Nat) (g : Nat → Nat → Int32) (v b sl r : Int32) (g' : Nat → Nat → Int32) : Prop :=
  (¬ isN v 7 ∧ r = -1 ∧ g' = g) ∨ (isN v 7 ∧ ¬ okP b sl ∧ r = -2 ∧ g' = g) ∨ ∃ n, n < 7 ∧ v = nI n ∧ okP b sl ∧ r = 0 ∧ g' = plG g i j n b sl
theorem nI_ne {a b : Nat} (ha : a < 100) (hb : b < 100) (h : a ≠ b) : ¬ nI a = nI b := fun q => h ((nI_eq (by omega) (by omega)).mp q)
theorem lkB_not {a b : Nat} (ha : a < 7) (hb : b < 7) (h : a ≠ b) : ¬ lkB (nI a) (nI b) := fun q => by
  rcases q with q | q | q
  · exact q ⟨a, ha, rfl⟩
  · exact q ⟨b, hb, rfl⟩
  · exact nI_ne (by omega) (by omega) h q
set_option maxHeartbeats 4000000 in
set_option maxRecDepth 100000 in
theorem mX0_link (l : Launch) (D : va_G) (d : Nat → ClassId) (h : Nat) (ad : Nat → Nat) (Fr : Nat → Prop) (a : Nat → Nat → Int32) (w f : Int32) (u v cc_ : Int32) (hD : va_D Fr (xW d h ad a w f)) : Met l yX0_link (ws_ yX0_link cX0_link 5 (some .int)) xr1 (x_Pc D (xT d) (xW d h ad a w f) [.ref (h), .int (u), .int (v), .int (cc_)]) (va_Qi (fun r (u' : xS) => lkQ a u v cc_ r u'.1 ∧ ((u'.1 = a ∧ u'.2.1 = w ∧ u'.2.2 = f) ∨ u'.2.1 = -1)) (fun u t => va_P D vwCl (xV d h ad u) t.heap) Fr) 0 0 Fr := by
  refine Met.ofW (cc := cX0_link) (maxL := 5) (ret := (some .int)) (by decide) rfl ?_
  intro p e s m args below meth c s₁ B hml hv
  obtain ⟨rfl, hP, hK⟩ := hv
  have hx := B.exec
  have hb := B.bytes
  have hr := B.returns
  have hlocks := B.notSynchronized
  have hts := atoms_spec (ws := (ws_ yX0_link cX0_link 5 (some .int))) B.pre
  have hts : ∀ w ∈ lw_all, w.before _ s = true := fun w h => hts w (List.mem_cons_of_mem _ h)
  have hown : s.vm.findClass RX0 = some m.cls := findClass_of_methodNamed B.named
  have hS : va_S Fr s.heap s.heap [] := va_S.rf
  have hl := lv_entry ([.ref (h), .int (u), .int (v), .int (cc_)]) (n := 5) (Nat.le_of_ble_eq_true rfl)
  rw [lg_entry_eq]
  generalize (lg_sl ([.ref (h), .int (u), .int (v), .int (cc_)]) ++ List.replicate (5 - (lg_sl ([.ref (h), .int (u), .int (v), .int (cc_)])).length) Slot.unset).toArray = ls at hl ⊢
  have hl : lv_has ls 5 [(0, .ref (h)), (1, .int (u)), (2, .int (v)), (3, .int (cc_))] := hl
  have hP : va_P D vwCl (xW d h ad a w f) s.heap := hP
  refine lv_iload_n hx hb dX0_link_0 rfl (lv_at hl 1 rfl) ?_
  refine x_roS (As := [.int (u)]) (rest := []) ⟨hx, hb, hml, hown, hts⟩ (mX0_bad l D u) (va_cwS 1 hts (lw_S q80 q81 q22 q82) rfl rfl rfl (by decide +kernel) ⟨Nat.le_of_ble_eq_true rfl, Nat.le_of_ble_eq_true rfl⟩) x_P0 (hK.sub [] rfl) hP hS hl rfl rfl (Nat.le_of_ble_eq_true rfl) dX0_link_1 ⟨Nat.zero_le _, Nat.zero_le _⟩ (fun r_ H locs e_ hP hS => ?_)
  rcases e_ with ⟨e_, hb_nu⟩ | ⟨e_, nu, hnu, ev_⟩
  · subst e_
    refine lv_if_ne (tgt := 19) hx hb dX0_link_4 (by decide) (fun _ => ?_) (fun c => absurd c (by decide))
    refine lv_iconst (v := -1) hx hb dX0_link_19 (by decide) ?_
    exact x_iretW (WS := xV d h ad) ((a, w, f)) hx hb hr hlocks hS hP dX0_link_20 ⟨Or.inl ⟨Or.inl hb_nu, rfl, rfl⟩, Or.inl ⟨rfl, rfl, rfl⟩⟩
  · subst e_
    subst ev_
    refine lv_if_ne (tgt := 19) hx hb dX0_link_4 (by decide) (fun c => absurd rfl c) (fun _ => ?_)
    refine lv_iload_n hx hb dX0_link_7 rfl (lv_at hl 2 rfl) ?_
    refine x_roS (As := [.int (v)]) (rest := []) ⟨hx, hb, hml, hown, hts⟩ (mX0_bad l D v) (va_cwS 1 hts (lw_S q80 q81 q22 q82) rfl rfl rfl (by decide +kernel) ⟨Nat.le_of_ble_eq_true rfl, Nat.le_of_ble_eq_true rfl⟩) x_P0 (hK.sub [] rfl) hP hS hl rfl rfl (Nat.le_of_ble_eq_true rfl) dX0_link_8 ⟨Nat.zero_le _, Nat.zero_le _⟩ (fun r_ H locs e_ hP hS => ?_)
    rcases e_ with ⟨e_, hb_nv⟩ | ⟨e_, nv, hnv, ev_⟩
    · subst e_
      refine lv_if_ne (tgt := 19) hx hb dX0_link_11 (by decide) (fun _ => ?_) (fun c => absurd c (by decide))
      refine lv_iconst (v := -1) hx hb dX0_link_19 (by decide) ?_
      exact x_iretW (WS := xV d h ad) ((a, w, f)) hx hb hr hlocks hS hP dX0_link_20 ⟨Or.inl ⟨Or.inr (Or.inl hb_nv), rfl, rfl⟩, Or.inl ⟨rfl, rfl, rfl⟩⟩
    · subst e_
      subst ev_
      refine lv_if_ne (tgt := 19) hx hb dX0_link_11 (by decide) (fun c => absurd rfl c) (fun _ => ?_)
      refine lv_iload_n hx hb dX0_link_14 rfl (lv_at hl 1 rfl) ?_
      refine lv_iload_n hx hb dX0_link_15 rfl (lv_at hl 2 rfl) ?_
      refine x_ne hx hb (nu) (nv) rfl rfl (by omega) (by omega) (tgt := 21) dX0_link_16 (by decide) (fun c1 => ?_) (fun c1 => ?_)
      · have hc := isN_iff (v := cc_) (N := 21) (by decide)
        have hz0 : (0 : Int32).toInt = 0 := rfl
        have hz20 : (nI 20).toInt = 20 := rfl
        refine lv_iload_n hx hb dX0_link_21 rfl (lv_at hl 3 rfl) ?_
        refine lv_if_lt (tgt := 31) hx hb dX0_link_22 (by decide) (fun c2 => ?_) (fun c2 => ?_)
        · rw [z_lt] at c2
          refine lv_bipush (v := -2) hx hb dX0_link_31 (by decide) ?_
          exact x_iretW (WS := xV d h ad) ((a, w, f)) hx hb hr hlocks hS hP dX0_link_33 ⟨Or.inr (Or.inl ⟨lkB_not hnu hnv c1, fun q => by have := hc.mp q; omega, rfl, rfl⟩), Or.inl ⟨rfl, rfl, rfl⟩⟩
        · rw [z_lt] at c2
          refine lv_iload_n hx hb dX0_link_25 rfl (lv_at hl 3 rfl) ?_
          refine lv_bipush (v := nI 20) hx hb dX0_link_26 (by decide) ?_
          refine lv_icmp_le (tgt := 34) hx hb dX0_link_28 (by decide) (fun c3 => ?_) (fun c3 => ?_)
          · rw [z_le] at c3
            refine lv_aload_n hx hb dX0_link_34 rfl (lv_at hl 0 rfl) ?_
            refine va_get (D := D) (ci := 0) (v := .ref (ad 0)) (C := RX0) (T := TX0) (N := 14) hx hb hts in_X0 hown hK hP 0 rfl rfl 0 (by decide) (hts _ q32) (fun _ h9 => h9) rfl dX0_link_35 ?_
            refine lv_iload_n hx hb dX0_link_38 rfl (lv_at hl 1 rfl) ?_
            refine lv_bipush (v := nI 7) hx hb dX0_link_39 (by decide) ?_
            refine lv_imul hx hb dX0_link_41 ?_
            refine lv_iload_n hx hb dX0_link_42 rfl (lv_at hl 2 rfl) ?_
            refine lv_iadd hx hb dX0_link_43 ?_
            refine x_ald hx hb hK hP 1 0 rfl rfl (nu * 7 + nv) (by simp only [pk_mul, nI_add]) (by omega) (by decide) dX0_link_44 ?_
            refine lv_istore (lv' := [(4, .int (a 0 (nu * 7 + nv))), (0, .ref (h)), (1, .int ((nI nu))), (2, .int ((nI nv))), (3, .int (cc_))]) hx hb dX0_link_45 hl (by decide) rfl (fun ls hl => ?_)
            refine lv_aload_n hx hb dX0_link_47 rfl (lv_at hl 1 rfl) ?_
            refine va_get (D := D) (ci := 0) (v := .ref (ad 0)) (C := RX0) (T := TX0) (N := 14) hx hb hts in_X0 hown hK hP 0 rfl rfl 0 (by decide) (hts _ q32) (fun _ h9 => h9) rfl dX0_link_48 ?_
            refine lv_iload_n hx hb dX0_link_51 rfl (lv_at hl 2 rfl) ?_
            refine lv_bipush (v := nI 7) hx hb dX0_link_52 (by decide) ?_
            refine lv_imul hx hb dX0_link_54 ?_
            refine lv_iload_n hx hb dX0_link_55 rfl (lv_at hl 3 rfl) ?_
            refine lv_iadd hx hb dX0_link_56 ?_
            refine lv_iload_n hx hb dX0_link_57 rfl (lv_at hl 4 rfl) ?_
            refine x_ast hx hb hK hP hD hS 1 0 rfl rfl (nu * 7 + nv) (by simp only [pk_mul, nI_add]) (by omega) (by decide) dX0_link_58 (fun H locs hP hD hS => ?_)
            have hP : va_P D vwCl (xW d h ad (va_up a 0 (upd (a 0) (nu * 7 + nv) (cc_))) w f) H := hP
            have hD : va_D Fr (xW d h ad (va_up a 0 (upd (a 0) (nu * 7 + nv) (cc_))) w f) := hD
            refine lv_aload_n hx hb dX0_link_59 rfl (lv_at hl 1 rfl) ?_
            refine va_get (D := D) (ci := 0) (v := .ref (ad 0)) (C := RX0) (T := TX0) (N := 14) hx hb hts in_X0 hown hK hP 0 rfl rfl 0 (by decide) (hts _ q32) (fun _ h9 => h9) rfl dX0_link_60 ?_
            refine lv_iload_n hx hb dX0_link_63 rfl (lv_at hl 3 rfl) ?_
            refine lv_bipush (v := nI 7) hx hb dX0_link_64 (by decide) ?_
            refine lv_imul hx hb dX0_link_66 ?_
            refine lv_iload_n hx hb dX0_link_67 rfl (lv_at hl 2 rfl) ?_
            refine lv_iadd hx hb dX0_link_68 ?_
            refine lv_iload_n hx hb dX0_link_69 rfl (lv_at hl 4 rfl) ?_
            refine x_ast hx hb hK hP hD hS 1 0 rfl rfl (nv * 7 + nu) (by simp only [pk_mul, nI_add]) (by omega) (by decide) dX0_link_70 (fun H locs hP hD hS => ?_)
            have hP : va_P D vwCl (xW d h ad (va_up (va_up a 0 (upd (a 0) (nu * 7 + nv) (cc_))) 0 (upd ((va_up a 0 (upd (a 0) (nu * 7 + nv) (cc_))) 0) (nv * 7 + nu) (cc_))) w f) H := hP
            have hD : va_D Fr (xW d h ad (va_up (va_up a 0 (upd (a 0) (nu * 7 + nv) (cc_))) 0 (upd ((va_up a 0 (upd (a 0) (nu * 7 + nv) (cc_))) 0) (nv * 7 + nu) (cc_))) w f) := hD
            refine lv_aload_n hx hb dX0_link_71 rfl (lv_at hl 1 rfl) ?_
            refine lv_iconst (v := -1) hx hb dX0_link_72 (by decide) ?_
            refine va_put (D := D) (ci := 0) (v := .int ((-1))) (ty := .int) (C := RX0) (T := TX0) (N := 14) hx hb hts in_X0 tyX0 tyX0_ok nmX0 hown hK hP hD hS 0 rfl rfl 6 (by decide) (hts _ q38) (fun _ h9 => h9) rfl (by decide +kernel) rfl rfl (Nat.le_of_ble_eq_true rfl) dX0_link_73 (fun H locs hP hD hS => ?_)
            have hP : va_P D vwCl (xW d h ad (va_up (va_up a 0 (upd (a 0) (nu * 7 + nv) (cc_))) 0 (upd ((va_up a 0 (upd (a 0) (nu * 7 + nv) (cc_))) 0) (nv * 7 + nu) (cc_))) ((-1)) f) H := hP
            have hD : va_D Fr (xW d h ad (va_up (va_up a 0 (upd (a 0) (nu * 7 + nv) (cc_))) 0 (upd ((va_up a 0 (upd (a 0) (nu * 7 + nv) (cc_))) 0) (nv * 7 + nu) (cc_))) ((-1)) f) := hD
            refine lv_iload hx hb dX0_link_76 (lv_at hl 0 rfl) ?_
            exact x_iretW (WS := xV d h ad) (((va_up (va_up a 0 (upd (a 0) (nu * 7 + nv) (cc_))) 0 (upd ((va_up a 0 (upd (a 0) (nu * 7 + nv) (cc_))) 0) (nv * 7 + nu) (cc_))), ((-1)), f)) hx hb hr hlocks hS hP dX0_link_78 ⟨Or.inr (Or.inr ⟨nu, nv, hnu, hnv, c1, rfl, rfl, hc.mpr (by omega), rfl, by show va_up (va_up _ _ _) _ _ = lkG _ _ _ _; rw [bx_uu]; rfl⟩), Or.inr rfl⟩
          · rw [z_le] at c3
            refine lv_bipush (v := -2) hx hb dX0_link_31 (by decide) ?_
            exact x_iretW (WS := xV d h ad) ((a, w, f)) hx hb hr hlocks hS hP dX0_link_33 ⟨Or.inr (Or.inl ⟨lkB_not hnu hnv c1, fun q => by have := hc.mp q; omega, rfl, rfl⟩), Or.inl ⟨rfl, rfl, rfl⟩⟩
      · subst c1
        refine lv_iconst (v := -1) hx hb dX0_link_19 (by decide) ?_
        exact x_iretW (WS := xV d h ad) ((a, w, f)) hx hb hr hlocks hS hP dX0_link_20 ⟨Or.inl ⟨Or.inr (Or.inr rfl), rfl, rfl⟩, Or.inl ⟨rfl, rfl, rfl⟩⟩
set_option maxHeartbeats 4000000 in
set_option maxRecDepth 100000 in
theorem mX0_toSource (l : Launch) (D : va_G) (d : Nat → ClassId) (h : Nat) (ad : Nat → Nat) (Fr : Nat → Prop) (a : Nat → Nat → Int32) (w f : Int32) (v b sl : Int32) (hD : va_D Fr (xW d h ad a w f)) : Met l yX0_toSource (ws_ yX0_toSource cX0_toSource 4 (some .int)) xr1 (x_Pc D (xT d) (xW d h ad a w f) [.ref (h), .int (v), .int (b), .int (sl)]) (va_Qi (fun r (u' : xS) => plQ 1 2 a v b sl r u'.1 ∧ ((u'.1 = a ∧ u'.2.1 = w ∧ u'.2.2 = f) ∨ u'.2.1 = -1)) (fun u t => va_P D vwCl (xV d h ad u) t.heap) Fr) 0 0 Fr := by
  refine Met.ofW (cc := cX0_toSource) (maxL := 4) (ret := (some .int)) (by decide) rfl ?_
  intro p e s m args below meth c s₁ B hml hv
  obtain ⟨rfl, hP, hK⟩ := hv
  have hx := B.exec
  have hb := B.bytes
  have hr := B.returns
  have hlocks := B.notSynchronized
  have hts := atoms_spec (ws := (ws_ yX0_toSource cX0_toSource 4 (some .int))) B.pre
  have hts : ∀ w ∈ lw_all, w.before _ s = true := fun w h => hts w (List.mem_cons_of_mem _ h)
  have hown : s.vm.findClass RX0 = some m.cls := findClass_of_methodNamed B.named
  have hS : va_S Fr s.heap s.heap [] := va_S.rf
  have hl := lv_entry ([.ref (h), .int (v), .int (b), .int (sl)]) (n := 4) (Nat.le_of_ble_eq_true rfl)
  rw [lg_entry_eq]
  generalize (lg_sl ([.ref (h), .int (v), .int (b), .int (sl)]) ++ List.replicate (4 - (lg_sl ([.ref (h), .int (v), .int (b), .int (sl)])).length) Slot.unset).toArray = ls at hl ⊢
  have hl : lv_has ls 4 [(0, .ref (h)), (1, .int (v)), (2, .int (b)), (3, .int (sl))] := hl
  have hP : va_P D vwCl (xW d h ad a w f) s.heap := hP
  refine lv_iload_n hx hb dX0_toSource_0 rfl (lv_at hl 1 rfl) ?_
  refine x_roS (As := [.int (v)]) (rest := []) ⟨hx, hb, hml, hown, hts⟩ (mX0_bad l D v) (va_cwS 1 hts (lw_S q80 q81 q22 q82) rfl rfl rfl (by decide +kernel) ⟨Nat.le_of_ble_eq_true rfl, Nat.le_of_ble_eq_true rfl⟩) x_P0 (hK.sub [] rfl) hP hS hl rfl rfl (Nat.le_of_ble_eq_true rfl) dX0_toSource_1 ⟨Nat.zero_le _, Nat.zero_le _⟩ (fun r_ H locs e_ hP hS => ?_)
  rcases e_ with ⟨e_, hb_n⟩ | ⟨e_, n, hn, ev_⟩
  · subst e_
    refine lv_if_eq (tgt := 9) hx hb dX0_toSource_4 (by decide) (fun c => absurd c (by decide)) (fun _ => ?_)
    refine lv_iconst (v := -1) hx hb dX0_toSource_7 (by decide) ?_
    exact x_iretW (WS := xV d h ad) ((a, w, f)) hx hb hr hlocks hS hP dX0_toSource_8 ⟨Or.inl ⟨hb_n, rfl, rfl⟩, Or.inl ⟨rfl, rfl, rfl⟩⟩
  · subst e_
    subst ev_
    refine lv_if_eq (tgt := 9) hx hb dX0_toSource_4 (by decide) (fun _ => ?_) (fun c => absurd rfl c)
    refine lv_iload_n hx hb dX0_toSource_9 rfl (lv_at hl 2 rfl) ?_
    refine lv_iload_n hx hb dX0_toSource_10 rfl (lv_at hl 3 rfl) ?_
    refine x_roS (As := [.int (b), .int (sl)]) (rest := []) ⟨hx, hb, hml, hown, hts⟩ (mX0_badPull l D b sl) (va_cwS 2 hts (lw_S q87 q88 q22 q89) rfl rfl rfl (by decide +kernel) ⟨Nat.le_of_ble_eq_true rfl, Nat.le_of_ble_eq_true rfl⟩) x_P0 (hK.sub [] rfl) hP hS hl rfl rfl (Nat.le_of_ble_eq_true rfl) dX0_toSource_11 ⟨Nat.zero_le _, Nat.zero_le _⟩ (fun r2 H locs e2 hP hS => ?_)
    rcases e2 with ⟨rfl, hq⟩ | ⟨rfl, hq⟩
    · refine lv_if_eq (tgt := 20) hx hb dX0_toSource_14 (by decide) (fun c => absurd c (by decide)) (fun _ => ?_)
      refine lv_bipush (v := -2) hx hb dX0_toSource_17 (by decide) ?_
      exact x_iretW (WS := xV d h ad) ((a, w, f)) hx hb hr hlocks hS hP dX0_toSource_19 ⟨Or.inr (Or.inl ⟨⟨n, hn, rfl⟩, hq, rfl, rfl⟩), Or.inl ⟨rfl, rfl, rfl⟩⟩
    · refine lv_if_eq (tgt := 20) hx hb dX0_toSource_14 (by decide) (fun _ => ?_) (fun c => absurd rfl c)
      refine lv_aload_n hx hb dX0_toSource_20 rfl (lv_at hl 0 rfl) ?_
      refine va_get (D := D) (ci := 0) (v := .ref (ad 1)) (C := RX0) (T := TX0) (N := 14) hx hb hts in_X0 hown hK hP 0 rfl rfl 1 (by decide) (hts _ q33) (fun _ h9 => h9) rfl dX0_toSource_21 ?_
      refine lv_iload_n hx hb dX0_toSource_24 rfl (lv_at hl 1 rfl) ?_
      refine lv_iload_n hx hb dX0_toSource_25 rfl (lv_at hl 2 rfl) ?_
      refine x_ast hx hb hK hP hD hS 2 1 rfl rfl (n) rfl hn (by decide) dX0_toSource_26 (fun H locs hP hD hS => ?_)
      have hP : va_P D vwCl (xW d h ad (va_up a 1 (upd (a 1) (n) (b))) w f) H := hP
      have hD : va_D Fr (xW d h ad (va_up a 1 (upd (a 1) (n) (b))) w f) := hD
      refine lv_aload_n hx hb dX0_toSource_27 rfl (lv_at hl 0 rfl) ?_
      refine va_get (D := D) (ci := 0) (v := .ref (ad 2)) (C := RX0) (T := TX0) (N := 14) hx hb hts in_X0 hown hK hP 0 rfl rfl 2 (by decide) (hts _ q34) (fun _ h9 => h9) rfl dX0_toSource_28 ?_
      refine lv_iload_n hx hb dX0_toSource_31 rfl (lv_at hl 1 rfl) ?_
      refine lv_iload_n hx hb dX0_toSource_32 rfl (lv_at hl 3 rfl) ?_
      refine x_ast hx hb hK hP hD hS 3 2 rfl rfl (n) rfl hn (by decide) dX0_toSource_33 (fun H locs hP hD hS => ?_)
      have hP : va_P D vwCl (xW d h ad (va_up (va_up a 1 (upd (a 1) (n) (b))) 2 (upd ((va_up a 1 (upd (a 1) (n) (b))) 2) (n) (sl))) w f) H := hP
      have hD : va_D Fr (xW d h ad (va_up (va_up a 1 (upd (a 1) (n) (b))) 2 (upd ((va_up a 1 (upd (a 1) (n) (b))) 2) (n) (sl))) w f) := hD
      refine lv_aload_n hx hb dX0_toSource_34 rfl (lv_at hl 0 rfl) ?_
      refine lv_iconst (v := -1) hx hb dX0_toSource_35 (by decide) ?_
      refine va_put (D := D) (ci := 0) (v := .int ((-1))) (ty := .int) (C := RX0) (T := TX0) (N := 14) hx hb hts in_X0 tyX0 tyX0_ok nmX0 hown hK hP hD hS 0 rfl rfl 6 (by decide) (hts _ q38) (fun _ h9 => h9) rfl (by decide +kernel) rfl rfl (Nat.le_of_ble_eq_true rfl) dX0_toSource_36 (fun H locs hP hD hS => ?_)
      have hP : va_P D vwCl (xW d h ad (va_up (va_up a 1 (upd (a 1) (n) (b))) 2 (upd ((va_up a 1 (upd (a 1) (n) (b))) 2) (n) (sl))) ((-1)) f) H := hP
      have hD : va_D Fr (xW d h ad (va_up (va_up a 1 (upd (a 1) (n) (b))) 2 (upd ((va_up a 1 (upd (a 1) (n) (b))) 2) (n) (sl))) ((-1)) f) := hD
      refine lv_iconst (v := nI 0) hx hb dX0_toSource_39 (by decide) ?_
      exact x_iretW (WS := xV d h ad) (((va_up (va_up a 1 (upd (a 1) (n) (b))) 2 (upd ((va_up a 1 (upd (a 1) (n) (b))) 2) (n) (sl))), ((-1)), f)) hx hb hr hlocks hS hP dX0_toSource_40 ⟨Or.inr (Or.inr ⟨n, hn, rfl, hq, rfl, rfl⟩), Or.inr rfl⟩
set_option maxHeartbeats 4000000 in
set_option maxRecDepth 100000 in
theorem mX0_toSink (l : Launch) (D : va_G) (d : Nat → ClassId) (h : Nat) (ad : Nat → Nat) (Fr : Nat → Prop) (a : Nat → Nat → Int32) (w f : Int32) (v b sl : Int32) (hD : va_D Fr (xW d h ad a w f)) : Met l yX0_toSink (ws_ yX0_toSink cX0_toSink 4 (some .int)) xr1 (x_Pc D (xT d) (xW d h ad a w f) [.ref (h), .int (v), .int (b), .int (sl)]) (va_Qi (fun r (u' : xS) => plQ 3 4 a v b sl r u'.1 ∧ ((u'.1 = a ∧ u'.2.1 = w ∧ u'.2.2 = f) ∨ u'.2.1 = -1)) (fun u t => va_P D vwCl (xV d h ad u) t.heap) Fr) 0 0 Fr := by
  refine Met.ofW (cc := cX0_toSink) (maxL := 4) (ret := (some .int)) (by decide) rfl ?_
  intro p e s m args below meth c s₁ B hml hv
  obtain ⟨rfl, hP, hK⟩ := hv
  have hx := B.exec
  have hb := B.bytes
  have hr := B.returns
  have hlocks := B.notSynchronized
  have hts := atoms_spec (ws := (ws_ yX0_toSink cX0_toSink 4 (some .int))) B.pre
  have hts : ∀ w ∈ lw_all, w.before _ s = true := fun w h => hts w (List.mem_cons_of_mem _ h)
  have hown : s.vm.findClass RX0 = some m.cls := findClass_of_methodNamed B.named
  have hS : va_S Fr s.heap s.heap [] := va_S.rf
  have hl := lv_entry ([.ref (h), .int (v), .int (b), .int (sl)]) (n := 4) (Nat.le_of_ble_eq_true rfl)
  rw [lg_entry_eq]
  generalize (lg_sl ([.ref (h), .int (v), .int (b), .int (sl)]) ++ List.replicate (4 - (lg_sl ([.ref (h), .int (v), .int (b), .int (sl)])).length) Slot.unset).toArray = ls at hl ⊢
  have hl : lv_has ls 4 [(0, .ref (h)), (1, .int (v)), (2, .int (b)), (3, .int (sl))] := hl
  have hP : va_P D vwCl (xW d h ad a w f) s.heap := hP
  refine lv_iload_n hx hb dX0_toSink_0 rfl (lv_at hl 1 rfl) ?_
  refine x_roS (As := [.int (v)]) (rest := []) ⟨hx, hb, hml, hown, hts⟩ (mX0_bad l D v) (va_cwS 1 hts (lw_S q80 q81 q22 q82) rfl rfl rfl (by decide +kernel) ⟨Nat.le_of_ble_eq_true rfl, Nat.le_of_ble_eq_true rfl⟩) x_P0 (hK.sub [] rfl) hP hS hl rfl rfl (Nat.le_of_ble_eq_true rfl) dX0_toSink_1 ⟨Nat.zero_le _, Nat.zero_le _⟩ (fun r_ H locs e_ hP hS => ?_)
  rcases e_ with ⟨e_, hb_n⟩ | ⟨e_, n, hn, ev_⟩
  · subst e_
    refine lv_if_eq (tgt := 9) hx hb dX0_toSink_4 (by decide) (fun c => absurd c (by decide)) (fun _ => ?_)
    refine lv_iconst (v := -1) hx hb dX0_toSink_7 (by decide) ?_
    exact x_iretW (WS := xV d h ad) ((a, w, f)) hx hb hr hlocks hS hP dX0_toSink_8 ⟨Or.inl ⟨hb_n, rfl, rfl⟩, Or.inl ⟨rfl, rfl, rfl⟩⟩
  · subst e_
    subst ev_
    refine lv_if_eq (tgt := 9) hx hb dX0_toSink_4 (by decide) (fun _ => ?_) (fun c => absurd rfl c)
    refine lv_iload_n hx hb dX0_toSink_9 rfl (lv_at hl 2 rfl) ?_
    refine lv_iload_n hx hb dX0_toSink_10 rfl (lv_at hl 3 rfl) ?_
    refine x_roS (As := [.int (b), .int (sl)]) (rest := []) ⟨hx, hb, hml, hown, hts⟩ (mX0_badPull l D b sl) (va_cwS 2 hts (lw_S q87 q88 q22 q89) rfl rfl rfl (by decide +kernel) ⟨Nat.le_of_ble_eq_true rfl, Nat.le_of_ble_eq_true rfl⟩) x_P0 (hK.sub [] rfl) hP hS hl rfl rfl (Nat.le_of_ble_eq_true rfl) dX0_toSink_11 ⟨Nat.zero_le _, Nat.zero_le _⟩ (fun r2 H locs e2 hP hS => ?_)
    rcases e2 with ⟨rfl, hq⟩ | ⟨rfl, hq⟩
    · refine lv_if_eq (tgt := 20) hx hb dX0_toSink_14 (by decide) (fun c => absurd c (by decide)) (fun _ => ?_)
      refine lv_bipush (v := -2) hx hb dX0_toSink_17 (by decide) ?_
      exact x_iretW (WS := xV d h ad) ((a, w, f)) hx hb hr hlocks hS hP dX0_toSink_19 ⟨Or.inr (Or.inl ⟨⟨n, hn, rfl⟩, hq, rfl, rfl⟩), Or.inl ⟨rfl, rfl, rfl⟩⟩
    · refine lv_if_eq (tgt := 20) hx hb dX0_toSink_14 (by decide) (fun _ => ?_) (fun c => absurd rfl c)
      refine lv_aload_n hx hb dX0_toSink_20 rfl (lv_at hl 0 rfl) ?_
      refine va_get (D := D) (ci := 0) (v := .ref (ad 3)) (C := RX0) (T := TX0) (N := 14) hx hb hts in_X0 hown hK hP 0 rfl rfl 3 (by decide) (hts _ q35) (fun _ h9 => h9) rfl dX0_toSink_21 ?_
      refine lv_iload_n hx hb dX0_toSink_24 rfl (lv_at hl 1 rfl) ?_
      refine lv_iload_n hx hb dX0_toSink_25 rfl (lv_at hl 2 rfl) ?_
      refine x_ast hx hb hK hP hD hS 4 3 rfl rfl (n) rfl hn (by decide) dX0_toSink_26 (fun H locs hP hD hS => ?_)
      have hP : va_P D vwCl (xW d h ad (va_up a 3 (upd (a 3) (n) (b))) w f) H := hP
      have hD : va_D Fr (xW d h ad (va_up a 3 (upd (a 3) (n) (b))) w f) := hD
      refine lv_aload_n hx hb dX0_toSink_27 rfl (lv_at hl 0 rfl) ?_
      refine va_get (D := D) (ci := 0) (v := .ref (ad 4)) (C := RX0) (T := TX0) (N := 14) hx hb hts in_X0 hown hK hP 0 rfl rfl 4 (by decide) (hts _ q36) (fun _ h9 => h9) rfl dX0_toSink_28 ?_
      refine lv_iload_n hx hb dX0_toSink_31 rfl (lv_at hl 1 rfl) ?_
      refine lv_iload_n hx hb dX0_toSink_32 rfl (lv_at hl 3 rfl) ?_
      refine x_ast hx hb hK hP hD hS 5 4 rfl rfl (n) rfl hn (by decide) dX0_toSink_33 (fun H locs hP hD hS => ?_)
      have hP : va_P D vwCl (xW d h ad (va_up (va_up a 3 (upd (a 3) (n) (b))) 4 (upd ((va_up a 3 (upd (a 3) (n) (b))) 4) (n) (sl))) w f) H := hP
      have hD : va_D Fr (xW d h ad (va_up (va_up a 3 (upd (a 3) (n) (b))) 4 (upd ((va_up a 3 (upd (a 3) (n) (b))) 4) (n) (sl))) w f) := hD
      refine lv_aload_n hx hb dX0_toSink_34 rfl (lv_at hl 0 rfl) ?_
      refine lv_iconst (v := -1) hx hb dX0_toSink_35 (by decide) ?_
      refine va_put (D := D) (ci := 0) (v := .int ((-1))) (ty := .int) (C := RX0) (T := TX0) (N := 14) hx hb hts in_X0 tyX0 tyX0_ok nmX0 hown hK hP hD hS 0 rfl rfl 6 (by decide) (hts _ q38) (fun _ h9 => h9) rfl (by decide +kernel) rfl rfl (Nat.le_of_ble_eq_true rfl) dX0_toSink_36 (fun H locs hP hD hS => ?_)
      have hP : va_P D vwCl (xW d h ad (va_up (va_up a 3 (upd (a 3) (n) (b))) 4 (upd ((va_up a 3 (upd (a 3) (n) (b))) 4) (n) (sl))) ((-1)) f) H := hP
      have hD : va_D Fr (xW d h ad (va_up (va_up a 3 (upd (a 3) (n) (b))) 4 (upd ((va_up a 3 (upd (a 3) (n) (b))) 4) (n) (sl))) ((-1)) f) := hD
      refine lv_iconst (v := nI 0) hx hb dX0_toSink_39 (by decide) ?_
      exact x_iretW (WS := xV d h ad) (((va_up (va_up a 3 (upd (a 3) (n) (b))) 4 (upd ((va_up a 3 (upd (a 3) (n) (b))) 4) (n) (sl))), ((-1)), f)) hx hb hr hlocks hS hP dX0_toSink_40 ⟨Or.inr (Or.inr ⟨n, hn, rfl, hq, rfl, rfl⟩), Or.inr rfl⟩
set_option maxHeartbeats 4000000 in
set_option maxRecDepth 100000 in
theorem mX0_flip (l : Launch) (D : va_G) (d : Nat → ClassId) (h : Nat) (ad : Nat → Nat) (Fr : Nat → Prop) (a : Nat → Nat → Int32) (w f : Int32)  (hD : va_D Fr (xW d h ad a w f)) : Met l yX0_flip (ws_ yX0_flip cX0_flip 4 none) xr0 (x_Pc D (xT d) (xW d h ad a w f) [.ref (h)]) (va_Qv (fun u : xS => u.1 = flG a ∧ u.2.1 = -1) (fun u t => va_P D vwCl (xV d h ad u) t.heap) Fr) 0 0 Fr := by
  refine Met.ofW (cc := cX0_flip) (maxL := 4) (ret := none) (by decide) rfl ?_
  intro p e s m args below meth c s₁ B hml hv
  obtain ⟨rfl, hP, hK⟩ := hv
  have hx := B.exec
  have hb := B.bytes
  have hr := B.returns
  have hlocks := B.notSynchronized
  have hts := atoms_spec (ws := (ws_ yX0_flip cX0_flip 4 none)) B.pre
  have hts : ∀ w ∈ lw_all, w.before _ s = true := fun w h => hts w (List.mem_cons_of_mem _ h)
  have hown : s.vm.findClass RX0 = some m.cls := findClass_of_methodNamed B.named
  have hS : va_S Fr s.heap s.heap [] := va_S.rf
  have hl := lv_entry ([.ref (h)]) (n := 4) (Nat.le_of_ble_eq_true rfl)
  rw [lg_entry_eq]
  generalize (lg_sl ([.ref (h)]) ++ List.replicate (4 - (lg_sl ([.ref (h)])).length) Slot.unset).toArray = ls at hl ⊢
  have hl : lv_has ls 4 [(0, .ref (h))] := hl
  have hP : va_P D vwCl (xW d h ad a w f) s.heap := hP
  refine lv_iconst (v := nI 0) hx hb dX0_flip_0 (by decide) ?_
  refine lv_istore_n (lv' := [(1, .int (nI 0)), (0, .ref (h))]) hx hb dX0_flip_1 rfl hl (by decide) rfl (fun ls hl => ?_)
  refine x_loop (σ := (Nat) × (Nat → Nat → Int32)) 2 4 (fun st => (xW d h ad st.2 w f)) (fun st => [(0, .ref (h)), (1, .int (nI st.1))]) (fun st => st.1 ≤ 7 ∧ (∀ k, k ≠ 1 → k ≠ 2 → k ≠ 3 → k ≠ 4 → st.2 k = a k) ∧ (∀ q, st.2 1 q = if q < st.1 then a 3 q else a 1 q) ∧ (∀ q, st.2 2 q = if q < st.1 then a 4 q else a 2 q) ∧ (∀ q, st.2 3 q = if q < st.1 then a 1 q else a 3 q) ∧ (∀ q, st.2 4 q = if q < st.1 then a 2 q else a 4 q)) (fun st => 7 - st.1) ?_ ((0, a)) (show 0 ≤ 7 ∧ (∀ k, k ≠ 1 → k ≠ 2 → k ≠ 3 → k ≠ 4 → a k = a k) ∧ (∀ q, a 1 q = if q < 0 then a 3 q else a 1 q) ∧ (∀ q, a 2 q = if q < 0 then a 4 q else a 2 q) ∧ (∀ q, a 3 q = if q < 0 then a 1 q else a 3 q) ∧ (∀ q, a 4 q = if q < 0 then a 2 q else a 4 q) from ⟨by omega, fun _ _ _ _ _ => rfl, fun q => by rw [if_neg (by omega)], fun q => by rw [if_neg (by omega)], fun q => by rw [if_neg (by omega)], fun q => by rw [if_neg (by omega)]⟩) hP hD hS (lv_sub hl [1, 0] rfl)
  intro st hI ih H locs ls hP hD hS hl
  obtain ⟨i, a1⟩ := st
  have hI : i ≤ 7 ∧ (∀ k, k ≠ 1 → k ≠ 2 → k ≠ 3 → k ≠ 4 → a1 k = a k) ∧ (∀ q, a1 1 q = if q < i then a 3 q else a 1 q) ∧ (∀ q, a1 2 q = if q < i then a 4 q else a 2 q) ∧ (∀ q, a1 3 q = if q < i then a 1 q else a 3 q) ∧ (∀ q, a1 4 q = if q < i then a 2 q else a 4 q) := hI
  have hl : lv_has ls 4 [(0, .ref (h)), (1, .int (nI i))] := hl
  have hP : va_P D vwCl (xW d h ad a1 w f) H := hP
  have hD : va_D Fr (xW d h ad a1 w f) := hD
  obtain ⟨hi, hfr, h1, h2, h3, h4⟩ := hI
  refine lv_iload_n hx hb dX0_flip_2 rfl (lv_at hl 1 rfl) ?_
  refine lv_bipush (v := nI 7) hx hb dX0_flip_3 (by decide) ?_
  refine x_ge hx hb (i) (7) rfl rfl (by omega) (by omega) (tgt := 66) dX0_flip_5 (by decide) (fun c1 => ?_) (fun c1 => ?_)
  · have hi7 : i = 7 := by omega
    subst hi7
    refine lv_aload_n hx hb dX0_flip_66 rfl (lv_at hl 0 rfl) ?_
    refine lv_iconst (v := -1) hx hb dX0_flip_67 (by decide) ?_
    refine va_put (D := D) (ci := 0) (v := .int ((-1))) (ty := .int) (C := RX0) (T := TX0) (N := 14) hx hb hts in_X0 tyX0 tyX0_ok nmX0 hown hK hP hD hS 0 rfl rfl 6 (by decide) (hts _ q38) (fun _ h9 => h9) rfl (by decide +kernel) rfl rfl (Nat.le_of_ble_eq_true rfl) dX0_flip_68 (fun H locs hP hD hS => ?_)
    have hP : va_P D vwCl (xW d h ad a1 ((-1)) f) H := hP
    have hD : va_D Fr (xW d h ad a1 ((-1)) f) := hD
    have hfl : a1 = flG a := by
      funext k q
      unfold flG
      by_cases k1 : k = 1
      · subst k1; rw [if_pos rfl]; exact h1 q
      · rw [if_neg k1]
        by_cases k2 : k = 2
        · subst k2; rw [if_pos rfl]; exact h2 q
        · rw [if_neg k2]
          by_cases k3 : k = 3
          · subst k3; rw [if_pos rfl]; exact h3 q
          · rw [if_neg k3]
            by_cases k4 : k = 4
            · subst k4; rw [if_pos rfl]; exact h4 q
            · rw [if_neg k4, hfr k k1 k2 k3 k4]
    exact x_vretW (WS := xV d h ad) ((a1, -1, f)) hx hb hr hlocks hS hP dX0_flip_71 ⟨hfl, rfl⟩
  · refine lv_aload_n hx hb dX0_flip_8 rfl (lv_at hl 0 rfl) ?_
    refine va_get (D := D) (ci := 0) (v := .ref (ad 1)) (C := RX0) (T := TX0) (N := 14) hx hb hts in_X0 hown hK hP 0 rfl rfl 1 (by decide) (hts _ q33) (fun _ h9 => h9) rfl dX0_flip_9 ?_
    refine lv_iload_n hx hb dX0_flip_12 rfl (lv_at hl 1 rfl) ?_
    refine x_ald hx hb hK hP 2 1 rfl rfl (i) rfl (by omega) (by decide) dX0_flip_13 ?_
    refine lv_istore_n (lv' := [(2, .int (a1 1 (i))), (0, .ref (h)), (1, .int (nI i))]) hx hb dX0_flip_14 rfl hl (by decide) rfl (fun ls hl => ?_)
    refine lv_aload_n hx hb dX0_flip_15 rfl (lv_at hl 1 rfl) ?_
    refine va_get (D := D) (ci := 0) (v := .ref (ad 2)) (C := RX0) (T := TX0) (N := 14) hx hb hts in_X0 hown hK hP 0 rfl rfl 2 (by decide) (hts _ q34) (fun _ h9 => h9) rfl dX0_flip_16 ?_
    refine lv_iload_n hx hb dX0_flip_19 rfl (lv_at hl 2 rfl) ?_
    refine x_ald hx hb hK hP 3 2 rfl rfl (i) rfl (by omega) (by decide) dX0_flip_20 ?_
    refine lv_istore_n (lv' := [(3, .int (a1 2 (i))), (2, .int (a1 1 (i))), (0, .ref (h)), (1, .int (nI i))]) hx hb dX0_flip_21 rfl hl (by decide) rfl (fun ls hl => ?_)
    refine lv_aload_n hx hb dX0_flip_22 rfl (lv_at hl 2 rfl) ?_
    refine va_get (D := D) (ci := 0) (v := .ref (ad 1)) (C := RX0) (T := TX0) (N := 14) hx hb hts in_X0 hown hK hP 0 rfl rfl 1 (by decide) (hts _ q33) (fun _ h9 => h9) rfl dX0_flip_23 ?_
    refine lv_iload_n hx hb dX0_flip_26 rfl (lv_at hl 3 rfl) ?_
    refine lv_aload_n hx hb dX0_flip_27 rfl (lv_at hl 2 rfl) ?_
    refine va_get (D := D) (ci := 0) (v := .ref (ad 3)) (C := RX0) (T := TX0) (N := 14) hx hb hts in_X0 hown hK hP 0 rfl rfl 3 (by decide) (hts _ q35) (fun _ h9 => h9) rfl dX0_flip_28 ?_
    refine lv_iload_n hx hb dX0_flip_31 rfl (lv_at hl 3 rfl) ?_
    refine x_ald hx hb hK hP 4 3 rfl rfl (i) rfl (by omega) (by decide) dX0_flip_32 ?_
    refine x_ast hx hb hK hP hD hS 2 1 rfl rfl (i) rfl (by omega) (by decide) dX0_flip_33 (fun H locs hP hD hS => ?_)
    have hP : va_P D vwCl (xW d h ad (va_up a1 1 (upd (a1 1) (i) (a1 3 (i)))) w f) H := hP
    have hD : va_D Fr (xW d h ad (va_up a1 1 (upd (a1 1) (i) (a1 3 (i)))) w f) := hD
    refine lv_aload_n hx hb dX0_flip_34 rfl (lv_at hl 2 rfl) ?_
    refine va_get (D := D) (ci := 0) (v := .ref (ad 2)) (C := RX0) (T := TX0) (N := 14) hx hb hts in_X0 hown hK hP 0 rfl rfl 2 (by decide) (hts _ q34) (fun _ h9 => h9) rfl dX0_flip_35 ?_
    refine lv_iload_n hx hb dX0_flip_38 rfl (lv_at hl 3 rfl) ?_
    refine lv_aload_n hx hb dX0_flip_39 rfl (lv_at hl 2 rfl) ?_
    refine va_get (D := D) (ci := 0) (v := .ref (ad 4)) (C := RX0) (T := TX0) (N := 14) hx hb hts in_X0 hown hK hP 0 rfl rfl 4 (by decide) (hts _ q36) (fun _ h9 => h9) rfl dX0_flip_40 ?_
    refine lv_iload_n hx hb dX0_flip_43 rfl (lv_at hl 3 rfl) ?_
    refine x_ald hx hb hK hP 5 4 rfl rfl (i) rfl (by omega) (by decide) dX0_flip_44 ?_
    refine x_ast hx hb hK hP hD hS 3 2 rfl rfl (i) rfl (by omega) (by decide) dX0_flip_45 (fun H locs hP hD hS => ?_)
    have hP : va_P D vwCl (xW d h ad (va_up (va_up a1 1 (upd (a1 1) (i) (a1 3 (i)))) 2 (upd ((va_up a1 1 (upd (a1 1) (i) (a1 3 (i)))) 2) (i) ((va_up a1 1 (upd (a1 1) (i) (a1 3 (i)))) 4 (i)))) w f) H := hP
    have hD : va_D Fr (xW d h ad (va_up (va_up a1 1 (upd (a1 1) (i) (a1 3 (i)))) 2 (upd ((va_up a1 1 (upd (a1 1) (i) (a1 3 (i)))) 2) (i) ((va_up a1 1 (upd (a1 1) (i) (a1 3 (i)))) 4 (i)))) w f) := hD
    refine lv_aload_n hx hb dX0_flip_46 rfl (lv_at hl 2 rfl) ?_
    refine va_get (D := D) (ci := 0) (v := .ref (ad 3)) (C := RX0) (T := TX0) (N := 14) hx hb hts in_X0 hown hK hP 0 rfl rfl 3 (by decide) (hts _ q35) (fun _ h9 => h9) rfl dX0_flip_47 ?_
    refine lv_iload_n hx hb dX0_flip_50 rfl (lv_at hl 3 rfl) ?_
    refine lv_iload_n hx hb dX0_flip_51 rfl (lv_at hl 1 rfl) ?_
    refine x_ast hx hb hK hP hD hS 4 3 rfl rfl (i) rfl (by omega) (by decide) dX0_flip_52 (fun H locs hP hD hS => ?_)
    have hP : va_P D vwCl (xW d h ad (va_up (va_up (va_up a1 1 (upd (a1 1) (i) (a1 3 (i)))) 2 (upd ((va_up a1 1 (upd (a1 1) (i) (a1 3 (i)))) 2) (i) ((va_up a1 1 (upd (a1 1) (i) (a1 3 (i)))) 4 (i)))) 3 (upd ((va_up (va_up a1 1 (upd (a1 1) (i) (a1 3 (i)))) 2 (upd ((va_up a1 1 (upd (a1 1) (i) (a1 3 (i)))) 2) (i) ((va_up a1 1 (upd (a1 1) (i) (a1 3 (i)))) 4 (i)))) 3) (i) (a1 1 (i)))) w f) H := hP
    have hD : va_D Fr (xW d h ad (va_up (va_up (va_up a1 1 (upd (a1 1) (i) (a1 3 (i)))) 2 (upd ((va_up a1 1 (upd (a1 1) (i) (a1 3 (i)))) 2) (i) ((va_up a1 1 (upd (a1 1) (i) (a1 3 (i)))) 4 (i)))) 3 (upd ((va_up (va_up a1 1 (upd (a1 1) (i) (a1 3 (i)))) 2 (upd ((va_up a1 1 (upd (a1 1) (i) (a1 3 (i)))) 2) (i) ((va_up a1 1 (upd (a1 1) (i) (a1 3 (i)))) 4 (i)))) 3) (i) (a1 1 (i)))) w f) := hD
    refine lv_aload_n hx hb dX0_flip_53 rfl (lv_at hl 2 rfl) ?_
    refine va_get (D := D) (ci := 0) (v := .ref (ad 4)) (C := RX0) (T := TX0) (N := 14) hx hb hts in_X0 hown hK hP 0 rfl rfl 4 (by decide) (hts _ q36) (fun _ h9 => h9) rfl dX0_flip_54 ?_
    refine lv_iload_n hx hb dX0_flip_57 rfl (lv_at hl 3 rfl) ?_
    refine lv_iload_n hx hb dX0_flip_58 rfl (lv_at hl 0 rfl) ?_
    refine x_ast hx hb hK hP hD hS 5 4 rfl rfl (i) rfl (by omega) (by decide) dX0_flip_59 (fun H locs hP hD hS => ?_)
    have hP : va_P D vwCl (xW d h ad (va_up (va_up (va_up (va_up a1 1 (upd (a1 1) (i) (a1 3 (i)))) 2 (upd ((va_up a1 1 (upd (a1 1) (i) (a1 3 (i)))) 2) (i) ((va_up a1 1 (upd (a1 1) (i) (a1 3 (i)))) 4 (i)))) 3 (upd ((va_up (va_up a1 1 (upd (a1 1) (i) (a1 3 (i)))) 2 (upd ((va_up a1 1 (upd (a1 1) (i) (a1 3 (i)))) 2) (i) ((va_up a1 1 (upd (a1 1) (i) (a1 3 (i)))) 4 (i)))) 3) (i) (a1 1 (i)))) 4 (upd ((va_up (va_up (va_up a1 1 (upd (a1 1) (i) (a1 3 (i)))) 2 (upd ((va_up a1 1 (upd (a1 1) (i) (a1 3 (i)))) 2) (i) ((va_up a1 1 (upd (a1 1) (i) (a1 3 (i)))) 4 (i)))) 3 (upd ((va_up (va_up a1 1 (upd (a1 1) (i) (a1 3 (i)))) 2 (upd ((va_up a1 1 (upd (a1 1) (i) (a1 3 (i)))) 2) (i) ((va_up a1 1 (upd (a1 1) (i) (a1 3 (i)))) 4 (i)))) 3) (i) (a1 1 (i)))) 4) (i) (a1 2 (i)))) w f) H := hP
    have hD : va_D Fr (xW d h ad (va_up (va_up (va_up (va_up a1 1 (upd (a1 1) (i) (a1 3 (i)))) 2 (upd ((va_up a1 1 (upd (a1 1) (i) (a1 3 (i)))) 2) (i) ((va_up a1 1 (upd (a1 1) (i) (a1 3 (i)))) 4 (i)))) 3 (upd ((va_up (va_up a1 1 (upd (a1 1) (i) (a1 3 (i)))) 2 (upd ((va_up a1 1 (upd (a1 1) (i) (a1 3 (i)))) 2) (i) ((va_up a1 1 (upd (a1 1) (i) (a1 3 (i)))) 4 (i)))) 3) (i) (a1 1 (i)))) 4 (upd ((va_up (va_up (va_up a1 1 (upd (a1 1) (i) (a1 3 (i)))) 2 (upd ((va_up a1 1 (upd (a1 1) (i) (a1 3 (i)))) 2) (i) ((va_up a1 1 (upd (a1 1) (i) (a1 3 (i)))) 4 (i)))) 3 (upd ((va_up (va_up a1 1 (upd (a1 1) (i) (a1 3 (i)))) 2 (upd ((va_up a1 1 (upd (a1 1) (i) (a1 3 (i)))) 2) (i) ((va_up a1 1 (upd (a1 1) (i) (a1 3 (i)))) 4 (i)))) 3) (i) (a1 1 (i)))) 4) (i) (a1 2 (i)))) w f) := hD
    refine lv_iinc (v := nI (i + 1)) (lv' := [(1, .int (nI (i + 1))), (3, .int (a1 2 (i))), (2, .int (a1 1 (i))), (0, .ref (h))]) hx hb dX0_flip_60 hl (k := 3) rfl (x_inc _) (by decide) rfl (fun ls hl => ?_)
    refine lv_goto (tgt := 2) hx hb dX0_flip_63 (by decide) ?_
    obtain ⟨a2, ea2⟩ : ∃ z, z = (va_up (va_up (va_up (va_up a1 1 (upd (a1 1) (i) (a1 3 (i)))) 2 (upd ((va_up a1 1 (upd (a1 1) (i) (a1 3 (i)))) 2) (i) ((va_up a1 1 (upd (a1 1) (i) (a1 3 (i)))) 4 (i)))) 3 (upd ((va_up (va_up a1 1 (upd (a1 1) (i) (a1 3 (i)))) 2 (upd ((va_up a1 1 (upd (a1 1) (i) (a1 3 (i)))) 2) (i) ((va_up a1 1 (upd (a1 1) (i) (a1 3 (i)))) 4 (i)))) 3) (i) (a1 1 (i)))) 4 (upd ((va_up (va_up (va_up a1 1 (upd (a1 1) (i) (a1 3 (i)))) 2 (upd ((va_up a1 1 (upd (a1 1) (i) (a1 3 (i)))) 2) (i) ((va_up a1 1 (upd (a1 1) (i) (a1 3 (i)))) 4 (i)))) 3 (upd ((va_up (va_up a1 1 (upd (a1 1) (i) (a1 3 (i)))) 2 (upd ((va_up a1 1 (upd (a1 1) (i) (a1 3 (i)))) 2) (i) ((va_up a1 1 (upd (a1 1) (i) (a1 3 (i)))) 4 (i)))) 3) (i) (a1 1 (i)))) 4) (i) (a1 2 (i)))) := ⟨_, rfl⟩
    have hP : va_P D vwCl (xW d h ad a2 w f) H := by rw [ea2]; exact hP
    have hD : va_D Fr (xW d h ad a2 w f) := by rw [ea2]; exact hD
    have g4 : a2 4 = upd (a1 4) i (a1 2 i) := by rw [ea2]; rfl
    have g3 : a2 3 = upd (a1 3) i (a1 1 i) := by rw [ea2]; rfl
    have g2 : a2 2 = upd (a1 2) i (a1 4 i) := by rw [ea2]; rfl
    have g1 : a2 1 = upd (a1 1) i (a1 3 i) := by rw [ea2]; rfl
    have gk : ∀ k, k ≠ 1 → k ≠ 2 → k ≠ 3 → k ≠ 4 → a2 k = a k := fun k k1 k2 k3 k4 => by rw [ea2, va_up_n k4, va_up_n k3, va_up_n k2, va_up_n k1]; exact hfr k k1 k2 k3 k4
    exact ih ((i + 1, a2)) (show (i + 1) ≤ 7 ∧ (∀ k, k ≠ 1 → k ≠ 2 → k ≠ 3 → k ≠ 4 → a2 k = a k) ∧ (∀ q, a2 1 q = if q < (i + 1) then a 3 q else a 1 q) ∧ (∀ q, a2 2 q = if q < (i + 1) then a 4 q else a 2 q) ∧ (∀ q, a2 3 q = if q < (i + 1) then a 1 q else a 3 q) ∧ (∀ q, a2 4 q = if q < (i + 1) then a 2 q else a 4 q) from ⟨by omega, gk, fun q => by
          rw [g1]
          unfold upd
          by_cases d1 : q = i
          · subst d1; rw [if_pos rfl, if_pos (by omega), h3, if_neg (by omega)]
          · rw [if_neg d1, h1]
            by_cases d2 : q < i
            · rw [if_pos d2, if_pos (by omega)]
            · rw [if_neg d2, if_neg (by omega)], fun q => by
          rw [g2]
          unfold upd
          by_cases d1 : q = i
          · subst d1; rw [if_pos rfl, if_pos (by omega), h4, if_neg (by omega)]
          · rw [if_neg d1, h2]
            by_cases d2 : q < i
            · rw [if_pos d2, if_pos (by omega)]
            · rw [if_neg d2, if_neg (by omega)], fun q => by
          rw [g3]
          unfold upd
          by_cases d1 : q = i
          · subst d1; rw [if_pos rfl, if_pos (by omega), h1, if_neg (by omega)]
          · rw [if_neg d1, h3]
            by_cases d2 : q < i
            · rw [if_pos d2, if_pos (by omega)]
            · rw [if_neg d2, if_neg (by omega)], fun q => by
          rw [g4]
          unfold upd
          by_cases d1 : q = i
          · subst d1; rw [if_pos rfl, if_pos (by omega), h2, if_neg (by omega)]
          · rw [if_neg d1, h4]
            by_cases d2 : q < i
            · rw [if_pos d2, if_pos (by omega)]
            · rw [if_neg d2, if_neg (by omega)]⟩) (by show 7 - (i + 1) < 7 - i; omega) _ _ _ hP hD hS (lv_sub hl [3, 0] rfl)
set_option maxHeartbeats 4000000 in
set_option maxRecDepth 100000 in
theorem mX0_least (l : Launch) (D : va_G) (d : Nat → ClassId) (h : Nat) (ad : Nat → Nat) (Fr : Nat → Prop) (a : Nat → Nat → Int32) (w f : Int32) (x : Int32) (hok : XOK a w f) (hD : va_D Fr (xW d h ad a w f)) : Met l yX0_least (ws_ yX0_least cX0_least 2 (some .int)) xr3 (x_Pc D (xT d) (xW d h ad a w f) [.ref (h), .int (x)]) (va_Qi (fun r (u' : xS) => XK a u' ∧ ((¬ isN x 51 ∧ r = -2) ∨ ∃ n, n < 51 ∧ x = nI n ∧ r.toInt = lst a n)) (fun u t => va_P D vwCl (xV d h ad u) t.heap) Fr) 0 0 Fr := by
  refine Met.ofW (cc := cX0_least) (maxL := 2) (ret := (some .int)) (by decide) rfl ?_
  intro p e s m args below meth c s₁ B hml hv
  obtain ⟨rfl, hP, hK⟩ := hv
  have hx := B.exec
  have hb := B.bytes
  have hr := B.returns
  have hlocks := B.notSynchronized
  have hts := atoms_spec (ws := (ws_ yX0_least cX0_least 2 (some .int))) B.pre
  have hts : ∀ w ∈ lw_all, w.before _ s = true := fun w h => hts w (List.mem_cons_of_mem _ h)
  have hown : s.vm.findClass RX0 = some m.cls := findClass_of_methodNamed B.named
  have hS : va_S Fr s.heap s.heap [] := va_S.rf
  have hl := lv_entry ([.ref (h), .int (x)]) (n := 2) (Nat.le_of_ble_eq_true rfl)
  rw [lg_entry_eq]
  generalize (lg_sl ([.ref (h), .int (x)]) ++ List.replicate (2 - (lg_sl ([.ref (h), .int (x)])).length) Slot.unset).toArray = ls at hl ⊢
  have hl : lv_has ls 2 [(0, .ref (h)), (1, .int (x))] := hl
  have hP : va_P D vwCl (xW d h ad a w f) s.heap := hP
  refine lv_iload_n hx hb dX0_least_0 rfl (lv_at hl 1 rfl) ?_
  refine x_roS (As := [.int (x)]) (rest := []) ⟨hx, hb, hml, hown, hts⟩ (mX0_badX l D x) (va_cwS 1 hts (lw_S q102 q103 q22 q104) rfl rfl rfl (by decide +kernel) ⟨Nat.le_of_ble_eq_true rfl, Nat.le_of_ble_eq_true rfl⟩) x_P0 (hK.sub [] rfl) hP hS hl rfl rfl (Nat.le_of_ble_eq_true rfl) dX0_least_1 ⟨Nat.zero_le _, Nat.zero_le _⟩ (fun r_ H locs e_ hP hS => ?_)
  rcases e_ with ⟨e_, hb_n⟩ | ⟨e_, n, hn, ev_⟩
  · subst e_
    refine lv_if_eq (tgt := 10) hx hb dX0_least_4 (by decide) (fun c => absurd c (by decide)) (fun _ => ?_)
    refine lv_bipush (v := -2) hx hb dX0_least_7 (by decide) ?_
    exact x_iretW (WS := xV d h ad) ((a, w, f)) hx hb hr hlocks hS hP dX0_least_9 ⟨⟨hok, fun _ _ => rfl⟩, Or.inl ⟨hb_n, rfl⟩⟩
  · subst e_
    subst ev_
    refine lv_if_eq (tgt := 10) hx hb dX0_least_4 (by decide) (fun _ => ?_) (fun c => absurd rfl c)
    refine lv_aload_n hx hb dX0_least_10 rfl (lv_at hl 0 rfl) ?_
    refine lv_iload_n hx hb dX0_least_11 rfl (lv_at hl 1 rfl) ?_
    refine x_wrv (xV d h ad) (As := [.int ((nI n))]) (rest := []) ⟨hx, hb, hml, hown, hts⟩ (mX0_work l D d h ad Fr a w f n (by omega) hok hD) (cwV 1 hts (lw_V q124 q126 qs3 q22 q127) rfl rfl rfl (by decide +kernel) ⟨Nat.le_of_ble_eq_true rfl, Nat.le_of_ble_eq_true rfl⟩) (va_recv hK hP (ci := 0) (q0 := 0) rfl rfl) hK hP hS hl rfl rfl (Nat.le_of_ble_eq_true rfl) dX0_least_12 ⟨Nat.zero_le _, Nat.zero_le _⟩ (fun u_ H locs hq hP hS => ?_)
    obtain ⟨a1, w1, f1⟩ := u_
    have hP : va_P D vwCl (xW d h ad a1 w1 f1) H := hP
    have hD : va_D Fr (xW d h ad a1 w1 f1) := x_Db hD rfl
    obtain ⟨hf, e1, hW⟩ := hq
    have e1 : w1 = (nI n) := e1
    rw [e1] at hP hD
    have hW : Wk a n (zL (a1 5)) f1.toInt (a1 10) := hW
    have hk1 := XOK_of hok.1 hf hn hW
    refine lv_aload_n hx hb dX0_least_15 rfl (lv_at hl 0 rfl) ?_
    refine va_get (D := D) (ci := 0) (v := .int (f1)) (C := RX0) (T := TX0) (N := 14) hx hb hts in_X0 hown hK hP 0 rfl rfl 7 (by decide) (hts _ q39) (fun _ h9 => h9) rfl dX0_least_16 ?_
    exact x_iretW (WS := xV d h ad) ((a1, nI n, f1)) hx hb hr hlocks hS hP dX0_least_19 ⟨⟨hk1, hf⟩, Or.inr ⟨n, hn, rfl, gr_least hW.1⟩⟩
set_option maxHeartbeats 4000000 in
set_option maxRecDepth 100000 in
theorem mX0_always (l : Launch) (D : va_G) (d : Nat → ClassId) (h : Nat) (ad : Nat → Nat) (Fr : Nat → Prop) (a : Nat → Nat → Int32) (w f : Int32) (x : Int32) (hok : XOK a w f) (hD : va_D Fr (xW d h ad a w f)) : Met l yX0_always (ws_ yX0_always cX0_always 2 (some .int)) xr3 (x_Pc D (xT d) (xW d h ad a w f) [.ref (h), .int (x)]) (va_Qi (fun r (u' : xS) => XK a u' ∧ ((¬ isN x 51 ∧ r = -2) ∨ ∃ n, n < 51 ∧ x = nI n ∧ r = alw a n)) (fun u t => va_P D vwCl (xV d h ad u) t.heap) Fr) 0 0 Fr := by
  refine Met.ofW (cc := cX0_always) (maxL := 2) (ret := (some .int)) (by decide) rfl ?_
  intro p e s m args below meth c s₁ B hml hv
  obtain ⟨rfl, hP, hK⟩ := hv
  have hx := B.exec
  have hb := B.bytes
  have hr := B.returns
  have hlocks := B.notSynchronized
  have hts := atoms_spec (ws := (ws_ yX0_always cX0_always 2 (some .int))) B.pre
  have hts : ∀ w ∈ lw_all, w.before _ s = true := fun w h => hts w (List.mem_cons_of_mem _ h)
  have hown : s.vm.findClass RX0 = some m.cls := findClass_of_methodNamed B.named
  have hS : va_S Fr s.heap s.heap [] := va_S.rf
  have hl := lv_entry ([.ref (h), .int (x)]) (n := 2) (Nat.le_of_ble_eq_true rfl)
  rw [lg_entry_eq]
  generalize (lg_sl ([.ref (h), .int (x)]) ++ List.replicate (2 - (lg_sl ([.ref (h), .int (x)])).length) Slot.unset).toArray = ls at hl ⊢
  have hl : lv_has ls 2 [(0, .ref (h)), (1, .int (x))] := hl
  have hP : va_P D vwCl (xW d h ad a w f) s.heap := hP
  refine lv_iload_n hx hb dX0_always_0 rfl (lv_at hl 1 rfl) ?_
  refine x_roS (As := [.int (x)]) (rest := []) ⟨hx, hb, hml, hown, hts⟩ (mX0_badX l D x) (va_cwS 1 hts (lw_S q102 q103 q22 q104) rfl rfl rfl (by decide +kernel) ⟨Nat.le_of_ble_eq_true rfl, Nat.le_of_ble_eq_true rfl⟩) x_P0 (hK.sub [] rfl) hP hS hl rfl rfl (Nat.le_of_ble_eq_true rfl) dX0_always_1 ⟨Nat.zero_le _, Nat.zero_le _⟩ (fun r_ H locs e_ hP hS => ?_)
  rcases e_ with ⟨e_, hb_n⟩ | ⟨e_, n, hn, ev_⟩
  · subst e_
    refine lv_if_eq (tgt := 10) hx hb dX0_always_4 (by decide) (fun c => absurd c (by decide)) (fun _ => ?_)
    refine lv_bipush (v := -2) hx hb dX0_always_7 (by decide) ?_
    exact x_iretW (WS := xV d h ad) ((a, w, f)) hx hb hr hlocks hS hP dX0_always_9 ⟨⟨hok, fun _ _ => rfl⟩, Or.inl ⟨hb_n, rfl⟩⟩
  · subst e_
    subst ev_
    refine lv_if_eq (tgt := 10) hx hb dX0_always_4 (by decide) (fun _ => ?_) (fun c => absurd rfl c)
    refine lv_aload_n hx hb dX0_always_10 rfl (lv_at hl 0 rfl) ?_
    refine lv_iload_n hx hb dX0_always_11 rfl (lv_at hl 1 rfl) ?_
    refine x_wrv (xV d h ad) (As := [.int ((nI n))]) (rest := []) ⟨hx, hb, hml, hown, hts⟩ (mX0_work l D d h ad Fr a w f n (by omega) hok hD) (cwV 1 hts (lw_V q124 q126 qs3 q22 q127) rfl rfl rfl (by decide +kernel) ⟨Nat.le_of_ble_eq_true rfl, Nat.le_of_ble_eq_true rfl⟩) (va_recv hK hP (ci := 0) (q0 := 0) rfl rfl) hK hP hS hl rfl rfl (Nat.le_of_ble_eq_true rfl) dX0_always_12 ⟨Nat.zero_le _, Nat.zero_le _⟩ (fun u_ H locs hq hP hS => ?_)
    obtain ⟨a1, w1, f1⟩ := u_
    have hP : va_P D vwCl (xW d h ad a1 w1 f1) H := hP
    have hD : va_D Fr (xW d h ad a1 w1 f1) := x_Db hD rfl
    obtain ⟨hf, e1, hW⟩ := hq
    have e1 : w1 = (nI n) := e1
    rw [e1] at hP hD
    have hW : Wk a n (zL (a1 5)) f1.toInt (a1 10) := hW
    have hk1 := XOK_of hok.1 hf hn hW
    refine lv_aload_n hx hb dX0_always_15 rfl (lv_at hl 0 rfl) ?_
    refine x_roV (As := []) (rest := []) ⟨hx, hb, hml, hown, hts⟩ (mX0_smallestSide l D d h ad a1 (nI n) f1) (cwV 0 hts (lw_V q157 q159 qs10 q22 q160) rfl rfl rfl (by decide +kernel) ⟨Nat.le_of_ble_eq_true rfl, Nat.le_of_ble_eq_true rfl⟩) (va_recv hK hP (ci := 0) (q0 := 0) rfl rfl) hP hK hP hS hl rfl rfl (Nat.le_of_ble_eq_true rfl) dX0_always_16 ⟨Nat.zero_le _, Nat.zero_le _⟩ (fun r1 H locs e3 hP hS => ?_)
    exact x_iretW (WS := xV d h ad) ((a1, nI n, f1)) hx hb hr hlocks hS hP dX0_always_19 ⟨⟨hk1, hf⟩, Or.inr ⟨n, hn, rfl, e3.trans (wk_alw hW)⟩⟩
set_option maxHeartbeats 4000000 in
set_option maxRecDepth 100000 in
theorem mX0_ever (l : Launch) (D : va_G) (d : Nat → ClassId) (h : Nat) (ad : Nat → Nat) (Fr : Nat → Prop) (a : Nat → Nat → Int32) (w f : Int32) (x : Int32) (hok : XOK a w f) (hD : va_D Fr (xW d h ad a w f)) : Met l yX0_ever (ws_ yX0_ever cX0_ever 2 (some .int)) xr3 (x_Pc D (xT d) (xW d h ad a w f) [.ref (h), .int (x)]) (va_Qi (fun r (u' : xS) => XK a u' ∧ ((¬ isN x 51 ∧ r = -2) ∨ ∃ n, n < 51 ∧ x = nI n ∧ r = evr a n)) (fun u t => va_P D vwCl (xV d h ad u) t.heap) Fr) 0 0 Fr := by
  refine Met.ofW (cc := cX0_ever) (maxL := 2) (ret := (some .int)) (by decide) rfl ?_
  intro p e s m args below meth c s₁ B hml hv
  obtain ⟨rfl, hP, hK⟩ := hv
  have hx := B.exec
  have hb := B.bytes
  have hr := B.returns
  have hlocks := B.notSynchronized
  have hts := atoms_spec (ws := (ws_ yX0_ever cX0_ever 2 (some .int))) B.pre
  have hts : ∀ w ∈ lw_all, w.before _ s = true := fun w h => hts w (List.mem_cons_of_mem _ h)
  have hown : s.vm.findClass RX0 = some m.cls := findClass_of_methodNamed B.named
  have hS : va_S Fr s.heap s.heap [] := va_S.rf
  have hl := lv_entry ([.ref (h), .int (x)]) (n := 2) (Nat.le_of_ble_eq_true rfl)
  rw [lg_entry_eq]
  generalize (lg_sl ([.ref (h), .int (x)]) ++ List.replicate (2 - (lg_sl ([.ref (h), .int (x)])).length) Slot.unset).toArray = ls at hl ⊢
  have hl : lv_has ls 2 [(0, .ref (h)), (1, .int (x))] := hl
  have hP : va_P D vwCl (xW d h ad a w f) s.heap := hP
  refine lv_iload_n hx hb dX0_ever_0 rfl (lv_at hl 1 rfl) ?_
  refine x_roS (As := [.int (x)]) (rest := []) ⟨hx, hb, hml, hown, hts⟩ (mX0_badX l D x) (va_cwS 1 hts (lw_S q102 q103 q22 q104) rfl rfl rfl (by decide +kernel) ⟨Nat.le_of_ble_eq_true rfl, Nat.le_of_ble_eq_true rfl⟩) x_P0 (hK.sub [] rfl) hP hS hl rfl rfl (Nat.le_of_ble_eq_true rfl) dX0_ever_1 ⟨Nat.zero_le _, Nat.zero_le _⟩ (fun r_ H locs e_ hP hS => ?_)
  rcases e_ with ⟨e_, hb_n⟩ | ⟨e_, n, hn, ev_⟩
  · subst e_
    refine lv_if_eq (tgt := 10) hx hb dX0_ever_4 (by decide) (fun c => absurd c (by decide)) (fun _ => ?_)
    refine lv_bipush (v := -2) hx hb dX0_ever_7 (by decide) ?_
    exact x_iretW (WS := xV d h ad) ((a, w, f)) hx hb hr hlocks hS hP dX0_ever_9 ⟨⟨hok, fun _ _ => rfl⟩, Or.inl ⟨hb_n, rfl⟩⟩
  · subst e_
    subst ev_
    refine lv_if_eq (tgt := 10) hx hb dX0_ever_4 (by decide) (fun _ => ?_) (fun c => absurd rfl c)
    refine lv_aload_n hx hb dX0_ever_10 rfl (lv_at hl 0 rfl) ?_
    refine lv_iload_n hx hb dX0_ever_11 rfl (lv_at hl 1 rfl) ?_
    refine x_wrv (xV d h ad) (As := [.int ((nI n))]) (rest := []) ⟨hx, hb, hml, hown, hts⟩ (mX0_work l D d h ad Fr a w f n (by omega) hok hD) (cwV 1 hts (lw_V q124 q126 qs3 q22 q127) rfl rfl rfl (by decide +kernel) ⟨Nat.le_of_ble_eq_true rfl, Nat.le_of_ble_eq_true rfl⟩) (va_recv hK hP (ci := 0) (q0 := 0) rfl rfl) hK hP hS hl rfl rfl (Nat.le_of_ble_eq_true rfl) dX0_ever_12 ⟨Nat.zero_le _, Nat.zero_le _⟩ (fun u_ H locs hq hP hS => ?_)
    obtain ⟨a1, w1, f1⟩ := u_
    have hP : va_P D vwCl (xW d h ad a1 w1 f1) H := hP
    have hD : va_D Fr (xW d h ad a1 w1 f1) := x_Db hD rfl
    obtain ⟨hf, e1, hW⟩ := hq
    have e1 : w1 = (nI n) := e1
    rw [e1] at hP hD
    have hW : Wk a n (zL (a1 5)) f1.toInt (a1 10) := hW
    have hk1 := XOK_of hok.1 hf hn hW
    refine lv_aload_n hx hb dX0_ever_15 rfl (lv_at hl 0 rfl) ?_
    refine x_roV (As := []) (rest := []) ⟨hx, hb, hml, hown, hts⟩ (mX0_greatestSide l D d h ad a1 (nI n) f1) (cwV 0 hts (lw_V q165 q167 qs11 q22 q168) rfl rfl rfl (by decide +kernel) ⟨Nat.le_of_ble_eq_true rfl, Nat.le_of_ble_eq_true rfl⟩) (va_recv hK hP (ci := 0) (q0 := 0) rfl rfl) hP hK hP hS hl rfl rfl (Nat.le_of_ble_eq_true rfl) dX0_ever_16 ⟨Nat.zero_le _, Nat.zero_le _⟩ (fun r1 H locs e3 hP hS => ?_)
    exact x_iretW (WS := xV d h ad) ((a1, nI n, f1)) hx hb hr hlocks hS hP dX0_ever_19 ⟨⟨hk1, hf⟩, Or.inr ⟨n, hn, rfl, wk_evr hW e3⟩⟩
end
section
/-! leastApart, spare, separates, worst, stages -/
theorem XOK_m1 {a a1 : Nat → Nat → Int32} {f1 : Int32} (hg : DOK a) (hf : ∀ j, j < 5 → a1 j = a j) : XOK a1 (-1) f1 := ⟨DOK_congr (fun k hk => (hf k hk).symm) hg, Or.inl rfl⟩
theorem apM_in {g : Nat → Nat → Int32} (hg : DOK g) {x u v : Nat} (hx : x ≤ 50) {z : Int} (h : apM g x u v z) : 0 ≤ z ∧ z ≤ 1820 := by
  obtain ⟨⟨s, _, _, _, e⟩, _⟩ := h
  rw [← e]
  exact pr_in hg _ hx
theorem apM_congr {g g' : Nat → Nat → Int32} (h : ∀ k, k < 5 → g k = g' k) {x u v : Nat} {z : Int} (hs : apM g x u v z) : apM g' x u v z := by
  unfold apM at *
  rw [← prs_congr h]
  exact hs
-- one bit of a long
theorem l_bit : ∀ k : Fin 128, ∀ z : Fin 64, (lN 1 <<< ((nI k.val &&& nI 63).toInt64 &&& 63)).toBitVec.getLsbD z.val = decide (z.val = k.val % 64) := by decide +kernel
def bl (x : Int64) (i : Nat) : Bool := x.toBitVec.getLsbD i
theorem bl_bit {k z : Nat} (hk : k < 128) (hz : z < 64) : bl (lN 1 <<< ((nI k &&& nI 63).toInt64 &&& 63)) z = decide (z = k % 64) := l_bit ⟨k, hk⟩ ⟨z, hz⟩
theorem bl_or (x y : Int64) (i : Nat) : bl (x ||| y) i = (bl x i || bl y i) := by unfold bl; rw [Int64.toBitVec_or, BitVec.getLsbD_or]
theorem bl_and (x y : Int64) (i : Nat) : bl (x &&& y) i = (bl x i && bl y i) := by unfold bl; rw [Int64.toBitVec_and, BitVec.getLsbD_and]
theorem bl_0 (i : Nat) : bl (lN 0) i = false := BitVec.getLsbD_zero
theorem bl_ext {x y : Int64} (h : ∀ i, i < 64 → bl x i = bl y i) : x = y := Int64.toBitVec_inj.mp (BitVec.eq_of_getLsbD_eq (fun i hi => h i hi))
theorem bl_test {x : Int64} {k : Nat} (hk : k < 128) : x &&& (lN 1 <<< ((nI k &&& nI 63).toInt64 &&& 63)) = lN 0 ↔ bl x (k % 64) = false := by
  constructor
  · intro h
    have h1 : bl (x &&& (lN 1 <<< ((nI k &&& nI 63).toInt64 &&& 63))) (k % 64) = bl (lN 0) (k % 64) := by rw [h]
    rw [bl_and, bl_bit hk (by omega), bl_0] at h1
    simpa using h1
  · intro h
    refine bl_ext (fun i hi => ?_)
    rw [bl_and, bl_bit hk hi, bl_0]
    by_cases c : i = k % 64
    · subst c; rw [h]; rfl
    · simp [c]
set_option maxHeartbeats 4000000 in
set_option maxRecDepth 100000 in
theorem mX0_leastApart (l : Launch) (D : va_G) (d : Nat → ClassId) (h : Nat) (ad : Nat → Nat) (Fr : Nat → Prop) (a : Nat → Nat → Int32) (w f : Int32) (u v x : Nat) (hu : u < 7) (hv : v < 7) (hne : u ≠ v) (hx5 : x ≤ 50) (hg : DOK a) (hD : va_D Fr (xW d h ad a w f)) : Met l yX0_leastApart (ws_ yX0_leastApart cX0_leastApart 4 (some .int)) xr2 (x_Pc D (xT d) (xW d h ad a w f) [.ref (h), .int (nI u), .int (nI v), .int (nI x)]) (va_Qi (fun r (u' : xS) => (∀ j, j < 5 → u'.1 j = a j) ∧ u'.2.1 = -1 ∧ apM a x u v r.toInt) (fun u t => va_P D vwCl (xV d h ad u) t.heap) Fr) 0 0 Fr := by
  refine Met.ofW (cc := cX0_leastApart) (maxL := 4) (ret := (some .int)) (by decide) rfl ?_
  intro p e s m args below meth c s₁ B hml hv
  obtain ⟨rfl, hP, hK⟩ := hv
  have hx := B.exec
  have hb := B.bytes
  have hr := B.returns
  have hlocks := B.notSynchronized
  have hts := atoms_spec (ws := (ws_ yX0_leastApart cX0_leastApart 4 (some .int))) B.pre
  have hts : ∀ w ∈ lw_all, w.before _ s = true := fun w h => hts w (List.mem_cons_of_mem _ h)
  have hown : s.vm.findClass RX0 = some m.cls := findClass_of_methodNamed B.named
  have hS : va_S Fr s.heap s.heap [] := va_S.rf
  have hl := lv_entry ([.ref (h), .int (nI u), .int (nI v), .int (nI x)]) (n := 4) (Nat.le_of_ble_eq_true rfl)
  rw [lg_entry_eq]
  generalize (lg_sl ([.ref (h), .int (nI u), .int (nI v), .int (nI x)]) ++ List.replicate (4 - (lg_sl ([.ref (h), .int (nI u), .int (nI v), .int (nI x)])).length) Slot.unset).toArray = ls at hl ⊢
  have hl : lv_has ls 4 [(0, .ref (h)), (1, .int (nI u)), (2, .int (nI v)), (3, .int (nI x))] := hl
  have hP : va_P D vwCl (xW d h ad a w f) s.heap := hP
  refine lv_aload_n hx hb dX0_leastApart_0 rfl (lv_at hl 0 rfl) ?_
  refine lv_iload_n hx hb dX0_leastApart_1 rfl (lv_at hl 3 rfl) ?_
  refine x_wrv (xV d h ad) (As := [.int (nI x)]) (rest := []) ⟨hx, hb, hml, hown, hts⟩ (mX0_load l D d h ad Fr a w f x hx5 hg hD) (cwV 1 hts (lw_V q128 q130 qs4 q22 q131) rfl rfl rfl (by decide +kernel) ⟨Nat.le_of_ble_eq_true rfl, Nat.le_of_ble_eq_true rfl⟩) (va_recv hK hP (ci := 0) (q0 := 0) rfl rfl) hK hP hS hl rfl rfl (Nat.le_of_ble_eq_true rfl) dX0_leastApart_2 ⟨Nat.zero_le _, Nat.zero_le _⟩ (fun u_ H locs hq1 hP hS => ?_)
  obtain ⟨a1, w1, f1⟩ := u_
  have hP : va_P D vwCl (xW d h ad a1 w1 f1) H := hP
  have hD : va_D Fr (xW d h ad a1 w1 f1) := x_Db hD rfl
  obtain ⟨hf1, e1, e2, hld⟩ := hq1
  have e1 : w1 = w := e1
  rw [e1] at hP hD
  have e2 : f1 = f := e2
  rw [e2] at hP hD
  have hld : ∀ p q, p < 9 → q < 9 → zL (a1 5) (p * 9 + q) = ldF a x p q := hld
  have hb1 : ∀ p q, p < 9 → q < 9 → 0 ≤ (a1 5 (p * 9 + q)).toInt ∧ (a1 5 (p * 9 + q)).toInt ≤ 140 := fun p q hp hq => by have h1 := ldF_in hg hx5 hp hq; rw [← hld p q hp hq] at h1; exact h1
  have hz1 : (nI 100000).toInt = 100000 := rfl
  refine lv_aload_n hx hb dX0_leastApart_5 rfl (lv_at hl 0 rfl) ?_
  refine va_get (D := D) (ci := 0) (v := .ref (ad 5)) (C := RX0) (T := TX0) (N := 14) hx hb hts in_X0 hown hK hP 0 rfl rfl 5 (by decide) (hts _ q37) (fun _ h9 => h9) rfl dX0_leastApart_6 ?_
  refine lv_bipush (v := nI 63) hx hb dX0_leastApart_9 (by decide) ?_
  refine lv_iload_n hx hb dX0_leastApart_11 rfl (lv_at hl 1 rfl) ?_
  refine lv_iadd hx hb dX0_leastApart_12 ?_
  refine lv_dup2_11 hx hb dX0_leastApart_13 rfl rfl ?_
  refine x_ald hx hb hK hP 6 5 rfl rfl (63 + u) (by simp only [pk_mul, nI_add]) (by omega) (by decide) dX0_leastApart_14 ?_
  refine lv_ldc (v := nI 100000) hx hb hown (hts _ q205) dX0_leastApart_15 ?_
  refine lv_iadd hx hb dX0_leastApart_17 ?_
  refine x_ast hx hb hK hP hD hS 6 5 rfl rfl (63 + u) (by simp only [pk_mul, nI_add]) (by omega) (by decide) dX0_leastApart_18 (fun H locs hP hD hS => ?_)
  have hP : va_P D vwCl (xW d h ad (va_up a1 5 (upd (a1 5) (63 + u) ((a1 5 (63 + u)) + (nI 100000)))) w f) H := hP
  have hD : va_D Fr (xW d h ad (va_up a1 5 (upd (a1 5) (63 + u) ((a1 5 (63 + u)) + (nI 100000)))) w f) := hD
  obtain ⟨a2, ea2⟩ : ∃ z, z = (va_up a1 5 (upd (a1 5) (63 + u) ((a1 5 (63 + u)) + (nI 100000)))) := ⟨_, rfl⟩
  have hP : va_P D vwCl (xW d h ad a2 w f) H := by rw [ea2]; exact hP
  have hD : va_D Fr (xW d h ad a2 w f) := by rw [ea2]; exact hD
  refine lv_aload_n hx hb dX0_leastApart_19 rfl (lv_at hl 0 rfl) ?_
  refine va_get (D := D) (ci := 0) (v := .ref (ad 5)) (C := RX0) (T := TX0) (N := 14) hx hb hts in_X0 hown hK hP 0 rfl rfl 5 (by decide) (hts _ q37) (fun _ h9 => h9) rfl dX0_leastApart_20 ?_
  refine lv_iload_n hx hb dX0_leastApart_23 rfl (lv_at hl 2 rfl) ?_
  refine lv_bipush (v := nI 9) hx hb dX0_leastApart_24 (by decide) ?_
  refine lv_imul hx hb dX0_leastApart_26 ?_
  refine lv_bipush (v := nI 8) hx hb dX0_leastApart_27 (by decide) ?_
  refine lv_iadd hx hb dX0_leastApart_29 ?_
  refine lv_dup2_11 hx hb dX0_leastApart_30 rfl rfl ?_
  refine x_ald hx hb hK hP 6 5 rfl rfl (v * 9 + 8) (by simp only [pk_mul, nI_add]) (by omega) (by decide) dX0_leastApart_31 ?_
  refine lv_ldc (v := nI 100000) hx hb hown (hts _ q205) dX0_leastApart_32 ?_
  refine lv_iadd hx hb dX0_leastApart_34 ?_
  refine x_ast hx hb hK hP hD hS 6 5 rfl rfl (v * 9 + 8) (by simp only [pk_mul, nI_add]) (by omega) (by decide) dX0_leastApart_35 (fun H locs hP hD hS => ?_)
  have hP : va_P D vwCl (xW d h ad (va_up a2 5 (upd (a2 5) (v * 9 + 8) ((a2 5 (v * 9 + 8)) + (nI 100000)))) w f) H := hP
  have hD : va_D Fr (xW d h ad (va_up a2 5 (upd (a2 5) (v * 9 + 8) ((a2 5 (v * 9 + 8)) + (nI 100000)))) w f) := hD
  obtain ⟨a3, ea3⟩ : ∃ z, z = (va_up a2 5 (upd (a2 5) (v * 9 + 8) ((a2 5 (v * 9 + 8)) + (nI 100000)))) := ⟨_, rfl⟩
  have hP : va_P D vwCl (xW d h ad a3 w f) H := by rw [ea3]; exact hP
  have hD : va_D Fr (xW d h ad a3 w f) := by rw [ea3]; exact hD
  have h35 : zL (a3 5) = apL (zL (a1 5)) u v := by
    have g1 : (a1 5 (63 + u) + nI 100000).toInt = zL (a1 5) (63 + u) + 100000 := by
      have := hb1 7 u (by omega) (by omega)
      rw [show 7 * 9 + u = 63 + u by omega] at this
      rw [z_add (by omega) (by omega)]; rfl
    have g2 : a2 5 = upd (a1 5) (63 + u) (a1 5 (63 + u) + nI 100000) := by rw [ea2, va_up_s]
    have g3 : a2 5 (v * 9 + 8) = a1 5 (v * 9 + 8) := by rw [g2]; exact pk_un (by omega)
    have g4 : (a2 5 (v * 9 + 8) + nI 100000).toInt = zL (a1 5) (v * 9 + 8) + 100000 := by
      have := hb1 v 8 (by omega) (by omega)
      rw [g3, z_add (by omega) (by omega)]; rfl
    rw [ea3, va_up_s, zL_up, g4, g2, zL_up, g1]
    unfold apL
    rw [va_up_n (show v * 9 + 8 ≠ 63 + u by omega)]
  have hf3 : ∀ j, j ≠ 5 → a3 j = a j := fun j hj => by rw [ea3, va_up_n hj, ea2, va_up_n hj]; exact hf1 j hj
  refine lv_aload_n hx hb dX0_leastApart_36 rfl (lv_at hl 0 rfl) ?_
  refine lv_iconst (v := -1) hx hb dX0_leastApart_37 (by decide) ?_
  refine va_put (D := D) (ci := 0) (v := .int ((-1))) (ty := .int) (C := RX0) (T := TX0) (N := 14) hx hb hts in_X0 tyX0 tyX0_ok nmX0 hown hK hP hD hS 0 rfl rfl 6 (by decide) (hts _ q38) (fun _ h9 => h9) rfl (by decide +kernel) rfl rfl (Nat.le_of_ble_eq_true rfl) dX0_leastApart_38 (fun H locs hP hD hS => ?_)
  have hP : va_P D vwCl (xW d h ad a3 ((-1)) f) H := hP
  have hD : va_D Fr (xW d h ad a3 ((-1)) f) := hD
  refine lv_aload_n hx hb dX0_leastApart_41 rfl (lv_at hl 0 rfl) ?_
  refine x_wrv (xV d h ad) (As := []) (rest := []) ⟨hx, hb, hml, hown, hts⟩ (mX0_grow l D d h ad Fr a3 (-1) f (by rw [h35]; exact ap_nn hg hx5 hld hu hv) (by rw [h35]; exact ap_pb hg hx5 hld hu hv) (by rw [h35]; exact ends_apart hu hv hne (ap_ap hg hx5 hld hu hv hne)) ⟨fun z => z == 7 || z == u, rfl, by simp; omega, by rw [h35]; have := ap_cutB hg hx5 hld hu hv hne; omega⟩ hD) (cwV 0 hts (lw_V q132 q134 qs5 q22 q135) rfl rfl rfl (by decide +kernel) ⟨Nat.le_of_ble_eq_true rfl, Nat.le_of_ble_eq_true rfl⟩) (va_recv hK hP (ci := 0) (q0 := 0) rfl rfl) hK hP hS hl rfl rfl (Nat.le_of_ble_eq_true rfl) dX0_leastApart_42 ⟨Nat.zero_le _, Nat.zero_le _⟩ (fun u_ H locs hq4 hP hS => ?_)
  obtain ⟨a4, w4, f4⟩ := u_
  have hP : va_P D vwCl (xW d h ad a4 w4 f4) H := hP
  have hD : va_D Fr (xW d h ad a4 w4 f4) := x_Db hD rfl
  obtain ⟨hf4, e3, hn4, hfl, hrc, hT⟩ := hq4
  rw [h35] at hrc
  have e3 : w4 = (-1) := e3
  rw [e3] at hP hD
  refine lv_aload_n hx hb dX0_leastApart_45 rfl (lv_at hl 0 rfl) ?_
  refine va_get (D := D) (ci := 0) (v := .int (f4)) (C := RX0) (T := TX0) (N := 14) hx hb hts in_X0 hown hK hP 0 rfl rfl 7 (by decide) (hts _ q39) (fun _ h9 => h9) rfl dX0_leastApart_46 ?_
  exact x_iretW (WS := xV d h ad) ((a4, -1, f4)) hx hb hr hlocks hS hP dX0_leastApart_49 ⟨fun j hj => (hf4 j (by omega) (by omega) (by omega)).trans (hf3 j (by omega)), rfl, ap_res hg hx5 hld hu hv hne hn4 hrc hT⟩
set_option maxHeartbeats 4000000 in
set_option maxRecDepth 100000 in
theorem mX0_spare (l : Launch) (D : va_G) (d : Nat → ClassId) (h : Nat) (ad : Nat → Nat) (Fr : Nat → Prop) (a : Nat → Nat → Int32) (w f : Int32) (u v x : Int32) (hok : XOK a w f) (hD : va_D Fr (xW d h ad a w f)) : Met l yX0_spare (ws_ yX0_spare cX0_spare 8 (some .int)) xr3 (x_Pc D (xT d) (xW d h ad a w f) [.ref (h), .int (u), .int (v), .int (x)]) (va_Qi (fun r (u' : xS) => XK a u' ∧ ((lkB u v ∧ r = -1) ∨ (¬ lkB u v ∧ ¬ isN x 51 ∧ r = -2) ∨ ∃ nu nv n, nu < 7 ∧ nv < 7 ∧ nu ≠ nv ∧ n < 51 ∧ u = nI nu ∧ v = nI nv ∧ x = nI n ∧ spS a nu nv n r.toInt)) (fun u t => va_P D vwCl (xV d h ad u) t.heap) Fr) 0 0 Fr := by
  refine Met.ofW (cc := cX0_spare) (maxL := 8) (ret := (some .int)) (by decide) rfl ?_
  intro p e s m args below meth c s₁ B hml hv
  obtain ⟨rfl, hP, hK⟩ := hv
  have hx := B.exec
  have hb := B.bytes
  have hr := B.returns
  have hlocks := B.notSynchronized
  have hts := atoms_spec (ws := (ws_ yX0_spare cX0_spare 8 (some .int))) B.pre
  have hts : ∀ w ∈ lw_all, w.before _ s = true := fun w h => hts w (List.mem_cons_of_mem _ h)
  have hown : s.vm.findClass RX0 = some m.cls := findClass_of_methodNamed B.named
  have hS : va_S Fr s.heap s.heap [] := va_S.rf
  have hl := lv_entry ([.ref (h), .int (u), .int (v), .int (x)]) (n := 8) (Nat.le_of_ble_eq_true rfl)
  rw [lg_entry_eq]
  generalize (lg_sl ([.ref (h), .int (u), .int (v), .int (x)]) ++ List.replicate (8 - (lg_sl ([.ref (h), .int (u), .int (v), .int (x)])).length) Slot.unset).toArray = ls at hl ⊢
  have hl : lv_has ls 8 [(0, .ref (h)), (1, .int (u)), (2, .int (v)), (3, .int (x))] := hl
  have hP : va_P D vwCl (xW d h ad a w f) s.heap := hP
  have hg := hok.1
  refine lv_iload_n hx hb dX0_spare_0 rfl (lv_at hl 1 rfl) ?_
  refine x_roS (As := [.int (u)]) (rest := []) ⟨hx, hb, hml, hown, hts⟩ (mX0_bad l D u) (va_cwS 1 hts (lw_S q80 q81 q22 q82) rfl rfl rfl (by decide +kernel) ⟨Nat.le_of_ble_eq_true rfl, Nat.le_of_ble_eq_true rfl⟩) x_P0 (hK.sub [] rfl) hP hS hl rfl rfl (Nat.le_of_ble_eq_true rfl) dX0_spare_1 ⟨Nat.zero_le _, Nat.zero_le _⟩ (fun r_ H locs e_ hP hS => ?_)
  rcases e_ with ⟨e_, hb_nu⟩ | ⟨e_, nu, hnu, ev_⟩
  · subst e_
    refine lv_if_ne (tgt := 19) hx hb dX0_spare_4 (by decide) (fun _ => ?_) (fun c => absurd c (by decide))
    refine lv_iconst (v := -1) hx hb dX0_spare_19 (by decide) ?_
    exact x_iretW (WS := xV d h ad) ((a, w, f)) hx hb hr hlocks hS hP dX0_spare_20 ⟨⟨hok, fun _ _ => rfl⟩, Or.inl ⟨Or.inl hb_nu, rfl⟩⟩
  · subst e_
    subst ev_
    refine lv_if_ne (tgt := 19) hx hb dX0_spare_4 (by decide) (fun c => absurd rfl c) (fun _ => ?_)
    refine lv_iload_n hx hb dX0_spare_7 rfl (lv_at hl 2 rfl) ?_
    refine x_roS (As := [.int (v)]) (rest := []) ⟨hx, hb, hml, hown, hts⟩ (mX0_bad l D v) (va_cwS 1 hts (lw_S q80 q81 q22 q82) rfl rfl rfl (by decide +kernel) ⟨Nat.le_of_ble_eq_true rfl, Nat.le_of_ble_eq_true rfl⟩) x_P0 (hK.sub [] rfl) hP hS hl rfl rfl (Nat.le_of_ble_eq_true rfl) dX0_spare_8 ⟨Nat.zero_le _, Nat.zero_le _⟩ (fun r_ H locs e_ hP hS => ?_)
    rcases e_ with ⟨e_, hb_nv⟩ | ⟨e_, nv, hnv, ev_⟩
    · subst e_
      refine lv_if_ne (tgt := 19) hx hb dX0_spare_11 (by decide) (fun _ => ?_) (fun c => absurd c (by decide))
      refine lv_iconst (v := -1) hx hb dX0_spare_19 (by decide) ?_
      exact x_iretW (WS := xV d h ad) ((a, w, f)) hx hb hr hlocks hS hP dX0_spare_20 ⟨⟨hok, fun _ _ => rfl⟩, Or.inl ⟨Or.inr (Or.inl hb_nv), rfl⟩⟩
    · subst e_
      subst ev_
      refine lv_if_ne (tgt := 19) hx hb dX0_spare_11 (by decide) (fun c => absurd rfl c) (fun _ => ?_)
      refine lv_iload_n hx hb dX0_spare_14 rfl (lv_at hl 1 rfl) ?_
      refine lv_iload_n hx hb dX0_spare_15 rfl (lv_at hl 2 rfl) ?_
      refine x_ne hx hb (nu) (nv) rfl rfl (by omega) (by omega) (tgt := 21) dX0_spare_16 (by decide) (fun c1 => ?_) (fun c1 => ?_)
      · refine lv_iload_n hx hb dX0_spare_21 rfl (lv_at hl 3 rfl) ?_
        refine x_roS (As := [.int (x)]) (rest := []) ⟨hx, hb, hml, hown, hts⟩ (mX0_badX l D x) (va_cwS 1 hts (lw_S q102 q103 q22 q104) rfl rfl rfl (by decide +kernel) ⟨Nat.le_of_ble_eq_true rfl, Nat.le_of_ble_eq_true rfl⟩) x_P0 (hK.sub [] rfl) hP hS hl rfl rfl (Nat.le_of_ble_eq_true rfl) dX0_spare_22 ⟨Nat.zero_le _, Nat.zero_le _⟩ (fun r_ H locs e_ hP hS => ?_)
        rcases e_ with ⟨e_, hb_n⟩ | ⟨e_, n, hn, ev_⟩
        · subst e_
          refine lv_if_eq (tgt := 31) hx hb dX0_spare_25 (by decide) (fun c => absurd c (by decide)) (fun _ => ?_)
          refine lv_bipush (v := -2) hx hb dX0_spare_28 (by decide) ?_
          exact x_iretW (WS := xV d h ad) ((a, w, f)) hx hb hr hlocks hS hP dX0_spare_30 ⟨⟨hok, fun _ _ => rfl⟩, Or.inr (Or.inl ⟨lkB_not hnu hnv c1, hb_n, rfl⟩)⟩
        · subst e_
          subst ev_
          refine lv_if_eq (tgt := 31) hx hb dX0_spare_25 (by decide) (fun _ => ?_) (fun c => absurd rfl c)
          refine lv_aload_n hx hb dX0_spare_31 rfl (lv_at hl 0 rfl) ?_
          refine lv_iload_n hx hb dX0_spare_32 rfl (lv_at hl 1 rfl) ?_
          refine lv_iload_n hx hb dX0_spare_33 rfl (lv_at hl 2 rfl) ?_
          refine lv_iload_n hx hb dX0_spare_34 rfl (lv_at hl 3 rfl) ?_
          refine x_wri (xV d h ad) (As := [.int ((nI nu)), .int ((nI nv)), .int ((nI n))]) (rest := []) ⟨hx, hb, hml, hown, hts⟩ (mX0_leastApart l D d h ad Fr a w f nu nv n hnu hnv c1 (by omega) hg hD) (cwV 3 hts (lw_V q201 q203 qs16 q22 q204) rfl rfl rfl (by decide +kernel) ⟨Nat.le_of_ble_eq_true rfl, Nat.le_of_ble_eq_true rfl⟩) (va_recv hK hP (ci := 0) (q0 := 0) rfl rfl) hK hP hS hl rfl rfl (Nat.le_of_ble_eq_true rfl) dX0_spare_35 ⟨Nat.zero_le _, Nat.zero_le _⟩ (fun r1 u_ H locs hq1 hP hS => ?_)
          obtain ⟨a1, w1, f1⟩ := u_
          have hP : va_P D vwCl (xW d h ad a1 w1 f1) H := hP
          have hD : va_D Fr (xW d h ad a1 w1 f1) := x_Db hD rfl
          obtain ⟨hf1, e1, h1⟩ := hq1
          have e1 : w1 = (-1) := e1
          rw [e1] at hP hD
          have hg1 : DOK a1 := DOK_congr (fun k hk => (hf1 k hk).symm) hg
          refine lv_istore (lv' := [(4, .int (r1)), (0, .ref (h)), (1, .int ((nI nu))), (2, .int ((nI nv))), (3, .int ((nI n)))]) hx hb dX0_spare_38 hl (by decide) rfl (fun ls hl => ?_)
          refine lv_aload_n hx hb dX0_spare_40 rfl (lv_at hl 1 rfl) ?_
          refine lv_iload_n hx hb dX0_spare_41 rfl (lv_at hl 3 rfl) ?_
          refine lv_iload_n hx hb dX0_spare_42 rfl (lv_at hl 2 rfl) ?_
          refine lv_iload_n hx hb dX0_spare_43 rfl (lv_at hl 4 rfl) ?_
          refine x_wri (xV d h ad) (As := [.int ((nI nv)), .int ((nI nu)), .int ((nI n))]) (rest := []) ⟨hx, hb, hml, hown, hts⟩ (mX0_leastApart l D d h ad Fr a1 (-1) f1 nv nu n hnv hnu (Ne.symm c1) (by omega) hg1 hD) (cwV 3 hts (lw_V q201 q203 qs16 q22 q204) rfl rfl rfl (by decide +kernel) ⟨Nat.le_of_ble_eq_true rfl, Nat.le_of_ble_eq_true rfl⟩) (va_recv hK hP (ci := 0) (q0 := 0) rfl rfl) hK hP hS hl rfl rfl (Nat.le_of_ble_eq_true rfl) dX0_spare_44 ⟨Nat.zero_le _, Nat.zero_le _⟩ (fun r2 u_ H locs hq2 hP hS => ?_)
          obtain ⟨a2, w2, f2⟩ := u_
          have hP : va_P D vwCl (xW d h ad a2 w2 f2) H := hP
          have hD : va_D Fr (xW d h ad a2 w2 f2) := x_Db hD rfl
          obtain ⟨hf2, e2, h2⟩ := hq2
          have e2 : w2 = (-1) := e2
          rw [e2] at hP hD
          have h2 := apM_congr (fun k hk => hf1 k hk) h2
          have hfa : ∀ j, j < 5 → a2 j = a j := fun j hj => (hf2 j hj).trans (hf1 j hj)
          refine lv_istore (lv' := [(5, .int (r2)), (4, .int (r1)), (0, .ref (h)), (1, .int ((nI nu))), (2, .int ((nI nv))), (3, .int ((nI n)))]) hx hb dX0_spare_47 hl (by decide) rfl (fun ls hl => ?_)
          refine lv_aload_n hx hb dX0_spare_49 rfl (lv_at hl 2 rfl) ?_
          refine lv_iload_n hx hb dX0_spare_50 rfl (lv_at hl 5 rfl) ?_
          refine x_wrv (xV d h ad) (As := [.int ((nI n))]) (rest := []) ⟨hx, hb, hml, hown, hts⟩ (mX0_work l D d h ad Fr a2 (-1) f2 n (by omega) (XOK_m1 hg hfa) hD) (cwV 1 hts (lw_V q124 q126 qs3 q22 q127) rfl rfl rfl (by decide +kernel) ⟨Nat.le_of_ble_eq_true rfl, Nat.le_of_ble_eq_true rfl⟩) (va_recv hK hP (ci := 0) (q0 := 0) rfl rfl) hK hP hS hl rfl rfl (Nat.le_of_ble_eq_true rfl) dX0_spare_51 ⟨Nat.zero_le _, Nat.zero_le _⟩ (fun u_ H locs hq3 hP hS => ?_)
          obtain ⟨a3, w3, f3⟩ := u_
          have hP : va_P D vwCl (xW d h ad a3 w3 f3) H := hP
          have hD : va_D Fr (xW d h ad a3 w3 f3) := x_Db hD rfl
          obtain ⟨hf3, e3, hW⟩ := hq3
          have e3 : w3 = (nI n) := e3
          rw [e3] at hP hD
          have hfb : ∀ j, j < 5 → a3 j = a j := fun j hj => (hf3 j hj).trans (hfa j hj)
          have hW : Wk a n (zL (a3 5)) f3.toInt (a3 10) := Wk_congr (fun k hk => hfa k hk) hW
          have hk1 := XOK_of hg hfb hn hW
          have hlow := gr_least hW.1
          have hli := lst_in hg (show n ≤ 50 by omega)
          have hi1 := apM_in hg (show n ≤ 50 by omega) h1
          have hi2 := apM_in hg (show n ≤ 50 by omega) h2
          have how := hg.1 nu nv hnu hnv
          refine lv_iload hx hb dX0_spare_54 (lv_at hl 1 rfl) ?_
          refine lv_iload hx hb dX0_spare_56 (lv_at hl 0 rfl) ?_
          refine lv_icmp_ge (tgt := 66) hx hb dX0_spare_58 (by decide) (fun c6 => ?_) (fun c6 => ?_)
          · rw [z_le] at c6
            refine lv_iload hx hb dX0_spare_66 (lv_at hl 0 rfl) ?_
            refine lv_aload_n hx hb dX0_spare_68 rfl (lv_at hl 2 rfl) ?_
            refine va_get (D := D) (ci := 0) (v := .int (f3)) (C := RX0) (T := TX0) (N := 14) hx hb hts in_X0 hown hK hP 0 rfl rfl 7 (by decide) (hts _ q39) (fun _ h9 => h9) rfl dX0_spare_69 ?_
            refine lv_isub hx hb dX0_spare_72 ?_
            refine lv_istore (lv' := [(6, .int ((r2) - (f3))), (5, .int (r2)), (4, .int (r1)), (0, .ref (h)), (1, .int ((nI nu))), (2, .int ((nI nv))), (3, .int ((nI n)))]) hx hb dX0_spare_73 hl (by decide) rfl (fun ls hl => ?_)
            refine lv_aload_n hx hb dX0_spare_75 rfl (lv_at hl 3 rfl) ?_
            refine va_get (D := D) (ci := 0) (v := .ref (ad 0)) (C := RX0) (T := TX0) (N := 14) hx hb hts in_X0 hown hK hP 0 rfl rfl 0 (by decide) (hts _ q32) (fun _ h9 => h9) rfl dX0_spare_76 ?_
            refine lv_iload_n hx hb dX0_spare_79 rfl (lv_at hl 4 rfl) ?_
            refine lv_bipush (v := nI 7) hx hb dX0_spare_80 (by decide) ?_
            refine lv_imul hx hb dX0_spare_82 ?_
            refine lv_iload_n hx hb dX0_spare_83 rfl (lv_at hl 5 rfl) ?_
            refine lv_iadd hx hb dX0_spare_84 ?_
            refine x_ald hx hb hK hP 1 0 rfl rfl (nu * 7 + nv) (by simp only [pk_mul, nI_add]) (by omega) (by decide) dX0_spare_85 ?_
            refine lv_istore (lv' := [(7, .int (a3 0 (nu * 7 + nv))), (6, .int ((r2) - (f3))), (5, .int (r2)), (4, .int (r1)), (0, .ref (h)), (1, .int ((nI nu))), (2, .int ((nI nv))), (3, .int ((nI n)))]) hx hb dX0_spare_86 hl (by decide) rfl (fun ls hl => ?_)
            refine lv_iload hx hb dX0_spare_88 (lv_at hl 1 rfl) ?_
            refine lv_iload hx hb dX0_spare_90 (lv_at hl 0 rfl) ?_
            have hsub : (r2 - f3).toInt = r2.toInt - f3.toInt := z_sub (by omega) (by omega)
            have h0a : a3 0 = a 0 := hfb 0 (by omega)
            refine lv_icmp_ge (tgt := 100) hx hb dX0_spare_92 (by decide) (fun c7 => ?_) (fun c7 => ?_)
            · rw [z_le, hsub, h0a] at c7
              refine lv_iload hx hb dX0_spare_100 (lv_at hl 0 rfl) ?_
              exact x_iretW (WS := xV d h ad) ((a3, nI n, f3)) hx hb hr hlocks hS hP dX0_spare_102 ⟨⟨hk1, hfb⟩, Or.inr (Or.inr ⟨nu, nv, n, hnu, hnv, c1, hn, rfl, rfl, rfl, spS_of hg hnu hnv h1 h2 (by rw [if_neg (show ¬ r1.toInt < r2.toInt by omega), ← hlow, if_neg (by omega)]; rw [h0a])⟩)⟩
            · rw [z_le, hsub, h0a] at c7
              refine lv_iload hx hb dX0_spare_95 (lv_at hl 1 rfl) ?_
              refine lv_goto (tgt := 102) hx hb dX0_spare_97 (by decide) ?_
              exact x_iretW (WS := xV d h ad) ((a3, nI n, f3)) hx hb hr hlocks hS hP dX0_spare_102 ⟨⟨hk1, hfb⟩, Or.inr (Or.inr ⟨nu, nv, n, hnu, hnv, c1, hn, rfl, rfl, rfl, spS_of hg hnu hnv h1 h2 (by rw [if_neg (show ¬ r1.toInt < r2.toInt by omega), ← hlow, if_pos (by omega)]; exact hsub)⟩)⟩
          · rw [z_le] at c6
            refine lv_iload hx hb dX0_spare_61 (lv_at hl 1 rfl) ?_
            refine lv_goto (tgt := 68) hx hb dX0_spare_63 (by decide) ?_
            refine lv_aload_n hx hb dX0_spare_68 rfl (lv_at hl 2 rfl) ?_
            refine va_get (D := D) (ci := 0) (v := .int (f3)) (C := RX0) (T := TX0) (N := 14) hx hb hts in_X0 hown hK hP 0 rfl rfl 7 (by decide) (hts _ q39) (fun _ h9 => h9) rfl dX0_spare_69 ?_
            refine lv_isub hx hb dX0_spare_72 ?_
            refine lv_istore (lv' := [(6, .int ((r1) - (f3))), (5, .int (r2)), (4, .int (r1)), (0, .ref (h)), (1, .int ((nI nu))), (2, .int ((nI nv))), (3, .int ((nI n)))]) hx hb dX0_spare_73 hl (by decide) rfl (fun ls hl => ?_)
            refine lv_aload_n hx hb dX0_spare_75 rfl (lv_at hl 3 rfl) ?_
            refine va_get (D := D) (ci := 0) (v := .ref (ad 0)) (C := RX0) (T := TX0) (N := 14) hx hb hts in_X0 hown hK hP 0 rfl rfl 0 (by decide) (hts _ q32) (fun _ h9 => h9) rfl dX0_spare_76 ?_
            refine lv_iload_n hx hb dX0_spare_79 rfl (lv_at hl 4 rfl) ?_
            refine lv_bipush (v := nI 7) hx hb dX0_spare_80 (by decide) ?_
            refine lv_imul hx hb dX0_spare_82 ?_
            refine lv_iload_n hx hb dX0_spare_83 rfl (lv_at hl 5 rfl) ?_
            refine lv_iadd hx hb dX0_spare_84 ?_
            refine x_ald hx hb hK hP 1 0 rfl rfl (nu * 7 + nv) (by simp only [pk_mul, nI_add]) (by omega) (by decide) dX0_spare_85 ?_
            refine lv_istore (lv' := [(7, .int (a3 0 (nu * 7 + nv))), (6, .int ((r1) - (f3))), (5, .int (r2)), (4, .int (r1)), (0, .ref (h)), (1, .int ((nI nu))), (2, .int ((nI nv))), (3, .int ((nI n)))]) hx hb dX0_spare_86 hl (by decide) rfl (fun ls hl => ?_)
            refine lv_iload hx hb dX0_spare_88 (lv_at hl 1 rfl) ?_
            refine lv_iload hx hb dX0_spare_90 (lv_at hl 0 rfl) ?_
            have hsub : (r1 - f3).toInt = r1.toInt - f3.toInt := z_sub (by omega) (by omega)
            have h0a : a3 0 = a 0 := hfb 0 (by omega)
            refine lv_icmp_ge (tgt := 100) hx hb dX0_spare_92 (by decide) (fun c7 => ?_) (fun c7 => ?_)
            · rw [z_le, hsub, h0a] at c7
              refine lv_iload hx hb dX0_spare_100 (lv_at hl 0 rfl) ?_
              exact x_iretW (WS := xV d h ad) ((a3, nI n, f3)) hx hb hr hlocks hS hP dX0_spare_102 ⟨⟨hk1, hfb⟩, Or.inr (Or.inr ⟨nu, nv, n, hnu, hnv, c1, hn, rfl, rfl, rfl, spS_of hg hnu hnv h1 h2 (by rw [if_pos (show r1.toInt < r2.toInt by omega), ← hlow, if_neg (by omega)]; rw [h0a])⟩)⟩
            · rw [z_le, hsub, h0a] at c7
              refine lv_iload hx hb dX0_spare_95 (lv_at hl 1 rfl) ?_
              refine lv_goto (tgt := 102) hx hb dX0_spare_97 (by decide) ?_
              exact x_iretW (WS := xV d h ad) ((a3, nI n, f3)) hx hb hr hlocks hS hP dX0_spare_102 ⟨⟨hk1, hfb⟩, Or.inr (Or.inr ⟨nu, nv, n, hnu, hnv, c1, hn, rfl, rfl, rfl, spS_of hg hnu hnv h1 h2 (by rw [if_pos (show r1.toInt < r2.toInt by omega), ← hlow, if_pos (by omega)]; exact hsub)⟩)⟩
      · subst c1
        refine lv_iconst (v := -1) hx hb dX0_spare_19 (by decide) ?_
        exact x_iretW (WS := xV d h ad) ((a, w, f)) hx hb hr hlocks hS hP dX0_spare_20 ⟨⟨hok, fun _ _ => rfl⟩, Or.inl ⟨Or.inr (Or.inr rfl), rfl⟩⟩
set_option maxHeartbeats 4000000 in
set_option maxRecDepth 100000 in
theorem mX0_separates (l : Launch) (D : va_G) (d : Nat → ClassId) (h : Nat) (ad : Nat → Nat) (Fr : Nat → Prop) (a : Nat → Nat → Int32) (w f : Int32) (u v x : Int32) (hok : XOK a w f) (hD : va_D Fr (xW d h ad a w f)) : Met l yX0_separates (ws_ yX0_separates cX0_separates 5 (some .boolean)) xr3 (x_Pc D (xT d) (xW d h ad a w f) [.ref (h), .int (u), .int (v), .int (x)]) (va_Qi (fun r (u' : xS) => XK a u' ∧ (((lkB u v ∨ ¬ isN x 51) ∧ r = nI 0) ∨ ∃ nu nv n, nu < 7 ∧ nv < 7 ∧ nu ≠ nv ∧ n < 51 ∧ u = nI nu ∧ v = nI nv ∧ x = nI n ∧ ((r = nI 1 ∧ sepP a nu nv n) ∨ (r = nI 0 ∧ ¬ sepP a nu nv n)))) (fun u t => va_P D vwCl (xV d h ad u) t.heap) Fr) 0 0 Fr := by
  refine Met.ofW (cc := cX0_separates) (maxL := 5) (ret := (some .boolean)) (by decide) rfl ?_
  intro p e s m args below meth c s₁ B hml hv
  obtain ⟨rfl, hP, hK⟩ := hv
  have hx := B.exec
  have hb := B.bytes
  have hr := B.returns
  have hlocks := B.notSynchronized
  have hts := atoms_spec (ws := (ws_ yX0_separates cX0_separates 5 (some .boolean))) B.pre
  have hts : ∀ w ∈ lw_all, w.before _ s = true := fun w h => hts w (List.mem_cons_of_mem _ h)
  have hown : s.vm.findClass RX0 = some m.cls := findClass_of_methodNamed B.named
  have hS : va_S Fr s.heap s.heap [] := va_S.rf
  have hl := lv_entry ([.ref (h), .int (u), .int (v), .int (x)]) (n := 5) (Nat.le_of_ble_eq_true rfl)
  rw [lg_entry_eq]
  generalize (lg_sl ([.ref (h), .int (u), .int (v), .int (x)]) ++ List.replicate (5 - (lg_sl ([.ref (h), .int (u), .int (v), .int (x)])).length) Slot.unset).toArray = ls at hl ⊢
  have hl : lv_has ls 5 [(0, .ref (h)), (1, .int (u)), (2, .int (v)), (3, .int (x))] := hl
  have hP : va_P D vwCl (xW d h ad a w f) s.heap := hP
  have hg := hok.1
  refine lv_iload_n hx hb dX0_separates_0 rfl (lv_at hl 1 rfl) ?_
  refine x_roS (As := [.int (u)]) (rest := []) ⟨hx, hb, hml, hown, hts⟩ (mX0_bad l D u) (va_cwS 1 hts (lw_S q80 q81 q22 q82) rfl rfl rfl (by decide +kernel) ⟨Nat.le_of_ble_eq_true rfl, Nat.le_of_ble_eq_true rfl⟩) x_P0 (hK.sub [] rfl) hP hS hl rfl rfl (Nat.le_of_ble_eq_true rfl) dX0_separates_1 ⟨Nat.zero_le _, Nat.zero_le _⟩ (fun r_ H locs e_ hP hS => ?_)
  rcases e_ with ⟨e_, hb_nu⟩ | ⟨e_, nu, hnu, ev_⟩
  · subst e_
    refine lv_if_ne (tgt := 26) hx hb dX0_separates_4 (by decide) (fun _ => ?_) (fun c => absurd c (by decide))
    refine lv_iconst (v := nI 0) hx hb dX0_separates_26 (by decide) ?_
    exact x_zretW (WS := xV d h ad) ((a, w, f)) hx hb hr hlocks hS hP dX0_separates_27 (Or.inl rfl) ⟨⟨hok, fun _ _ => rfl⟩, Or.inl ⟨Or.inl (Or.inl hb_nu), rfl⟩⟩
  · subst e_
    subst ev_
    refine lv_if_ne (tgt := 26) hx hb dX0_separates_4 (by decide) (fun c => absurd rfl c) (fun _ => ?_)
    refine lv_iload_n hx hb dX0_separates_7 rfl (lv_at hl 2 rfl) ?_
    refine x_roS (As := [.int (v)]) (rest := []) ⟨hx, hb, hml, hown, hts⟩ (mX0_bad l D v) (va_cwS 1 hts (lw_S q80 q81 q22 q82) rfl rfl rfl (by decide +kernel) ⟨Nat.le_of_ble_eq_true rfl, Nat.le_of_ble_eq_true rfl⟩) x_P0 (hK.sub [] rfl) hP hS hl rfl rfl (Nat.le_of_ble_eq_true rfl) dX0_separates_8 ⟨Nat.zero_le _, Nat.zero_le _⟩ (fun r_ H locs e_ hP hS => ?_)
    rcases e_ with ⟨e_, hb_nv⟩ | ⟨e_, nv, hnv, ev_⟩
    · subst e_
      refine lv_if_ne (tgt := 26) hx hb dX0_separates_11 (by decide) (fun _ => ?_) (fun c => absurd c (by decide))
      refine lv_iconst (v := nI 0) hx hb dX0_separates_26 (by decide) ?_
      exact x_zretW (WS := xV d h ad) ((a, w, f)) hx hb hr hlocks hS hP dX0_separates_27 (Or.inl rfl) ⟨⟨hok, fun _ _ => rfl⟩, Or.inl ⟨Or.inl (Or.inr (Or.inl hb_nv)), rfl⟩⟩
    · subst e_
      subst ev_
      refine lv_if_ne (tgt := 26) hx hb dX0_separates_11 (by decide) (fun c => absurd rfl c) (fun _ => ?_)
      refine lv_iload_n hx hb dX0_separates_14 rfl (lv_at hl 1 rfl) ?_
      refine lv_iload_n hx hb dX0_separates_15 rfl (lv_at hl 2 rfl) ?_
      refine x_eq hx hb (nu) (nv) rfl rfl (by omega) (by omega) (tgt := 26) dX0_separates_16 (by decide) (fun c1 => ?_) (fun c1 => ?_)
      · subst c1
        refine lv_iconst (v := nI 0) hx hb dX0_separates_26 (by decide) ?_
        exact x_zretW (WS := xV d h ad) ((a, w, f)) hx hb hr hlocks hS hP dX0_separates_27 (Or.inl rfl) ⟨⟨hok, fun _ _ => rfl⟩, Or.inl ⟨Or.inl (Or.inr (Or.inr rfl)), rfl⟩⟩
      · refine lv_iload_n hx hb dX0_separates_19 rfl (lv_at hl 3 rfl) ?_
        refine x_roS (As := [.int (x)]) (rest := []) ⟨hx, hb, hml, hown, hts⟩ (mX0_badX l D x) (va_cwS 1 hts (lw_S q102 q103 q22 q104) rfl rfl rfl (by decide +kernel) ⟨Nat.le_of_ble_eq_true rfl, Nat.le_of_ble_eq_true rfl⟩) x_P0 (hK.sub [] rfl) hP hS hl rfl rfl (Nat.le_of_ble_eq_true rfl) dX0_separates_20 ⟨Nat.zero_le _, Nat.zero_le _⟩ (fun r_ H locs e_ hP hS => ?_)
        rcases e_ with ⟨e_, hb_n⟩ | ⟨e_, n, hn, ev_⟩
        · subst e_
          refine lv_if_eq (tgt := 28) hx hb dX0_separates_23 (by decide) (fun c => absurd c (by decide)) (fun _ => ?_)
          refine lv_iconst (v := nI 0) hx hb dX0_separates_26 (by decide) ?_
          exact x_zretW (WS := xV d h ad) ((a, w, f)) hx hb hr hlocks hS hP dX0_separates_27 (Or.inl rfl) ⟨⟨hok, fun _ _ => rfl⟩, Or.inl ⟨Or.inr hb_n, rfl⟩⟩
        · subst e_
          subst ev_
          refine lv_if_eq (tgt := 28) hx hb dX0_separates_23 (by decide) (fun _ => ?_) (fun c => absurd rfl c)
          refine lv_aload_n hx hb dX0_separates_28 rfl (lv_at hl 0 rfl) ?_
          refine lv_iload_n hx hb dX0_separates_29 rfl (lv_at hl 3 rfl) ?_
          refine x_wrv (xV d h ad) (As := [.int ((nI n))]) (rest := []) ⟨hx, hb, hml, hown, hts⟩ (mX0_work l D d h ad Fr a w f n (by omega) hok hD) (cwV 1 hts (lw_V q124 q126 qs3 q22 q127) rfl rfl rfl (by decide +kernel) ⟨Nat.le_of_ble_eq_true rfl, Nat.le_of_ble_eq_true rfl⟩) (va_recv hK hP (ci := 0) (q0 := 0) rfl rfl) hK hP hS hl rfl rfl (Nat.le_of_ble_eq_true rfl) dX0_separates_30 ⟨Nat.zero_le _, Nat.zero_le _⟩ (fun u_ H locs hq hP hS => ?_)
          obtain ⟨a1, w1, f1⟩ := u_
          have hP : va_P D vwCl (xW d h ad a1 w1 f1) H := hP
          have hD : va_D Fr (xW d h ad a1 w1 f1) := x_Db hD rfl
          obtain ⟨hf, e1, hW⟩ := hq
          have e1 : w1 = (nI n) := e1
          rw [e1] at hP hD
          have hW : Wk a n (zL (a1 5)) f1.toInt (a1 10) := hW
          have hk1 := XOK_of hg hf hn hW
          have hsp := wk_sep hW hnu hnv
          refine lv_aload_n hx hb dX0_separates_33 rfl (lv_at hl 0 rfl) ?_
          refine va_get (D := D) (ci := 0) (v := .ref (ad 10)) (C := RX0) (T := TX0) (N := 14) hx hb hts in_X0 hown hK hP 0 rfl rfl 10 (by decide) (hts _ q42) (fun _ h9 => h9) rfl dX0_separates_34 ?_
          refine lv_bipush (v := nI 7) hx hb dX0_separates_37 (by decide) ?_
          refine x_ald hx hb hK hP 9 8 rfl rfl (7) rfl (by decide) (by decide) dX0_separates_39 ?_
          refine lv_aload_n hx hb dX0_separates_40 rfl (lv_at hl 0 rfl) ?_
          refine va_get (D := D) (ci := 0) (v := .ref (ad 10)) (C := RX0) (T := TX0) (N := 14) hx hb hts in_X0 hown hK hP 0 rfl rfl 10 (by decide) (hts _ q42) (fun _ h9 => h9) rfl dX0_separates_41 ?_
          refine lv_iload_n hx hb dX0_separates_44 rfl (lv_at hl 1 rfl) ?_
          refine x_ald hx hb hK hP 9 8 rfl rfl (nu) rfl (by omega) (by decide) dX0_separates_45 ?_
          refine lv_ior hx hb dX0_separates_46 ?_
          refine lv_istore (lv' := [(4, .int ((a1 10 (7)) ||| (a1 10 (nu)))), (0, .ref (h)), (1, .int ((nI nu))), (2, .int ((nI nv))), (3, .int ((nI n)))]) hx hb dX0_separates_47 hl (by decide) rfl (fun ls hl => ?_)
          refine lv_iload hx hb dX0_separates_49 (lv_at hl 0 rfl) ?_
          refine lv_iload_n hx hb dX0_separates_51 rfl (lv_at hl 3 rfl) ?_
          refine x_roS (As := [.int ((a1 10 (7)) ||| (a1 10 (nu))), .int ((nI nv))]) (rest := []) ⟨hx, hb, hml, hown, hts⟩ (mX0_in l D (a1 10 7 ||| a1 10 nu) nv (by omega)) (va_cwS 2 hts (lw_S q109 q110 q22 q111) rfl rfl rfl (by decide +kernel) ⟨Nat.le_of_ble_eq_true rfl, Nat.le_of_ble_eq_true rfl⟩) x_P0 (hK.sub [] rfl) hP hS hl rfl rfl (Nat.le_of_ble_eq_true rfl) dX0_separates_52 ⟨Nat.zero_le _, Nat.zero_le _⟩ (fun r1 H locs e2 hP hS => ?_)
          subst e2
          refine lv_if_ne (tgt := 72) hx hb dX0_separates_55 (by decide) (fun c2 => ?_) (fun c2 => ?_)
          · rw [nb0, Bool.not_eq_false] at c2
            refine lv_iconst (v := nI 0) hx hb dX0_separates_72 (by decide) ?_
            exact x_zretW (WS := xV d h ad) ((a1, nI n, f1)) hx hb hr hlocks hS hP dX0_separates_73 (Or.inl rfl) ⟨⟨hk1, hf⟩, Or.inr ⟨nu, nv, n, hnu, hnv, c1, hn, rfl, rfl, rfl, Or.inr ⟨rfl, fun q => by rw [hsp, c2] at q; cases q.1⟩⟩⟩
          · rw [nb0] at c2
            refine lv_iload hx hb dX0_separates_58 (lv_at hl 0 rfl) ?_
            refine lv_bipush (v := nI 8) hx hb dX0_separates_60 (by decide) ?_
            refine x_roS (As := [.int ((a1 10 (7)) ||| (a1 10 (nu))), .int (nI 8)]) (rest := []) ⟨hx, hb, hml, hown, hts⟩ (mX0_in l D (a1 10 7 ||| a1 10 nu) 8 (by omega)) (va_cwS 2 hts (lw_S q109 q110 q22 q111) rfl rfl rfl (by decide +kernel) ⟨Nat.le_of_ble_eq_true rfl, Nat.le_of_ble_eq_true rfl⟩) x_P0 (hK.sub [] rfl) hP hS hl rfl rfl (Nat.le_of_ble_eq_true rfl) dX0_separates_62 ⟨Nat.zero_le _, Nat.zero_le _⟩ (fun r2 H locs e3 hP hS => ?_)
            subst e3
            refine lv_if_ne (tgt := 72) hx hb dX0_separates_65 (by decide) (fun c3 => ?_) (fun c3 => ?_)
            · rw [nb0, Bool.not_eq_false] at c3
              refine lv_iconst (v := nI 0) hx hb dX0_separates_72 (by decide) ?_
              exact x_zretW (WS := xV d h ad) ((a1, nI n, f1)) hx hb hr hlocks hS hP dX0_separates_73 (Or.inl rfl) ⟨⟨hk1, hf⟩, Or.inr ⟨nu, nv, n, hnu, hnv, c1, hn, rfl, rfl, rfl, Or.inr ⟨rfl, fun q => by rw [hsp, c3] at q; cases q.2⟩⟩⟩
            · rw [nb0] at c3
              refine lv_iconst (v := nI 1) hx hb dX0_separates_68 (by decide) ?_
              refine lv_goto (tgt := 73) hx hb dX0_separates_69 (by decide) ?_
              exact x_zretW (WS := xV d h ad) ((a1, nI n, f1)) hx hb hr hlocks hS hP dX0_separates_73 (Or.inr rfl) ⟨⟨hk1, hf⟩, Or.inr ⟨nu, nv, n, hnu, hnv, c1, hn, rfl, rfl, rfl, Or.inl ⟨rfl, hsp.mpr ⟨c2, c3⟩⟩⟩⟩
def WI (F : Nat → Int) (x best : Nat) (most : Int) : Prop := (x = 0 → best = 0 ∧ most = -1) ∧ ∀ y, x = y + 1 → best = (wst F y).1 ∧ most = (wst F y).2
theorem WI_keep {F : Nat → Int} {x best : Nat} {most : Int} (h : WI F x best most) (h0 : 0 ≤ F x) (hle : F x ≤ most) : WI F (x + 1) best most := by
  refine ⟨fun q => absurd q (by omega), fun y hy => ?_⟩
  have : y = x := by omega
  subst this
  rcases Nat.eq_zero_or_pos y with q | q
  · have := h.1 q; omega
  · obtain ⟨z, rfl⟩ : ∃ z, y = z + 1 := ⟨y - 1, by omega⟩
    obtain ⟨a, b⟩ := h.2 z rfl
    show best = (if (wst F z).2 < F (z + 1) then (z + 1, F (z + 1)) else wst F z).1 ∧ most = (if (wst F z).2 < F (z + 1) then (z + 1, F (z + 1)) else wst F z).2
    rw [if_neg (by omega)]
    exact ⟨a, b⟩
theorem WI_take {F : Nat → Int} {x best : Nat} {most : Int} (h : WI F x best most) (hlt : most < F x) : WI F (x + 1) x (F x) := by
  refine ⟨fun q => absurd q (by omega), fun y hy => ?_⟩
  have : y = x := by omega
  subst this
  rcases Nat.eq_zero_or_pos y with q | q
  · subst q; exact ⟨rfl, rfl⟩
  · obtain ⟨z, rfl⟩ : ∃ z, y = z + 1 := ⟨y - 1, by omega⟩
    obtain ⟨a, b⟩ := h.2 z rfl
    show z + 1 = (if (wst F z).2 < F (z + 1) then (z + 1, F (z + 1)) else wst F z).1 ∧ F (z + 1) = (if (wst F z).2 < F (z + 1) then (z + 1, F (z + 1)) else wst F z).2
    rw [if_pos (by omega)]
    exact ⟨rfl, rfl⟩
set_option maxHeartbeats 4000000 in
set_option maxRecDepth 100000 in
theorem mX0_worst (l : Launch) (D : va_G) (d : Nat → ClassId) (h : Nat) (ad : Nat → Nat) (Fr : Nat → Prop) (a : Nat → Nat → Int32) (w f : Int32)  (hok : XOK a w f) (hD : va_D Fr (xW d h ad a w f)) : Met l yX0_worst (ws_ yX0_worst cX0_worst 4 (some .int)) xr3 (x_Pc D (xT d) (xW d h ad a w f) [.ref (h)]) (va_Qi (fun r (u' : xS) => XK a u' ∧ r = nI (wst (lst a) 50).1) (fun u t => va_P D vwCl (xV d h ad u) t.heap) Fr) 0 0 Fr := by
  refine Met.ofW (cc := cX0_worst) (maxL := 4) (ret := (some .int)) (by decide) rfl ?_
  intro p e s m args below meth c s₁ B hml hv
  obtain ⟨rfl, hP, hK⟩ := hv
  have hx := B.exec
  have hb := B.bytes
  have hr := B.returns
  have hlocks := B.notSynchronized
  have hts := atoms_spec (ws := (ws_ yX0_worst cX0_worst 4 (some .int))) B.pre
  have hts : ∀ w ∈ lw_all, w.before _ s = true := fun w h => hts w (List.mem_cons_of_mem _ h)
  have hown : s.vm.findClass RX0 = some m.cls := findClass_of_methodNamed B.named
  have hS : va_S Fr s.heap s.heap [] := va_S.rf
  have hl := lv_entry ([.ref (h)]) (n := 4) (Nat.le_of_ble_eq_true rfl)
  rw [lg_entry_eq]
  generalize (lg_sl ([.ref (h)]) ++ List.replicate (4 - (lg_sl ([.ref (h)])).length) Slot.unset).toArray = ls at hl ⊢
  have hl : lv_has ls 4 [(0, .ref (h))] := hl
  have hP : va_P D vwCl (xW d h ad a w f) s.heap := hP
  have hg := hok.1
  refine lv_iconst (v := nI 0) hx hb dX0_worst_0 (by decide) ?_
  refine lv_istore_n (lv' := [(1, .int (nI 0)), (0, .ref (h))]) hx hb dX0_worst_1 rfl hl (by decide) rfl (fun ls hl => ?_)
  refine lv_iconst (v := -1) hx hb dX0_worst_2 (by decide) ?_
  refine lv_istore_n (lv' := [(2, .int ((-1))), (1, .int (nI 0)), (0, .ref (h))]) hx hb dX0_worst_3 rfl hl (by decide) rfl (fun ls hl => ?_)
  refine lv_iconst (v := nI 0) hx hb dX0_worst_4 (by decide) ?_
  refine lv_istore_n (lv' := [(3, .int (nI 0)), (2, .int ((-1))), (1, .int (nI 0)), (0, .ref (h))]) hx hb dX0_worst_5 rfl hl (by decide) rfl (fun ls hl => ?_)
  refine x_loop (σ := (Nat) × (Nat) × (Int32) × (Nat → Nat → Int32) × (Int32) × (Int32)) 6 4 (fun st => (xW d h ad st.2.2.2.1 st.2.2.2.2.1 st.2.2.2.2.2)) (fun st => [(0, .ref (h)), (1, .int (nI st.2.1)), (2, .int (st.2.2.1)), (3, .int (nI st.1))]) (fun st => st.1 ≤ 51 ∧ XK a (st.2.2.2.1, st.2.2.2.2.1, st.2.2.2.2.2) ∧ WI (lst a) st.1 st.2.1 (st.2.2.1).toInt) (fun st => 51 - st.1) ?_ ((0, 0, (-1 : Int32), a, w, f)) (show 0 ≤ 51 ∧ XK a (a, w, f) ∧ WI (lst a) 0 0 (((-1 : Int32))).toInt from ⟨by omega, ⟨hok, fun _ _ => rfl⟩, fun _ => ⟨rfl, rfl⟩, fun y hy => absurd hy (by omega)⟩) hP hD hS (lv_sub hl [3, 2, 1, 0] rfl)
  intro st hI ih H locs ls hP hD hS hl
  obtain ⟨x, best, most, a1, w1, f1⟩ := st
  have hI : x ≤ 51 ∧ XK a (a1, w1, f1) ∧ WI (lst a) x best (most).toInt := hI
  have hl : lv_has ls 4 [(0, .ref (h)), (1, .int (nI best)), (2, .int (most)), (3, .int (nI x))] := hl
  have hP : va_P D vwCl (xW d h ad a1 w1 f1) H := hP
  have hD : va_D Fr (xW d h ad a1 w1 f1) := hD
  obtain ⟨hx5, ⟨hok1, hf1⟩, hwi⟩ := hI
  have hf1 : ∀ j, j < 5 → a1 j = a j := hf1
  have hok1 : XOK a1 w1 f1 := hok1
  refine lv_iload_n hx hb dX0_worst_6 rfl (lv_at hl 3 rfl) ?_
  refine lv_bipush (v := nI 50) hx hb dX0_worst_7 (by decide) ?_
  refine x_gt hx hb (x) (50) rfl rfl (by omega) (by omega) (tgt := 38) dX0_worst_9 (by decide) (fun c1 => ?_) (fun c1 => ?_)
  · have hx51 : x = 50 + 1 := by omega
    subst hx51
    obtain ⟨q1, q2⟩ := hwi.2 50 rfl
    refine lv_iload_n hx hb dX0_worst_38 rfl (lv_at hl 1 rfl) ?_
    exact x_iretW (WS := xV d h ad) ((a1, w1, f1)) hx hb hr hlocks hS hP dX0_worst_39 ⟨⟨hok1, hf1⟩, by rw [q1]⟩
  · refine lv_aload_n hx hb dX0_worst_12 rfl (lv_at hl 0 rfl) ?_
    refine lv_iload_n hx hb dX0_worst_13 rfl (lv_at hl 3 rfl) ?_
    refine x_wrv (xV d h ad) (As := [.int (nI x)]) (rest := []) ⟨hx, hb, hml, hown, hts⟩ (mX0_work l D d h ad Fr a1 w1 f1 x c1 hok1 hD) (cwV 1 hts (lw_V q124 q126 qs3 q22 q127) rfl rfl rfl (by decide +kernel) ⟨Nat.le_of_ble_eq_true rfl, Nat.le_of_ble_eq_true rfl⟩) (va_recv hK hP (ci := 0) (q0 := 0) rfl rfl) hK hP hS hl rfl rfl (Nat.le_of_ble_eq_true rfl) dX0_worst_14 ⟨Nat.zero_le _, Nat.zero_le _⟩ (fun u_ H locs hq hP hS => ?_)
    obtain ⟨a2, w2, f2⟩ := u_
    have hP : va_P D vwCl (xW d h ad a2 w2 f2) H := hP
    have hD : va_D Fr (xW d h ad a2 w2 f2) := x_Db hD rfl
    obtain ⟨hf2, e1, hW⟩ := hq
    have e1 : w2 = (nI x) := e1
    rw [e1] at hP hD
    have hfa : ∀ j, j < 5 → a2 j = a j := fun j hj => (hf2 j hj).trans (hf1 j hj)
    have hW : Wk a x (zL (a2 5)) f2.toInt (a2 10) := Wk_congr (fun k hk => hf1 k hk) hW
    have hk2 := XOK_of hg hfa (show x < 51 by omega) hW
    have hlow := gr_least hW.1
    have hli := lst_in hg c1
    refine lv_aload_n hx hb dX0_worst_17 rfl (lv_at hl 0 rfl) ?_
    refine va_get (D := D) (ci := 0) (v := .int (f2)) (C := RX0) (T := TX0) (N := 14) hx hb hts in_X0 hown hK hP 0 rfl rfl 7 (by decide) (hts _ q39) (fun _ h9 => h9) rfl dX0_worst_18 ?_
    refine lv_iload_n hx hb dX0_worst_21 rfl (lv_at hl 2 rfl) ?_
    refine lv_icmp_le (tgt := 32) hx hb dX0_worst_22 (by decide) (fun c2 => ?_) (fun c2 => ?_)
    · rw [z_le, hlow] at c2
      refine lv_iinc (v := nI (x + 1)) (lv' := [(3, .int (nI (x + 1))), (0, .ref (h)), (1, .int (nI best)), (2, .int (most))]) hx hb dX0_worst_32 hl (k := 3) rfl (x_inc _) (by decide) rfl (fun ls hl => ?_)
      refine lv_goto (tgt := 6) hx hb dX0_worst_35 (by decide) ?_
      exact ih ((x + 1, best, most, a2, nI x, f2)) (show (x + 1) ≤ 51 ∧ XK a (a2, (nI x), f2) ∧ WI (lst a) (x + 1) best (most).toInt from ⟨by omega, ⟨hk2, hfa⟩, WI_keep hwi hli.1 c2⟩) (by show 51 - (x + 1) < 51 - x; omega) _ _ _ hP hD hS (lv_sub hl [1, 2, 3, 0] rfl)
    · rw [z_le, hlow] at c2
      refine lv_aload_n hx hb dX0_worst_25 rfl (lv_at hl 0 rfl) ?_
      refine va_get (D := D) (ci := 0) (v := .int (f2)) (C := RX0) (T := TX0) (N := 14) hx hb hts in_X0 hown hK hP 0 rfl rfl 7 (by decide) (hts _ q39) (fun _ h9 => h9) rfl dX0_worst_26 ?_
      refine lv_istore_n (lv' := [(2, .int (f2)), (0, .ref (h)), (1, .int (nI best)), (3, .int (nI x))]) hx hb dX0_worst_29 rfl hl (by decide) rfl (fun ls hl => ?_)
      refine lv_iload_n hx hb dX0_worst_30 rfl (lv_at hl 3 rfl) ?_
      refine lv_istore_n (lv' := [(1, .int (nI x)), (2, .int (f2)), (0, .ref (h)), (3, .int (nI x))]) hx hb dX0_worst_31 rfl hl (by decide) rfl (fun ls hl => ?_)
      refine lv_iinc (v := nI (x + 1)) (lv' := [(3, .int (nI (x + 1))), (1, .int (nI x)), (2, .int (f2)), (0, .ref (h))]) hx hb dX0_worst_32 hl (k := 3) rfl (x_inc _) (by decide) rfl (fun ls hl => ?_)
      refine lv_goto (tgt := 6) hx hb dX0_worst_35 (by decide) ?_
      exact ih ((x + 1, x, f2, a2, nI x, f2)) (show (x + 1) ≤ 51 ∧ XK a (a2, (nI x), f2) ∧ WI (lst a) (x + 1) x (f2).toInt from ⟨by omega, ⟨hk2, hfa⟩, by rw [hlow]; exact WI_take hwi (by omega)⟩) (by show 51 - (x + 1) < 51 - x; omega) _ _ _ hP hD hS (lv_sub hl [3, 1, 2, 0] rfl)
theorem nI_beq {a b : Nat} (ha : a < 1000) (hb : b < 1000) : (nI a == nI b) = decide (a = b) := by
  by_cases c : a = b
  · subst c; simp
  · rw [decide_eq_false c]
    exact beq_eq_false_iff_ne.mpr (fun q => c ((nI_eq (by omega) (by omega)).mp q))
/-- what the two words hold -/
def SI (F : Nat → Int32) (x : Nat) (lo hi : Int64) (n : Nat) : Prop := n = nst F x ∧ (∀ z, z < 64 → bl lo z = met F (nI z) x) ∧ (∀ z, z < 64 → bl hi z = met F (nI (64 + z)) x)
theorem SI_lo {F : Nat → Int32} {x n k : Nat} {lo hi : Int64} (h : SI F x lo hi n) (hF : F x = nI k) (hk : k < 64) : (bl lo (k % 64) = true → SI F (x + 1) (lo ||| (lN 1 <<< ((nI k &&& nI 63).toInt64 &&& 63))) hi n) ∧ (bl lo (k % 64) = false → SI F (x + 1) (lo ||| (lN 1 <<< ((nI k &&& nI 63).toInt64 &&& 63))) hi (n + 1)) := by
  obtain ⟨h1, h2, h3⟩ := h
  have hkm : k % 64 = k := by omega
  have e1 : ∀ z, z < 64 → bl (lo ||| (lN 1 <<< ((nI k &&& nI 63).toInt64 &&& 63))) z = met F (nI z) (x + 1) := by
    intro z hz
    show _ = (met F (nI z) x || F x == nI z)
    rw [bl_or, bl_bit (by omega) hz, h2 z hz, hF, nI_beq (by omega) (by omega), hkm]
    congr 1
    exact decide_eq_decide.mpr ⟨fun q => q.symm, fun q => q.symm⟩
  have e2 : ∀ z, z < 64 → bl hi z = met F (nI (64 + z)) (x + 1) := by
    intro z hz
    show _ = (met F (nI (64 + z)) x || F x == nI (64 + z))
    rw [h3 z hz, hF, nI_beq (by omega) (by omega), decide_eq_false (by omega), Bool.or_false]
  have e3 : nst F (x + 1) = nst F x + (if met F (F x) x then 0 else 1) := rfl
  rw [hF, ← h2 k hk] at e3
  rw [hkm]
  constructor
  · intro q
    rw [q] at e3
    exact ⟨by rw [e3, h1]; rfl, e1, e2⟩
  · intro q
    rw [q] at e3
    exact ⟨by rw [e3, h1]; rfl, e1, e2⟩
theorem SI_hi {F : Nat → Int32} {x n k : Nat} {lo hi : Int64} (h : SI F x lo hi n) (hF : F x = nI k) (hk : 64 ≤ k) (hk2 : k < 128) : (bl hi (k % 64) = true → SI F (x + 1) lo (hi ||| (lN 1 <<< ((nI k &&& nI 63).toInt64 &&& 63))) n) ∧ (bl hi (k % 64) = false → SI F (x + 1) lo (hi ||| (lN 1 <<< ((nI k &&& nI 63).toInt64 &&& 63))) (n + 1)) := by
  obtain ⟨h1, h2, h3⟩ := h
  have hkm : k % 64 = k - 64 := by omega
  have e1 : ∀ z, z < 64 → bl (hi ||| (lN 1 <<< ((nI k &&& nI 63).toInt64 &&& 63))) z = met F (nI (64 + z)) (x + 1) := by
    intro z hz
    show _ = (met F (nI (64 + z)) x || F x == nI (64 + z))
    rw [bl_or, bl_bit hk2 hz, h3 z hz, hF, nI_beq (by omega) (by omega), hkm]
    congr 1
    exact decide_eq_decide.mpr ⟨fun q => by omega, fun q => by omega⟩
  have e2 : ∀ z, z < 64 → bl lo z = met F (nI z) (x + 1) := by
    intro z hz
    show _ = (met F (nI z) x || F x == nI z)
    rw [h2 z hz, hF, nI_beq (by omega) (by omega), decide_eq_false (by omega), Bool.or_false]
  have e3 : nst F (x + 1) = nst F x + (if met F (F x) x then 0 else 1) := rfl
  rw [hF, show k = 64 + (k - 64) by omega, ← h3 (k - 64) (by omega)] at e3
  rw [hkm]
  constructor
  · intro q
    rw [q] at e3
    exact ⟨by rw [e3, h1]; rfl, e2, e1⟩
  · intro q
    rw [q] at e3
    exact ⟨by rw [e3, h1]; rfl, e2, e1⟩
set_option maxHeartbeats 4000000 in
set_option maxRecDepth 100000 in
theorem mX0_stages (l : Launch) (D : va_G) (d : Nat → ClassId) (h : Nat) (ad : Nat → Nat) (Fr : Nat → Prop) (a : Nat → Nat → Int32) (w f : Int32)  (hok : XOK a w f) (hD : va_D Fr (xW d h ad a w f)) : Met l yX0_stages (ws_ yX0_stages cX0_stages 11 (some .int)) xr3 (x_Pc D (xT d) (xW d h ad a w f) [.ref (h)]) (va_Qi (fun r (u' : xS) => XK a u' ∧ r = nI (nst (alw a) 51)) (fun u t => va_P D vwCl (xV d h ad u) t.heap) Fr) 0 0 Fr := by
  refine Met.ofW (cc := cX0_stages) (maxL := 11) (ret := (some .int)) (by decide) rfl ?_
  intro p e s m args below meth c s₁ B hml hv
  obtain ⟨rfl, hP, hK⟩ := hv
  have hx := B.exec
  have hb := B.bytes
  have hr := B.returns
  have hlocks := B.notSynchronized
  have hts := atoms_spec (ws := (ws_ yX0_stages cX0_stages 11 (some .int))) B.pre
  have hts : ∀ w ∈ lw_all, w.before _ s = true := fun w h => hts w (List.mem_cons_of_mem _ h)
  have hown : s.vm.findClass RX0 = some m.cls := findClass_of_methodNamed B.named
  have hS : va_S Fr s.heap s.heap [] := va_S.rf
  have hl := lv_entry ([.ref (h)]) (n := 11) (Nat.le_of_ble_eq_true rfl)
  rw [lg_entry_eq]
  generalize (lg_sl ([.ref (h)]) ++ List.replicate (11 - (lg_sl ([.ref (h)])).length) Slot.unset).toArray = ls at hl ⊢
  have hl : lv_has ls 11 [(0, .ref (h))] := hl
  have hP : va_P D vwCl (xW d h ad a w f) s.heap := hP
  have hg := hok.1
  refine lv_lconst (v := lN 0) hx hb dX0_stages_0 (by decide) ?_
  refine lv_lstore_n (lv' := [(1, .long (lN 0)), (0, .ref (h))]) hx hb dX0_stages_1 rfl hl (by decide) rfl (fun ls hl => ?_)
  refine lv_lconst (v := lN 0) hx hb dX0_stages_2 (by decide) ?_
  refine lv_lstore_n (lv' := [(3, .long (lN 0)), (1, .long (lN 0)), (0, .ref (h))]) hx hb dX0_stages_3 rfl hl (by decide) rfl (fun ls hl => ?_)
  refine lv_iconst (v := nI 0) hx hb dX0_stages_4 (by decide) ?_
  refine lv_istore (lv' := [(5, .int (nI 0)), (3, .long (lN 0)), (1, .long (lN 0)), (0, .ref (h))]) hx hb dX0_stages_5 hl (by decide) rfl (fun ls hl => ?_)
  refine lv_iconst (v := nI 0) hx hb dX0_stages_7 (by decide) ?_
  refine lv_istore (lv' := [(6, .int (nI 0)), (5, .int (nI 0)), (3, .long (lN 0)), (1, .long (lN 0)), (0, .ref (h))]) hx hb dX0_stages_8 hl (by decide) rfl (fun ls hl => ?_)
  refine x_loop (σ := (Nat) × (Nat) × (Int64) × (Int64) × (Nat → Nat → Int32) × (Int32) × (Int32)) 10 11 (fun st => (xW d h ad st.2.2.2.2.1 st.2.2.2.2.2.1 st.2.2.2.2.2.2)) (fun st => [(0, .ref (h)), (1, .long (st.2.2.1)), (3, .long (st.2.2.2.1)), (5, .int (nI st.2.1)), (6, .int (nI st.1))]) (fun st => st.1 ≤ 51 ∧ XK a (st.2.2.2.2.1, st.2.2.2.2.2.1, st.2.2.2.2.2.2) ∧ SI (alw a) st.1 st.2.2.1 st.2.2.2.1 st.2.1) (fun st => 51 - st.1) ?_ ((0, 0, lN 0, lN 0, a, w, f)) (show 0 ≤ 51 ∧ XK a (a, w, f) ∧ SI (alw a) 0 (lN 0) (lN 0) 0 from ⟨by omega, ⟨hok, fun _ _ => rfl⟩, rfl, fun z hz => bl_0 z, fun z hz => bl_0 z⟩) hP hD hS (lv_sub hl [4, 3, 2, 1, 0] rfl)
  intro st hI ih H locs ls hP hD hS hl
  obtain ⟨x, n, lo, hi, a1, w1, f1⟩ := st
  have hI : x ≤ 51 ∧ XK a (a1, w1, f1) ∧ SI (alw a) x lo hi n := hI
  have hl : lv_has ls 11 [(0, .ref (h)), (1, .long (lo)), (3, .long (hi)), (5, .int (nI n)), (6, .int (nI x))] := hl
  have hP : va_P D vwCl (xW d h ad a1 w1 f1) H := hP
  have hD : va_D Fr (xW d h ad a1 w1 f1) := hD
  obtain ⟨hx5, ⟨hok1, hf1⟩, hsi⟩ := hI
  have hf1 : ∀ j, j < 5 → a1 j = a j := hf1
  have hok1 : XOK a1 w1 f1 := hok1
  refine lv_iload hx hb dX0_stages_10 (lv_at hl 4 rfl) ?_
  refine lv_bipush (v := nI 50) hx hb dX0_stages_12 (by decide) ?_
  refine x_gt hx hb (x) (50) rfl rfl (by omega) (by omega) (tgt := 112) dX0_stages_14 (by decide) (fun c1 => ?_) (fun c1 => ?_)
  · have hx51 : x = 51 := by omega
    subst hx51
    refine lv_iload hx hb dX0_stages_112 (lv_at hl 3 rfl) ?_
    exact x_iretW (WS := xV d h ad) ((a1, w1, f1)) hx hb hr hlocks hS hP dX0_stages_114 ⟨⟨hok1, hf1⟩, by rw [hsi.1]⟩
  · refine lv_aload_n hx hb dX0_stages_17 rfl (lv_at hl 0 rfl) ?_
    refine lv_iload hx hb dX0_stages_18 (lv_at hl 4 rfl) ?_
    refine x_wrv (xV d h ad) (As := [.int (nI x)]) (rest := []) ⟨hx, hb, hml, hown, hts⟩ (mX0_work l D d h ad Fr a1 w1 f1 x c1 hok1 hD) (cwV 1 hts (lw_V q124 q126 qs3 q22 q127) rfl rfl rfl (by decide +kernel) ⟨Nat.le_of_ble_eq_true rfl, Nat.le_of_ble_eq_true rfl⟩) (va_recv hK hP (ci := 0) (q0 := 0) rfl rfl) hK hP hS hl rfl rfl (Nat.le_of_ble_eq_true rfl) dX0_stages_20 ⟨Nat.zero_le _, Nat.zero_le _⟩ (fun u_ H locs hq hP hS => ?_)
    obtain ⟨a2, w2, f2⟩ := u_
    have hP : va_P D vwCl (xW d h ad a2 w2 f2) H := hP
    have hD : va_D Fr (xW d h ad a2 w2 f2) := x_Db hD rfl
    obtain ⟨hf2, e1, hW⟩ := hq
    have e1 : w2 = (nI x) := e1
    rw [e1] at hP hD
    have hfa : ∀ j, j < 5 → a2 j = a j := fun j hj => (hf2 j hj).trans (hf1 j hj)
    have hW : Wk a x (zL (a2 5)) f2.toInt (a2 10) := Wk_congr (fun k hk => hf1 k hk) hW
    have hk2 := XOK_of hg hfa (show x < 51 by omega) hW
    obtain ⟨k, hk, ek⟩ := alw_nI a x
    refine lv_aload_n hx hb dX0_stages_23 rfl (lv_at hl 0 rfl) ?_
    refine x_roV (As := []) (rest := []) ⟨hx, hb, hml, hown, hts⟩ (mX0_smallestSide l D d h ad a2 (nI x) f2) (cwV 0 hts (lw_V q157 q159 qs10 q22 q160) rfl rfl rfl (by decide +kernel) ⟨Nat.le_of_ble_eq_true rfl, Nat.le_of_ble_eq_true rfl⟩) (va_recv hK hP (ci := 0) (q0 := 0) rfl rfl) hP hK hP hS hl rfl rfl (Nat.le_of_ble_eq_true rfl) dX0_stages_24 ⟨Nat.zero_le _, Nat.zero_le _⟩ (fun r1 H locs e3 hP hS => ?_)
    refine x_top (y := nI k) (by rw [e3, wk_alw hW]; exact ek) ?_
    refine lv_istore (lv' := [(7, .int (nI k)), (0, .ref (h)), (1, .long (lo)), (3, .long (hi)), (5, .int (nI n)), (6, .int (nI x))]) hx hb dX0_stages_27 hl (by decide) rfl (fun ls hl => ?_)
    refine lv_lconst (v := lN 1) hx hb dX0_stages_29 (by decide) ?_
    refine lv_iload hx hb dX0_stages_30 (lv_at hl 0 rfl) ?_
    refine lv_bipush (v := nI 63) hx hb dX0_stages_32 (by decide) ?_
    refine lv_iand hx hb dX0_stages_34 ?_
    refine lv_lshl (v := lN 1 <<< ((nI k &&& nI 63).toInt64 &&& 63)) hx hb dX0_stages_35 rfl ?_
    refine lv_lstore (lv' := [(8, .long (lN 1 <<< ((nI k &&& nI 63).toInt64 &&& 63))), (7, .int (nI k)), (0, .ref (h)), (1, .long (lo)), (3, .long (hi)), (5, .int (nI n)), (6, .int (nI x))]) hx hb dX0_stages_36 hl (by decide) rfl (fun ls hl => ?_)
    refine lv_iload hx hb dX0_stages_38 (lv_at hl 1 rfl) ?_
    refine lv_bipush (v := nI 64) hx hb dX0_stages_40 (by decide) ?_
    refine x_ge hx hb (k) (64) rfl rfl (by omega) (by omega) (tgt := 62) dX0_stages_42 (by decide) (fun c2 => ?_) (fun c2 => ?_)
    · refine lv_lload_n hx hb dX0_stages_62 rfl (lv_at hl 4 rfl) ?_
      refine lv_lload hx hb dX0_stages_63 (lv_at hl 0 rfl) ?_
      refine lv_land hx hb dX0_stages_65 ?_
      refine lv_lconst (v := lN 0) hx hb dX0_stages_66 (by decide) ?_
      refine W.lcmp hx hb dX0_stages_67 ?_
      refine lv_if_eq (tgt := 75) hx hb dX0_stages_68 (by decide) (fun c3 => ?_) (fun c3 => ?_)
      · rw [lg_cmp_eq, bl_test hk] at c3
        refine lv_iconst (v := nI 0) hx hb dX0_stages_75 (by decide) ?_
        refine lv_istore (lv' := [(10, .int (nI 0)), (8, .long (lN 1 <<< ((nI k &&& nI 63).toInt64 &&& 63))), (7, .int (nI k)), (0, .ref (h)), (1, .long (lo)), (3, .long (hi)), (5, .int (nI n)), (6, .int (nI x))]) hx hb dX0_stages_76 hl (by decide) rfl (fun ls hl => ?_)
        refine lv_iload hx hb dX0_stages_78 (lv_at hl 0 rfl) ?_
        refine lv_if_ne (tgt := 86) hx hb dX0_stages_80 (by decide) (fun c => absurd rfl c) (fun _ => ?_)
        refine lv_iinc (v := nI (n + 1)) (lv' := [(5, .int (nI (n + 1))), (10, .int (nI 0)), (8, .long (lN 1 <<< ((nI k &&& nI 63).toInt64 &&& 63))), (7, .int (nI k)), (0, .ref (h)), (1, .long (lo)), (3, .long (hi)), (6, .int (nI x))]) hx hb dX0_stages_83 hl (k := 6) rfl (x_inc _) (by decide) rfl (fun ls hl => ?_)
        refine lv_iload hx hb dX0_stages_86 (lv_at hl 3 rfl) ?_
        refine lv_bipush (v := nI 64) hx hb dX0_stages_88 (by decide) ?_
        refine x_ge hx hb (k) (64) rfl rfl (by omega) (by omega) (tgt := 101) dX0_stages_90 (by decide) (fun c4 => ?_) (fun c4 => ?_)
        · refine lv_lload_n hx hb dX0_stages_101 rfl (lv_at hl 6 rfl) ?_
          refine lv_lload hx hb dX0_stages_102 (lv_at hl 2 rfl) ?_
          refine lv_lor hx hb dX0_stages_104 ?_
          refine lv_lstore_n (lv' := [(3, .long ((hi) ||| (lN 1 <<< ((nI k &&& nI 63).toInt64 &&& 63)))), (5, .int (nI (n + 1))), (10, .int (nI 0)), (8, .long (lN 1 <<< ((nI k &&& nI 63).toInt64 &&& 63))), (7, .int (nI k)), (0, .ref (h)), (1, .long (lo)), (6, .int (nI x))]) hx hb dX0_stages_105 rfl hl (by decide) rfl (fun ls hl => ?_)
          refine lv_iinc (v := nI (x + 1)) (lv' := [(6, .int (nI (x + 1))), (3, .long ((hi) ||| (lN 1 <<< ((nI k &&& nI 63).toInt64 &&& 63)))), (5, .int (nI (n + 1))), (10, .int (nI 0)), (8, .long (lN 1 <<< ((nI k &&& nI 63).toInt64 &&& 63))), (7, .int (nI k)), (0, .ref (h)), (1, .long (lo))]) hx hb dX0_stages_106 hl (k := 7) rfl (x_inc _) (by decide) rfl (fun ls hl => ?_)
          refine lv_goto (tgt := 10) hx hb dX0_stages_109 (by decide) ?_
          exact ih ((x + 1, n + 1, lo, hi ||| (lN 1 <<< ((nI k &&& nI 63).toInt64 &&& 63)), a2, nI x, f2)) (show (x + 1) ≤ 51 ∧ XK a (a2, (nI x), f2) ∧ SI (alw a) (x + 1) lo (hi ||| (lN 1 <<< ((nI k &&& nI 63).toInt64 &&& 63))) (n + 1) from ⟨by omega, ⟨hk2, hfa⟩, (SI_hi hsi ek c2 hk).2 c3⟩) (by show 51 - (x + 1) < 51 - x; omega) _ _ _ hP hD hS (lv_sub hl [6, 7, 1, 2, 0] rfl)
        · exact absurd c4 (by omega)
      · rw [lg_cmp_eq, bl_test hk] at c3
        rw [Bool.not_eq_false] at c3
        refine lv_iconst (v := nI 1) hx hb dX0_stages_71 (by decide) ?_
        refine lv_goto (tgt := 76) hx hb dX0_stages_72 (by decide) ?_
        refine lv_istore (lv' := [(10, .int (nI 1)), (8, .long (lN 1 <<< ((nI k &&& nI 63).toInt64 &&& 63))), (7, .int (nI k)), (0, .ref (h)), (1, .long (lo)), (3, .long (hi)), (5, .int (nI n)), (6, .int (nI x))]) hx hb dX0_stages_76 hl (by decide) rfl (fun ls hl => ?_)
        refine lv_iload hx hb dX0_stages_78 (lv_at hl 0 rfl) ?_
        refine lv_if_ne (tgt := 86) hx hb dX0_stages_80 (by decide) (fun _ => ?_) (fun c => absurd c (by decide))
        refine lv_iload hx hb dX0_stages_86 (lv_at hl 2 rfl) ?_
        refine lv_bipush (v := nI 64) hx hb dX0_stages_88 (by decide) ?_
        refine x_ge hx hb (k) (64) rfl rfl (by omega) (by omega) (tgt := 101) dX0_stages_90 (by decide) (fun c4 => ?_) (fun c4 => ?_)
        · refine lv_lload_n hx hb dX0_stages_101 rfl (lv_at hl 5 rfl) ?_
          refine lv_lload hx hb dX0_stages_102 (lv_at hl 1 rfl) ?_
          refine lv_lor hx hb dX0_stages_104 ?_
          refine lv_lstore_n (lv' := [(3, .long ((hi) ||| (lN 1 <<< ((nI k &&& nI 63).toInt64 &&& 63)))), (10, .int (nI 1)), (8, .long (lN 1 <<< ((nI k &&& nI 63).toInt64 &&& 63))), (7, .int (nI k)), (0, .ref (h)), (1, .long (lo)), (5, .int (nI n)), (6, .int (nI x))]) hx hb dX0_stages_105 rfl hl (by decide) rfl (fun ls hl => ?_)
          refine lv_iinc (v := nI (x + 1)) (lv' := [(6, .int (nI (x + 1))), (3, .long ((hi) ||| (lN 1 <<< ((nI k &&& nI 63).toInt64 &&& 63)))), (10, .int (nI 1)), (8, .long (lN 1 <<< ((nI k &&& nI 63).toInt64 &&& 63))), (7, .int (nI k)), (0, .ref (h)), (1, .long (lo)), (5, .int (nI n))]) hx hb dX0_stages_106 hl (k := 7) rfl (x_inc _) (by decide) rfl (fun ls hl => ?_)
          refine lv_goto (tgt := 10) hx hb dX0_stages_109 (by decide) ?_
          exact ih ((x + 1, n, lo, hi ||| (lN 1 <<< ((nI k &&& nI 63).toInt64 &&& 63)), a2, nI x, f2)) (show (x + 1) ≤ 51 ∧ XK a (a2, (nI x), f2) ∧ SI (alw a) (x + 1) lo (hi ||| (lN 1 <<< ((nI k &&& nI 63).toInt64 &&& 63))) n from ⟨by omega, ⟨hk2, hfa⟩, (SI_hi hsi ek c2 hk).1 c3⟩) (by show 51 - (x + 1) < 51 - x; omega) _ _ _ hP hD hS (lv_sub hl [5, 6, 1, 7, 0] rfl)
        · exact absurd c4 (by omega)
    · refine lv_lload_n hx hb dX0_stages_45 rfl (lv_at hl 3 rfl) ?_
      refine lv_lload hx hb dX0_stages_46 (lv_at hl 0 rfl) ?_
      refine lv_land hx hb dX0_stages_48 ?_
      refine lv_lconst (v := lN 0) hx hb dX0_stages_49 (by decide) ?_
      refine W.lcmp hx hb dX0_stages_50 ?_
      refine lv_if_eq (tgt := 58) hx hb dX0_stages_51 (by decide) (fun c3 => ?_) (fun c3 => ?_)
      · rw [lg_cmp_eq, bl_test hk] at c3
        refine lv_iconst (v := nI 0) hx hb dX0_stages_58 (by decide) ?_
        refine lv_goto (tgt := 76) hx hb dX0_stages_59 (by decide) ?_
        refine lv_istore (lv' := [(10, .int (nI 0)), (8, .long (lN 1 <<< ((nI k &&& nI 63).toInt64 &&& 63))), (7, .int (nI k)), (0, .ref (h)), (1, .long (lo)), (3, .long (hi)), (5, .int (nI n)), (6, .int (nI x))]) hx hb dX0_stages_76 hl (by decide) rfl (fun ls hl => ?_)
        refine lv_iload hx hb dX0_stages_78 (lv_at hl 0 rfl) ?_
        refine lv_if_ne (tgt := 86) hx hb dX0_stages_80 (by decide) (fun c => absurd rfl c) (fun _ => ?_)
        refine lv_iinc (v := nI (n + 1)) (lv' := [(5, .int (nI (n + 1))), (10, .int (nI 0)), (8, .long (lN 1 <<< ((nI k &&& nI 63).toInt64 &&& 63))), (7, .int (nI k)), (0, .ref (h)), (1, .long (lo)), (3, .long (hi)), (6, .int (nI x))]) hx hb dX0_stages_83 hl (k := 6) rfl (x_inc _) (by decide) rfl (fun ls hl => ?_)
        refine lv_iload hx hb dX0_stages_86 (lv_at hl 3 rfl) ?_
        refine lv_bipush (v := nI 64) hx hb dX0_stages_88 (by decide) ?_
        refine x_ge hx hb (k) (64) rfl rfl (by omega) (by omega) (tgt := 101) dX0_stages_90 (by decide) (fun c4 => ?_) (fun c4 => ?_)
        · exact absurd c4 (by omega)
        · refine lv_lload_n hx hb dX0_stages_93 rfl (lv_at hl 5 rfl) ?_
          refine lv_lload hx hb dX0_stages_94 (lv_at hl 2 rfl) ?_
          refine lv_lor hx hb dX0_stages_96 ?_
          refine lv_lstore_n (lv' := [(1, .long ((lo) ||| (lN 1 <<< ((nI k &&& nI 63).toInt64 &&& 63)))), (5, .int (nI (n + 1))), (10, .int (nI 0)), (8, .long (lN 1 <<< ((nI k &&& nI 63).toInt64 &&& 63))), (7, .int (nI k)), (0, .ref (h)), (3, .long (hi)), (6, .int (nI x))]) hx hb dX0_stages_97 rfl hl (by decide) rfl (fun ls hl => ?_)
          refine lv_goto (tgt := 106) hx hb dX0_stages_98 (by decide) ?_
          refine lv_iinc (v := nI (x + 1)) (lv' := [(6, .int (nI (x + 1))), (1, .long ((lo) ||| (lN 1 <<< ((nI k &&& nI 63).toInt64 &&& 63)))), (5, .int (nI (n + 1))), (10, .int (nI 0)), (8, .long (lN 1 <<< ((nI k &&& nI 63).toInt64 &&& 63))), (7, .int (nI k)), (0, .ref (h)), (3, .long (hi))]) hx hb dX0_stages_106 hl (k := 7) rfl (x_inc _) (by decide) rfl (fun ls hl => ?_)
          refine lv_goto (tgt := 10) hx hb dX0_stages_109 (by decide) ?_
          exact ih ((x + 1, n + 1, lo ||| (lN 1 <<< ((nI k &&& nI 63).toInt64 &&& 63)), hi, a2, nI x, f2)) (show (x + 1) ≤ 51 ∧ XK a (a2, (nI x), f2) ∧ SI (alw a) (x + 1) (lo ||| (lN 1 <<< ((nI k &&& nI 63).toInt64 &&& 63))) hi (n + 1) from ⟨by omega, ⟨hk2, hfa⟩, (SI_lo hsi ek c2).2 c3⟩) (by show 51 - (x + 1) < 51 - x; omega) _ _ _ hP hD hS (lv_sub hl [6, 1, 7, 2, 0] rfl)
      · rw [lg_cmp_eq, bl_test hk] at c3
        rw [Bool.not_eq_false] at c3
        refine lv_iconst (v := nI 1) hx hb dX0_stages_54 (by decide) ?_
        refine lv_goto (tgt := 76) hx hb dX0_stages_55 (by decide) ?_
        refine lv_istore (lv' := [(10, .int (nI 1)), (8, .long (lN 1 <<< ((nI k &&& nI 63).toInt64 &&& 63))), (7, .int (nI k)), (0, .ref (h)), (1, .long (lo)), (3, .long (hi)), (5, .int (nI n)), (6, .int (nI x))]) hx hb dX0_stages_76 hl (by decide) rfl (fun ls hl => ?_)
        refine lv_iload hx hb dX0_stages_78 (lv_at hl 0 rfl) ?_
        refine lv_if_ne (tgt := 86) hx hb dX0_stages_80 (by decide) (fun _ => ?_) (fun c => absurd c (by decide))
        refine lv_iload hx hb dX0_stages_86 (lv_at hl 2 rfl) ?_
        refine lv_bipush (v := nI 64) hx hb dX0_stages_88 (by decide) ?_
        refine x_ge hx hb (k) (64) rfl rfl (by omega) (by omega) (tgt := 101) dX0_stages_90 (by decide) (fun c4 => ?_) (fun c4 => ?_)
        · exact absurd c4 (by omega)
        · refine lv_lload_n hx hb dX0_stages_93 rfl (lv_at hl 4 rfl) ?_
          refine lv_lload hx hb dX0_stages_94 (lv_at hl 1 rfl) ?_
          refine lv_lor hx hb dX0_stages_96 ?_
          refine lv_lstore_n (lv' := [(1, .long ((lo) ||| (lN 1 <<< ((nI k &&& nI 63).toInt64 &&& 63)))), (10, .int (nI 1)), (8, .long (lN 1 <<< ((nI k &&& nI 63).toInt64 &&& 63))), (7, .int (nI k)), (0, .ref (h)), (3, .long (hi)), (5, .int (nI n)), (6, .int (nI x))]) hx hb dX0_stages_97 rfl hl (by decide) rfl (fun ls hl => ?_)
          refine lv_goto (tgt := 106) hx hb dX0_stages_98 (by decide) ?_
          refine lv_iinc (v := nI (x + 1)) (lv' := [(6, .int (nI (x + 1))), (1, .long ((lo) ||| (lN 1 <<< ((nI k &&& nI 63).toInt64 &&& 63)))), (10, .int (nI 1)), (8, .long (lN 1 <<< ((nI k &&& nI 63).toInt64 &&& 63))), (7, .int (nI k)), (0, .ref (h)), (3, .long (hi)), (5, .int (nI n))]) hx hb dX0_stages_106 hl (k := 7) rfl (x_inc _) (by decide) rfl (fun ls hl => ?_)
          refine lv_goto (tgt := 10) hx hb dX0_stages_109 (by decide) ?_
          exact ih ((x + 1, n, lo ||| (lN 1 <<< ((nI k &&& nI 63).toInt64 &&& 63)), hi, a2, nI x, f2)) (show (x + 1) ≤ 51 ∧ XK a (a2, (nI x), f2) ∧ SI (alw a) (x + 1) (lo ||| (lN 1 <<< ((nI k &&& nI 63).toInt64 &&& 63))) hi n from ⟨by omega, ⟨hk2, hfa⟩, (SI_lo hsi ek c2).1 c3⟩) (by show 51 - (x + 1) < 51 - x; omega) _ _ _ hP hD hS (lv_sub hl [5, 1, 6, 7, 0] rfl)
end
section
/-! counting closed sides: branch, countClosed, ties -/
theorem cF_r {re : Nat → Int32} {t r r' : Int32} (h : ∀ w, w < 7 → (bt r w = true ↔ bt r' w = true)) : cF re t r = cF re t r' := by
  unfold cF
  refine cp_congr 128 (fun s _ => ?_)
  constructor
  · intro ⟨h1, h2, h3⟩
    exact ⟨h1, h2, fun v hv hb => h3 v hv ((h v hv).mpr hb)⟩
  · intro ⟨h1, h2, h3⟩
    exact ⟨h1, h2, fun v hv hb => h3 v hv ((h v hv).mp hb)⟩
/-- the first node that isn't settled -/
def FU (z : Int32) (v : Nat) : Prop := v < 7 ∧ (∀ u, u < v → bt z u = true) ∧ bt z v = false
theorem FU_uniq {z : Int32} {v v' : Nat} (h : FU z v) (h' : FU z v') : v = v' := by
  rcases Nat.lt_trichotomy v v' with q | q | q
  · have := h'.2.1 v q; rw [h.2.2] at this; cases this
  · exact q
  · have := h.2.1 v' q; rw [h'.2.2] at this; cases this
/-- a level: sides still to be counted, steps still to be made -/
def FRM (re : Nat → Int32) (t r st : Int32) (c p : Nat) : Prop := FI re t r ∧
  ((st = nI 0 ∧ c = cF re t r ∧ p + 3 = 4 * 2 ^ us t r) ∨
   (st = nI 1 ∧ p + 1 = 2 * 2 ^ us t r ∧ ∃ v r', FU (t ||| r) v ∧ (∀ w, w < 7 → (bt r' w = true ↔ bt r w = true ∨ bt (re w) v = true)) ∧ c = cF re t r') ∨
   (st = nI 2 ∧ c = 0 ∧ p = 1 ∧ ∃ v, FU (t ||| r) v))
def STK (re t r st : Nat → Int32) : Nat → Nat → Nat → Prop
  | 0, c, p => c = 0 ∧ p = 0
  | j + 1, c, p => ∃ c0 p0 c1 p1, STK re t r st j c0 p0 ∧ c = c0 + c1 ∧ p = p0 + p1 ∧ us (t j) (r j) + j ≤ 7 ∧ FRM re (t j) (r j) (st j) c1 p1
theorem STK_congr {re t r st t' r' st' : Nat → Int32} : ∀ n, (∀ j, j < n → t' j = t j ∧ r' j = r j ∧ st' j = st j) → ∀ c p, STK re t r st n c p → STK re t' r' st' n c p
  | 0, _, _, _, h => h
  | n + 1, he, c, p, h => by
    obtain ⟨c0, p0, c1, p1, h0, h1, h2, h3, h4⟩ := h
    obtain ⟨e1, e2, e3⟩ := he n (by omega)
    exact ⟨c0, p0, c1, p1, STK_congr n (fun j hj => he j (by omega)) c0 p0 h0, h1, h2, by rw [e1, e2]; exact h3, by rw [e1, e2, e3]; exact h4⟩
theorem p2 (n : Nat) : 1 ≤ 2 ^ n := Nat.one_le_two_pow
theorem us_pos {t r : Int32} {v : Nat} (h : FU (t ||| r) v) : 1 ≤ us t r := by
  rcases Nat.eq_zero_or_pos (us t r) with q | q
  · have := us_zero q v h.1; rw [h.2.2] at this; cases this
  · exact q
theorem us_7 (t r : Int32) : us t r ≤ 7 := cnt_le _ 7
theorem FRM_st {re : Nat → Int32} {t r st : Int32} {c p : Nat} (h : FRM re t r st c p) : st = nI 0 ∨ st = nI 1 ∨ st = nI 2 := by
  rcases h.2 with q | q | q
  · exact Or.inl q.1
  · exact Or.inr (Or.inl q.1)
  · exact Or.inr (Or.inr q.1)
theorem STK_pos {re t r st : Nat → Int32} {k c p : Nat} (h : STK re t r st (k + 1) c p) : 1 ≤ p ∧ k ≤ 7 := by
  obtain ⟨c0, p0, c1, p1, h0, h1, h2, h3, h4⟩ := h
  have g0 := p2 (us (t k) (r k))
  rcases h4.2 with q | q | q
  · omega
  · omega
  · omega
/-- all is settled: one side -/
theorem STK_done {re t r st : Nat → Int32} {k c p : Nat} (h : STK re t r st (k + 1) c p) (ha : ∀ v, v < 7 → bt (t k ||| r k) v = true) : ∃ c0 p0, STK re t r st k c0 p0 ∧ c = c0 + 1 ∧ p0 + 1 ≤ p := by
  obtain ⟨c0, p0, c1, p1, h0, h1, h2, h3, h4⟩ := h
  refine ⟨c0, p0, h0, ?_, ?_⟩
  · rcases h4.2 with ⟨_, q, _⟩ | ⟨_, _, v, _, q, _⟩ | ⟨_, _, _, v, q⟩
    · rw [h1, q, cF_all h4.1 ha]
    · have := ha v q.1; rw [q.2.2] at this; cases this
    · have := ha v q.1; rw [q.2.2] at this; cases this
  · have g0 := p2 (us (t k) (r k))
    rcases h4.2 with q | q | q
    · omega
    · omega
    · omega
theorem STK_pop {re t r st : Nat → Int32} {k c p : Nat} (h : STK re t r st (k + 1) c p) (hs : st k = nI 2) : ∃ p0, STK re t r st k c p0 ∧ p0 + 1 ≤ p := by
  obtain ⟨c0, p0, c1, p1, h0, h1, h2, h3, h4⟩ := h
  rw [hs] at h4
  rcases h4.2 with ⟨q, _⟩ | ⟨q, _⟩ | ⟨_, q1, q2, _⟩
  · exact absurd q (by decide)
  · exact absurd q (by decide)
  · exact ⟨p0, by rw [h1, q1]; exact h0, by omega⟩
theorem us_step {t r t' r' : Int32} {v : Nat} (hv : FU (t ||| r) v) (h1 : bt (t' ||| r') v = true) (hm : ∀ w, w < 7 → bt (t ||| r) w = true → bt (t' ||| r') w = true) : us t' r' + 1 ≤ us t r ∧ 2 * 2 ^ us t' r' ≤ 2 ^ us t r := by
  have h2 := us_less (t' := t') (r' := r') hv.1 hv.2.2 h1 hm
  refine ⟨h2, ?_⟩
  have h3 : 2 ^ (us t' r' + 1) ≤ 2 ^ us t r := Nat.pow_le_pow_right (by omega) h2
  rw [Nat.pow_succ] at h3
  omega
theorem bt_nor {x y : Int32} {v : Nat} (h : bt (x ||| y) v = false) : bt x v = false ∧ bt y v = false := by
  rw [b_or, Bool.or_eq_false_iff] at h
  exact h
/-- a node is taken -/
theorem STK_take {re t r st t' r' st' : Nat → Int32} (hR : RT re) {k c p v : Nat} (h : STK re t r st (k + 1) c p) (hv : FU (t k ||| r k) v) (hs : st k = nI 0) (he : ∀ j, j < k + 1 → t' j = t j ∧ r' j = r j) (hst : ∀ j, j < k → st' j = st j) (hs1 : st' k = nI 1) (hs2 : st' (k + 1) = nI 0) (hr : r' (k + 1) = r k) (ht : ∀ w, w < 7 → (bt (t' (k + 1)) w = true ↔ bt (t k) w = true ∨ bt (re v) w = true)) : ∃ p1, STK re t' r' st' (k + 2) c p1 ∧ p1 + 1 ≤ p := by
  obtain ⟨c0, p0, c1, p1, h0, h1, h2, h3, h4⟩ := h
  obtain ⟨hf, h4⟩ := h4
  rw [hs] at h4
  obtain ⟨e1, e2⟩ := he k (by omega)
  obtain ⟨hv7, hvt, hvr⟩ : v < 7 ∧ bt (t k) v = false ∧ bt (r k) v = false := ⟨hv.1, (bt_nor hv.2.2).1, (bt_nor hv.2.2).2⟩
  have hfc := FI_take hR hv7 hf hvr ht
  have hu := us_step (t' := t' (k + 1)) (r' := r k) hv (by rw [b_or, (ht v hv7).mpr (Or.inr (hR.1 v (by omega)))]; rfl) (fun w hw q => by
    rw [b_or, Bool.or_eq_true] at q ⊢
    rcases q with q | q
    · exact Or.inl ((ht w hw).mpr (Or.inl q))
    · exact Or.inr q)
  obtain ⟨m, hm, hmb⟩ := mask_of (fun w => bt (r k) w || bt (re w) v)
  have hrb : ∀ w, w < 7 → (bt (nI m) w = true ↔ bt (r k) w = true ∨ bt (re w) v = true) := fun w hw => by
    rw [b_nI (by omega), hmb w hw, Bool.or_eq_true]
  have hc := cF_br hR hv7 ht hrb (t := t k) (r := r k)
  rcases h4 with ⟨_, q1, q2⟩ | ⟨q, _⟩ | ⟨q, _⟩
  · have g1 := p2 (us (t' (k + 1)) (r k))
    refine ⟨p0 + (2 * 2 ^ us (t k) (r k) - 1) + (4 * 2 ^ us (t' (k + 1)) (r k) - 3), ⟨c0 + cF re (t k) (nI m), p0 + (2 * 2 ^ us (t k) (r k) - 1), cF re (t' (k + 1)) (r k), 4 * 2 ^ us (t' (k + 1)) (r k) - 3, ⟨c0, p0, cF re (t k) (nI m), 2 * 2 ^ us (t k) (r k) - 1, STK_congr k (fun j hj => ⟨(he j (by omega)).1, (he j (by omega)).2, hst j hj⟩) c0 p0 h0, rfl, rfl, by rw [e1, e2]; exact h3, ?_⟩, ?_, rfl, ?_, ?_⟩, ?_⟩
    · rw [e1, e2, hs1]
      exact ⟨hf, Or.inr (Or.inl ⟨rfl, by omega, v, nI m, hv, hrb, rfl⟩)⟩
    · rw [h1, q1, hc]; omega
    · rw [hr]; omega
    · rw [hr, hs2]
      exact ⟨hfc, Or.inl ⟨rfl, rfl, by omega⟩⟩
    · omega
  · exact absurd q (by decide)
  · exact absurd q (by decide)
/-- a node is refused -/
theorem STK_drop {re t r st t' r' st' : Nat → Int32} (hR : RT re) {k c p v : Nat} (h : STK re t r st (k + 1) c p) (hv : FU (t k ||| r k) v) (hs : st k = nI 1) (he : ∀ j, j < k + 1 → t' j = t j ∧ r' j = r j) (hst : ∀ j, j < k → st' j = st j) (hs1 : st' k = nI 2) (hs2 : st' (k + 1) = nI 0) (ht : t' (k + 1) = t k) (hr : ∀ w, w < 7 → (bt (r' (k + 1)) w = true ↔ bt (r k) w = true ∨ bt (re w) v = true)) : ∃ p1, STK re t' r' st' (k + 2) c p1 ∧ p1 + 1 ≤ p := by
  obtain ⟨c0, p0, c1, p1, h0, h1, h2, h3, h4⟩ := h
  obtain ⟨hf, h4⟩ := h4
  rw [hs] at h4
  obtain ⟨e1, e2⟩ := he k (by omega)
  obtain ⟨hv7, hvt, hvr⟩ : v < 7 ∧ bt (t k) v = false ∧ bt (r k) v = false := ⟨hv.1, (bt_nor hv.2.2).1, (bt_nor hv.2.2).2⟩
  have hfc := FI_drop hR hv7 hf hvt hr
  have hu := us_step (t' := t k) (r' := r' (k + 1)) hv (by rw [b_or, (hr v hv7).mpr (Or.inr (hR.1 v (by omega))), Bool.or_true]) (fun w hw q => by
    rw [b_or, Bool.or_eq_true] at q ⊢
    rcases q with q | q
    · exact Or.inl q
    · exact Or.inr ((hr w hw).mpr (Or.inl q)))
  rcases h4 with ⟨q, _⟩ | ⟨_, q1, v0, r0, q2, q3, q4⟩ | ⟨q, _⟩
  · exact absurd q (by decide)
  · have hvv := FU_uniq q2 hv
    subst hvv
    have hc : c1 = cF re (t k) (r' (k + 1)) := by
      rw [q4]
      exact cF_r (fun w hw => by rw [q3 w hw, hr w hw])
    have g1 := p2 (us (t k) (r' (k + 1)))
    refine ⟨p0 + 1 + (4 * 2 ^ us (t k) (r' (k + 1)) - 3), ⟨c0 + 0, p0 + 1, c1, 4 * 2 ^ us (t k) (r' (k + 1)) - 3, ⟨c0, p0, 0, 1, STK_congr k (fun j hj => ⟨(he j (by omega)).1, (he j (by omega)).2, hst j hj⟩) c0 p0 h0, rfl, rfl, by rw [e1, e2]; exact h3, ?_⟩, ?_, rfl, ?_, ?_⟩, ?_⟩
    · rw [e1, e2, hs1]
      exact ⟨hf, Or.inr (Or.inr ⟨rfl, rfl, rfl, v0, hv⟩)⟩
    · rw [h1]; omega
    · rw [ht]; omega
    · rw [ht, hs2]
      exact ⟨hfc, Or.inl ⟨rfl, hc, by omega⟩⟩
    · omega
  · exact absurd q (by decide)
theorem STK_start {re t r st : Nat → Int32} (hR : RT re) (ht : ∀ v, v < 7 → (bt (t 0) v = true ↔ bt (re 7) v = true)) (hr : ∀ v, v < 7 → (bt (r 0) v = true ↔ bt (re v) 8 = true)) (hs : st 0 = nI 0) : ∃ p, STK re t r st 1 (cp (CR re) 128) p ∧ p ≤ 4000 := by
  obtain ⟨h1, h2⟩ := FI_start hR ht hr
  have h3 : 2 ^ us (t 0) (r 0) ≤ 2 ^ 7 := Nat.pow_le_pow_right (by omega) (us_7 _ _)
  have h4 := p2 (us (t 0) (r 0))
  have h5 := us_7 (t 0) (r 0)
  have h6 : (4 * 2 ^ us (t 0) (r 0) - 3) + 3 = 4 * 2 ^ us (t 0) (r 0) := by omega
  have h7 : us (t 0) (r 0) + 0 ≤ 7 := by omega
  have h8 : 4 * 2 ^ us (t 0) (r 0) - 3 ≤ 4000 := by omega
  exact ⟨4 * 2 ^ us (t 0) (r 0) - 3, ⟨0, 0, cp (CR re) 128, 4 * 2 ^ us (t 0) (r 0) - 3, ⟨rfl, rfl⟩, (Nat.zero_add _).symm, (Nat.zero_add _).symm, h7, h1, Or.inl ⟨hs, h2.symm, h6⟩⟩, h8⟩
def pm : Nat → Int32
  | 0 => -1
  | k + 1 => nI k
theorem pm_inc (k : Nat) : pm (k + 1) + Int32.ofInt 1 = pm (k + 2) := x_inc k
theorem pm_dec : ∀ k : Nat, pm (k + 1) + Int32.ofInt (-1) = pm k
  | 0 => by decide
  | k + 1 => x_dec k
theorem b_one_and {z : Int32} {v : Nat} (hv : v < 16) : z &&& (nI 1 <<< (nI v &&& 31)) ≠ 0 ↔ bt z v = true := by
  constructor
  · intro h
    cases q : bt z v with
    | true => rfl
    | false =>
      refine absurd (b_ext (fun i hi => ?_)) h
      rw [b_and, b_shl1 hv hi, b_0]
      by_cases c : i = v
      · subst c; rw [q]; rfl
      · simp [c]
  · intro h q
    have h1 : bt (z &&& (nI 1 <<< (nI v &&& 31))) v = bt 0 v := by rw [q]
    rw [b_and, b_shl1 hv (by omega), b_0, h] at h1
    simp at h1
theorem b_gs {g : Int32} {v : Nat} (hv : v < 32) : bt (nI 127 &&& (g ^^^ (-1))) v = (decide (v < 7) && !bt g v) := by
  rw [b_and, b_xor, b_127 v hv, b_m1 v hv, Bool.xor_true]
set_option maxHeartbeats 4000000 in
set_option maxRecDepth 100000 in
theorem mX0_branch (l : Launch) (D : va_G) (d : Nat → ClassId) (h : Nat) (ad : Nat → Nat) (Fr : Nat → Prop) (a : Nat → Nat → Int32) (w f : Int32) (k v : Nat) (hk : k < 7) (hv : v < 7) (hD : va_D Fr (xW d h ad a w f)) : Met l yX0_branch (ws_ yX0_branch cX0_branch 5 none) xr1 (x_Pc D (xT d) (xW d h ad a w f) [.ref (h), .int (nI k), .int (nI v)]) (va_Qv (fun u' : xS => (∀ j, j ≠ 11 → j ≠ 12 → j ≠ 13 → u'.1 j = a j) ∧ u'.2.1 = w ∧ u'.2.2 = f ∧ u'.1 13 = upd (upd (a 13) k (a 13 k + nI 1)) (k + 1) (nI 0) ∧ ((a 13 k = 0 ∧ u'.1 11 = upd (a 11) (k + 1) (a 11 k ||| (a 10 v &&& nI 127)) ∧ u'.1 12 = upd (a 12) (k + 1) (a 12 k)) ∨ (a 13 k ≠ 0 ∧ ∃ mr, (∀ z, z < 32 → (bt mr z = true ↔ z < 7 ∧ a 10 z &&& (nI 1 <<< (nI v &&& 31)) ≠ 0)) ∧ u'.1 11 = upd (a 11) (k + 1) (a 11 k) ∧ u'.1 12 = upd (a 12) (k + 1) (a 12 k ||| mr)))) (fun u t => va_P D vwCl (xV d h ad u) t.heap) Fr) 0 0 Fr := by
  refine Met.ofW (cc := cX0_branch) (maxL := 5) (ret := none) (by decide) rfl ?_
  intro p e s m args below meth c s₁ B hml hv
  obtain ⟨rfl, hP, hK⟩ := hv
  have hx := B.exec
  have hb := B.bytes
  have hr := B.returns
  have hlocks := B.notSynchronized
  have hts := atoms_spec (ws := (ws_ yX0_branch cX0_branch 5 none)) B.pre
  have hts : ∀ w ∈ lw_all, w.before _ s = true := fun w h => hts w (List.mem_cons_of_mem _ h)
  have hown : s.vm.findClass RX0 = some m.cls := findClass_of_methodNamed B.named
  have hS : va_S Fr s.heap s.heap [] := va_S.rf
  have hl := lv_entry ([.ref (h), .int (nI k), .int (nI v)]) (n := 5) (Nat.le_of_ble_eq_true rfl)
  rw [lg_entry_eq]
  generalize (lg_sl ([.ref (h), .int (nI k), .int (nI v)]) ++ List.replicate (5 - (lg_sl ([.ref (h), .int (nI k), .int (nI v)])).length) Slot.unset).toArray = ls at hl ⊢
  have hl : lv_has ls 5 [(0, .ref (h)), (1, .int (nI k)), (2, .int (nI v))] := hl
  have hP : va_P D vwCl (xW d h ad a w f) s.heap := hP
  refine lv_aload_n hx hb dX0_branch_0 rfl (lv_at hl 0 rfl) ?_
  refine va_get (D := D) (ci := 0) (v := .ref (ad 13)) (C := RX0) (T := TX0) (N := 14) hx hb hts in_X0 hown hK hP 0 rfl rfl 13 (by decide) (hts _ q45) (fun _ h9 => h9) rfl dX0_branch_1 ?_
  refine lv_iload_n hx hb dX0_branch_4 rfl (lv_at hl 1 rfl) ?_
  refine x_ald hx hb hK hP 12 11 rfl rfl (k) rfl (by omega) (by decide) dX0_branch_5 ?_
  refine lv_if_ne (tgt := 13) hx hb dX0_branch_6 (by decide) (fun c1 => ?_) (fun c1 => ?_)
  · refine lv_iconst (v := nI 0) hx hb dX0_branch_13 (by decide) ?_
    refine lv_istore_n (lv' := [(3, .int (nI 0)), (0, .ref (h)), (1, .int (nI k)), (2, .int (nI v))]) hx hb dX0_branch_14 rfl hl (by decide) rfl (fun ls hl => ?_)
    refine lv_aload_n hx hb dX0_branch_15 rfl (lv_at hl 1 rfl) ?_
    refine va_get (D := D) (ci := 0) (v := .ref (ad 13)) (C := RX0) (T := TX0) (N := 14) hx hb hts in_X0 hown hK hP 0 rfl rfl 13 (by decide) (hts _ q45) (fun _ h9 => h9) rfl dX0_branch_16 ?_
    refine lv_iload_n hx hb dX0_branch_19 rfl (lv_at hl 2 rfl) ?_
    refine lv_dup2_11 hx hb dX0_branch_20 rfl rfl ?_
    refine x_ald hx hb hK hP 12 11 rfl rfl (k) rfl (by omega) (by decide) dX0_branch_21 ?_
    refine lv_iconst (v := nI 1) hx hb dX0_branch_22 (by decide) ?_
    refine lv_iadd hx hb dX0_branch_23 ?_
    refine x_ast hx hb hK hP hD hS 12 11 rfl rfl (k) rfl (by omega) (by decide) dX0_branch_24 (fun H locs hP hD hS => ?_)
    have hP : va_P D vwCl (xW d h ad (va_up a 13 (upd (a 13) (k) ((a 13 (k)) + (nI 1)))) w f) H := hP
    have hD : va_D Fr (xW d h ad (va_up a 13 (upd (a 13) (k) ((a 13 (k)) + (nI 1)))) w f) := hD
    refine lv_iload_n hx hb dX0_branch_25 rfl (lv_at hl 0 rfl) ?_
    obtain ⟨a1, ea1⟩ : ∃ z, z = (va_up a 13 (upd (a 13) (k) ((a 13 (k)) + (nI 1)))) := ⟨_, rfl⟩
    have hP : va_P D vwCl (xW d h ad a1 w f) H := by rw [ea1]; exact hP
    have hD : va_D Fr (xW d h ad a1 w f) := by rw [ea1]; exact hD
    refine lv_if_eq (tgt := 41) hx hb dX0_branch_26 (by decide) (fun _ => ?_) (fun c => absurd rfl c)
    refine lv_aload_n hx hb dX0_branch_41 rfl (lv_at hl 1 rfl) ?_
    refine lv_iconst (v := nI 1) hx hb dX0_branch_42 (by decide) ?_
    refine lv_iload_n hx hb dX0_branch_43 rfl (lv_at hl 3 rfl) ?_
    refine lv_ishl hx hb dX0_branch_44 ?_
    refine x_roV (As := [.int ((nI 1) <<< ((nI v) &&& 31))]) (rest := []) ⟨hx, hb, hml, hown, hts⟩ (mX0_reaching l D d h ad a1 w f (nI 1 <<< (nI v &&& 31))) (cwV 1 hts (lw_V q185 q187 qs15 q22 q188) rfl rfl rfl (by decide +kernel) ⟨Nat.le_of_ble_eq_true rfl, Nat.le_of_ble_eq_true rfl⟩) (va_recv hK hP (ci := 0) (q0 := 0) rfl rfl) hP hK hP hS hl rfl rfl (Nat.le_of_ble_eq_true rfl) dX0_branch_45 ⟨Nat.zero_le _, Nat.zero_le _⟩ (fun mr H locs hmr hP hS => ?_)
    refine lv_istore (lv' := [(4, .int (mr)), (3, .int (nI 0)), (0, .ref (h)), (1, .int (nI k)), (2, .int (nI v))]) hx hb dX0_branch_48 hl (by decide) rfl (fun ls hl => ?_)
    refine lv_aload_n hx hb dX0_branch_50 rfl (lv_at hl 2 rfl) ?_
    refine va_get (D := D) (ci := 0) (v := .ref (ad 11)) (C := RX0) (T := TX0) (N := 14) hx hb hts in_X0 hown hK hP 0 rfl rfl 11 (by decide) (hts _ q43) (fun _ h9 => h9) rfl dX0_branch_51 ?_
    refine lv_iload_n hx hb dX0_branch_54 rfl (lv_at hl 3 rfl) ?_
    refine lv_iconst (v := nI 1) hx hb dX0_branch_55 (by decide) ?_
    refine lv_iadd hx hb dX0_branch_56 ?_
    refine lv_iload_n hx hb dX0_branch_57 rfl (lv_at hl 1 rfl) ?_
    refine lv_if_eq (tgt := 73) hx hb dX0_branch_58 (by decide) (fun _ => ?_) (fun c => absurd rfl c)
    refine lv_aload_n hx hb dX0_branch_73 rfl (lv_at hl 2 rfl) ?_
    refine va_get (D := D) (ci := 0) (v := .ref (ad 11)) (C := RX0) (T := TX0) (N := 14) hx hb hts in_X0 hown hK hP 0 rfl rfl 11 (by decide) (hts _ q43) (fun _ h9 => h9) rfl dX0_branch_74 ?_
    refine lv_iload_n hx hb dX0_branch_77 rfl (lv_at hl 3 rfl) ?_
    refine x_ald hx hb hK hP 10 9 rfl rfl (k) rfl (by omega) (by decide) dX0_branch_78 ?_
    refine x_ast hx hb hK hP hD hS 10 9 rfl rfl (k + 1) (by simp only [pk_mul, nI_add]) (by omega) (by decide) dX0_branch_79 (fun H locs hP hD hS => ?_)
    have hP : va_P D vwCl (xW d h ad (va_up a1 11 (upd (a1 11) (k + 1) (a1 11 (k)))) w f) H := hP
    have hD : va_D Fr (xW d h ad (va_up a1 11 (upd (a1 11) (k + 1) (a1 11 (k)))) w f) := hD
    refine lv_aload_n hx hb dX0_branch_80 rfl (lv_at hl 2 rfl) ?_
    refine va_get (D := D) (ci := 0) (v := .ref (ad 12)) (C := RX0) (T := TX0) (N := 14) hx hb hts in_X0 hown hK hP 0 rfl rfl 12 (by decide) (hts _ q44) (fun _ h9 => h9) rfl dX0_branch_81 ?_
    refine lv_iload_n hx hb dX0_branch_84 rfl (lv_at hl 3 rfl) ?_
    refine lv_iconst (v := nI 1) hx hb dX0_branch_85 (by decide) ?_
    refine lv_iadd hx hb dX0_branch_86 ?_
    refine lv_iload_n hx hb dX0_branch_87 rfl (lv_at hl 1 rfl) ?_
    obtain ⟨a2, ea2⟩ : ∃ z, z = (va_up a1 11 (upd (a1 11) (k + 1) (a1 11 (k)))) := ⟨_, rfl⟩
    have hP : va_P D vwCl (xW d h ad a2 w f) H := by rw [ea2]; exact hP
    have hD : va_D Fr (xW d h ad a2 w f) := by rw [ea2]; exact hD
    refine lv_if_eq (tgt := 100) hx hb dX0_branch_88 (by decide) (fun _ => ?_) (fun c => absurd rfl c)
    refine lv_aload_n hx hb dX0_branch_100 rfl (lv_at hl 2 rfl) ?_
    refine va_get (D := D) (ci := 0) (v := .ref (ad 12)) (C := RX0) (T := TX0) (N := 14) hx hb hts in_X0 hown hK hP 0 rfl rfl 12 (by decide) (hts _ q44) (fun _ h9 => h9) rfl dX0_branch_101 ?_
    refine lv_iload_n hx hb dX0_branch_104 rfl (lv_at hl 3 rfl) ?_
    refine x_ald hx hb hK hP 11 10 rfl rfl (k) rfl (by omega) (by decide) dX0_branch_105 ?_
    refine lv_iload hx hb dX0_branch_106 (lv_at hl 0 rfl) ?_
    refine lv_ior hx hb dX0_branch_108 ?_
    refine x_ast hx hb hK hP hD hS 11 10 rfl rfl (k + 1) (by simp only [pk_mul, nI_add]) (by omega) (by decide) dX0_branch_109 (fun H locs hP hD hS => ?_)
    have hP : va_P D vwCl (xW d h ad (va_up a2 12 (upd (a2 12) (k + 1) ((a2 12 (k)) ||| (mr)))) w f) H := hP
    have hD : va_D Fr (xW d h ad (va_up a2 12 (upd (a2 12) (k + 1) ((a2 12 (k)) ||| (mr)))) w f) := hD
    refine lv_aload_n hx hb dX0_branch_110 rfl (lv_at hl 2 rfl) ?_
    refine va_get (D := D) (ci := 0) (v := .ref (ad 13)) (C := RX0) (T := TX0) (N := 14) hx hb hts in_X0 hown hK hP 0 rfl rfl 13 (by decide) (hts _ q45) (fun _ h9 => h9) rfl dX0_branch_111 ?_
    refine lv_iload_n hx hb dX0_branch_114 rfl (lv_at hl 3 rfl) ?_
    refine lv_iconst (v := nI 1) hx hb dX0_branch_115 (by decide) ?_
    refine lv_iadd hx hb dX0_branch_116 ?_
    refine lv_iconst (v := nI 0) hx hb dX0_branch_117 (by decide) ?_
    refine x_ast hx hb hK hP hD hS 12 11 rfl rfl (k + 1) (by simp only [pk_mul, nI_add]) (by omega) (by decide) dX0_branch_118 (fun H locs hP hD hS => ?_)
    have hP : va_P D vwCl (xW d h ad (va_up (va_up a2 12 (upd (a2 12) (k + 1) ((a2 12 (k)) ||| (mr)))) 13 (upd ((va_up a2 12 (upd (a2 12) (k + 1) ((a2 12 (k)) ||| (mr)))) 13) (k + 1) (nI 0))) w f) H := hP
    have hD : va_D Fr (xW d h ad (va_up (va_up a2 12 (upd (a2 12) (k + 1) ((a2 12 (k)) ||| (mr)))) 13 (upd ((va_up a2 12 (upd (a2 12) (k + 1) ((a2 12 (k)) ||| (mr)))) 13) (k + 1) (nI 0))) w f) := hD
    obtain ⟨a3, ea3⟩ : ∃ z, z = (va_up (va_up a2 12 (upd (a2 12) (k + 1) ((a2 12 (k)) ||| (mr)))) 13 (upd ((va_up a2 12 (upd (a2 12) (k + 1) ((a2 12 (k)) ||| (mr)))) 13) (k + 1) (nI 0))) := ⟨_, rfl⟩
    have hP : va_P D vwCl (xW d h ad a3 w f) H := by rw [ea3]; exact hP
    have hD : va_D Fr (xW d h ad a3 w f) := by rw [ea3]; exact hD
    have g1 : ∀ j, j ≠ 13 → a1 j = a j := fun j hj => by rw [ea1, va_up_n hj]
    have g2 : ∀ j, j ≠ 11 → a2 j = a1 j := fun j hj => by rw [ea2, va_up_n hj]
    have i1 : a1 13 = upd (a 13) k (a 13 k + nI 1) := by rw [ea1, va_up_s]
    have i2 : a2 11 = upd (a 11) (k + 1) (a 11 k) := by rw [ea2, va_up_s, g1 11 (by decide)]
    have i3 : a3 13 = upd (upd (a 13) k (a 13 k + nI 1)) (k + 1) (nI 0) := by rw [ea3, va_up_s, va_up_n (by decide), g2 13 (by decide), i1]
    have i4 : a3 11 = a2 11 := by rw [ea3, va_up_n (by decide), va_up_n (by decide)]
    have i5 : ∀ j, j ≠ 11 → j ≠ 12 → j ≠ 13 → a3 j = a j := fun j h1 h2 h3 => by rw [ea3, va_up_n h3, va_up_n h2, g2 j h1, g1 j h3]
    have i6 : a2 12 = a 12 := by rw [g2 12 (by decide), g1 12 (by decide)]
    have i7 : a3 12 = upd (a 12) (k + 1) (a 12 k ||| mr) := by rw [ea3, va_up_n (by decide), va_up_s, i6]
    exact x_vretW (WS := xV d h ad) ((a3, w, f)) hx hb hr hlocks hS hP dX0_branch_119 ⟨i5, rfl, rfl, i3, Or.inr ⟨c1, mr, fun z hz => by rw [hmr z hz, g1 10 (by decide)], i4.trans i2, i7⟩⟩
  · refine lv_iconst (v := nI 1) hx hb dX0_branch_9 (by decide) ?_
    refine lv_goto (tgt := 14) hx hb dX0_branch_10 (by decide) ?_
    refine lv_istore_n (lv' := [(3, .int (nI 1)), (0, .ref (h)), (1, .int (nI k)), (2, .int (nI v))]) hx hb dX0_branch_14 rfl hl (by decide) rfl (fun ls hl => ?_)
    refine lv_aload_n hx hb dX0_branch_15 rfl (lv_at hl 1 rfl) ?_
    refine va_get (D := D) (ci := 0) (v := .ref (ad 13)) (C := RX0) (T := TX0) (N := 14) hx hb hts in_X0 hown hK hP 0 rfl rfl 13 (by decide) (hts _ q45) (fun _ h9 => h9) rfl dX0_branch_16 ?_
    refine lv_iload_n hx hb dX0_branch_19 rfl (lv_at hl 2 rfl) ?_
    refine lv_dup2_11 hx hb dX0_branch_20 rfl rfl ?_
    refine x_ald hx hb hK hP 12 11 rfl rfl (k) rfl (by omega) (by decide) dX0_branch_21 ?_
    refine lv_iconst (v := nI 1) hx hb dX0_branch_22 (by decide) ?_
    refine lv_iadd hx hb dX0_branch_23 ?_
    refine x_ast hx hb hK hP hD hS 12 11 rfl rfl (k) rfl (by omega) (by decide) dX0_branch_24 (fun H locs hP hD hS => ?_)
    have hP : va_P D vwCl (xW d h ad (va_up a 13 (upd (a 13) (k) ((a 13 (k)) + (nI 1)))) w f) H := hP
    have hD : va_D Fr (xW d h ad (va_up a 13 (upd (a 13) (k) ((a 13 (k)) + (nI 1)))) w f) := hD
    refine lv_iload_n hx hb dX0_branch_25 rfl (lv_at hl 0 rfl) ?_
    obtain ⟨a1, ea1⟩ : ∃ z, z = (va_up a 13 (upd (a 13) (k) ((a 13 (k)) + (nI 1)))) := ⟨_, rfl⟩
    have hP : va_P D vwCl (xW d h ad a1 w f) H := by rw [ea1]; exact hP
    have hD : va_D Fr (xW d h ad a1 w f) := by rw [ea1]; exact hD
    refine lv_if_eq (tgt := 41) hx hb dX0_branch_26 (by decide) (fun c => absurd c (by decide)) (fun _ => ?_)
    refine lv_aload_n hx hb dX0_branch_29 rfl (lv_at hl 1 rfl) ?_
    refine va_get (D := D) (ci := 0) (v := .ref (ad 10)) (C := RX0) (T := TX0) (N := 14) hx hb hts in_X0 hown hK hP 0 rfl rfl 10 (by decide) (hts _ q42) (fun _ h9 => h9) rfl dX0_branch_30 ?_
    refine lv_iload_n hx hb dX0_branch_33 rfl (lv_at hl 3 rfl) ?_
    refine x_ald hx hb hK hP 9 8 rfl rfl (v) rfl (by omega) (by decide) dX0_branch_34 ?_
    refine lv_bipush (v := nI 127) hx hb dX0_branch_35 (by decide) ?_
    refine lv_iand hx hb dX0_branch_37 ?_
    refine lv_goto (tgt := 48) hx hb dX0_branch_38 (by decide) ?_
    refine lv_istore (lv' := [(4, .int ((a1 10 (v)) &&& (nI 127))), (3, .int (nI 1)), (0, .ref (h)), (1, .int (nI k)), (2, .int (nI v))]) hx hb dX0_branch_48 hl (by decide) rfl (fun ls hl => ?_)
    refine lv_aload_n hx hb dX0_branch_50 rfl (lv_at hl 2 rfl) ?_
    refine va_get (D := D) (ci := 0) (v := .ref (ad 11)) (C := RX0) (T := TX0) (N := 14) hx hb hts in_X0 hown hK hP 0 rfl rfl 11 (by decide) (hts _ q43) (fun _ h9 => h9) rfl dX0_branch_51 ?_
    refine lv_iload_n hx hb dX0_branch_54 rfl (lv_at hl 3 rfl) ?_
    refine lv_iconst (v := nI 1) hx hb dX0_branch_55 (by decide) ?_
    refine lv_iadd hx hb dX0_branch_56 ?_
    refine lv_iload_n hx hb dX0_branch_57 rfl (lv_at hl 1 rfl) ?_
    refine lv_if_eq (tgt := 73) hx hb dX0_branch_58 (by decide) (fun c => absurd c (by decide)) (fun _ => ?_)
    refine lv_aload_n hx hb dX0_branch_61 rfl (lv_at hl 2 rfl) ?_
    refine va_get (D := D) (ci := 0) (v := .ref (ad 11)) (C := RX0) (T := TX0) (N := 14) hx hb hts in_X0 hown hK hP 0 rfl rfl 11 (by decide) (hts _ q43) (fun _ h9 => h9) rfl dX0_branch_62 ?_
    refine lv_iload_n hx hb dX0_branch_65 rfl (lv_at hl 3 rfl) ?_
    refine x_ald hx hb hK hP 10 9 rfl rfl (k) rfl (by omega) (by decide) dX0_branch_66 ?_
    refine lv_iload hx hb dX0_branch_67 (lv_at hl 0 rfl) ?_
    refine lv_ior hx hb dX0_branch_69 ?_
    refine lv_goto (tgt := 79) hx hb dX0_branch_70 (by decide) ?_
    refine x_ast hx hb hK hP hD hS 10 9 rfl rfl (k + 1) (by simp only [pk_mul, nI_add]) (by omega) (by decide) dX0_branch_79 (fun H locs hP hD hS => ?_)
    have hP : va_P D vwCl (xW d h ad (va_up a1 11 (upd (a1 11) (k + 1) ((a1 11 (k)) ||| ((a1 10 (v)) &&& (nI 127))))) w f) H := hP
    have hD : va_D Fr (xW d h ad (va_up a1 11 (upd (a1 11) (k + 1) ((a1 11 (k)) ||| ((a1 10 (v)) &&& (nI 127))))) w f) := hD
    refine lv_aload_n hx hb dX0_branch_80 rfl (lv_at hl 2 rfl) ?_
    refine va_get (D := D) (ci := 0) (v := .ref (ad 12)) (C := RX0) (T := TX0) (N := 14) hx hb hts in_X0 hown hK hP 0 rfl rfl 12 (by decide) (hts _ q44) (fun _ h9 => h9) rfl dX0_branch_81 ?_
    refine lv_iload_n hx hb dX0_branch_84 rfl (lv_at hl 3 rfl) ?_
    refine lv_iconst (v := nI 1) hx hb dX0_branch_85 (by decide) ?_
    refine lv_iadd hx hb dX0_branch_86 ?_
    refine lv_iload_n hx hb dX0_branch_87 rfl (lv_at hl 1 rfl) ?_
    obtain ⟨a2, ea2⟩ : ∃ z, z = (va_up a1 11 (upd (a1 11) (k + 1) ((a1 11 (k)) ||| ((a1 10 (v)) &&& (nI 127))))) := ⟨_, rfl⟩
    have hP : va_P D vwCl (xW d h ad a2 w f) H := by rw [ea2]; exact hP
    have hD : va_D Fr (xW d h ad a2 w f) := by rw [ea2]; exact hD
    refine lv_if_eq (tgt := 100) hx hb dX0_branch_88 (by decide) (fun c => absurd c (by decide)) (fun _ => ?_)
    refine lv_aload_n hx hb dX0_branch_91 rfl (lv_at hl 2 rfl) ?_
    refine va_get (D := D) (ci := 0) (v := .ref (ad 12)) (C := RX0) (T := TX0) (N := 14) hx hb hts in_X0 hown hK hP 0 rfl rfl 12 (by decide) (hts _ q44) (fun _ h9 => h9) rfl dX0_branch_92 ?_
    refine lv_iload_n hx hb dX0_branch_95 rfl (lv_at hl 3 rfl) ?_
    refine x_ald hx hb hK hP 11 10 rfl rfl (k) rfl (by omega) (by decide) dX0_branch_96 ?_
    refine lv_goto (tgt := 109) hx hb dX0_branch_97 (by decide) ?_
    refine x_ast hx hb hK hP hD hS 11 10 rfl rfl (k + 1) (by simp only [pk_mul, nI_add]) (by omega) (by decide) dX0_branch_109 (fun H locs hP hD hS => ?_)
    have hP : va_P D vwCl (xW d h ad (va_up a2 12 (upd (a2 12) (k + 1) (a2 12 (k)))) w f) H := hP
    have hD : va_D Fr (xW d h ad (va_up a2 12 (upd (a2 12) (k + 1) (a2 12 (k)))) w f) := hD
    refine lv_aload_n hx hb dX0_branch_110 rfl (lv_at hl 2 rfl) ?_
    refine va_get (D := D) (ci := 0) (v := .ref (ad 13)) (C := RX0) (T := TX0) (N := 14) hx hb hts in_X0 hown hK hP 0 rfl rfl 13 (by decide) (hts _ q45) (fun _ h9 => h9) rfl dX0_branch_111 ?_
    refine lv_iload_n hx hb dX0_branch_114 rfl (lv_at hl 3 rfl) ?_
    refine lv_iconst (v := nI 1) hx hb dX0_branch_115 (by decide) ?_
    refine lv_iadd hx hb dX0_branch_116 ?_
    refine lv_iconst (v := nI 0) hx hb dX0_branch_117 (by decide) ?_
    refine x_ast hx hb hK hP hD hS 12 11 rfl rfl (k + 1) (by simp only [pk_mul, nI_add]) (by omega) (by decide) dX0_branch_118 (fun H locs hP hD hS => ?_)
    have hP : va_P D vwCl (xW d h ad (va_up (va_up a2 12 (upd (a2 12) (k + 1) (a2 12 (k)))) 13 (upd ((va_up a2 12 (upd (a2 12) (k + 1) (a2 12 (k)))) 13) (k + 1) (nI 0))) w f) H := hP
    have hD : va_D Fr (xW d h ad (va_up (va_up a2 12 (upd (a2 12) (k + 1) (a2 12 (k)))) 13 (upd ((va_up a2 12 (upd (a2 12) (k + 1) (a2 12 (k)))) 13) (k + 1) (nI 0))) w f) := hD
    obtain ⟨a3, ea3⟩ : ∃ z, z = (va_up (va_up a2 12 (upd (a2 12) (k + 1) (a2 12 (k)))) 13 (upd ((va_up a2 12 (upd (a2 12) (k + 1) (a2 12 (k)))) 13) (k + 1) (nI 0))) := ⟨_, rfl⟩
    have hP : va_P D vwCl (xW d h ad a3 w f) H := by rw [ea3]; exact hP
    have hD : va_D Fr (xW d h ad a3 w f) := by rw [ea3]; exact hD
    have g1 : ∀ j, j ≠ 13 → a1 j = a j := fun j hj => by rw [ea1, va_up_n hj]
    have g2 : ∀ j, j ≠ 11 → a2 j = a1 j := fun j hj => by rw [ea2, va_up_n hj]
    have i1 : a1 13 = upd (a 13) k (a 13 k + nI 1) := by rw [ea1, va_up_s]
    have i2 : a2 11 = upd (a 11) (k + 1) (a 11 k ||| (a 10 v &&& nI 127)) := by rw [ea2, va_up_s, g1 11 (by decide), g1 10 (by decide)]
    have i3 : a3 13 = upd (upd (a 13) k (a 13 k + nI 1)) (k + 1) (nI 0) := by rw [ea3, va_up_s, va_up_n (by decide), g2 13 (by decide), i1]
    have i4 : a3 11 = a2 11 := by rw [ea3, va_up_n (by decide), va_up_n (by decide)]
    have i5 : ∀ j, j ≠ 11 → j ≠ 12 → j ≠ 13 → a3 j = a j := fun j h1 h2 h3 => by rw [ea3, va_up_n h3, va_up_n h2, g2 j h1, g1 j h3]
    have i6 : a2 12 = a 12 := by rw [g2 12 (by decide), g1 12 (by decide)]
    have i7 : a3 12 = upd (a 12) (k + 1) (a 12 k) := by rw [ea3, va_up_n (by decide), va_up_s, i6]
    exact x_vretW (WS := xV d h ad) ((a3, w, f)) hx hb hr hlocks hS hP dX0_branch_119 ⟨i5, rfl, rfl, i3, Or.inl ⟨c1, i4.trans i2, i7⟩⟩
set_option maxHeartbeats 4000000 in
set_option maxRecDepth 100000 in
theorem mX0_countClosed (l : Launch) (D : va_G) (d : Nat → ClassId) (h : Nat) (ad : Nat → Nat) (Fr : Nat → Prop) (a : Nat → Nat → Int32) (w f : Int32)  (hR : RT (a 10)) (hD : va_D Fr (xW d h ad a w f)) : Met l yX0_countClosed (ws_ yX0_countClosed cX0_countClosed 5 (some .int)) xr2 (x_Pc D (xT d) (xW d h ad a w f) [.ref (h)]) (va_Qi (fun r (u' : xS) => (∀ j, j ≠ 11 → j ≠ 12 → j ≠ 13 → u'.1 j = a j) ∧ u'.2.1 = w ∧ u'.2.2 = f ∧ r = nI (cp (CR (a 10)) 128)) (fun u t => va_P D vwCl (xV d h ad u) t.heap) Fr) 0 0 Fr := by
  refine Met.ofW (cc := cX0_countClosed) (maxL := 5) (ret := (some .int)) (by decide) rfl ?_
  intro p e s m args below meth c s₁ B hml hv
  obtain ⟨rfl, hP, hK⟩ := hv
  have hx := B.exec
  have hb := B.bytes
  have hr := B.returns
  have hlocks := B.notSynchronized
  have hts := atoms_spec (ws := (ws_ yX0_countClosed cX0_countClosed 5 (some .int))) B.pre
  have hts : ∀ w ∈ lw_all, w.before _ s = true := fun w h => hts w (List.mem_cons_of_mem _ h)
  have hown : s.vm.findClass RX0 = some m.cls := findClass_of_methodNamed B.named
  have hS : va_S Fr s.heap s.heap [] := va_S.rf
  have hl := lv_entry ([.ref (h)]) (n := 5) (Nat.le_of_ble_eq_true rfl)
  rw [lg_entry_eq]
  generalize (lg_sl ([.ref (h)]) ++ List.replicate (5 - (lg_sl ([.ref (h)])).length) Slot.unset).toArray = ls at hl ⊢
  have hl : lv_has ls 5 [(0, .ref (h))] := hl
  have hP : va_P D vwCl (xW d h ad a w f) s.heap := hP
  refine lv_iconst (v := nI 0) hx hb dX0_countClosed_0 (by decide) ?_
  refine lv_istore_n (lv' := [(1, .int (nI 0)), (0, .ref (h))]) hx hb dX0_countClosed_1 rfl hl (by decide) rfl (fun ls hl => ?_)
  refine lv_iconst (v := nI 0) hx hb dX0_countClosed_2 (by decide) ?_
  refine lv_istore_n (lv' := [(2, .int (nI 0)), (1, .int (nI 0)), (0, .ref (h))]) hx hb dX0_countClosed_3 rfl hl (by decide) rfl (fun ls hl => ?_)
  refine lv_aload_n hx hb dX0_countClosed_4 rfl (lv_at hl 2 rfl) ?_
  refine va_get (D := D) (ci := 0) (v := .ref (ad 11)) (C := RX0) (T := TX0) (N := 14) hx hb hts in_X0 hown hK hP 0 rfl rfl 11 (by decide) (hts _ q43) (fun _ h9 => h9) rfl dX0_countClosed_5 ?_
  refine lv_iconst (v := nI 0) hx hb dX0_countClosed_8 (by decide) ?_
  refine lv_aload_n hx hb dX0_countClosed_9 rfl (lv_at hl 2 rfl) ?_
  refine x_roV (As := []) (rest := [.int (nI 0), .ref (ad 11)]) ⟨hx, hb, hml, hown, hts⟩ (mX0_smallestSide l D d h ad a w f) (cwV 0 hts (lw_V q157 q159 qs10 q22 q160) rfl rfl rfl (by decide +kernel) ⟨Nat.le_of_ble_eq_true rfl, Nat.le_of_ble_eq_true rfl⟩) (va_recv hK hP (ci := 0) (q0 := 0) rfl rfl) hP hK hP hS hl rfl rfl (Nat.le_of_ble_eq_true rfl) dX0_countClosed_10 ⟨Nat.zero_le _, Nat.zero_le _⟩ (fun r1 H locs e1 hP hS => ?_)
  subst e1
  refine x_ast hx hb hK hP hD hS 10 9 rfl rfl (0) rfl (by decide) (by decide) dX0_countClosed_13 (fun H locs hP hD hS => ?_)
  have hP : va_P D vwCl (xW d h ad (va_up a 11 (upd (a 11) (0) (a 10 7 &&& nI 127))) w f) H := hP
  have hD : va_D Fr (xW d h ad (va_up a 11 (upd (a 11) (0) (a 10 7 &&& nI 127))) w f) := hD
  obtain ⟨a0_, ea0_⟩ : ∃ z, z = (va_up a 11 (upd (a 11) (0) (a 10 7 &&& nI 127))) := ⟨_, rfl⟩
  have hP : va_P D vwCl (xW d h ad a0_ w f) H := by rw [ea0_]; exact hP
  have hD : va_D Fr (xW d h ad a0_ w f) := by rw [ea0_]; exact hD
  refine lv_aload_n hx hb dX0_countClosed_14 rfl (lv_at hl 2 rfl) ?_
  refine va_get (D := D) (ci := 0) (v := .ref (ad 12)) (C := RX0) (T := TX0) (N := 14) hx hb hts in_X0 hown hK hP 0 rfl rfl 12 (by decide) (hts _ q44) (fun _ h9 => h9) rfl dX0_countClosed_15 ?_
  refine lv_iconst (v := nI 0) hx hb dX0_countClosed_18 (by decide) ?_
  refine lv_bipush (v := nI 127) hx hb dX0_countClosed_19 (by decide) ?_
  refine lv_aload_n hx hb dX0_countClosed_21 rfl (lv_at hl 2 rfl) ?_
  refine x_roV (As := []) (rest := [.int (nI 127), .int (nI 0), .ref (ad 12)]) ⟨hx, hb, hml, hown, hts⟩ (mX0_greatestSide l D d h ad a0_ w f) (cwV 0 hts (lw_V q165 q167 qs11 q22 q168) rfl rfl rfl (by decide +kernel) ⟨Nat.le_of_ble_eq_true rfl, Nat.le_of_ble_eq_true rfl⟩) (va_recv hK hP (ci := 0) (q0 := 0) rfl rfl) hP hK hP hS hl rfl rfl (Nat.le_of_ble_eq_true rfl) dX0_countClosed_22 ⟨Nat.zero_le _, Nat.zero_le _⟩ (fun gs H locs hgs hP hS => ?_)
  refine lv_iconst (v := -1) hx hb dX0_countClosed_25 (by decide) ?_
  refine lv_ixor hx hb dX0_countClosed_26 ?_
  refine lv_iand hx hb dX0_countClosed_27 ?_
  refine x_ast hx hb hK hP hD hS 11 10 rfl rfl (0) rfl (by decide) (by decide) dX0_countClosed_28 (fun H locs hP hD hS => ?_)
  have hP : va_P D vwCl (xW d h ad (va_up a0_ 12 (upd (a0_ 12) (0) ((nI 127) &&& ((gs) ^^^ ((-1)))))) w f) H := hP
  have hD : va_D Fr (xW d h ad (va_up a0_ 12 (upd (a0_ 12) (0) ((nI 127) &&& ((gs) ^^^ ((-1)))))) w f) := hD
  refine lv_aload_n hx hb dX0_countClosed_29 rfl (lv_at hl 2 rfl) ?_
  refine va_get (D := D) (ci := 0) (v := .ref (ad 13)) (C := RX0) (T := TX0) (N := 14) hx hb hts in_X0 hown hK hP 0 rfl rfl 13 (by decide) (hts _ q45) (fun _ h9 => h9) rfl dX0_countClosed_30 ?_
  refine lv_iconst (v := nI 0) hx hb dX0_countClosed_33 (by decide) ?_
  refine lv_iconst (v := nI 0) hx hb dX0_countClosed_34 (by decide) ?_
  refine x_ast hx hb hK hP hD hS 12 11 rfl rfl (0) rfl (by decide) (by decide) dX0_countClosed_35 (fun H locs hP hD hS => ?_)
  have hP : va_P D vwCl (xW d h ad (va_up (va_up a0_ 12 (upd (a0_ 12) (0) ((nI 127) &&& ((gs) ^^^ ((-1)))))) 13 (upd ((va_up a0_ 12 (upd (a0_ 12) (0) ((nI 127) &&& ((gs) ^^^ ((-1)))))) 13) (0) (nI 0))) w f) H := hP
  have hD : va_D Fr (xW d h ad (va_up (va_up a0_ 12 (upd (a0_ 12) (0) ((nI 127) &&& ((gs) ^^^ ((-1)))))) 13 (upd ((va_up a0_ 12 (upd (a0_ 12) (0) ((nI 127) &&& ((gs) ^^^ ((-1)))))) 13) (0) (nI 0))) w f) := hD
  refine lv_iconst (v := nI 0) hx hb dX0_countClosed_36 (by decide) ?_
  refine lv_istore_n (lv' := [(3, .int (nI 0)), (2, .int (nI 0)), (1, .int (nI 0)), (0, .ref (h))]) hx hb dX0_countClosed_37 rfl hl (by decide) rfl (fun ls hl => ?_)
  obtain ⟨a1_, ea1_⟩ : ∃ z, z = (va_up (va_up a0_ 12 (upd (a0_ 12) (0) ((nI 127) &&& ((gs) ^^^ ((-1)))))) 13 (upd ((va_up a0_ 12 (upd (a0_ 12) (0) ((nI 127) &&& ((gs) ^^^ ((-1)))))) 13) (0) (nI 0))) := ⟨_, rfl⟩
  have hP : va_P D vwCl (xW d h ad a1_ w f) H := by rw [ea1_]; exact hP
  have hD : va_D Fr (xW d h ad a1_ w f) := by rw [ea1_]; exact hD
  have f0 : ∀ j, j ≠ 11 → a0_ j = a j := fun j hj => by rw [ea0_, va_up_n hj]
  have f1 : ∀ j, j ≠ 11 → j ≠ 12 → j ≠ 13 → a1_ j = a j := fun j h1 h2 h3 => by rw [ea1_, va_up_n h3, va_up_n h2, f0 j h1]
  have k1 : a1_ 11 0 = a 10 7 &&& nI 127 := by rw [ea1_, va_up_n (by decide), va_up_n (by decide), ea0_, va_up_s, pk_us]
  have k2 : a1_ 12 0 = nI 127 &&& (gs ^^^ (-1)) := by rw [ea1_, va_up_n (by decide), va_up_s, pk_us]
  have k3 : a1_ 13 0 = nI 0 := by rw [ea1_, va_up_s, pk_us]
  obtain ⟨p0, hstk, hp0⟩ := STK_start (t := a1_ 11) (r := a1_ 12) (st := a1_ 13) hR (fun v hv => by rw [k1, b_and, b_127 v (by omega), decide_eq_true hv, Bool.and_true]) (fun v hv => by
    rw [k2, b_gs (by omega), decide_eq_true hv, Bool.true_and, Bool.not_eq_true', ← Bool.not_eq_true, hgs v (by omega), f0 10 (by decide)]
    constructor
    · intro q
      cases z : bt (a 10 v) 8 with
      | true => rfl
      | false => exact absurd ⟨hv, z⟩ q
    · intro q q2
      rw [q] at q2
      cases q2.2) k3
  have hl : lv_has ls 5 [(3, .int (nI 0)), (2, .int (pm 1)), (1, .int (nI 0)), (0, .ref (h))] := hl
  refine x_loop (σ := (Nat) × (Nat) × (Nat) × (Nat → Nat → Int32)) 38 5 (fun st => (xW d h ad st.2.2.2 w f)) (fun st => [(0, .ref (h)), (1, .int (nI st.2.1)), (2, .int (pm st.1)), (3, .int (nI st.2.2.1))]) (fun st => (∀ j, j ≠ 11 → j ≠ 12 → j ≠ 13 → st.2.2.2 j = a j) ∧ ∃ c_ p_, STK (a 10) (st.2.2.2 11) (st.2.2.2 12) (st.2.2.2 13) st.1 c_ p_ ∧ st.2.1 + c_ = cp (CR (a 10)) 128 ∧ st.2.2.1 + p_ ≤ 4000) (fun st => 4000 - st.2.2.1) ?_ ((1, 0, 0, a1_)) (show (∀ j, j ≠ 11 → j ≠ 12 → j ≠ 13 → a1_ j = a j) ∧ ∃ c_ p_, STK (a 10) (a1_ 11) (a1_ 12) (a1_ 13) 1 c_ p_ ∧ 0 + c_ = cp (CR (a 10)) 128 ∧ 0 + p_ ≤ 4000 from ⟨f1, _, p0, hstk, Nat.zero_add _, by omega⟩) hP hD hS (lv_sub hl [3, 2, 1, 0] rfl)
  intro st hI ih H locs ls hP hD hS hl
  obtain ⟨lv, n, step, a1⟩ := st
  have hI : (∀ j, j ≠ 11 → j ≠ 12 → j ≠ 13 → a1 j = a j) ∧ ∃ c_ p_, STK (a 10) (a1 11) (a1 12) (a1 13) lv c_ p_ ∧ n + c_ = cp (CR (a 10)) 128 ∧ step + p_ ≤ 4000 := hI
  have hl : lv_has ls 5 [(0, .ref (h)), (1, .int (nI n)), (2, .int (pm lv)), (3, .int (nI step))] := hl
  have hP : va_P D vwCl (xW d h ad a1 w f) H := hP
  have hD : va_D Fr (xW d h ad a1 w f) := hD
  obtain ⟨hf1, c_, p_, hst, hn, hstep⟩ := hI
  refine lv_iload_n hx hb dX0_countClosed_38 rfl (lv_at hl 3 rfl) ?_
  refine lv_sipush (v := nI 4000) hx hb dX0_countClosed_39 (by decide) ?_
  refine x_ge hx hb (step) (4000) rfl rfl (by omega) (by omega) (tgt := 104) dX0_countClosed_42 (by decide) (fun c1 => ?_) (fun c1 => ?_)
  · have hc0 : c_ = 0 := by
      cases lv with
      | zero => exact hst.1
      | succ k => exact absurd (STK_pos hst).1 (by omega)
    refine lv_iload_n hx hb dX0_countClosed_104 rfl (lv_at hl 1 rfl) ?_
    exact x_iretW (WS := xV d h ad) ((a1, w, f)) hx hb hr hlocks hS hP dX0_countClosed_105 ⟨hf1, rfl, rfl, by rw [← hn, hc0]; rfl⟩
  · refine lv_iload_n hx hb dX0_countClosed_45 rfl (lv_at hl 2 rfl) ?_
    cases lv with
    | zero =>
      refine lv_if_lt (tgt := 104) hx hb dX0_countClosed_46 (by decide) (fun _ => ?_) (fun c => absurd (by decide) c)
      refine lv_iload_n hx hb dX0_countClosed_104 rfl (lv_at hl 1 rfl) ?_
      exact x_iretW (WS := xV d h ad) ((a1, w, f)) hx hb hr hlocks hS hP dX0_countClosed_105 ⟨hf1, rfl, rfl, by rw [← hn, hst.1]; rfl⟩
    | succ k =>
      have hl : lv_has ls 5 [(0, .ref (h)), (1, .int (nI n)), (2, .int (nI k)), (3, .int (nI step))] := hl
      obtain ⟨hp1, hk7⟩ := STK_pos hst
      refine lv_if_lt (tgt := 104) hx hb dX0_countClosed_46 (by decide) (fun c => absurd c (nI_pos (by omega))) (fun _ => ?_)
      refine lv_aload_n hx hb dX0_countClosed_49 rfl (lv_at hl 0 rfl) ?_
      refine lv_iload_n hx hb dX0_countClosed_50 rfl (lv_at hl 2 rfl) ?_
      refine x_roV (As := [.int (nI k)]) (rest := []) ⟨hx, hb, hml, hown, hts⟩ (mX0_unsettled l D d h ad a1 w f k (by omega)) (cwV 1 hts (lw_V q177 q179 qs13 q22 q180) rfl rfl rfl (by decide +kernel) ⟨Nat.le_of_ble_eq_true rfl, Nat.le_of_ble_eq_true rfl⟩) (va_recv hK hP (ci := 0) (q0 := 0) rfl rfl) hP hK hP hS hl rfl rfl (Nat.le_of_ble_eq_true rfl) dX0_countClosed_51 ⟨Nat.zero_le _, Nat.zero_le _⟩ (fun ru H locs hu hP hS => ?_)
      obtain ⟨v, hv7, e1, hu1, hu2⟩ := hu
      subst e1
      refine lv_istore (lv' := [(4, .int (nI v)), (0, .ref (h)), (1, .int (nI n)), (2, .int (nI k)), (3, .int (nI step))]) hx hb dX0_countClosed_54 hl (by decide) rfl (fun ls hl => ?_)
      refine lv_iload hx hb dX0_countClosed_56 (lv_at hl 0 rfl) ?_
      refine lv_bipush (v := nI 7) hx hb dX0_countClosed_58 (by decide) ?_
      refine x_ne hx hb (v) (7) rfl rfl (by omega) (by omega) (tgt := 72) dX0_countClosed_60 (by decide) (fun c2 => ?_) (fun c2 => ?_)
      · have hv : FU (a1 11 k ||| a1 12 k) v := ⟨by omega, hu1, hu2 (by omega)⟩
        have hus := us_pos hv
        have hkk : k < 7 := by
          obtain ⟨_, _, _, _, _, _, _, q, _⟩ := hst
          omega
        have hst3 : a1 13 k = nI 0 ∨ a1 13 k = nI 1 ∨ a1 13 k = nI 2 := by
          obtain ⟨_, _, _, _, _, _, _, _, q⟩ := hst
          exact FRM_st q
        refine lv_aload_n hx hb dX0_countClosed_72 rfl (lv_at hl 1 rfl) ?_
        refine va_get (D := D) (ci := 0) (v := .ref (ad 13)) (C := RX0) (T := TX0) (N := 14) hx hb hts in_X0 hown hK hP 0 rfl rfl 13 (by decide) (hts _ q45) (fun _ h9 => h9) rfl dX0_countClosed_73 ?_
        refine lv_iload_n hx hb dX0_countClosed_76 rfl (lv_at hl 3 rfl) ?_
        refine x_ald hx hb hK hP 12 11 rfl rfl (k) rfl (by omega) (by decide) dX0_countClosed_77 ?_
        refine lv_iconst (v := nI 2) hx hb dX0_countClosed_78 (by decide) ?_
        refine lv_icmp_ne (tgt := 88) hx hb dX0_countClosed_79 (by decide) (fun c3 => ?_) (fun c3 => ?_)
        · refine lv_aload_n hx hb dX0_countClosed_88 rfl (lv_at hl 1 rfl) ?_
          refine lv_iload_n hx hb dX0_countClosed_89 rfl (lv_at hl 3 rfl) ?_
          refine lv_iload hx hb dX0_countClosed_90 (lv_at hl 0 rfl) ?_
          refine x_wrv (xV d h ad) (As := [.int (nI k), .int (nI v)]) (rest := []) ⟨hx, hb, hml, hown, hts⟩ (mX0_branch l D d h ad Fr a1 w f k v hkk (by omega) hD) (cwV 2 hts (lw_V q181 q183 qs14 q22 q184) rfl rfl rfl (by decide +kernel) ⟨Nat.le_of_ble_eq_true rfl, Nat.le_of_ble_eq_true rfl⟩) (va_recv hK hP (ci := 0) (q0 := 0) rfl rfl) hK hP hS hl rfl rfl (Nat.le_of_ble_eq_true rfl) dX0_countClosed_92 ⟨Nat.zero_le _, Nat.zero_le _⟩ (fun u_ H locs hq hP hS => ?_)
          obtain ⟨a2, w2, f2⟩ := u_
          have hP : va_P D vwCl (xW d h ad a2 w2 f2) H := hP
          have hD : va_D Fr (xW d h ad a2 w2 f2) := x_Db hD rfl
          obtain ⟨hf2, e1, e2, h13, hbr⟩ := hq
          have e1 : w2 = w := e1
          rw [e1] at hP hD
          have e2 : f2 = f := e2
          rw [e2] at hP hD
          have h10 : a1 10 = a 10 := hf1 10 (by decide) (by decide) (by decide)
          have hbr : (a1 13 k = 0 ∧ a2 11 = upd (a1 11) (k + 1) (a1 11 k ||| (a1 10 v &&& nI 127)) ∧ a2 12 = upd (a1 12) (k + 1) (a1 12 k)) ∨ (a1 13 k ≠ 0 ∧ ∃ mr, (∀ z, z < 32 → (bt mr z = true ↔ z < 7 ∧ a1 10 z &&& (nI 1 <<< (nI v &&& 31)) ≠ 0)) ∧ a2 11 = upd (a1 11) (k + 1) (a1 11 k) ∧ a2 12 = upd (a1 12) (k + 1) (a1 12 k ||| mr)) := hbr
          have h13 : a2 13 = upd (upd (a1 13) k (a1 13 k + nI 1)) (k + 1) (nI 0) := h13
          have hf2 : ∀ j, j ≠ 11 → j ≠ 12 → j ≠ 13 → a2 j = a j := fun j h1 h2 h3 => (hf2 j h1 h2 h3).trans (hf1 j h1 h2 h3)
          have j1 : ∀ j, j < k → a2 13 j = a1 13 j := fun j hj => by rw [h13, pk_un (by omega), pk_un (by omega)]
          have j2 : a2 13 k = a1 13 k + nI 1 := by rw [h13, pk_un (by omega), pk_us]
          have j3 : a2 13 (k + 1) = nI 0 := by rw [h13, pk_us]
          have hnew : ∃ p1, STK (a 10) (a2 11) (a2 12) (a2 13) (k + 2) c_ p1 ∧ p1 + 1 ≤ p_ := by
            rcases hbr with ⟨q0, q1, q2⟩ | ⟨q0, mr, q1, q2, q3⟩
            · have q0 : a1 13 k = nI 0 := q0
              refine STK_take hR hst hv q0 (fun j hj => ⟨by rw [q1, pk_un (by omega)], by rw [q2, pk_un (by omega)]⟩) j1 (by rw [j2, q0]; rfl) j3 (by rw [q2, pk_us]) (fun z hz => ?_)
              rw [q1, pk_us, b_or, b_and, b_127 z (by omega), decide_eq_true hz, Bool.and_true, Bool.or_eq_true, h10]
            · have q4 : a1 13 k = nI 1 := by
                rcases hst3 with q | q | q
                · exact absurd q q0
                · exact q
                · exact absurd q c3
              refine STK_drop hR hst hv q4 (fun j hj => ⟨by rw [q2, pk_un (by omega)], by rw [q3, pk_un (by omega)]⟩) j1 (by rw [j2, q4]; rfl) j3 (by rw [q2, pk_us]) (fun z hz => ?_)
              rw [q3, pk_us, b_or, Bool.or_eq_true, q1 z (by omega), h10, b_one_and (by omega)]
              constructor
              · rintro (q | q)
                · exact Or.inl q
                · exact Or.inr q.2
              · rintro (q | q)
                · exact Or.inl q
                · exact Or.inr ⟨hz, q⟩
          obtain ⟨p1, h0, hp⟩ := hnew
          refine lv_iinc (v := pm (k + 2)) (lv' := [(2, .int (pm (k + 2))), (4, .int (nI v)), (0, .ref (h)), (1, .int (nI n)), (3, .int (nI step))]) hx hb dX0_countClosed_95 hl (k := 3) rfl (pm_inc k) (by decide) rfl (fun ls hl => ?_)
          refine lv_iinc (v := nI (step + 1)) (lv' := [(3, .int (nI (step + 1))), (2, .int (pm (k + 2))), (4, .int (nI v)), (0, .ref (h)), (1, .int (nI n))]) hx hb dX0_countClosed_98 hl (k := 4) rfl (x_inc _) (by decide) rfl (fun ls hl => ?_)
          refine lv_goto (tgt := 38) hx hb dX0_countClosed_101 (by decide) ?_
          exact ih ((k + 2, n, step + 1, a2)) (show (∀ j, j ≠ 11 → j ≠ 12 → j ≠ 13 → a2 j = a j) ∧ ∃ c_ p_, STK (a 10) (a2 11) (a2 12) (a2 13) (k + 2) c_ p_ ∧ n + c_ = cp (CR (a 10)) 128 ∧ (step + 1) + p_ ≤ 4000 from ⟨hf2, c_, p1, h0, hn, by omega⟩) (by show 4000 - (step + 1) < 4000 - step; omega) _ _ _ hP hD hS (lv_sub hl [3, 4, 1, 0] rfl)
        · obtain ⟨p1, h0, hp⟩ := STK_pop hst c3
          refine lv_iinc (v := pm k) (lv' := [(2, .int (pm k)), (4, .int (nI v)), (0, .ref (h)), (1, .int (nI n)), (3, .int (nI step))]) hx hb dX0_countClosed_82 hl (k := 3) rfl (pm_dec k) (by decide) rfl (fun ls hl => ?_)
          refine lv_goto (tgt := 98) hx hb dX0_countClosed_85 (by decide) ?_
          refine lv_iinc (v := nI (step + 1)) (lv' := [(3, .int (nI (step + 1))), (2, .int (pm k)), (4, .int (nI v)), (0, .ref (h)), (1, .int (nI n))]) hx hb dX0_countClosed_98 hl (k := 4) rfl (x_inc _) (by decide) rfl (fun ls hl => ?_)
          refine lv_goto (tgt := 38) hx hb dX0_countClosed_101 (by decide) ?_
          exact ih ((k, n, step + 1, a1)) (show (∀ j, j ≠ 11 → j ≠ 12 → j ≠ 13 → a1 j = a j) ∧ ∃ c_ p_, STK (a 10) (a1 11) (a1 12) (a1 13) k c_ p_ ∧ n + c_ = cp (CR (a 10)) 128 ∧ (step + 1) + p_ ≤ 4000 from ⟨hf1, c_, p1, h0, hn, by omega⟩) (by show 4000 - (step + 1) < 4000 - step; omega) _ _ _ hP hD hS (lv_sub hl [3, 4, 1, 0] rfl)
      · subst c2
        obtain ⟨c0, p1, h0, hc, hp⟩ := STK_done hst hu1
        refine lv_iinc (v := nI (n + 1)) (lv' := [(1, .int (nI (n + 1))), (4, .int (nI 7)), (0, .ref (h)), (2, .int (nI k)), (3, .int (nI step))]) hx hb dX0_countClosed_63 hl (k := 2) rfl (x_inc _) (by decide) rfl (fun ls hl => ?_)
        refine lv_iinc (v := pm k) (lv' := [(2, .int (pm k)), (1, .int (nI (n + 1))), (4, .int (nI 7)), (0, .ref (h)), (3, .int (nI step))]) hx hb dX0_countClosed_66 hl (k := 3) rfl (pm_dec k) (by decide) rfl (fun ls hl => ?_)
        refine lv_goto (tgt := 98) hx hb dX0_countClosed_69 (by decide) ?_
        refine lv_iinc (v := nI (step + 1)) (lv' := [(3, .int (nI (step + 1))), (2, .int (pm k)), (1, .int (nI (n + 1))), (4, .int (nI 7)), (0, .ref (h))]) hx hb dX0_countClosed_98 hl (k := 4) rfl (x_inc _) (by decide) rfl (fun ls hl => ?_)
        refine lv_goto (tgt := 38) hx hb dX0_countClosed_101 (by decide) ?_
        exact ih ((k, n + 1, step + 1, a1)) (show (∀ j, j ≠ 11 → j ≠ 12 → j ≠ 13 → a1 j = a j) ∧ ∃ c_ p_, STK (a 10) (a1 11) (a1 12) (a1 13) k c_ p_ ∧ (n + 1) + c_ = cp (CR (a 10)) 128 ∧ (step + 1) + p_ ≤ 4000 from ⟨hf1, c0, p1, h0, by omega, by omega⟩) (by show 4000 - (step + 1) < 4000 - step; omega) _ _ _ hP hD hS (lv_sub hl [4, 2, 1, 0] rfl)
set_option maxHeartbeats 4000000 in
set_option maxRecDepth 100000 in
theorem mX0_ties (l : Launch) (D : va_G) (d : Nat → ClassId) (h : Nat) (ad : Nat → Nat) (Fr : Nat → Prop) (a : Nat → Nat → Int32) (w f : Int32) (x : Int32) (hok : XOK a w f) (hD : va_D Fr (xW d h ad a w f)) : Met l yX0_ties (ws_ yX0_ties cX0_ties 2 (some .int)) xr3 (x_Pc D (xT d) (xW d h ad a w f) [.ref (h), .int (x)]) (va_Qi (fun r (u' : xS) => XK a u' ∧ ((¬ isN x 51 ∧ r = -2) ∨ ∃ n, n < 51 ∧ x = nI n ∧ r = nI (tie a n))) (fun u t => va_P D vwCl (xV d h ad u) t.heap) Fr) 0 0 Fr := by
  refine Met.ofW (cc := cX0_ties) (maxL := 2) (ret := (some .int)) (by decide) rfl ?_
  intro p e s m args below meth c s₁ B hml hv
  obtain ⟨rfl, hP, hK⟩ := hv
  have hx := B.exec
  have hb := B.bytes
  have hr := B.returns
  have hlocks := B.notSynchronized
  have hts := atoms_spec (ws := (ws_ yX0_ties cX0_ties 2 (some .int))) B.pre
  have hts : ∀ w ∈ lw_all, w.before _ s = true := fun w h => hts w (List.mem_cons_of_mem _ h)
  have hown : s.vm.findClass RX0 = some m.cls := findClass_of_methodNamed B.named
  have hS : va_S Fr s.heap s.heap [] := va_S.rf
  have hl := lv_entry ([.ref (h), .int (x)]) (n := 2) (Nat.le_of_ble_eq_true rfl)
  rw [lg_entry_eq]
  generalize (lg_sl ([.ref (h), .int (x)]) ++ List.replicate (2 - (lg_sl ([.ref (h), .int (x)])).length) Slot.unset).toArray = ls at hl ⊢
  have hl : lv_has ls 2 [(0, .ref (h)), (1, .int (x))] := hl
  have hP : va_P D vwCl (xW d h ad a w f) s.heap := hP
  refine lv_iload_n hx hb dX0_ties_0 rfl (lv_at hl 1 rfl) ?_
  refine x_roS (As := [.int (x)]) (rest := []) ⟨hx, hb, hml, hown, hts⟩ (mX0_badX l D x) (va_cwS 1 hts (lw_S q102 q103 q22 q104) rfl rfl rfl (by decide +kernel) ⟨Nat.le_of_ble_eq_true rfl, Nat.le_of_ble_eq_true rfl⟩) x_P0 (hK.sub [] rfl) hP hS hl rfl rfl (Nat.le_of_ble_eq_true rfl) dX0_ties_1 ⟨Nat.zero_le _, Nat.zero_le _⟩ (fun r_ H locs e_ hP hS => ?_)
  rcases e_ with ⟨e_, hb_n⟩ | ⟨e_, n, hn, ev_⟩
  · subst e_
    refine lv_if_eq (tgt := 10) hx hb dX0_ties_4 (by decide) (fun c => absurd c (by decide)) (fun _ => ?_)
    refine lv_bipush (v := -2) hx hb dX0_ties_7 (by decide) ?_
    exact x_iretW (WS := xV d h ad) ((a, w, f)) hx hb hr hlocks hS hP dX0_ties_9 ⟨⟨hok, fun _ _ => rfl⟩, Or.inl ⟨hb_n, rfl⟩⟩
  · subst e_
    subst ev_
    refine lv_if_eq (tgt := 10) hx hb dX0_ties_4 (by decide) (fun _ => ?_) (fun c => absurd rfl c)
    refine lv_aload_n hx hb dX0_ties_10 rfl (lv_at hl 0 rfl) ?_
    refine lv_iload_n hx hb dX0_ties_11 rfl (lv_at hl 1 rfl) ?_
    refine x_wrv (xV d h ad) (As := [.int ((nI n))]) (rest := []) ⟨hx, hb, hml, hown, hts⟩ (mX0_work l D d h ad Fr a w f n (by omega) hok hD) (cwV 1 hts (lw_V q124 q126 qs3 q22 q127) rfl rfl rfl (by decide +kernel) ⟨Nat.le_of_ble_eq_true rfl, Nat.le_of_ble_eq_true rfl⟩) (va_recv hK hP (ci := 0) (q0 := 0) rfl rfl) hK hP hS hl rfl rfl (Nat.le_of_ble_eq_true rfl) dX0_ties_12 ⟨Nat.zero_le _, Nat.zero_le _⟩ (fun u_ H locs hq hP hS => ?_)
    obtain ⟨a1, w1, f1⟩ := u_
    have hP : va_P D vwCl (xW d h ad a1 w1 f1) H := hP
    have hD : va_D Fr (xW d h ad a1 w1 f1) := x_Db hD rfl
    obtain ⟨hf, e1, hW⟩ := hq
    have e1 : w1 = (nI n) := e1
    rw [e1] at hP hD
    have hW : Wk a n (zL (a1 5)) f1.toInt (a1 10) := hW
    refine lv_aload_n hx hb dX0_ties_15 rfl (lv_at hl 0 rfl) ?_
    refine x_wri (xV d h ad) (As := []) (rest := []) ⟨hx, hb, hml, hown, hts⟩ (mX0_countClosed l D d h ad Fr a1 (nI n) f1 (wk_RT hW) hD) (cwV 0 hts (lw_V q173 q175 qs12 q22 q176) rfl rfl rfl (by decide +kernel) ⟨Nat.le_of_ble_eq_true rfl, Nat.le_of_ble_eq_true rfl⟩) (va_recv hK hP (ci := 0) (q0 := 0) rfl rfl) hK hP hS hl rfl rfl (Nat.le_of_ble_eq_true rfl) dX0_ties_16 ⟨Nat.zero_le _, Nat.zero_le _⟩ (fun r1 u_ H locs hq2 hP hS => ?_)
    obtain ⟨a2, w2, f2⟩ := u_
    have hP : va_P D vwCl (xW d h ad a2 w2 f2) H := hP
    have hD : va_D Fr (xW d h ad a2 w2 f2) := x_Db hD rfl
    obtain ⟨hf2, e2, e3, hc⟩ := hq2
    have e2 : w2 = (nI n) := e2
    rw [e2] at hP hD
    have e3 : f2 = f1 := e3
    rw [e3] at hP hD
    have hf3 : ∀ j, j < 5 → a2 j = a j := fun j hj => (hf2 j (by omega) (by omega) (by omega)).trans (hf j hj)
    have h5 : a2 5 = a1 5 := hf2 5 (by decide) (by decide) (by decide)
    have h10 : a2 10 = a1 10 := hf2 10 (by decide) (by decide) (by decide)
    have hk1 := XOK_of hok.1 hf3 hn (by rw [h5, h10]; exact hW)
    exact x_iretW (WS := xV d h ad) ((a2, nI n, f1)) hx hb hr hlocks hS hP dX0_ties_19 ⟨⟨hk1, hf3⟩, Or.inr ⟨n, hn, rfl, by rw [hc, wk_tie hW]⟩⟩
end
section
/-! the reference: isNode, isNumber, isPull, link, toSource, toSink, flip, price, cost -/
section WJ
variable {p : Program} {l : Launch} {e : Env} {R : Room} {s : State} {m : MethodId} {args : Array Value} {below : List Frame} {meth : Method} {c : Code} {H : Heap} {locs : List Loc} {cells slots : Nat} {Q : State → Prop}
variable {pc : Nat} {ls : Array Slot} {D : va_G} {cl : List vw_C} {A : Nat → Prop} {ws : va_W} {H0 : Heap}
/-- ways come together with other locals -/
theorem x_joinl {σ : Type} {st : List Value} (pc2 nL : Nat) (LV : σ → List (Nat × Value)) (P : σ → Prop)
    (k : ∀ (r : σ) (H : Heap) (locs : List Loc) (ls : Array Slot), P r → va_P D cl ws H → va_S A H0 H locs → lv_has ls nL (LV r) → W p l e R s m args below meth c H locs cells slots Q (F0 m pc2 ls []))
    (h : (∀ (r : σ) (H : Heap) (locs : List Loc) (ls : Array Slot), P r → va_P D cl ws H → va_S A H0 H locs → lv_has ls nL (LV r) → W p l e R s m args below meth c H locs cells slots Q (F0 m pc2 ls [])) → W p l e R s m args below meth c H locs cells slots Q (F0 m pc ls st)) : W p l e R s m args below meth c H locs cells slots Q (F0 m pc ls st) := h k
end WJ
theorem b_inT {x : Int32} {v : Nat} (hv : v < 32) : (x >>> (nI v &&& 31)) &&& nI 1 = nI (bt x v).toNat := by
  rw [b_in0 hv]
  cases bt x v <;> rfl
set_option maxHeartbeats 4000000 in
set_option maxRecDepth 100000 in
theorem mX1_isNode (l : Launch) (D : va_G) (d : Nat → ClassId) (h : Nat) (ad : Nat → Nat) (b : Nat → Nat → Int32) (v : Int32) : Met l yX1_isNode (ws_ yX1_isNode cX1_isNode 2 (some .boolean)) xr0 (x_Pc D (mT d) (mW d h ad b) [.ref (h), .int (v)]) (x_QR (fun r => (r = nI 0 ∧ ¬ isN v 7) ∨ (r = nI 1 ∧ isN v 7))) 0 0 x_no := by
  refine Met.ofW (cc := cX1_isNode) (maxL := 2) (ret := (some .boolean)) (by decide) rfl ?_
  intro p e s m args below meth c s₁ B hml hv
  obtain ⟨rfl, hP, hK⟩ := hv
  have hx := B.exec
  have hb := B.bytes
  have hr := B.returns
  have hlocks := B.notSynchronized
  have hts := atoms_spec (ws := (ws_ yX1_isNode cX1_isNode 2 (some .boolean))) B.pre
  have hts : ∀ w ∈ lw_all, w.before _ s = true := fun w h => hts w (List.mem_cons_of_mem _ h)
  have hown : s.vm.findClass RX1 = some m.cls := findClass_of_methodNamed B.named
  have hS : va_S x_no s.heap s.heap [] := va_S.rf
  have hl := lv_entry ([.ref (h), .int (v)]) (n := 2) (Nat.le_of_ble_eq_true rfl)
  rw [lg_entry_eq]
  generalize (lg_sl ([.ref (h), .int (v)]) ++ List.replicate (2 - (lg_sl ([.ref (h), .int (v)])).length) Slot.unset).toArray = ls at hl ⊢
  have hl : lv_has ls 2 [(0, .ref (h)), (1, .int (v))] := hl
  have hP : va_P D vwCl (mW d h ad b) s.heap := hP
  have hv0 := isN_iff (v := v) (N := 7) (by decide)
  have hz : (nI 7).toInt = 7 := rfl
  have hz0 : (0 : Int32).toInt = 0 := rfl
  refine lv_iload_n hx hb dX1_isNode_0 rfl (lv_at hl 1 rfl) ?_
  refine lv_if_lt (tgt := 14) hx hb dX1_isNode_1 (by decide) (fun c1 => ?_) (fun c1 => ?_)
  · rw [z_lt] at c1
    refine lv_iconst (v := nI 0) hx hb dX1_isNode_14 (by decide) ?_
    exact x_zret hx hb hr hlocks hS dX1_isNode_15 (Or.inl rfl) (Or.inl ⟨rfl, fun q => by have := hv0.mp q; omega⟩)
  · rw [z_lt] at c1
    refine lv_iload_n hx hb dX1_isNode_4 rfl (lv_at hl 1 rfl) ?_
    refine lv_bipush (v := nI 7) hx hb dX1_isNode_5 (by decide) ?_
    refine lv_icmp_ge (tgt := 14) hx hb dX1_isNode_7 (by decide) (fun c2 => ?_) (fun c2 => ?_)
    · rw [z_le] at c2
      refine lv_iconst (v := nI 0) hx hb dX1_isNode_14 (by decide) ?_
      exact x_zret hx hb hr hlocks hS dX1_isNode_15 (Or.inl rfl) (Or.inl ⟨rfl, fun q => by have := hv0.mp q; omega⟩)
    · rw [z_le] at c2
      refine lv_iconst (v := nI 1) hx hb dX1_isNode_10 (by decide) ?_
      refine lv_goto (tgt := 15) hx hb dX1_isNode_11 (by decide) ?_
      exact x_zret hx hb hr hlocks hS dX1_isNode_15 (Or.inr rfl) (Or.inr ⟨rfl, hv0.mpr (by omega)⟩)
set_option maxHeartbeats 4000000 in
set_option maxRecDepth 100000 in
theorem mX1_isNumber (l : Launch) (D : va_G) (d : Nat → ClassId) (h : Nat) (ad : Nat → Nat) (b : Nat → Nat → Int32) (v : Int32) : Met l yX1_isNumber (ws_ yX1_isNumber cX1_isNumber 2 (some .boolean)) xr0 (x_Pc D (mT d) (mW d h ad b) [.ref (h), .int (v)]) (x_QR (fun r => (r = nI 0 ∧ ¬ isN v 51) ∨ (r = nI 1 ∧ isN v 51))) 0 0 x_no := by
  refine Met.ofW (cc := cX1_isNumber) (maxL := 2) (ret := (some .boolean)) (by decide) rfl ?_
  intro p e s m args below meth c s₁ B hml hv
  obtain ⟨rfl, hP, hK⟩ := hv
  have hx := B.exec
  have hb := B.bytes
  have hr := B.returns
  have hlocks := B.notSynchronized
  have hts := atoms_spec (ws := (ws_ yX1_isNumber cX1_isNumber 2 (some .boolean))) B.pre
  have hts : ∀ w ∈ lw_all, w.before _ s = true := fun w h => hts w (List.mem_cons_of_mem _ h)
  have hown : s.vm.findClass RX1 = some m.cls := findClass_of_methodNamed B.named
  have hS : va_S x_no s.heap s.heap [] := va_S.rf
  have hl := lv_entry ([.ref (h), .int (v)]) (n := 2) (Nat.le_of_ble_eq_true rfl)
  rw [lg_entry_eq]
  generalize (lg_sl ([.ref (h), .int (v)]) ++ List.replicate (2 - (lg_sl ([.ref (h), .int (v)])).length) Slot.unset).toArray = ls at hl ⊢
  have hl : lv_has ls 2 [(0, .ref (h)), (1, .int (v))] := hl
  have hP : va_P D vwCl (mW d h ad b) s.heap := hP
  have hv0 := isN_iff (v := v) (N := 51) (by decide)
  have hz : (nI 50).toInt = 50 := rfl
  have hz0 : (0 : Int32).toInt = 0 := rfl
  refine lv_iload_n hx hb dX1_isNumber_0 rfl (lv_at hl 1 rfl) ?_
  refine lv_if_lt (tgt := 14) hx hb dX1_isNumber_1 (by decide) (fun c1 => ?_) (fun c1 => ?_)
  · rw [z_lt] at c1
    refine lv_iconst (v := nI 0) hx hb dX1_isNumber_14 (by decide) ?_
    exact x_zret hx hb hr hlocks hS dX1_isNumber_15 (Or.inl rfl) (Or.inl ⟨rfl, fun q => by have := hv0.mp q; omega⟩)
  · rw [z_lt] at c1
    refine lv_iload_n hx hb dX1_isNumber_4 rfl (lv_at hl 1 rfl) ?_
    refine lv_bipush (v := nI 50) hx hb dX1_isNumber_5 (by decide) ?_
    refine lv_icmp_gt (tgt := 14) hx hb dX1_isNumber_7 (by decide) (fun c2 => ?_) (fun c2 => ?_)
    · rw [z_lt] at c2
      refine lv_iconst (v := nI 0) hx hb dX1_isNumber_14 (by decide) ?_
      exact x_zret hx hb hr hlocks hS dX1_isNumber_15 (Or.inl rfl) (Or.inl ⟨rfl, fun q => by have := hv0.mp q; omega⟩)
    · rw [z_lt] at c2
      refine lv_iconst (v := nI 1) hx hb dX1_isNumber_10 (by decide) ?_
      refine lv_goto (tgt := 15) hx hb dX1_isNumber_11 (by decide) ?_
      exact x_zret hx hb hr hlocks hS dX1_isNumber_15 (Or.inr rfl) (Or.inr ⟨rfl, hv0.mpr (by omega)⟩)
set_option maxHeartbeats 4000000 in
set_option maxRecDepth 100000 in
theorem mX1_isPull (l : Launch) (D : va_G) (d : Nat → ClassId) (h : Nat) (ad : Nat → Nat) (b : Nat → Nat → Int32) (v sl : Int32) : Met l yX1_isPull (ws_ yX1_isPull cX1_isPull 3 (some .boolean)) xr0 (x_Pc D (mT d) (mW d h ad b) [.ref (h), .int (v), .int (sl)]) (x_QR (fun r => (r = nI 0 ∧ ¬ okP v sl) ∨ (r = nI 1 ∧ okP v sl))) 0 0 x_no := by
  refine Met.ofW (cc := cX1_isPull) (maxL := 3) (ret := (some .boolean)) (by decide) rfl ?_
  intro p e s m args below meth c s₁ B hml hv
  obtain ⟨rfl, hP, hK⟩ := hv
  have hx := B.exec
  have hb := B.bytes
  have hr := B.returns
  have hlocks := B.notSynchronized
  have hts := atoms_spec (ws := (ws_ yX1_isPull cX1_isPull 3 (some .boolean))) B.pre
  have hts : ∀ w ∈ lw_all, w.before _ s = true := fun w h => hts w (List.mem_cons_of_mem _ h)
  have hown : s.vm.findClass RX1 = some m.cls := findClass_of_methodNamed B.named
  have hS : va_S x_no s.heap s.heap [] := va_S.rf
  have hl := lv_entry ([.ref (h), .int (v), .int (sl)]) (n := 3) (Nat.le_of_ble_eq_true rfl)
  rw [lg_entry_eq]
  generalize (lg_sl ([.ref (h), .int (v), .int (sl)]) ++ List.replicate (3 - (lg_sl ([.ref (h), .int (v), .int (sl)])).length) Slot.unset).toArray = ls at hl ⊢
  have hl : lv_has ls 3 [(0, .ref (h)), (1, .int (v)), (2, .int (sl))] := hl
  have hP : va_P D vwCl (mW d h ad b) s.heap := hP
  have hz0 : (0 : Int32).toInt = 0 := rfl
  have hz40 : (nI 40).toInt = 40 := rfl
  have hz2 : (nI 2).toInt = 2 := rfl
  have hzm : (-2 : Int32).toInt = -2 := rfl
  refine lv_iload_n hx hb dX1_isPull_0 rfl (lv_at hl 1 rfl) ?_
  refine lv_if_lt (tgt := 25) hx hb dX1_isPull_1 (by decide) (fun c0 => ?_) (fun c0 => ?_)
  · rw [z_lt] at c0
    refine lv_iconst (v := nI 0) hx hb dX1_isPull_25 (by decide) ?_
    exact x_zret hx hb hr hlocks hS dX1_isPull_26 (Or.inl rfl) (Or.inl ⟨rfl, fun q => by unfold okP at q; omega⟩)
  · rw [z_lt] at c0
    refine lv_iload_n hx hb dX1_isPull_4 rfl (lv_at hl 1 rfl) ?_
    refine lv_bipush (v := nI 40) hx hb dX1_isPull_5 (by decide) ?_
    refine lv_icmp_gt (tgt := 25) hx hb dX1_isPull_7 (by decide) (fun c1 => ?_) (fun c1 => ?_)
    · rw [z_lt] at c1
      refine lv_iconst (v := nI 0) hx hb dX1_isPull_25 (by decide) ?_
      exact x_zret hx hb hr hlocks hS dX1_isPull_26 (Or.inl rfl) (Or.inl ⟨rfl, fun q => by unfold okP at q; omega⟩)
    · rw [z_lt] at c1
      refine lv_iload_n hx hb dX1_isPull_10 rfl (lv_at hl 2 rfl) ?_
      refine lv_bipush (v := -2) hx hb dX1_isPull_11 (by decide) ?_
      refine lv_icmp_lt (tgt := 25) hx hb dX1_isPull_13 (by decide) (fun c2 => ?_) (fun c2 => ?_)
      · rw [z_lt] at c2
        refine lv_iconst (v := nI 0) hx hb dX1_isPull_25 (by decide) ?_
        exact x_zret hx hb hr hlocks hS dX1_isPull_26 (Or.inl rfl) (Or.inl ⟨rfl, fun q => by unfold okP at q; omega⟩)
      · rw [z_lt] at c2
        refine lv_iload_n hx hb dX1_isPull_16 rfl (lv_at hl 2 rfl) ?_
        refine lv_iconst (v := nI 2) hx hb dX1_isPull_17 (by decide) ?_
        refine lv_icmp_gt (tgt := 25) hx hb dX1_isPull_18 (by decide) (fun c3 => ?_) (fun c3 => ?_)
        · rw [z_lt] at c3
          refine lv_iconst (v := nI 0) hx hb dX1_isPull_25 (by decide) ?_
          exact x_zret hx hb hr hlocks hS dX1_isPull_26 (Or.inl rfl) (Or.inl ⟨rfl, fun q => by unfold okP at q; omega⟩)
        · rw [z_lt] at c3
          refine lv_iconst (v := nI 1) hx hb dX1_isPull_21 (by decide) ?_
          refine lv_goto (tgt := 26) hx hb dX1_isPull_22 (by decide) ?_
          exact x_zret hx hb hr hlocks hS dX1_isPull_26 (Or.inr rfl) (Or.inr ⟨rfl, by unfold okP; omega⟩)
set_option maxHeartbeats 4000000 in
set_option maxRecDepth 100000 in
theorem mX1_link (l : Launch) (D : va_G) (d : Nat → ClassId) (h : Nat) (ad : Nat → Nat) (Fr : Nat → Prop) (b : Nat → Nat → Int32) (u v cc_ : Int32) (hD : va_D Fr (mW d h ad b)) : Met l yX1_link (ws_ yX1_link cX1_link 5 (some .int)) xr1 (x_Pc D (mT d) (mW d h ad b) [.ref (h), .int (u), .int (v), .int (cc_)]) (va_Qi (fun r (b' : Nat → Nat → Int32) => lkQ b u v cc_ r b') (fun u t => va_P D vwCl (mW d h ad u) t.heap) Fr) 0 0 Fr := by
  refine Met.ofW (cc := cX1_link) (maxL := 5) (ret := (some .int)) (by decide) rfl ?_
  intro p e s m args below meth c s₁ B hml hv
  obtain ⟨rfl, hP, hK⟩ := hv
  have hx := B.exec
  have hb := B.bytes
  have hr := B.returns
  have hlocks := B.notSynchronized
  have hts := atoms_spec (ws := (ws_ yX1_link cX1_link 5 (some .int))) B.pre
  have hts : ∀ w ∈ lw_all, w.before _ s = true := fun w h => hts w (List.mem_cons_of_mem _ h)
  have hown : s.vm.findClass RX1 = some m.cls := findClass_of_methodNamed B.named
  have hS : va_S Fr s.heap s.heap [] := va_S.rf
  have hl := lv_entry ([.ref (h), .int (u), .int (v), .int (cc_)]) (n := 5) (Nat.le_of_ble_eq_true rfl)
  rw [lg_entry_eq]
  generalize (lg_sl ([.ref (h), .int (u), .int (v), .int (cc_)]) ++ List.replicate (5 - (lg_sl ([.ref (h), .int (u), .int (v), .int (cc_)])).length) Slot.unset).toArray = ls at hl ⊢
  have hl : lv_has ls 5 [(0, .ref (h)), (1, .int (u)), (2, .int (v)), (3, .int (cc_))] := hl
  have hP : va_P D vwCl (mW d h ad b) s.heap := hP
  refine lv_aload_n hx hb dX1_link_0 rfl (lv_at hl 0 rfl) ?_
  refine lv_iload_n hx hb dX1_link_1 rfl (lv_at hl 1 rfl) ?_
  refine x_roV (As := [.int (u)]) (rest := []) ⟨hx, hb, hml, hown, hts⟩ (mX1_isNode l D d h ad b u) (cwV 1 hts (lw_V q240 q242 qs17 q23 q243) rfl rfl rfl (by decide +kernel) ⟨Nat.le_of_ble_eq_true rfl, Nat.le_of_ble_eq_true rfl⟩) (va_recv hK hP (ci := 1) (q0 := 0) rfl rfl) hP hK hP hS hl rfl rfl (Nat.le_of_ble_eq_true rfl) dX1_link_2 ⟨Nat.zero_le _, Nat.zero_le _⟩ (fun r_ H locs e_ hP hS => ?_)
  rcases e_ with ⟨e_, hb_nu⟩ | ⟨e_, nu, hnu, ev_⟩
  · subst e_
    refine lv_if_eq (tgt := 21) hx hb dX1_link_5 (by decide) (fun _ => ?_) (fun c => absurd rfl c)
    refine lv_iconst (v := -1) hx hb dX1_link_21 (by decide) ?_
    exact x_iretW (WS := mW d h ad) (b) hx hb hr hlocks hS hP dX1_link_22 (Or.inl ⟨Or.inl hb_nu, rfl, rfl⟩)
  · subst e_
    subst ev_
    refine lv_if_eq (tgt := 21) hx hb dX1_link_5 (by decide) (fun c => absurd c (by decide)) (fun _ => ?_)
    refine lv_aload_n hx hb dX1_link_8 rfl (lv_at hl 0 rfl) ?_
    refine lv_iload_n hx hb dX1_link_9 rfl (lv_at hl 2 rfl) ?_
    refine x_roV (As := [.int (v)]) (rest := []) ⟨hx, hb, hml, hown, hts⟩ (mX1_isNode l D d h ad b v) (cwV 1 hts (lw_V q240 q242 qs17 q23 q243) rfl rfl rfl (by decide +kernel) ⟨Nat.le_of_ble_eq_true rfl, Nat.le_of_ble_eq_true rfl⟩) (va_recv hK hP (ci := 1) (q0 := 0) rfl rfl) hP hK hP hS hl rfl rfl (Nat.le_of_ble_eq_true rfl) dX1_link_10 ⟨Nat.zero_le _, Nat.zero_le _⟩ (fun r_ H locs e_ hP hS => ?_)
    rcases e_ with ⟨e_, hb_nv⟩ | ⟨e_, nv, hnv, ev_⟩
    · subst e_
      refine lv_if_eq (tgt := 21) hx hb dX1_link_13 (by decide) (fun _ => ?_) (fun c => absurd rfl c)
      refine lv_iconst (v := -1) hx hb dX1_link_21 (by decide) ?_
      exact x_iretW (WS := mW d h ad) (b) hx hb hr hlocks hS hP dX1_link_22 (Or.inl ⟨Or.inr (Or.inl hb_nv), rfl, rfl⟩)
    · subst e_
      subst ev_
      refine lv_if_eq (tgt := 21) hx hb dX1_link_13 (by decide) (fun c => absurd c (by decide)) (fun _ => ?_)
      refine lv_iload_n hx hb dX1_link_16 rfl (lv_at hl 1 rfl) ?_
      refine lv_iload_n hx hb dX1_link_17 rfl (lv_at hl 2 rfl) ?_
      refine x_ne hx hb (nu) (nv) rfl rfl (by omega) (by omega) (tgt := 23) dX1_link_18 (by decide) (fun c1 => ?_) (fun c1 => ?_)
      · have hc := isN_iff (v := cc_) (N := 21) (by decide)
        have hz0 : (0 : Int32).toInt = 0 := rfl
        have hz20 : (nI 20).toInt = 20 := rfl
        refine lv_iload_n hx hb dX1_link_23 rfl (lv_at hl 3 rfl) ?_
        refine lv_if_lt (tgt := 33) hx hb dX1_link_24 (by decide) (fun c2 => ?_) (fun c2 => ?_)
        · rw [z_lt] at c2
          refine lv_bipush (v := -2) hx hb dX1_link_33 (by decide) ?_
          exact x_iretW (WS := mW d h ad) (b) hx hb hr hlocks hS hP dX1_link_35 (Or.inr (Or.inl ⟨lkB_not hnu hnv c1, fun q => by have := hc.mp q; omega, rfl, rfl⟩))
        · rw [z_lt] at c2
          refine lv_iload_n hx hb dX1_link_27 rfl (lv_at hl 3 rfl) ?_
          refine lv_bipush (v := nI 20) hx hb dX1_link_28 (by decide) ?_
          refine lv_icmp_le (tgt := 36) hx hb dX1_link_30 (by decide) (fun c3 => ?_) (fun c3 => ?_)
          · rw [z_le] at c3
            refine lv_aload_n hx hb dX1_link_36 rfl (lv_at hl 0 rfl) ?_
            refine va_get (D := D) (ci := 1) (v := .ref (ad 0)) (C := RX1) (T := TX1) (N := 6) hx hb hts in_X1 hown hK hP 0 rfl rfl 0 (by decide) (hts _ q216) (fun _ h9 => h9) rfl dX1_link_37 ?_
            refine lv_iload_n hx hb dX1_link_40 rfl (lv_at hl 1 rfl) ?_
            refine lv_bipush (v := nI 7) hx hb dX1_link_41 (by decide) ?_
            refine lv_imul hx hb dX1_link_43 ?_
            refine lv_iload_n hx hb dX1_link_44 rfl (lv_at hl 2 rfl) ?_
            refine lv_iadd hx hb dX1_link_45 ?_
            refine x_ald hx hb hK hP 1 0 rfl rfl (nu * 7 + nv) (by simp only [pk_mul, nI_add]) (by omega) (by decide) dX1_link_46 ?_
            refine lv_istore (lv' := [(4, .int (b 0 (nu * 7 + nv))), (0, .ref (h)), (1, .int ((nI nu))), (2, .int ((nI nv))), (3, .int (cc_))]) hx hb dX1_link_47 hl (by decide) rfl (fun ls hl => ?_)
            refine lv_aload_n hx hb dX1_link_49 rfl (lv_at hl 1 rfl) ?_
            refine va_get (D := D) (ci := 1) (v := .ref (ad 0)) (C := RX1) (T := TX1) (N := 6) hx hb hts in_X1 hown hK hP 0 rfl rfl 0 (by decide) (hts _ q216) (fun _ h9 => h9) rfl dX1_link_50 ?_
            refine lv_iload_n hx hb dX1_link_53 rfl (lv_at hl 2 rfl) ?_
            refine lv_bipush (v := nI 7) hx hb dX1_link_54 (by decide) ?_
            refine lv_imul hx hb dX1_link_56 ?_
            refine lv_iload_n hx hb dX1_link_57 rfl (lv_at hl 3 rfl) ?_
            refine lv_iadd hx hb dX1_link_58 ?_
            refine lv_iload_n hx hb dX1_link_59 rfl (lv_at hl 4 rfl) ?_
            refine x_ast hx hb hK hP hD hS 1 0 rfl rfl (nu * 7 + nv) (by simp only [pk_mul, nI_add]) (by omega) (by decide) dX1_link_60 (fun H locs hP hD hS => ?_)
            have hP : va_P D vwCl (mW d h ad (va_up b 0 (upd (b 0) (nu * 7 + nv) (cc_)))) H := hP
            have hD : va_D Fr (mW d h ad (va_up b 0 (upd (b 0) (nu * 7 + nv) (cc_)))) := hD
            refine lv_aload_n hx hb dX1_link_61 rfl (lv_at hl 1 rfl) ?_
            refine va_get (D := D) (ci := 1) (v := .ref (ad 0)) (C := RX1) (T := TX1) (N := 6) hx hb hts in_X1 hown hK hP 0 rfl rfl 0 (by decide) (hts _ q216) (fun _ h9 => h9) rfl dX1_link_62 ?_
            refine lv_iload_n hx hb dX1_link_65 rfl (lv_at hl 3 rfl) ?_
            refine lv_bipush (v := nI 7) hx hb dX1_link_66 (by decide) ?_
            refine lv_imul hx hb dX1_link_68 ?_
            refine lv_iload_n hx hb dX1_link_69 rfl (lv_at hl 2 rfl) ?_
            refine lv_iadd hx hb dX1_link_70 ?_
            refine lv_iload_n hx hb dX1_link_71 rfl (lv_at hl 4 rfl) ?_
            refine x_ast hx hb hK hP hD hS 1 0 rfl rfl (nv * 7 + nu) (by simp only [pk_mul, nI_add]) (by omega) (by decide) dX1_link_72 (fun H locs hP hD hS => ?_)
            have hP : va_P D vwCl (mW d h ad (va_up (va_up b 0 (upd (b 0) (nu * 7 + nv) (cc_))) 0 (upd ((va_up b 0 (upd (b 0) (nu * 7 + nv) (cc_))) 0) (nv * 7 + nu) (cc_)))) H := hP
            have hD : va_D Fr (mW d h ad (va_up (va_up b 0 (upd (b 0) (nu * 7 + nv) (cc_))) 0 (upd ((va_up b 0 (upd (b 0) (nu * 7 + nv) (cc_))) 0) (nv * 7 + nu) (cc_)))) := hD
            refine lv_iload hx hb dX1_link_73 (lv_at hl 0 rfl) ?_
            exact x_iretW (WS := mW d h ad) ((va_up (va_up b 0 (upd (b 0) (nu * 7 + nv) (cc_))) 0 (upd ((va_up b 0 (upd (b 0) (nu * 7 + nv) (cc_))) 0) (nv * 7 + nu) (cc_)))) hx hb hr hlocks hS hP dX1_link_75 (Or.inr (Or.inr ⟨nu, nv, hnu, hnv, c1, rfl, rfl, hc.mpr (by omega), rfl, by show va_up (va_up _ _ _) _ _ = lkG _ _ _ _; rw [bx_uu]; rfl⟩))
          · rw [z_le] at c3
            refine lv_bipush (v := -2) hx hb dX1_link_33 (by decide) ?_
            exact x_iretW (WS := mW d h ad) (b) hx hb hr hlocks hS hP dX1_link_35 (Or.inr (Or.inl ⟨lkB_not hnu hnv c1, fun q => by have := hc.mp q; omega, rfl, rfl⟩))
      · subst c1
        refine lv_iconst (v := -1) hx hb dX1_link_21 (by decide) ?_
        exact x_iretW (WS := mW d h ad) (b) hx hb hr hlocks hS hP dX1_link_22 (Or.inl ⟨Or.inr (Or.inr rfl), rfl, rfl⟩)
set_option maxHeartbeats 4000000 in
set_option maxRecDepth 100000 in
theorem mX1_toSource (l : Launch) (D : va_G) (d : Nat → ClassId) (h : Nat) (ad : Nat → Nat) (Fr : Nat → Prop) (b : Nat → Nat → Int32) (v bs sl : Int32) (hD : va_D Fr (mW d h ad b)) : Met l yX1_toSource (ws_ yX1_toSource cX1_toSource 4 (some .int)) xr1 (x_Pc D (mT d) (mW d h ad b) [.ref (h), .int (v), .int (bs), .int (sl)]) (va_Qi (fun r (b' : Nat → Nat → Int32) => plQ 1 2 b v bs sl r b') (fun u t => va_P D vwCl (mW d h ad u) t.heap) Fr) 0 0 Fr := by
  refine Met.ofW (cc := cX1_toSource) (maxL := 4) (ret := (some .int)) (by decide) rfl ?_
  intro p e s m args below meth c s₁ B hml hv
  obtain ⟨rfl, hP, hK⟩ := hv
  have hx := B.exec
  have hb := B.bytes
  have hr := B.returns
  have hlocks := B.notSynchronized
  have hts := atoms_spec (ws := (ws_ yX1_toSource cX1_toSource 4 (some .int))) B.pre
  have hts : ∀ w ∈ lw_all, w.before _ s = true := fun w h => hts w (List.mem_cons_of_mem _ h)
  have hown : s.vm.findClass RX1 = some m.cls := findClass_of_methodNamed B.named
  have hS : va_S Fr s.heap s.heap [] := va_S.rf
  have hl := lv_entry ([.ref (h), .int (v), .int (bs), .int (sl)]) (n := 4) (Nat.le_of_ble_eq_true rfl)
  rw [lg_entry_eq]
  generalize (lg_sl ([.ref (h), .int (v), .int (bs), .int (sl)]) ++ List.replicate (4 - (lg_sl ([.ref (h), .int (v), .int (bs), .int (sl)])).length) Slot.unset).toArray = ls at hl ⊢
  have hl : lv_has ls 4 [(0, .ref (h)), (1, .int (v)), (2, .int (bs)), (3, .int (sl))] := hl
  have hP : va_P D vwCl (mW d h ad b) s.heap := hP
  refine lv_aload_n hx hb dX1_toSource_0 rfl (lv_at hl 0 rfl) ?_
  refine lv_iload_n hx hb dX1_toSource_1 rfl (lv_at hl 1 rfl) ?_
  refine x_roV (As := [.int (v)]) (rest := []) ⟨hx, hb, hml, hown, hts⟩ (mX1_isNode l D d h ad b v) (cwV 1 hts (lw_V q240 q242 qs17 q23 q243) rfl rfl rfl (by decide +kernel) ⟨Nat.le_of_ble_eq_true rfl, Nat.le_of_ble_eq_true rfl⟩) (va_recv hK hP (ci := 1) (q0 := 0) rfl rfl) hP hK hP hS hl rfl rfl (Nat.le_of_ble_eq_true rfl) dX1_toSource_2 ⟨Nat.zero_le _, Nat.zero_le _⟩ (fun r_ H locs e_ hP hS => ?_)
  rcases e_ with ⟨e_, hb_n⟩ | ⟨e_, n, hn, ev_⟩
  · subst e_
    refine lv_if_ne (tgt := 10) hx hb dX1_toSource_5 (by decide) (fun c => absurd rfl c) (fun _ => ?_)
    refine lv_iconst (v := -1) hx hb dX1_toSource_8 (by decide) ?_
    exact x_iretW (WS := mW d h ad) (b) hx hb hr hlocks hS hP dX1_toSource_9 (Or.inl ⟨hb_n, rfl, rfl⟩)
  · subst e_
    subst ev_
    refine lv_if_ne (tgt := 10) hx hb dX1_toSource_5 (by decide) (fun _ => ?_) (fun c => absurd c (by decide))
    refine lv_aload_n hx hb dX1_toSource_10 rfl (lv_at hl 0 rfl) ?_
    refine lv_iload_n hx hb dX1_toSource_11 rfl (lv_at hl 2 rfl) ?_
    refine lv_iload_n hx hb dX1_toSource_12 rfl (lv_at hl 3 rfl) ?_
    refine x_roV (As := [.int (bs), .int (sl)]) (rest := []) ⟨hx, hb, hml, hown, hts⟩ (mX1_isPull l D d h ad b bs sl) (cwV 2 hts (lw_V q248 q250 qs18 q23 q251) rfl rfl rfl (by decide +kernel) ⟨Nat.le_of_ble_eq_true rfl, Nat.le_of_ble_eq_true rfl⟩) (va_recv hK hP (ci := 1) (q0 := 0) rfl rfl) hP hK hP hS hl rfl rfl (Nat.le_of_ble_eq_true rfl) dX1_toSource_13 ⟨Nat.zero_le _, Nat.zero_le _⟩ (fun r2 H locs e2 hP hS => ?_)
    rcases e2 with ⟨rfl, hq⟩ | ⟨rfl, hq⟩
    · refine lv_if_ne (tgt := 22) hx hb dX1_toSource_16 (by decide) (fun c => absurd rfl c) (fun _ => ?_)
      refine lv_bipush (v := -2) hx hb dX1_toSource_19 (by decide) ?_
      exact x_iretW (WS := mW d h ad) (b) hx hb hr hlocks hS hP dX1_toSource_21 (Or.inr (Or.inl ⟨⟨n, hn, rfl⟩, hq, rfl, rfl⟩))
    · refine lv_if_ne (tgt := 22) hx hb dX1_toSource_16 (by decide) (fun _ => ?_) (fun c => absurd c (by decide))
      refine lv_aload_n hx hb dX1_toSource_22 rfl (lv_at hl 0 rfl) ?_
      refine va_get (D := D) (ci := 1) (v := .ref (ad 1)) (C := RX1) (T := TX1) (N := 6) hx hb hts in_X1 hown hK hP 0 rfl rfl 1 (by decide) (hts _ q217) (fun _ h9 => h9) rfl dX1_toSource_23 ?_
      refine lv_iload_n hx hb dX1_toSource_26 rfl (lv_at hl 1 rfl) ?_
      refine lv_iload_n hx hb dX1_toSource_27 rfl (lv_at hl 2 rfl) ?_
      refine x_ast hx hb hK hP hD hS 2 1 rfl rfl (n) rfl hn (by decide) dX1_toSource_28 (fun H locs hP hD hS => ?_)
      have hP : va_P D vwCl (mW d h ad (va_up b 1 (upd (b 1) (n) (bs)))) H := hP
      have hD : va_D Fr (mW d h ad (va_up b 1 (upd (b 1) (n) (bs)))) := hD
      refine lv_aload_n hx hb dX1_toSource_29 rfl (lv_at hl 0 rfl) ?_
      refine va_get (D := D) (ci := 1) (v := .ref (ad 2)) (C := RX1) (T := TX1) (N := 6) hx hb hts in_X1 hown hK hP 0 rfl rfl 2 (by decide) (hts _ q218) (fun _ h9 => h9) rfl dX1_toSource_30 ?_
      refine lv_iload_n hx hb dX1_toSource_33 rfl (lv_at hl 1 rfl) ?_
      refine lv_iload_n hx hb dX1_toSource_34 rfl (lv_at hl 3 rfl) ?_
      refine x_ast hx hb hK hP hD hS 3 2 rfl rfl (n) rfl hn (by decide) dX1_toSource_35 (fun H locs hP hD hS => ?_)
      have hP : va_P D vwCl (mW d h ad (va_up (va_up b 1 (upd (b 1) (n) (bs))) 2 (upd ((va_up b 1 (upd (b 1) (n) (bs))) 2) (n) (sl)))) H := hP
      have hD : va_D Fr (mW d h ad (va_up (va_up b 1 (upd (b 1) (n) (bs))) 2 (upd ((va_up b 1 (upd (b 1) (n) (bs))) 2) (n) (sl)))) := hD
      refine lv_iconst (v := nI 0) hx hb dX1_toSource_36 (by decide) ?_
      exact x_iretW (WS := mW d h ad) ((va_up (va_up b 1 (upd (b 1) (n) (bs))) 2 (upd ((va_up b 1 (upd (b 1) (n) (bs))) 2) (n) (sl)))) hx hb hr hlocks hS hP dX1_toSource_37 (Or.inr (Or.inr ⟨n, hn, rfl, hq, rfl, rfl⟩))
set_option maxHeartbeats 4000000 in
set_option maxRecDepth 100000 in
theorem mX1_toSink (l : Launch) (D : va_G) (d : Nat → ClassId) (h : Nat) (ad : Nat → Nat) (Fr : Nat → Prop) (b : Nat → Nat → Int32) (v bs sl : Int32) (hD : va_D Fr (mW d h ad b)) : Met l yX1_toSink (ws_ yX1_toSink cX1_toSink 4 (some .int)) xr1 (x_Pc D (mT d) (mW d h ad b) [.ref (h), .int (v), .int (bs), .int (sl)]) (va_Qi (fun r (b' : Nat → Nat → Int32) => plQ 3 4 b v bs sl r b') (fun u t => va_P D vwCl (mW d h ad u) t.heap) Fr) 0 0 Fr := by
  refine Met.ofW (cc := cX1_toSink) (maxL := 4) (ret := (some .int)) (by decide) rfl ?_
  intro p e s m args below meth c s₁ B hml hv
  obtain ⟨rfl, hP, hK⟩ := hv
  have hx := B.exec
  have hb := B.bytes
  have hr := B.returns
  have hlocks := B.notSynchronized
  have hts := atoms_spec (ws := (ws_ yX1_toSink cX1_toSink 4 (some .int))) B.pre
  have hts : ∀ w ∈ lw_all, w.before _ s = true := fun w h => hts w (List.mem_cons_of_mem _ h)
  have hown : s.vm.findClass RX1 = some m.cls := findClass_of_methodNamed B.named
  have hS : va_S Fr s.heap s.heap [] := va_S.rf
  have hl := lv_entry ([.ref (h), .int (v), .int (bs), .int (sl)]) (n := 4) (Nat.le_of_ble_eq_true rfl)
  rw [lg_entry_eq]
  generalize (lg_sl ([.ref (h), .int (v), .int (bs), .int (sl)]) ++ List.replicate (4 - (lg_sl ([.ref (h), .int (v), .int (bs), .int (sl)])).length) Slot.unset).toArray = ls at hl ⊢
  have hl : lv_has ls 4 [(0, .ref (h)), (1, .int (v)), (2, .int (bs)), (3, .int (sl))] := hl
  have hP : va_P D vwCl (mW d h ad b) s.heap := hP
  refine lv_aload_n hx hb dX1_toSink_0 rfl (lv_at hl 0 rfl) ?_
  refine lv_iload_n hx hb dX1_toSink_1 rfl (lv_at hl 1 rfl) ?_
  refine x_roV (As := [.int (v)]) (rest := []) ⟨hx, hb, hml, hown, hts⟩ (mX1_isNode l D d h ad b v) (cwV 1 hts (lw_V q240 q242 qs17 q23 q243) rfl rfl rfl (by decide +kernel) ⟨Nat.le_of_ble_eq_true rfl, Nat.le_of_ble_eq_true rfl⟩) (va_recv hK hP (ci := 1) (q0 := 0) rfl rfl) hP hK hP hS hl rfl rfl (Nat.le_of_ble_eq_true rfl) dX1_toSink_2 ⟨Nat.zero_le _, Nat.zero_le _⟩ (fun r_ H locs e_ hP hS => ?_)
  rcases e_ with ⟨e_, hb_n⟩ | ⟨e_, n, hn, ev_⟩
  · subst e_
    refine lv_if_ne (tgt := 10) hx hb dX1_toSink_5 (by decide) (fun c => absurd rfl c) (fun _ => ?_)
    refine lv_iconst (v := -1) hx hb dX1_toSink_8 (by decide) ?_
    exact x_iretW (WS := mW d h ad) (b) hx hb hr hlocks hS hP dX1_toSink_9 (Or.inl ⟨hb_n, rfl, rfl⟩)
  · subst e_
    subst ev_
    refine lv_if_ne (tgt := 10) hx hb dX1_toSink_5 (by decide) (fun _ => ?_) (fun c => absurd c (by decide))
    refine lv_aload_n hx hb dX1_toSink_10 rfl (lv_at hl 0 rfl) ?_
    refine lv_iload_n hx hb dX1_toSink_11 rfl (lv_at hl 2 rfl) ?_
    refine lv_iload_n hx hb dX1_toSink_12 rfl (lv_at hl 3 rfl) ?_
    refine x_roV (As := [.int (bs), .int (sl)]) (rest := []) ⟨hx, hb, hml, hown, hts⟩ (mX1_isPull l D d h ad b bs sl) (cwV 2 hts (lw_V q248 q250 qs18 q23 q251) rfl rfl rfl (by decide +kernel) ⟨Nat.le_of_ble_eq_true rfl, Nat.le_of_ble_eq_true rfl⟩) (va_recv hK hP (ci := 1) (q0 := 0) rfl rfl) hP hK hP hS hl rfl rfl (Nat.le_of_ble_eq_true rfl) dX1_toSink_13 ⟨Nat.zero_le _, Nat.zero_le _⟩ (fun r2 H locs e2 hP hS => ?_)
    rcases e2 with ⟨rfl, hq⟩ | ⟨rfl, hq⟩
    · refine lv_if_ne (tgt := 22) hx hb dX1_toSink_16 (by decide) (fun c => absurd rfl c) (fun _ => ?_)
      refine lv_bipush (v := -2) hx hb dX1_toSink_19 (by decide) ?_
      exact x_iretW (WS := mW d h ad) (b) hx hb hr hlocks hS hP dX1_toSink_21 (Or.inr (Or.inl ⟨⟨n, hn, rfl⟩, hq, rfl, rfl⟩))
    · refine lv_if_ne (tgt := 22) hx hb dX1_toSink_16 (by decide) (fun _ => ?_) (fun c => absurd c (by decide))
      refine lv_aload_n hx hb dX1_toSink_22 rfl (lv_at hl 0 rfl) ?_
      refine va_get (D := D) (ci := 1) (v := .ref (ad 3)) (C := RX1) (T := TX1) (N := 6) hx hb hts in_X1 hown hK hP 0 rfl rfl 3 (by decide) (hts _ q219) (fun _ h9 => h9) rfl dX1_toSink_23 ?_
      refine lv_iload_n hx hb dX1_toSink_26 rfl (lv_at hl 1 rfl) ?_
      refine lv_iload_n hx hb dX1_toSink_27 rfl (lv_at hl 2 rfl) ?_
      refine x_ast hx hb hK hP hD hS 4 3 rfl rfl (n) rfl hn (by decide) dX1_toSink_28 (fun H locs hP hD hS => ?_)
      have hP : va_P D vwCl (mW d h ad (va_up b 3 (upd (b 3) (n) (bs)))) H := hP
      have hD : va_D Fr (mW d h ad (va_up b 3 (upd (b 3) (n) (bs)))) := hD
      refine lv_aload_n hx hb dX1_toSink_29 rfl (lv_at hl 0 rfl) ?_
      refine va_get (D := D) (ci := 1) (v := .ref (ad 4)) (C := RX1) (T := TX1) (N := 6) hx hb hts in_X1 hown hK hP 0 rfl rfl 4 (by decide) (hts _ q220) (fun _ h9 => h9) rfl dX1_toSink_30 ?_
      refine lv_iload_n hx hb dX1_toSink_33 rfl (lv_at hl 1 rfl) ?_
      refine lv_iload_n hx hb dX1_toSink_34 rfl (lv_at hl 3 rfl) ?_
      refine x_ast hx hb hK hP hD hS 5 4 rfl rfl (n) rfl hn (by decide) dX1_toSink_35 (fun H locs hP hD hS => ?_)
      have hP : va_P D vwCl (mW d h ad (va_up (va_up b 3 (upd (b 3) (n) (bs))) 4 (upd ((va_up b 3 (upd (b 3) (n) (bs))) 4) (n) (sl)))) H := hP
      have hD : va_D Fr (mW d h ad (va_up (va_up b 3 (upd (b 3) (n) (bs))) 4 (upd ((va_up b 3 (upd (b 3) (n) (bs))) 4) (n) (sl)))) := hD
      refine lv_iconst (v := nI 0) hx hb dX1_toSink_36 (by decide) ?_
      exact x_iretW (WS := mW d h ad) ((va_up (va_up b 3 (upd (b 3) (n) (bs))) 4 (upd ((va_up b 3 (upd (b 3) (n) (bs))) 4) (n) (sl)))) hx hb hr hlocks hS hP dX1_toSink_37 (Or.inr (Or.inr ⟨n, hn, rfl, hq, rfl, rfl⟩))
set_option maxHeartbeats 4000000 in
set_option maxRecDepth 100000 in
theorem mX1_flip (l : Launch) (D : va_G) (d : Nat → ClassId) (h : Nat) (ad : Nat → Nat) (Fr : Nat → Prop) (b : Nat → Nat → Int32)  (hD : va_D Fr (mW d h ad b)) : Met l yX1_flip (ws_ yX1_flip cX1_flip 4 none) xr0 (x_Pc D (mT d) (mW d h ad b) [.ref (h)]) (va_Qv (fun b' : Nat → Nat → Int32 => b' = flG b) (fun u t => va_P D vwCl (mW d h ad u) t.heap) Fr) 0 0 Fr := by
  refine Met.ofW (cc := cX1_flip) (maxL := 4) (ret := none) (by decide) rfl ?_
  intro p e s m args below meth c s₁ B hml hv
  obtain ⟨rfl, hP, hK⟩ := hv
  have hx := B.exec
  have hb := B.bytes
  have hr := B.returns
  have hlocks := B.notSynchronized
  have hts := atoms_spec (ws := (ws_ yX1_flip cX1_flip 4 none)) B.pre
  have hts : ∀ w ∈ lw_all, w.before _ s = true := fun w h => hts w (List.mem_cons_of_mem _ h)
  have hown : s.vm.findClass RX1 = some m.cls := findClass_of_methodNamed B.named
  have hS : va_S Fr s.heap s.heap [] := va_S.rf
  have hl := lv_entry ([.ref (h)]) (n := 4) (Nat.le_of_ble_eq_true rfl)
  rw [lg_entry_eq]
  generalize (lg_sl ([.ref (h)]) ++ List.replicate (4 - (lg_sl ([.ref (h)])).length) Slot.unset).toArray = ls at hl ⊢
  have hl : lv_has ls 4 [(0, .ref (h))] := hl
  have hP : va_P D vwCl (mW d h ad b) s.heap := hP
  refine lv_iconst (v := nI 0) hx hb dX1_flip_0 (by decide) ?_
  refine lv_istore_n (lv' := [(1, .int (nI 0)), (0, .ref (h))]) hx hb dX1_flip_1 rfl hl (by decide) rfl (fun ls hl => ?_)
  refine x_loop (σ := (Nat) × (Nat → Nat → Int32)) 2 4 (fun st => (mW d h ad st.2)) (fun st => [(0, .ref (h)), (1, .int (nI st.1))]) (fun st => st.1 ≤ 7 ∧ (∀ k, k ≠ 1 → k ≠ 2 → k ≠ 3 → k ≠ 4 → st.2 k = b k) ∧ (∀ q, st.2 1 q = if q < st.1 then b 3 q else b 1 q) ∧ (∀ q, st.2 2 q = if q < st.1 then b 4 q else b 2 q) ∧ (∀ q, st.2 3 q = if q < st.1 then b 1 q else b 3 q) ∧ (∀ q, st.2 4 q = if q < st.1 then b 2 q else b 4 q)) (fun st => 7 - st.1) ?_ ((0, b)) (show 0 ≤ 7 ∧ (∀ k, k ≠ 1 → k ≠ 2 → k ≠ 3 → k ≠ 4 → b k = b k) ∧ (∀ q, b 1 q = if q < 0 then b 3 q else b 1 q) ∧ (∀ q, b 2 q = if q < 0 then b 4 q else b 2 q) ∧ (∀ q, b 3 q = if q < 0 then b 1 q else b 3 q) ∧ (∀ q, b 4 q = if q < 0 then b 2 q else b 4 q) from ⟨by omega, fun _ _ _ _ _ => rfl, fun q => by rw [if_neg (by omega)], fun q => by rw [if_neg (by omega)], fun q => by rw [if_neg (by omega)], fun q => by rw [if_neg (by omega)]⟩) hP hD hS (lv_sub hl [1, 0] rfl)
  intro st hI ih H locs ls hP hD hS hl
  obtain ⟨i, a1⟩ := st
  have hI : i ≤ 7 ∧ (∀ k, k ≠ 1 → k ≠ 2 → k ≠ 3 → k ≠ 4 → a1 k = b k) ∧ (∀ q, a1 1 q = if q < i then b 3 q else b 1 q) ∧ (∀ q, a1 2 q = if q < i then b 4 q else b 2 q) ∧ (∀ q, a1 3 q = if q < i then b 1 q else b 3 q) ∧ (∀ q, a1 4 q = if q < i then b 2 q else b 4 q) := hI
  have hl : lv_has ls 4 [(0, .ref (h)), (1, .int (nI i))] := hl
  have hP : va_P D vwCl (mW d h ad a1) H := hP
  have hD : va_D Fr (mW d h ad a1) := hD
  obtain ⟨hi, hfr, h1, h2, h3, h4⟩ := hI
  refine lv_iload_n hx hb dX1_flip_2 rfl (lv_at hl 1 rfl) ?_
  refine lv_bipush (v := nI 7) hx hb dX1_flip_3 (by decide) ?_
  refine x_ge hx hb (i) (7) rfl rfl (by omega) (by omega) (tgt := 66) dX1_flip_5 (by decide) (fun c1 => ?_) (fun c1 => ?_)
  · have hi7 : i = 7 := by omega
    subst hi7
    have hfl : a1 = flG b := by
      funext k q
      unfold flG
      by_cases k1 : k = 1
      · subst k1; rw [if_pos rfl]; exact h1 q
      · rw [if_neg k1]
        by_cases k2 : k = 2
        · subst k2; rw [if_pos rfl]; exact h2 q
        · rw [if_neg k2]
          by_cases k3 : k = 3
          · subst k3; rw [if_pos rfl]; exact h3 q
          · rw [if_neg k3]
            by_cases k4 : k = 4
            · subst k4; rw [if_pos rfl]; exact h4 q
            · rw [if_neg k4, hfr k k1 k2 k3 k4]
    exact x_vretW (WS := mW d h ad) (a1) hx hb hr hlocks hS hP dX1_flip_66 hfl
  · refine lv_aload_n hx hb dX1_flip_8 rfl (lv_at hl 0 rfl) ?_
    refine va_get (D := D) (ci := 1) (v := .ref (ad 1)) (C := RX1) (T := TX1) (N := 6) hx hb hts in_X1 hown hK hP 0 rfl rfl 1 (by decide) (hts _ q217) (fun _ h9 => h9) rfl dX1_flip_9 ?_
    refine lv_iload_n hx hb dX1_flip_12 rfl (lv_at hl 1 rfl) ?_
    refine x_ald hx hb hK hP 2 1 rfl rfl (i) rfl (by omega) (by decide) dX1_flip_13 ?_
    refine lv_istore_n (lv' := [(2, .int (a1 1 (i))), (0, .ref (h)), (1, .int (nI i))]) hx hb dX1_flip_14 rfl hl (by decide) rfl (fun ls hl => ?_)
    refine lv_aload_n hx hb dX1_flip_15 rfl (lv_at hl 1 rfl) ?_
    refine va_get (D := D) (ci := 1) (v := .ref (ad 2)) (C := RX1) (T := TX1) (N := 6) hx hb hts in_X1 hown hK hP 0 rfl rfl 2 (by decide) (hts _ q218) (fun _ h9 => h9) rfl dX1_flip_16 ?_
    refine lv_iload_n hx hb dX1_flip_19 rfl (lv_at hl 2 rfl) ?_
    refine x_ald hx hb hK hP 3 2 rfl rfl (i) rfl (by omega) (by decide) dX1_flip_20 ?_
    refine lv_istore_n (lv' := [(3, .int (a1 2 (i))), (2, .int (a1 1 (i))), (0, .ref (h)), (1, .int (nI i))]) hx hb dX1_flip_21 rfl hl (by decide) rfl (fun ls hl => ?_)
    refine lv_aload_n hx hb dX1_flip_22 rfl (lv_at hl 2 rfl) ?_
    refine va_get (D := D) (ci := 1) (v := .ref (ad 1)) (C := RX1) (T := TX1) (N := 6) hx hb hts in_X1 hown hK hP 0 rfl rfl 1 (by decide) (hts _ q217) (fun _ h9 => h9) rfl dX1_flip_23 ?_
    refine lv_iload_n hx hb dX1_flip_26 rfl (lv_at hl 3 rfl) ?_
    refine lv_aload_n hx hb dX1_flip_27 rfl (lv_at hl 2 rfl) ?_
    refine va_get (D := D) (ci := 1) (v := .ref (ad 3)) (C := RX1) (T := TX1) (N := 6) hx hb hts in_X1 hown hK hP 0 rfl rfl 3 (by decide) (hts _ q219) (fun _ h9 => h9) rfl dX1_flip_28 ?_
    refine lv_iload_n hx hb dX1_flip_31 rfl (lv_at hl 3 rfl) ?_
    refine x_ald hx hb hK hP 4 3 rfl rfl (i) rfl (by omega) (by decide) dX1_flip_32 ?_
    refine x_ast hx hb hK hP hD hS 2 1 rfl rfl (i) rfl (by omega) (by decide) dX1_flip_33 (fun H locs hP hD hS => ?_)
    have hP : va_P D vwCl (mW d h ad (va_up a1 1 (upd (a1 1) (i) (a1 3 (i))))) H := hP
    have hD : va_D Fr (mW d h ad (va_up a1 1 (upd (a1 1) (i) (a1 3 (i))))) := hD
    refine lv_aload_n hx hb dX1_flip_34 rfl (lv_at hl 2 rfl) ?_
    refine va_get (D := D) (ci := 1) (v := .ref (ad 2)) (C := RX1) (T := TX1) (N := 6) hx hb hts in_X1 hown hK hP 0 rfl rfl 2 (by decide) (hts _ q218) (fun _ h9 => h9) rfl dX1_flip_35 ?_
    refine lv_iload_n hx hb dX1_flip_38 rfl (lv_at hl 3 rfl) ?_
    refine lv_aload_n hx hb dX1_flip_39 rfl (lv_at hl 2 rfl) ?_
    refine va_get (D := D) (ci := 1) (v := .ref (ad 4)) (C := RX1) (T := TX1) (N := 6) hx hb hts in_X1 hown hK hP 0 rfl rfl 4 (by decide) (hts _ q220) (fun _ h9 => h9) rfl dX1_flip_40 ?_
    refine lv_iload_n hx hb dX1_flip_43 rfl (lv_at hl 3 rfl) ?_
    refine x_ald hx hb hK hP 5 4 rfl rfl (i) rfl (by omega) (by decide) dX1_flip_44 ?_
    refine x_ast hx hb hK hP hD hS 3 2 rfl rfl (i) rfl (by omega) (by decide) dX1_flip_45 (fun H locs hP hD hS => ?_)
    have hP : va_P D vwCl (mW d h ad (va_up (va_up a1 1 (upd (a1 1) (i) (a1 3 (i)))) 2 (upd ((va_up a1 1 (upd (a1 1) (i) (a1 3 (i)))) 2) (i) ((va_up a1 1 (upd (a1 1) (i) (a1 3 (i)))) 4 (i))))) H := hP
    have hD : va_D Fr (mW d h ad (va_up (va_up a1 1 (upd (a1 1) (i) (a1 3 (i)))) 2 (upd ((va_up a1 1 (upd (a1 1) (i) (a1 3 (i)))) 2) (i) ((va_up a1 1 (upd (a1 1) (i) (a1 3 (i)))) 4 (i))))) := hD
    refine lv_aload_n hx hb dX1_flip_46 rfl (lv_at hl 2 rfl) ?_
    refine va_get (D := D) (ci := 1) (v := .ref (ad 3)) (C := RX1) (T := TX1) (N := 6) hx hb hts in_X1 hown hK hP 0 rfl rfl 3 (by decide) (hts _ q219) (fun _ h9 => h9) rfl dX1_flip_47 ?_
    refine lv_iload_n hx hb dX1_flip_50 rfl (lv_at hl 3 rfl) ?_
    refine lv_iload_n hx hb dX1_flip_51 rfl (lv_at hl 1 rfl) ?_
    refine x_ast hx hb hK hP hD hS 4 3 rfl rfl (i) rfl (by omega) (by decide) dX1_flip_52 (fun H locs hP hD hS => ?_)
    have hP : va_P D vwCl (mW d h ad (va_up (va_up (va_up a1 1 (upd (a1 1) (i) (a1 3 (i)))) 2 (upd ((va_up a1 1 (upd (a1 1) (i) (a1 3 (i)))) 2) (i) ((va_up a1 1 (upd (a1 1) (i) (a1 3 (i)))) 4 (i)))) 3 (upd ((va_up (va_up a1 1 (upd (a1 1) (i) (a1 3 (i)))) 2 (upd ((va_up a1 1 (upd (a1 1) (i) (a1 3 (i)))) 2) (i) ((va_up a1 1 (upd (a1 1) (i) (a1 3 (i)))) 4 (i)))) 3) (i) (a1 1 (i))))) H := hP
    have hD : va_D Fr (mW d h ad (va_up (va_up (va_up a1 1 (upd (a1 1) (i) (a1 3 (i)))) 2 (upd ((va_up a1 1 (upd (a1 1) (i) (a1 3 (i)))) 2) (i) ((va_up a1 1 (upd (a1 1) (i) (a1 3 (i)))) 4 (i)))) 3 (upd ((va_up (va_up a1 1 (upd (a1 1) (i) (a1 3 (i)))) 2 (upd ((va_up a1 1 (upd (a1 1) (i) (a1 3 (i)))) 2) (i) ((va_up a1 1 (upd (a1 1) (i) (a1 3 (i)))) 4 (i)))) 3) (i) (a1 1 (i))))) := hD
    refine lv_aload_n hx hb dX1_flip_53 rfl (lv_at hl 2 rfl) ?_
    refine va_get (D := D) (ci := 1) (v := .ref (ad 4)) (C := RX1) (T := TX1) (N := 6) hx hb hts in_X1 hown hK hP 0 rfl rfl 4 (by decide) (hts _ q220) (fun _ h9 => h9) rfl dX1_flip_54 ?_
    refine lv_iload_n hx hb dX1_flip_57 rfl (lv_at hl 3 rfl) ?_
    refine lv_iload_n hx hb dX1_flip_58 rfl (lv_at hl 0 rfl) ?_
    refine x_ast hx hb hK hP hD hS 5 4 rfl rfl (i) rfl (by omega) (by decide) dX1_flip_59 (fun H locs hP hD hS => ?_)
    have hP : va_P D vwCl (mW d h ad (va_up (va_up (va_up (va_up a1 1 (upd (a1 1) (i) (a1 3 (i)))) 2 (upd ((va_up a1 1 (upd (a1 1) (i) (a1 3 (i)))) 2) (i) ((va_up a1 1 (upd (a1 1) (i) (a1 3 (i)))) 4 (i)))) 3 (upd ((va_up (va_up a1 1 (upd (a1 1) (i) (a1 3 (i)))) 2 (upd ((va_up a1 1 (upd (a1 1) (i) (a1 3 (i)))) 2) (i) ((va_up a1 1 (upd (a1 1) (i) (a1 3 (i)))) 4 (i)))) 3) (i) (a1 1 (i)))) 4 (upd ((va_up (va_up (va_up a1 1 (upd (a1 1) (i) (a1 3 (i)))) 2 (upd ((va_up a1 1 (upd (a1 1) (i) (a1 3 (i)))) 2) (i) ((va_up a1 1 (upd (a1 1) (i) (a1 3 (i)))) 4 (i)))) 3 (upd ((va_up (va_up a1 1 (upd (a1 1) (i) (a1 3 (i)))) 2 (upd ((va_up a1 1 (upd (a1 1) (i) (a1 3 (i)))) 2) (i) ((va_up a1 1 (upd (a1 1) (i) (a1 3 (i)))) 4 (i)))) 3) (i) (a1 1 (i)))) 4) (i) (a1 2 (i))))) H := hP
    have hD : va_D Fr (mW d h ad (va_up (va_up (va_up (va_up a1 1 (upd (a1 1) (i) (a1 3 (i)))) 2 (upd ((va_up a1 1 (upd (a1 1) (i) (a1 3 (i)))) 2) (i) ((va_up a1 1 (upd (a1 1) (i) (a1 3 (i)))) 4 (i)))) 3 (upd ((va_up (va_up a1 1 (upd (a1 1) (i) (a1 3 (i)))) 2 (upd ((va_up a1 1 (upd (a1 1) (i) (a1 3 (i)))) 2) (i) ((va_up a1 1 (upd (a1 1) (i) (a1 3 (i)))) 4 (i)))) 3) (i) (a1 1 (i)))) 4 (upd ((va_up (va_up (va_up a1 1 (upd (a1 1) (i) (a1 3 (i)))) 2 (upd ((va_up a1 1 (upd (a1 1) (i) (a1 3 (i)))) 2) (i) ((va_up a1 1 (upd (a1 1) (i) (a1 3 (i)))) 4 (i)))) 3 (upd ((va_up (va_up a1 1 (upd (a1 1) (i) (a1 3 (i)))) 2 (upd ((va_up a1 1 (upd (a1 1) (i) (a1 3 (i)))) 2) (i) ((va_up a1 1 (upd (a1 1) (i) (a1 3 (i)))) 4 (i)))) 3) (i) (a1 1 (i)))) 4) (i) (a1 2 (i))))) := hD
    refine lv_iinc (v := nI (i + 1)) (lv' := [(1, .int (nI (i + 1))), (3, .int (a1 2 (i))), (2, .int (a1 1 (i))), (0, .ref (h))]) hx hb dX1_flip_60 hl (k := 3) rfl (x_inc _) (by decide) rfl (fun ls hl => ?_)
    refine lv_goto (tgt := 2) hx hb dX1_flip_63 (by decide) ?_
    obtain ⟨a2, ea2⟩ : ∃ z, z = (va_up (va_up (va_up (va_up a1 1 (upd (a1 1) (i) (a1 3 (i)))) 2 (upd ((va_up a1 1 (upd (a1 1) (i) (a1 3 (i)))) 2) (i) ((va_up a1 1 (upd (a1 1) (i) (a1 3 (i)))) 4 (i)))) 3 (upd ((va_up (va_up a1 1 (upd (a1 1) (i) (a1 3 (i)))) 2 (upd ((va_up a1 1 (upd (a1 1) (i) (a1 3 (i)))) 2) (i) ((va_up a1 1 (upd (a1 1) (i) (a1 3 (i)))) 4 (i)))) 3) (i) (a1 1 (i)))) 4 (upd ((va_up (va_up (va_up a1 1 (upd (a1 1) (i) (a1 3 (i)))) 2 (upd ((va_up a1 1 (upd (a1 1) (i) (a1 3 (i)))) 2) (i) ((va_up a1 1 (upd (a1 1) (i) (a1 3 (i)))) 4 (i)))) 3 (upd ((va_up (va_up a1 1 (upd (a1 1) (i) (a1 3 (i)))) 2 (upd ((va_up a1 1 (upd (a1 1) (i) (a1 3 (i)))) 2) (i) ((va_up a1 1 (upd (a1 1) (i) (a1 3 (i)))) 4 (i)))) 3) (i) (a1 1 (i)))) 4) (i) (a1 2 (i)))) := ⟨_, rfl⟩
    have hP : va_P D vwCl (mW d h ad a2) H := by rw [ea2]; exact hP
    have hD : va_D Fr (mW d h ad a2) := by rw [ea2]; exact hD
    have g4 : a2 4 = upd (a1 4) i (a1 2 i) := by rw [ea2]; rfl
    have g3 : a2 3 = upd (a1 3) i (a1 1 i) := by rw [ea2]; rfl
    have g2 : a2 2 = upd (a1 2) i (a1 4 i) := by rw [ea2]; rfl
    have g1 : a2 1 = upd (a1 1) i (a1 3 i) := by rw [ea2]; rfl
    have gk : ∀ k, k ≠ 1 → k ≠ 2 → k ≠ 3 → k ≠ 4 → a2 k = b k := fun k k1 k2 k3 k4 => by rw [ea2, va_up_n k4, va_up_n k3, va_up_n k2, va_up_n k1]; exact hfr k k1 k2 k3 k4
    exact ih ((i + 1, a2)) (show (i + 1) ≤ 7 ∧ (∀ k, k ≠ 1 → k ≠ 2 → k ≠ 3 → k ≠ 4 → a2 k = b k) ∧ (∀ q, a2 1 q = if q < (i + 1) then b 3 q else b 1 q) ∧ (∀ q, a2 2 q = if q < (i + 1) then b 4 q else b 2 q) ∧ (∀ q, a2 3 q = if q < (i + 1) then b 1 q else b 3 q) ∧ (∀ q, a2 4 q = if q < (i + 1) then b 2 q else b 4 q) from ⟨by omega, gk, fun q => by
          rw [g1]
          unfold upd
          by_cases d1 : q = i
          · subst d1; rw [if_pos rfl, if_pos (by omega), h3, if_neg (by omega)]
          · rw [if_neg d1, h1]
            by_cases d2 : q < i
            · rw [if_pos d2, if_pos (by omega)]
            · rw [if_neg d2, if_neg (by omega)], fun q => by
          rw [g2]
          unfold upd
          by_cases d1 : q = i
          · subst d1; rw [if_pos rfl, if_pos (by omega), h4, if_neg (by omega)]
          · rw [if_neg d1, h2]
            by_cases d2 : q < i
            · rw [if_pos d2, if_pos (by omega)]
            · rw [if_neg d2, if_neg (by omega)], fun q => by
          rw [g3]
          unfold upd
          by_cases d1 : q = i
          · subst d1; rw [if_pos rfl, if_pos (by omega), h1, if_neg (by omega)]
          · rw [if_neg d1, h3]
            by_cases d2 : q < i
            · rw [if_pos d2, if_pos (by omega)]
            · rw [if_neg d2, if_neg (by omega)], fun q => by
          rw [g4]
          unfold upd
          by_cases d1 : q = i
          · subst d1; rw [if_pos rfl, if_pos (by omega), h2, if_neg (by omega)]
          · rw [if_neg d1, h4]
            by_cases d2 : q < i
            · rw [if_pos d2, if_pos (by omega)]
            · rw [if_neg d2, if_neg (by omega)]⟩) (by show 7 - (i + 1) < 7 - i; omega) _ _ _ hP hD hS (lv_sub hl [3, 0] rfl)
set_option maxHeartbeats 4000000 in
set_option maxRecDepth 100000 in
theorem mX1_price (l : Launch) (D : va_G) (d : Nat → ClassId) (h : Nat) (ad : Nat → Nat) (b : Nat → Nat → Int32) (side : Int32) (x : Nat) (hx5 : x ≤ 50) (hg : DOK b) : Met l yX1_price (ws_ yX1_price cX1_price 8 (some .int)) xr0 (x_Pc D (mT d) (mW d h ad b) [.ref (h), .int (side), .int (nI x)]) (x_QR (fun r => r.toInt = pr b (bt side) x)) 0 0 x_no := by
  refine Met.ofW (cc := cX1_price) (maxL := 8) (ret := (some .int)) (by decide) rfl ?_
  intro p e s m args below meth c s₁ B hml hv
  obtain ⟨rfl, hP, hK⟩ := hv
  have hx := B.exec
  have hb := B.bytes
  have hr := B.returns
  have hlocks := B.notSynchronized
  have hts := atoms_spec (ws := (ws_ yX1_price cX1_price 8 (some .int))) B.pre
  have hts : ∀ w ∈ lw_all, w.before _ s = true := fun w h => hts w (List.mem_cons_of_mem _ h)
  have hown : s.vm.findClass RX1 = some m.cls := findClass_of_methodNamed B.named
  have hS : va_S x_no s.heap s.heap [] := va_S.rf
  have hl := lv_entry ([.ref (h), .int (side), .int (nI x)]) (n := 8) (Nat.le_of_ble_eq_true rfl)
  rw [lg_entry_eq]
  generalize (lg_sl ([.ref (h), .int (side), .int (nI x)]) ++ List.replicate (8 - (lg_sl ([.ref (h), .int (side), .int (nI x)])).length) Slot.unset).toArray = ls at hl ⊢
  have hl : lv_has ls 8 [(0, .ref (h)), (1, .int (side)), (2, .int (nI x))] := hl
  have hP : va_P D vwCl (mW d h ad b) s.heap := hP
  refine lv_iconst (v := nI 0) hx hb dX1_price_0 (by decide) ?_
  refine lv_istore_n (lv' := [(3, .int (nI 0)), (0, .ref (h)), (1, .int (side)), (2, .int (nI x))]) hx hb dX1_price_1 rfl hl (by decide) rfl (fun ls hl => ?_)
  refine lv_iconst (v := nI 0) hx hb dX1_price_2 (by decide) ?_
  refine lv_istore (lv' := [(4, .int (nI 0)), (3, .int (nI 0)), (0, .ref (h)), (1, .int (side)), (2, .int (nI x))]) hx hb dX1_price_3 hl (by decide) rfl (fun ls hl => ?_)
  refine x_loopR (σ := (Nat) × (Int32)) 5 8 (fun st => [(0, .ref (h)), (1, .int (side)), (2, .int (nI x)), (3, .int (st.2)), (4, .int (nI st.1))]) (fun st => st.1 ≤ 7 ∧ (st.2).toInt = sm (fun v => prT b (bt side) x v + sm (prC b (bt side) v) v) st.1) (fun st => 7 - st.1) ?_ ((0, nI 0)) (show 0 ≤ 7 ∧ ((nI 0)).toInt = sm (fun v => prT b (bt side) x v + sm (prC b (bt side) v) v) 0 from ⟨by omega, rfl⟩) hP hS (lv_sub hl [2, 3, 4, 1, 0] rfl)
  intro st hI ih H locs ls hP hS hl
  obtain ⟨v, z⟩ := st
  have hI : v ≤ 7 ∧ (z).toInt = sm (fun v => prT b (bt side) x v + sm (prC b (bt side) v) v) v := hI
  have hl : lv_has ls 8 [(0, .ref (h)), (1, .int (side)), (2, .int (nI x)), (3, .int (z)), (4, .int (nI v))] := hl
  have hP : va_P D vwCl (mW d h ad b) H := hP
  obtain ⟨hv7, hz⟩ := hI
  refine lv_iload hx hb dX1_price_5 (lv_at hl 4 rfl) ?_
  refine lv_bipush (v := nI 7) hx hb dX1_price_7 (by decide) ?_
  refine x_ge hx hb (v) (7) rfl rfl (by omega) (by omega) (tgt := 135) dX1_price_9 (by decide) (fun c1 => ?_) (fun c1 => ?_)
  · have hv : v = 7 := by omega
    subst hv
    refine lv_iload_n hx hb dX1_price_135 rfl (lv_at hl 3 rfl) ?_
    exact x_iret hx hb hr hlocks hS dX1_price_136 (by rw [pr_eq]; exact hz)
  · have hP1 := prP_in hg (bt side) hx5 (show v ≤ 7 by omega)
    have hT1 := prT_in hg (bt side) hx5 c1
    have hz0 : (0 : Int32).toInt = 0 := rfl
    refine x_joinl (σ := Int32) (D := D) (cl := vwCl) (ws := (mW d h ad b)) (A := x_no) (H0 := s.heap) 82 8 (fun y => [(0, .ref (h)), (1, .int (side)), (2, .int (nI x)), (3, .int (y)), (4, .int (nI v))]) (fun y => y.toInt = sm (fun v => prT b (bt side) x v + sm (prC b (bt side) v) v) v + prT b (bt side) x v) (fun y H locs ls hsum hP hS hl => ?_) (fun J => ?_)
    · have hl : lv_has ls 8 [(0, .ref (h)), (1, .int (side)), (2, .int (nI x)), (3, .int (y)), (4, .int (nI v))] := hl
      refine lv_iconst (v := nI 0) hx hb dX1_price_82 (by decide) ?_
      refine lv_istore (lv' := [(7, .int (nI 0)), (0, .ref (h)), (1, .int (side)), (2, .int (nI x)), (3, .int (y)), (4, .int (nI v))]) hx hb dX1_price_83 hl (by decide) rfl (fun ls hl => ?_)
      refine x_loopR (σ := (Nat) × (Int32)) 85 8 (fun st => [(0, .ref (h)), (1, .int (side)), (2, .int (nI x)), (3, .int (st.2)), (4, .int (nI v)), (7, .int (nI st.1))]) (fun st => st.1 ≤ v ∧ (st.2).toInt = sm (fun v => prT b (bt side) x v + sm (prC b (bt side) v) v) v + prT b (bt side) x v + sm (prC b (bt side) v) st.1) (fun st => v - st.1) ?_ ((0, y)) (show 0 ≤ v ∧ (y).toInt = sm (fun v => prT b (bt side) x v + sm (prC b (bt side) v) v) v + prT b (bt side) x v + sm (prC b (bt side) v) 0 from ⟨by omega, by rw [hsum]; show _ = _ + 0; omega⟩) hP hS (lv_sub hl [1, 2, 3, 4, 5, 0] rfl)
      intro st hI2 ih2 H locs ls hP hS hl
      obtain ⟨u, y⟩ := st
      have hI2 : u ≤ v ∧ (y).toInt = sm (fun v => prT b (bt side) x v + sm (prC b (bt side) v) v) v + prT b (bt side) x v + sm (prC b (bt side) v) u := hI2
      have hl : lv_has ls 8 [(0, .ref (h)), (1, .int (side)), (2, .int (nI x)), (3, .int (y)), (4, .int (nI v)), (7, .int (nI u))] := hl
      have hP : va_P D vwCl (mW d h ad b) H := hP
      obtain ⟨huv, hy⟩ := hI2
      refine lv_iload hx hb dX1_price_85 (lv_at hl 5 rfl) ?_
      refine lv_iload hx hb dX1_price_87 (lv_at hl 4 rfl) ?_
      refine x_ge hx hb (u) (v) rfl rfl (by omega) (by omega) (tgt := 129) dX1_price_89 (by decide) (fun c2 => ?_) (fun c2 => ?_)
      · have hu : v = u := by omega
        subst hu
        refine lv_iinc (v := nI (v + 1)) (lv' := [(4, .int (nI (v + 1))), (0, .ref (h)), (1, .int (side)), (2, .int (nI x)), (3, .int (y)), (7, .int (nI v))]) hx hb dX1_price_129 hl (k := 4) rfl (x_inc _) (by decide) rfl (fun ls hl => ?_)
        refine lv_goto (tgt := 5) hx hb dX1_price_132 (by decide) ?_
        exact ih ((v + 1, y)) (show (v + 1) ≤ 7 ∧ (y).toInt = sm (fun v => prT b (bt side) x v + sm (prC b (bt side) v) v) (v + 1) from ⟨by omega, by rw [sm_s]; omega⟩) (by show 7 - (v + 1) < 7 - v; omega) _ _ _ hP hS (lv_sub hl [1, 2, 3, 4, 0] rfl)
      · have hC1 := prC_in hg (bt side) c1 (show u < 7 by omega)
        have hC2 := prCs_in hg (bt side) c1 huv
        refine lv_iload_n hx hb dX1_price_92 rfl (lv_at hl 1 rfl) ?_
        refine lv_iload hx hb dX1_price_93 (lv_at hl 5 rfl) ?_
        refine lv_ishr hx hb dX1_price_95 ?_
        refine lv_iconst (v := nI 1) hx hb dX1_price_96 (by decide) ?_
        refine lv_iand hx hb dX1_price_97 ?_
        refine x_top (y := nI (bt side u).toNat) (b_inT (by omega)) ?_
        refine lv_iload_n hx hb dX1_price_98 rfl (lv_at hl 1 rfl) ?_
        refine lv_iload hx hb dX1_price_99 (lv_at hl 4 rfl) ?_
        refine lv_ishr hx hb dX1_price_101 ?_
        refine lv_iconst (v := nI 1) hx hb dX1_price_102 (by decide) ?_
        refine lv_iand hx hb dX1_price_103 ?_
        refine x_top (y := nI (bt side v).toNat) (b_inT (by omega)) ?_
        refine x_eq hx hb ((bt side u).toNat) ((bt side v).toNat) rfl rfl (nbl _) (nbl _) (tgt := 123) dX1_price_104 (by decide) (fun c3 => ?_) (fun c3 => ?_)
        · rw [nbj] at c3
          refine lv_iinc (v := nI (u + 1)) (lv' := [(7, .int (nI (u + 1))), (0, .ref (h)), (1, .int (side)), (2, .int (nI x)), (3, .int (y)), (4, .int (nI v))]) hx hb dX1_price_123 hl (k := 5) rfl (x_inc _) (by decide) rfl (fun ls hl => ?_)
          refine lv_goto (tgt := 85) hx hb dX1_price_126 (by decide) ?_
          exact ih2 ((u + 1, y)) (show (u + 1) ≤ v ∧ (y).toInt = sm (fun v => prT b (bt side) x v + sm (prC b (bt side) v) v) v + prT b (bt side) x v + sm (prC b (bt side) v) (u + 1) from ⟨by omega, by rw [sm_s, show prC b (bt side) v u = 0 from if_pos c3]; omega⟩) (by show v - (u + 1) < v - u; omega) _ _ _ hP hS (lv_sub hl [1, 2, 3, 4, 5, 0] rfl)
        · rw [Ne, nbj] at c3
          have hCv : prC b (bt side) v u = (b 0 (u * 7 + v)).toInt := if_neg c3
          refine lv_iload_n hx hb dX1_price_107 rfl (lv_at hl 3 rfl) ?_
          refine lv_aload_n hx hb dX1_price_108 rfl (lv_at hl 0 rfl) ?_
          refine va_get (D := D) (ci := 1) (v := .ref (ad 0)) (C := RX1) (T := TX1) (N := 6) hx hb hts in_X1 hown hK hP 0 rfl rfl 0 (by decide) (hts _ q216) (fun _ h9 => h9) rfl dX1_price_109 ?_
          refine lv_iload hx hb dX1_price_112 (lv_at hl 5 rfl) ?_
          refine lv_bipush (v := nI 7) hx hb dX1_price_114 (by decide) ?_
          refine lv_imul hx hb dX1_price_116 ?_
          refine lv_iload hx hb dX1_price_117 (lv_at hl 4 rfl) ?_
          refine lv_iadd hx hb dX1_price_119 ?_
          refine x_ald hx hb hK hP 1 0 rfl rfl (u * 7 + v) (by simp only [pk_mul, nI_add]) (by omega) (by decide) dX1_price_120 ?_
          refine lv_iadd hx hb dX1_price_121 ?_
          refine lv_istore_n (lv' := [(3, .int ((y) + (b 0 (u * 7 + v)))), (0, .ref (h)), (1, .int (side)), (2, .int (nI x)), (4, .int (nI v)), (7, .int (nI u))]) hx hb dX1_price_122 rfl hl (by decide) rfl (fun ls hl => ?_)
          refine lv_iinc (v := nI (u + 1)) (lv' := [(7, .int (nI (u + 1))), (3, .int ((y) + (b 0 (u * 7 + v)))), (0, .ref (h)), (1, .int (side)), (2, .int (nI x)), (4, .int (nI v))]) hx hb dX1_price_123 hl (k := 5) rfl (x_inc _) (by decide) rfl (fun ls hl => ?_)
          refine lv_goto (tgt := 85) hx hb dX1_price_126 (by decide) ?_
          exact ih2 ((u + 1, y + b 0 (u * 7 + v))) (show (u + 1) ≤ v ∧ ((y + b 0 (u * 7 + v))).toInt = sm (fun v => prT b (bt side) x v + sm (prC b (bt side) v) v) v + prT b (bt side) x v + sm (prC b (bt side) v) (u + 1) from ⟨by omega, by rw [z_add (by omega) (by omega), sm_s]; omega⟩) (by show v - (u + 1) < v - u; omega) _ _ _ hP hS (lv_sub hl [2, 3, 4, 1, 5, 0] rfl)
    · obtain ⟨g1, g2, g3, g4⟩ := hg.2 v c1
      have hxn : (nI x).toInt = (x : Int) := z_nI (by omega)
      refine lv_iload_n hx hb dX1_price_12 rfl (lv_at hl 1 rfl) ?_
      refine lv_iload hx hb dX1_price_13 (lv_at hl 4 rfl) ?_
      refine lv_ishr hx hb dX1_price_15 ?_
      refine lv_iconst (v := nI 1) hx hb dX1_price_16 (by decide) ?_
      refine lv_iand hx hb dX1_price_17 ?_
      refine x_top (y := nI (bt side v).toNat) (b_inT (by omega)) ?_
      refine lv_if_eq (tgt := 25) hx hb dX1_price_18 (by decide) (fun c4 => ?_) (fun c4 => ?_)
      · rw [nb0] at c4
        have hraw := pl_raw (b := b 1 v) (s := b 2 v) (x := x) g1.1 g1.2 g2.1 g2.2 hx5
        have hmul : (b 2 v * nI x).toInt = (b 2 v).toInt * x := by rw [z_mul (by rw [hxn]; omega) (by rw [hxn]; omega), hxn]
        have hpl : (b 1 v + b 2 v * nI x).toInt = (b 1 v).toInt + (b 2 v).toInt * x := by rw [z_add (by rw [hmul]; omega) (by rw [hmul]; omega), hmul]
        have hpr : prT b (bt side) x v = pl (b 1 v) (b 2 v) x := by unfold prT; rw [c4]; rfl
        refine lv_iconst (v := nI 0) hx hb dX1_price_25 (by decide) ?_
        refine lv_istore (lv' := [(5, .int (nI 0)), (0, .ref (h)), (1, .int (side)), (2, .int (nI x)), (3, .int (z)), (4, .int (nI v))]) hx hb dX1_price_26 hl (by decide) rfl (fun ls hl => ?_)
        refine lv_iload hx hb dX1_price_28 (lv_at hl 0 rfl) ?_
        refine lv_if_eq (tgt := 53) hx hb dX1_price_30 (by decide) (fun _ => ?_) (fun c => absurd rfl c)
        refine lv_aload_n hx hb dX1_price_53 rfl (lv_at hl 1 rfl) ?_
        refine va_get (D := D) (ci := 1) (v := .ref (ad 1)) (C := RX1) (T := TX1) (N := 6) hx hb hts in_X1 hown hK hP 0 rfl rfl 1 (by decide) (hts _ q217) (fun _ h9 => h9) rfl dX1_price_54 ?_
        refine lv_iload hx hb dX1_price_57 (lv_at hl 5 rfl) ?_
        refine x_ald hx hb hK hP 2 1 rfl rfl (v) rfl (by omega) (by decide) dX1_price_59 ?_
        refine lv_aload_n hx hb dX1_price_60 rfl (lv_at hl 1 rfl) ?_
        refine va_get (D := D) (ci := 1) (v := .ref (ad 2)) (C := RX1) (T := TX1) (N := 6) hx hb hts in_X1 hown hK hP 0 rfl rfl 2 (by decide) (hts _ q218) (fun _ h9 => h9) rfl dX1_price_61 ?_
        refine lv_iload hx hb dX1_price_64 (lv_at hl 5 rfl) ?_
        refine x_ald hx hb hK hP 3 2 rfl rfl (v) rfl (by omega) (by decide) dX1_price_66 ?_
        refine lv_iload_n hx hb dX1_price_67 rfl (lv_at hl 3 rfl) ?_
        refine lv_imul hx hb dX1_price_68 ?_
        refine lv_iadd hx hb dX1_price_69 ?_
        refine lv_istore (lv' := [(6, .int ((b 1 (v)) + ((b 2 (v)) * (nI x)))), (5, .int (nI 0)), (0, .ref (h)), (1, .int (side)), (2, .int (nI x)), (3, .int (z)), (4, .int (nI v))]) hx hb dX1_price_70 hl (by decide) rfl (fun ls hl => ?_)
        refine lv_iload hx hb dX1_price_72 (lv_at hl 0 rfl) ?_
        refine lv_if_le (tgt := 82) hx hb dX1_price_74 (by decide) (fun c5 => ?_) (fun c5 => ?_)
        · rw [z_le, hpl] at c5
          exact J (z) _ _ _ (by rw [hz, hpr]; unfold pl; rw [if_neg (by omega)]; omega) hP hS (lv_sub hl [2, 3, 4, 5, 6] rfl)
        · rw [z_le, hpl] at c5
          have hpv : pl (b 1 v) (b 2 v) x = (b 1 v).toInt + (b 2 v).toInt * x := by unfold pl; rw [if_pos (by omega)]
          refine lv_iload_n hx hb dX1_price_77 rfl (lv_at hl 5 rfl) ?_
          refine lv_iload hx hb dX1_price_78 (lv_at hl 0 rfl) ?_
          refine lv_iadd hx hb dX1_price_80 ?_
          refine lv_istore_n (lv' := [(3, .int ((z) + ((b 1 (v)) + ((b 2 (v)) * (nI x))))), (6, .int ((b 1 (v)) + ((b 2 (v)) * (nI x)))), (5, .int (nI 0)), (0, .ref (h)), (1, .int (side)), (2, .int (nI x)), (4, .int (nI v))]) hx hb dX1_price_81 rfl hl (by decide) rfl (fun ls hl => ?_)
          exact J (z + (b 1 v + b 2 v * nI x)) _ _ _ (by rw [z_add (by omega) (by omega), hz, hpl, hpr, hpv]) hP hS (lv_sub hl [3, 4, 5, 0, 6] rfl)
      · rw [nb0, Bool.not_eq_false] at c4
        have hraw := pl_raw (b := b 3 v) (s := b 4 v) (x := x) g3.1 g3.2 g4.1 g4.2 hx5
        have hmul : (b 4 v * nI x).toInt = (b 4 v).toInt * x := by rw [z_mul (by rw [hxn]; omega) (by rw [hxn]; omega), hxn]
        have hpl : (b 3 v + b 4 v * nI x).toInt = (b 3 v).toInt + (b 4 v).toInt * x := by rw [z_add (by rw [hmul]; omega) (by rw [hmul]; omega), hmul]
        have hpr : prT b (bt side) x v = pl (b 3 v) (b 4 v) x := by unfold prT; rw [c4]; rfl
        refine lv_iconst (v := nI 1) hx hb dX1_price_21 (by decide) ?_
        refine lv_goto (tgt := 26) hx hb dX1_price_22 (by decide) ?_
        refine lv_istore (lv' := [(5, .int (nI 1)), (0, .ref (h)), (1, .int (side)), (2, .int (nI x)), (3, .int (z)), (4, .int (nI v))]) hx hb dX1_price_26 hl (by decide) rfl (fun ls hl => ?_)
        refine lv_iload hx hb dX1_price_28 (lv_at hl 0 rfl) ?_
        refine lv_if_eq (tgt := 53) hx hb dX1_price_30 (by decide) (fun c => absurd c (by decide)) (fun _ => ?_)
        refine lv_aload_n hx hb dX1_price_33 rfl (lv_at hl 1 rfl) ?_
        refine va_get (D := D) (ci := 1) (v := .ref (ad 3)) (C := RX1) (T := TX1) (N := 6) hx hb hts in_X1 hown hK hP 0 rfl rfl 3 (by decide) (hts _ q219) (fun _ h9 => h9) rfl dX1_price_34 ?_
        refine lv_iload hx hb dX1_price_37 (lv_at hl 5 rfl) ?_
        refine x_ald hx hb hK hP 4 3 rfl rfl (v) rfl (by omega) (by decide) dX1_price_39 ?_
        refine lv_aload_n hx hb dX1_price_40 rfl (lv_at hl 1 rfl) ?_
        refine va_get (D := D) (ci := 1) (v := .ref (ad 4)) (C := RX1) (T := TX1) (N := 6) hx hb hts in_X1 hown hK hP 0 rfl rfl 4 (by decide) (hts _ q220) (fun _ h9 => h9) rfl dX1_price_41 ?_
        refine lv_iload hx hb dX1_price_44 (lv_at hl 5 rfl) ?_
        refine x_ald hx hb hK hP 5 4 rfl rfl (v) rfl (by omega) (by decide) dX1_price_46 ?_
        refine lv_iload_n hx hb dX1_price_47 rfl (lv_at hl 3 rfl) ?_
        refine lv_imul hx hb dX1_price_48 ?_
        refine lv_iadd hx hb dX1_price_49 ?_
        refine lv_goto (tgt := 70) hx hb dX1_price_50 (by decide) ?_
        refine lv_istore (lv' := [(6, .int ((b 3 (v)) + ((b 4 (v)) * (nI x)))), (5, .int (nI 1)), (0, .ref (h)), (1, .int (side)), (2, .int (nI x)), (3, .int (z)), (4, .int (nI v))]) hx hb dX1_price_70 hl (by decide) rfl (fun ls hl => ?_)
        refine lv_iload hx hb dX1_price_72 (lv_at hl 0 rfl) ?_
        refine lv_if_le (tgt := 82) hx hb dX1_price_74 (by decide) (fun c5 => ?_) (fun c5 => ?_)
        · rw [z_le, hpl] at c5
          exact J (z) _ _ _ (by rw [hz, hpr]; unfold pl; rw [if_neg (by omega)]; omega) hP hS (lv_sub hl [2, 3, 4, 5, 6] rfl)
        · rw [z_le, hpl] at c5
          have hpv : pl (b 3 v) (b 4 v) x = (b 3 v).toInt + (b 4 v).toInt * x := by unfold pl; rw [if_pos (by omega)]
          refine lv_iload_n hx hb dX1_price_77 rfl (lv_at hl 5 rfl) ?_
          refine lv_iload hx hb dX1_price_78 (lv_at hl 0 rfl) ?_
          refine lv_iadd hx hb dX1_price_80 ?_
          refine lv_istore_n (lv' := [(3, .int ((z) + ((b 3 (v)) + ((b 4 (v)) * (nI x))))), (6, .int ((b 3 (v)) + ((b 4 (v)) * (nI x)))), (5, .int (nI 1)), (0, .ref (h)), (1, .int (side)), (2, .int (nI x)), (4, .int (nI v))]) hx hb dX1_price_81 rfl hl (by decide) rfl (fun ls hl => ?_)
          exact J (z + (b 3 v + b 4 v * nI x)) _ _ _ (by rw [z_add (by omega) (by omega), hz, hpl, hpr, hpv]) hP hS (lv_sub hl [3, 4, 5, 0, 6] rfl)
set_option maxHeartbeats 4000000 in
set_option maxRecDepth 100000 in
theorem mX1_cost (l : Launch) (D : va_G) (d : Nat → ClassId) (h : Nat) (ad : Nat → Nat) (b : Nat → Nat → Int32) (side x : Int32) (hg : DOK b) : Met l yX1_cost (ws_ yX1_cost cX1_cost 3 (some .int)) xr1 (x_Pc D (mT d) (mW d h ad b) [.ref (h), .int (side), .int (x)]) (x_QR (fun r => (¬ isN x 51 ∧ r = -2) ∨ ∃ n, n < 51 ∧ x = nI n ∧ r.toInt = pr b (bt side) n)) 0 0 x_no := by
  refine Met.ofW (cc := cX1_cost) (maxL := 3) (ret := (some .int)) (by decide) rfl ?_
  intro p e s m args below meth c s₁ B hml hv
  obtain ⟨rfl, hP, hK⟩ := hv
  have hx := B.exec
  have hb := B.bytes
  have hr := B.returns
  have hlocks := B.notSynchronized
  have hts := atoms_spec (ws := (ws_ yX1_cost cX1_cost 3 (some .int))) B.pre
  have hts : ∀ w ∈ lw_all, w.before _ s = true := fun w h => hts w (List.mem_cons_of_mem _ h)
  have hown : s.vm.findClass RX1 = some m.cls := findClass_of_methodNamed B.named
  have hS : va_S x_no s.heap s.heap [] := va_S.rf
  have hl := lv_entry ([.ref (h), .int (side), .int (x)]) (n := 3) (Nat.le_of_ble_eq_true rfl)
  rw [lg_entry_eq]
  generalize (lg_sl ([.ref (h), .int (side), .int (x)]) ++ List.replicate (3 - (lg_sl ([.ref (h), .int (side), .int (x)])).length) Slot.unset).toArray = ls at hl ⊢
  have hl : lv_has ls 3 [(0, .ref (h)), (1, .int (side)), (2, .int (x))] := hl
  have hP : va_P D vwCl (mW d h ad b) s.heap := hP
  refine lv_aload_n hx hb dX1_cost_0 rfl (lv_at hl 0 rfl) ?_
  refine lv_iload_n hx hb dX1_cost_1 rfl (lv_at hl 2 rfl) ?_
  refine x_roV (As := [.int (x)]) (rest := []) ⟨hx, hb, hml, hown, hts⟩ (mX1_isNumber l D d h ad b x) (cwV 1 hts (lw_V q264 q266 qs19 q23 q267) rfl rfl rfl (by decide +kernel) ⟨Nat.le_of_ble_eq_true rfl, Nat.le_of_ble_eq_true rfl⟩) (va_recv hK hP (ci := 1) (q0 := 0) rfl rfl) hP hK hP hS hl rfl rfl (Nat.le_of_ble_eq_true rfl) dX1_cost_2 ⟨Nat.zero_le _, Nat.zero_le _⟩ (fun r_ H locs e_ hP hS => ?_)
  rcases e_ with ⟨e_, hb_n⟩ | ⟨e_, n, hn, ev_⟩
  · subst e_
    refine lv_if_eq (tgt := 20) hx hb dX1_cost_5 (by decide) (fun _ => ?_) (fun c => absurd rfl c)
    refine lv_bipush (v := -2) hx hb dX1_cost_20 (by decide) ?_
    exact x_iret hx hb hr hlocks hS dX1_cost_22 (Or.inl ⟨hb_n, rfl⟩)
  · subst e_
    subst ev_
    refine lv_if_eq (tgt := 20) hx hb dX1_cost_5 (by decide) (fun c => absurd c (by decide)) (fun _ => ?_)
    refine lv_aload_n hx hb dX1_cost_8 rfl (lv_at hl 0 rfl) ?_
    refine lv_iload_n hx hb dX1_cost_9 rfl (lv_at hl 1 rfl) ?_
    refine lv_bipush (v := nI 127) hx hb dX1_cost_10 (by decide) ?_
    refine lv_iand hx hb dX1_cost_12 ?_
    refine lv_iload_n hx hb dX1_cost_13 rfl (lv_at hl 2 rfl) ?_
    refine x_roV (As := [.int ((side) &&& (nI 127)), .int ((nI n))]) (rest := []) ⟨hx, hb, hml, hown, hts⟩ (mX1_price l D d h ad b (side &&& nI 127) n (by omega) hg) (cwV 2 hts (lw_V q268 q270 qs20 q23 q271) rfl rfl rfl (by decide +kernel) ⟨Nat.le_of_ble_eq_true rfl, Nat.le_of_ble_eq_true rfl⟩) (va_recv hK hP (ci := 1) (q0 := 0) rfl rfl) hP hK hP hS hl rfl rfl (Nat.le_of_ble_eq_true rfl) dX1_cost_14 ⟨Nat.zero_le _, Nat.zero_le _⟩ (fun r2 H locs e4 hP hS => ?_)
    refine lv_goto (tgt := 22) hx hb dX1_cost_17 (by decide) ?_
    exact x_iret hx hb hr hlocks hS dX1_cost_22 (Or.inr ⟨n, hn, rfl, e4.trans (pr_side (fun v hv => by rw [b_and, b_127 v (by omega), decide_eq_true hv, Bool.and_true]) n)⟩)
end
section
/-! the reference: least, always, ever, ties, stages, worst, spare, separates -/
theorem pr_nI (g : Nat → Nat → Int32) (x s : Nat) : pr g (bt (nI s)) x = prs g x s := pr_side (fun v hv => b_nI (by omega)) x
theorem ansN {n : Nat} {r : Int32} {Q : Nat → Prop} (hn : n < 51) (h : (¬ isN (nI n) 51 ∧ r = -2) ∨ ∃ k, k < 51 ∧ nI n = nI k ∧ Q k) : Q n := by
  rcases h with ⟨h, _⟩ | ⟨k, hk, e, h⟩
  · exact absurd ⟨n, hn, rfl⟩ h
  · have := (nI_eq (by omega) (by omega)).mp e
    subst this; exact h
theorem lkG_lkG (g : Nat → Nat → Int32) (u v : Nat) (c c' : Int32) : lkG (lkG g u v c) u v c' = lkG g u v c' := by
  funext k q
  by_cases hk : k = 0
  · subst hk
    rw [lkG_0 (lkG g u v c) u v c' q, lkG_0 g u v c' q]
    by_cases h1 : q = v * 7 + u
    · rw [if_pos h1, if_pos h1]
    · rw [if_neg h1, if_neg h1]
      by_cases h2 : q = u * 7 + v
      · rw [if_pos h2, if_pos h2]
      · rw [if_neg h2, if_neg h2, lkG_0 g u v c q, if_neg h1, if_neg h2]
  · rw [lkG_k hk, lkG_k hk, lkG_k hk]
theorem lkG_self {g : Nat → Nat → Int32} (hg : DOK g) {u v : Nat} (hu : u < 7) (hv : v < 7) : lkG g u v (g 0 (u * 7 + v)) = g := by
  funext k q
  by_cases hk : k = 0
  · subst hk
    rw [lkG_0]
    by_cases h1 : q = v * 7 + u
    · rw [if_pos h1, h1]; exact (hg.1 u v hu hv).2.2
    · rw [if_neg h1]
      by_cases h2 : q = u * 7 + v
      · rw [if_pos h2, h2]
      · rw [if_neg h2]
  · rw [lkG_k hk]
theorem lkQ_get {g g' : Nat → Nat → Int32} {a b : Nat} {c r : Int32} (ha : a < 7) (hb : b < 7) (hab : a ≠ b) (hc : isN c 21) (h : lkQ g (nI a) (nI b) c r g') : g' = lkG g a b c := by
  rcases h with ⟨q, _⟩ | ⟨_, q, _⟩ | ⟨x, y, hx, hy, _, e1, e2, _, _, e3⟩
  · exact absurd q (lkB_not ha hb hab)
  · exact absurd hc q
  · have h1 := (nI_eq (by omega) (by omega)).mp e1
    have h2 := (nI_eq (by omega) (by omega)).mp e2
    subst h1; subst h2; exact e3
set_option maxHeartbeats 4000000 in
set_option maxRecDepth 100000 in
theorem mX1_least (l : Launch) (D : va_G) (d : Nat → ClassId) (h : Nat) (ad : Nat → Nat) (b : Nat → Nat → Int32) (x : Int32) (hg : DOK b) : Met l yX1_least (ws_ yX1_least cX1_least 5 (some .int)) xr1 (x_Pc D (mT d) (mW d h ad b) [.ref (h), .int (x)]) (x_QR (fun r => (¬ isN x 51 ∧ r = -2) ∨ ∃ n, n < 51 ∧ x = nI n ∧ r.toInt = lst b n)) 0 0 x_no := by
  refine Met.ofW (cc := cX1_least) (maxL := 5) (ret := (some .int)) (by decide) rfl ?_
  intro p e s m args below meth c s₁ B hml hv
  obtain ⟨rfl, hP, hK⟩ := hv
  have hx := B.exec
  have hb := B.bytes
  have hr := B.returns
  have hlocks := B.notSynchronized
  have hts := atoms_spec (ws := (ws_ yX1_least cX1_least 5 (some .int))) B.pre
  have hts : ∀ w ∈ lw_all, w.before _ s = true := fun w h => hts w (List.mem_cons_of_mem _ h)
  have hown : s.vm.findClass RX1 = some m.cls := findClass_of_methodNamed B.named
  have hS : va_S x_no s.heap s.heap [] := va_S.rf
  have hl := lv_entry ([.ref (h), .int (x)]) (n := 5) (Nat.le_of_ble_eq_true rfl)
  rw [lg_entry_eq]
  generalize (lg_sl ([.ref (h), .int (x)]) ++ List.replicate (5 - (lg_sl ([.ref (h), .int (x)])).length) Slot.unset).toArray = ls at hl ⊢
  have hl : lv_has ls 5 [(0, .ref (h)), (1, .int (x))] := hl
  have hP : va_P D vwCl (mW d h ad b) s.heap := hP
  refine lv_aload_n hx hb dX1_least_0 rfl (lv_at hl 0 rfl) ?_
  refine lv_iload_n hx hb dX1_least_1 rfl (lv_at hl 1 rfl) ?_
  refine x_roV (As := [.int (x)]) (rest := []) ⟨hx, hb, hml, hown, hts⟩ (mX1_isNumber l D d h ad b x) (cwV 1 hts (lw_V q264 q266 qs19 q23 q267) rfl rfl rfl (by decide +kernel) ⟨Nat.le_of_ble_eq_true rfl, Nat.le_of_ble_eq_true rfl⟩) (va_recv hK hP (ci := 1) (q0 := 0) rfl rfl) hP hK hP hS hl rfl rfl (Nat.le_of_ble_eq_true rfl) dX1_least_2 ⟨Nat.zero_le _, Nat.zero_le _⟩ (fun r_ H locs e_ hP hS => ?_)
  rcases e_ with ⟨e_, hb_n⟩ | ⟨e_, n, hn, ev_⟩
  · subst e_
    refine lv_if_ne (tgt := 11) hx hb dX1_least_5 (by decide) (fun c => absurd rfl c) (fun _ => ?_)
    refine lv_bipush (v := -2) hx hb dX1_least_8 (by decide) ?_
    exact x_iret hx hb hr hlocks hS dX1_least_10 (Or.inl ⟨hb_n, rfl⟩)
  · subst e_
    subst ev_
    refine lv_if_ne (tgt := 11) hx hb dX1_least_5 (by decide) (fun _ => ?_) (fun c => absurd c (by decide))
    refine lv_aload_n hx hb dX1_least_11 rfl (lv_at hl 0 rfl) ?_
    refine lv_iconst (v := nI 0) hx hb dX1_least_12 (by decide) ?_
    refine lv_iload_n hx hb dX1_least_13 rfl (lv_at hl 1 rfl) ?_
    refine x_roV (As := [.int (nI 0), .int ((nI n))]) (rest := []) ⟨hx, hb, hml, hown, hts⟩ (mX1_price l D d h ad b (nI 0) n (by omega) hg) (cwV 2 hts (lw_V q268 q270 qs20 q23 q271) rfl rfl rfl (by decide +kernel) ⟨Nat.le_of_ble_eq_true rfl, Nat.le_of_ble_eq_true rfl⟩) (va_recv hK hP (ci := 1) (q0 := 0) rfl rfl) hP hK hP hS hl rfl rfl (Nat.le_of_ble_eq_true rfl) dX1_least_14 ⟨Nat.zero_le _, Nat.zero_le _⟩ (fun p0 H locs e0 hP hS => ?_)
    rw [pr_nI] at e0
    refine lv_istore_n (lv' := [(2, .int (p0)), (0, .ref (h)), (1, .int ((nI n)))]) hx hb dX1_least_17 rfl hl (by decide) rfl (fun ls hl => ?_)
    refine lv_iconst (v := nI 1) hx hb dX1_least_18 (by decide) ?_
    refine lv_istore_n (lv' := [(3, .int (nI 1)), (2, .int (p0)), (0, .ref (h)), (1, .int ((nI n)))]) hx hb dX1_least_19 rfl hl (by decide) rfl (fun ls hl => ?_)
    refine x_loopR (σ := (Nat) × (Int32)) 20 5 (fun st => [(0, .ref (h)), (1, .int (nI n)), (2, .int (st.2)), (3, .int (nI (st.1 + 1)))]) (fun st => st.1 ≤ 127 ∧ (st.2).toInt = mn (prs b n) st.1) (fun st => 127 - st.1) ?_ ((0, p0)) (show 0 ≤ 127 ∧ (p0).toInt = mn (prs b n) 0 from ⟨by omega, e0⟩) hP hS (lv_sub hl [2, 3, 1, 0] rfl)
    intro st hI ih H locs ls hP hS hl
    obtain ⟨k, lo⟩ := st
    have hI : k ≤ 127 ∧ (lo).toInt = mn (prs b n) k := hI
    have hl : lv_has ls 5 [(0, .ref (h)), (1, .int (nI n)), (2, .int (lo)), (3, .int (nI (k + 1)))] := hl
    have hP : va_P D vwCl (mW d h ad b) H := hP
    obtain ⟨hk, hlo⟩ := hI
    refine lv_iload_n hx hb dX1_least_20 rfl (lv_at hl 3 rfl) ?_
    refine lv_sipush (v := nI 128) hx hb dX1_least_21 (by decide) ?_
    refine x_ge hx hb (k + 1) (128) rfl rfl (by omega) (by omega) (tgt := 50) dX1_least_24 (by decide) (fun c1 => ?_) (fun c1 => ?_)
    · have hk7 : k = 127 := by omega
      subst hk7
      refine lv_iload_n hx hb dX1_least_50 rfl (lv_at hl 2 rfl) ?_
      exact x_iret hx hb hr hlocks hS dX1_least_51 (Or.inr ⟨n, hn, rfl, hlo⟩)
    · refine lv_aload_n hx hb dX1_least_27 rfl (lv_at hl 0 rfl) ?_
      refine lv_iload_n hx hb dX1_least_28 rfl (lv_at hl 3 rfl) ?_
      refine lv_iload_n hx hb dX1_least_29 rfl (lv_at hl 1 rfl) ?_
      refine x_roV (As := [.int (nI (k + 1)), .int (nI n)]) (rest := []) ⟨hx, hb, hml, hown, hts⟩ (mX1_price l D d h ad b (nI (k + 1)) n (by omega) hg) (cwV 2 hts (lw_V q268 q270 qs20 q23 q271) rfl rfl rfl (by decide +kernel) ⟨Nat.le_of_ble_eq_true rfl, Nat.le_of_ble_eq_true rfl⟩) (va_recv hK hP (ci := 1) (q0 := 0) rfl rfl) hP hK hP hS hl rfl rfl (Nat.le_of_ble_eq_true rfl) dX1_least_30 ⟨Nat.zero_le _, Nat.zero_le _⟩ (fun p1 H locs e1 hP hS => ?_)
      rw [pr_nI] at e1
      have hmn : mn (prs b n) (k + 1) = if prs b n (k + 1) < mn (prs b n) k then prs b n (k + 1) else mn (prs b n) k := rfl
      refine lv_istore (lv' := [(4, .int (p1)), (0, .ref (h)), (1, .int (nI n)), (2, .int (lo)), (3, .int (nI (k + 1)))]) hx hb dX1_least_33 hl (by decide) rfl (fun ls hl => ?_)
      refine lv_iload hx hb dX1_least_35 (lv_at hl 0 rfl) ?_
      refine lv_iload_n hx hb dX1_least_37 rfl (lv_at hl 3 rfl) ?_
      refine lv_icmp_ge (tgt := 44) hx hb dX1_least_38 (by decide) (fun c2 => ?_) (fun c2 => ?_)
      · rw [z_le, e1, hlo] at c2
        refine lv_iinc (v := nI (k + 1 + 1)) (lv' := [(3, .int (nI (k + 1 + 1))), (4, .int (p1)), (0, .ref (h)), (1, .int (nI n)), (2, .int (lo))]) hx hb dX1_least_44 hl (k := 4) rfl (x_inc _) (by decide) rfl (fun ls hl => ?_)
        refine lv_goto (tgt := 20) hx hb dX1_least_47 (by decide) ?_
        exact ih ((k + 1, lo)) (show (k + 1) ≤ 127 ∧ (lo).toInt = mn (prs b n) (k + 1) from ⟨by omega, by rw [hmn, if_neg (by omega)]; exact hlo⟩) (by show 127 - (k + 1) < 127 - k; omega) _ _ _ hP hS (lv_sub hl [2, 3, 4, 0] rfl)
      · rw [z_le, e1, hlo] at c2
        refine lv_iload hx hb dX1_least_41 (lv_at hl 0 rfl) ?_
        refine lv_istore_n (lv' := [(2, .int (p1)), (4, .int (p1)), (0, .ref (h)), (1, .int (nI n)), (3, .int (nI (k + 1)))]) hx hb dX1_least_43 rfl hl (by decide) rfl (fun ls hl => ?_)
        refine lv_iinc (v := nI (k + 1 + 1)) (lv' := [(3, .int (nI (k + 1 + 1))), (2, .int (p1)), (4, .int (p1)), (0, .ref (h)), (1, .int (nI n))]) hx hb dX1_least_44 hl (k := 4) rfl (x_inc _) (by decide) rfl (fun ls hl => ?_)
        refine lv_goto (tgt := 20) hx hb dX1_least_47 (by decide) ?_
        exact ih ((k + 1, p1)) (show (k + 1) ≤ 127 ∧ (p1).toInt = mn (prs b n) (k + 1) from ⟨by omega, by rw [hmn, if_pos (by omega)]; exact e1⟩) (by show 127 - (k + 1) < 127 - k; omega) _ _ _ hP hS (lv_sub hl [3, 4, 1, 0] rfl)
set_option maxHeartbeats 4000000 in
set_option maxRecDepth 100000 in
theorem mX1_always (l : Launch) (D : va_G) (d : Nat → ClassId) (h : Nat) (ad : Nat → Nat) (b : Nat → Nat → Int32) (x : Int32) (hg : DOK b) : Met l yX1_always (ws_ yX1_always cX1_always 5 (some .int)) xr2 (x_Pc D (mT d) (mW d h ad b) [.ref (h), .int (x)]) (x_QR (fun r => (¬ isN x 51 ∧ r = -2) ∨ ∃ n, n < 51 ∧ x = nI n ∧ r = alw b n)) 0 0 x_no := by
  refine Met.ofW (cc := cX1_always) (maxL := 5) (ret := (some .int)) (by decide) rfl ?_
  intro p e s m args below meth c s₁ B hml hv
  obtain ⟨rfl, hP, hK⟩ := hv
  have hx := B.exec
  have hb := B.bytes
  have hr := B.returns
  have hlocks := B.notSynchronized
  have hts := atoms_spec (ws := (ws_ yX1_always cX1_always 5 (some .int))) B.pre
  have hts : ∀ w ∈ lw_all, w.before _ s = true := fun w h => hts w (List.mem_cons_of_mem _ h)
  have hown : s.vm.findClass RX1 = some m.cls := findClass_of_methodNamed B.named
  have hS : va_S x_no s.heap s.heap [] := va_S.rf
  have hl := lv_entry ([.ref (h), .int (x)]) (n := 5) (Nat.le_of_ble_eq_true rfl)
  rw [lg_entry_eq]
  generalize (lg_sl ([.ref (h), .int (x)]) ++ List.replicate (5 - (lg_sl ([.ref (h), .int (x)])).length) Slot.unset).toArray = ls at hl ⊢
  have hl : lv_has ls 5 [(0, .ref (h)), (1, .int (x))] := hl
  have hP : va_P D vwCl (mW d h ad b) s.heap := hP
  refine lv_aload_n hx hb dX1_always_0 rfl (lv_at hl 0 rfl) ?_
  refine lv_iload_n hx hb dX1_always_1 rfl (lv_at hl 1 rfl) ?_
  refine x_roV (As := [.int (x)]) (rest := []) ⟨hx, hb, hml, hown, hts⟩ (mX1_isNumber l D d h ad b x) (cwV 1 hts (lw_V q264 q266 qs19 q23 q267) rfl rfl rfl (by decide +kernel) ⟨Nat.le_of_ble_eq_true rfl, Nat.le_of_ble_eq_true rfl⟩) (va_recv hK hP (ci := 1) (q0 := 0) rfl rfl) hP hK hP hS hl rfl rfl (Nat.le_of_ble_eq_true rfl) dX1_always_2 ⟨Nat.zero_le _, Nat.zero_le _⟩ (fun r_ H locs e_ hP hS => ?_)
  rcases e_ with ⟨e_, hb_n⟩ | ⟨e_, n, hn, ev_⟩
  · subst e_
    refine lv_if_ne (tgt := 11) hx hb dX1_always_5 (by decide) (fun c => absurd rfl c) (fun _ => ?_)
    refine lv_bipush (v := -2) hx hb dX1_always_8 (by decide) ?_
    exact x_iret hx hb hr hlocks hS dX1_always_10 (Or.inl ⟨hb_n, rfl⟩)
  · subst e_
    subst ev_
    refine lv_if_ne (tgt := 11) hx hb dX1_always_5 (by decide) (fun _ => ?_) (fun c => absurd c (by decide))
    refine lv_bipush (v := nI 127) hx hb dX1_always_11 (by decide) ?_
    refine lv_istore_n (lv' := [(2, .int (nI 127)), (0, .ref (h)), (1, .int ((nI n)))]) hx hb dX1_always_13 rfl hl (by decide) rfl (fun ls hl => ?_)
    refine lv_aload_n hx hb dX1_always_14 rfl (lv_at hl 1 rfl) ?_
    refine lv_iload_n hx hb dX1_always_15 rfl (lv_at hl 2 rfl) ?_
    refine x_roV (As := [.int ((nI n))]) (rest := []) ⟨hx, hb, hml, hown, hts⟩ (mX1_least l D d h ad b (nI n) hg) (cwV 1 hts (lw_V q280 q273 q274 q23 q275) rfl rfl rfl (by decide +kernel) ⟨Nat.le_of_ble_eq_true rfl, Nat.le_of_ble_eq_true rfl⟩) (va_recv hK hP (ci := 1) (q0 := 0) rfl rfl) hP hK hP hS hl rfl rfl (Nat.le_of_ble_eq_true rfl) dX1_always_16 ⟨Nat.zero_le _, Nat.zero_le _⟩ (fun lo H locs hlo hP hS => ?_)
    have hlo : lo.toInt = lst b n := ansN (Q := fun k => lo.toInt = lst b k) hn hlo
    refine lv_istore_n (lv' := [(3, .int (lo)), (2, .int (nI 127)), (0, .ref (h)), (1, .int ((nI n)))]) hx hb dX1_always_19 rfl hl (by decide) rfl (fun ls hl => ?_)
    refine lv_iconst (v := nI 0) hx hb dX1_always_20 (by decide) ?_
    refine lv_istore (lv' := [(4, .int (nI 0)), (3, .int (lo)), (2, .int (nI 127)), (0, .ref (h)), (1, .int ((nI n)))]) hx hb dX1_always_21 hl (by decide) rfl (fun ls hl => ?_)
    refine x_loopR (σ := (Nat) × (Int32)) 23 5 (fun st => [(0, .ref (h)), (1, .int (nI n)), (2, .int (st.2)), (3, .int (lo)), (4, .int (nI st.1))]) (fun st => st.1 ≤ 128 ∧ st.2 = al (prs b n) (lst b n) st.1) (fun st => 128 - st.1) ?_ ((0, nI 127)) (show 0 ≤ 128 ∧ (nI 127) = al (prs b n) (lst b n) 0 from ⟨by omega, rfl⟩) hP hS (lv_sub hl [3, 4, 2, 1, 0] rfl)
    intro st hI ih H locs ls hP hS hl
    obtain ⟨k, z⟩ := st
    have hI : k ≤ 128 ∧ z = al (prs b n) (lst b n) k := hI
    have hl : lv_has ls 5 [(0, .ref (h)), (1, .int (nI n)), (2, .int (z)), (3, .int (lo)), (4, .int (nI k))] := hl
    have hP : va_P D vwCl (mW d h ad b) H := hP
    obtain ⟨hk, hz⟩ := hI
    refine lv_iload hx hb dX1_always_23 (lv_at hl 4 rfl) ?_
    refine lv_sipush (v := nI 128) hx hb dX1_always_25 (by decide) ?_
    refine x_ge hx hb (k) (128) rfl rfl (by omega) (by omega) (tgt := 53) dX1_always_28 (by decide) (fun c1 => ?_) (fun c1 => ?_)
    · have hk7 : k = 128 := by omega
      subst hk7
      refine lv_iload_n hx hb dX1_always_53 rfl (lv_at hl 2 rfl) ?_
      exact x_iret hx hb hr hlocks hS dX1_always_54 (Or.inr ⟨n, hn, rfl, hz⟩)
    · refine lv_aload_n hx hb dX1_always_31 rfl (lv_at hl 0 rfl) ?_
      refine lv_iload hx hb dX1_always_32 (lv_at hl 4 rfl) ?_
      refine lv_iload_n hx hb dX1_always_34 rfl (lv_at hl 1 rfl) ?_
      refine x_roV (As := [.int (nI k), .int (nI n)]) (rest := []) ⟨hx, hb, hml, hown, hts⟩ (mX1_price l D d h ad b (nI k) n (by omega) hg) (cwV 2 hts (lw_V q268 q270 qs20 q23 q271) rfl rfl rfl (by decide +kernel) ⟨Nat.le_of_ble_eq_true rfl, Nat.le_of_ble_eq_true rfl⟩) (va_recv hK hP (ci := 1) (q0 := 0) rfl rfl) hP hK hP hS hl rfl rfl (Nat.le_of_ble_eq_true rfl) dX1_always_35 ⟨Nat.zero_le _, Nat.zero_le _⟩ (fun p1 H locs e1 hP hS => ?_)
      rw [pr_nI] at e1
      refine lv_iload_n hx hb dX1_always_38 rfl (lv_at hl 3 rfl) ?_
      refine lv_icmp_ne (tgt := 47) hx hb dX1_always_39 (by decide) (fun c2 => ?_) (fun c2 => ?_)
      · have c2 : ¬ prs b n k = lst b n := fun q => c2 (z_eq.mpr (by rw [e1, hlo]; exact q))
        refine lv_iinc (v := nI (k + 1)) (lv' := [(4, .int (nI (k + 1))), (0, .ref (h)), (1, .int (nI n)), (2, .int (z)), (3, .int (lo))]) hx hb dX1_always_47 hl (k := 4) rfl (x_inc _) (by decide) rfl (fun ls hl => ?_)
        refine lv_goto (tgt := 23) hx hb dX1_always_50 (by decide) ?_
        exact ih ((k + 1, z)) (show (k + 1) ≤ 128 ∧ z = al (prs b n) (lst b n) (k + 1) from ⟨by omega, by rw [hz]; exact (if_neg c2).symm⟩) (by show 128 - (k + 1) < 128 - k; omega) _ _ _ hP hS (lv_sub hl [1, 2, 3, 4, 0] rfl)
      · have c2 : prs b n k = lst b n := by rw [← e1, ← hlo, c2]
        refine lv_iload_n hx hb dX1_always_42 rfl (lv_at hl 2 rfl) ?_
        refine lv_iload hx hb dX1_always_43 (lv_at hl 4 rfl) ?_
        refine lv_iand hx hb dX1_always_45 ?_
        refine lv_istore_n (lv' := [(2, .int ((z) &&& (nI k))), (0, .ref (h)), (1, .int (nI n)), (3, .int (lo)), (4, .int (nI k))]) hx hb dX1_always_46 rfl hl (by decide) rfl (fun ls hl => ?_)
        refine lv_iinc (v := nI (k + 1)) (lv' := [(4, .int (nI (k + 1))), (2, .int ((z) &&& (nI k))), (0, .ref (h)), (1, .int (nI n)), (3, .int (lo))]) hx hb dX1_always_47 hl (k := 4) rfl (x_inc _) (by decide) rfl (fun ls hl => ?_)
        refine lv_goto (tgt := 23) hx hb dX1_always_50 (by decide) ?_
        exact ih ((k + 1, z &&& nI k)) (show (k + 1) ≤ 128 ∧ (z &&& nI k) = al (prs b n) (lst b n) (k + 1) from ⟨by omega, by rw [hz]; exact (if_pos c2).symm⟩) (by show 128 - (k + 1) < 128 - k; omega) _ _ _ hP hS (lv_sub hl [2, 3, 1, 4, 0] rfl)
set_option maxHeartbeats 4000000 in
set_option maxRecDepth 100000 in
theorem mX1_ever (l : Launch) (D : va_G) (d : Nat → ClassId) (h : Nat) (ad : Nat → Nat) (b : Nat → Nat → Int32) (x : Int32) (hg : DOK b) : Met l yX1_ever (ws_ yX1_ever cX1_ever 5 (some .int)) xr2 (x_Pc D (mT d) (mW d h ad b) [.ref (h), .int (x)]) (x_QR (fun r => (¬ isN x 51 ∧ r = -2) ∨ ∃ n, n < 51 ∧ x = nI n ∧ r = evr b n)) 0 0 x_no := by
  refine Met.ofW (cc := cX1_ever) (maxL := 5) (ret := (some .int)) (by decide) rfl ?_
  intro p e s m args below meth c s₁ B hml hv
  obtain ⟨rfl, hP, hK⟩ := hv
  have hx := B.exec
  have hb := B.bytes
  have hr := B.returns
  have hlocks := B.notSynchronized
  have hts := atoms_spec (ws := (ws_ yX1_ever cX1_ever 5 (some .int))) B.pre
  have hts : ∀ w ∈ lw_all, w.before _ s = true := fun w h => hts w (List.mem_cons_of_mem _ h)
  have hown : s.vm.findClass RX1 = some m.cls := findClass_of_methodNamed B.named
  have hS : va_S x_no s.heap s.heap [] := va_S.rf
  have hl := lv_entry ([.ref (h), .int (x)]) (n := 5) (Nat.le_of_ble_eq_true rfl)
  rw [lg_entry_eq]
  generalize (lg_sl ([.ref (h), .int (x)]) ++ List.replicate (5 - (lg_sl ([.ref (h), .int (x)])).length) Slot.unset).toArray = ls at hl ⊢
  have hl : lv_has ls 5 [(0, .ref (h)), (1, .int (x))] := hl
  have hP : va_P D vwCl (mW d h ad b) s.heap := hP
  refine lv_aload_n hx hb dX1_ever_0 rfl (lv_at hl 0 rfl) ?_
  refine lv_iload_n hx hb dX1_ever_1 rfl (lv_at hl 1 rfl) ?_
  refine x_roV (As := [.int (x)]) (rest := []) ⟨hx, hb, hml, hown, hts⟩ (mX1_isNumber l D d h ad b x) (cwV 1 hts (lw_V q264 q266 qs19 q23 q267) rfl rfl rfl (by decide +kernel) ⟨Nat.le_of_ble_eq_true rfl, Nat.le_of_ble_eq_true rfl⟩) (va_recv hK hP (ci := 1) (q0 := 0) rfl rfl) hP hK hP hS hl rfl rfl (Nat.le_of_ble_eq_true rfl) dX1_ever_2 ⟨Nat.zero_le _, Nat.zero_le _⟩ (fun r_ H locs e_ hP hS => ?_)
  rcases e_ with ⟨e_, hb_n⟩ | ⟨e_, n, hn, ev_⟩
  · subst e_
    refine lv_if_ne (tgt := 11) hx hb dX1_ever_5 (by decide) (fun c => absurd rfl c) (fun _ => ?_)
    refine lv_bipush (v := -2) hx hb dX1_ever_8 (by decide) ?_
    exact x_iret hx hb hr hlocks hS dX1_ever_10 (Or.inl ⟨hb_n, rfl⟩)
  · subst e_
    subst ev_
    refine lv_if_ne (tgt := 11) hx hb dX1_ever_5 (by decide) (fun _ => ?_) (fun c => absurd c (by decide))
    refine lv_iconst (v := nI 0) hx hb dX1_ever_11 (by decide) ?_
    refine lv_istore_n (lv' := [(2, .int (nI 0)), (0, .ref (h)), (1, .int ((nI n)))]) hx hb dX1_ever_12 rfl hl (by decide) rfl (fun ls hl => ?_)
    refine lv_aload_n hx hb dX1_ever_13 rfl (lv_at hl 1 rfl) ?_
    refine lv_iload_n hx hb dX1_ever_14 rfl (lv_at hl 2 rfl) ?_
    refine x_roV (As := [.int ((nI n))]) (rest := []) ⟨hx, hb, hml, hown, hts⟩ (mX1_least l D d h ad b (nI n) hg) (cwV 1 hts (lw_V q280 q273 q274 q23 q275) rfl rfl rfl (by decide +kernel) ⟨Nat.le_of_ble_eq_true rfl, Nat.le_of_ble_eq_true rfl⟩) (va_recv hK hP (ci := 1) (q0 := 0) rfl rfl) hP hK hP hS hl rfl rfl (Nat.le_of_ble_eq_true rfl) dX1_ever_15 ⟨Nat.zero_le _, Nat.zero_le _⟩ (fun lo H locs hlo hP hS => ?_)
    have hlo : lo.toInt = lst b n := ansN (Q := fun k => lo.toInt = lst b k) hn hlo
    refine lv_istore_n (lv' := [(3, .int (lo)), (2, .int (nI 0)), (0, .ref (h)), (1, .int ((nI n)))]) hx hb dX1_ever_18 rfl hl (by decide) rfl (fun ls hl => ?_)
    refine lv_iconst (v := nI 0) hx hb dX1_ever_19 (by decide) ?_
    refine lv_istore (lv' := [(4, .int (nI 0)), (3, .int (lo)), (2, .int (nI 0)), (0, .ref (h)), (1, .int ((nI n)))]) hx hb dX1_ever_20 hl (by decide) rfl (fun ls hl => ?_)
    refine x_loopR (σ := (Nat) × (Int32)) 22 5 (fun st => [(0, .ref (h)), (1, .int (nI n)), (2, .int (st.2)), (3, .int (lo)), (4, .int (nI st.1))]) (fun st => st.1 ≤ 128 ∧ st.2 = ev (prs b n) (lst b n) st.1) (fun st => 128 - st.1) ?_ ((0, nI 0)) (show 0 ≤ 128 ∧ (nI 0) = ev (prs b n) (lst b n) 0 from ⟨by omega, rfl⟩) hP hS (lv_sub hl [3, 4, 2, 1, 0] rfl)
    intro st hI ih H locs ls hP hS hl
    obtain ⟨k, z⟩ := st
    have hI : k ≤ 128 ∧ z = ev (prs b n) (lst b n) k := hI
    have hl : lv_has ls 5 [(0, .ref (h)), (1, .int (nI n)), (2, .int (z)), (3, .int (lo)), (4, .int (nI k))] := hl
    have hP : va_P D vwCl (mW d h ad b) H := hP
    obtain ⟨hk, hz⟩ := hI
    refine lv_iload hx hb dX1_ever_22 (lv_at hl 4 rfl) ?_
    refine lv_sipush (v := nI 128) hx hb dX1_ever_24 (by decide) ?_
    refine x_ge hx hb (k) (128) rfl rfl (by omega) (by omega) (tgt := 52) dX1_ever_27 (by decide) (fun c1 => ?_) (fun c1 => ?_)
    · have hk7 : k = 128 := by omega
      subst hk7
      refine lv_iload_n hx hb dX1_ever_52 rfl (lv_at hl 2 rfl) ?_
      exact x_iret hx hb hr hlocks hS dX1_ever_53 (Or.inr ⟨n, hn, rfl, hz⟩)
    · refine lv_aload_n hx hb dX1_ever_30 rfl (lv_at hl 0 rfl) ?_
      refine lv_iload hx hb dX1_ever_31 (lv_at hl 4 rfl) ?_
      refine lv_iload_n hx hb dX1_ever_33 rfl (lv_at hl 1 rfl) ?_
      refine x_roV (As := [.int (nI k), .int (nI n)]) (rest := []) ⟨hx, hb, hml, hown, hts⟩ (mX1_price l D d h ad b (nI k) n (by omega) hg) (cwV 2 hts (lw_V q268 q270 qs20 q23 q271) rfl rfl rfl (by decide +kernel) ⟨Nat.le_of_ble_eq_true rfl, Nat.le_of_ble_eq_true rfl⟩) (va_recv hK hP (ci := 1) (q0 := 0) rfl rfl) hP hK hP hS hl rfl rfl (Nat.le_of_ble_eq_true rfl) dX1_ever_34 ⟨Nat.zero_le _, Nat.zero_le _⟩ (fun p1 H locs e1 hP hS => ?_)
      rw [pr_nI] at e1
      refine lv_iload_n hx hb dX1_ever_37 rfl (lv_at hl 3 rfl) ?_
      refine lv_icmp_ne (tgt := 46) hx hb dX1_ever_38 (by decide) (fun c2 => ?_) (fun c2 => ?_)
      · have c2 : ¬ prs b n k = lst b n := fun q => c2 (z_eq.mpr (by rw [e1, hlo]; exact q))
        refine lv_iinc (v := nI (k + 1)) (lv' := [(4, .int (nI (k + 1))), (0, .ref (h)), (1, .int (nI n)), (2, .int (z)), (3, .int (lo))]) hx hb dX1_ever_46 hl (k := 4) rfl (x_inc _) (by decide) rfl (fun ls hl => ?_)
        refine lv_goto (tgt := 22) hx hb dX1_ever_49 (by decide) ?_
        exact ih ((k + 1, z)) (show (k + 1) ≤ 128 ∧ z = ev (prs b n) (lst b n) (k + 1) from ⟨by omega, by rw [hz]; exact (if_neg c2).symm⟩) (by show 128 - (k + 1) < 128 - k; omega) _ _ _ hP hS (lv_sub hl [1, 2, 3, 4, 0] rfl)
      · have c2 : prs b n k = lst b n := by rw [← e1, ← hlo, c2]
        refine lv_iload_n hx hb dX1_ever_41 rfl (lv_at hl 2 rfl) ?_
        refine lv_iload hx hb dX1_ever_42 (lv_at hl 4 rfl) ?_
        refine lv_ior hx hb dX1_ever_44 ?_
        refine lv_istore_n (lv' := [(2, .int ((z) ||| (nI k))), (0, .ref (h)), (1, .int (nI n)), (3, .int (lo)), (4, .int (nI k))]) hx hb dX1_ever_45 rfl hl (by decide) rfl (fun ls hl => ?_)
        refine lv_iinc (v := nI (k + 1)) (lv' := [(4, .int (nI (k + 1))), (2, .int ((z) ||| (nI k))), (0, .ref (h)), (1, .int (nI n)), (3, .int (lo))]) hx hb dX1_ever_46 hl (k := 4) rfl (x_inc _) (by decide) rfl (fun ls hl => ?_)
        refine lv_goto (tgt := 22) hx hb dX1_ever_49 (by decide) ?_
        exact ih ((k + 1, z ||| nI k)) (show (k + 1) ≤ 128 ∧ (z ||| nI k) = ev (prs b n) (lst b n) (k + 1) from ⟨by omega, by rw [hz]; exact (if_pos c2).symm⟩) (by show 128 - (k + 1) < 128 - k; omega) _ _ _ hP hS (lv_sub hl [2, 3, 1, 4, 0] rfl)
set_option maxHeartbeats 4000000 in
set_option maxRecDepth 100000 in
theorem mX1_ties (l : Launch) (D : va_G) (d : Nat → ClassId) (h : Nat) (ad : Nat → Nat) (b : Nat → Nat → Int32) (x : Int32) (hg : DOK b) : Met l yX1_ties (ws_ yX1_ties cX1_ties 5 (some .int)) xr2 (x_Pc D (mT d) (mW d h ad b) [.ref (h), .int (x)]) (x_QR (fun r => (¬ isN x 51 ∧ r = -2) ∨ ∃ n, n < 51 ∧ x = nI n ∧ r = nI (tie b n))) 0 0 x_no := by
  refine Met.ofW (cc := cX1_ties) (maxL := 5) (ret := (some .int)) (by decide) rfl ?_
  intro p e s m args below meth c s₁ B hml hv
  obtain ⟨rfl, hP, hK⟩ := hv
  have hx := B.exec
  have hb := B.bytes
  have hr := B.returns
  have hlocks := B.notSynchronized
  have hts := atoms_spec (ws := (ws_ yX1_ties cX1_ties 5 (some .int))) B.pre
  have hts : ∀ w ∈ lw_all, w.before _ s = true := fun w h => hts w (List.mem_cons_of_mem _ h)
  have hown : s.vm.findClass RX1 = some m.cls := findClass_of_methodNamed B.named
  have hS : va_S x_no s.heap s.heap [] := va_S.rf
  have hl := lv_entry ([.ref (h), .int (x)]) (n := 5) (Nat.le_of_ble_eq_true rfl)
  rw [lg_entry_eq]
  generalize (lg_sl ([.ref (h), .int (x)]) ++ List.replicate (5 - (lg_sl ([.ref (h), .int (x)])).length) Slot.unset).toArray = ls at hl ⊢
  have hl : lv_has ls 5 [(0, .ref (h)), (1, .int (x))] := hl
  have hP : va_P D vwCl (mW d h ad b) s.heap := hP
  refine lv_aload_n hx hb dX1_ties_0 rfl (lv_at hl 0 rfl) ?_
  refine lv_iload_n hx hb dX1_ties_1 rfl (lv_at hl 1 rfl) ?_
  refine x_roV (As := [.int (x)]) (rest := []) ⟨hx, hb, hml, hown, hts⟩ (mX1_isNumber l D d h ad b x) (cwV 1 hts (lw_V q264 q266 qs19 q23 q267) rfl rfl rfl (by decide +kernel) ⟨Nat.le_of_ble_eq_true rfl, Nat.le_of_ble_eq_true rfl⟩) (va_recv hK hP (ci := 1) (q0 := 0) rfl rfl) hP hK hP hS hl rfl rfl (Nat.le_of_ble_eq_true rfl) dX1_ties_2 ⟨Nat.zero_le _, Nat.zero_le _⟩ (fun r_ H locs e_ hP hS => ?_)
  rcases e_ with ⟨e_, hb_n⟩ | ⟨e_, n, hn, ev_⟩
  · subst e_
    refine lv_if_ne (tgt := 11) hx hb dX1_ties_5 (by decide) (fun c => absurd rfl c) (fun _ => ?_)
    refine lv_bipush (v := -2) hx hb dX1_ties_8 (by decide) ?_
    exact x_iret hx hb hr hlocks hS dX1_ties_10 (Or.inl ⟨hb_n, rfl⟩)
  · subst e_
    subst ev_
    refine lv_if_ne (tgt := 11) hx hb dX1_ties_5 (by decide) (fun _ => ?_) (fun c => absurd c (by decide))
    refine lv_iconst (v := nI 0) hx hb dX1_ties_11 (by decide) ?_
    refine lv_istore_n (lv' := [(2, .int (nI 0)), (0, .ref (h)), (1, .int ((nI n)))]) hx hb dX1_ties_12 rfl hl (by decide) rfl (fun ls hl => ?_)
    refine lv_aload_n hx hb dX1_ties_13 rfl (lv_at hl 1 rfl) ?_
    refine lv_iload_n hx hb dX1_ties_14 rfl (lv_at hl 2 rfl) ?_
    refine x_roV (As := [.int ((nI n))]) (rest := []) ⟨hx, hb, hml, hown, hts⟩ (mX1_least l D d h ad b (nI n) hg) (cwV 1 hts (lw_V q280 q273 q274 q23 q275) rfl rfl rfl (by decide +kernel) ⟨Nat.le_of_ble_eq_true rfl, Nat.le_of_ble_eq_true rfl⟩) (va_recv hK hP (ci := 1) (q0 := 0) rfl rfl) hP hK hP hS hl rfl rfl (Nat.le_of_ble_eq_true rfl) dX1_ties_15 ⟨Nat.zero_le _, Nat.zero_le _⟩ (fun lo H locs hlo hP hS => ?_)
    have hlo : lo.toInt = lst b n := ansN (Q := fun k => lo.toInt = lst b k) hn hlo
    refine lv_istore_n (lv' := [(3, .int (lo)), (2, .int (nI 0)), (0, .ref (h)), (1, .int ((nI n)))]) hx hb dX1_ties_18 rfl hl (by decide) rfl (fun ls hl => ?_)
    refine lv_iconst (v := nI 0) hx hb dX1_ties_19 (by decide) ?_
    refine lv_istore (lv' := [(4, .int (nI 0)), (3, .int (lo)), (2, .int (nI 0)), (0, .ref (h)), (1, .int ((nI n)))]) hx hb dX1_ties_20 hl (by decide) rfl (fun ls hl => ?_)
    refine x_loopR (σ := (Nat) × (Nat)) 22 5 (fun st => [(0, .ref (h)), (1, .int (nI n)), (2, .int (nI st.2)), (3, .int (lo)), (4, .int (nI st.1))]) (fun st => st.1 ≤ 128 ∧ st.2 = cp (fun s => prs b n s = lst b n) st.1) (fun st => 128 - st.1) ?_ ((0, 0)) (show 0 ≤ 128 ∧ 0 = cp (fun s => prs b n s = lst b n) 0 from ⟨by omega, rfl⟩) hP hS (lv_sub hl [3, 4, 2, 1, 0] rfl)
    intro st hI ih H locs ls hP hS hl
    obtain ⟨k, z⟩ := st
    have hI : k ≤ 128 ∧ z = cp (fun s => prs b n s = lst b n) k := hI
    have hl : lv_has ls 5 [(0, .ref (h)), (1, .int (nI n)), (2, .int (nI z)), (3, .int (lo)), (4, .int (nI k))] := hl
    have hP : va_P D vwCl (mW d h ad b) H := hP
    obtain ⟨hk, hz⟩ := hI
    refine lv_iload hx hb dX1_ties_22 (lv_at hl 4 rfl) ?_
    refine lv_sipush (v := nI 128) hx hb dX1_ties_24 (by decide) ?_
    refine x_ge hx hb (k) (128) rfl rfl (by omega) (by omega) (tgt := 50) dX1_ties_27 (by decide) (fun c1 => ?_) (fun c1 => ?_)
    · have hk7 : k = 128 := by omega
      subst hk7
      refine lv_iload_n hx hb dX1_ties_50 rfl (lv_at hl 2 rfl) ?_
      exact x_iret hx hb hr hlocks hS dX1_ties_51 (Or.inr ⟨n, hn, rfl, by rw [hz]; rfl⟩)
    · refine lv_aload_n hx hb dX1_ties_30 rfl (lv_at hl 0 rfl) ?_
      refine lv_iload hx hb dX1_ties_31 (lv_at hl 4 rfl) ?_
      refine lv_iload_n hx hb dX1_ties_33 rfl (lv_at hl 1 rfl) ?_
      refine x_roV (As := [.int (nI k), .int (nI n)]) (rest := []) ⟨hx, hb, hml, hown, hts⟩ (mX1_price l D d h ad b (nI k) n (by omega) hg) (cwV 2 hts (lw_V q268 q270 qs20 q23 q271) rfl rfl rfl (by decide +kernel) ⟨Nat.le_of_ble_eq_true rfl, Nat.le_of_ble_eq_true rfl⟩) (va_recv hK hP (ci := 1) (q0 := 0) rfl rfl) hP hK hP hS hl rfl rfl (Nat.le_of_ble_eq_true rfl) dX1_ties_34 ⟨Nat.zero_le _, Nat.zero_le _⟩ (fun p1 H locs e1 hP hS => ?_)
      rw [pr_nI] at e1
      refine lv_iload_n hx hb dX1_ties_37 rfl (lv_at hl 3 rfl) ?_
      refine lv_icmp_ne (tgt := 44) hx hb dX1_ties_38 (by decide) (fun c2 => ?_) (fun c2 => ?_)
      · have c2 : ¬ prs b n k = lst b n := fun q => c2 (z_eq.mpr (by rw [e1, hlo]; exact q))
        refine lv_iinc (v := nI (k + 1)) (lv' := [(4, .int (nI (k + 1))), (0, .ref (h)), (1, .int (nI n)), (2, .int (nI z)), (3, .int (lo))]) hx hb dX1_ties_44 hl (k := 4) rfl (x_inc _) (by decide) rfl (fun ls hl => ?_)
        refine lv_goto (tgt := 22) hx hb dX1_ties_47 (by decide) ?_
        exact ih ((k + 1, z)) (show (k + 1) ≤ 128 ∧ z = cp (fun s => prs b n s = lst b n) (k + 1) from ⟨by omega, by rw [cp_neg (P := fun s => prs b n s = lst b n) c2, hz]⟩) (by show 128 - (k + 1) < 128 - k; omega) _ _ _ hP hS (lv_sub hl [1, 2, 3, 4, 0] rfl)
      · have c2 : prs b n k = lst b n := by rw [← e1, ← hlo, c2]
        refine lv_iinc (v := nI (z + 1)) (lv' := [(2, .int (nI (z + 1))), (0, .ref (h)), (1, .int (nI n)), (3, .int (lo)), (4, .int (nI k))]) hx hb dX1_ties_41 hl (k := 2) rfl (x_inc _) (by decide) rfl (fun ls hl => ?_)
        refine lv_iinc (v := nI (k + 1)) (lv' := [(4, .int (nI (k + 1))), (2, .int (nI (z + 1))), (0, .ref (h)), (1, .int (nI n)), (3, .int (lo))]) hx hb dX1_ties_44 hl (k := 4) rfl (x_inc _) (by decide) rfl (fun ls hl => ?_)
        refine lv_goto (tgt := 22) hx hb dX1_ties_47 (by decide) ?_
        exact ih ((k + 1, z + 1)) (show (k + 1) ≤ 128 ∧ (z + 1) = cp (fun s => prs b n s = lst b n) (k + 1) from ⟨by omega, by rw [cp_pos (P := fun s => prs b n s = lst b n) c2, hz]⟩) (by show 128 - (k + 1) < 128 - k; omega) _ _ _ hP hS (lv_sub hl [2, 3, 1, 4, 0] rfl)
set_option maxHeartbeats 4000000 in
set_option maxRecDepth 100000 in
theorem mX1_worst (l : Launch) (D : va_G) (d : Nat → ClassId) (h : Nat) (ad : Nat → Nat) (b : Nat → Nat → Int32)  (hg : DOK b) : Met l yX1_worst (ws_ yX1_worst cX1_worst 5 (some .int)) xr2 (x_Pc D (mT d) (mW d h ad b) [.ref (h)]) (x_QR (fun r => r = nI (wst (lst b) 50).1)) 0 0 x_no := by
  refine Met.ofW (cc := cX1_worst) (maxL := 5) (ret := (some .int)) (by decide) rfl ?_
  intro p e s m args below meth c s₁ B hml hv
  obtain ⟨rfl, hP, hK⟩ := hv
  have hx := B.exec
  have hb := B.bytes
  have hr := B.returns
  have hlocks := B.notSynchronized
  have hts := atoms_spec (ws := (ws_ yX1_worst cX1_worst 5 (some .int))) B.pre
  have hts : ∀ w ∈ lw_all, w.before _ s = true := fun w h => hts w (List.mem_cons_of_mem _ h)
  have hown : s.vm.findClass RX1 = some m.cls := findClass_of_methodNamed B.named
  have hS : va_S x_no s.heap s.heap [] := va_S.rf
  have hl := lv_entry ([.ref (h)]) (n := 5) (Nat.le_of_ble_eq_true rfl)
  rw [lg_entry_eq]
  generalize (lg_sl ([.ref (h)]) ++ List.replicate (5 - (lg_sl ([.ref (h)])).length) Slot.unset).toArray = ls at hl ⊢
  have hl : lv_has ls 5 [(0, .ref (h))] := hl
  have hP : va_P D vwCl (mW d h ad b) s.heap := hP
  refine lv_iconst (v := nI 0) hx hb dX1_worst_0 (by decide) ?_
  refine lv_istore_n (lv' := [(1, .int (nI 0)), (0, .ref (h))]) hx hb dX1_worst_1 rfl hl (by decide) rfl (fun ls hl => ?_)
  refine lv_aload_n hx hb dX1_worst_2 rfl (lv_at hl 1 rfl) ?_
  refine lv_iconst (v := nI 0) hx hb dX1_worst_3 (by decide) ?_
  refine x_roV (As := [.int (nI 0)]) (rest := []) ⟨hx, hb, hml, hown, hts⟩ (mX1_least l D d h ad b (nI 0) hg) (cwV 1 hts (lw_V q280 q273 q274 q23 q275) rfl rfl rfl (by decide +kernel) ⟨Nat.le_of_ble_eq_true rfl, Nat.le_of_ble_eq_true rfl⟩) (va_recv hK hP (ci := 1) (q0 := 0) rfl rfl) hP hK hP hS hl rfl rfl (Nat.le_of_ble_eq_true rfl) dX1_worst_4 ⟨Nat.zero_le _, Nat.zero_le _⟩ (fun l0 H locs h0 hP hS => ?_)
  have h0 : l0.toInt = lst b 0 := ansN (Q := fun k => l0.toInt = lst b k) (by decide) h0
  refine lv_istore_n (lv' := [(2, .int (l0)), (1, .int (nI 0)), (0, .ref (h))]) hx hb dX1_worst_7 rfl hl (by decide) rfl (fun ls hl => ?_)
  refine lv_iconst (v := nI 1) hx hb dX1_worst_8 (by decide) ?_
  refine lv_istore_n (lv' := [(3, .int (nI 1)), (2, .int (l0)), (1, .int (nI 0)), (0, .ref (h))]) hx hb dX1_worst_9 rfl hl (by decide) rfl (fun ls hl => ?_)
  refine x_loopR (σ := (Nat) × (Nat) × (Int32)) 10 5 (fun st => [(0, .ref (h)), (1, .int (nI st.2.1)), (2, .int (st.2.2)), (3, .int (nI (st.1 + 1)))]) (fun st => st.1 ≤ 50 ∧ st.2.1 = (wst (lst b) st.1).1 ∧ (st.2.2).toInt = (wst (lst b) st.1).2) (fun st => 50 - st.1) ?_ ((0, 0, l0)) (show 0 ≤ 50 ∧ 0 = (wst (lst b) 0).1 ∧ (l0).toInt = (wst (lst b) 0).2 from ⟨by omega, rfl, h0⟩) hP hS (lv_sub hl [3, 2, 1, 0] rfl)
  intro st hI ih H locs ls hP hS hl
  obtain ⟨k, best, most⟩ := st
  have hI : k ≤ 50 ∧ best = (wst (lst b) k).1 ∧ (most).toInt = (wst (lst b) k).2 := hI
  have hl : lv_has ls 5 [(0, .ref (h)), (1, .int (nI best)), (2, .int (most)), (3, .int (nI (k + 1)))] := hl
  have hP : va_P D vwCl (mW d h ad b) H := hP
  obtain ⟨hk, hbe, hmo⟩ := hI
  refine lv_iload_n hx hb dX1_worst_10 rfl (lv_at hl 3 rfl) ?_
  refine lv_bipush (v := nI 50) hx hb dX1_worst_11 (by decide) ?_
  refine x_gt hx hb (k + 1) (50) rfl rfl (by omega) (by omega) (tgt := 40) dX1_worst_13 (by decide) (fun c1 => ?_) (fun c1 => ?_)
  · have hk5 : k = 50 := by omega
    subst hk5
    refine lv_iload_n hx hb dX1_worst_40 rfl (lv_at hl 1 rfl) ?_
    exact x_iret hx hb hr hlocks hS dX1_worst_41 (by rw [hbe])
  · refine lv_aload_n hx hb dX1_worst_16 rfl (lv_at hl 0 rfl) ?_
    refine lv_iload_n hx hb dX1_worst_17 rfl (lv_at hl 3 rfl) ?_
    refine x_roV (As := [.int (nI (k + 1))]) (rest := []) ⟨hx, hb, hml, hown, hts⟩ (mX1_least l D d h ad b (nI (k + 1)) hg) (cwV 1 hts (lw_V q280 q273 q274 q23 q275) rfl rfl rfl (by decide +kernel) ⟨Nat.le_of_ble_eq_true rfl, Nat.le_of_ble_eq_true rfl⟩) (va_recv hK hP (ci := 1) (q0 := 0) rfl rfl) hP hK hP hS hl rfl rfl (Nat.le_of_ble_eq_true rfl) dX1_worst_18 ⟨Nat.zero_le _, Nat.zero_le _⟩ (fun l1 H locs h1 hP hS => ?_)
    have h1 : l1.toInt = lst b (k + 1) := ansN (Q := fun k => l1.toInt = lst b k) (by omega) h1
    have hw : wst (lst b) (k + 1) = if (wst (lst b) k).2 < lst b (k + 1) then (k + 1, lst b (k + 1)) else wst (lst b) k := rfl
    refine lv_istore (lv' := [(4, .int (l1)), (0, .ref (h)), (1, .int (nI best)), (2, .int (most)), (3, .int (nI (k + 1)))]) hx hb dX1_worst_21 hl (by decide) rfl (fun ls hl => ?_)
    refine lv_iload hx hb dX1_worst_23 (lv_at hl 0 rfl) ?_
    refine lv_iload_n hx hb dX1_worst_25 rfl (lv_at hl 3 rfl) ?_
    refine lv_icmp_le (tgt := 34) hx hb dX1_worst_26 (by decide) (fun c2 => ?_) (fun c2 => ?_)
    · rw [z_le, h1, hmo] at c2
      refine lv_iinc (v := nI (k + 1 + 1)) (lv' := [(3, .int (nI (k + 1 + 1))), (4, .int (l1)), (0, .ref (h)), (1, .int (nI best)), (2, .int (most))]) hx hb dX1_worst_34 hl (k := 4) rfl (x_inc _) (by decide) rfl (fun ls hl => ?_)
      refine lv_goto (tgt := 10) hx hb dX1_worst_37 (by decide) ?_
      exact ih ((k + 1, best, most)) (show (k + 1) ≤ 50 ∧ best = (wst (lst b) (k + 1)).1 ∧ (most).toInt = (wst (lst b) (k + 1)).2 from ⟨by omega, by rw [hw, if_neg (by omega)]; exact hbe, by rw [hw, if_neg (by omega)]; exact hmo⟩) (by show 50 - (k + 1) < 50 - k; omega) _ _ _ hP hS (lv_sub hl [2, 3, 4, 0] rfl)
    · rw [z_le, h1, hmo] at c2
      refine lv_iload hx hb dX1_worst_29 (lv_at hl 0 rfl) ?_
      refine lv_istore_n (lv' := [(2, .int (l1)), (4, .int (l1)), (0, .ref (h)), (1, .int (nI best)), (3, .int (nI (k + 1)))]) hx hb dX1_worst_31 rfl hl (by decide) rfl (fun ls hl => ?_)
      refine lv_iload_n hx hb dX1_worst_32 rfl (lv_at hl 4 rfl) ?_
      refine lv_istore_n (lv' := [(1, .int (nI (k + 1))), (2, .int (l1)), (4, .int (l1)), (0, .ref (h)), (3, .int (nI (k + 1)))]) hx hb dX1_worst_33 rfl hl (by decide) rfl (fun ls hl => ?_)
      refine lv_iinc (v := nI (k + 1 + 1)) (lv' := [(3, .int (nI (k + 1 + 1))), (1, .int (nI (k + 1))), (2, .int (l1)), (4, .int (l1)), (0, .ref (h))]) hx hb dX1_worst_34 hl (k := 4) rfl (x_inc _) (by decide) rfl (fun ls hl => ?_)
      refine lv_goto (tgt := 10) hx hb dX1_worst_37 (by decide) ?_
      exact ih ((k + 1, k + 1, l1)) (show (k + 1) ≤ 50 ∧ (k + 1) = (wst (lst b) (k + 1)).1 ∧ (l1).toInt = (wst (lst b) (k + 1)).2 from ⟨by omega, by rw [hw, if_pos (by omega)], by rw [hw, if_pos (by omega)]; exact h1⟩) (by show 50 - (k + 1) < 50 - k; omega) _ _ _ hP hS (lv_sub hl [4, 1, 2, 0] rfl)
set_option maxHeartbeats 4000000 in
set_option maxRecDepth 100000 in
theorem mX1_separates (l : Launch) (D : va_G) (d : Nat → ClassId) (h : Nat) (ad : Nat → Nat) (b : Nat → Nat → Int32) (u v x : Int32) (hg : DOK b) : Met l yX1_separates (ws_ yX1_separates cX1_separates 6 (some .boolean)) xr2 (x_Pc D (mT d) (mW d h ad b) [.ref (h), .int (u), .int (v), .int (x)]) (x_QR (fun r => ((lkB u v ∨ ¬ isN x 51) ∧ r = nI 0) ∨ ∃ nu nv n, nu < 7 ∧ nv < 7 ∧ nu ≠ nv ∧ n < 51 ∧ u = nI nu ∧ v = nI nv ∧ x = nI n ∧ ((r = nI 1 ∧ sepP b nu nv n) ∨ (r = nI 0 ∧ ¬ sepP b nu nv n)))) 0 0 x_no := by
  refine Met.ofW (cc := cX1_separates) (maxL := 6) (ret := (some .boolean)) (by decide) rfl ?_
  intro p e s m args below meth c s₁ B hml hv
  obtain ⟨rfl, hP, hK⟩ := hv
  have hx := B.exec
  have hb := B.bytes
  have hr := B.returns
  have hlocks := B.notSynchronized
  have hts := atoms_spec (ws := (ws_ yX1_separates cX1_separates 6 (some .boolean))) B.pre
  have hts : ∀ w ∈ lw_all, w.before _ s = true := fun w h => hts w (List.mem_cons_of_mem _ h)
  have hown : s.vm.findClass RX1 = some m.cls := findClass_of_methodNamed B.named
  have hS : va_S x_no s.heap s.heap [] := va_S.rf
  have hl := lv_entry ([.ref (h), .int (u), .int (v), .int (x)]) (n := 6) (Nat.le_of_ble_eq_true rfl)
  rw [lg_entry_eq]
  generalize (lg_sl ([.ref (h), .int (u), .int (v), .int (x)]) ++ List.replicate (6 - (lg_sl ([.ref (h), .int (u), .int (v), .int (x)])).length) Slot.unset).toArray = ls at hl ⊢
  have hl : lv_has ls 6 [(0, .ref (h)), (1, .int (u)), (2, .int (v)), (3, .int (x))] := hl
  have hP : va_P D vwCl (mW d h ad b) s.heap := hP
  refine lv_aload_n hx hb dX1_separates_0 rfl (lv_at hl 0 rfl) ?_
  refine lv_iload_n hx hb dX1_separates_1 rfl (lv_at hl 1 rfl) ?_
  refine x_roV (As := [.int (u)]) (rest := []) ⟨hx, hb, hml, hown, hts⟩ (mX1_isNode l D d h ad b u) (cwV 1 hts (lw_V q240 q242 qs17 q23 q243) rfl rfl rfl (by decide +kernel) ⟨Nat.le_of_ble_eq_true rfl, Nat.le_of_ble_eq_true rfl⟩) (va_recv hK hP (ci := 1) (q0 := 0) rfl rfl) hP hK hP hS hl rfl rfl (Nat.le_of_ble_eq_true rfl) dX1_separates_2 ⟨Nat.zero_le _, Nat.zero_le _⟩ (fun r_ H locs e_ hP hS => ?_)
  rcases e_ with ⟨e_, hb_nu⟩ | ⟨e_, nu, hnu, ev_⟩
  · subst e_
    refine lv_if_eq (tgt := 29) hx hb dX1_separates_5 (by decide) (fun _ => ?_) (fun c => absurd rfl c)
    refine lv_iconst (v := nI 0) hx hb dX1_separates_29 (by decide) ?_
    exact x_zret hx hb hr hlocks hS dX1_separates_30 (Or.inl rfl) (Or.inl ⟨Or.inl (Or.inl hb_nu), rfl⟩)
  · subst e_
    subst ev_
    refine lv_if_eq (tgt := 29) hx hb dX1_separates_5 (by decide) (fun c => absurd c (by decide)) (fun _ => ?_)
    refine lv_aload_n hx hb dX1_separates_8 rfl (lv_at hl 0 rfl) ?_
    refine lv_iload_n hx hb dX1_separates_9 rfl (lv_at hl 2 rfl) ?_
    refine x_roV (As := [.int (v)]) (rest := []) ⟨hx, hb, hml, hown, hts⟩ (mX1_isNode l D d h ad b v) (cwV 1 hts (lw_V q240 q242 qs17 q23 q243) rfl rfl rfl (by decide +kernel) ⟨Nat.le_of_ble_eq_true rfl, Nat.le_of_ble_eq_true rfl⟩) (va_recv hK hP (ci := 1) (q0 := 0) rfl rfl) hP hK hP hS hl rfl rfl (Nat.le_of_ble_eq_true rfl) dX1_separates_10 ⟨Nat.zero_le _, Nat.zero_le _⟩ (fun r_ H locs e_ hP hS => ?_)
    rcases e_ with ⟨e_, hb_nv⟩ | ⟨e_, nv, hnv, ev_⟩
    · subst e_
      refine lv_if_eq (tgt := 29) hx hb dX1_separates_13 (by decide) (fun _ => ?_) (fun c => absurd rfl c)
      refine lv_iconst (v := nI 0) hx hb dX1_separates_29 (by decide) ?_
      exact x_zret hx hb hr hlocks hS dX1_separates_30 (Or.inl rfl) (Or.inl ⟨Or.inl (Or.inr (Or.inl hb_nv)), rfl⟩)
    · subst e_
      subst ev_
      refine lv_if_eq (tgt := 29) hx hb dX1_separates_13 (by decide) (fun c => absurd c (by decide)) (fun _ => ?_)
      refine lv_iload_n hx hb dX1_separates_16 rfl (lv_at hl 1 rfl) ?_
      refine lv_iload_n hx hb dX1_separates_17 rfl (lv_at hl 2 rfl) ?_
      refine x_eq hx hb (nu) (nv) rfl rfl (by omega) (by omega) (tgt := 29) dX1_separates_18 (by decide) (fun c1 => ?_) (fun c1 => ?_)
      · subst c1
        refine lv_iconst (v := nI 0) hx hb dX1_separates_29 (by decide) ?_
        exact x_zret hx hb hr hlocks hS dX1_separates_30 (Or.inl rfl) (Or.inl ⟨Or.inl (Or.inr (Or.inr rfl)), rfl⟩)
      · refine lv_aload_n hx hb dX1_separates_21 rfl (lv_at hl 0 rfl) ?_
        refine lv_iload_n hx hb dX1_separates_22 rfl (lv_at hl 3 rfl) ?_
        refine x_roV (As := [.int (x)]) (rest := []) ⟨hx, hb, hml, hown, hts⟩ (mX1_isNumber l D d h ad b x) (cwV 1 hts (lw_V q264 q266 qs19 q23 q267) rfl rfl rfl (by decide +kernel) ⟨Nat.le_of_ble_eq_true rfl, Nat.le_of_ble_eq_true rfl⟩) (va_recv hK hP (ci := 1) (q0 := 0) rfl rfl) hP hK hP hS hl rfl rfl (Nat.le_of_ble_eq_true rfl) dX1_separates_23 ⟨Nat.zero_le _, Nat.zero_le _⟩ (fun r_ H locs e_ hP hS => ?_)
        rcases e_ with ⟨e_, hb_n⟩ | ⟨e_, n, hn, ev_⟩
        · subst e_
          refine lv_if_ne (tgt := 31) hx hb dX1_separates_26 (by decide) (fun c => absurd rfl c) (fun _ => ?_)
          refine lv_iconst (v := nI 0) hx hb dX1_separates_29 (by decide) ?_
          exact x_zret hx hb hr hlocks hS dX1_separates_30 (Or.inl rfl) (Or.inl ⟨Or.inr hb_n, rfl⟩)
        · subst e_
          subst ev_
          refine lv_if_ne (tgt := 31) hx hb dX1_separates_26 (by decide) (fun _ => ?_) (fun c => absurd c (by decide))
          refine lv_aload_n hx hb dX1_separates_31 rfl (lv_at hl 0 rfl) ?_
          refine lv_iload_n hx hb dX1_separates_32 rfl (lv_at hl 3 rfl) ?_
          refine x_roV (As := [.int ((nI n))]) (rest := []) ⟨hx, hb, hml, hown, hts⟩ (mX1_least l D d h ad b (nI n) hg) (cwV 1 hts (lw_V q280 q273 q274 q23 q275) rfl rfl rfl (by decide +kernel) ⟨Nat.le_of_ble_eq_true rfl, Nat.le_of_ble_eq_true rfl⟩) (va_recv hK hP (ci := 1) (q0 := 0) rfl rfl) hP hK hP hS hl rfl rfl (Nat.le_of_ble_eq_true rfl) dX1_separates_33 ⟨Nat.zero_le _, Nat.zero_le _⟩ (fun lo H locs hlo hP hS => ?_)
          have hlo : lo.toInt = lst b n := ansN (Q := fun k => lo.toInt = lst b k) hn hlo
          refine lv_istore (lv' := [(4, .int (lo)), (0, .ref (h)), (1, .int ((nI nu))), (2, .int ((nI nv))), (3, .int ((nI n)))]) hx hb dX1_separates_36 hl (by decide) rfl (fun ls hl => ?_)
          refine lv_iconst (v := nI 0) hx hb dX1_separates_38 (by decide) ?_
          refine lv_istore (lv' := [(5, .int (nI 0)), (4, .int (lo)), (0, .ref (h)), (1, .int ((nI nu))), (2, .int ((nI nv))), (3, .int ((nI n)))]) hx hb dX1_separates_39 hl (by decide) rfl (fun ls hl => ?_)
          refine x_loopR (σ := (Nat)) 41 6 (fun st => [(0, .ref (h)), (1, .int (nI nu)), (2, .int (nI nv)), (3, .int (nI n)), (4, .int (lo)), (5, .int (nI st))]) (fun st => st ≤ 128 ∧ ∀ t, t < st → ¬ (t.testBit nu = true ∧ t.testBit nv = false ∧ prs b n t = lst b n)) (fun st => 128 - st) ?_ (0) (show 0 ≤ 128 ∧ ∀ t, t < 0 → ¬ (t.testBit nu = true ∧ t.testBit nv = false ∧ prs b n t = lst b n) from ⟨by omega, fun t ht => absurd ht (by omega)⟩) hP hS (lv_sub hl [2, 3, 4, 5, 1, 0] rfl)
          intro st hI ih H locs ls hP hS hl
          obtain ⟨k, rfl⟩ : ∃ z, z = st := ⟨_, rfl⟩
          have hI : k ≤ 128 ∧ ∀ t, t < k → ¬ (t.testBit nu = true ∧ t.testBit nv = false ∧ prs b n t = lst b n) := hI
          have hl : lv_has ls 6 [(0, .ref (h)), (1, .int (nI nu)), (2, .int (nI nv)), (3, .int (nI n)), (4, .int (lo)), (5, .int (nI k))] := hl
          have hP : va_P D vwCl (mW d h ad b) H := hP
          obtain ⟨hk, hno⟩ := hI
          refine lv_iload hx hb dX1_separates_41 (lv_at hl 5 rfl) ?_
          refine lv_sipush (v := nI 128) hx hb dX1_separates_43 (by decide) ?_
          refine x_ge hx hb (k) (128) rfl rfl (by omega) (by omega) (tgt := 87) dX1_separates_46 (by decide) (fun c2 => ?_) (fun c2 => ?_)
          · have hk8 : k = 128 := by omega
            subst hk8
            refine lv_iconst (v := nI 0) hx hb dX1_separates_87 (by decide) ?_
            exact x_zret hx hb hr hlocks hS dX1_separates_88 (Or.inl rfl) (Or.inr ⟨nu, nv, n, hnu, hnv, c1, hn, rfl, rfl, rfl, Or.inr ⟨rfl, fun ⟨t, ht, q1, q2, q3⟩ => hno t ht ⟨q1, q2, q3⟩⟩⟩)
          · refine lv_iload hx hb dX1_separates_49 (lv_at hl 5 rfl) ?_
            refine lv_iload_n hx hb dX1_separates_51 rfl (lv_at hl 1 rfl) ?_
            refine lv_ishr hx hb dX1_separates_52 ?_
            refine lv_iconst (v := nI 1) hx hb dX1_separates_53 (by decide) ?_
            refine lv_iand hx hb dX1_separates_54 ?_
            refine x_top (y := nI (k.testBit nu).toNat) (by rw [b_inT (by omega), b_nI (by omega)]) ?_
            refine lv_if_eq (tgt := 81) hx hb dX1_separates_55 (by decide) (fun c3 => ?_) (fun c3 => ?_)
            · rw [nb0] at c3
              refine lv_iinc (v := nI (k + 1)) (lv' := [(5, .int (nI (k + 1))), (0, .ref (h)), (1, .int (nI nu)), (2, .int (nI nv)), (3, .int (nI n)), (4, .int (lo))]) hx hb dX1_separates_81 hl (k := 5) rfl (x_inc _) (by decide) rfl (fun ls hl => ?_)
              refine lv_goto (tgt := 41) hx hb dX1_separates_84 (by decide) ?_
              exact ih (k + 1) (show (k + 1) ≤ 128 ∧ ∀ t, t < (k + 1) → ¬ (t.testBit nu = true ∧ t.testBit nv = false ∧ prs b n t = lst b n) from ⟨by omega, fun t ht q => by
                    rcases Nat.lt_or_ge t k with d | d
                    · exact hno t d q
                    · have : t = k := by omega
                      subst this
                      rw [c3] at q; cases q.1⟩) (by show 128 - (k + 1) < 128 - k; omega) _ _ _ hP hS (lv_sub hl [1, 2, 3, 4, 5, 0] rfl)
            · rw [nb0, Bool.not_eq_false] at c3
              refine lv_iload hx hb dX1_separates_58 (lv_at hl 5 rfl) ?_
              refine lv_iload_n hx hb dX1_separates_60 rfl (lv_at hl 2 rfl) ?_
              refine lv_ishr hx hb dX1_separates_61 ?_
              refine lv_iconst (v := nI 1) hx hb dX1_separates_62 (by decide) ?_
              refine lv_iand hx hb dX1_separates_63 ?_
              refine x_top (y := nI (k.testBit nv).toNat) (by rw [b_inT (by omega), b_nI (by omega)]) ?_
              refine lv_if_ne (tgt := 81) hx hb dX1_separates_64 (by decide) (fun c4 => ?_) (fun c4 => ?_)
              · rw [nb0, Bool.not_eq_false] at c4
                refine lv_iinc (v := nI (k + 1)) (lv' := [(5, .int (nI (k + 1))), (0, .ref (h)), (1, .int (nI nu)), (2, .int (nI nv)), (3, .int (nI n)), (4, .int (lo))]) hx hb dX1_separates_81 hl (k := 5) rfl (x_inc _) (by decide) rfl (fun ls hl => ?_)
                refine lv_goto (tgt := 41) hx hb dX1_separates_84 (by decide) ?_
                exact ih (k + 1) (show (k + 1) ≤ 128 ∧ ∀ t, t < (k + 1) → ¬ (t.testBit nu = true ∧ t.testBit nv = false ∧ prs b n t = lst b n) from ⟨by omega, fun t ht q => by
                      rcases Nat.lt_or_ge t k with d | d
                      · exact hno t d q
                      · have : t = k := by omega
                        subst this
                        rw [c4] at q; cases q.2.1⟩) (by show 128 - (k + 1) < 128 - k; omega) _ _ _ hP hS (lv_sub hl [1, 2, 3, 4, 5, 0] rfl)
              · rw [nb0] at c4
                refine lv_aload_n hx hb dX1_separates_67 rfl (lv_at hl 0 rfl) ?_
                refine lv_iload hx hb dX1_separates_68 (lv_at hl 5 rfl) ?_
                refine lv_iload_n hx hb dX1_separates_70 rfl (lv_at hl 3 rfl) ?_
                refine x_roV (As := [.int (nI k), .int (nI n)]) (rest := []) ⟨hx, hb, hml, hown, hts⟩ (mX1_price l D d h ad b (nI k) n (by omega) hg) (cwV 2 hts (lw_V q268 q270 qs20 q23 q271) rfl rfl rfl (by decide +kernel) ⟨Nat.le_of_ble_eq_true rfl, Nat.le_of_ble_eq_true rfl⟩) (va_recv hK hP (ci := 1) (q0 := 0) rfl rfl) hP hK hP hS hl rfl rfl (Nat.le_of_ble_eq_true rfl) dX1_separates_71 ⟨Nat.zero_le _, Nat.zero_le _⟩ (fun p1 H locs e1 hP hS => ?_)
                rw [pr_nI] at e1
                refine lv_iload hx hb dX1_separates_74 (lv_at hl 4 rfl) ?_
                refine lv_icmp_ne (tgt := 81) hx hb dX1_separates_76 (by decide) (fun c5 => ?_) (fun c5 => ?_)
                · refine lv_iinc (v := nI (k + 1)) (lv' := [(5, .int (nI (k + 1))), (0, .ref (h)), (1, .int (nI nu)), (2, .int (nI nv)), (3, .int (nI n)), (4, .int (lo))]) hx hb dX1_separates_81 hl (k := 5) rfl (x_inc _) (by decide) rfl (fun ls hl => ?_)
                  refine lv_goto (tgt := 41) hx hb dX1_separates_84 (by decide) ?_
                  exact ih (k + 1) (show (k + 1) ≤ 128 ∧ ∀ t, t < (k + 1) → ¬ (t.testBit nu = true ∧ t.testBit nv = false ∧ prs b n t = lst b n) from ⟨by omega, fun t ht q => by
                        rcases Nat.lt_or_ge t k with d | d
                        · exact hno t d q
                        · have : t = k := by omega
                          subst this
                          exact c5 (z_eq.mpr (by rw [e1, hlo]; exact q.2.2))⟩) (by show 128 - (k + 1) < 128 - k; omega) _ _ _ hP hS (lv_sub hl [1, 2, 3, 4, 5, 0] rfl)
                · refine lv_iconst (v := nI 1) hx hb dX1_separates_79 (by decide) ?_
                  exact x_zret hx hb hr hlocks hS dX1_separates_80 (Or.inr rfl) (Or.inr ⟨nu, nv, n, hnu, hnv, c1, hn, rfl, rfl, rfl, Or.inl ⟨rfl, k, c2, c3, c4, by rw [← e1, ← hlo, c5]⟩⟩)
set_option maxHeartbeats 4000000 in
set_option maxRecDepth 100000 in
theorem mX1_stages (l : Launch) (D : va_G) (d : Nat → ClassId) (h : Nat) (ad : Nat → Nat) (Fr : Nat → Prop) (b : Nat → Nat → Int32)  (hg : DOK b) (hD : va_D Fr (mW d h ad b)) : Met l yX1_stages (ws_ yX1_stages cX1_stages 4 (some .int)) xr3 (x_Pc D (mT d) (mW d h ad b) [.ref (h)]) (va_Qi (fun r (b' : Nat → Nat → Int32) => (∀ j, j ≠ 5 → b' j = b j) ∧ r = nI (nst (alw b) 51)) (fun u t => va_P D vwCl (mW d h ad u) t.heap) Fr) 0 0 Fr := by
  refine Met.ofW (cc := cX1_stages) (maxL := 4) (ret := (some .int)) (by decide) rfl ?_
  intro p e s m args below meth c s₁ B hml hv
  obtain ⟨rfl, hP, hK⟩ := hv
  have hx := B.exec
  have hb := B.bytes
  have hr := B.returns
  have hlocks := B.notSynchronized
  have hts := atoms_spec (ws := (ws_ yX1_stages cX1_stages 4 (some .int))) B.pre
  have hts : ∀ w ∈ lw_all, w.before _ s = true := fun w h => hts w (List.mem_cons_of_mem _ h)
  have hown : s.vm.findClass RX1 = some m.cls := findClass_of_methodNamed B.named
  have hS : va_S Fr s.heap s.heap [] := va_S.rf
  have hl := lv_entry ([.ref (h)]) (n := 4) (Nat.le_of_ble_eq_true rfl)
  rw [lg_entry_eq]
  generalize (lg_sl ([.ref (h)]) ++ List.replicate (4 - (lg_sl ([.ref (h)])).length) Slot.unset).toArray = ls at hl ⊢
  have hl : lv_has ls 4 [(0, .ref (h))] := hl
  have hP : va_P D vwCl (mW d h ad b) s.heap := hP
  refine lv_iconst (v := nI 0) hx hb dX1_stages_0 (by decide) ?_
  refine lv_istore_n (lv' := [(1, .int (nI 0)), (0, .ref (h))]) hx hb dX1_stages_1 rfl hl (by decide) rfl (fun ls hl => ?_)
  refine lv_iconst (v := nI 0) hx hb dX1_stages_2 (by decide) ?_
  refine lv_istore_n (lv' := [(2, .int (nI 0)), (1, .int (nI 0)), (0, .ref (h))]) hx hb dX1_stages_3 rfl hl (by decide) rfl (fun ls hl => ?_)
  refine x_loop (σ := (Nat) × (Nat → Nat → Int32)) 4 4 (fun st => (mW d h ad st.2)) (fun st => [(0, .ref (h)), (1, .int (nI 0)), (2, .int (nI st.1))]) (fun st => st.1 ≤ 128 ∧ (∀ j, j ≠ 5 → st.2 j = b j) ∧ ∀ q, q < st.1 → st.2 5 q = nI 0) (fun st => 128 - st.1) ?_ ((0, b)) (show 0 ≤ 128 ∧ (∀ j, j ≠ 5 → b j = b j) ∧ ∀ q, q < 0 → b 5 q = nI 0 from ⟨by omega, fun _ _ => rfl, fun q hq => absurd hq (by omega)⟩) hP hD hS (lv_sub hl [2, 1, 0] rfl)
  intro st hI ih H locs ls hP hD hS hl
  obtain ⟨i, b1⟩ := st
  have hI : i ≤ 128 ∧ (∀ j, j ≠ 5 → b1 j = b j) ∧ ∀ q, q < i → b1 5 q = nI 0 := hI
  have hl : lv_has ls 4 [(0, .ref (h)), (1, .int (nI 0)), (2, .int (nI i))] := hl
  have hP : va_P D vwCl (mW d h ad b1) H := hP
  have hD : va_D Fr (mW d h ad b1) := hD
  obtain ⟨hi, hf1, hz1⟩ := hI
  refine lv_iload_n hx hb dX1_stages_4 rfl (lv_at hl 2 rfl) ?_
  refine lv_sipush (v := nI 128) hx hb dX1_stages_5 (by decide) ?_
  refine x_ge hx hb (i) (128) rfl rfl (by omega) (by omega) (tgt := 24) dX1_stages_8 (by decide) (fun c1 => ?_) (fun c1 => ?_)
  · have hi8 : i = 128 := by omega
    subst hi8
    refine lv_iconst (v := nI 0) hx hb dX1_stages_24 (by decide) ?_
    refine lv_istore_n (lv' := [(2, .int (nI 0)), (0, .ref (h)), (1, .int (nI 0))]) hx hb dX1_stages_25 rfl hl (by decide) rfl (fun ls hl => ?_)
    refine x_loop (σ := (Nat) × (Nat) × (Nat → Nat → Int32)) 26 4 (fun st => (mW d h ad st.2.2)) (fun st => [(0, .ref (h)), (1, .int (nI st.2.1)), (2, .int (nI st.1))]) (fun st => st.1 ≤ 51 ∧ (∀ j, j ≠ 5 → st.2.2 j = b j) ∧ st.2.1 = nst (alw b) st.1 ∧ ∀ q, q < 128 → st.2.2 5 q = nI (met (alw b) (nI q) st.1).toNat) (fun st => 51 - st.1) ?_ ((0, 0, b1)) (show 0 ≤ 51 ∧ (∀ j, j ≠ 5 → b1 j = b j) ∧ 0 = nst (alw b) 0 ∧ ∀ q, q < 128 → b1 5 q = nI (met (alw b) (nI q) 0).toNat from ⟨by omega, hf1, rfl, fun q hq => hz1 q hq⟩) hP hD hS (lv_sub hl [1, 2, 0] rfl)
    intro st hI2 ih2 H locs ls hP hD hS hl
    obtain ⟨x, n, b2⟩ := st
    have hI2 : x ≤ 51 ∧ (∀ j, j ≠ 5 → b2 j = b j) ∧ n = nst (alw b) x ∧ ∀ q, q < 128 → b2 5 q = nI (met (alw b) (nI q) x).toNat := hI2
    have hl : lv_has ls 4 [(0, .ref (h)), (1, .int (nI n)), (2, .int (nI x))] := hl
    have hP : va_P D vwCl (mW d h ad b2) H := hP
    have hD : va_D Fr (mW d h ad b2) := hD
    obtain ⟨hx5, hf2, hn, hs2⟩ := hI2
    refine lv_iload_n hx hb dX1_stages_26 rfl (lv_at hl 2 rfl) ?_
    refine lv_bipush (v := nI 50) hx hb dX1_stages_27 (by decide) ?_
    refine x_gt hx hb (x) (50) rfl rfl (by omega) (by omega) (tgt := 63) dX1_stages_29 (by decide) (fun c2 => ?_) (fun c2 => ?_)
    · have hx51 : x = 51 := by omega
      subst hx51
      refine lv_iload_n hx hb dX1_stages_63 rfl (lv_at hl 1 rfl) ?_
      exact x_iretW (WS := mW d h ad) (b2) hx hb hr hlocks hS hP dX1_stages_64 ⟨hf2, by rw [hn]⟩
    · have hag : ∀ k, k < 5 → b2 k = b k := fun k hk => hf2 k (by omega)
      refine lv_aload_n hx hb dX1_stages_32 rfl (lv_at hl 0 rfl) ?_
      refine lv_iload_n hx hb dX1_stages_33 rfl (lv_at hl 2 rfl) ?_
      refine x_roV (As := [.int (nI x)]) (rest := []) ⟨hx, hb, hml, hown, hts⟩ (mX1_always l D d h ad b2 (nI x) (DOK_congr (fun k hk => (hag k hk).symm) hg)) (cwV 1 hts (lw_V q293 q277 q278 q23 q279) rfl rfl rfl (by decide +kernel) ⟨Nat.le_of_ble_eq_true rfl, Nat.le_of_ble_eq_true rfl⟩) (va_recv hK hP (ci := 1) (q0 := 0) rfl rfl) hP hK hP hS hl rfl rfl (Nat.le_of_ble_eq_true rfl) dX1_stages_34 ⟨Nat.zero_le _, Nat.zero_le _⟩ (fun r1 H locs e1 hP hS => ?_)
      have e1 : r1 = alw b x := (ansN (Q := fun k => r1 = alw b2 k) (by omega) e1).trans (alw_congr hag x)
      obtain ⟨k, hk, ek⟩ := alw_nI b x
      refine x_top (y := nI k) (e1.trans ek) ?_
      refine lv_istore_n (lv' := [(3, .int (nI k)), (0, .ref (h)), (1, .int (nI n)), (2, .int (nI x))]) hx hb dX1_stages_37 rfl hl (by decide) rfl (fun ls hl => ?_)
      refine lv_aload_n hx hb dX1_stages_38 rfl (lv_at hl 1 rfl) ?_
      refine va_get (D := D) (ci := 1) (v := .ref (ad 5)) (C := RX1) (T := TX1) (N := 6) hx hb hts in_X1 hown hK hP 0 rfl rfl 5 (by decide) (hts _ q221) (fun _ h9 => h9) rfl dX1_stages_39 ?_
      refine lv_iload_n hx hb dX1_stages_42 rfl (lv_at hl 0 rfl) ?_
      refine x_zld hx hb hK hP 6 5 rfl rfl (k) rfl hk (by decide) dX1_stages_43 ?_
      refine x_top (y := nI (met (alw b) (nI k) x).toNat) (hs2 k hk) ?_
      have hns : nst (alw b) (x + 1) = nst (alw b) x + (if met (alw b) (nI k) x then 0 else 1) := by show _ + (if met (alw b) (alw b x) x then 0 else 1) = _; rw [ek]
      refine lv_if_ne (tgt := 50) hx hb dX1_stages_44 (by decide) (fun c3 => ?_) (fun c3 => ?_)
      · rw [nb0, Bool.not_eq_false] at c3
        refine lv_aload_n hx hb dX1_stages_50 rfl (lv_at hl 1 rfl) ?_
        refine va_get (D := D) (ci := 1) (v := .ref (ad 5)) (C := RX1) (T := TX1) (N := 6) hx hb hts in_X1 hown hK hP 0 rfl rfl 5 (by decide) (hts _ q221) (fun _ h9 => h9) rfl dX1_stages_51 ?_
        refine lv_iload_n hx hb dX1_stages_54 rfl (lv_at hl 0 rfl) ?_
        refine lv_iconst (v := nI 1) hx hb dX1_stages_55 (by decide) ?_
        refine x_zst hx hb hK hP hD hS 6 5 rfl rfl (k) rfl hk (by decide) rfl dX1_stages_56 (fun H locs hP hD hS => ?_)
        have hP : va_P D vwCl (mW d h ad (va_up b2 5 (upd (b2 5) (k) (nI 1)))) H := hP
        have hD : va_D Fr (mW d h ad (va_up b2 5 (upd (b2 5) (k) (nI 1)))) := hD
        refine lv_iinc (v := nI (x + 1)) (lv' := [(2, .int (nI (x + 1))), (3, .int (nI k)), (0, .ref (h)), (1, .int (nI n))]) hx hb dX1_stages_57 hl (k := 3) rfl (x_inc _) (by decide) rfl (fun ls hl => ?_)
        refine lv_goto (tgt := 26) hx hb dX1_stages_60 (by decide) ?_
        obtain ⟨b3, eb3⟩ : ∃ z, z = (va_up b2 5 (upd (b2 5) (k) (nI 1))) := ⟨_, rfl⟩
        have hP : va_P D vwCl (mW d h ad b3) H := by rw [eb3]; exact hP
        have hD : va_D Fr (mW d h ad b3) := by rw [eb3]; exact hD
        exact ih2 ((x + 1, n, b3)) (show (x + 1) ≤ 51 ∧ (∀ j, j ≠ 5 → b3 j = b j) ∧ n = nst (alw b) (x + 1) ∧ ∀ q, q < 128 → b3 5 q = nI (met (alw b) (nI q) (x + 1)).toNat from ⟨by omega, fun j hj => by rw [eb3, va_up_n hj]; exact hf2 j hj, by rw [hns, c3, hn]; rfl, fun q hq => by
              rw [eb3, va_up_s]
              show _ = nI (met (alw b) (nI q) x || alw b x == nI q).toNat
              rw [ek, nI_beq (by omega) (by omega)]
              by_cases d : q = k
              · rw [d, pk_us, decide_eq_true rfl, Bool.or_true]; rfl
              · rw [pk_un d, decide_eq_false (fun z => d z.symm), Bool.or_false]; exact hs2 q hq⟩) (by show 51 - (x + 1) < 51 - x; omega) _ _ _ hP hD hS (lv_sub hl [2, 3, 0] rfl)
      · rw [nb0] at c3
        refine lv_iinc (v := nI (n + 1)) (lv' := [(1, .int (nI (n + 1))), (3, .int (nI k)), (0, .ref (h)), (2, .int (nI x))]) hx hb dX1_stages_47 hl (k := 2) rfl (x_inc _) (by decide) rfl (fun ls hl => ?_)
        refine lv_aload_n hx hb dX1_stages_50 rfl (lv_at hl 2 rfl) ?_
        refine va_get (D := D) (ci := 1) (v := .ref (ad 5)) (C := RX1) (T := TX1) (N := 6) hx hb hts in_X1 hown hK hP 0 rfl rfl 5 (by decide) (hts _ q221) (fun _ h9 => h9) rfl dX1_stages_51 ?_
        refine lv_iload_n hx hb dX1_stages_54 rfl (lv_at hl 1 rfl) ?_
        refine lv_iconst (v := nI 1) hx hb dX1_stages_55 (by decide) ?_
        refine x_zst hx hb hK hP hD hS 6 5 rfl rfl (k) rfl hk (by decide) rfl dX1_stages_56 (fun H locs hP hD hS => ?_)
        have hP : va_P D vwCl (mW d h ad (va_up b2 5 (upd (b2 5) (k) (nI 1)))) H := hP
        have hD : va_D Fr (mW d h ad (va_up b2 5 (upd (b2 5) (k) (nI 1)))) := hD
        refine lv_iinc (v := nI (x + 1)) (lv' := [(2, .int (nI (x + 1))), (1, .int (nI (n + 1))), (3, .int (nI k)), (0, .ref (h))]) hx hb dX1_stages_57 hl (k := 3) rfl (x_inc _) (by decide) rfl (fun ls hl => ?_)
        refine lv_goto (tgt := 26) hx hb dX1_stages_60 (by decide) ?_
        obtain ⟨b3, eb3⟩ : ∃ z, z = (va_up b2 5 (upd (b2 5) (k) (nI 1))) := ⟨_, rfl⟩
        have hP : va_P D vwCl (mW d h ad b3) H := by rw [eb3]; exact hP
        have hD : va_D Fr (mW d h ad b3) := by rw [eb3]; exact hD
        exact ih2 ((x + 1, n + 1, b3)) (show (x + 1) ≤ 51 ∧ (∀ j, j ≠ 5 → b3 j = b j) ∧ (n + 1) = nst (alw b) (x + 1) ∧ ∀ q, q < 128 → b3 5 q = nI (met (alw b) (nI q) (x + 1)).toNat from ⟨by omega, fun j hj => by rw [eb3, va_up_n hj]; exact hf2 j hj, by rw [hns, c3, hn]; rfl, fun q hq => by
              rw [eb3, va_up_s]
              show _ = nI (met (alw b) (nI q) x || alw b x == nI q).toNat
              rw [ek, nI_beq (by omega) (by omega)]
              by_cases d : q = k
              · rw [d, pk_us, decide_eq_true rfl, Bool.or_true]; rfl
              · rw [pk_un d, decide_eq_false (fun z => d z.symm), Bool.or_false]; exact hs2 q hq⟩) (by show 51 - (x + 1) < 51 - x; omega) _ _ _ hP hD hS (lv_sub hl [3, 1, 0] rfl)
  · refine lv_aload_n hx hb dX1_stages_11 rfl (lv_at hl 0 rfl) ?_
    refine va_get (D := D) (ci := 1) (v := .ref (ad 5)) (C := RX1) (T := TX1) (N := 6) hx hb hts in_X1 hown hK hP 0 rfl rfl 5 (by decide) (hts _ q221) (fun _ h9 => h9) rfl dX1_stages_12 ?_
    refine lv_iload_n hx hb dX1_stages_15 rfl (lv_at hl 2 rfl) ?_
    refine lv_iconst (v := nI 0) hx hb dX1_stages_16 (by decide) ?_
    refine x_zst hx hb hK hP hD hS 6 5 rfl rfl (i) rfl (by omega) (by decide) rfl dX1_stages_17 (fun H locs hP hD hS => ?_)
    have hP : va_P D vwCl (mW d h ad (va_up b1 5 (upd (b1 5) (i) (nI 0)))) H := hP
    have hD : va_D Fr (mW d h ad (va_up b1 5 (upd (b1 5) (i) (nI 0)))) := hD
    refine lv_iinc (v := nI (i + 1)) (lv' := [(2, .int (nI (i + 1))), (0, .ref (h)), (1, .int (nI 0))]) hx hb dX1_stages_18 hl (k := 2) rfl (x_inc _) (by decide) rfl (fun ls hl => ?_)
    refine lv_goto (tgt := 4) hx hb dX1_stages_21 (by decide) ?_
    obtain ⟨b2, eb2⟩ : ∃ z, z = (va_up b1 5 (upd (b1 5) (i) (nI 0))) := ⟨_, rfl⟩
    have hP : va_P D vwCl (mW d h ad b2) H := by rw [eb2]; exact hP
    have hD : va_D Fr (mW d h ad b2) := by rw [eb2]; exact hD
    exact ih ((i + 1, b2)) (show (i + 1) ≤ 128 ∧ (∀ j, j ≠ 5 → b2 j = b j) ∧ ∀ q, q < (i + 1) → b2 5 q = nI 0 from ⟨by omega, fun j hj => by rw [eb2, va_up_n hj]; exact hf1 j hj, fun q hq => by
          rw [eb2, va_up_s]
          by_cases d : q = i
          · rw [d, pk_us]
          · rw [pk_un d]; exact hz1 q (by omega)⟩) (by show 128 - (i + 1) < 128 - i; omega) _ _ _ hP hD hS (lv_sub hl [1, 2, 0] rfl)
set_option maxHeartbeats 4000000 in
set_option maxRecDepth 100000 in
theorem mX1_spare (l : Launch) (D : va_G) (d : Nat → ClassId) (h : Nat) (ad : Nat → Nat) (Fr : Nat → Prop) (b : Nat → Nat → Int32) (u v x : Int32) (hg : DOK b) (hD : va_D Fr (mW d h ad b)) : Met l yX1_spare (ws_ yX1_spare cX1_spare 8 (some .int)) xr2 (x_Pc D (mT d) (mW d h ad b) [.ref (h), .int (u), .int (v), .int (x)]) (va_Qi (fun r (b' : Nat → Nat → Int32) => b' = b ∧ ((lkB u v ∧ r = -1) ∨ (¬ lkB u v ∧ ¬ isN x 51 ∧ r = -2) ∨ ∃ nu nv n, nu < 7 ∧ nv < 7 ∧ nu ≠ nv ∧ n < 51 ∧ u = nI nu ∧ v = nI nv ∧ x = nI n ∧ spS b nu nv n r.toInt)) (fun u t => va_P D vwCl (mW d h ad u) t.heap) Fr) 0 0 Fr := by
  refine Met.ofW (cc := cX1_spare) (maxL := 8) (ret := (some .int)) (by decide) rfl ?_
  intro p e s m args below meth c s₁ B hml hv
  obtain ⟨rfl, hP, hK⟩ := hv
  have hx := B.exec
  have hb := B.bytes
  have hr := B.returns
  have hlocks := B.notSynchronized
  have hts := atoms_spec (ws := (ws_ yX1_spare cX1_spare 8 (some .int))) B.pre
  have hts : ∀ w ∈ lw_all, w.before _ s = true := fun w h => hts w (List.mem_cons_of_mem _ h)
  have hown : s.vm.findClass RX1 = some m.cls := findClass_of_methodNamed B.named
  have hS : va_S Fr s.heap s.heap [] := va_S.rf
  have hl := lv_entry ([.ref (h), .int (u), .int (v), .int (x)]) (n := 8) (Nat.le_of_ble_eq_true rfl)
  rw [lg_entry_eq]
  generalize (lg_sl ([.ref (h), .int (u), .int (v), .int (x)]) ++ List.replicate (8 - (lg_sl ([.ref (h), .int (u), .int (v), .int (x)])).length) Slot.unset).toArray = ls at hl ⊢
  have hl : lv_has ls 8 [(0, .ref (h)), (1, .int (u)), (2, .int (v)), (3, .int (x))] := hl
  have hP : va_P D vwCl (mW d h ad b) s.heap := hP
  refine lv_aload_n hx hb dX1_spare_0 rfl (lv_at hl 0 rfl) ?_
  refine lv_iload_n hx hb dX1_spare_1 rfl (lv_at hl 1 rfl) ?_
  refine x_roV (As := [.int (u)]) (rest := []) ⟨hx, hb, hml, hown, hts⟩ (mX1_isNode l D d h ad b u) (cwV 1 hts (lw_V q240 q242 qs17 q23 q243) rfl rfl rfl (by decide +kernel) ⟨Nat.le_of_ble_eq_true rfl, Nat.le_of_ble_eq_true rfl⟩) (va_recv hK hP (ci := 1) (q0 := 0) rfl rfl) hP hK hP hS hl rfl rfl (Nat.le_of_ble_eq_true rfl) dX1_spare_2 ⟨Nat.zero_le _, Nat.zero_le _⟩ (fun r_ H locs e_ hP hS => ?_)
  rcases e_ with ⟨e_, hb_nu⟩ | ⟨e_, nu, hnu, ev_⟩
  · subst e_
    refine lv_if_eq (tgt := 21) hx hb dX1_spare_5 (by decide) (fun _ => ?_) (fun c => absurd rfl c)
    refine lv_iconst (v := -1) hx hb dX1_spare_21 (by decide) ?_
    exact x_iretW (WS := mW d h ad) (b) hx hb hr hlocks hS hP dX1_spare_22 ⟨rfl, Or.inl ⟨Or.inl hb_nu, rfl⟩⟩
  · subst e_
    subst ev_
    refine lv_if_eq (tgt := 21) hx hb dX1_spare_5 (by decide) (fun c => absurd c (by decide)) (fun _ => ?_)
    refine lv_aload_n hx hb dX1_spare_8 rfl (lv_at hl 0 rfl) ?_
    refine lv_iload_n hx hb dX1_spare_9 rfl (lv_at hl 2 rfl) ?_
    refine x_roV (As := [.int (v)]) (rest := []) ⟨hx, hb, hml, hown, hts⟩ (mX1_isNode l D d h ad b v) (cwV 1 hts (lw_V q240 q242 qs17 q23 q243) rfl rfl rfl (by decide +kernel) ⟨Nat.le_of_ble_eq_true rfl, Nat.le_of_ble_eq_true rfl⟩) (va_recv hK hP (ci := 1) (q0 := 0) rfl rfl) hP hK hP hS hl rfl rfl (Nat.le_of_ble_eq_true rfl) dX1_spare_10 ⟨Nat.zero_le _, Nat.zero_le _⟩ (fun r_ H locs e_ hP hS => ?_)
    rcases e_ with ⟨e_, hb_nv⟩ | ⟨e_, nv, hnv, ev_⟩
    · subst e_
      refine lv_if_eq (tgt := 21) hx hb dX1_spare_13 (by decide) (fun _ => ?_) (fun c => absurd rfl c)
      refine lv_iconst (v := -1) hx hb dX1_spare_21 (by decide) ?_
      exact x_iretW (WS := mW d h ad) (b) hx hb hr hlocks hS hP dX1_spare_22 ⟨rfl, Or.inl ⟨Or.inr (Or.inl hb_nv), rfl⟩⟩
    · subst e_
      subst ev_
      refine lv_if_eq (tgt := 21) hx hb dX1_spare_13 (by decide) (fun c => absurd c (by decide)) (fun _ => ?_)
      refine lv_iload_n hx hb dX1_spare_16 rfl (lv_at hl 1 rfl) ?_
      refine lv_iload_n hx hb dX1_spare_17 rfl (lv_at hl 2 rfl) ?_
      refine x_ne hx hb (nu) (nv) rfl rfl (by omega) (by omega) (tgt := 23) dX1_spare_18 (by decide) (fun c1 => ?_) (fun c1 => ?_)
      · refine lv_aload_n hx hb dX1_spare_23 rfl (lv_at hl 0 rfl) ?_
        refine lv_iload_n hx hb dX1_spare_24 rfl (lv_at hl 3 rfl) ?_
        refine x_roV (As := [.int (x)]) (rest := []) ⟨hx, hb, hml, hown, hts⟩ (mX1_isNumber l D d h ad b x) (cwV 1 hts (lw_V q264 q266 qs19 q23 q267) rfl rfl rfl (by decide +kernel) ⟨Nat.le_of_ble_eq_true rfl, Nat.le_of_ble_eq_true rfl⟩) (va_recv hK hP (ci := 1) (q0 := 0) rfl rfl) hP hK hP hS hl rfl rfl (Nat.le_of_ble_eq_true rfl) dX1_spare_25 ⟨Nat.zero_le _, Nat.zero_le _⟩ (fun r_ H locs e_ hP hS => ?_)
        rcases e_ with ⟨e_, hb_n⟩ | ⟨e_, n, hn, ev_⟩
        · subst e_
          refine lv_if_ne (tgt := 34) hx hb dX1_spare_28 (by decide) (fun c => absurd rfl c) (fun _ => ?_)
          refine lv_bipush (v := -2) hx hb dX1_spare_31 (by decide) ?_
          exact x_iretW (WS := mW d h ad) (b) hx hb hr hlocks hS hP dX1_spare_33 ⟨rfl, Or.inr (Or.inl ⟨lkB_not hnu hnv c1, hb_n, rfl⟩)⟩
        · subst e_
          subst ev_
          refine lv_if_ne (tgt := 34) hx hb dX1_spare_28 (by decide) (fun _ => ?_) (fun c => absurd c (by decide))
          have how := hg.1 nu nv hnu hnv
          obtain ⟨o, ho, eo⟩ := z_of (x := b 0 (nu * 7 + nv)) (N := 21) how.1 (by omega) (by decide)
          have hoI : (b 0 (nu * 7 + nv)).toInt = (o : Int) := by rw [eo]; exact z_nI (by omega)
          refine lv_aload_n hx hb dX1_spare_34 rfl (lv_at hl 0 rfl) ?_
          refine va_get (D := D) (ci := 1) (v := .ref (ad 0)) (C := RX1) (T := TX1) (N := 6) hx hb hts in_X1 hown hK hP 0 rfl rfl 0 (by decide) (hts _ q216) (fun _ h9 => h9) rfl dX1_spare_35 ?_
          refine lv_iload_n hx hb dX1_spare_38 rfl (lv_at hl 1 rfl) ?_
          refine lv_bipush (v := nI 7) hx hb dX1_spare_39 (by decide) ?_
          refine lv_imul hx hb dX1_spare_41 ?_
          refine lv_iload_n hx hb dX1_spare_42 rfl (lv_at hl 2 rfl) ?_
          refine lv_iadd hx hb dX1_spare_43 ?_
          refine x_ald hx hb hK hP 1 0 rfl rfl (nu * 7 + nv) (by simp only [pk_mul, nI_add]) (by omega) (by decide) dX1_spare_44 ?_
          refine x_top (y := nI o) eo ?_
          refine lv_istore (lv' := [(4, .int (nI o)), (0, .ref (h)), (1, .int ((nI nu))), (2, .int ((nI nv))), (3, .int ((nI n)))]) hx hb dX1_spare_45 hl (by decide) rfl (fun ls hl => ?_)
          refine lv_aload_n hx hb dX1_spare_47 rfl (lv_at hl 1 rfl) ?_
          refine lv_iload_n hx hb dX1_spare_48 rfl (lv_at hl 4 rfl) ?_
          refine x_roV (As := [.int ((nI n))]) (rest := []) ⟨hx, hb, hml, hown, hts⟩ (mX1_least l D d h ad b (nI n) hg) (cwV 1 hts (lw_V q280 q273 q274 q23 q275) rfl rfl rfl (by decide +kernel) ⟨Nat.le_of_ble_eq_true rfl, Nat.le_of_ble_eq_true rfl⟩) (va_recv hK hP (ci := 1) (q0 := 0) rfl rfl) hP hK hP hS hl rfl rfl (Nat.le_of_ble_eq_true rfl) dX1_spare_49 ⟨Nat.zero_le _, Nat.zero_le _⟩ (fun lo H locs hlo hP hS => ?_)
          have hlo : lo.toInt = lst b n := ansN (Q := fun k => lo.toInt = lst b k) hn hlo
          refine lv_istore (lv' := [(5, .int (lo)), (4, .int (nI o)), (0, .ref (h)), (1, .int ((nI nu))), (2, .int ((nI nv))), (3, .int ((nI n)))]) hx hb dX1_spare_52 hl (by decide) rfl (fun ls hl => ?_)
          refine lv_iconst (v := nI 0) hx hb dX1_spare_54 (by decide) ?_
          refine lv_istore (lv' := [(6, .int (nI 0)), (5, .int (lo)), (4, .int (nI o)), (0, .ref (h)), (1, .int ((nI nu))), (2, .int ((nI nv))), (3, .int ((nI n)))]) hx hb dX1_spare_55 hl (by decide) rfl (fun ls hl => ?_)
          refine lv_iconst (v := nI 1) hx hb dX1_spare_57 (by decide) ?_
          refine lv_istore (lv' := [(7, .int (nI 1)), (6, .int (nI 0)), (5, .int (lo)), (4, .int (nI o)), (0, .ref (h)), (1, .int ((nI nu))), (2, .int ((nI nv))), (3, .int ((nI n)))]) hx hb dX1_spare_58 hl (by decide) rfl (fun ls hl => ?_)
          refine x_loop (σ := (Nat) × (Bool) × (Nat → Nat → Int32)) 60 8 (fun st => (mW d h ad st.2.2)) (fun st => [(0, .ref (h)), (1, .int (nI nu)), (2, .int (nI nv)), (3, .int (nI n)), (4, .int (nI o)), (5, .int (lo)), (6, .int (nI st.1)), (7, .int (nI st.2.1.toNat))]) (fun st => st.1 ≤ o ∧ (∃ c_, isN c_ 21 ∧ st.2.2 = lkG b nu nv c_) ∧ (∀ s, s < 128 → s.testBit nu ≠ s.testBit nv → lst b n + st.1 ≤ prs b n s) ∧ (st.2.1 = false → ∃ s, s < 128 ∧ s.testBit nu ≠ s.testBit nv ∧ prs b n s = lst b n + st.1)) (fun st => 2 * (o - st.1) + st.2.1.toNat) ?_ ((0, true, b)) (show 0 ≤ o ∧ (∃ c_, isN c_ 21 ∧ b = lkG b nu nv c_) ∧ (∀ s, s < 128 → s.testBit nu ≠ s.testBit nv → lst b n + 0 ≤ prs b n s) ∧ (true = false → ∃ s, s < 128 ∧ s.testBit nu ≠ s.testBit nv ∧ prs b n s = lst b n + 0) from ⟨by omega, ⟨nI o, ⟨o, ho, rfl⟩, by rw [← eo, lkG_self hg hnu hnv]⟩, fun s hs _ => by have := lst_le b n hs; omega, fun q => by cases q⟩) hP hD hS (lv_sub hl [4, 5, 6, 7, 3, 2, 1, 0] rfl)
          intro st hI ih H locs ls hP hD hS hl
          obtain ⟨lost, sb, b1⟩ := st
          have hI : lost ≤ o ∧ (∃ c_, isN c_ 21 ∧ b1 = lkG b nu nv c_) ∧ (∀ s, s < 128 → s.testBit nu ≠ s.testBit nv → lst b n + lost ≤ prs b n s) ∧ (sb = false → ∃ s, s < 128 ∧ s.testBit nu ≠ s.testBit nv ∧ prs b n s = lst b n + lost) := hI
          have hl : lv_has ls 8 [(0, .ref (h)), (1, .int (nI nu)), (2, .int (nI nv)), (3, .int (nI n)), (4, .int (nI o)), (5, .int (lo)), (6, .int (nI lost)), (7, .int (nI sb.toNat))] := hl
          have hP : va_P D vwCl (mW d h ad b1) H := hP
          have hD : va_D Fr (mW d h ad b1) := hD
          obtain ⟨hlt, ⟨c_, hc21, eb1⟩, hge, hex⟩ := hI
          refine lv_iload hx hb dX1_spare_60 (lv_at hl 7 rfl) ?_
          refine lv_if_eq (tgt := 114) hx hb dX1_spare_62 (by decide) (fun c2 => ?_) (fun c2 => ?_)
          · rw [nb0] at c2
            refine lv_aload_n hx hb dX1_spare_114 rfl (lv_at hl 0 rfl) ?_
            refine lv_iload_n hx hb dX1_spare_115 rfl (lv_at hl 1 rfl) ?_
            refine lv_iload_n hx hb dX1_spare_116 rfl (lv_at hl 2 rfl) ?_
            refine lv_iload hx hb dX1_spare_117 (lv_at hl 4 rfl) ?_
            refine x_wri (mW d h ad) (As := [.int (nI nu), .int (nI nv), .int (nI o)]) (rest := []) ⟨hx, hb, hml, hown, hts⟩ (mX1_link l D d h ad Fr b1 (nI nu) (nI nv) (nI o) hD) (cwV 3 hts (lw_V q302 q237 q238 q23 q239) rfl rfl rfl (by decide +kernel) ⟨Nat.le_of_ble_eq_true rfl, Nat.le_of_ble_eq_true rfl⟩) (va_recv hK hP (ci := 1) (q0 := 0) rfl rfl) hK hP hS hl rfl rfl (Nat.le_of_ble_eq_true rfl) dX1_spare_119 ⟨Nat.zero_le _, Nat.zero_le _⟩ (fun r9 u_ H locs hq hP hS => ?_)
            obtain ⟨b2, rfl⟩ : ∃ z, z = u_ := ⟨_, rfl⟩
            have hP : va_P D vwCl (mW d h ad b2) H := hP
            have hD : va_D Fr (mW d h ad b2) := x_Db hD rfl
            have hq : b2 = b := by rw [lkQ_get hnu hnv c1 ⟨o, ho, rfl⟩ hq, eb1, lkG_lkG, ← eo, lkG_self hg hnu hnv]
            refine lv_pop hx hb dX1_spare_122 rfl ?_
            refine lv_iload hx hb dX1_spare_123 (lv_at hl 6 rfl) ?_
            exact x_iretW (WS := mW d h ad) (b2) hx hb hr hlocks hS hP dX1_spare_125 ⟨hq, Or.inr (Or.inr ⟨nu, nv, n, hnu, hnv, c1, hn, rfl, rfl, rfl, by rw [z_nI (show lost < 2147483648 by omega)]; exact ⟨by omega, by omega, hge, Or.inr (hex c2)⟩⟩)⟩
          · rw [nb0, Bool.not_eq_false] at c2
            subst c2
            refine lv_iload hx hb dX1_spare_65 (lv_at hl 6 rfl) ?_
            refine lv_iload hx hb dX1_spare_67 (lv_at hl 4 rfl) ?_
            refine x_ge hx hb (lost) (o) rfl rfl (by omega) (by omega) (tgt := 114) dX1_spare_69 (by decide) (fun c3 => ?_) (fun c3 => ?_)
            · have hlo_ : lost = o := by omega
              refine lv_aload_n hx hb dX1_spare_114 rfl (lv_at hl 0 rfl) ?_
              refine lv_iload_n hx hb dX1_spare_115 rfl (lv_at hl 1 rfl) ?_
              refine lv_iload_n hx hb dX1_spare_116 rfl (lv_at hl 2 rfl) ?_
              refine lv_iload hx hb dX1_spare_117 (lv_at hl 4 rfl) ?_
              refine x_wri (mW d h ad) (As := [.int (nI nu), .int (nI nv), .int (nI o)]) (rest := []) ⟨hx, hb, hml, hown, hts⟩ (mX1_link l D d h ad Fr b1 (nI nu) (nI nv) (nI o) hD) (cwV 3 hts (lw_V q302 q237 q238 q23 q239) rfl rfl rfl (by decide +kernel) ⟨Nat.le_of_ble_eq_true rfl, Nat.le_of_ble_eq_true rfl⟩) (va_recv hK hP (ci := 1) (q0 := 0) rfl rfl) hK hP hS hl rfl rfl (Nat.le_of_ble_eq_true rfl) dX1_spare_119 ⟨Nat.zero_le _, Nat.zero_le _⟩ (fun r9 u_ H locs hq hP hS => ?_)
              obtain ⟨b2, rfl⟩ : ∃ z, z = u_ := ⟨_, rfl⟩
              have hP : va_P D vwCl (mW d h ad b2) H := hP
              have hD : va_D Fr (mW d h ad b2) := x_Db hD rfl
              have hq : b2 = b := by rw [lkQ_get hnu hnv c1 ⟨o, ho, rfl⟩ hq, eb1, lkG_lkG, ← eo, lkG_self hg hnu hnv]
              refine lv_pop hx hb dX1_spare_122 rfl ?_
              refine lv_iload hx hb dX1_spare_123 (lv_at hl 6 rfl) ?_
              exact x_iretW (WS := mW d h ad) (b2) hx hb hr hlocks hS hP dX1_spare_125 ⟨hq, Or.inr (Or.inr ⟨nu, nv, n, hnu, hnv, c1, hn, rfl, rfl, rfl, by rw [z_nI (show lost < 2147483648 by omega)]; exact ⟨by omega, by omega, hge, Or.inl (by omega)⟩⟩)⟩
            · refine lv_aload_n hx hb dX1_spare_72 rfl (lv_at hl 0 rfl) ?_
              refine lv_iload_n hx hb dX1_spare_73 rfl (lv_at hl 1 rfl) ?_
              refine lv_iload_n hx hb dX1_spare_74 rfl (lv_at hl 2 rfl) ?_
              refine lv_iload hx hb dX1_spare_75 (lv_at hl 4 rfl) ?_
              refine lv_iload hx hb dX1_spare_77 (lv_at hl 6 rfl) ?_
              refine lv_isub hx hb dX1_spare_79 ?_
              refine lv_iconst (v := nI 1) hx hb dX1_spare_80 (by decide) ?_
              refine lv_isub hx hb dX1_spare_81 ?_
              refine x_top (y := nI (o - (lost + 1))) (by rw [pk_sub (by omega), pk_sub (by omega)]; exact congrArg nI (by omega)) ?_
              refine x_wri (mW d h ad) (As := [.int (nI nu), .int (nI nv), .int (nI (o - (lost + 1)))]) (rest := []) ⟨hx, hb, hml, hown, hts⟩ (mX1_link l D d h ad Fr b1 (nI nu) (nI nv) (nI (o - (lost + 1))) hD) (cwV 3 hts (lw_V q302 q237 q238 q23 q239) rfl rfl rfl (by decide +kernel) ⟨Nat.le_of_ble_eq_true rfl, Nat.le_of_ble_eq_true rfl⟩) (va_recv hK hP (ci := 1) (q0 := 0) rfl rfl) hK hP hS hl rfl rfl (Nat.le_of_ble_eq_true rfl) dX1_spare_82 ⟨Nat.zero_le _, Nat.zero_le _⟩ (fun r9 u_ H locs hq hP hS => ?_)
              obtain ⟨b2, rfl⟩ : ∃ z, z = u_ := ⟨_, rfl⟩
              have hP : va_P D vwCl (mW d h ad b2) H := hP
              have hD : va_D Fr (mW d h ad b2) := x_Db hD rfl
              have hcn : isN (nI (o - (lost + 1))) 21 := ⟨_, by omega, rfl⟩
              have hq : b2 = lkG b nu nv (nI (o - (lost + 1))) := by rw [lkQ_get hnu hnv c1 hcn hq, eb1, lkG_lkG]
              have hcI : (nI (o - (lost + 1))).toInt = (b 0 (nu * 7 + nv)).toInt - ((lost + 1 : Nat) : Int) := by rw [z_nI (by omega), hoI]; omega
              have hg2 : DOK b2 := by rw [hq]; exact DOK_link hg hnu hnv (by rw [z_nI (by omega)]; omega) (by rw [z_nI (by omega)]; omega)
              have hll := lst_link hg hnu hnv c1 (c := nI (o - (lost + 1))) (k := ((lost + 1 : Nat) : Int)) (by omega) hcI n
              refine lv_pop hx hb dX1_spare_85 rfl ?_
              refine lv_aload_n hx hb dX1_spare_86 rfl (lv_at hl 0 rfl) ?_
              refine lv_iload_n hx hb dX1_spare_87 rfl (lv_at hl 3 rfl) ?_
              refine x_roV (As := [.int (nI n)]) (rest := []) ⟨hx, hb, hml, hown, hts⟩ (mX1_least l D d h ad b2 (nI n) hg2) (cwV 1 hts (lw_V q280 q273 q274 q23 q275) rfl rfl rfl (by decide +kernel) ⟨Nat.le_of_ble_eq_true rfl, Nat.le_of_ble_eq_true rfl⟩) (va_recv hK hP (ci := 1) (q0 := 0) rfl rfl) hP hK hP hS hl rfl rfl (Nat.le_of_ble_eq_true rfl) dX1_spare_88 ⟨Nat.zero_le _, Nat.zero_le _⟩ (fun l2 H locs hl2 hP hS => ?_)
              have hl2 : l2.toInt = lst b2 n := ansN (Q := fun k => l2.toInt = lst b2 k) hn hl2
              rw [hq] at hl2
              refine lv_iload hx hb dX1_spare_91 (lv_at hl 5 rfl) ?_
              refine lv_icmp_ne (tgt := 100) hx hb dX1_spare_93 (by decide) (fun c4 => ?_) (fun c4 => ?_)
              · have hne : ¬ lst (lkG b nu nv (nI (o - (lost + 1)))) n = lst b n := fun q => c4 (z_eq.mpr (by rw [hl2, hlo]; exact q))
                have hsx : ∃ s, s < 128 ∧ s.testBit nu ≠ s.testBit nv ∧ prs b n s = lst b n + lost := by
                  rw [hll] at hne
                  by_cases q : ∃ s, s < 128 ∧ s.testBit nu ≠ s.testBit nv ∧ prs b n s = lst b n + lost
                  · exact q
                  · refine absurd (fun s hs h1 => ?_) hne
                    have h2 := hge s hs h1
                    have h3 : ¬ prs b n s = lst b n + lost := fun z => q ⟨s, hs, h1, z⟩
                    omega
                refine lv_iconst (v := nI 0) hx hb dX1_spare_100 (by decide) ?_
                refine lv_istore (lv' := [(7, .int (nI 0)), (0, .ref (h)), (1, .int (nI nu)), (2, .int (nI nv)), (3, .int (nI n)), (4, .int (nI o)), (5, .int (lo)), (6, .int (nI lost))]) hx hb dX1_spare_101 hl (by decide) rfl (fun ls hl => ?_)
                refine lv_iload hx hb dX1_spare_103 (lv_at hl 0 rfl) ?_
                refine lv_if_eq (tgt := 60) hx hb dX1_spare_105 (by decide) (fun _ => ?_) (fun c => absurd rfl c)
                exact ih ((lost, false, b2)) (show lost ≤ o ∧ (∃ c_, isN c_ 21 ∧ b2 = lkG b nu nv c_) ∧ (∀ s, s < 128 → s.testBit nu ≠ s.testBit nv → lst b n + lost ≤ prs b n s) ∧ (false = false → ∃ s, s < 128 ∧ s.testBit nu ≠ s.testBit nv ∧ prs b n s = lst b n + lost) from ⟨hlt, ⟨_, hcn, hq⟩, hge, fun _ => hsx⟩) (by show 2 * (o - lost) + 0 < 2 * (o - lost) + 1; omega) _ _ _ hP hD hS (lv_sub hl [1, 2, 3, 4, 5, 6, 7, 0] rfl)
              · have heq : lst (lkG b nu nv (nI (o - (lost + 1)))) n = lst b n := by rw [← hl2, ← hlo, c4]
                rw [hll] at heq
                refine lv_iconst (v := nI 1) hx hb dX1_spare_96 (by decide) ?_
                refine lv_goto (tgt := 101) hx hb dX1_spare_97 (by decide) ?_
                refine lv_istore (lv' := [(7, .int (nI 1)), (0, .ref (h)), (1, .int (nI nu)), (2, .int (nI nv)), (3, .int (nI n)), (4, .int (nI o)), (5, .int (lo)), (6, .int (nI lost))]) hx hb dX1_spare_101 hl (by decide) rfl (fun ls hl => ?_)
                refine lv_iload hx hb dX1_spare_103 (lv_at hl 0 rfl) ?_
                refine lv_if_eq (tgt := 60) hx hb dX1_spare_105 (by decide) (fun c => absurd c (by decide)) (fun _ => ?_)
                refine lv_iinc (v := nI (lost + 1)) (lv' := [(6, .int (nI (lost + 1))), (7, .int (nI 1)), (0, .ref (h)), (1, .int (nI nu)), (2, .int (nI nv)), (3, .int (nI n)), (4, .int (nI o)), (5, .int (lo))]) hx hb dX1_spare_108 hl (k := 7) rfl (x_inc _) (by decide) rfl (fun ls hl => ?_)
                refine lv_goto (tgt := 60) hx hb dX1_spare_111 (by decide) ?_
                exact ih ((lost + 1, true, b2)) (show (lost + 1) ≤ o ∧ (∃ c_, isN c_ 21 ∧ b2 = lkG b nu nv c_) ∧ (∀ s, s < 128 → s.testBit nu ≠ s.testBit nv → lst b n + (lost + 1) ≤ prs b n s) ∧ (true = false → ∃ s, s < 128 ∧ s.testBit nu ≠ s.testBit nv ∧ prs b n s = lst b n + (lost + 1)) from ⟨by omega, ⟨_, hcn, hq⟩, heq, fun q => by cases q⟩) (by show 2 * (o - (lost + 1)) + 1 < 2 * (o - lost) + 1; omega) _ _ _ hP hD hS (lv_sub hl [2, 3, 4, 5, 6, 7, 0, 1] rfl)
      · subst c1
        refine lv_iconst (v := -1) hx hb dX1_spare_21 (by decide) ?_
        exact x_iretW (WS := mW d h ad) (b) hx hb hr hlocks hS hP dX1_spare_22 ⟨rfl, Or.inl ⟨Or.inr (Or.inr rfl), rfl⟩⟩
end
section
/-! the constructors -/
def lad (l : List Nat) : Nat → Nat := fun k => l.getD k 0
def lcd (c : ClassId) (l : List ClassId) : Nat → ClassId := fun k => l.getD k c
abbrev z0 : Nat → Nat → Int32 := fun _ _ => 0
abbrev xf0 : List Value := [.null, .null, .null, .null, .null, .null, .int 0, .int 0, .null, .null, .null, .null, .null, .null]
abbrev mf0 : List Value := [.null, .null, .null, .null, .null, .null]
abbrev xri : Room := { frames := 1, cells := 12, slots := 212, locals := 30 }
abbrev mri : Room := { frames := 1, cells := 6, slots := 205, locals := 30 }
/-- a constructor's start -/
def x_Pi (D : va_G) (sz : Nat) (h : Nat) (ws : va_W) : Array Value → State → Prop := va_Pc [.ref h] (fun U => U.heap.size = sz ∧ va_P D vwCl ws U.heap ∧ va_K D vwCl [] U ∧ va_D (fun _ => True) ws)
theorem x_Pi_blind {D : va_G} {sz h : Nat} {ws : va_W} : FrameBlind (x_Pi D sz h ws) := fun a U g mk q => by
  obtain ⟨q0, q1, qP, qK, qD⟩ := q
  exact ⟨q0, q1, qP, va_K.moved (u := U) (U := U.calling g mk a) (Vm.Alike.refl U.vm) qK, qD⟩
def xIn (D : va_G) (A : Nat → Prop) (h : Nat) (u : (Nat → ClassId) × (Nat → Nat)) (t : State) : Prop := va_P D vwCl (xW u.1 h u.2 z0 (-1) 0) t.heap ∧ va_K D vwCl (xT u.1) t ∧ va_D A (xW u.1 h u.2 z0 (-1) 0)
def mIn (D : va_G) (A : Nat → Prop) (h : Nat) (u : (Nat → ClassId) × (Nat → Nat)) (t : State) : Prop := va_P D vwCl (mW u.1 h u.2 z0) t.heap ∧ va_K D vwCl (mT u.1) t ∧ va_D A (mW u.1 h u.2 z0)
set_option maxHeartbeats 4000000 in
set_option maxRecDepth 100000 in
theorem mX0_init (l : Launch) (D : va_G) (sz h : Nat) : Met l yX0_init (ws_ yX0_init cX0_init 1 none) xri (x_Pi D sz h [(h, .inr (0, xf0))]) (va_Qv (fun _ : (Nat → ClassId) × (Nat → Nat) => True) (xIn D (va_A [(h, .inr (0, xf0))] sz) h) (va_A [(h, .inr (0, xf0))] sz)) 12 212 (va_A [(h, .inr (0, xf0))] sz) := by
  refine Met.ofW (cc := cX0_init) (maxL := 1) (ret := none) (by decide) rfl ?_
  intro p e s m args below meth c s₁ B hml hv
  obtain ⟨rfl, hsz, hP, hK, hD0⟩ := hv
  have hx := B.exec
  have hb := B.bytes
  have hr := B.returns
  have hts := atoms_spec (ws := (ws_ yX0_init cX0_init 1 none)) B.pre
  have hts : ∀ w ∈ lw_all, w.before _ s = true := fun w h => hts w (List.mem_cons_of_mem _ h)
  have hown : s.vm.findClass RX0 = some m.cls := findClass_of_methodNamed B.named
  have hlocks := B.notSynchronized
  have hin : meth.name = "<init>" := (name_of_methodNamed B.named B.method).1
  subst hsz
  have hD := hD0.self (sz := s.heap.size)
  generalize hAe : va_A [(h, .inr (0, xf0))] s.heap.size = A at hD ⊢
  have hA : ∀ q : Nat, s.heap.size ≤ q → A q := fun q h => by rw [← hAe]; exact Or.inr h
  have hS : va_S A s.heap s.heap [] := va_S.rf
  have hP : va_P D vwCl [(h, .inr (0, xf0))] s.heap := hP
  have hl := lv_entry ([.ref h]) (n := 1) (Nat.le_of_ble_eq_true rfl)
  rw [lg_entry_eq]
  generalize (lg_sl ([.ref h]) ++ List.replicate (1 - (lg_sl ([.ref h])).length) Slot.unset).toArray = ls at hl ⊢
  have hl : lv_has ls 1 [(0, .ref h)] := hl
  refine lv_aload_n hx hb dX0_init_0 rfl (lv_at hl 0 rfl) ?_
  refine W.objInit hx hb hown (hts _ q29) (hts _ q30) (hts _ q31) rfl (by rw [hml]; exact hl.1) rfl dX0_init_1 (Nat.le_of_ble_eq_true rfl) (Nat.le_of_ble_eq_true rfl) ?_
  refine W.eq (g2 := F0 m 4 ls []) rfl ?_
  refine lv_aload_n hx hb dX0_init_4 rfl (lv_at hl 0 rfl) ?_
  refine lv_bipush (v := nI 49) hx hb dX0_init_5 (by decide) ?_
  refine va_newa (atype := .int) (ty := .int) (a0 := (49, .inl (fun _ => 0))) hx hb (hts _ q75) rfl hK hP hD hS hA (fun _ => rfl) (by decide) (by decide) (by decide) (Nat.le_of_ble_eq_true rfl) (Nat.le_of_ble_eq_true rfl) dX0_init_7 (fun q0_ c0_ H hK hP hD hS => ?_)
  have hP : va_P D vwCl [(h, .inr (0, [.null, .null, .null, .null, .null, .null, .int 0, .int 0, .null, .null, .null, .null, .null, .null])), (q0_, .inl (c0_, 49, .inl (fun _ => 0)))] H := hP
  have hD : va_D A [(h, .inr (0, [.null, .null, .null, .null, .null, .null, .int 0, .int 0, .null, .null, .null, .null, .null, .null])), (q0_, .inl (c0_, 49, .inl (fun _ => 0)))] := hD
  have hK : va_K D vwCl [(c0_, .int)] s := hK
  refine W.widen (k := 1) (n := 49) (Nat.le_of_ble_eq_true rfl) (Nat.le_of_ble_eq_true rfl) ?_
  refine va_putF (D := D) (ci := 0) (v := .ref q0_) (ty := .array .int) (C := RX0) (T := TX0) (N := 14) hx hb hts in_X0 tyX0 tyX0_ok nmX0 hown hK hP hD hS 0 rfl rfl 0 (by decide) (hts _ q32) (fun _ h9 => h9) rfl hin rfl (by decide +kernel) rfl rfl (Nat.le_of_ble_eq_true rfl) dX0_init_9 (fun H locs hP hD hS => ?_)
  have hP : va_P D vwCl [(h, .inr (0, [.ref q0_, .null, .null, .null, .null, .null, .int 0, .int 0, .null, .null, .null, .null, .null, .null])), (q0_, .inl (c0_, 49, .inl (fun _ => 0)))] H := hP
  have hD : va_D A [(h, .inr (0, [.ref q0_, .null, .null, .null, .null, .null, .int 0, .int 0, .null, .null, .null, .null, .null, .null])), (q0_, .inl (c0_, 49, .inl (fun _ => 0)))] := hD
  refine lv_aload_n hx hb dX0_init_12 rfl (lv_at hl 0 rfl) ?_
  refine lv_bipush (v := nI 7) hx hb dX0_init_13 (by decide) ?_
  refine va_newa (atype := .int) (ty := .int) (a0 := (7, .inl (fun _ => 0))) hx hb (hts _ q75) rfl hK hP hD hS hA (fun _ => rfl) (by decide) (by decide) (by decide) (Nat.le_of_ble_eq_true rfl) (Nat.le_of_ble_eq_true rfl) dX0_init_15 (fun q1_ c1_ H hK hP hD hS => ?_)
  have hP : va_P D vwCl [(h, .inr (0, [.ref q0_, .null, .null, .null, .null, .null, .int 0, .int 0, .null, .null, .null, .null, .null, .null])), (q0_, .inl (c0_, 49, .inl (fun _ => 0))), (q1_, .inl (c1_, 7, .inl (fun _ => 0)))] H := hP
  have hD : va_D A [(h, .inr (0, [.ref q0_, .null, .null, .null, .null, .null, .int 0, .int 0, .null, .null, .null, .null, .null, .null])), (q0_, .inl (c0_, 49, .inl (fun _ => 0))), (q1_, .inl (c1_, 7, .inl (fun _ => 0)))] := hD
  have hK : va_K D vwCl [(c0_, .int), (c1_, .int)] s := hK
  refine W.widen (k := 2) (n := 56) (Nat.le_of_ble_eq_true rfl) (Nat.le_of_ble_eq_true rfl) ?_
  refine va_putF (D := D) (ci := 0) (v := .ref q1_) (ty := .array .int) (C := RX0) (T := TX0) (N := 14) hx hb hts in_X0 tyX0 tyX0_ok nmX0 hown hK hP hD hS 0 rfl rfl 1 (by decide) (hts _ q33) (fun _ h9 => h9) rfl hin rfl (by decide +kernel) rfl rfl (Nat.le_of_ble_eq_true rfl) dX0_init_17 (fun H locs hP hD hS => ?_)
  have hP : va_P D vwCl [(h, .inr (0, [.ref q0_, .ref q1_, .null, .null, .null, .null, .int 0, .int 0, .null, .null, .null, .null, .null, .null])), (q0_, .inl (c0_, 49, .inl (fun _ => 0))), (q1_, .inl (c1_, 7, .inl (fun _ => 0)))] H := hP
  have hD : va_D A [(h, .inr (0, [.ref q0_, .ref q1_, .null, .null, .null, .null, .int 0, .int 0, .null, .null, .null, .null, .null, .null])), (q0_, .inl (c0_, 49, .inl (fun _ => 0))), (q1_, .inl (c1_, 7, .inl (fun _ => 0)))] := hD
  refine lv_aload_n hx hb dX0_init_20 rfl (lv_at hl 0 rfl) ?_
  refine lv_bipush (v := nI 7) hx hb dX0_init_21 (by decide) ?_
  refine va_newa (atype := .int) (ty := .int) (a0 := (7, .inl (fun _ => 0))) hx hb (hts _ q75) rfl hK hP hD hS hA (fun _ => rfl) (by decide) (by decide) (by decide) (Nat.le_of_ble_eq_true rfl) (Nat.le_of_ble_eq_true rfl) dX0_init_23 (fun q2_ c2_ H hK hP hD hS => ?_)
  have hP : va_P D vwCl [(h, .inr (0, [.ref q0_, .ref q1_, .null, .null, .null, .null, .int 0, .int 0, .null, .null, .null, .null, .null, .null])), (q0_, .inl (c0_, 49, .inl (fun _ => 0))), (q1_, .inl (c1_, 7, .inl (fun _ => 0))), (q2_, .inl (c2_, 7, .inl (fun _ => 0)))] H := hP
  have hD : va_D A [(h, .inr (0, [.ref q0_, .ref q1_, .null, .null, .null, .null, .int 0, .int 0, .null, .null, .null, .null, .null, .null])), (q0_, .inl (c0_, 49, .inl (fun _ => 0))), (q1_, .inl (c1_, 7, .inl (fun _ => 0))), (q2_, .inl (c2_, 7, .inl (fun _ => 0)))] := hD
  have hK : va_K D vwCl [(c0_, .int), (c1_, .int), (c2_, .int)] s := hK
  refine W.widen (k := 3) (n := 63) (Nat.le_of_ble_eq_true rfl) (Nat.le_of_ble_eq_true rfl) ?_
  refine va_putF (D := D) (ci := 0) (v := .ref q2_) (ty := .array .int) (C := RX0) (T := TX0) (N := 14) hx hb hts in_X0 tyX0 tyX0_ok nmX0 hown hK hP hD hS 0 rfl rfl 2 (by decide) (hts _ q34) (fun _ h9 => h9) rfl hin rfl (by decide +kernel) rfl rfl (Nat.le_of_ble_eq_true rfl) dX0_init_25 (fun H locs hP hD hS => ?_)
  have hP : va_P D vwCl [(h, .inr (0, [.ref q0_, .ref q1_, .ref q2_, .null, .null, .null, .int 0, .int 0, .null, .null, .null, .null, .null, .null])), (q0_, .inl (c0_, 49, .inl (fun _ => 0))), (q1_, .inl (c1_, 7, .inl (fun _ => 0))), (q2_, .inl (c2_, 7, .inl (fun _ => 0)))] H := hP
  have hD : va_D A [(h, .inr (0, [.ref q0_, .ref q1_, .ref q2_, .null, .null, .null, .int 0, .int 0, .null, .null, .null, .null, .null, .null])), (q0_, .inl (c0_, 49, .inl (fun _ => 0))), (q1_, .inl (c1_, 7, .inl (fun _ => 0))), (q2_, .inl (c2_, 7, .inl (fun _ => 0)))] := hD
  refine lv_aload_n hx hb dX0_init_28 rfl (lv_at hl 0 rfl) ?_
  refine lv_bipush (v := nI 7) hx hb dX0_init_29 (by decide) ?_
  refine va_newa (atype := .int) (ty := .int) (a0 := (7, .inl (fun _ => 0))) hx hb (hts _ q75) rfl hK hP hD hS hA (fun _ => rfl) (by decide) (by decide) (by decide) (Nat.le_of_ble_eq_true rfl) (Nat.le_of_ble_eq_true rfl) dX0_init_31 (fun q3_ c3_ H hK hP hD hS => ?_)
  have hP : va_P D vwCl [(h, .inr (0, [.ref q0_, .ref q1_, .ref q2_, .null, .null, .null, .int 0, .int 0, .null, .null, .null, .null, .null, .null])), (q0_, .inl (c0_, 49, .inl (fun _ => 0))), (q1_, .inl (c1_, 7, .inl (fun _ => 0))), (q2_, .inl (c2_, 7, .inl (fun _ => 0))), (q3_, .inl (c3_, 7, .inl (fun _ => 0)))] H := hP
  have hD : va_D A [(h, .inr (0, [.ref q0_, .ref q1_, .ref q2_, .null, .null, .null, .int 0, .int 0, .null, .null, .null, .null, .null, .null])), (q0_, .inl (c0_, 49, .inl (fun _ => 0))), (q1_, .inl (c1_, 7, .inl (fun _ => 0))), (q2_, .inl (c2_, 7, .inl (fun _ => 0))), (q3_, .inl (c3_, 7, .inl (fun _ => 0)))] := hD
  have hK : va_K D vwCl [(c0_, .int), (c1_, .int), (c2_, .int), (c3_, .int)] s := hK
  refine W.widen (k := 4) (n := 70) (Nat.le_of_ble_eq_true rfl) (Nat.le_of_ble_eq_true rfl) ?_
  refine va_putF (D := D) (ci := 0) (v := .ref q3_) (ty := .array .int) (C := RX0) (T := TX0) (N := 14) hx hb hts in_X0 tyX0 tyX0_ok nmX0 hown hK hP hD hS 0 rfl rfl 3 (by decide) (hts _ q35) (fun _ h9 => h9) rfl hin rfl (by decide +kernel) rfl rfl (Nat.le_of_ble_eq_true rfl) dX0_init_33 (fun H locs hP hD hS => ?_)
  have hP : va_P D vwCl [(h, .inr (0, [.ref q0_, .ref q1_, .ref q2_, .ref q3_, .null, .null, .int 0, .int 0, .null, .null, .null, .null, .null, .null])), (q0_, .inl (c0_, 49, .inl (fun _ => 0))), (q1_, .inl (c1_, 7, .inl (fun _ => 0))), (q2_, .inl (c2_, 7, .inl (fun _ => 0))), (q3_, .inl (c3_, 7, .inl (fun _ => 0)))] H := hP
  have hD : va_D A [(h, .inr (0, [.ref q0_, .ref q1_, .ref q2_, .ref q3_, .null, .null, .int 0, .int 0, .null, .null, .null, .null, .null, .null])), (q0_, .inl (c0_, 49, .inl (fun _ => 0))), (q1_, .inl (c1_, 7, .inl (fun _ => 0))), (q2_, .inl (c2_, 7, .inl (fun _ => 0))), (q3_, .inl (c3_, 7, .inl (fun _ => 0)))] := hD
  refine lv_aload_n hx hb dX0_init_36 rfl (lv_at hl 0 rfl) ?_
  refine lv_bipush (v := nI 7) hx hb dX0_init_37 (by decide) ?_
  refine va_newa (atype := .int) (ty := .int) (a0 := (7, .inl (fun _ => 0))) hx hb (hts _ q75) rfl hK hP hD hS hA (fun _ => rfl) (by decide) (by decide) (by decide) (Nat.le_of_ble_eq_true rfl) (Nat.le_of_ble_eq_true rfl) dX0_init_39 (fun q4_ c4_ H hK hP hD hS => ?_)
  have hP : va_P D vwCl [(h, .inr (0, [.ref q0_, .ref q1_, .ref q2_, .ref q3_, .null, .null, .int 0, .int 0, .null, .null, .null, .null, .null, .null])), (q0_, .inl (c0_, 49, .inl (fun _ => 0))), (q1_, .inl (c1_, 7, .inl (fun _ => 0))), (q2_, .inl (c2_, 7, .inl (fun _ => 0))), (q3_, .inl (c3_, 7, .inl (fun _ => 0))), (q4_, .inl (c4_, 7, .inl (fun _ => 0)))] H := hP
  have hD : va_D A [(h, .inr (0, [.ref q0_, .ref q1_, .ref q2_, .ref q3_, .null, .null, .int 0, .int 0, .null, .null, .null, .null, .null, .null])), (q0_, .inl (c0_, 49, .inl (fun _ => 0))), (q1_, .inl (c1_, 7, .inl (fun _ => 0))), (q2_, .inl (c2_, 7, .inl (fun _ => 0))), (q3_, .inl (c3_, 7, .inl (fun _ => 0))), (q4_, .inl (c4_, 7, .inl (fun _ => 0)))] := hD
  have hK : va_K D vwCl [(c0_, .int), (c1_, .int), (c2_, .int), (c3_, .int), (c4_, .int)] s := hK
  refine W.widen (k := 5) (n := 77) (Nat.le_of_ble_eq_true rfl) (Nat.le_of_ble_eq_true rfl) ?_
  refine va_putF (D := D) (ci := 0) (v := .ref q4_) (ty := .array .int) (C := RX0) (T := TX0) (N := 14) hx hb hts in_X0 tyX0 tyX0_ok nmX0 hown hK hP hD hS 0 rfl rfl 4 (by decide) (hts _ q36) (fun _ h9 => h9) rfl hin rfl (by decide +kernel) rfl rfl (Nat.le_of_ble_eq_true rfl) dX0_init_41 (fun H locs hP hD hS => ?_)
  have hP : va_P D vwCl [(h, .inr (0, [.ref q0_, .ref q1_, .ref q2_, .ref q3_, .ref q4_, .null, .int 0, .int 0, .null, .null, .null, .null, .null, .null])), (q0_, .inl (c0_, 49, .inl (fun _ => 0))), (q1_, .inl (c1_, 7, .inl (fun _ => 0))), (q2_, .inl (c2_, 7, .inl (fun _ => 0))), (q3_, .inl (c3_, 7, .inl (fun _ => 0))), (q4_, .inl (c4_, 7, .inl (fun _ => 0)))] H := hP
  have hD : va_D A [(h, .inr (0, [.ref q0_, .ref q1_, .ref q2_, .ref q3_, .ref q4_, .null, .int 0, .int 0, .null, .null, .null, .null, .null, .null])), (q0_, .inl (c0_, 49, .inl (fun _ => 0))), (q1_, .inl (c1_, 7, .inl (fun _ => 0))), (q2_, .inl (c2_, 7, .inl (fun _ => 0))), (q3_, .inl (c3_, 7, .inl (fun _ => 0))), (q4_, .inl (c4_, 7, .inl (fun _ => 0)))] := hD
  refine lv_aload_n hx hb dX0_init_44 rfl (lv_at hl 0 rfl) ?_
  refine lv_bipush (v := nI 81) hx hb dX0_init_45 (by decide) ?_
  refine va_newa (atype := .int) (ty := .int) (a0 := (81, .inl (fun _ => 0))) hx hb (hts _ q75) rfl hK hP hD hS hA (fun _ => rfl) (by decide) (by decide) (by decide) (Nat.le_of_ble_eq_true rfl) (Nat.le_of_ble_eq_true rfl) dX0_init_47 (fun q5_ c5_ H hK hP hD hS => ?_)
  have hP : va_P D vwCl [(h, .inr (0, [.ref q0_, .ref q1_, .ref q2_, .ref q3_, .ref q4_, .null, .int 0, .int 0, .null, .null, .null, .null, .null, .null])), (q0_, .inl (c0_, 49, .inl (fun _ => 0))), (q1_, .inl (c1_, 7, .inl (fun _ => 0))), (q2_, .inl (c2_, 7, .inl (fun _ => 0))), (q3_, .inl (c3_, 7, .inl (fun _ => 0))), (q4_, .inl (c4_, 7, .inl (fun _ => 0))), (q5_, .inl (c5_, 81, .inl (fun _ => 0)))] H := hP
  have hD : va_D A [(h, .inr (0, [.ref q0_, .ref q1_, .ref q2_, .ref q3_, .ref q4_, .null, .int 0, .int 0, .null, .null, .null, .null, .null, .null])), (q0_, .inl (c0_, 49, .inl (fun _ => 0))), (q1_, .inl (c1_, 7, .inl (fun _ => 0))), (q2_, .inl (c2_, 7, .inl (fun _ => 0))), (q3_, .inl (c3_, 7, .inl (fun _ => 0))), (q4_, .inl (c4_, 7, .inl (fun _ => 0))), (q5_, .inl (c5_, 81, .inl (fun _ => 0)))] := hD
  have hK : va_K D vwCl [(c0_, .int), (c1_, .int), (c2_, .int), (c3_, .int), (c4_, .int), (c5_, .int)] s := hK
  refine W.widen (k := 6) (n := 158) (Nat.le_of_ble_eq_true rfl) (Nat.le_of_ble_eq_true rfl) ?_
  refine va_putF (D := D) (ci := 0) (v := .ref q5_) (ty := .array .int) (C := RX0) (T := TX0) (N := 14) hx hb hts in_X0 tyX0 tyX0_ok nmX0 hown hK hP hD hS 0 rfl rfl 5 (by decide) (hts _ q37) (fun _ h9 => h9) rfl hin rfl (by decide +kernel) rfl rfl (Nat.le_of_ble_eq_true rfl) dX0_init_49 (fun H locs hP hD hS => ?_)
  have hP : va_P D vwCl [(h, .inr (0, [.ref q0_, .ref q1_, .ref q2_, .ref q3_, .ref q4_, .ref q5_, .int 0, .int 0, .null, .null, .null, .null, .null, .null])), (q0_, .inl (c0_, 49, .inl (fun _ => 0))), (q1_, .inl (c1_, 7, .inl (fun _ => 0))), (q2_, .inl (c2_, 7, .inl (fun _ => 0))), (q3_, .inl (c3_, 7, .inl (fun _ => 0))), (q4_, .inl (c4_, 7, .inl (fun _ => 0))), (q5_, .inl (c5_, 81, .inl (fun _ => 0)))] H := hP
  have hD : va_D A [(h, .inr (0, [.ref q0_, .ref q1_, .ref q2_, .ref q3_, .ref q4_, .ref q5_, .int 0, .int 0, .null, .null, .null, .null, .null, .null])), (q0_, .inl (c0_, 49, .inl (fun _ => 0))), (q1_, .inl (c1_, 7, .inl (fun _ => 0))), (q2_, .inl (c2_, 7, .inl (fun _ => 0))), (q3_, .inl (c3_, 7, .inl (fun _ => 0))), (q4_, .inl (c4_, 7, .inl (fun _ => 0))), (q5_, .inl (c5_, 81, .inl (fun _ => 0)))] := hD
  refine lv_aload_n hx hb dX0_init_52 rfl (lv_at hl 0 rfl) ?_
  refine lv_bipush (v := nI 9) hx hb dX0_init_53 (by decide) ?_
  refine va_newa (atype := .int) (ty := .int) (a0 := (9, .inl (fun _ => 0))) hx hb (hts _ q75) rfl hK hP hD hS hA (fun _ => rfl) (by decide) (by decide) (by decide) (Nat.le_of_ble_eq_true rfl) (Nat.le_of_ble_eq_true rfl) dX0_init_55 (fun q8_ c8_ H hK hP hD hS => ?_)
  have hP : va_P D vwCl [(h, .inr (0, [.ref q0_, .ref q1_, .ref q2_, .ref q3_, .ref q4_, .ref q5_, .int 0, .int 0, .null, .null, .null, .null, .null, .null])), (q0_, .inl (c0_, 49, .inl (fun _ => 0))), (q1_, .inl (c1_, 7, .inl (fun _ => 0))), (q2_, .inl (c2_, 7, .inl (fun _ => 0))), (q3_, .inl (c3_, 7, .inl (fun _ => 0))), (q4_, .inl (c4_, 7, .inl (fun _ => 0))), (q5_, .inl (c5_, 81, .inl (fun _ => 0))), (q8_, .inl (c8_, 9, .inl (fun _ => 0)))] H := hP
  have hD : va_D A [(h, .inr (0, [.ref q0_, .ref q1_, .ref q2_, .ref q3_, .ref q4_, .ref q5_, .int 0, .int 0, .null, .null, .null, .null, .null, .null])), (q0_, .inl (c0_, 49, .inl (fun _ => 0))), (q1_, .inl (c1_, 7, .inl (fun _ => 0))), (q2_, .inl (c2_, 7, .inl (fun _ => 0))), (q3_, .inl (c3_, 7, .inl (fun _ => 0))), (q4_, .inl (c4_, 7, .inl (fun _ => 0))), (q5_, .inl (c5_, 81, .inl (fun _ => 0))), (q8_, .inl (c8_, 9, .inl (fun _ => 0)))] := hD
  have hK : va_K D vwCl [(c0_, .int), (c1_, .int), (c2_, .int), (c3_, .int), (c4_, .int), (c5_, .int), (c8_, .int)] s := hK
  refine W.widen (k := 7) (n := 167) (Nat.le_of_ble_eq_true rfl) (Nat.le_of_ble_eq_true rfl) ?_
  refine va_putF (D := D) (ci := 0) (v := .ref q8_) (ty := .array .int) (C := RX0) (T := TX0) (N := 14) hx hb hts in_X0 tyX0 tyX0_ok nmX0 hown hK hP hD hS 0 rfl rfl 8 (by decide) (hts _ q40) (fun _ h9 => h9) rfl hin rfl (by decide +kernel) rfl rfl (Nat.le_of_ble_eq_true rfl) dX0_init_57 (fun H locs hP hD hS => ?_)
  have hP : va_P D vwCl [(h, .inr (0, [.ref q0_, .ref q1_, .ref q2_, .ref q3_, .ref q4_, .ref q5_, .int 0, .int 0, .ref q8_, .null, .null, .null, .null, .null])), (q0_, .inl (c0_, 49, .inl (fun _ => 0))), (q1_, .inl (c1_, 7, .inl (fun _ => 0))), (q2_, .inl (c2_, 7, .inl (fun _ => 0))), (q3_, .inl (c3_, 7, .inl (fun _ => 0))), (q4_, .inl (c4_, 7, .inl (fun _ => 0))), (q5_, .inl (c5_, 81, .inl (fun _ => 0))), (q8_, .inl (c8_, 9, .inl (fun _ => 0)))] H := hP
  have hD : va_D A [(h, .inr (0, [.ref q0_, .ref q1_, .ref q2_, .ref q3_, .ref q4_, .ref q5_, .int 0, .int 0, .ref q8_, .null, .null, .null, .null, .null])), (q0_, .inl (c0_, 49, .inl (fun _ => 0))), (q1_, .inl (c1_, 7, .inl (fun _ => 0))), (q2_, .inl (c2_, 7, .inl (fun _ => 0))), (q3_, .inl (c3_, 7, .inl (fun _ => 0))), (q4_, .inl (c4_, 7, .inl (fun _ => 0))), (q5_, .inl (c5_, 81, .inl (fun _ => 0))), (q8_, .inl (c8_, 9, .inl (fun _ => 0)))] := hD
  refine lv_aload_n hx hb dX0_init_60 rfl (lv_at hl 0 rfl) ?_
  refine lv_bipush (v := nI 9) hx hb dX0_init_61 (by decide) ?_
  refine va_newa (atype := .int) (ty := .int) (a0 := (9, .inl (fun _ => 0))) hx hb (hts _ q75) rfl hK hP hD hS hA (fun _ => rfl) (by decide) (by decide) (by decide) (Nat.le_of_ble_eq_true rfl) (Nat.le_of_ble_eq_true rfl) dX0_init_63 (fun q9_ c9_ H hK hP hD hS => ?_)
  have hP : va_P D vwCl [(h, .inr (0, [.ref q0_, .ref q1_, .ref q2_, .ref q3_, .ref q4_, .ref q5_, .int 0, .int 0, .ref q8_, .null, .null, .null, .null, .null])), (q0_, .inl (c0_, 49, .inl (fun _ => 0))), (q1_, .inl (c1_, 7, .inl (fun _ => 0))), (q2_, .inl (c2_, 7, .inl (fun _ => 0))), (q3_, .inl (c3_, 7, .inl (fun _ => 0))), (q4_, .inl (c4_, 7, .inl (fun _ => 0))), (q5_, .inl (c5_, 81, .inl (fun _ => 0))), (q8_, .inl (c8_, 9, .inl (fun _ => 0))), (q9_, .inl (c9_, 9, .inl (fun _ => 0)))] H := hP
  have hD : va_D A [(h, .inr (0, [.ref q0_, .ref q1_, .ref q2_, .ref q3_, .ref q4_, .ref q5_, .int 0, .int 0, .ref q8_, .null, .null, .null, .null, .null])), (q0_, .inl (c0_, 49, .inl (fun _ => 0))), (q1_, .inl (c1_, 7, .inl (fun _ => 0))), (q2_, .inl (c2_, 7, .inl (fun _ => 0))), (q3_, .inl (c3_, 7, .inl (fun _ => 0))), (q4_, .inl (c4_, 7, .inl (fun _ => 0))), (q5_, .inl (c5_, 81, .inl (fun _ => 0))), (q8_, .inl (c8_, 9, .inl (fun _ => 0))), (q9_, .inl (c9_, 9, .inl (fun _ => 0)))] := hD
  have hK : va_K D vwCl [(c0_, .int), (c1_, .int), (c2_, .int), (c3_, .int), (c4_, .int), (c5_, .int), (c8_, .int), (c9_, .int)] s := hK
  refine W.widen (k := 8) (n := 176) (Nat.le_of_ble_eq_true rfl) (Nat.le_of_ble_eq_true rfl) ?_
  refine va_putF (D := D) (ci := 0) (v := .ref q9_) (ty := .array .int) (C := RX0) (T := TX0) (N := 14) hx hb hts in_X0 tyX0 tyX0_ok nmX0 hown hK hP hD hS 0 rfl rfl 9 (by decide) (hts _ q41) (fun _ h9 => h9) rfl hin rfl (by decide +kernel) rfl rfl (Nat.le_of_ble_eq_true rfl) dX0_init_65 (fun H locs hP hD hS => ?_)
  have hP : va_P D vwCl [(h, .inr (0, [.ref q0_, .ref q1_, .ref q2_, .ref q3_, .ref q4_, .ref q5_, .int 0, .int 0, .ref q8_, .ref q9_, .null, .null, .null, .null])), (q0_, .inl (c0_, 49, .inl (fun _ => 0))), (q1_, .inl (c1_, 7, .inl (fun _ => 0))), (q2_, .inl (c2_, 7, .inl (fun _ => 0))), (q3_, .inl (c3_, 7, .inl (fun _ => 0))), (q4_, .inl (c4_, 7, .inl (fun _ => 0))), (q5_, .inl (c5_, 81, .inl (fun _ => 0))), (q8_, .inl (c8_, 9, .inl (fun _ => 0))), (q9_, .inl (c9_, 9, .inl (fun _ => 0)))] H := hP
  have hD : va_D A [(h, .inr (0, [.ref q0_, .ref q1_, .ref q2_, .ref q3_, .ref q4_, .ref q5_, .int 0, .int 0, .ref q8_, .ref q9_, .null, .null, .null, .null])), (q0_, .inl (c0_, 49, .inl (fun _ => 0))), (q1_, .inl (c1_, 7, .inl (fun _ => 0))), (q2_, .inl (c2_, 7, .inl (fun _ => 0))), (q3_, .inl (c3_, 7, .inl (fun _ => 0))), (q4_, .inl (c4_, 7, .inl (fun _ => 0))), (q5_, .inl (c5_, 81, .inl (fun _ => 0))), (q8_, .inl (c8_, 9, .inl (fun _ => 0))), (q9_, .inl (c9_, 9, .inl (fun _ => 0)))] := hD
  refine lv_aload_n hx hb dX0_init_68 rfl (lv_at hl 0 rfl) ?_
  refine lv_bipush (v := nI 9) hx hb dX0_init_69 (by decide) ?_
  refine va_newa (atype := .int) (ty := .int) (a0 := (9, .inl (fun _ => 0))) hx hb (hts _ q75) rfl hK hP hD hS hA (fun _ => rfl) (by decide) (by decide) (by decide) (Nat.le_of_ble_eq_true rfl) (Nat.le_of_ble_eq_true rfl) dX0_init_71 (fun q10_ c10_ H hK hP hD hS => ?_)
  have hP : va_P D vwCl [(h, .inr (0, [.ref q0_, .ref q1_, .ref q2_, .ref q3_, .ref q4_, .ref q5_, .int 0, .int 0, .ref q8_, .ref q9_, .null, .null, .null, .null])), (q0_, .inl (c0_, 49, .inl (fun _ => 0))), (q1_, .inl (c1_, 7, .inl (fun _ => 0))), (q2_, .inl (c2_, 7, .inl (fun _ => 0))), (q3_, .inl (c3_, 7, .inl (fun _ => 0))), (q4_, .inl (c4_, 7, .inl (fun _ => 0))), (q5_, .inl (c5_, 81, .inl (fun _ => 0))), (q8_, .inl (c8_, 9, .inl (fun _ => 0))), (q9_, .inl (c9_, 9, .inl (fun _ => 0))), (q10_, .inl (c10_, 9, .inl (fun _ => 0)))] H := hP
  have hD : va_D A [(h, .inr (0, [.ref q0_, .ref q1_, .ref q2_, .ref q3_, .ref q4_, .ref q5_, .int 0, .int 0, .ref q8_, .ref q9_, .null, .null, .null, .null])), (q0_, .inl (c0_, 49, .inl (fun _ => 0))), (q1_, .inl (c1_, 7, .inl (fun _ => 0))), (q2_, .inl (c2_, 7, .inl (fun _ => 0))), (q3_, .inl (c3_, 7, .inl (fun _ => 0))), (q4_, .inl (c4_, 7, .inl (fun _ => 0))), (q5_, .inl (c5_, 81, .inl (fun _ => 0))), (q8_, .inl (c8_, 9, .inl (fun _ => 0))), (q9_, .inl (c9_, 9, .inl (fun _ => 0))), (q10_, .inl (c10_, 9, .inl (fun _ => 0)))] := hD
  have hK : va_K D vwCl [(c0_, .int), (c1_, .int), (c2_, .int), (c3_, .int), (c4_, .int), (c5_, .int), (c8_, .int), (c9_, .int), (c10_, .int)] s := hK
  refine W.widen (k := 9) (n := 185) (Nat.le_of_ble_eq_true rfl) (Nat.le_of_ble_eq_true rfl) ?_
  refine va_putF (D := D) (ci := 0) (v := .ref q10_) (ty := .array .int) (C := RX0) (T := TX0) (N := 14) hx hb hts in_X0 tyX0 tyX0_ok nmX0 hown hK hP hD hS 0 rfl rfl 10 (by decide) (hts _ q42) (fun _ h9 => h9) rfl hin rfl (by decide +kernel) rfl rfl (Nat.le_of_ble_eq_true rfl) dX0_init_73 (fun H locs hP hD hS => ?_)
  have hP : va_P D vwCl [(h, .inr (0, [.ref q0_, .ref q1_, .ref q2_, .ref q3_, .ref q4_, .ref q5_, .int 0, .int 0, .ref q8_, .ref q9_, .ref q10_, .null, .null, .null])), (q0_, .inl (c0_, 49, .inl (fun _ => 0))), (q1_, .inl (c1_, 7, .inl (fun _ => 0))), (q2_, .inl (c2_, 7, .inl (fun _ => 0))), (q3_, .inl (c3_, 7, .inl (fun _ => 0))), (q4_, .inl (c4_, 7, .inl (fun _ => 0))), (q5_, .inl (c5_, 81, .inl (fun _ => 0))), (q8_, .inl (c8_, 9, .inl (fun _ => 0))), (q9_, .inl (c9_, 9, .inl (fun _ => 0))), (q10_, .inl (c10_, 9, .inl (fun _ => 0)))] H := hP
  have hD : va_D A [(h, .inr (0, [.ref q0_, .ref q1_, .ref q2_, .ref q3_, .ref q4_, .ref q5_, .int 0, .int 0, .ref q8_, .ref q9_, .ref q10_, .null, .null, .null])), (q0_, .inl (c0_, 49, .inl (fun _ => 0))), (q1_, .inl (c1_, 7, .inl (fun _ => 0))), (q2_, .inl (c2_, 7, .inl (fun _ => 0))), (q3_, .inl (c3_, 7, .inl (fun _ => 0))), (q4_, .inl (c4_, 7, .inl (fun _ => 0))), (q5_, .inl (c5_, 81, .inl (fun _ => 0))), (q8_, .inl (c8_, 9, .inl (fun _ => 0))), (q9_, .inl (c9_, 9, .inl (fun _ => 0))), (q10_, .inl (c10_, 9, .inl (fun _ => 0)))] := hD
  refine lv_aload_n hx hb dX0_init_76 rfl (lv_at hl 0 rfl) ?_
  refine lv_bipush (v := nI 9) hx hb dX0_init_77 (by decide) ?_
  refine va_newa (atype := .int) (ty := .int) (a0 := (9, .inl (fun _ => 0))) hx hb (hts _ q75) rfl hK hP hD hS hA (fun _ => rfl) (by decide) (by decide) (by decide) (Nat.le_of_ble_eq_true rfl) (Nat.le_of_ble_eq_true rfl) dX0_init_79 (fun q11_ c11_ H hK hP hD hS => ?_)
  have hP : va_P D vwCl [(h, .inr (0, [.ref q0_, .ref q1_, .ref q2_, .ref q3_, .ref q4_, .ref q5_, .int 0, .int 0, .ref q8_, .ref q9_, .ref q10_, .null, .null, .null])), (q0_, .inl (c0_, 49, .inl (fun _ => 0))), (q1_, .inl (c1_, 7, .inl (fun _ => 0))), (q2_, .inl (c2_, 7, .inl (fun _ => 0))), (q3_, .inl (c3_, 7, .inl (fun _ => 0))), (q4_, .inl (c4_, 7, .inl (fun _ => 0))), (q5_, .inl (c5_, 81, .inl (fun _ => 0))), (q8_, .inl (c8_, 9, .inl (fun _ => 0))), (q9_, .inl (c9_, 9, .inl (fun _ => 0))), (q10_, .inl (c10_, 9, .inl (fun _ => 0))), (q11_, .inl (c11_, 9, .inl (fun _ => 0)))] H := hP
  have hD : va_D A [(h, .inr (0, [.ref q0_, .ref q1_, .ref q2_, .ref q3_, .ref q4_, .ref q5_, .int 0, .int 0, .ref q8_, .ref q9_, .ref q10_, .null, .null, .null])), (q0_, .inl (c0_, 49, .inl (fun _ => 0))), (q1_, .inl (c1_, 7, .inl (fun _ => 0))), (q2_, .inl (c2_, 7, .inl (fun _ => 0))), (q3_, .inl (c3_, 7, .inl (fun _ => 0))), (q4_, .inl (c4_, 7, .inl (fun _ => 0))), (q5_, .inl (c5_, 81, .inl (fun _ => 0))), (q8_, .inl (c8_, 9, .inl (fun _ => 0))), (q9_, .inl (c9_, 9, .inl (fun _ => 0))), (q10_, .inl (c10_, 9, .inl (fun _ => 0))), (q11_, .inl (c11_, 9, .inl (fun _ => 0)))] := hD
  have hK : va_K D vwCl [(c0_, .int), (c1_, .int), (c2_, .int), (c3_, .int), (c4_, .int), (c5_, .int), (c8_, .int), (c9_, .int), (c10_, .int), (c11_, .int)] s := hK
  refine W.widen (k := 10) (n := 194) (Nat.le_of_ble_eq_true rfl) (Nat.le_of_ble_eq_true rfl) ?_
  refine va_putF (D := D) (ci := 0) (v := .ref q11_) (ty := .array .int) (C := RX0) (T := TX0) (N := 14) hx hb hts in_X0 tyX0 tyX0_ok nmX0 hown hK hP hD hS 0 rfl rfl 11 (by decide) (hts _ q43) (fun _ h9 => h9) rfl hin rfl (by decide +kernel) rfl rfl (Nat.le_of_ble_eq_true rfl) dX0_init_81 (fun H locs hP hD hS => ?_)
  have hP : va_P D vwCl [(h, .inr (0, [.ref q0_, .ref q1_, .ref q2_, .ref q3_, .ref q4_, .ref q5_, .int 0, .int 0, .ref q8_, .ref q9_, .ref q10_, .ref q11_, .null, .null])), (q0_, .inl (c0_, 49, .inl (fun _ => 0))), (q1_, .inl (c1_, 7, .inl (fun _ => 0))), (q2_, .inl (c2_, 7, .inl (fun _ => 0))), (q3_, .inl (c3_, 7, .inl (fun _ => 0))), (q4_, .inl (c4_, 7, .inl (fun _ => 0))), (q5_, .inl (c5_, 81, .inl (fun _ => 0))), (q8_, .inl (c8_, 9, .inl (fun _ => 0))), (q9_, .inl (c9_, 9, .inl (fun _ => 0))), (q10_, .inl (c10_, 9, .inl (fun _ => 0))), (q11_, .inl (c11_, 9, .inl (fun _ => 0)))] H := hP
  have hD : va_D A [(h, .inr (0, [.ref q0_, .ref q1_, .ref q2_, .ref q3_, .ref q4_, .ref q5_, .int 0, .int 0, .ref q8_, .ref q9_, .ref q10_, .ref q11_, .null, .null])), (q0_, .inl (c0_, 49, .inl (fun _ => 0))), (q1_, .inl (c1_, 7, .inl (fun _ => 0))), (q2_, .inl (c2_, 7, .inl (fun _ => 0))), (q3_, .inl (c3_, 7, .inl (fun _ => 0))), (q4_, .inl (c4_, 7, .inl (fun _ => 0))), (q5_, .inl (c5_, 81, .inl (fun _ => 0))), (q8_, .inl (c8_, 9, .inl (fun _ => 0))), (q9_, .inl (c9_, 9, .inl (fun _ => 0))), (q10_, .inl (c10_, 9, .inl (fun _ => 0))), (q11_, .inl (c11_, 9, .inl (fun _ => 0)))] := hD
  refine lv_aload_n hx hb dX0_init_84 rfl (lv_at hl 0 rfl) ?_
  refine lv_bipush (v := nI 9) hx hb dX0_init_85 (by decide) ?_
  refine va_newa (atype := .int) (ty := .int) (a0 := (9, .inl (fun _ => 0))) hx hb (hts _ q75) rfl hK hP hD hS hA (fun _ => rfl) (by decide) (by decide) (by decide) (Nat.le_of_ble_eq_true rfl) (Nat.le_of_ble_eq_true rfl) dX0_init_87 (fun q12_ c12_ H hK hP hD hS => ?_)
  have hP : va_P D vwCl [(h, .inr (0, [.ref q0_, .ref q1_, .ref q2_, .ref q3_, .ref q4_, .ref q5_, .int 0, .int 0, .ref q8_, .ref q9_, .ref q10_, .ref q11_, .null, .null])), (q0_, .inl (c0_, 49, .inl (fun _ => 0))), (q1_, .inl (c1_, 7, .inl (fun _ => 0))), (q2_, .inl (c2_, 7, .inl (fun _ => 0))), (q3_, .inl (c3_, 7, .inl (fun _ => 0))), (q4_, .inl (c4_, 7, .inl (fun _ => 0))), (q5_, .inl (c5_, 81, .inl (fun _ => 0))), (q8_, .inl (c8_, 9, .inl (fun _ => 0))), (q9_, .inl (c9_, 9, .inl (fun _ => 0))), (q10_, .inl (c10_, 9, .inl (fun _ => 0))), (q11_, .inl (c11_, 9, .inl (fun _ => 0))), (q12_, .inl (c12_, 9, .inl (fun _ => 0)))] H := hP
  have hD : va_D A [(h, .inr (0, [.ref q0_, .ref q1_, .ref q2_, .ref q3_, .ref q4_, .ref q5_, .int 0, .int 0, .ref q8_, .ref q9_, .ref q10_, .ref q11_, .null, .null])), (q0_, .inl (c0_, 49, .inl (fun _ => 0))), (q1_, .inl (c1_, 7, .inl (fun _ => 0))), (q2_, .inl (c2_, 7, .inl (fun _ => 0))), (q3_, .inl (c3_, 7, .inl (fun _ => 0))), (q4_, .inl (c4_, 7, .inl (fun _ => 0))), (q5_, .inl (c5_, 81, .inl (fun _ => 0))), (q8_, .inl (c8_, 9, .inl (fun _ => 0))), (q9_, .inl (c9_, 9, .inl (fun _ => 0))), (q10_, .inl (c10_, 9, .inl (fun _ => 0))), (q11_, .inl (c11_, 9, .inl (fun _ => 0))), (q12_, .inl (c12_, 9, .inl (fun _ => 0)))] := hD
  have hK : va_K D vwCl [(c0_, .int), (c1_, .int), (c2_, .int), (c3_, .int), (c4_, .int), (c5_, .int), (c8_, .int), (c9_, .int), (c10_, .int), (c11_, .int), (c12_, .int)] s := hK
  refine W.widen (k := 11) (n := 203) (Nat.le_of_ble_eq_true rfl) (Nat.le_of_ble_eq_true rfl) ?_
  refine va_putF (D := D) (ci := 0) (v := .ref q12_) (ty := .array .int) (C := RX0) (T := TX0) (N := 14) hx hb hts in_X0 tyX0 tyX0_ok nmX0 hown hK hP hD hS 0 rfl rfl 12 (by decide) (hts _ q44) (fun _ h9 => h9) rfl hin rfl (by decide +kernel) rfl rfl (Nat.le_of_ble_eq_true rfl) dX0_init_89 (fun H locs hP hD hS => ?_)
  have hP : va_P D vwCl [(h, .inr (0, [.ref q0_, .ref q1_, .ref q2_, .ref q3_, .ref q4_, .ref q5_, .int 0, .int 0, .ref q8_, .ref q9_, .ref q10_, .ref q11_, .ref q12_, .null])), (q0_, .inl (c0_, 49, .inl (fun _ => 0))), (q1_, .inl (c1_, 7, .inl (fun _ => 0))), (q2_, .inl (c2_, 7, .inl (fun _ => 0))), (q3_, .inl (c3_, 7, .inl (fun _ => 0))), (q4_, .inl (c4_, 7, .inl (fun _ => 0))), (q5_, .inl (c5_, 81, .inl (fun _ => 0))), (q8_, .inl (c8_, 9, .inl (fun _ => 0))), (q9_, .inl (c9_, 9, .inl (fun _ => 0))), (q10_, .inl (c10_, 9, .inl (fun _ => 0))), (q11_, .inl (c11_, 9, .inl (fun _ => 0))), (q12_, .inl (c12_, 9, .inl (fun _ => 0)))] H := hP
  have hD : va_D A [(h, .inr (0, [.ref q0_, .ref q1_, .ref q2_, .ref q3_, .ref q4_, .ref q5_, .int 0, .int 0, .ref q8_, .ref q9_, .ref q10_, .ref q11_, .ref q12_, .null])), (q0_, .inl (c0_, 49, .inl (fun _ => 0))), (q1_, .inl (c1_, 7, .inl (fun _ => 0))), (q2_, .inl (c2_, 7, .inl (fun _ => 0))), (q3_, .inl (c3_, 7, .inl (fun _ => 0))), (q4_, .inl (c4_, 7, .inl (fun _ => 0))), (q5_, .inl (c5_, 81, .inl (fun _ => 0))), (q8_, .inl (c8_, 9, .inl (fun _ => 0))), (q9_, .inl (c9_, 9, .inl (fun _ => 0))), (q10_, .inl (c10_, 9, .inl (fun _ => 0))), (q11_, .inl (c11_, 9, .inl (fun _ => 0))), (q12_, .inl (c12_, 9, .inl (fun _ => 0)))] := hD
  refine lv_aload_n hx hb dX0_init_92 rfl (lv_at hl 0 rfl) ?_
  refine lv_bipush (v := nI 9) hx hb dX0_init_93 (by decide) ?_
  refine va_newa (atype := .int) (ty := .int) (a0 := (9, .inl (fun _ => 0))) hx hb (hts _ q75) rfl hK hP hD hS hA (fun _ => rfl) (by decide) (by decide) (by decide) (Nat.le_of_ble_eq_true rfl) (Nat.le_of_ble_eq_true rfl) dX0_init_95 (fun q13_ c13_ H hK hP hD hS => ?_)
  have hP : va_P D vwCl [(h, .inr (0, [.ref q0_, .ref q1_, .ref q2_, .ref q3_, .ref q4_, .ref q5_, .int 0, .int 0, .ref q8_, .ref q9_, .ref q10_, .ref q11_, .ref q12_, .null])), (q0_, .inl (c0_, 49, .inl (fun _ => 0))), (q1_, .inl (c1_, 7, .inl (fun _ => 0))), (q2_, .inl (c2_, 7, .inl (fun _ => 0))), (q3_, .inl (c3_, 7, .inl (fun _ => 0))), (q4_, .inl (c4_, 7, .inl (fun _ => 0))), (q5_, .inl (c5_, 81, .inl (fun _ => 0))), (q8_, .inl (c8_, 9, .inl (fun _ => 0))), (q9_, .inl (c9_, 9, .inl (fun _ => 0))), (q10_, .inl (c10_, 9, .inl (fun _ => 0))), (q11_, .inl (c11_, 9, .inl (fun _ => 0))), (q12_, .inl (c12_, 9, .inl (fun _ => 0))), (q13_, .inl (c13_, 9, .inl (fun _ => 0)))] H := hP
  have hD : va_D A [(h, .inr (0, [.ref q0_, .ref q1_, .ref q2_, .ref q3_, .ref q4_, .ref q5_, .int 0, .int 0, .ref q8_, .ref q9_, .ref q10_, .ref q11_, .ref q12_, .null])), (q0_, .inl (c0_, 49, .inl (fun _ => 0))), (q1_, .inl (c1_, 7, .inl (fun _ => 0))), (q2_, .inl (c2_, 7, .inl (fun _ => 0))), (q3_, .inl (c3_, 7, .inl (fun _ => 0))), (q4_, .inl (c4_, 7, .inl (fun _ => 0))), (q5_, .inl (c5_, 81, .inl (fun _ => 0))), (q8_, .inl (c8_, 9, .inl (fun _ => 0))), (q9_, .inl (c9_, 9, .inl (fun _ => 0))), (q10_, .inl (c10_, 9, .inl (fun _ => 0))), (q11_, .inl (c11_, 9, .inl (fun _ => 0))), (q12_, .inl (c12_, 9, .inl (fun _ => 0))), (q13_, .inl (c13_, 9, .inl (fun _ => 0)))] := hD
  have hK : va_K D vwCl [(c0_, .int), (c1_, .int), (c2_, .int), (c3_, .int), (c4_, .int), (c5_, .int), (c8_, .int), (c9_, .int), (c10_, .int), (c11_, .int), (c12_, .int), (c13_, .int)] s := hK
  refine W.widen (k := 12) (n := 212) (Nat.le_of_ble_eq_true rfl) (Nat.le_of_ble_eq_true rfl) ?_
  refine va_putF (D := D) (ci := 0) (v := .ref q13_) (ty := .array .int) (C := RX0) (T := TX0) (N := 14) hx hb hts in_X0 tyX0 tyX0_ok nmX0 hown hK hP hD hS 0 rfl rfl 13 (by decide) (hts _ q45) (fun _ h9 => h9) rfl hin rfl (by decide +kernel) rfl rfl (Nat.le_of_ble_eq_true rfl) dX0_init_97 (fun H locs hP hD hS => ?_)
  have hP : va_P D vwCl [(h, .inr (0, [.ref q0_, .ref q1_, .ref q2_, .ref q3_, .ref q4_, .ref q5_, .int 0, .int 0, .ref q8_, .ref q9_, .ref q10_, .ref q11_, .ref q12_, .ref q13_])), (q0_, .inl (c0_, 49, .inl (fun _ => 0))), (q1_, .inl (c1_, 7, .inl (fun _ => 0))), (q2_, .inl (c2_, 7, .inl (fun _ => 0))), (q3_, .inl (c3_, 7, .inl (fun _ => 0))), (q4_, .inl (c4_, 7, .inl (fun _ => 0))), (q5_, .inl (c5_, 81, .inl (fun _ => 0))), (q8_, .inl (c8_, 9, .inl (fun _ => 0))), (q9_, .inl (c9_, 9, .inl (fun _ => 0))), (q10_, .inl (c10_, 9, .inl (fun _ => 0))), (q11_, .inl (c11_, 9, .inl (fun _ => 0))), (q12_, .inl (c12_, 9, .inl (fun _ => 0))), (q13_, .inl (c13_, 9, .inl (fun _ => 0)))] H := hP
  have hD : va_D A [(h, .inr (0, [.ref q0_, .ref q1_, .ref q2_, .ref q3_, .ref q4_, .ref q5_, .int 0, .int 0, .ref q8_, .ref q9_, .ref q10_, .ref q11_, .ref q12_, .ref q13_])), (q0_, .inl (c0_, 49, .inl (fun _ => 0))), (q1_, .inl (c1_, 7, .inl (fun _ => 0))), (q2_, .inl (c2_, 7, .inl (fun _ => 0))), (q3_, .inl (c3_, 7, .inl (fun _ => 0))), (q4_, .inl (c4_, 7, .inl (fun _ => 0))), (q5_, .inl (c5_, 81, .inl (fun _ => 0))), (q8_, .inl (c8_, 9, .inl (fun _ => 0))), (q9_, .inl (c9_, 9, .inl (fun _ => 0))), (q10_, .inl (c10_, 9, .inl (fun _ => 0))), (q11_, .inl (c11_, 9, .inl (fun _ => 0))), (q12_, .inl (c12_, 9, .inl (fun _ => 0))), (q13_, .inl (c13_, 9, .inl (fun _ => 0)))] := hD
  refine lv_aload_n hx hb dX0_init_100 rfl (lv_at hl 0 rfl) ?_
  refine lv_iconst (v := -1) hx hb dX0_init_101 (by decide) ?_
  refine va_put (D := D) (ci := 0) (v := .int (-1)) (ty := .int) (C := RX0) (T := TX0) (N := 14) hx hb hts in_X0 tyX0 tyX0_ok nmX0 hown hK hP hD hS 0 rfl rfl 6 (by decide) (hts _ q38) (fun _ h9 => h9) rfl (by decide +kernel) rfl rfl (Nat.le_of_ble_eq_true rfl) dX0_init_102 (fun H locs hP hD hS => ?_)
  have hP : va_P D vwCl [(h, .inr (0, [.ref q0_, .ref q1_, .ref q2_, .ref q3_, .ref q4_, .ref q5_, .int (-1), .int 0, .ref q8_, .ref q9_, .ref q10_, .ref q11_, .ref q12_, .ref q13_])), (q0_, .inl (c0_, 49, .inl (fun _ => 0))), (q1_, .inl (c1_, 7, .inl (fun _ => 0))), (q2_, .inl (c2_, 7, .inl (fun _ => 0))), (q3_, .inl (c3_, 7, .inl (fun _ => 0))), (q4_, .inl (c4_, 7, .inl (fun _ => 0))), (q5_, .inl (c5_, 81, .inl (fun _ => 0))), (q8_, .inl (c8_, 9, .inl (fun _ => 0))), (q9_, .inl (c9_, 9, .inl (fun _ => 0))), (q10_, .inl (c10_, 9, .inl (fun _ => 0))), (q11_, .inl (c11_, 9, .inl (fun _ => 0))), (q12_, .inl (c12_, 9, .inl (fun _ => 0))), (q13_, .inl (c13_, 9, .inl (fun _ => 0)))] H := hP
  have hD : va_D A [(h, .inr (0, [.ref q0_, .ref q1_, .ref q2_, .ref q3_, .ref q4_, .ref q5_, .int (-1), .int 0, .ref q8_, .ref q9_, .ref q10_, .ref q11_, .ref q12_, .ref q13_])), (q0_, .inl (c0_, 49, .inl (fun _ => 0))), (q1_, .inl (c1_, 7, .inl (fun _ => 0))), (q2_, .inl (c2_, 7, .inl (fun _ => 0))), (q3_, .inl (c3_, 7, .inl (fun _ => 0))), (q4_, .inl (c4_, 7, .inl (fun _ => 0))), (q5_, .inl (c5_, 81, .inl (fun _ => 0))), (q8_, .inl (c8_, 9, .inl (fun _ => 0))), (q9_, .inl (c9_, 9, .inl (fun _ => 0))), (q10_, .inl (c10_, 9, .inl (fun _ => 0))), (q11_, .inl (c11_, 9, .inl (fun _ => 0))), (q12_, .inl (c12_, 9, .inl (fun _ => 0))), (q13_, .inl (c13_, 9, .inl (fun _ => 0)))] := hD
  have hP9 : va_P D vwCl (xW (lcd c0_ [c0_, c1_, c2_, c3_, c4_, c5_, c0_, c0_, c8_, c9_, c10_, c11_, c12_, c13_]) h (lad [q0_, q1_, q2_, q3_, q4_, q5_, 0, 0, q8_, q9_, q10_, q11_, q12_, q13_]) z0 (-1) 0) H := hP
  have hD9 : va_D A (xW (lcd c0_ [c0_, c1_, c2_, c3_, c4_, c5_, c0_, c0_, c8_, c9_, c10_, c11_, c12_, c13_]) h (lad [q0_, q1_, q2_, q3_, q4_, q5_, 0, 0, q8_, q9_, q10_, q11_, q12_, q13_]) z0 (-1) 0) := hD
  have hK9 : va_K D vwCl (xT (lcd c0_ [c0_, c1_, c2_, c3_, c4_, c5_, c0_, c0_, c8_, c9_, c10_, c11_, c12_, c13_])) s := hK
  exact W.vret hx hb hr (fun t ht hW => ⟨⟨(lcd c0_ [c0_, c1_, c2_, c3_, c4_, c5_, c0_, c0_, c8_, c9_, c10_, c11_, c12_, c13_], lad [q0_, q1_, q2_, q3_, q4_, q5_, 0, 0, q8_, q9_, q10_, q11_, q12_, q13_]), rfl, trivial, by show va_P D vwCl (xW (lcd c0_ [c0_, c1_, c2_, c3_, c4_, c5_, c0_, c0_, c8_, c9_, c10_, c11_, c12_, c13_]) h (lad [q0_, q1_, q2_, q3_, q4_, q5_, 0, 0, q8_, q9_, q10_, q11_, q12_, q13_]) z0 (-1) 0) t.heap; rw [ht]; exact hP9, va_K.moved hW.alike hK9, hD9⟩, hS.F ht⟩) hS.2.2 dX0_init_105
set_option maxHeartbeats 4000000 in
set_option maxRecDepth 100000 in
theorem mX1_init (l : Launch) (D : va_G) (sz h : Nat) : Met l yX1_init (ws_ yX1_init cX1_init 1 none) mri (x_Pi D sz h [(h, .inr (1, mf0))]) (va_Qv (fun _ : (Nat → ClassId) × (Nat → Nat) => True) (mIn D (va_A [(h, .inr (1, mf0))] sz) h) (va_A [(h, .inr (1, mf0))] sz)) 6 205 (va_A [(h, .inr (1, mf0))] sz) := by
  refine Met.ofW (cc := cX1_init) (maxL := 1) (ret := none) (by decide) rfl ?_
  intro p e s m args below meth c s₁ B hml hv
  obtain ⟨rfl, hsz, hP, hK, hD0⟩ := hv
  have hx := B.exec
  have hb := B.bytes
  have hr := B.returns
  have hts := atoms_spec (ws := (ws_ yX1_init cX1_init 1 none)) B.pre
  have hts : ∀ w ∈ lw_all, w.before _ s = true := fun w h => hts w (List.mem_cons_of_mem _ h)
  have hown : s.vm.findClass RX1 = some m.cls := findClass_of_methodNamed B.named
  have hlocks := B.notSynchronized
  have hin : meth.name = "<init>" := (name_of_methodNamed B.named B.method).1
  subst hsz
  have hD := hD0.self (sz := s.heap.size)
  generalize hAe : va_A [(h, .inr (1, mf0))] s.heap.size = A at hD ⊢
  have hA : ∀ q : Nat, s.heap.size ≤ q → A q := fun q h => by rw [← hAe]; exact Or.inr h
  have hS : va_S A s.heap s.heap [] := va_S.rf
  have hP : va_P D vwCl [(h, .inr (1, mf0))] s.heap := hP
  have hl := lv_entry ([.ref h]) (n := 1) (Nat.le_of_ble_eq_true rfl)
  rw [lg_entry_eq]
  generalize (lg_sl ([.ref h]) ++ List.replicate (1 - (lg_sl ([.ref h])).length) Slot.unset).toArray = ls at hl ⊢
  have hl : lv_has ls 1 [(0, .ref h)] := hl
  refine lv_aload_n hx hb dX1_init_0 rfl (lv_at hl 0 rfl) ?_
  refine W.objInit hx hb hown (hts _ q215) (hts _ q30) (hts _ q31) rfl (by rw [hml]; exact hl.1) rfl dX1_init_1 (Nat.le_of_ble_eq_true rfl) (Nat.le_of_ble_eq_true rfl) ?_
  refine W.eq (g2 := F0 m 4 ls []) rfl ?_
  refine lv_aload_n hx hb dX1_init_4 rfl (lv_at hl 0 rfl) ?_
  refine lv_bipush (v := nI 49) hx hb dX1_init_5 (by decide) ?_
  refine va_newa (atype := .int) (ty := .int) (a0 := (49, .inl (fun _ => 0))) hx hb (hts _ q75) rfl hK hP hD hS hA (fun _ => rfl) (by decide) (by decide) (by decide) (Nat.le_of_ble_eq_true rfl) (Nat.le_of_ble_eq_true rfl) dX1_init_7 (fun q0_ c0_ H hK hP hD hS => ?_)
  have hP : va_P D vwCl [(h, .inr (1, [.null, .null, .null, .null, .null, .null])), (q0_, .inl (c0_, 49, .inl (fun _ => 0)))] H := hP
  have hD : va_D A [(h, .inr (1, [.null, .null, .null, .null, .null, .null])), (q0_, .inl (c0_, 49, .inl (fun _ => 0)))] := hD
  have hK : va_K D vwCl [(c0_, .int)] s := hK
  refine W.widen (k := 1) (n := 49) (Nat.le_of_ble_eq_true rfl) (Nat.le_of_ble_eq_true rfl) ?_
  refine va_putF (D := D) (ci := 1) (v := .ref q0_) (ty := .array .int) (C := RX1) (T := TX1) (N := 6) hx hb hts in_X1 tyX1 tyX1_ok nmX1 hown hK hP hD hS 0 rfl rfl 0 (by decide) (hts _ q216) (fun _ h9 => h9) rfl hin rfl (by decide +kernel) rfl rfl (Nat.le_of_ble_eq_true rfl) dX1_init_9 (fun H locs hP hD hS => ?_)
  have hP : va_P D vwCl [(h, .inr (1, [.ref q0_, .null, .null, .null, .null, .null])), (q0_, .inl (c0_, 49, .inl (fun _ => 0)))] H := hP
  have hD : va_D A [(h, .inr (1, [.ref q0_, .null, .null, .null, .null, .null])), (q0_, .inl (c0_, 49, .inl (fun _ => 0)))] := hD
  refine lv_aload_n hx hb dX1_init_12 rfl (lv_at hl 0 rfl) ?_
  refine lv_bipush (v := nI 7) hx hb dX1_init_13 (by decide) ?_
  refine va_newa (atype := .int) (ty := .int) (a0 := (7, .inl (fun _ => 0))) hx hb (hts _ q75) rfl hK hP hD hS hA (fun _ => rfl) (by decide) (by decide) (by decide) (Nat.le_of_ble_eq_true rfl) (Nat.le_of_ble_eq_true rfl) dX1_init_15 (fun q1_ c1_ H hK hP hD hS => ?_)
  have hP : va_P D vwCl [(h, .inr (1, [.ref q0_, .null, .null, .null, .null, .null])), (q0_, .inl (c0_, 49, .inl (fun _ => 0))), (q1_, .inl (c1_, 7, .inl (fun _ => 0)))] H := hP
  have hD : va_D A [(h, .inr (1, [.ref q0_, .null, .null, .null, .null, .null])), (q0_, .inl (c0_, 49, .inl (fun _ => 0))), (q1_, .inl (c1_, 7, .inl (fun _ => 0)))] := hD
  have hK : va_K D vwCl [(c0_, .int), (c1_, .int)] s := hK
  refine W.widen (k := 2) (n := 56) (Nat.le_of_ble_eq_true rfl) (Nat.le_of_ble_eq_true rfl) ?_
  refine va_putF (D := D) (ci := 1) (v := .ref q1_) (ty := .array .int) (C := RX1) (T := TX1) (N := 6) hx hb hts in_X1 tyX1 tyX1_ok nmX1 hown hK hP hD hS 0 rfl rfl 1 (by decide) (hts _ q217) (fun _ h9 => h9) rfl hin rfl (by decide +kernel) rfl rfl (Nat.le_of_ble_eq_true rfl) dX1_init_17 (fun H locs hP hD hS => ?_)
  have hP : va_P D vwCl [(h, .inr (1, [.ref q0_, .ref q1_, .null, .null, .null, .null])), (q0_, .inl (c0_, 49, .inl (fun _ => 0))), (q1_, .inl (c1_, 7, .inl (fun _ => 0)))] H := hP
  have hD : va_D A [(h, .inr (1, [.ref q0_, .ref q1_, .null, .null, .null, .null])), (q0_, .inl (c0_, 49, .inl (fun _ => 0))), (q1_, .inl (c1_, 7, .inl (fun _ => 0)))] := hD
  refine lv_aload_n hx hb dX1_init_20 rfl (lv_at hl 0 rfl) ?_
  refine lv_bipush (v := nI 7) hx hb dX1_init_21 (by decide) ?_
  refine va_newa (atype := .int) (ty := .int) (a0 := (7, .inl (fun _ => 0))) hx hb (hts _ q75) rfl hK hP hD hS hA (fun _ => rfl) (by decide) (by decide) (by decide) (Nat.le_of_ble_eq_true rfl) (Nat.le_of_ble_eq_true rfl) dX1_init_23 (fun q2_ c2_ H hK hP hD hS => ?_)
  have hP : va_P D vwCl [(h, .inr (1, [.ref q0_, .ref q1_, .null, .null, .null, .null])), (q0_, .inl (c0_, 49, .inl (fun _ => 0))), (q1_, .inl (c1_, 7, .inl (fun _ => 0))), (q2_, .inl (c2_, 7, .inl (fun _ => 0)))] H := hP
  have hD : va_D A [(h, .inr (1, [.ref q0_, .ref q1_, .null, .null, .null, .null])), (q0_, .inl (c0_, 49, .inl (fun _ => 0))), (q1_, .inl (c1_, 7, .inl (fun _ => 0))), (q2_, .inl (c2_, 7, .inl (fun _ => 0)))] := hD
  have hK : va_K D vwCl [(c0_, .int), (c1_, .int), (c2_, .int)] s := hK
  refine W.widen (k := 3) (n := 63) (Nat.le_of_ble_eq_true rfl) (Nat.le_of_ble_eq_true rfl) ?_
  refine va_putF (D := D) (ci := 1) (v := .ref q2_) (ty := .array .int) (C := RX1) (T := TX1) (N := 6) hx hb hts in_X1 tyX1 tyX1_ok nmX1 hown hK hP hD hS 0 rfl rfl 2 (by decide) (hts _ q218) (fun _ h9 => h9) rfl hin rfl (by decide +kernel) rfl rfl (Nat.le_of_ble_eq_true rfl) dX1_init_25 (fun H locs hP hD hS => ?_)
  have hP : va_P D vwCl [(h, .inr (1, [.ref q0_, .ref q1_, .ref q2_, .null, .null, .null])), (q0_, .inl (c0_, 49, .inl (fun _ => 0))), (q1_, .inl (c1_, 7, .inl (fun _ => 0))), (q2_, .inl (c2_, 7, .inl (fun _ => 0)))] H := hP
  have hD : va_D A [(h, .inr (1, [.ref q0_, .ref q1_, .ref q2_, .null, .null, .null])), (q0_, .inl (c0_, 49, .inl (fun _ => 0))), (q1_, .inl (c1_, 7, .inl (fun _ => 0))), (q2_, .inl (c2_, 7, .inl (fun _ => 0)))] := hD
  refine lv_aload_n hx hb dX1_init_28 rfl (lv_at hl 0 rfl) ?_
  refine lv_bipush (v := nI 7) hx hb dX1_init_29 (by decide) ?_
  refine va_newa (atype := .int) (ty := .int) (a0 := (7, .inl (fun _ => 0))) hx hb (hts _ q75) rfl hK hP hD hS hA (fun _ => rfl) (by decide) (by decide) (by decide) (Nat.le_of_ble_eq_true rfl) (Nat.le_of_ble_eq_true rfl) dX1_init_31 (fun q3_ c3_ H hK hP hD hS => ?_)
  have hP : va_P D vwCl [(h, .inr (1, [.ref q0_, .ref q1_, .ref q2_, .null, .null, .null])), (q0_, .inl (c0_, 49, .inl (fun _ => 0))), (q1_, .inl (c1_, 7, .inl (fun _ => 0))), (q2_, .inl (c2_, 7, .inl (fun _ => 0))), (q3_, .inl (c3_, 7, .inl (fun _ => 0)))] H := hP
  have hD : va_D A [(h, .inr (1, [.ref q0_, .ref q1_, .ref q2_, .null, .null, .null])), (q0_, .inl (c0_, 49, .inl (fun _ => 0))), (q1_, .inl (c1_, 7, .inl (fun _ => 0))), (q2_, .inl (c2_, 7, .inl (fun _ => 0))), (q3_, .inl (c3_, 7, .inl (fun _ => 0)))] := hD
  have hK : va_K D vwCl [(c0_, .int), (c1_, .int), (c2_, .int), (c3_, .int)] s := hK
  refine W.widen (k := 4) (n := 70) (Nat.le_of_ble_eq_true rfl) (Nat.le_of_ble_eq_true rfl) ?_
  refine va_putF (D := D) (ci := 1) (v := .ref q3_) (ty := .array .int) (C := RX1) (T := TX1) (N := 6) hx hb hts in_X1 tyX1 tyX1_ok nmX1 hown hK hP hD hS 0 rfl rfl 3 (by decide) (hts _ q219) (fun _ h9 => h9) rfl hin rfl (by decide +kernel) rfl rfl (Nat.le_of_ble_eq_true rfl) dX1_init_33 (fun H locs hP hD hS => ?_)
  have hP : va_P D vwCl [(h, .inr (1, [.ref q0_, .ref q1_, .ref q2_, .ref q3_, .null, .null])), (q0_, .inl (c0_, 49, .inl (fun _ => 0))), (q1_, .inl (c1_, 7, .inl (fun _ => 0))), (q2_, .inl (c2_, 7, .inl (fun _ => 0))), (q3_, .inl (c3_, 7, .inl (fun _ => 0)))] H := hP
  have hD : va_D A [(h, .inr (1, [.ref q0_, .ref q1_, .ref q2_, .ref q3_, .null, .null])), (q0_, .inl (c0_, 49, .inl (fun _ => 0))), (q1_, .inl (c1_, 7, .inl (fun _ => 0))), (q2_, .inl (c2_, 7, .inl (fun _ => 0))), (q3_, .inl (c3_, 7, .inl (fun _ => 0)))] := hD
  refine lv_aload_n hx hb dX1_init_36 rfl (lv_at hl 0 rfl) ?_
  refine lv_bipush (v := nI 7) hx hb dX1_init_37 (by decide) ?_
  refine va_newa (atype := .int) (ty := .int) (a0 := (7, .inl (fun _ => 0))) hx hb (hts _ q75) rfl hK hP hD hS hA (fun _ => rfl) (by decide) (by decide) (by decide) (Nat.le_of_ble_eq_true rfl) (Nat.le_of_ble_eq_true rfl) dX1_init_39 (fun q4_ c4_ H hK hP hD hS => ?_)
  have hP : va_P D vwCl [(h, .inr (1, [.ref q0_, .ref q1_, .ref q2_, .ref q3_, .null, .null])), (q0_, .inl (c0_, 49, .inl (fun _ => 0))), (q1_, .inl (c1_, 7, .inl (fun _ => 0))), (q2_, .inl (c2_, 7, .inl (fun _ => 0))), (q3_, .inl (c3_, 7, .inl (fun _ => 0))), (q4_, .inl (c4_, 7, .inl (fun _ => 0)))] H := hP
  have hD : va_D A [(h, .inr (1, [.ref q0_, .ref q1_, .ref q2_, .ref q3_, .null, .null])), (q0_, .inl (c0_, 49, .inl (fun _ => 0))), (q1_, .inl (c1_, 7, .inl (fun _ => 0))), (q2_, .inl (c2_, 7, .inl (fun _ => 0))), (q3_, .inl (c3_, 7, .inl (fun _ => 0))), (q4_, .inl (c4_, 7, .inl (fun _ => 0)))] := hD
  have hK : va_K D vwCl [(c0_, .int), (c1_, .int), (c2_, .int), (c3_, .int), (c4_, .int)] s := hK
  refine W.widen (k := 5) (n := 77) (Nat.le_of_ble_eq_true rfl) (Nat.le_of_ble_eq_true rfl) ?_
  refine va_putF (D := D) (ci := 1) (v := .ref q4_) (ty := .array .int) (C := RX1) (T := TX1) (N := 6) hx hb hts in_X1 tyX1 tyX1_ok nmX1 hown hK hP hD hS 0 rfl rfl 4 (by decide) (hts _ q220) (fun _ h9 => h9) rfl hin rfl (by decide +kernel) rfl rfl (Nat.le_of_ble_eq_true rfl) dX1_init_41 (fun H locs hP hD hS => ?_)
  have hP : va_P D vwCl [(h, .inr (1, [.ref q0_, .ref q1_, .ref q2_, .ref q3_, .ref q4_, .null])), (q0_, .inl (c0_, 49, .inl (fun _ => 0))), (q1_, .inl (c1_, 7, .inl (fun _ => 0))), (q2_, .inl (c2_, 7, .inl (fun _ => 0))), (q3_, .inl (c3_, 7, .inl (fun _ => 0))), (q4_, .inl (c4_, 7, .inl (fun _ => 0)))] H := hP
  have hD : va_D A [(h, .inr (1, [.ref q0_, .ref q1_, .ref q2_, .ref q3_, .ref q4_, .null])), (q0_, .inl (c0_, 49, .inl (fun _ => 0))), (q1_, .inl (c1_, 7, .inl (fun _ => 0))), (q2_, .inl (c2_, 7, .inl (fun _ => 0))), (q3_, .inl (c3_, 7, .inl (fun _ => 0))), (q4_, .inl (c4_, 7, .inl (fun _ => 0)))] := hD
  refine lv_aload_n hx hb dX1_init_44 rfl (lv_at hl 0 rfl) ?_
  refine lv_sipush (v := nI 128) hx hb dX1_init_45 (by decide) ?_
  refine va_newa (atype := .boolean) (ty := .boolean) (a0 := (128, .inl (fun _ => 0))) hx hb (hts _ q235) rfl hK hP hD hS hA (fun _ => rfl) (by decide) (by decide) (by decide) (Nat.le_of_ble_eq_true rfl) (Nat.le_of_ble_eq_true rfl) dX1_init_48 (fun q5_ c5_ H hK hP hD hS => ?_)
  have hP : va_P D vwCl [(h, .inr (1, [.ref q0_, .ref q1_, .ref q2_, .ref q3_, .ref q4_, .null])), (q0_, .inl (c0_, 49, .inl (fun _ => 0))), (q1_, .inl (c1_, 7, .inl (fun _ => 0))), (q2_, .inl (c2_, 7, .inl (fun _ => 0))), (q3_, .inl (c3_, 7, .inl (fun _ => 0))), (q4_, .inl (c4_, 7, .inl (fun _ => 0))), (q5_, .inl (c5_, 128, .inl (fun _ => 0)))] H := hP
  have hD : va_D A [(h, .inr (1, [.ref q0_, .ref q1_, .ref q2_, .ref q3_, .ref q4_, .null])), (q0_, .inl (c0_, 49, .inl (fun _ => 0))), (q1_, .inl (c1_, 7, .inl (fun _ => 0))), (q2_, .inl (c2_, 7, .inl (fun _ => 0))), (q3_, .inl (c3_, 7, .inl (fun _ => 0))), (q4_, .inl (c4_, 7, .inl (fun _ => 0))), (q5_, .inl (c5_, 128, .inl (fun _ => 0)))] := hD
  have hK : va_K D vwCl [(c0_, .int), (c1_, .int), (c2_, .int), (c3_, .int), (c4_, .int), (c5_, .boolean)] s := hK
  refine W.widen (k := 6) (n := 205) (Nat.le_of_ble_eq_true rfl) (Nat.le_of_ble_eq_true rfl) ?_
  refine va_putF (D := D) (ci := 1) (v := .ref q5_) (ty := .array .boolean) (C := RX1) (T := TX1) (N := 6) hx hb hts in_X1 tyX1 tyX1_ok nmX1 hown hK hP hD hS 0 rfl rfl 5 (by decide) (hts _ q221) (fun _ h9 => h9) rfl hin rfl (by decide +kernel) rfl rfl (Nat.le_of_ble_eq_true rfl) dX1_init_50 (fun H locs hP hD hS => ?_)
  have hP : va_P D vwCl [(h, .inr (1, [.ref q0_, .ref q1_, .ref q2_, .ref q3_, .ref q4_, .ref q5_])), (q0_, .inl (c0_, 49, .inl (fun _ => 0))), (q1_, .inl (c1_, 7, .inl (fun _ => 0))), (q2_, .inl (c2_, 7, .inl (fun _ => 0))), (q3_, .inl (c3_, 7, .inl (fun _ => 0))), (q4_, .inl (c4_, 7, .inl (fun _ => 0))), (q5_, .inl (c5_, 128, .inl (fun _ => 0)))] H := hP
  have hD : va_D A [(h, .inr (1, [.ref q0_, .ref q1_, .ref q2_, .ref q3_, .ref q4_, .ref q5_])), (q0_, .inl (c0_, 49, .inl (fun _ => 0))), (q1_, .inl (c1_, 7, .inl (fun _ => 0))), (q2_, .inl (c2_, 7, .inl (fun _ => 0))), (q3_, .inl (c3_, 7, .inl (fun _ => 0))), (q4_, .inl (c4_, 7, .inl (fun _ => 0))), (q5_, .inl (c5_, 128, .inl (fun _ => 0)))] := hD
  have hP9 : va_P D vwCl (mW (lcd c0_ [c0_, c1_, c2_, c3_, c4_, c5_]) h (lad [q0_, q1_, q2_, q3_, q4_, q5_]) z0) H := hP
  have hD9 : va_D A (mW (lcd c0_ [c0_, c1_, c2_, c3_, c4_, c5_]) h (lad [q0_, q1_, q2_, q3_, q4_, q5_]) z0) := hD
  have hK9 : va_K D vwCl (mT (lcd c0_ [c0_, c1_, c2_, c3_, c4_, c5_])) s := hK
  exact W.vret hx hb hr (fun t ht hW => ⟨⟨(lcd c0_ [c0_, c1_, c2_, c3_, c4_, c5_], lad [q0_, q1_, q2_, q3_, q4_, q5_]), rfl, trivial, by show va_P D vwCl (mW (lcd c0_ [c0_, c1_, c2_, c3_, c4_, c5_]) h (lad [q0_, q1_, q2_, q3_, q4_, q5_]) z0) t.heap; rw [ht]; exact hP9, va_K.moved hW.alike hK9, hD9⟩, hS.F ht⟩) hS.2.2 dX1_init_53
end
section
/-! THE CLAIM OUT OF ONE WALK OF THE LAW'S BODY. Your part is whole_start (and what it stands on); all else here is the same for every law, but numbers. -/
def R_law : String := "ParametricCutLaw"
def lw_P (b : Addr) (xs : List Int32) (args : Array Value) (s : State) : Prop := args = #[.ref b] ∧ s.IntsAt b xs ∧ xs.length ≤ 256 ∧ (Jvm.Cond.and given_1 narrow_1).before args s = true
def lw_Q (_ : Array Value) (s : State) (o : Outcome) (t : State) : Prop := o = .returned (some (.int 1)) ∧ Framed s o t [] 600000 7290000
def lw_Z (below : List Frame) (a : Array Value) (s : State) : State → Prop := fun t => ∃ o, t.status = .running ∧ Ended t below o ∧ lw_Q a s o t
/-- the law's own end, with 1 on the stack, nothing written that was there before, its room as the claim has it -/
theorem lw_ret {p : Program} {l : Launch} {e : Env} {s : State} {m : MethodId} {below : List Frame} {meth : Method} {c : Code} {b : Nat} (hx : p.tables.exec = Jvm.exec) (hb : c.code = code) (hr : meth.sig.returnType = ret) (hlocks : meth.locks = false) {pc : Nat} {H : Heap} {ls : Array Slot} (hdg : decode code pc = .ok (.ireturn, 1)) : W p l e room_1 s m #[Value.ref b] below meth c H [] 600000 7290000 (lw_Z below #[Value.ref b] s) (F0 m pc ls [.int 1]) := by
  intro T hT X
  obtain ⟨fs, hret, hrun, hended, hW, hframe⟩ := X.leave (v := some (.int 1)) (hlocks := hlocks) (fun h => by rw [hr] at h; cases h)
  have hmeth' : T.vm.method? m = some meth := X.method'
  refine ⟨T.setFrames fs, ?_, .returned (some (.int 1)), hrun, hended, rfl, ⟨_, rfl⟩, hW, hframe⟩
  jvm_step X.here [X.here.top, hx, hb, hdg, hmeth', hr, ret, narrow_b1]
  (try refine ⟨rfl, ?_⟩); (try refine ⟨rfl, ?_⟩)
  first | (intro acts; rw [hret _ acts rfl rfl rfl]) | rw [hret _ _ rfl rfl rfl]
  exact Steps.refl _
/-- what holds at the law's entry: the machine, the code, the tables' words (any of lw_tbl by 'hts w (by decide +kernel)'), the script of L ints xs at the cell b, what the Statement gives of the start (any of its parts by flat_of_before) -/
def lw_At (p : Program) (s : State) (m : MethodId) (meth : Method) (c : Code) (b L : Nat) (xs : Nat → Int32) : Prop :=
  p.tables.exec = Jvm.exec ∧ c.code = code ∧ meth.sig.returnType = ret ∧ c.maxLocals = 4 ∧ s.vm.findClass R_law = some m.cls ∧ (∀ w ∈ lw_tbl, w.before #[Value.ref b] s = true) ∧ va_X b L xs s s.heap ∧ b < s.heap.size ∧ meth.locks = false ∧ (Jvm.Cond.and given_1 narrow_1).before #[Value.ref b] s = true
end
section
/-! the law's calls with two worlds side by side; the same answers -/
section WP
variable {p : Program} {l : Launch} {e : Env} {R : Room} {s : State} {m : MethodId} {args : Array Value} {below : List Frame} {meth : Method} {c : Code} {H : Heap} {locs : List Loc} {cells slots : Nat} {Q : State → Prop}
variable {cc : ByteArray} {pc : Nat} {ls : Array Slot} {rest : List Value} {D : va_G} {cl : List vw_C} {A A1 A2 : Nat → Prop} {a : Nat} {tys : List (ClassId × FieldType)} {ws w2 : va_W} {H0 : Heap}
variable {y : MethodName} {bytes : ByteArray} {maxL nL n index : Nat} {ret : Option FieldType} {wc : List Cond} {rm : Room} {own C : String} {b : Addr} {As : List Value} {lv : List (Nat × Value)}
theorem y_kept (hP2 : va_P D cl w2 H) (hD2 : va_D A2 w2) (hdis : ∀ q, A2 q → ¬ A1 q) {H1 : Heap} (hk : ∀ q : Nat, q < H.size → ¬ A1 q → H1[q]? = H[q]?) : va_P D cl w2 H1 :=
  hP2.kept (fun k q hq => hk q.1 (hP2 k q hq).lt (hdis q.1 (hD2.2 k q hq)))
theorem y_ro {post : Int32 → Prop} (S : CallFix p m c cc nL s args lw_all own) (hM : Met l y wc rm (x_Pc D tys ws (.ref b :: As)) (x_QR post) 0 0 x_no) (cw : CallW R s args own C index y bytes maxL ret wc rm 0 0 n) (hrc : ∃ cell : Cell, H[b]? = some cell ∧ cell.vm.isStatics = false ∧ s.vm.findClass C = some cell.cls) (hK : va_K D vwCl tys s) (hP : va_P D vwCl ws H) (hP2 : va_P D vwCl w2 H) (hS : va_S A H0 H locs) (hl : lv_has ls nL lv) {st0 : List Value} (hst : st0 = As.reverse ++ .ref b :: rest) (hn : As.length = n) (hW : (rest.map fun v => v.category).sum ≤ 8) (hdg : decode cc pc = .ok (.invokevirtual index, 3)) (hf : cells ≤ R.cells ∧ slots ≤ R.slots)
    (kk : ∀ (r : Int32) (H1 : Heap) (locs1 : List Loc), post r → va_P D vwCl ws H1 → va_P D vwCl w2 H1 → va_S A H0 H1 locs1 → W p l e R s m args below meth c H1 locs1 cells slots Q (F0 m (pc + 3) ls (.int r :: rest))) : W p l e R s m args below meth c H locs cells slots Q (F0 m pc ls st0) := by
  subst hst
  refine va_calli (va_runV (As := As) (rest := rest) S hM cw ⟨x_Pc_blind, hrc, x_Pc_at hP hK⟩ rfl hn hl.1 rfl (lv_room hW) hdg hf) hS (fun _ _ h => h.elim) (fun _ h => h.elim) (fun r u t H1 locs1 ht hvm hp hB hz hk hS1 => ?_)
  exact kk r H1 locs1 hp (x_keep hP (fun q h => hk q h id)) (x_keep hP2 (fun q h => hk q h id)) hS1
theorem y_wri {σ : Type} {post : Int32 → σ → Prop} (WS : σ → va_W) (S : CallFix p m c cc nL s args lw_all own) (hM : Met l y wc rm (x_Pc D tys ws (.ref b :: As)) (va_Qi post (fun u t => va_P D vwCl (WS u) t.heap) A1) 0 0 A1) (cw : CallW R s args own C index y bytes maxL ret wc rm 0 0 n) (hrc : ∃ cell : Cell, H[b]? = some cell ∧ cell.vm.isStatics = false ∧ s.vm.findClass C = some cell.cls) (hK : va_K D vwCl tys s) (hP : va_P D vwCl ws H) (hP2 : va_P D vwCl w2 H) (hD2 : va_D A2 w2) (hdis : ∀ q, A2 q → ¬ A1 q) (hAA : ∀ q, A1 q → A q) (hS : va_S A H0 H locs) (hl : lv_has ls nL lv) {st0 : List Value} (hst : st0 = As.reverse ++ .ref b :: rest) (hn : As.length = n) (hW : (rest.map fun v => v.category).sum ≤ 8) (hdg : decode cc pc = .ok (.invokevirtual index, 3)) (hf : cells ≤ R.cells ∧ slots ≤ R.slots)
    (kk : ∀ (r : Int32) (u : σ) (H1 : Heap) (locs1 : List Loc), post r u → va_P D vwCl (WS u) H1 → va_P D vwCl w2 H1 → va_S A H0 H1 locs1 → W p l e R s m args below meth c H1 locs1 cells slots Q (F0 m (pc + 3) ls (.int r :: rest))) : W p l e R s m args below meth c H locs cells slots Q (F0 m pc ls st0) := by
  subst hst
  refine va_calli (va_runV (As := As) (rest := rest) S hM cw ⟨x_Pc_blind, hrc, x_Pc_at hP hK⟩ rfl hn hl.1 rfl (lv_room hW) hdg hf) hS (fun q _ h => hAA q h) (fun q h => hAA q h) (fun r u t H1 locs1 ht hvm hp hB hz hk hS1 => ?_)
  exact kk r u H1 locs1 hp (by rw [← ht]; exact hB) (y_kept hP2 hD2 hdis hk) hS1
theorem y_wrv {σ : Type} {post : σ → Prop} (WS : σ → va_W) (S : CallFix p m c cc nL s args lw_all own) (hM : Met l y wc rm (x_Pc D tys ws (.ref b :: As)) (va_Qv post (fun u t => va_P D vwCl (WS u) t.heap) A1) 0 0 A1) (cw : CallW R s args own C index y bytes maxL ret wc rm 0 0 n) (hrc : ∃ cell : Cell, H[b]? = some cell ∧ cell.vm.isStatics = false ∧ s.vm.findClass C = some cell.cls) (hK : va_K D vwCl tys s) (hP : va_P D vwCl ws H) (hP2 : va_P D vwCl w2 H) (hD2 : va_D A2 w2) (hdis : ∀ q, A2 q → ¬ A1 q) (hAA : ∀ q, A1 q → A q) (hS : va_S A H0 H locs) (hl : lv_has ls nL lv) {st0 : List Value} (hst : st0 = As.reverse ++ .ref b :: rest) (hn : As.length = n) (hW : (rest.map fun v => v.category).sum ≤ 8) (hdg : decode cc pc = .ok (.invokevirtual index, 3)) (hf : cells ≤ R.cells ∧ slots ≤ R.slots)
    (kk : ∀ (u : σ) (H1 : Heap) (locs1 : List Loc), post u → va_P D vwCl (WS u) H1 → va_P D vwCl w2 H1 → va_S A H0 H1 locs1 → W p l e R s m args below meth c H1 locs1 cells slots Q (F0 m (pc + 3) ls rest)) : W p l e R s m args below meth c H locs cells slots Q (F0 m pc ls st0) := by
  subst hst
  refine va_callv (va_runV (As := As) (rest := rest) S hM cw ⟨x_Pc_blind, hrc, x_Pc_at hP hK⟩ rfl hn hl.1 rfl (lv_room hW) hdg hf) hS (fun q _ h => hAA q h) (fun q h => hAA q h) (fun u t H1 locs1 ht hvm hp hB hz hk hS1 => ?_)
  exact kk u H1 locs1 hp (by rw [← ht]; exact hB) (y_kept hP2 hD2 hdis hk) hS1
theorem y_sld (hexec : p.tables.exec = Jvm.exec) (hb : c.code = cc) {b L : Nat} {xs : Nat → Int32} (hX : va_X b L xs s H0) (hbl : b < H0.size) (hbA : ¬ A b) (hS : va_S A H0 H locs) {i : Int32} (j : Nat) (hi : i = nI j) (hj : j < L) (hLb : L ≤ 256) (hdg : decode cc pc = .ok (.iaload, 1))
    (kk : W p l e R s m args below meth c H locs cells slots Q (F0 m (pc + 1) ls (.int (xs j) :: rest))) : W p l e R s m args below meth c H locs cells slots Q (F0 m pc ls (.int i :: .ref b :: rest)) := by
  subst hi
  refine va_sld hexec hb hX hbl hbA hS (vp_in_nI hj (by omega)) hdg ?_
  rw [nI_clamp (by omega)]
  exact kk
end WP
abbrev AG (a b : Nat → Nat → Int32) : Prop := ∀ k, k < 5 → a k = b k
theorem lkQ_same {a b a' b' : Nat → Nat → Int32} {u v c r r' : Int32} (hab : AG a b) (h : lkQ a u v c r a') (h' : lkQ b u v c r' b') : r = r' ∧ AG a' b' := by
  rcases h with ⟨q, e1, e2⟩ | ⟨q, q2, e1, e2⟩ | ⟨x, y, hx, hy, hxy, rfl, rfl, q2, e1, e2⟩
  · rcases h' with ⟨_, d1, d2⟩ | ⟨d, _⟩ | ⟨x, y, hx, hy, hxy, rfl, rfl, _⟩
    · exact ⟨e1.trans d1.symm, by rw [e2, d2]; exact hab⟩
    · exact absurd q d
    · exact absurd q (lkB_not hx hy hxy)
  · rcases h' with ⟨d, _⟩ | ⟨_, _, d1, d2⟩ | ⟨_, _, _, _, _, _, _, d, _⟩
    · exact absurd d q
    · exact ⟨e1.trans d1.symm, by rw [e2, d2]; exact hab⟩
    · exact absurd d q2
  · rcases h' with ⟨d, _⟩ | ⟨_, d, _⟩ | ⟨x', y', hx', hy', _, d1, d2, _, d3, d4⟩
    · exact absurd d (lkB_not hx hy hxy)
    · exact absurd q2 d
    · have h1 := (nI_eq (by omega) (by omega)).mp d1
      have h2 := (nI_eq (by omega) (by omega)).mp d2
      subst h1; subst h2
      refine ⟨by rw [e1, d3, hab 0 (by omega)], fun k hk => ?_⟩
      rw [e2, d4]
      by_cases hk0 : k = 0
      · subst hk0
        funext z
        rw [lkG_0, lkG_0, hab 0 (by omega)]
      · rw [lkG_k hk0, lkG_k hk0, hab k hk]
theorem lkQ_dok {a a' : Nat → Nat → Int32} {u v c r : Int32} (hg : DOK a) (h : lkQ a u v c r a') : DOK a' := by
  rcases h with ⟨_, _, e⟩ | ⟨_, _, _, e⟩ | ⟨x, y, hx, hy, _, _, _, hc, _, e⟩
  · rw [e]; exact hg
  · rw [e]; exact hg
  · rw [e]
    have hc := (isN_iff (by decide)).mp hc
    exact DOK_link hg hx hy hc.1 (by omega)
theorem plG_ag {a b : Nat → Nat → Int32} (hab : AG a b) {i j : Nat} (hi : i < 5) (hj : j < 5) (n : Nat) (x y : Int32) : AG (plG a i j n x y) (plG b i j n x y) := fun k hk => by
  unfold plG
  by_cases h1 : k = j
  · subst h1; rw [va_up_s, va_up_s, hab k hk]
  · rw [va_up_n h1, va_up_n h1]
    by_cases h2 : k = i
    · subst h2; rw [va_up_s, va_up_s, hab k hk]
    · rw [va_up_n h2, va_up_n h2, hab k hk]
theorem plQ_same {i j : Nat} (hi : i < 5) (hj : j < 5) {a b a' b' : Nat → Nat → Int32} {v x y r r' : Int32} (hab : AG a b) (h : plQ i j a v x y r a') (h' : plQ i j b v x y r' b') : r = r' ∧ AG a' b' := by
  rcases h with ⟨q, e1, e2⟩ | ⟨q, q2, e1, e2⟩ | ⟨n, hn, rfl, q2, e1, e2⟩
  · rcases h' with ⟨_, d1, d2⟩ | ⟨d, _⟩ | ⟨n, hn, rfl, _⟩
    · exact ⟨e1.trans d1.symm, by rw [e2, d2]; exact hab⟩
    · exact absurd d q
    · exact absurd ⟨n, hn, rfl⟩ q
  · rcases h' with ⟨d, _⟩ | ⟨_, _, d1, d2⟩ | ⟨_, _, _, d, _⟩
    · exact absurd q d
    · exact ⟨e1.trans d1.symm, by rw [e2, d2]; exact hab⟩
    · exact absurd d q2
  · rcases h' with ⟨d, _⟩ | ⟨_, d, _⟩ | ⟨n', hn', d1, _, d2, d3⟩
    · exact absurd ⟨n, hn, rfl⟩ d
    · exact absurd q2 d
    · have h1 := (nI_eq (by omega) (by omega)).mp d1
      subst h1
      refine ⟨e1.trans d2.symm, ?_⟩
      rw [e2, d3]
      exact plG_ag hab hi hj _ _ _
theorem plQ_dok1 {a a' : Nat → Nat → Int32} {v x y r : Int32} (hg : DOK a) (h : plQ 1 2 a v x y r a') : DOK a' := by
  rcases h with ⟨_, _, e⟩ | ⟨_, _, _, e⟩ | ⟨n, _, _, q, _, e⟩
  · rw [e]; exact hg
  · rw [e]; exact hg
  · rw [e]; exact DOK_src hg q.1 q.2.1 q.2.2.1 q.2.2.2
theorem plQ_dok2 {a a' : Nat → Nat → Int32} {v x y r : Int32} (hg : DOK a) (h : plQ 3 4 a v x y r a') : DOK a' := by
  rcases h with ⟨_, _, e⟩ | ⟨_, _, _, e⟩ | ⟨n, _, _, q, _, e⟩
  · rw [e]; exact hg
  · rw [e]; exact hg
  · rw [e]; exact DOK_snk hg q.1 q.2.1 q.2.2.1 q.2.2.2
theorem flG_ag {a b : Nat → Nat → Int32} (hab : AG a b) : AG (flG a) (flG b) := fun k hk => by
  unfold flG
  rw [hab 1 (by omega), hab 2 (by omega), hab 3 (by omega), hab 4 (by omega), hab k hk]
/-- the object behind a change -/
theorem XOK_ch {a a' : Nat → Nat → Int32} {w f w' f' : Int32} (hok : XOK a w f) (hg : DOK a') (h : (a' = a ∧ w' = w ∧ f' = f) ∨ w' = -1) : XOK a' w' f' := by
  rcases h with ⟨h1, h2, h3⟩ | h
  · rw [h1, h2, h3]; exact hok
  · exact ⟨hg, Or.inl h⟩
theorem ask_same {x r r' : Int32} {Q Q' : Nat → Prop} (h : (¬ isN x 51 ∧ r = -2) ∨ ∃ n, n < 51 ∧ x = nI n ∧ Q n) (h' : (¬ isN x 51 ∧ r' = -2) ∨ ∃ n, n < 51 ∧ x = nI n ∧ Q' n) (hq : ∀ n, n < 51 → Q n → Q' n → r = r') : r = r' := by
  rcases h with ⟨q, e⟩ | ⟨n, hn, rfl, q⟩
  · rcases h' with ⟨_, e'⟩ | ⟨n, hn, rfl, _⟩
    · exact e.trans e'.symm
    · exact absurd ⟨n, hn, rfl⟩ q
  · rcases h' with ⟨q', _⟩ | ⟨n', hn', e', q'⟩
    · exact absurd ⟨n, hn, rfl⟩ q'
    · have := (nI_eq (by omega) (by omega)).mp e'
      subst this
      exact hq n hn q q'
theorem spare_same {a b : Nat → Nat → Int32} (hab : AG a b) {u v x r r' : Int32}
    (h : (lkB u v ∧ r = -1) ∨ (¬ lkB u v ∧ ¬ isN x 51 ∧ r = -2) ∨ ∃ nu nv n, nu < 7 ∧ nv < 7 ∧ nu ≠ nv ∧ n < 51 ∧ u = nI nu ∧ v = nI nv ∧ x = nI n ∧ spS a nu nv n r.toInt)
    (h' : (lkB u v ∧ r' = -1) ∨ (¬ lkB u v ∧ ¬ isN x 51 ∧ r' = -2) ∨ ∃ nu nv n, nu < 7 ∧ nv < 7 ∧ nu ≠ nv ∧ n < 51 ∧ u = nI nu ∧ v = nI nv ∧ x = nI n ∧ spS b nu nv n r'.toInt) : r = r' := by
  rcases h with ⟨q, e⟩ | ⟨q, q2, e⟩ | ⟨nu, nv, n, hu, hv, hne, hn, rfl, rfl, rfl, q⟩
  · rcases h' with ⟨_, e'⟩ | ⟨d, _⟩ | ⟨nu, nv, n, hu, hv, hne, hn, rfl, rfl, rfl, _⟩
    · exact e.trans e'.symm
    · exact absurd q d
    · exact absurd q (lkB_not hu hv hne)
  · rcases h' with ⟨d, _⟩ | ⟨_, _, e'⟩ | ⟨nu, nv, n, hu, hv, hne, hn, rfl, rfl, rfl, _⟩
    · exact absurd d q
    · exact e.trans e'.symm
    · exact absurd ⟨n, hn, rfl⟩ q2
  · rcases h' with ⟨d, _⟩ | ⟨_, d, _⟩ | ⟨nu', nv', n', hu', hv', _, hn', e1, e2, e3, q'⟩
    · exact absurd d (lkB_not hu hv hne)
    · exact absurd ⟨n, hn, rfl⟩ d
    · have h1 := (nI_eq (by omega) (by omega)).mp e1
      have h2 := (nI_eq (by omega) (by omega)).mp e2
      have h3 := (nI_eq (by omega) (by omega)).mp e3
      subst h1; subst h2; subst h3
      exact z_eq.mpr (spS_uniq (spS_congr hab q) q')
theorem sep_same {a b : Nat → Nat → Int32} (hab : AG a b) {u v x r r' : Int32}
    (h : ((lkB u v ∨ ¬ isN x 51) ∧ r = nI 0) ∨ ∃ nu nv n, nu < 7 ∧ nv < 7 ∧ nu ≠ nv ∧ n < 51 ∧ u = nI nu ∧ v = nI nv ∧ x = nI n ∧ ((r = nI 1 ∧ sepP a nu nv n) ∨ (r = nI 0 ∧ ¬ sepP a nu nv n)))
    (h' : ((lkB u v ∨ ¬ isN x 51) ∧ r' = nI 0) ∨ ∃ nu nv n, nu < 7 ∧ nv < 7 ∧ nu ≠ nv ∧ n < 51 ∧ u = nI nu ∧ v = nI nv ∧ x = nI n ∧ ((r' = nI 1 ∧ sepP b nu nv n) ∨ (r' = nI 0 ∧ ¬ sepP b nu nv n))) : r = r' := by
  have no : ∀ {nu nv n : Nat}, nu < 7 → nv < 7 → nu ≠ nv → n < 51 → ¬ (lkB (nI nu) (nI nv) ∨ ¬ isN (nI n) 51) := fun hu hv hne hn q => by
    rcases q with q | q
    · exact lkB_not hu hv hne q
    · exact q ⟨_, hn, rfl⟩
  rcases h with ⟨q, e⟩ | ⟨nu, nv, n, hu, hv, hne, hn, rfl, rfl, rfl, q⟩
  · rcases h' with ⟨_, e'⟩ | ⟨nu, nv, n, hu, hv, hne, hn, rfl, rfl, rfl, _⟩
    · exact e.trans e'.symm
    · exact absurd q (no hu hv hne hn)
  · rcases h' with ⟨d, _⟩ | ⟨nu', nv', n', hu', hv', _, hn', e1, e2, e3, q'⟩
    · exact absurd d (no hu hv hne hn)
    · have h1 := (nI_eq (by omega) (by omega)).mp e1
      have h2 := (nI_eq (by omega) (by omega)).mp e2
      have h3 := (nI_eq (by omega) (by omega)).mp e3
      subst h1; subst h2; subst h3
      have hs := sepP_congr hab nu nv n
      rcases q with ⟨q1, q2⟩ | ⟨q1, q2⟩
      · rcases q' with ⟨d1, _⟩ | ⟨_, d2⟩
        · exact q1.trans d1.symm
        · exact absurd (hs.mp q2) d2
      · rcases q' with ⟨_, d2⟩ | ⟨d1, _⟩
        · exact absurd (hs.mpr d2) q2
        · exact q1.trans d1.symm
/-- what stands all through the law's loop: two objects apart, Ax and Am their cells -/
def LawC (p : Program) (s : State) (m : MethodId) (meth : Method) (c : Code) (b0 L : Nat) (xs : Nat → Int32) (D : va_G) (d : Nat → ClassId) (h : Nat) (ad : Nat → Nat) (d2 : Nat → ClassId) (h2 : Nat) (ad2 : Nat → Nat) (Ax Am : Nat → Prop) : Prop :=
  lw_At p s m meth c b0 L xs ∧ L ≤ 256 ∧ va_K D vwCl (xT d) s ∧ va_K D vwCl (mT d2) s ∧ (∀ a w f, va_D Ax (xW d h ad a w f)) ∧ (∀ b, va_D Am (mW d2 h2 ad2 b)) ∧ (∀ q, Ax q → s.heap.size ≤ q) ∧ (∀ q, Am q → s.heap.size ≤ q) ∧ (∀ q, Ax q → ¬ Am q)
/-- the law goes on from pc with the objects agreeing -/
def LawJ (p : Program) (l : Launch) (e : Env) (s : State) (m : MethodId) (below : List Frame) (meth : Method) (c : Code) (b0 : Nat) (D : va_G) (d : Nat → ClassId) (h : Nat) (ad : Nat → Nat) (d2 : Nat → ClassId) (h2 : Nat) (ad2 : Nat → Nat) (i pc : Nat) : Prop :=
  ∀ (a : Nat → Nat → Int32) (w f : Int32) (b : Nat → Nat → Int32) (H : Heap) (locs : List Loc) (ls : Array Slot), XOK a w f → AG a b → va_P D vwCl (xW d h ad a w f) H → va_P D vwCl (mW d2 h2 ad2 b) H → va_S (fun q : Nat => s.heap.size ≤ q) s.heap H locs → lv_has ls 4 [(0, .ref b0), (1, .ref h), (2, .ref h2), (3, .int (nI i))] → W p l e room_1 s m #[Value.ref b0] below meth c H locs 20 437 (lw_Z below #[Value.ref b0] s) (F0 m pc ls [])
end
section
/-! the law, case by case -/
set_option maxHeartbeats 4000000 in
set_option maxRecDepth 100000 in
theorem law_0 {p : Program} {l : Launch} {e : Env} {s : State} {m : MethodId} {below : List Frame} {meth : Method} {c : Code} {b0 L : Nat} {xs : Nat → Int32} {D : va_G} {d : Nat → ClassId} {h : Nat} {ad : Nat → Nat} {d2 : Nat → ClassId} {h2 : Nat} {ad2 : Nat → Nat} {Ax Am : Nat → Prop} (C0 : LawC p s m meth c b0 L xs D d h ad d2 h2 ad2 Ax Am) {i : Nat} (hi : i + 4 ≤ L) (J : LawJ p l e s m below meth c b0 D d h ad d2 h2 ad2 i 477) : LawJ p l e s m below meth c b0 D d h ad d2 h2 ad2 i 100 := by
  intro a w f b H locs ls hok hab hPx hPm hS hl
  obtain ⟨⟨hx, hb, hr, hml, hown, hts0, hX, hbl, hlocks, hgv⟩, hL, hKx, hKm, hDx, hDm, hAx, hAm, hdx⟩ := C0
  have hts : ∀ w ∈ lw_all, w.before _ s = true := fun w h => hts0 w (lw_all_tbl h)
  have hbA : ¬ (fun q : Nat => s.heap.size ≤ q) b0 := Nat.not_le.mpr hbl
  have hdm : ∀ q, Am q → ¬ Ax q := fun q h1 h2 => hdx q h2 h1
  have hg : DOK a := hok.1
  have hgb : DOK b := DOK_congr hab hg
  refine lv_aload_n hx hb dL_law_100 rfl (lv_at hl 1 rfl) ?_
  refine lv_aload_n hx hb dL_law_101 rfl (lv_at hl 0 rfl) ?_
  refine lv_iload_n hx hb dL_law_102 rfl (lv_at hl 3 rfl) ?_
  refine lv_iconst (v := nI 1) hx hb dL_law_103 (by decide) ?_
  refine lv_iadd hx hb dL_law_104 ?_
  refine y_sld hx hb hX hbl hbA hS (i + 1) (nI_add _ _) (by omega) hL dL_law_105 ?_
  refine lv_aload_n hx hb dL_law_106 rfl (lv_at hl 0 rfl) ?_
  refine lv_iload_n hx hb dL_law_107 rfl (lv_at hl 3 rfl) ?_
  refine lv_iconst (v := nI 2) hx hb dL_law_108 (by decide) ?_
  refine lv_iadd hx hb dL_law_109 ?_
  refine y_sld hx hb hX hbl hbA hS (i + 2) (nI_add _ _) (by omega) hL dL_law_110 ?_
  refine lv_aload_n hx hb dL_law_111 rfl (lv_at hl 0 rfl) ?_
  refine lv_iload_n hx hb dL_law_112 rfl (lv_at hl 3 rfl) ?_
  refine lv_iconst (v := nI 3) hx hb dL_law_113 (by decide) ?_
  refine lv_iadd hx hb dL_law_114 ?_
  refine y_sld hx hb hX hbl hbA hS (i + 3) (nI_add _ _) (by omega) hL dL_law_115 ?_
  refine y_wri (xV d h ad) (As := [.int (xs (i + 1)), .int (xs (i + 2)), .int (xs (i + 3))]) (rest := []) ⟨hx, hb, hml, hown, hts⟩ (mX0_link l D d h ad Ax a w f (xs (i + 1)) (xs (i + 2)) (xs (i + 3)) (hDx a w f)) (cwV 3 hts (lw_V q76 q77 q78 q22 q79) rfl rfl rfl (by decide +kernel) ⟨Nat.le_of_ble_eq_true rfl, Nat.le_of_ble_eq_true rfl⟩) (va_recv hKx hPx (ci := 0) (q0 := 0) rfl rfl) hKx hPx hPm (hDm b) hdm hAx hS hl rfl rfl (Nat.le_of_ble_eq_true rfl) dL_law_116 ⟨Nat.le_of_ble_eq_true rfl, Nat.le_of_ble_eq_true rfl⟩ (fun r1 u_ H locs hq1 hPx hPm hS => ?_)
  obtain ⟨a1, w1, f1⟩ := u_
  have hPx : va_P D vwCl (xW d h ad a1 w1 f1) H := hPx
  obtain ⟨hq1, hc1⟩ := hq1
  refine lv_aload_n hx hb dL_law_119 rfl (lv_at hl 2 rfl) ?_
  refine lv_aload_n hx hb dL_law_120 rfl (lv_at hl 0 rfl) ?_
  refine lv_iload_n hx hb dL_law_121 rfl (lv_at hl 3 rfl) ?_
  refine lv_iconst (v := nI 1) hx hb dL_law_122 (by decide) ?_
  refine lv_iadd hx hb dL_law_123 ?_
  refine y_sld hx hb hX hbl hbA hS (i + 1) (nI_add _ _) (by omega) hL dL_law_124 ?_
  refine lv_aload_n hx hb dL_law_125 rfl (lv_at hl 0 rfl) ?_
  refine lv_iload_n hx hb dL_law_126 rfl (lv_at hl 3 rfl) ?_
  refine lv_iconst (v := nI 2) hx hb dL_law_127 (by decide) ?_
  refine lv_iadd hx hb dL_law_128 ?_
  refine y_sld hx hb hX hbl hbA hS (i + 2) (nI_add _ _) (by omega) hL dL_law_129 ?_
  refine lv_aload_n hx hb dL_law_130 rfl (lv_at hl 0 rfl) ?_
  refine lv_iload_n hx hb dL_law_131 rfl (lv_at hl 3 rfl) ?_
  refine lv_iconst (v := nI 3) hx hb dL_law_132 (by decide) ?_
  refine lv_iadd hx hb dL_law_133 ?_
  refine y_sld hx hb hX hbl hbA hS (i + 3) (nI_add _ _) (by omega) hL dL_law_134 ?_
  refine y_wri (mW d2 h2 ad2) (As := [.int (xs (i + 1)), .int (xs (i + 2)), .int (xs (i + 3))]) (rest := [.int (r1)]) ⟨hx, hb, hml, hown, hts⟩ (mX1_link l D d2 h2 ad2 Am b (xs (i + 1)) (xs (i + 2)) (xs (i + 3)) (hDm b)) (cwV 3 hts (lw_V q236 q237 q238 q23 q239) rfl rfl rfl (by decide +kernel) ⟨Nat.le_of_ble_eq_true rfl, Nat.le_of_ble_eq_true rfl⟩) (va_recv hKm hPm (ci := 1) (q0 := 0) rfl rfl) hKm hPm hPx (hDx a1 w1 f1) hdx hAm hS hl rfl rfl (Nat.le_of_ble_eq_true rfl) dL_law_135 ⟨Nat.le_of_ble_eq_true rfl, Nat.le_of_ble_eq_true rfl⟩ (fun r2 u_ H locs hq2 hPm hPx hS => ?_)
  obtain ⟨b1, rfl⟩ : ∃ z, z = u_ := ⟨_, rfl⟩
  have hPm : va_P D vwCl (mW d2 h2 ad2 b1) H := hPm
  have hsm := lkQ_same hab hq1 hq2
  refine lv_icmp_eq (tgt := 477) hx hb dL_law_138 (by decide) (fun _ => ?_) (fun c => absurd (hsm.1) c)
  exact J a1 w1 f1 b1 _ _ _ (XOK_ch hok (lkQ_dok hg hq1) hc1) hsm.2 hPx hPm hS hl
set_option maxHeartbeats 4000000 in
set_option maxRecDepth 100000 in
theorem law_1 {p : Program} {l : Launch} {e : Env} {s : State} {m : MethodId} {below : List Frame} {meth : Method} {c : Code} {b0 L : Nat} {xs : Nat → Int32} {D : va_G} {d : Nat → ClassId} {h : Nat} {ad : Nat → Nat} {d2 : Nat → ClassId} {h2 : Nat} {ad2 : Nat → Nat} {Ax Am : Nat → Prop} (C0 : LawC p s m meth c b0 L xs D d h ad d2 h2 ad2 Ax Am) {i : Nat} (hi : i + 4 ≤ L) (J : LawJ p l e s m below meth c b0 D d h ad d2 h2 ad2 i 477) : LawJ p l e s m below meth c b0 D d h ad d2 h2 ad2 i 143 := by
  intro a w f b H locs ls hok hab hPx hPm hS hl
  obtain ⟨⟨hx, hb, hr, hml, hown, hts0, hX, hbl, hlocks, hgv⟩, hL, hKx, hKm, hDx, hDm, hAx, hAm, hdx⟩ := C0
  have hts : ∀ w ∈ lw_all, w.before _ s = true := fun w h => hts0 w (lw_all_tbl h)
  have hbA : ¬ (fun q : Nat => s.heap.size ≤ q) b0 := Nat.not_le.mpr hbl
  have hdm : ∀ q, Am q → ¬ Ax q := fun q h1 h2 => hdx q h2 h1
  have hg : DOK a := hok.1
  have hgb : DOK b := DOK_congr hab hg
  refine lv_aload_n hx hb dL_law_143 rfl (lv_at hl 1 rfl) ?_
  refine lv_aload_n hx hb dL_law_144 rfl (lv_at hl 0 rfl) ?_
  refine lv_iload_n hx hb dL_law_145 rfl (lv_at hl 3 rfl) ?_
  refine lv_iconst (v := nI 1) hx hb dL_law_146 (by decide) ?_
  refine lv_iadd hx hb dL_law_147 ?_
  refine y_sld hx hb hX hbl hbA hS (i + 1) (nI_add _ _) (by omega) hL dL_law_148 ?_
  refine lv_aload_n hx hb dL_law_149 rfl (lv_at hl 0 rfl) ?_
  refine lv_iload_n hx hb dL_law_150 rfl (lv_at hl 3 rfl) ?_
  refine lv_iconst (v := nI 2) hx hb dL_law_151 (by decide) ?_
  refine lv_iadd hx hb dL_law_152 ?_
  refine y_sld hx hb hX hbl hbA hS (i + 2) (nI_add _ _) (by omega) hL dL_law_153 ?_
  refine lv_aload_n hx hb dL_law_154 rfl (lv_at hl 0 rfl) ?_
  refine lv_iload_n hx hb dL_law_155 rfl (lv_at hl 3 rfl) ?_
  refine lv_iconst (v := nI 3) hx hb dL_law_156 (by decide) ?_
  refine lv_iadd hx hb dL_law_157 ?_
  refine y_sld hx hb hX hbl hbA hS (i + 3) (nI_add _ _) (by omega) hL dL_law_158 ?_
  refine y_wri (xV d h ad) (As := [.int (xs (i + 1)), .int (xs (i + 2)), .int (xs (i + 3))]) (rest := []) ⟨hx, hb, hml, hown, hts⟩ (mX0_toSource l D d h ad Ax a w f (xs (i + 1)) (xs (i + 2)) (xs (i + 3)) (hDx a w f)) (cwV 3 hts (lw_V q83 q84 q85 q22 q86) rfl rfl rfl (by decide +kernel) ⟨Nat.le_of_ble_eq_true rfl, Nat.le_of_ble_eq_true rfl⟩) (va_recv hKx hPx (ci := 0) (q0 := 0) rfl rfl) hKx hPx hPm (hDm b) hdm hAx hS hl rfl rfl (Nat.le_of_ble_eq_true rfl) dL_law_159 ⟨Nat.le_of_ble_eq_true rfl, Nat.le_of_ble_eq_true rfl⟩ (fun r1 u_ H locs hq1 hPx hPm hS => ?_)
  obtain ⟨a1, w1, f1⟩ := u_
  have hPx : va_P D vwCl (xW d h ad a1 w1 f1) H := hPx
  obtain ⟨hq1, hc1⟩ := hq1
  refine lv_aload_n hx hb dL_law_162 rfl (lv_at hl 2 rfl) ?_
  refine lv_aload_n hx hb dL_law_163 rfl (lv_at hl 0 rfl) ?_
  refine lv_iload_n hx hb dL_law_164 rfl (lv_at hl 3 rfl) ?_
  refine lv_iconst (v := nI 1) hx hb dL_law_165 (by decide) ?_
  refine lv_iadd hx hb dL_law_166 ?_
  refine y_sld hx hb hX hbl hbA hS (i + 1) (nI_add _ _) (by omega) hL dL_law_167 ?_
  refine lv_aload_n hx hb dL_law_168 rfl (lv_at hl 0 rfl) ?_
  refine lv_iload_n hx hb dL_law_169 rfl (lv_at hl 3 rfl) ?_
  refine lv_iconst (v := nI 2) hx hb dL_law_170 (by decide) ?_
  refine lv_iadd hx hb dL_law_171 ?_
  refine y_sld hx hb hX hbl hbA hS (i + 2) (nI_add _ _) (by omega) hL dL_law_172 ?_
  refine lv_aload_n hx hb dL_law_173 rfl (lv_at hl 0 rfl) ?_
  refine lv_iload_n hx hb dL_law_174 rfl (lv_at hl 3 rfl) ?_
  refine lv_iconst (v := nI 3) hx hb dL_law_175 (by decide) ?_
  refine lv_iadd hx hb dL_law_176 ?_
  refine y_sld hx hb hX hbl hbA hS (i + 3) (nI_add _ _) (by omega) hL dL_law_177 ?_
  refine y_wri (mW d2 h2 ad2) (As := [.int (xs (i + 1)), .int (xs (i + 2)), .int (xs (i + 3))]) (rest := [.int (r1)]) ⟨hx, hb, hml, hown, hts⟩ (mX1_toSource l D d2 h2 ad2 Am b (xs (i + 1)) (xs (i + 2)) (xs (i + 3)) (hDm b)) (cwV 3 hts (lw_V q244 q245 q246 q23 q247) rfl rfl rfl (by decide +kernel) ⟨Nat.le_of_ble_eq_true rfl, Nat.le_of_ble_eq_true rfl⟩) (va_recv hKm hPm (ci := 1) (q0 := 0) rfl rfl) hKm hPm hPx (hDx a1 w1 f1) hdx hAm hS hl rfl rfl (Nat.le_of_ble_eq_true rfl) dL_law_178 ⟨Nat.le_of_ble_eq_true rfl, Nat.le_of_ble_eq_true rfl⟩ (fun r2 u_ H locs hq2 hPm hPx hS => ?_)
  obtain ⟨b1, rfl⟩ : ∃ z, z = u_ := ⟨_, rfl⟩
  have hPm : va_P D vwCl (mW d2 h2 ad2 b1) H := hPm
  have hsm := plQ_same (by decide) (by decide) hab hq1 hq2
  refine lv_icmp_eq (tgt := 477) hx hb dL_law_181 (by decide) (fun _ => ?_) (fun c => absurd (hsm.1) c)
  exact J a1 w1 f1 b1 _ _ _ (XOK_ch hok (plQ_dok1 hg hq1) hc1) hsm.2 hPx hPm hS hl
set_option maxHeartbeats 4000000 in
set_option maxRecDepth 100000 in
theorem law_2 {p : Program} {l : Launch} {e : Env} {s : State} {m : MethodId} {below : List Frame} {meth : Method} {c : Code} {b0 L : Nat} {xs : Nat → Int32} {D : va_G} {d : Nat → ClassId} {h : Nat} {ad : Nat → Nat} {d2 : Nat → ClassId} {h2 : Nat} {ad2 : Nat → Nat} {Ax Am : Nat → Prop} (C0 : LawC p s m meth c b0 L xs D d h ad d2 h2 ad2 Ax Am) {i : Nat} (hi : i + 4 ≤ L) (J : LawJ p l e s m below meth c b0 D d h ad d2 h2 ad2 i 477) : LawJ p l e s m below meth c b0 D d h ad d2 h2 ad2 i 186 := by
  intro a w f b H locs ls hok hab hPx hPm hS hl
  obtain ⟨⟨hx, hb, hr, hml, hown, hts0, hX, hbl, hlocks, hgv⟩, hL, hKx, hKm, hDx, hDm, hAx, hAm, hdx⟩ := C0
  have hts : ∀ w ∈ lw_all, w.before _ s = true := fun w h => hts0 w (lw_all_tbl h)
  have hbA : ¬ (fun q : Nat => s.heap.size ≤ q) b0 := Nat.not_le.mpr hbl
  have hdm : ∀ q, Am q → ¬ Ax q := fun q h1 h2 => hdx q h2 h1
  have hg : DOK a := hok.1
  have hgb : DOK b := DOK_congr hab hg
  refine lv_aload_n hx hb dL_law_186 rfl (lv_at hl 1 rfl) ?_
  refine lv_aload_n hx hb dL_law_187 rfl (lv_at hl 0 rfl) ?_
  refine lv_iload_n hx hb dL_law_188 rfl (lv_at hl 3 rfl) ?_
  refine lv_iconst (v := nI 1) hx hb dL_law_189 (by decide) ?_
  refine lv_iadd hx hb dL_law_190 ?_
  refine y_sld hx hb hX hbl hbA hS (i + 1) (nI_add _ _) (by omega) hL dL_law_191 ?_
  refine lv_aload_n hx hb dL_law_192 rfl (lv_at hl 0 rfl) ?_
  refine lv_iload_n hx hb dL_law_193 rfl (lv_at hl 3 rfl) ?_
  refine lv_iconst (v := nI 2) hx hb dL_law_194 (by decide) ?_
  refine lv_iadd hx hb dL_law_195 ?_
  refine y_sld hx hb hX hbl hbA hS (i + 2) (nI_add _ _) (by omega) hL dL_law_196 ?_
  refine lv_aload_n hx hb dL_law_197 rfl (lv_at hl 0 rfl) ?_
  refine lv_iload_n hx hb dL_law_198 rfl (lv_at hl 3 rfl) ?_
  refine lv_iconst (v := nI 3) hx hb dL_law_199 (by decide) ?_
  refine lv_iadd hx hb dL_law_200 ?_
  refine y_sld hx hb hX hbl hbA hS (i + 3) (nI_add _ _) (by omega) hL dL_law_201 ?_
  refine y_wri (xV d h ad) (As := [.int (xs (i + 1)), .int (xs (i + 2)), .int (xs (i + 3))]) (rest := []) ⟨hx, hb, hml, hown, hts⟩ (mX0_toSink l D d h ad Ax a w f (xs (i + 1)) (xs (i + 2)) (xs (i + 3)) (hDx a w f)) (cwV 3 hts (lw_V q90 q91 q92 q22 q93) rfl rfl rfl (by decide +kernel) ⟨Nat.le_of_ble_eq_true rfl, Nat.le_of_ble_eq_true rfl⟩) (va_recv hKx hPx (ci := 0) (q0 := 0) rfl rfl) hKx hPx hPm (hDm b) hdm hAx hS hl rfl rfl (Nat.le_of_ble_eq_true rfl) dL_law_202 ⟨Nat.le_of_ble_eq_true rfl, Nat.le_of_ble_eq_true rfl⟩ (fun r1 u_ H locs hq1 hPx hPm hS => ?_)
  obtain ⟨a1, w1, f1⟩ := u_
  have hPx : va_P D vwCl (xW d h ad a1 w1 f1) H := hPx
  obtain ⟨hq1, hc1⟩ := hq1
  refine lv_aload_n hx hb dL_law_205 rfl (lv_at hl 2 rfl) ?_
  refine lv_aload_n hx hb dL_law_206 rfl (lv_at hl 0 rfl) ?_
  refine lv_iload_n hx hb dL_law_207 rfl (lv_at hl 3 rfl) ?_
  refine lv_iconst (v := nI 1) hx hb dL_law_208 (by decide) ?_
  refine lv_iadd hx hb dL_law_209 ?_
  refine y_sld hx hb hX hbl hbA hS (i + 1) (nI_add _ _) (by omega) hL dL_law_210 ?_
  refine lv_aload_n hx hb dL_law_211 rfl (lv_at hl 0 rfl) ?_
  refine lv_iload_n hx hb dL_law_212 rfl (lv_at hl 3 rfl) ?_
  refine lv_iconst (v := nI 2) hx hb dL_law_213 (by decide) ?_
  refine lv_iadd hx hb dL_law_214 ?_
  refine y_sld hx hb hX hbl hbA hS (i + 2) (nI_add _ _) (by omega) hL dL_law_215 ?_
  refine lv_aload_n hx hb dL_law_216 rfl (lv_at hl 0 rfl) ?_
  refine lv_iload_n hx hb dL_law_217 rfl (lv_at hl 3 rfl) ?_
  refine lv_iconst (v := nI 3) hx hb dL_law_218 (by decide) ?_
  refine lv_iadd hx hb dL_law_219 ?_
  refine y_sld hx hb hX hbl hbA hS (i + 3) (nI_add _ _) (by omega) hL dL_law_220 ?_
  refine y_wri (mW d2 h2 ad2) (As := [.int (xs (i + 1)), .int (xs (i + 2)), .int (xs (i + 3))]) (rest := [.int (r1)]) ⟨hx, hb, hml, hown, hts⟩ (mX1_toSink l D d2 h2 ad2 Am b (xs (i + 1)) (xs (i + 2)) (xs (i + 3)) (hDm b)) (cwV 3 hts (lw_V q252 q253 q254 q23 q255) rfl rfl rfl (by decide +kernel) ⟨Nat.le_of_ble_eq_true rfl, Nat.le_of_ble_eq_true rfl⟩) (va_recv hKm hPm (ci := 1) (q0 := 0) rfl rfl) hKm hPm hPx (hDx a1 w1 f1) hdx hAm hS hl rfl rfl (Nat.le_of_ble_eq_true rfl) dL_law_221 ⟨Nat.le_of_ble_eq_true rfl, Nat.le_of_ble_eq_true rfl⟩ (fun r2 u_ H locs hq2 hPm hPx hS => ?_)
  obtain ⟨b1, rfl⟩ : ∃ z, z = u_ := ⟨_, rfl⟩
  have hPm : va_P D vwCl (mW d2 h2 ad2 b1) H := hPm
  have hsm := plQ_same (by decide) (by decide) hab hq1 hq2
  refine lv_icmp_eq (tgt := 477) hx hb dL_law_224 (by decide) (fun _ => ?_) (fun c => absurd (hsm.1) c)
  exact J a1 w1 f1 b1 _ _ _ (XOK_ch hok (plQ_dok2 hg hq1) hc1) hsm.2 hPx hPm hS hl
set_option maxHeartbeats 4000000 in
set_option maxRecDepth 100000 in
theorem law_3 {p : Program} {l : Launch} {e : Env} {s : State} {m : MethodId} {below : List Frame} {meth : Method} {c : Code} {b0 L : Nat} {xs : Nat → Int32} {D : va_G} {d : Nat → ClassId} {h : Nat} {ad : Nat → Nat} {d2 : Nat → ClassId} {h2 : Nat} {ad2 : Nat → Nat} {Ax Am : Nat → Prop} (C0 : LawC p s m meth c b0 L xs D d h ad d2 h2 ad2 Ax Am) {i : Nat} (hi : i + 4 ≤ L) (J : LawJ p l e s m below meth c b0 D d h ad d2 h2 ad2 i 477) : LawJ p l e s m below meth c b0 D d h ad d2 h2 ad2 i 229 := by
  intro a w f b H locs ls hok hab hPx hPm hS hl
  obtain ⟨⟨hx, hb, hr, hml, hown, hts0, hX, hbl, hlocks, hgv⟩, hL, hKx, hKm, hDx, hDm, hAx, hAm, hdx⟩ := C0
  have hts : ∀ w ∈ lw_all, w.before _ s = true := fun w h => hts0 w (lw_all_tbl h)
  have hbA : ¬ (fun q : Nat => s.heap.size ≤ q) b0 := Nat.not_le.mpr hbl
  have hdm : ∀ q, Am q → ¬ Ax q := fun q h1 h2 => hdx q h2 h1
  have hg : DOK a := hok.1
  have hgb : DOK b := DOK_congr hab hg
  refine lv_aload_n hx hb dL_law_229 rfl (lv_at hl 1 rfl) ?_
  refine y_wrv (xV d h ad) (As := []) (rest := []) ⟨hx, hb, hml, hown, hts⟩ (mX0_flip l D d h ad Ax a w f (hDx a w f)) (cwV 0 hts (lw_V q94 q95 q96 q22 q97) rfl rfl rfl (by decide +kernel) ⟨Nat.le_of_ble_eq_true rfl, Nat.le_of_ble_eq_true rfl⟩) (va_recv hKx hPx (ci := 0) (q0 := 0) rfl rfl) hKx hPx hPm (hDm b) hdm hAx hS hl rfl rfl (Nat.le_of_ble_eq_true rfl) dL_law_230 ⟨Nat.le_of_ble_eq_true rfl, Nat.le_of_ble_eq_true rfl⟩ (fun u_ H locs hq1 hPx hPm hS => ?_)
  obtain ⟨a1, w1, f1⟩ := u_
  have hPx : va_P D vwCl (xW d h ad a1 w1 f1) H := hPx
  obtain ⟨e1, e2⟩ := hq1
  have e1 : a1 = flG a := e1
  refine lv_aload_n hx hb dL_law_233 rfl (lv_at hl 2 rfl) ?_
  refine y_wrv (mW d2 h2 ad2) (As := []) (rest := []) ⟨hx, hb, hml, hown, hts⟩ (mX1_flip l D d2 h2 ad2 Am b (hDm b)) (cwV 0 hts (lw_V q256 q257 q258 q23 q259) rfl rfl rfl (by decide +kernel) ⟨Nat.le_of_ble_eq_true rfl, Nat.le_of_ble_eq_true rfl⟩) (va_recv hKm hPm (ci := 1) (q0 := 0) rfl rfl) hKm hPm hPx (hDx a1 w1 f1) hdx hAm hS hl rfl rfl (Nat.le_of_ble_eq_true rfl) dL_law_234 ⟨Nat.le_of_ble_eq_true rfl, Nat.le_of_ble_eq_true rfl⟩ (fun u_ H locs hq2 hPm hPx hS => ?_)
  obtain ⟨b1, rfl⟩ : ∃ z, z = u_ := ⟨_, rfl⟩
  have hPm : va_P D vwCl (mW d2 h2 ad2 b1) H := hPm
  refine lv_goto (tgt := 477) hx hb dL_law_237 (by decide) ?_
  exact J a1 w1 f1 b1 _ _ _ (XOK_ch hok (by rw [e1]; exact DOK_flip hg) (Or.inr e2)) (by rw [e1, hq2]; exact flG_ag hab) hPx hPm hS hl
set_option maxHeartbeats 4000000 in
set_option maxRecDepth 100000 in
theorem law_4 {p : Program} {l : Launch} {e : Env} {s : State} {m : MethodId} {below : List Frame} {meth : Method} {c : Code} {b0 L : Nat} {xs : Nat → Int32} {D : va_G} {d : Nat → ClassId} {h : Nat} {ad : Nat → Nat} {d2 : Nat → ClassId} {h2 : Nat} {ad2 : Nat → Nat} {Ax Am : Nat → Prop} (C0 : LawC p s m meth c b0 L xs D d h ad d2 h2 ad2 Ax Am) {i : Nat} (hi : i + 4 ≤ L) (J : LawJ p l e s m below meth c b0 D d h ad d2 h2 ad2 i 477) : LawJ p l e s m below meth c b0 D d h ad d2 h2 ad2 i 240 := by
  intro a w f b H locs ls hok hab hPx hPm hS hl
  obtain ⟨⟨hx, hb, hr, hml, hown, hts0, hX, hbl, hlocks, hgv⟩, hL, hKx, hKm, hDx, hDm, hAx, hAm, hdx⟩ := C0
  have hts : ∀ w ∈ lw_all, w.before _ s = true := fun w h => hts0 w (lw_all_tbl h)
  have hbA : ¬ (fun q : Nat => s.heap.size ≤ q) b0 := Nat.not_le.mpr hbl
  have hdm : ∀ q, Am q → ¬ Ax q := fun q h1 h2 => hdx q h2 h1
  have hg : DOK a := hok.1
  have hgb : DOK b := DOK_congr hab hg
  refine lv_aload_n hx hb dL_law_240 rfl (lv_at hl 1 rfl) ?_
  refine lv_aload_n hx hb dL_law_241 rfl (lv_at hl 0 rfl) ?_
  refine lv_iload_n hx hb dL_law_242 rfl (lv_at hl 3 rfl) ?_
  refine lv_iconst (v := nI 1) hx hb dL_law_243 (by decide) ?_
  refine lv_iadd hx hb dL_law_244 ?_
  refine y_sld hx hb hX hbl hbA hS (i + 1) (nI_add _ _) (by omega) hL dL_law_245 ?_
  refine lv_aload_n hx hb dL_law_246 rfl (lv_at hl 0 rfl) ?_
  refine lv_iload_n hx hb dL_law_247 rfl (lv_at hl 3 rfl) ?_
  refine lv_iconst (v := nI 2) hx hb dL_law_248 (by decide) ?_
  refine lv_iadd hx hb dL_law_249 ?_
  refine y_sld hx hb hX hbl hbA hS (i + 2) (nI_add _ _) (by omega) hL dL_law_250 ?_
  refine y_ro (As := [.int (xs (i + 1)), .int (xs (i + 2))]) (rest := []) ⟨hx, hb, hml, hown, hts⟩ (mX0_cost l D d h ad a w f (xs (i + 1)) (xs (i + 2)) hg) (cwV 2 hts (lw_V q98 q99 q100 q22 q101) rfl rfl rfl (by decide +kernel) ⟨Nat.le_of_ble_eq_true rfl, Nat.le_of_ble_eq_true rfl⟩) (va_recv hKx hPx (ci := 0) (q0 := 0) rfl rfl) hKx hPx hPm hS hl rfl rfl (Nat.le_of_ble_eq_true rfl) dL_law_251 ⟨Nat.le_of_ble_eq_true rfl, Nat.le_of_ble_eq_true rfl⟩ (fun r1 H locs hq1 hPx hPm hS => ?_)
  refine lv_aload_n hx hb dL_law_254 rfl (lv_at hl 2 rfl) ?_
  refine lv_aload_n hx hb dL_law_255 rfl (lv_at hl 0 rfl) ?_
  refine lv_iload_n hx hb dL_law_256 rfl (lv_at hl 3 rfl) ?_
  refine lv_iconst (v := nI 1) hx hb dL_law_257 (by decide) ?_
  refine lv_iadd hx hb dL_law_258 ?_
  refine y_sld hx hb hX hbl hbA hS (i + 1) (nI_add _ _) (by omega) hL dL_law_259 ?_
  refine lv_aload_n hx hb dL_law_260 rfl (lv_at hl 0 rfl) ?_
  refine lv_iload_n hx hb dL_law_261 rfl (lv_at hl 3 rfl) ?_
  refine lv_iconst (v := nI 2) hx hb dL_law_262 (by decide) ?_
  refine lv_iadd hx hb dL_law_263 ?_
  refine y_sld hx hb hX hbl hbA hS (i + 2) (nI_add _ _) (by omega) hL dL_law_264 ?_
  refine y_ro (As := [.int (xs (i + 1)), .int (xs (i + 2))]) (rest := [.int (r1)]) ⟨hx, hb, hml, hown, hts⟩ (mX1_cost l D d2 h2 ad2 b (xs (i + 1)) (xs (i + 2)) hgb) (cwV 2 hts (lw_V q260 q261 q262 q23 q263) rfl rfl rfl (by decide +kernel) ⟨Nat.le_of_ble_eq_true rfl, Nat.le_of_ble_eq_true rfl⟩) (va_recv hKm hPm (ci := 1) (q0 := 0) rfl rfl) hKm hPm hPx hS hl rfl rfl (Nat.le_of_ble_eq_true rfl) dL_law_265 ⟨Nat.le_of_ble_eq_true rfl, Nat.le_of_ble_eq_true rfl⟩ (fun r2 H locs hq2 hPm hPx hS => ?_)
  have hsm : r1 = r2 := ask_same (Q := fun n => r1.toInt = pr a (bt (xs (i + 1))) n) (Q' := fun n => r2.toInt = pr b (bt (xs (i + 1))) n) hq1 hq2 (fun n _ q1 q2 => z_eq.mpr (by rw [q1, q2]; exact pr_congr hab _ n))
  refine lv_icmp_eq (tgt := 477) hx hb dL_law_268 (by decide) (fun _ => ?_) (fun c => absurd (hsm) c)
  exact J a w f b _ _ _ hok hab hPx hPm hS hl
set_option maxHeartbeats 4000000 in
set_option maxRecDepth 100000 in
theorem law_5 {p : Program} {l : Launch} {e : Env} {s : State} {m : MethodId} {below : List Frame} {meth : Method} {c : Code} {b0 L : Nat} {xs : Nat → Int32} {D : va_G} {d : Nat → ClassId} {h : Nat} {ad : Nat → Nat} {d2 : Nat → ClassId} {h2 : Nat} {ad2 : Nat → Nat} {Ax Am : Nat → Prop} (C0 : LawC p s m meth c b0 L xs D d h ad d2 h2 ad2 Ax Am) {i : Nat} (hi : i + 4 ≤ L) (J : LawJ p l e s m below meth c b0 D d h ad d2 h2 ad2 i 477) : LawJ p l e s m below meth c b0 D d h ad d2 h2 ad2 i 273 := by
  intro a w f b H locs ls hok hab hPx hPm hS hl
  obtain ⟨⟨hx, hb, hr, hml, hown, hts0, hX, hbl, hlocks, hgv⟩, hL, hKx, hKm, hDx, hDm, hAx, hAm, hdx⟩ := C0
  have hts : ∀ w ∈ lw_all, w.before _ s = true := fun w h => hts0 w (lw_all_tbl h)
  have hbA : ¬ (fun q : Nat => s.heap.size ≤ q) b0 := Nat.not_le.mpr hbl
  have hdm : ∀ q, Am q → ¬ Ax q := fun q h1 h2 => hdx q h2 h1
  have hg : DOK a := hok.1
  have hgb : DOK b := DOK_congr hab hg
  refine lv_aload_n hx hb dL_law_273 rfl (lv_at hl 1 rfl) ?_
  refine lv_aload_n hx hb dL_law_274 rfl (lv_at hl 0 rfl) ?_
  refine lv_iload_n hx hb dL_law_275 rfl (lv_at hl 3 rfl) ?_
  refine lv_iconst (v := nI 1) hx hb dL_law_276 (by decide) ?_
  refine lv_iadd hx hb dL_law_277 ?_
  refine y_sld hx hb hX hbl hbA hS (i + 1) (nI_add _ _) (by omega) hL dL_law_278 ?_
  refine y_wri (xV d h ad) (As := [.int (xs (i + 1))]) (rest := []) ⟨hx, hb, hml, hown, hts⟩ (mX0_least l D d h ad Ax a w f (xs (i + 1)) hok (hDx a w f)) (cwV 1 hts (lw_V q120 q121 q122 q22 q123) rfl rfl rfl (by decide +kernel) ⟨Nat.le_of_ble_eq_true rfl, Nat.le_of_ble_eq_true rfl⟩) (va_recv hKx hPx (ci := 0) (q0 := 0) rfl rfl) hKx hPx hPm (hDm b) hdm hAx hS hl rfl rfl (Nat.le_of_ble_eq_true rfl) dL_law_279 ⟨Nat.le_of_ble_eq_true rfl, Nat.le_of_ble_eq_true rfl⟩ (fun r1 u_ H locs hq1 hPx hPm hS => ?_)
  obtain ⟨a1, w1, f1⟩ := u_
  have hPx : va_P D vwCl (xW d h ad a1 w1 f1) H := hPx
  obtain ⟨⟨hok1, hf1⟩, hq1⟩ := hq1
  have hok1 : XOK a1 w1 f1 := hok1
  have hf1 : ∀ j, j < 5 → a1 j = a j := hf1
  refine lv_aload_n hx hb dL_law_282 rfl (lv_at hl 2 rfl) ?_
  refine lv_aload_n hx hb dL_law_283 rfl (lv_at hl 0 rfl) ?_
  refine lv_iload_n hx hb dL_law_284 rfl (lv_at hl 3 rfl) ?_
  refine lv_iconst (v := nI 1) hx hb dL_law_285 (by decide) ?_
  refine lv_iadd hx hb dL_law_286 ?_
  refine y_sld hx hb hX hbl hbA hS (i + 1) (nI_add _ _) (by omega) hL dL_law_287 ?_
  refine y_ro (As := [.int (xs (i + 1))]) (rest := [.int (r1)]) ⟨hx, hb, hml, hown, hts⟩ (mX1_least l D d2 h2 ad2 b (xs (i + 1)) hgb) (cwV 1 hts (lw_V q272 q273 q274 q23 q275) rfl rfl rfl (by decide +kernel) ⟨Nat.le_of_ble_eq_true rfl, Nat.le_of_ble_eq_true rfl⟩) (va_recv hKm hPm (ci := 1) (q0 := 0) rfl rfl) hKm hPm hPx hS hl rfl rfl (Nat.le_of_ble_eq_true rfl) dL_law_288 ⟨Nat.le_of_ble_eq_true rfl, Nat.le_of_ble_eq_true rfl⟩ (fun r2 H locs hq2 hPm hPx hS => ?_)
  have hsm : r1 = r2 := ask_same (Q := fun n => r1.toInt = lst a n) (Q' := fun n => r2.toInt = lst b n) hq1 hq2 (fun n _ q1 q2 => z_eq.mpr (by rw [q1, q2]; exact lst_congr hab n))
  refine lv_icmp_eq (tgt := 477) hx hb dL_law_291 (by decide) (fun _ => ?_) (fun c => absurd (hsm) c)
  exact J a1 w1 f1 b _ _ _ hok1 (fun j hj => (hf1 j hj).trans (hab j hj)) hPx hPm hS hl
set_option maxHeartbeats 4000000 in
set_option maxRecDepth 100000 in
theorem law_6 {p : Program} {l : Launch} {e : Env} {s : State} {m : MethodId} {below : List Frame} {meth : Method} {c : Code} {b0 L : Nat} {xs : Nat → Int32} {D : va_G} {d : Nat → ClassId} {h : Nat} {ad : Nat → Nat} {d2 : Nat → ClassId} {h2 : Nat} {ad2 : Nat → Nat} {Ax Am : Nat → Prop} (C0 : LawC p s m meth c b0 L xs D d h ad d2 h2 ad2 Ax Am) {i : Nat} (hi : i + 4 ≤ L) (J : LawJ p l e s m below meth c b0 D d h ad d2 h2 ad2 i 477) : LawJ p l e s m below meth c b0 D d h ad d2 h2 ad2 i 296 := by
  intro a w f b H locs ls hok hab hPx hPm hS hl
  obtain ⟨⟨hx, hb, hr, hml, hown, hts0, hX, hbl, hlocks, hgv⟩, hL, hKx, hKm, hDx, hDm, hAx, hAm, hdx⟩ := C0
  have hts : ∀ w ∈ lw_all, w.before _ s = true := fun w h => hts0 w (lw_all_tbl h)
  have hbA : ¬ (fun q : Nat => s.heap.size ≤ q) b0 := Nat.not_le.mpr hbl
  have hdm : ∀ q, Am q → ¬ Ax q := fun q h1 h2 => hdx q h2 h1
  have hg : DOK a := hok.1
  have hgb : DOK b := DOK_congr hab hg
  refine lv_aload_n hx hb dL_law_296 rfl (lv_at hl 1 rfl) ?_
  refine lv_aload_n hx hb dL_law_297 rfl (lv_at hl 0 rfl) ?_
  refine lv_iload_n hx hb dL_law_298 rfl (lv_at hl 3 rfl) ?_
  refine lv_iconst (v := nI 1) hx hb dL_law_299 (by decide) ?_
  refine lv_iadd hx hb dL_law_300 ?_
  refine y_sld hx hb hX hbl hbA hS (i + 1) (nI_add _ _) (by omega) hL dL_law_301 ?_
  refine y_wri (xV d h ad) (As := [.int (xs (i + 1))]) (rest := []) ⟨hx, hb, hml, hown, hts⟩ (mX0_always l D d h ad Ax a w f (xs (i + 1)) hok (hDx a w f)) (cwV 1 hts (lw_V q153 q154 q155 q22 q156) rfl rfl rfl (by decide +kernel) ⟨Nat.le_of_ble_eq_true rfl, Nat.le_of_ble_eq_true rfl⟩) (va_recv hKx hPx (ci := 0) (q0 := 0) rfl rfl) hKx hPx hPm (hDm b) hdm hAx hS hl rfl rfl (Nat.le_of_ble_eq_true rfl) dL_law_302 ⟨Nat.le_of_ble_eq_true rfl, Nat.le_of_ble_eq_true rfl⟩ (fun r1 u_ H locs hq1 hPx hPm hS => ?_)
  obtain ⟨a1, w1, f1⟩ := u_
  have hPx : va_P D vwCl (xW d h ad a1 w1 f1) H := hPx
  obtain ⟨⟨hok1, hf1⟩, hq1⟩ := hq1
  have hok1 : XOK a1 w1 f1 := hok1
  have hf1 : ∀ j, j < 5 → a1 j = a j := hf1
  refine lv_aload_n hx hb dL_law_305 rfl (lv_at hl 2 rfl) ?_
  refine lv_aload_n hx hb dL_law_306 rfl (lv_at hl 0 rfl) ?_
  refine lv_iload_n hx hb dL_law_307 rfl (lv_at hl 3 rfl) ?_
  refine lv_iconst (v := nI 1) hx hb dL_law_308 (by decide) ?_
  refine lv_iadd hx hb dL_law_309 ?_
  refine y_sld hx hb hX hbl hbA hS (i + 1) (nI_add _ _) (by omega) hL dL_law_310 ?_
  refine y_ro (As := [.int (xs (i + 1))]) (rest := [.int (r1)]) ⟨hx, hb, hml, hown, hts⟩ (mX1_always l D d2 h2 ad2 b (xs (i + 1)) hgb) (cwV 1 hts (lw_V q276 q277 q278 q23 q279) rfl rfl rfl (by decide +kernel) ⟨Nat.le_of_ble_eq_true rfl, Nat.le_of_ble_eq_true rfl⟩) (va_recv hKm hPm (ci := 1) (q0 := 0) rfl rfl) hKm hPm hPx hS hl rfl rfl (Nat.le_of_ble_eq_true rfl) dL_law_311 ⟨Nat.le_of_ble_eq_true rfl, Nat.le_of_ble_eq_true rfl⟩ (fun r2 H locs hq2 hPm hPx hS => ?_)
  have hsm : r1 = r2 := ask_same (Q := fun n => r1 = alw a n) (Q' := fun n => r2 = alw b n) hq1 hq2 (fun n _ q1 q2 => by rw [q1, q2]; exact alw_congr hab n)
  refine lv_icmp_eq (tgt := 477) hx hb dL_law_314 (by decide) (fun _ => ?_) (fun c => absurd (hsm) c)
  exact J a1 w1 f1 b _ _ _ hok1 (fun j hj => (hf1 j hj).trans (hab j hj)) hPx hPm hS hl
set_option maxHeartbeats 4000000 in
set_option maxRecDepth 100000 in
theorem law_7 {p : Program} {l : Launch} {e : Env} {s : State} {m : MethodId} {below : List Frame} {meth : Method} {c : Code} {b0 L : Nat} {xs : Nat → Int32} {D : va_G} {d : Nat → ClassId} {h : Nat} {ad : Nat → Nat} {d2 : Nat → ClassId} {h2 : Nat} {ad2 : Nat → Nat} {Ax Am : Nat → Prop} (C0 : LawC p s m meth c b0 L xs D d h ad d2 h2 ad2 Ax Am) {i : Nat} (hi : i + 4 ≤ L) (J : LawJ p l e s m below meth c b0 D d h ad d2 h2 ad2 i 477) : LawJ p l e s m below meth c b0 D d h ad d2 h2 ad2 i 319 := by
  intro a w f b H locs ls hok hab hPx hPm hS hl
  obtain ⟨⟨hx, hb, hr, hml, hown, hts0, hX, hbl, hlocks, hgv⟩, hL, hKx, hKm, hDx, hDm, hAx, hAm, hdx⟩ := C0
  have hts : ∀ w ∈ lw_all, w.before _ s = true := fun w h => hts0 w (lw_all_tbl h)
  have hbA : ¬ (fun q : Nat => s.heap.size ≤ q) b0 := Nat.not_le.mpr hbl
  have hdm : ∀ q, Am q → ¬ Ax q := fun q h1 h2 => hdx q h2 h1
  have hg : DOK a := hok.1
  have hgb : DOK b := DOK_congr hab hg
  refine lv_aload_n hx hb dL_law_319 rfl (lv_at hl 1 rfl) ?_
  refine lv_aload_n hx hb dL_law_320 rfl (lv_at hl 0 rfl) ?_
  refine lv_iload_n hx hb dL_law_321 rfl (lv_at hl 3 rfl) ?_
  refine lv_iconst (v := nI 1) hx hb dL_law_322 (by decide) ?_
  refine lv_iadd hx hb dL_law_323 ?_
  refine y_sld hx hb hX hbl hbA hS (i + 1) (nI_add _ _) (by omega) hL dL_law_324 ?_
  refine y_wri (xV d h ad) (As := [.int (xs (i + 1))]) (rest := []) ⟨hx, hb, hml, hown, hts⟩ (mX0_ever l D d h ad Ax a w f (xs (i + 1)) hok (hDx a w f)) (cwV 1 hts (lw_V q161 q162 q163 q22 q164) rfl rfl rfl (by decide +kernel) ⟨Nat.le_of_ble_eq_true rfl, Nat.le_of_ble_eq_true rfl⟩) (va_recv hKx hPx (ci := 0) (q0 := 0) rfl rfl) hKx hPx hPm (hDm b) hdm hAx hS hl rfl rfl (Nat.le_of_ble_eq_true rfl) dL_law_325 ⟨Nat.le_of_ble_eq_true rfl, Nat.le_of_ble_eq_true rfl⟩ (fun r1 u_ H locs hq1 hPx hPm hS => ?_)
  obtain ⟨a1, w1, f1⟩ := u_
  have hPx : va_P D vwCl (xW d h ad a1 w1 f1) H := hPx
  obtain ⟨⟨hok1, hf1⟩, hq1⟩ := hq1
  have hok1 : XOK a1 w1 f1 := hok1
  have hf1 : ∀ j, j < 5 → a1 j = a j := hf1
  refine lv_aload_n hx hb dL_law_328 rfl (lv_at hl 2 rfl) ?_
  refine lv_aload_n hx hb dL_law_329 rfl (lv_at hl 0 rfl) ?_
  refine lv_iload_n hx hb dL_law_330 rfl (lv_at hl 3 rfl) ?_
  refine lv_iconst (v := nI 1) hx hb dL_law_331 (by decide) ?_
  refine lv_iadd hx hb dL_law_332 ?_
  refine y_sld hx hb hX hbl hbA hS (i + 1) (nI_add _ _) (by omega) hL dL_law_333 ?_
  refine y_ro (As := [.int (xs (i + 1))]) (rest := [.int (r1)]) ⟨hx, hb, hml, hown, hts⟩ (mX1_ever l D d2 h2 ad2 b (xs (i + 1)) hgb) (cwV 1 hts (lw_V q281 q282 q283 q23 q284) rfl rfl rfl (by decide +kernel) ⟨Nat.le_of_ble_eq_true rfl, Nat.le_of_ble_eq_true rfl⟩) (va_recv hKm hPm (ci := 1) (q0 := 0) rfl rfl) hKm hPm hPx hS hl rfl rfl (Nat.le_of_ble_eq_true rfl) dL_law_334 ⟨Nat.le_of_ble_eq_true rfl, Nat.le_of_ble_eq_true rfl⟩ (fun r2 H locs hq2 hPm hPx hS => ?_)
  have hsm : r1 = r2 := ask_same (Q := fun n => r1 = evr a n) (Q' := fun n => r2 = evr b n) hq1 hq2 (fun n _ q1 q2 => by rw [q1, q2]; exact evr_congr hab n)
  refine lv_icmp_eq (tgt := 477) hx hb dL_law_337 (by decide) (fun _ => ?_) (fun c => absurd (hsm) c)
  exact J a1 w1 f1 b _ _ _ hok1 (fun j hj => (hf1 j hj).trans (hab j hj)) hPx hPm hS hl
set_option maxHeartbeats 4000000 in
set_option maxRecDepth 100000 in
theorem law_8 {p : Program} {l : Launch} {e : Env} {s : State} {m : MethodId} {below : List Frame} {meth : Method} {c : Code} {b0 L : Nat} {xs : Nat → Int32} {D : va_G} {d : Nat → ClassId} {h : Nat} {ad : Nat → Nat} {d2 : Nat → ClassId} {h2 : Nat} {ad2 : Nat → Nat} {Ax Am : Nat → Prop} (C0 : LawC p s m meth c b0 L xs D d h ad d2 h2 ad2 Ax Am) {i : Nat} (hi : i + 4 ≤ L) (J : LawJ p l e s m below meth c b0 D d h ad d2 h2 ad2 i 477) : LawJ p l e s m below meth c b0 D d h ad d2 h2 ad2 i 342 := by
  intro a w f b H locs ls hok hab hPx hPm hS hl
  obtain ⟨⟨hx, hb, hr, hml, hown, hts0, hX, hbl, hlocks, hgv⟩, hL, hKx, hKm, hDx, hDm, hAx, hAm, hdx⟩ := C0
  have hts : ∀ w ∈ lw_all, w.before _ s = true := fun w h => hts0 w (lw_all_tbl h)
  have hbA : ¬ (fun q : Nat => s.heap.size ≤ q) b0 := Nat.not_le.mpr hbl
  have hdm : ∀ q, Am q → ¬ Ax q := fun q h1 h2 => hdx q h2 h1
  have hg : DOK a := hok.1
  have hgb : DOK b := DOK_congr hab hg
  refine lv_aload_n hx hb dL_law_342 rfl (lv_at hl 1 rfl) ?_
  refine lv_aload_n hx hb dL_law_343 rfl (lv_at hl 0 rfl) ?_
  refine lv_iload_n hx hb dL_law_344 rfl (lv_at hl 3 rfl) ?_
  refine lv_iconst (v := nI 1) hx hb dL_law_345 (by decide) ?_
  refine lv_iadd hx hb dL_law_346 ?_
  refine y_sld hx hb hX hbl hbA hS (i + 1) (nI_add _ _) (by omega) hL dL_law_347 ?_
  refine y_wri (xV d h ad) (As := [.int (xs (i + 1))]) (rest := []) ⟨hx, hb, hml, hown, hts⟩ (mX0_ties l D d h ad Ax a w f (xs (i + 1)) hok (hDx a w f)) (cwV 1 hts (lw_V q169 q170 q171 q22 q172) rfl rfl rfl (by decide +kernel) ⟨Nat.le_of_ble_eq_true rfl, Nat.le_of_ble_eq_true rfl⟩) (va_recv hKx hPx (ci := 0) (q0 := 0) rfl rfl) hKx hPx hPm (hDm b) hdm hAx hS hl rfl rfl (Nat.le_of_ble_eq_true rfl) dL_law_348 ⟨Nat.le_of_ble_eq_true rfl, Nat.le_of_ble_eq_true rfl⟩ (fun r1 u_ H locs hq1 hPx hPm hS => ?_)
  obtain ⟨a1, w1, f1⟩ := u_
  have hPx : va_P D vwCl (xW d h ad a1 w1 f1) H := hPx
  obtain ⟨⟨hok1, hf1⟩, hq1⟩ := hq1
  have hok1 : XOK a1 w1 f1 := hok1
  have hf1 : ∀ j, j < 5 → a1 j = a j := hf1
  refine lv_aload_n hx hb dL_law_351 rfl (lv_at hl 2 rfl) ?_
  refine lv_aload_n hx hb dL_law_352 rfl (lv_at hl 0 rfl) ?_
  refine lv_iload_n hx hb dL_law_353 rfl (lv_at hl 3 rfl) ?_
  refine lv_iconst (v := nI 1) hx hb dL_law_354 (by decide) ?_
  refine lv_iadd hx hb dL_law_355 ?_
  refine y_sld hx hb hX hbl hbA hS (i + 1) (nI_add _ _) (by omega) hL dL_law_356 ?_
  refine y_ro (As := [.int (xs (i + 1))]) (rest := [.int (r1)]) ⟨hx, hb, hml, hown, hts⟩ (mX1_ties l D d2 h2 ad2 b (xs (i + 1)) hgb) (cwV 1 hts (lw_V q285 q286 q287 q23 q288) rfl rfl rfl (by decide +kernel) ⟨Nat.le_of_ble_eq_true rfl, Nat.le_of_ble_eq_true rfl⟩) (va_recv hKm hPm (ci := 1) (q0 := 0) rfl rfl) hKm hPm hPx hS hl rfl rfl (Nat.le_of_ble_eq_true rfl) dL_law_357 ⟨Nat.le_of_ble_eq_true rfl, Nat.le_of_ble_eq_true rfl⟩ (fun r2 H locs hq2 hPm hPx hS => ?_)
  have hsm : r1 = r2 := ask_same (Q := fun n => r1 = nI (tie a n)) (Q' := fun n => r2 = nI (tie b n)) hq1 hq2 (fun n _ q1 q2 => by rw [q1, q2, tie_congr hab n])
  refine lv_icmp_eq (tgt := 477) hx hb dL_law_360 (by decide) (fun _ => ?_) (fun c => absurd (hsm) c)
  exact J a1 w1 f1 b _ _ _ hok1 (fun j hj => (hf1 j hj).trans (hab j hj)) hPx hPm hS hl
set_option maxHeartbeats 4000000 in
set_option maxRecDepth 100000 in
theorem law_9 {p : Program} {l : Launch} {e : Env} {s : State} {m : MethodId} {below : List Frame} {meth : Method} {c : Code} {b0 L : Nat} {xs : Nat → Int32} {D : va_G} {d : Nat → ClassId} {h : Nat} {ad : Nat → Nat} {d2 : Nat → ClassId} {h2 : Nat} {ad2 : Nat → Nat} {Ax Am : Nat → Prop} (C0 : LawC p s m meth c b0 L xs D d h ad d2 h2 ad2 Ax Am) {i : Nat} (hi : i + 4 ≤ L) (J : LawJ p l e s m below meth c b0 D d h ad d2 h2 ad2 i 477) : LawJ p l e s m below meth c b0 D d h ad d2 h2 ad2 i 365 := by
  intro a w f b H locs ls hok hab hPx hPm hS hl
  obtain ⟨⟨hx, hb, hr, hml, hown, hts0, hX, hbl, hlocks, hgv⟩, hL, hKx, hKm, hDx, hDm, hAx, hAm, hdx⟩ := C0
  have hts : ∀ w ∈ lw_all, w.before _ s = true := fun w h => hts0 w (lw_all_tbl h)
  have hbA : ¬ (fun q : Nat => s.heap.size ≤ q) b0 := Nat.not_le.mpr hbl
  have hdm : ∀ q, Am q → ¬ Ax q := fun q h1 h2 => hdx q h2 h1
  have hg : DOK a := hok.1
  have hgb : DOK b := DOK_congr hab hg
  refine lv_aload_n hx hb dL_law_365 rfl (lv_at hl 1 rfl) ?_
  refine y_wri (xV d h ad) (As := []) (rest := []) ⟨hx, hb, hml, hown, hts⟩ (mX0_stages l D d h ad Ax a w f hok (hDx a w f)) (cwV 0 hts (lw_V q189 q190 q191 q22 q192) rfl rfl rfl (by decide +kernel) ⟨Nat.le_of_ble_eq_true rfl, Nat.le_of_ble_eq_true rfl⟩) (va_recv hKx hPx (ci := 0) (q0 := 0) rfl rfl) hKx hPx hPm (hDm b) hdm hAx hS hl rfl rfl (Nat.le_of_ble_eq_true rfl) dL_law_366 ⟨Nat.le_of_ble_eq_true rfl, Nat.le_of_ble_eq_true rfl⟩ (fun r1 u_ H locs hq1 hPx hPm hS => ?_)
  obtain ⟨a1, w1, f1⟩ := u_
  have hPx : va_P D vwCl (xW d h ad a1 w1 f1) H := hPx
  obtain ⟨⟨hok1, hf1⟩, hq1⟩ := hq1
  have hok1 : XOK a1 w1 f1 := hok1
  have hf1 : ∀ j, j < 5 → a1 j = a j := hf1
  refine lv_aload_n hx hb dL_law_369 rfl (lv_at hl 2 rfl) ?_
  refine y_wri (mW d2 h2 ad2) (As := []) (rest := [.int (r1)]) ⟨hx, hb, hml, hown, hts⟩ (mX1_stages l D d2 h2 ad2 Am b hgb (hDm b)) (cwV 0 hts (lw_V q289 q290 q291 q23 q292) rfl rfl rfl (by decide +kernel) ⟨Nat.le_of_ble_eq_true rfl, Nat.le_of_ble_eq_true rfl⟩) (va_recv hKm hPm (ci := 1) (q0 := 0) rfl rfl) hKm hPm hPx (hDx a1 w1 f1) hdx hAm hS hl rfl rfl (Nat.le_of_ble_eq_true rfl) dL_law_370 ⟨Nat.le_of_ble_eq_true rfl, Nat.le_of_ble_eq_true rfl⟩ (fun r2 u_ H locs hq2 hPm hPx hS => ?_)
  obtain ⟨b1, rfl⟩ : ∃ z, z = u_ := ⟨_, rfl⟩
  have hPm : va_P D vwCl (mW d2 h2 ad2 b1) H := hPm
  obtain ⟨hfb, hq2⟩ := hq2
  have hsm : r1 = r2 := by rw [hq1, hq2, show alw a = alw b from funext (fun n => alw_congr hab n)]
  refine lv_icmp_eq (tgt := 477) hx hb dL_law_373 (by decide) (fun _ => ?_) (fun c => absurd (hsm) c)
  exact J a1 w1 f1 b1 _ _ _ hok1 (fun j hj => ((hf1 j hj).trans (hab j hj)).trans (hfb j (by omega)).symm) hPx hPm hS hl
set_option maxHeartbeats 4000000 in
set_option maxRecDepth 100000 in
theorem law_10 {p : Program} {l : Launch} {e : Env} {s : State} {m : MethodId} {below : List Frame} {meth : Method} {c : Code} {b0 L : Nat} {xs : Nat → Int32} {D : va_G} {d : Nat → ClassId} {h : Nat} {ad : Nat → Nat} {d2 : Nat → ClassId} {h2 : Nat} {ad2 : Nat → Nat} {Ax Am : Nat → Prop} (C0 : LawC p s m meth c b0 L xs D d h ad d2 h2 ad2 Ax Am) {i : Nat} (hi : i + 4 ≤ L) (J : LawJ p l e s m below meth c b0 D d h ad d2 h2 ad2 i 477) : LawJ p l e s m below meth c b0 D d h ad d2 h2 ad2 i 378 := by
  intro a w f b H locs ls hok hab hPx hPm hS hl
  obtain ⟨⟨hx, hb, hr, hml, hown, hts0, hX, hbl, hlocks, hgv⟩, hL, hKx, hKm, hDx, hDm, hAx, hAm, hdx⟩ := C0
  have hts : ∀ w ∈ lw_all, w.before _ s = true := fun w h => hts0 w (lw_all_tbl h)
  have hbA : ¬ (fun q : Nat => s.heap.size ≤ q) b0 := Nat.not_le.mpr hbl
  have hdm : ∀ q, Am q → ¬ Ax q := fun q h1 h2 => hdx q h2 h1
  have hg : DOK a := hok.1
  have hgb : DOK b := DOK_congr hab hg
  refine lv_aload_n hx hb dL_law_378 rfl (lv_at hl 1 rfl) ?_
  refine y_wri (xV d h ad) (As := []) (rest := []) ⟨hx, hb, hml, hown, hts⟩ (mX0_worst l D d h ad Ax a w f hok (hDx a w f)) (cwV 0 hts (lw_V q193 q194 q195 q22 q196) rfl rfl rfl (by decide +kernel) ⟨Nat.le_of_ble_eq_true rfl, Nat.le_of_ble_eq_true rfl⟩) (va_recv hKx hPx (ci := 0) (q0 := 0) rfl rfl) hKx hPx hPm (hDm b) hdm hAx hS hl rfl rfl (Nat.le_of_ble_eq_true rfl) dL_law_379 ⟨Nat.le_of_ble_eq_true rfl, Nat.le_of_ble_eq_true rfl⟩ (fun r1 u_ H locs hq1 hPx hPm hS => ?_)
  obtain ⟨a1, w1, f1⟩ := u_
  have hPx : va_P D vwCl (xW d h ad a1 w1 f1) H := hPx
  obtain ⟨⟨hok1, hf1⟩, hq1⟩ := hq1
  have hok1 : XOK a1 w1 f1 := hok1
  have hf1 : ∀ j, j < 5 → a1 j = a j := hf1
  refine lv_aload_n hx hb dL_law_382 rfl (lv_at hl 2 rfl) ?_
  refine y_ro (As := []) (rest := [.int (r1)]) ⟨hx, hb, hml, hown, hts⟩ (mX1_worst l D d2 h2 ad2 b hgb) (cwV 0 hts (lw_V q294 q295 q296 q23 q297) rfl rfl rfl (by decide +kernel) ⟨Nat.le_of_ble_eq_true rfl, Nat.le_of_ble_eq_true rfl⟩) (va_recv hKm hPm (ci := 1) (q0 := 0) rfl rfl) hKm hPm hPx hS hl rfl rfl (Nat.le_of_ble_eq_true rfl) dL_law_383 ⟨Nat.le_of_ble_eq_true rfl, Nat.le_of_ble_eq_true rfl⟩ (fun r2 H locs hq2 hPm hPx hS => ?_)
  have hsm : r1 = r2 := by rw [hq1, hq2, show lst a = lst b from funext (fun n => lst_congr hab n)]
  refine lv_icmp_eq (tgt := 477) hx hb dL_law_386 (by decide) (fun _ => ?_) (fun c => absurd (hsm) c)
  exact J a1 w1 f1 b _ _ _ hok1 (fun j hj => (hf1 j hj).trans (hab j hj)) hPx hPm hS hl
set_option maxHeartbeats 4000000 in
set_option maxRecDepth 100000 in
theorem law_11 {p : Program} {l : Launch} {e : Env} {s : State} {m : MethodId} {below : List Frame} {meth : Method} {c : Code} {b0 L : Nat} {xs : Nat → Int32} {D : va_G} {d : Nat → ClassId} {h : Nat} {ad : Nat → Nat} {d2 : Nat → ClassId} {h2 : Nat} {ad2 : Nat → Nat} {Ax Am : Nat → Prop} (C0 : LawC p s m meth c b0 L xs D d h ad d2 h2 ad2 Ax Am) {i : Nat} (hi : i + 4 ≤ L) (J : LawJ p l e s m below meth c b0 D d h ad d2 h2 ad2 i 477) : LawJ p l e s m below meth c b0 D d h ad d2 h2 ad2 i 391 := by
  intro a w f b H locs ls hok hab hPx hPm hS hl
  obtain ⟨⟨hx, hb, hr, hml, hown, hts0, hX, hbl, hlocks, hgv⟩, hL, hKx, hKm, hDx, hDm, hAx, hAm, hdx⟩ := C0
  have hts : ∀ w ∈ lw_all, w.before _ s = true := fun w h => hts0 w (lw_all_tbl h)
  have hbA : ¬ (fun q : Nat => s.heap.size ≤ q) b0 := Nat.not_le.mpr hbl
  have hdm : ∀ q, Am q → ¬ Ax q := fun q h1 h2 => hdx q h2 h1
  have hg : DOK a := hok.1
  have hgb : DOK b := DOK_congr hab hg
  refine lv_aload_n hx hb dL_law_391 rfl (lv_at hl 1 rfl) ?_
  refine lv_aload_n hx hb dL_law_392 rfl (lv_at hl 0 rfl) ?_
  refine lv_iload_n hx hb dL_law_393 rfl (lv_at hl 3 rfl) ?_
  refine lv_iconst (v := nI 1) hx hb dL_law_394 (by decide) ?_
  refine lv_iadd hx hb dL_law_395 ?_
  refine y_sld hx hb hX hbl hbA hS (i + 1) (nI_add _ _) (by omega) hL dL_law_396 ?_
  refine lv_aload_n hx hb dL_law_397 rfl (lv_at hl 0 rfl) ?_
  refine lv_iload_n hx hb dL_law_398 rfl (lv_at hl 3 rfl) ?_
  refine lv_iconst (v := nI 2) hx hb dL_law_399 (by decide) ?_
  refine lv_iadd hx hb dL_law_400 ?_
  refine y_sld hx hb hX hbl hbA hS (i + 2) (nI_add _ _) (by omega) hL dL_law_401 ?_
  refine lv_aload_n hx hb dL_law_402 rfl (lv_at hl 0 rfl) ?_
  refine lv_iload_n hx hb dL_law_403 rfl (lv_at hl 3 rfl) ?_
  refine lv_iconst (v := nI 3) hx hb dL_law_404 (by decide) ?_
  refine lv_iadd hx hb dL_law_405 ?_
  refine y_sld hx hb hX hbl hbA hS (i + 3) (nI_add _ _) (by omega) hL dL_law_406 ?_
  refine y_wri (xV d h ad) (As := [.int (xs (i + 1)), .int (xs (i + 2)), .int (xs (i + 3))]) (rest := []) ⟨hx, hb, hml, hown, hts⟩ (mX0_spare l D d h ad Ax a w f (xs (i + 1)) (xs (i + 2)) (xs (i + 3)) hok (hDx a w f)) (cwV 3 hts (lw_V q197 q198 q199 q22 q200) rfl rfl rfl (by decide +kernel) ⟨Nat.le_of_ble_eq_true rfl, Nat.le_of_ble_eq_true rfl⟩) (va_recv hKx hPx (ci := 0) (q0 := 0) rfl rfl) hKx hPx hPm (hDm b) hdm hAx hS hl rfl rfl (Nat.le_of_ble_eq_true rfl) dL_law_407 ⟨Nat.le_of_ble_eq_true rfl, Nat.le_of_ble_eq_true rfl⟩ (fun r1 u_ H locs hq1 hPx hPm hS => ?_)
  obtain ⟨a1, w1, f1⟩ := u_
  have hPx : va_P D vwCl (xW d h ad a1 w1 f1) H := hPx
  obtain ⟨⟨hok1, hf1⟩, hq1⟩ := hq1
  have hok1 : XOK a1 w1 f1 := hok1
  have hf1 : ∀ j, j < 5 → a1 j = a j := hf1
  refine lv_aload_n hx hb dL_law_410 rfl (lv_at hl 2 rfl) ?_
  refine lv_aload_n hx hb dL_law_411 rfl (lv_at hl 0 rfl) ?_
  refine lv_iload_n hx hb dL_law_412 rfl (lv_at hl 3 rfl) ?_
  refine lv_iconst (v := nI 1) hx hb dL_law_413 (by decide) ?_
  refine lv_iadd hx hb dL_law_414 ?_
  refine y_sld hx hb hX hbl hbA hS (i + 1) (nI_add _ _) (by omega) hL dL_law_415 ?_
  refine lv_aload_n hx hb dL_law_416 rfl (lv_at hl 0 rfl) ?_
  refine lv_iload_n hx hb dL_law_417 rfl (lv_at hl 3 rfl) ?_
  refine lv_iconst (v := nI 2) hx hb dL_law_418 (by decide) ?_
  refine lv_iadd hx hb dL_law_419 ?_
  refine y_sld hx hb hX hbl hbA hS (i + 2) (nI_add _ _) (by omega) hL dL_law_420 ?_
  refine lv_aload_n hx hb dL_law_421 rfl (lv_at hl 0 rfl) ?_
  refine lv_iload_n hx hb dL_law_422 rfl (lv_at hl 3 rfl) ?_
  refine lv_iconst (v := nI 3) hx hb dL_law_423 (by decide) ?_
  refine lv_iadd hx hb dL_law_424 ?_
  refine y_sld hx hb hX hbl hbA hS (i + 3) (nI_add _ _) (by omega) hL dL_law_425 ?_
  refine y_wri (mW d2 h2 ad2) (As := [.int (xs (i + 1)), .int (xs (i + 2)), .int (xs (i + 3))]) (rest := [.int (r1)]) ⟨hx, hb, hml, hown, hts⟩ (mX1_spare l D d2 h2 ad2 Am b (xs (i + 1)) (xs (i + 2)) (xs (i + 3)) hgb (hDm b)) (cwV 3 hts (lw_V q298 q299 q300 q23 q301) rfl rfl rfl (by decide +kernel) ⟨Nat.le_of_ble_eq_true rfl, Nat.le_of_ble_eq_true rfl⟩) (va_recv hKm hPm (ci := 1) (q0 := 0) rfl rfl) hKm hPm hPx (hDx a1 w1 f1) hdx hAm hS hl rfl rfl (Nat.le_of_ble_eq_true rfl) dL_law_426 ⟨Nat.le_of_ble_eq_true rfl, Nat.le_of_ble_eq_true rfl⟩ (fun r2 u_ H locs hq2 hPm hPx hS => ?_)
  obtain ⟨b1, rfl⟩ : ∃ z, z = u_ := ⟨_, rfl⟩
  have hPm : va_P D vwCl (mW d2 h2 ad2 b1) H := hPm
  obtain ⟨hfb, hq2⟩ := hq2
  have hsm : r1 = r2 := spare_same hab hq1 hq2
  refine lv_icmp_eq (tgt := 477) hx hb dL_law_429 (by decide) (fun _ => ?_) (fun c => absurd (hsm) c)
  exact J a1 w1 f1 b1 _ _ _ hok1 (fun j hj => by rw [hfb]; exact (hf1 j hj).trans (hab j hj)) hPx hPm hS hl
set_option maxHeartbeats 4000000 in
set_option maxRecDepth 100000 in
theorem law_12 {p : Program} {l : Launch} {e : Env} {s : State} {m : MethodId} {below : List Frame} {meth : Method} {c : Code} {b0 L : Nat} {xs : Nat → Int32} {D : va_G} {d : Nat → ClassId} {h : Nat} {ad : Nat → Nat} {d2 : Nat → ClassId} {h2 : Nat} {ad2 : Nat → Nat} {Ax Am : Nat → Prop} (C0 : LawC p s m meth c b0 L xs D d h ad d2 h2 ad2 Ax Am) {i : Nat} (hi : i + 4 ≤ L) (J : LawJ p l e s m below meth c b0 D d h ad d2 h2 ad2 i 477) : LawJ p l e s m below meth c b0 D d h ad d2 h2 ad2 i 434 := by
  intro a w f b H locs ls hok hab hPx hPm hS hl
  obtain ⟨⟨hx, hb, hr, hml, hown, hts0, hX, hbl, hlocks, hgv⟩, hL, hKx, hKm, hDx, hDm, hAx, hAm, hdx⟩ := C0
  have hts : ∀ w ∈ lw_all, w.before _ s = true := fun w h => hts0 w (lw_all_tbl h)
  have hbA : ¬ (fun q : Nat => s.heap.size ≤ q) b0 := Nat.not_le.mpr hbl
  have hdm : ∀ q, Am q → ¬ Ax q := fun q h1 h2 => hdx q h2 h1
  have hg : DOK a := hok.1
  have hgb : DOK b := DOK_congr hab hg
  refine lv_aload_n hx hb dL_law_434 rfl (lv_at hl 1 rfl) ?_
  refine lv_aload_n hx hb dL_law_435 rfl (lv_at hl 0 rfl) ?_
  refine lv_iload_n hx hb dL_law_436 rfl (lv_at hl 3 rfl) ?_
  refine lv_iconst (v := nI 1) hx hb dL_law_437 (by decide) ?_
  refine lv_iadd hx hb dL_law_438 ?_
  refine y_sld hx hb hX hbl hbA hS (i + 1) (nI_add _ _) (by omega) hL dL_law_439 ?_
  refine lv_aload_n hx hb dL_law_440 rfl (lv_at hl 0 rfl) ?_
  refine lv_iload_n hx hb dL_law_441 rfl (lv_at hl 3 rfl) ?_
  refine lv_iconst (v := nI 2) hx hb dL_law_442 (by decide) ?_
  refine lv_iadd hx hb dL_law_443 ?_
  refine y_sld hx hb hX hbl hbA hS (i + 2) (nI_add _ _) (by omega) hL dL_law_444 ?_
  refine lv_aload_n hx hb dL_law_445 rfl (lv_at hl 0 rfl) ?_
  refine lv_iload_n hx hb dL_law_446 rfl (lv_at hl 3 rfl) ?_
  refine lv_iconst (v := nI 3) hx hb dL_law_447 (by decide) ?_
  refine lv_iadd hx hb dL_law_448 ?_
  refine y_sld hx hb hX hbl hbA hS (i + 3) (nI_add _ _) (by omega) hL dL_law_449 ?_
  refine y_wri (xV d h ad) (As := [.int (xs (i + 1)), .int (xs (i + 2)), .int (xs (i + 3))]) (rest := []) ⟨hx, hb, hml, hown, hts⟩ (mX0_separates l D d h ad Ax a w f (xs (i + 1)) (xs (i + 2)) (xs (i + 3)) hok (hDx a w f)) (cwV 3 hts (lw_V q206 q207 q208 q22 q209) rfl rfl rfl (by decide +kernel) ⟨Nat.le_of_ble_eq_true rfl, Nat.le_of_ble_eq_true rfl⟩) (va_recv hKx hPx (ci := 0) (q0 := 0) rfl rfl) hKx hPx hPm (hDm b) hdm hAx hS hl rfl rfl (Nat.le_of_ble_eq_true rfl) dL_law_450 ⟨Nat.le_of_ble_eq_true rfl, Nat.le_of_ble_eq_true rfl⟩ (fun r1 u_ H locs hq1 hPx hPm hS => ?_)
  obtain ⟨a1, w1, f1⟩ := u_
  have hPx : va_P D vwCl (xW d h ad a1 w1 f1) H := hPx
  obtain ⟨⟨hok1, hf1⟩, hq1⟩ := hq1
  have hok1 : XOK a1 w1 f1 := hok1
  have hf1 : ∀ j, j < 5 → a1 j = a j := hf1
  refine lv_aload_n hx hb dL_law_453 rfl (lv_at hl 2 rfl) ?_
  refine lv_aload_n hx hb dL_law_454 rfl (lv_at hl 0 rfl) ?_
  refine lv_iload_n hx hb dL_law_455 rfl (lv_at hl 3 rfl) ?_
  refine lv_iconst (v := nI 1) hx hb dL_law_456 (by decide) ?_
  refine lv_iadd hx hb dL_law_457 ?_
  refine y_sld hx hb hX hbl hbA hS (i + 1) (nI_add _ _) (by omega) hL dL_law_458 ?_
  refine lv_aload_n hx hb dL_law_459 rfl (lv_at hl 0 rfl) ?_
  refine lv_iload_n hx hb dL_law_460 rfl (lv_at hl 3 rfl) ?_
  refine lv_iconst (v := nI 2) hx hb dL_law_461 (by decide) ?_
  refine lv_iadd hx hb dL_law_462 ?_
  refine y_sld hx hb hX hbl hbA hS (i + 2) (nI_add _ _) (by omega) hL dL_law_463 ?_
  refine lv_aload_n hx hb dL_law_464 rfl (lv_at hl 0 rfl) ?_
  refine lv_iload_n hx hb dL_law_465 rfl (lv_at hl 3 rfl) ?_
  refine lv_iconst (v := nI 3) hx hb dL_law_466 (by decide) ?_
  refine lv_iadd hx hb dL_law_467 ?_
  refine y_sld hx hb hX hbl hbA hS (i + 3) (nI_add _ _) (by omega) hL dL_law_468 ?_
  refine y_ro (As := [.int (xs (i + 1)), .int (xs (i + 2)), .int (xs (i + 3))]) (rest := [.int (r1)]) ⟨hx, hb, hml, hown, hts⟩ (mX1_separates l D d2 h2 ad2 b (xs (i + 1)) (xs (i + 2)) (xs (i + 3)) hgb) (cwV 3 hts (lw_V q303 q304 q305 q23 q306) rfl rfl rfl (by decide +kernel) ⟨Nat.le_of_ble_eq_true rfl, Nat.le_of_ble_eq_true rfl⟩) (va_recv hKm hPm (ci := 1) (q0 := 0) rfl rfl) hKm hPm hPx hS hl rfl rfl (Nat.le_of_ble_eq_true rfl) dL_law_469 ⟨Nat.le_of_ble_eq_true rfl, Nat.le_of_ble_eq_true rfl⟩ (fun r2 H locs hq2 hPm hPx hS => ?_)
  have hsm : r1 = r2 := sep_same hab hq1 hq2
  refine lv_icmp_eq (tgt := 477) hx hb dL_law_472 (by decide) (fun _ => ?_) (fun c => absurd (hsm) c)
  exact J a1 w1 f1 b _ _ _ hok1 (fun j hj => (hf1 j hj).trans (hab j hj)) hPx hPm hS hl
end
section
/-! the law's loop, and its start -/
set_option maxHeartbeats 4000000 in
set_option maxRecDepth 100000 in
theorem law_loop {p : Program} {l : Launch} {e : Env} {s : State} {m : MethodId} {below : List Frame} {meth : Method} {c : Code} {b0 L : Nat} {xs : Nat → Int32} {D : va_G} {d : Nat → ClassId} {h : Nat} {ad : Nat → Nat} {d2 : Nat → ClassId} {h2 : Nat} {ad2 : Nat → Nat} {Ax Am : Nat → Prop} (C0 : LawC p s m meth c b0 L xs D d h ad d2 h2 ad2 Ax Am) : ∀ (n i : Nat), i ≤ 260 → 261 ≤ i + n → LawJ p l e s m below meth c b0 D d h ad d2 h2 ad2 i 18 := by
  intro n
  induction n with
  | zero => intro i h1 h2; exact absurd h2 (by omega)
  | succ n ih =>
    intro i h1 h2n
    intro a w f b H locs ls hok hab hPx hPm hS hl
    have C1 := C0
    obtain ⟨⟨hx, hb, hr, hml, hown, hts0, hX, hbl, hlocks, hgv⟩, hL, hKx, hKm, hDx, hDm, hAx, hAm, hdx⟩ := C1
    have hbA : ¬ (fun q : Nat => s.heap.size ≤ q) b0 := Nat.not_le.mpr hbl
    have hz4 : (nI L - nI 4).toInt = (L : Int) - 4 := pk_sub_toInt (by omega) (by omega)
    have hzi : (nI i).toInt = (i : Int) := z_nI (by omega)
    refine lv_iload_n hx hb dL_law_18 rfl (lv_at hl 3 rfl) ?_
    refine lv_aload_n hx hb dL_law_19 rfl (lv_at hl 0 rfl) ?_
    refine va_slen hx hb hX hbl hbA hS dL_law_20 ?_
    refine lv_iconst (v := nI 4) hx hb dL_law_21 (by decide) ?_
    refine lv_isub hx hb dL_law_22 ?_
    refine lv_icmp_gt (tgt := 483) hx hb dL_law_23 (by decide) (fun c1 => ?_) (fun c1 => ?_)
    · refine lv_iconst (v := nI 1) hx hb dL_law_483 (by decide) ?_
      refine va_forget (fun q hq => hS.2.2 q hq) ?_
      refine W.widen (k := 600000) (n := 7290000) (Nat.le_of_ble_eq_true rfl) (Nat.le_of_ble_eq_true rfl) ?_
      exact lw_ret hx hb hr hlocks dL_law_484
    · have c1 : ¬ nI L - nI 4 < nI i := c1
      rw [z_lt, hz4, hzi] at c1
      have hi : i + 4 ≤ L := by omega
      have J : LawJ p l e s m below meth c b0 D d h ad d2 h2 ad2 i 477 := by
        intro a w f b H locs ls hok hab hPx hPm hS hl
        refine lv_iinc (v := nI (i + 4)) (lv' := [(3, .int (nI (i + 4))), (0, .ref (b0)), (1, .ref (h)), (2, .ref (h2))]) hx hb dL_law_477 hl (k := 3) rfl (nI_add i 4) (by decide) rfl (fun ls hl => ?_)
        refine lv_goto (tgt := 18) hx hb dL_law_480 (by decide) ?_
        exact ih (i + 4) (by omega) (by omega) a w f b _ _ _ hok hab hPx hPm hS (lv_sub hl [1, 2, 3, 0] rfl)
      refine lv_aload_n hx hb dL_law_26 rfl (lv_at hl 0 rfl) ?_
      refine lv_iload_n hx hb dL_law_27 rfl (lv_at hl 3 rfl) ?_
      refine y_sld hx hb hX hbl hbA hS (i) rfl (by omega) hL dL_law_28 ?_
      refine lv_bipush (v := nI 15) hx hb dL_law_29 (by decide) ?_
      refine lv_iand hx hb dL_law_31 ?_
      obtain ⟨j, hj, ej⟩ := pk_andE (xs i) (m := nI 15) 4 rfl
      have hj : j < 16 := hj
      refine x_top (y := nI j) ej ?_
      rcases (show j = 0 ∨ j = 1 ∨ j = 2 ∨ j = 3 ∨ j = 4 ∨ j = 5 ∨ j = 6 ∨ j = 7 ∨ j = 8 ∨ j = 9 ∨ j = 10 ∨ j = 11 ∨ j = 12 ∨ 13 ≤ j by omega) with rfl | rfl | rfl | rfl | rfl | rfl | rfl | rfl | rfl | rfl | rfl | rfl | rfl | hj2
      · refine lv_tableIn (tgt := 100) hx hb dL_law_32 (by decide) (by decide) rfl (by decide) ?_
        exact law_0 C0 hi J a w f b _ _ _ hok hab hPx hPm hS hl
      · refine lv_tableIn (tgt := 143) hx hb dL_law_32 (by decide) (by decide) rfl (by decide) ?_
        exact law_1 C0 hi J a w f b _ _ _ hok hab hPx hPm hS hl
      · refine lv_tableIn (tgt := 186) hx hb dL_law_32 (by decide) (by decide) rfl (by decide) ?_
        exact law_2 C0 hi J a w f b _ _ _ hok hab hPx hPm hS hl
      · refine lv_tableIn (tgt := 229) hx hb dL_law_32 (by decide) (by decide) rfl (by decide) ?_
        exact law_3 C0 hi J a w f b _ _ _ hok hab hPx hPm hS hl
      · refine lv_tableIn (tgt := 240) hx hb dL_law_32 (by decide) (by decide) rfl (by decide) ?_
        exact law_4 C0 hi J a w f b _ _ _ hok hab hPx hPm hS hl
      · refine lv_tableIn (tgt := 273) hx hb dL_law_32 (by decide) (by decide) rfl (by decide) ?_
        exact law_5 C0 hi J a w f b _ _ _ hok hab hPx hPm hS hl
      · refine lv_tableIn (tgt := 296) hx hb dL_law_32 (by decide) (by decide) rfl (by decide) ?_
        exact law_6 C0 hi J a w f b _ _ _ hok hab hPx hPm hS hl
      · refine lv_tableIn (tgt := 319) hx hb dL_law_32 (by decide) (by decide) rfl (by decide) ?_
        exact law_7 C0 hi J a w f b _ _ _ hok hab hPx hPm hS hl
      · refine lv_tableIn (tgt := 342) hx hb dL_law_32 (by decide) (by decide) rfl (by decide) ?_
        exact law_8 C0 hi J a w f b _ _ _ hok hab hPx hPm hS hl
      · refine lv_tableIn (tgt := 365) hx hb dL_law_32 (by decide) (by decide) rfl (by decide) ?_
        exact law_9 C0 hi J a w f b _ _ _ hok hab hPx hPm hS hl
      · refine lv_tableIn (tgt := 378) hx hb dL_law_32 (by decide) (by decide) rfl (by decide) ?_
        exact law_10 C0 hi J a w f b _ _ _ hok hab hPx hPm hS hl
      · refine lv_tableIn (tgt := 391) hx hb dL_law_32 (by decide) (by decide) rfl (by decide) ?_
        exact law_11 C0 hi J a w f b _ _ _ hok hab hPx hPm hS hl
      · refine lv_tableIn (tgt := 434) hx hb dL_law_32 (by decide) (by decide) rfl (by decide) ?_
        exact law_12 C0 hi J a w f b _ _ _ hok hab hPx hPm hS hl
      · refine lv_tableOut (tgt := 477) hx hb dL_law_32 (Or.inr (by rw [z_nI (by omega)]; omega)) (by decide) ?_
        exact J a w f b _ _ _ hok hab hPx hPm hS hl
set_option maxHeartbeats 4000000 in
set_option maxRecDepth 100000 in
/-- from the entry, for every script of at most 256 ints, the law comes to its end with true -/
theorem whole_start {p : Program} {e : Env} {s : State} {m : MethodId} {below : List Frame} {meth : Method} {c : Code} (l : Launch) {b L : Nat} {xs : Nat → Int32} (hL : L ≤ 256) (C0 : lw_At p s m meth c b L xs) : W p l e room_1 s m #[Value.ref b] below meth c s.heap [] 0 0 (lw_Z below #[Value.ref b] s) (entryFrame m ([Value.ref b] : List Value).toArray 4) := by
  have C9 := C0
  obtain ⟨hx, hb, hr, hml, hown, hts0, hX, hbl, hlocks, hgv⟩ := C9
  have hts : ∀ w ∈ lw_all, w.before _ s = true := fun w h => hts0 w (lw_all_tbl h)
  have hA : ∀ q : Nat, s.heap.size ≤ q → (fun q : Nat => s.heap.size ≤ q) q := fun _ h => h
  obtain ⟨c0, iS0, hKn0⟩ := u_known (C := RX0) (T := TX0) (N := 14) (n := 14) hts in_X0 (hts _ q25)
  obtain ⟨c1, iS1, hKn1⟩ := u_known (C := RX1) (T := TX1) (N := 6) (n := 6) hts in_X1 (hts _ q211)
  obtain ⟨D, hKc⟩ : ∃ D : va_G, ∀ (k : Nat) (q : vw_C), vwCl[k]? = some q → u_Kn s q.1 q.2.1 q.2.2 (D.1 k) (D.2 k) := by
    refine ⟨(fun k => if k = 0 then c0 else c1, fun k => if k = 0 then iS0 else iS1), ?_⟩
    intro k q hq
    match k, hq with
    | 0, hq => cases hq; exact hKn0
    | 1, hq => cases hq; exact hKn1
    | k + 2, hq => simp [vwCl] at hq
  have hS : va_S (fun q : Nat => s.heap.size ≤ q) s.heap s.heap [] := va_S.rf
  have hK : va_K D vwCl [] s := ⟨hKc, fun k q h => by simp at h⟩
  have hP : va_P D vwCl [] s.heap := x_P0
  have hD : va_D (fun q : Nat => s.heap.size ≤ q) [] := ⟨fun i j p q h => by simp at h, fun k q h => by simp at h⟩
  have hl := lv_entry ([.ref b]) (n := 4) (Nat.le_of_ble_eq_true rfl)
  rw [lg_entry_eq]
  generalize (lg_sl ([.ref b]) ++ List.replicate (4 - (lg_sl ([.ref b])).length) Slot.unset).toArray = ls at hl ⊢
  have hl : lv_has ls 4 [(0, .ref b)] := hl
  refine va_new (D := D) (ci := 0) (fs := xf0) (C := RX0) (T := TX0) (N := 14) hx hb hts in_X0 tyX0 tyX0_ok hown (hts _ q24) (hts _ q25) (hts _ q22) hK hP hD hS hA rfl (fun j hj => by rcases (show j = 0 ∨ j = 1 ∨ j = 2 ∨ j = 3 ∨ j = 4 ∨ j = 5 ∨ j = 6 ∨ j = 7 ∨ j = 8 ∨ j = 9 ∨ j = 10 ∨ j = 11 ∨ j = 12 ∨ j = 13 by omega) with rfl | rfl | rfl | rfl | rfl | rfl | rfl | rfl | rfl | rfl | rfl | rfl | rfl | rfl <;> rfl) (Nat.le_of_ble_eq_true rfl) (Nat.le_of_ble_eq_true rfl) dL_law_0 (fun h H hP hD hS => ?_)
  have hP : va_P D vwCl [(h, .inr (0, xf0))] H := hP
  have hD : va_D (fun q : Nat => s.heap.size ≤ q) [(h, .inr (0, xf0))] := hD
  refine W.widen (k := 1) (n := 14) (Nat.le_of_ble_eq_true rfl) (Nat.le_of_ble_eq_true rfl) ?_
  refine lv_dup hx hb dL_law_3 rfl ?_
  have hF1 := va_free (wc := [(h, .inr (0, xf0))]) hD hS hA [0] rfl
  refine va_callv (va_runI (As := []) (rest := [.ref h]) ⟨hx, hb, hml, hown, hts⟩ (mX0_init l D H.size h) (cwI 0 hts (lw_meth q28) rfl rfl rfl (hts _ q22) (hts _ q26) (hts _ q27) rfl (by decide +kernel) ⟨Nat.le_of_ble_eq_true rfl, Nat.le_of_ble_eq_true rfl⟩) ⟨x_Pi_blind, fun U hU hW => ⟨rfl, by rw [hU], by rw [hU]; exact hP, va_K.moved hW.alike hK, hD.weaken (fun _ _ _ _ => trivial)⟩⟩ rfl rfl hl.1 rfl (lv_room (Nat.le_of_ble_eq_true rfl)) dL_law_4 ⟨Nat.le_of_ble_eq_true rfl, Nat.le_of_ble_eq_true rfl⟩) hS (fun q _ h => hF1 q h) hF1 (fun u t H1 locs ht hvm hw1 hB hz1 hk1 hS => ?_)
  obtain ⟨d, ad⟩ := u
  obtain ⟨hPx, hKx, hDx⟩ := hB
  rw [ht] at hPx
  have hKx : va_K D vwCl (xT d) s := va_K.moved hvm.symm hKx
  have hPx : va_P D vwCl (xW d h ad z0 (-1) 0) H1 := hPx
  have hDx : va_D (va_A [(h, .inr (0, xf0))] H.size) (xW d h ad z0 (-1) 0) := hDx
  refine W.widen (k := 13) (n := 226) (Nat.le_of_ble_eq_true rfl) (Nat.le_of_ble_eq_true rfl) ?_
  refine lv_astore_n (lv' := [(1, .ref h), (0, .ref b)]) hx hb dL_law_7 rfl hl (by decide) rfl (fun ls hl => ?_)
  have hDx : va_D (fun q : Nat => s.heap.size ≤ q) (xW d h ad z0 (-1) 0) := ⟨hDx.1, fun k q hk => hF1 q.1 (hDx.2 k q hk)⟩
  refine va_new (D := D) (ci := 1) (fs := mf0) (C := RX1) (T := TX1) (N := 6) hx hb hts in_X1 tyX1 tyX1_ok hown (hts _ q210) (hts _ q211) (hts _ q23) hK hPx hDx hS hA rfl (fun j hj => by rcases (show j = 0 ∨ j = 1 ∨ j = 2 ∨ j = 3 ∨ j = 4 ∨ j = 5 by omega) with rfl | rfl | rfl | rfl | rfl | rfl <;> rfl) (Nat.le_of_ble_eq_true rfl) (Nat.le_of_ble_eq_true rfl) dL_law_8 (fun h2 H2 hP2 hD2 hS => ?_)
  refine W.widen (k := 14) (n := 232) (Nat.le_of_ble_eq_true rfl) (Nat.le_of_ble_eq_true rfl) ?_
  refine lv_dup hx hb dL_law_11 rfl ?_
  have hPx : va_P D vwCl (xW d h ad z0 (-1) 0) H2 := hP2.sub [0, 1, 2, 3, 4, 5, 6, 7, 8, 9, 10, 11, 12] rfl
  have hPn : va_P D vwCl [(h2, .inr (1, mf0))] H2 := hP2.sub [13] rfl
  have hDn : va_D (fun q : Nat => s.heap.size ≤ q) [(h2, .inr (1, mf0))] := hD2.sub [13] (by decide) rfl
  have hF2 := va_free (wc := [(h2, .inr (1, mf0))]) hD2 hS hA [13] rfl
  refine va_callv (va_runI (As := []) (rest := [.ref h2]) ⟨hx, hb, hml, hown, hts⟩ (mX1_init l D H2.size h2) (cwI 0 hts (lw_meth q214) rfl rfl rfl (hts _ q23) (hts _ q212) (hts _ q213) rfl (by decide +kernel) ⟨Nat.le_of_ble_eq_true rfl, Nat.le_of_ble_eq_true rfl⟩) ⟨x_Pi_blind, fun U hU hW => ⟨rfl, by rw [hU], by rw [hU]; exact hPn, va_K.moved hW.alike hK, hDn.weaken (fun _ _ _ _ => trivial)⟩⟩ rfl rfl hl.1 rfl (lv_room (Nat.le_of_ble_eq_true rfl)) dL_law_12 ⟨Nat.le_of_ble_eq_true rfl, Nat.le_of_ble_eq_true rfl⟩) hS (fun q _ h => hF2 q h) hF2 (fun u t H3 locs ht hvm hw1 hB hz2 hk2 hS => ?_)
  obtain ⟨d2, ad2⟩ := u
  obtain ⟨hPm, hKm, hDm⟩ := hB
  rw [ht] at hPm
  have hKm : va_K D vwCl (mT d2) s := va_K.moved hvm.symm hKm
  have hPm : va_P D vwCl (mW d2 h2 ad2 z0) H3 := hPm
  have hDm : va_D (va_A [(h2, .inr (1, mf0))] H2.size) (mW d2 h2 ad2 z0) := hDm
  have hxn : ∀ (k : Nat) (q : Nat × va_E), (xW d h ad z0 (-1) 0)[k]? = some q → q.1 < H2.size ∧ ¬ va_A [(h2, .inr (1, mf0))] H2.size q.1 := by
    intro k q hk
    have hlt := (hPx k q hk).lt
    refine ⟨hlt, fun hq => ?_⟩
    rcases hq with ⟨j, e9, hj⟩ | hq
    · have hk13 : k < 13 := (List.getElem?_eq_some_iff.mp hk).1
      have e1 : ((xW d h ad z0 (-1) 0) ++ [(h2, .inr (1, mf0))])[k]? = some q := by rw [List.getElem?_append_left hk13]; exact hk
      have e2 : ((xW d h ad z0 (-1) 0) ++ [(h2, .inr (1, mf0))])[13]? = some (h2, .inr (1, mf0)) := rfl
      have hj0 : q.1 = h2 := by
        match j, hj with
        | 0, hj => exact (congrArg Prod.fst (Option.some.inj hj)).symm
        | j + 1, hj => simp at hj
      have := hD2.1 k 13 _ _ e1 e2 hj0
      omega
    · omega
  have hPx : va_P D vwCl (xW d h ad z0 (-1) 0) H3 := hPx.kept (fun k q hk => hk2 q.1 (hxn k q hk).1 (hxn k q hk).2)
  refine W.widen (k := 20) (n := 437) (Nat.le_of_ble_eq_true rfl) (Nat.le_of_ble_eq_true rfl) ?_
  refine lv_astore_n (lv' := [(2, .ref h2), (1, .ref h), (0, .ref b)]) hx hb dL_law_15 rfl hl (by decide) rfl (fun ls hl => ?_)
  refine lv_iconst (v := nI 0) hx hb dL_law_16 (by decide) ?_
  refine lv_istore_n (lv' := [(3, .int (nI 0)), (2, .ref h2), (1, .ref h), (0, .ref b)]) hx hb dL_law_17 rfl hl (by decide) rfl (fun ls hl => ?_)
  have hCC : LawC p s m meth c b L xs D d h ad d2 h2 ad2 (fun q => ∃ (k : Nat) (e : va_E), (xW d h ad z0 (-1) 0)[k]? = some (q, e)) (va_A [(h2, .inr (1, mf0))] H2.size) := by
    refine ⟨C0, hL, hKx, hKm, fun a w f => x_Db (ws := xW d h ad z0 (-1) 0) ⟨hDx.1, fun k q hk => ⟨k, q.2, hk⟩⟩ rfl, fun b => x_Db hDm rfl, ?_, hF2, ?_⟩
    · intro q ⟨k, e9, hk⟩
      exact hDx.2 k (q, e9) hk
    · intro q ⟨k, e9, hk⟩
      exact (hxn k (q, e9) hk).2
  exact law_loop hCC 261 0 (by omega) (by omega) z0 (-1) 0 z0 _ _ _ ⟨DOK_zero, Or.inl rfl⟩ (fun _ _ => rfl) hPx hPm hS (lv_sub hl [3, 2, 1, 0] rfl)
end
section
set_option maxHeartbeats 4000000 in
theorem lw_walk (l : Launch) (b : Addr) (xs : List Int32) : MetFree l x (headSpec (Jvm.Cond.code x code maxLocals ret :: tables_1) room_1) (lw_P b xs) (fun _ _ _ _ _ => True) lw_Q := by
  refine MetFree.of_bodyS (code := code) (maxLocals := maxLocals) (ret := ret) (by decide) ?_ ?_
  · intro args s m h hn
    obtain ⟨meth, c, h1, h2, h3, h4, h5, h6, -, -⟩ := Cond.code_spec hn (atoms_spec (ws := Jvm.Cond.code x code maxLocals ret :: tables_1) h _ List.mem_cons_self)
    exact ⟨meth, c, h1, h2, h3, h4, h5, h6⟩
  · intro p e s m args below meth c s₁ B hml0 hP _
    obtain ⟨rfl, hx, hbd, hgv⟩ := hP
    obtain ⟨scr, harrAt, hlist, hof, hsmall⟩ := hx
    obtain ⟨hcb, hkn, -, -⟩ := State.arrayAt?_spec harrAt
    have hown : s.vm.findClass R_law = some m.cls := findClass_of_methodNamed B.named
    have hts0 : ∀ c ∈ (Jvm.Cond.code x code maxLocals ret :: tables_1), c.before #[Value.ref b] s = true := atoms_spec (ws := Jvm.Cond.code x code maxLocals ret :: tables_1) B.pre
    have hts : ∀ w ∈ lw_tbl, w.before #[Value.ref b] s = true := k2_hts_sels lw_privs (fun w hw => hts0 w (List.mem_cons_of_mem _ hw)) lw_privs_ok
    have hml : c.maxLocals = 4 := B.maxLocals_eq (hts0 _ List.mem_cons_self)
    have X₀ : Stand p l e room_1 s m #[Value.ref b] below meth c s₁ [] 0 0 := Stand.of_body B
    have hh0 : s₁.heap = s.heap := by rw [B.state]; rfl
    have hsz : scr.slots.size = xs.length := by rw [← Array.length_toList, hlist, List.length_map]
    have hval : ∀ j : Nat, j < xs.length → scr.slots[j]? = some (.int (xs.getD j 0)) := fun j hj => by
      rw [← Array.getElem?_toList, hlist]
      simp [hj]
    have hbl : b < s.heap.size := (Array.getElem?_eq_some_iff.mp hcb).1
    have hX : va_X b xs.length (fun j => xs.getD j 0) s s.heap := ⟨scr, hcb, hof, hkn, hsz, hval⟩
    have K : W p l e room_1 s m #[Value.ref b] below meth c s₁.heap [] 0 0 (lw_Z below #[Value.ref b] s) (entryFrame m ([Value.ref b] : List Value).toArray 4) := by
      rw [hh0]
      exact whole_start l hbd ⟨B.exec, B.bytes, B.returns, hml, hown, hts, hX, hbl, B.notSynchronized, hgv⟩
    obtain ⟨t, a1, o, b1, b2, b3⟩ := K s₁ rfl X₀
    exact ⟨t, o, a1, b1, b2, b3⟩
theorem lw_pre_spec {args : Array Value} {s : State} (h : (Jvm.Cond.and given_1 narrow_1).before args s = true) (hr : rest_1_c.before args s = true) : ∃ (b : Addr) (xs : List Int32), lw_P b xs args s := by
  have hs := flat_of_before _ h
  have hq := flat_of_before _ hr
  have hc : (Cond.count 1).before args s = true := hs _ (by decide +kernel)
  have harr : (Cond.arrayOf (.arg 0) .int).before args s = true := hs _ (by decide +kernel)
  have hle : (Cond.le (.length (.arg 0)) (.int 256)).before args s = true := hs _ (by decide +kernel)
  have hlen : (Cond.isInt (.length (.arg 0))).before args s = true := hq _ (by decide +kernel)
  have hall : (Cond.all (.arg 0) (.isInt (.elem (.arg 0) (.index 0)))).before args s = true := hq _ (by decide +kernel)
  obtain ⟨b, xs, hb, hx⟩ := State.ints_of_pre rfl harr hlen hall
  have hsm : xs.length < 2 ^ 31 := hx.choose_spec.2.2.2
  have hev : (Term.length (.arg 0)).eval args s none [] s = some (.int xs.length.toInt32) := hx.length_eval hb
  have hv := Cond.le_ints hev (show (Term.int 256).eval args s none [] s = some (.int 256) from rfl)
  have hd : xs.length.toInt32 ≤ 256 := by
    simpa [Cond.before, Cond.holds, hv] using hle
  have hN : xs.length ≤ 256 := (Int32.ofNat_le_ofNat hsm (by decide)).mp (show Int32.ofNat xs.length ≤ Int32.ofNat 256 from hd)
  exact ⟨b, xs, Cond.one_arg hc (show args[0]? = some (.ref b) from hb), hx, hN, h⟩
theorem lw_comes (l : Launch) : Comes l x (Jvm.Cond.code x code maxLocals ret :: tables_1) room_1 (fun tb e args s => Calls_1 tb e args s ∧ rest_1 tb e args s ∧ Pre_1 tb e args s)
    (fun _ _ args s o t => lw_Q args s o t) := by
  intro p e ha hc hk s m args below hf hfit hheap happ hpre
  obtain ⟨b, xs, hP⟩ := lw_pre_spec hpre.2.2 hpre.2.1
  obtain ⟨k, o, h1, h2, h3, hQ⟩ := lw_walk l b xs p e ha hc hk s m args below hf ((Spec.applies_iff_loose hf).mp happ).1 hP trivial
  exact ⟨k, o, h1, h2, h3, hQ⟩
theorem lw_frame {s t : State} {o : Outcome} {args : Array Value} (h : Framed s o t [] 600000 7290000) :
    Framed s o t (fieldLocs frame_1_writes args s ++ arrayLocs frame_1_arrays args s ++ staticLocs frame_1_statics s) 600000 7290000 := h
theorem lw_limb (L : Cond) (hL : ∀ (args : Array Value) (s t : State), L.after args s (.returned (some (.int 1))) t = true) :
    ArmFor flags0 classFile x code maxLocals ret World_1 tables_1 room_1 Calls_1 rest_1 Pre_1
      (fun tb e a s o t => postC L tb e a s o t ∧ Framed s o t (fieldLocs frame_1_writes a s ++ arrayLocs frame_1_arrays a s ++ staticLocs frame_1_statics s) 600000 7290000) := by
  intro l _ _ _ p e ha hc hk s m args below hf hfit hheap happ hpre
  obtain ⟨k, o, h1, h2, h3, rfl, hF⟩ := lw_comes l p e ha hc hk s m args below hf hfit hheap happ hpre
  exact ⟨k, _, h1, h2, h3, hL args s _, lw_frame hF⟩
theorem i_vc : Claimed_1_1 ∧ Claimed_1_2 := ⟨lw_limb limb_1_1 (fun args s t => by simp [limb_1_1, Cond.after, Cond.holds, Cond.value]), lw_limb limb_1_2 (fun args s t => Cond.after_iff.mpr (by
  first | (rw [show limb_1_2 = Cond.eq .result (.int 1) from rfl, Cond.eq_ints (x := 1) (y := 1) rfl rfl]; simp; done) | (simp [limb_1_2, Cond.value, Term.eval]; done)))⟩
end
