section
-- ===== PART A: goes FIRST, ahead of the names: the tables' words, and 'selects' of the private methods out of them =====
/-- a private method of a class that the tables say can be made, by its rows of tables_1 -/
def lw_okq (q : MethodName × Nat) : Prop := (q.1.cls ≠ "java/lang/invoke/MethodHandle" ∧ q.1.cls ≠ "java/lang/invoke/VarHandle") ∧ Cond.instantiable q.1.cls q.2 ∈ tables_1 ∧ Cond.privateMethod q.1 ∈ tables_1 ∧ Cond.instanceMethod q.1 ∈ tables_1
set_option maxRecDepth 100000
theorem lw_t1 {w : Cond} (h : w ∈ tables_1_1) : w ∈ tables_1 := List.mem_append_left _ h
theorem lw_t2 {w : Cond} (h : w ∈ tables_1_2) : w ∈ tables_1 := List.mem_append_right _ h
theorem lw_p0 : lw_okq (⟨"WalkerPlan", "hasEdge", "(III)Z"⟩, 12) := ⟨⟨by decide +kernel, by decide +kernel⟩, lw_t1 (List.mem_of_getElem? (i := 4) rfl), lw_t1 (List.mem_of_getElem? (i := 66) rfl), lw_t1 (List.mem_of_getElem? (i := 67) rfl)⟩
theorem lw_p1 : lw_okq (⟨"WalkerPlan", "turn", "(III)V"⟩, 12) := ⟨⟨by decide +kernel, by decide +kernel⟩, lw_t1 (List.mem_of_getElem? (i := 4) rfl), lw_t1 (List.mem_of_getElem? (i := 70) rfl), lw_t1 (List.mem_of_getElem? (i := 71) rfl)⟩
theorem lw_p2 : lw_okq (⟨"WalkerPlan", "walk", "()V"⟩, 12) := ⟨⟨by decide +kernel, by decide +kernel⟩, lw_t1 (List.mem_of_getElem? (i := 4) rfl), lw_t1 (List.mem_of_getElem? (i := 94) rfl), lw_t1 (List.mem_of_getElem? (i := 95) rfl)⟩
theorem lw_p3 : lw_okq (⟨"WalkerPlan", "total", "()I"⟩, 12) := ⟨⟨by decide +kernel, by decide +kernel⟩, lw_t1 (List.mem_of_getElem? (i := 4) rfl), lw_t1 (List.mem_of_getElem? (i := 98) rfl), lw_t1 (List.mem_of_getElem? (i := 99) rfl)⟩
theorem lw_p4 : lw_okq (⟨"WalkerPlan", "move", "(II)V"⟩, 12) := ⟨⟨by decide +kernel, by decide +kernel⟩, lw_t1 (List.mem_of_getElem? (i := 4) rfl), lw_t1 (List.mem_of_getElem? (i := 102) rfl), lw_t1 (List.mem_of_getElem? (i := 103) rfl)⟩
theorem lw_p5 : lw_okq (⟨"WalkerPlan", "spread", "(III)V"⟩, 12) := ⟨⟨by decide +kernel, by decide +kernel⟩, lw_t1 (List.mem_of_getElem? (i := 4) rfl), lw_t1 (List.mem_of_getElem? (i := 106) rfl), lw_t1 (List.mem_of_getElem? (i := 107) rfl)⟩
theorem lw_p6 : lw_okq (⟨"WalkerPlan", "carry", "(II)V"⟩, 12) := ⟨⟨by decide +kernel, by decide +kernel⟩, lw_t1 (List.mem_of_getElem? (i := 4) rfl), lw_t1 (List.mem_of_getElem? (i := 110) rfl), lw_t1 (List.mem_of_getElem? (i := 111) rfl)⟩
theorem lw_p7 : lw_okq (⟨"WalkerPlan", "moves", "(II)Z"⟩, 12) := ⟨⟨by decide +kernel, by decide +kernel⟩, lw_t1 (List.mem_of_getElem? (i := 4) rfl), lw_t1 (List.mem_of_getElem? (i := 114) rfl), lw_t1 (List.mem_of_getElem? (i := 115) rfl)⟩
theorem lw_p8 : lw_okq (⟨"WalkerPlan", "keepOne", "()V"⟩, 12) := ⟨⟨by decide +kernel, by decide +kernel⟩, lw_t1 (List.mem_of_getElem? (i := 4) rfl), lw_t1 (List.mem_of_getElem? (i := 118) rfl), lw_t1 (List.mem_of_getElem? (i := 119) rfl)⟩
theorem lw_p9 : lw_okq (⟨"WalkerPlan", "filter", "(II)V"⟩, 12) := ⟨⟨by decide +kernel, by decide +kernel⟩, lw_t1 (List.mem_of_getElem? (i := 4) rfl), lw_t1 (List.mem_of_getElem? (i := 122) rfl), lw_t1 (List.mem_of_getElem? (i := 123) rfl)⟩
theorem lw_p10 : lw_okq (⟨"WalkerPlanModel", "vertex", "(I)Z"⟩, 11) := ⟨⟨by decide +kernel, by decide +kernel⟩, lw_t1 (List.mem_of_getElem? (i := 156) rfl), lw_t1 (List.mem_of_getElem? (i := 200) rfl), lw_t1 (List.mem_of_getElem? (i := 201) rfl)⟩
theorem lw_p11 : lw_okq (⟨"WalkerPlanModel", "find", "(III)I"⟩, 11) := ⟨⟨by decide +kernel, by decide +kernel⟩, lw_t1 (List.mem_of_getElem? (i := 156) rfl), lw_t1 (List.mem_of_getElem? (i := 208) rfl), lw_t1 (List.mem_of_getElem? (i := 209) rfl)⟩
theorem lw_p12 : lw_okq (⟨"WalkerPlanModel", "walk", "(I)V"⟩, 11) := ⟨⟨by decide +kernel, by decide +kernel⟩, lw_t1 (List.mem_of_getElem? (i := 156) rfl), lw_t1 (List.mem_of_getElem? (i := 232) rfl), lw_t1 (List.mem_of_getElem? (i := 233) rfl)⟩
theorem lw_p13 : lw_okq (⟨"WalkerPlanModel", "once", "(II)V"⟩, 11) := ⟨⟨by decide +kernel, by decide +kernel⟩, lw_t1 (List.mem_of_getElem? (i := 156) rfl), lw_t1 (List.mem_of_getElem? (i := 236) rfl), lw_t1 (List.mem_of_getElem? (i := 237) rfl)⟩
theorem lw_p14 : lw_okq (⟨"WalkerPlanModel", "step", "(IIII)V"⟩, 11) := ⟨⟨by decide +kernel, by decide +kernel⟩, lw_t1 (List.mem_of_getElem? (i := 156) rfl), lw_t2 (List.mem_of_getElem? (i := 0) rfl), lw_t2 (List.mem_of_getElem? (i := 1) rfl)⟩
theorem lw_p15 : lw_okq (⟨"WalkerPlanModel", "send", "(IIIZZ)I"⟩, 11) := ⟨⟨by decide +kernel, by decide +kernel⟩, lw_t1 (List.mem_of_getElem? (i := 156) rfl), lw_t2 (List.mem_of_getElem? (i := 4) rfl), lw_t2 (List.mem_of_getElem? (i := 5) rfl)⟩
def lw_privs_1 : List (MethodName × Nat) := [(⟨"WalkerPlan", "hasEdge", "(III)Z"⟩, 12), (⟨"WalkerPlan", "turn", "(III)V"⟩, 12), (⟨"WalkerPlan", "walk", "()V"⟩, 12), (⟨"WalkerPlan", "total", "()I"⟩, 12), (⟨"WalkerPlan", "move", "(II)V"⟩, 12), (⟨"WalkerPlan", "spread", "(III)V"⟩, 12), (⟨"WalkerPlan", "carry", "(II)V"⟩, 12), (⟨"WalkerPlan", "moves", "(II)Z"⟩, 12), (⟨"WalkerPlan", "keepOne", "()V"⟩, 12), (⟨"WalkerPlan", "filter", "(II)V"⟩, 12), (⟨"WalkerPlanModel", "vertex", "(I)Z"⟩, 11), (⟨"WalkerPlanModel", "find", "(III)I"⟩, 11), (⟨"WalkerPlanModel", "walk", "(I)V"⟩, 11), (⟨"WalkerPlanModel", "once", "(II)V"⟩, 11), (⟨"WalkerPlanModel", "step", "(IIII)V"⟩, 11), (⟨"WalkerPlanModel", "send", "(IIIZZ)I"⟩, 11)]
theorem lw_r1 : ∀ q ∈ lw_privs_1, lw_okq q := List.forall_mem_cons.mpr ⟨lw_p0, List.forall_mem_cons.mpr ⟨lw_p1, List.forall_mem_cons.mpr ⟨lw_p2, List.forall_mem_cons.mpr ⟨lw_p3, List.forall_mem_cons.mpr ⟨lw_p4, List.forall_mem_cons.mpr ⟨lw_p5, List.forall_mem_cons.mpr ⟨lw_p6, List.forall_mem_cons.mpr ⟨lw_p7, List.forall_mem_cons.mpr ⟨lw_p8, List.forall_mem_cons.mpr ⟨lw_p9, List.forall_mem_cons.mpr ⟨lw_p10, List.forall_mem_cons.mpr ⟨lw_p11, List.forall_mem_cons.mpr ⟨lw_p12, List.forall_mem_cons.mpr ⟨lw_p13, List.forall_mem_cons.mpr ⟨lw_p14, List.forall_mem_cons.mpr ⟨lw_p15, fun _ h => absurd h List.not_mem_nil⟩⟩⟩⟩⟩⟩⟩⟩⟩⟩⟩⟩⟩⟩⟩⟩
theorem lw_p16 : lw_okq (⟨"WalkerPlanModel", "lesser", "(II)Z"⟩, 11) := ⟨⟨by decide +kernel, by decide +kernel⟩, lw_t1 (List.mem_of_getElem? (i := 156) rfl), lw_t2 (List.mem_of_getElem? (i := 8) rfl), lw_t2 (List.mem_of_getElem? (i := 9) rfl)⟩
def lw_privs_2 : List (MethodName × Nat) := [(⟨"WalkerPlanModel", "lesser", "(II)Z"⟩, 11)]
theorem lw_r2 : ∀ q ∈ lw_privs_2, lw_okq q := List.forall_mem_cons.mpr ⟨lw_p16, fun _ h => absurd h List.not_mem_nil⟩
def lw_privs : List (MethodName × Nat) := lw_privs_1 ++ (lw_privs_2)
def lw_tbl : List Cond := k2_sels lw_privs ++ tables_1
theorem lw_privs_ok : ∀ q ∈ lw_privs, lw_okq q := by
  show ∀ q ∈ lw_privs_1 ++ (lw_privs_2), lw_okq q
  exact List.forall_mem_append.mpr ⟨lw_r1, lw_r2⟩
-- ===== ONE list of words for every method: the tables' words that hold all through a run =====
def lw_all : List Cond := lw_tbl.filter goodWord
/-- a word of the tables by its place: claim/WORDS.tsv -/
theorem lw_w {w : Cond} (i : Nat) (h : lw_tbl[i]? = some w) (g : goodWord w = true) : w ∈ lw_all := List.mem_filter.mpr ⟨List.mem_of_getElem? h, g⟩
theorem lw_all_tbl {w : Cond} (h : w ∈ lw_all) : w ∈ lw_tbl := (List.mem_filter.mp h).1
theorem lw_self : GoodIn lw_all lw_all := fun w h => ⟨h, good_of_word (List.mem_filter.mp h).2⟩
/-- a class's field words, by their places -/
theorem lw_in (ws : List Cond) (ps : List Nat) (hp : ws = ps.filterMap (fun i => lw_tbl[i]?)) (hg : ws.all goodWord = true) : ∀ w ∈ ws, w ∈ lw_all := by
  intro w h
  have h1 := List.all_eq_true.mp hg w h
  rw [hp] at h
  obtain ⟨i, -, hi⟩ := List.mem_filterMap.mp h
  exact lw_w i hi h1
/-- the words of a contract for the method y with code b, L locals, answer r -/
abbrev ws_ (y : MethodName) (b : ByteArray) (L : Nat) (r : Option FieldType) : List Cond := Cond.code y b L r :: lw_all
theorem lw_meth {y : MethodName} {b : ByteArray} {L : Nat} {r : Option FieldType} (h : Cond.code y b L r ∈ lw_all) : GoodIn lw_all (ws_ y b L r) := by
  intro w hw
  rcases List.mem_cons.mp hw with e | e
  · rw [e]
    exact lw_self _ h
  · exact lw_self _ e
theorem lw_app {a c : List Cond} (ha : ∀ w ∈ a, w ∈ lw_all) (hc : GoodIn lw_all c) : GoodIn lw_all (a ++ c) := by
  intro w hw
  rcases List.mem_append.mp hw with e | e
  · exact lw_self w (ha w e)
  · exact hc w e
/-- what a call through an object asks: cwV n hts (lw_V ..) -/
theorem lw_V {own : String} {idx : Nat} {C : String} {y : MethodName} {b : ByteArray} {L : Nat} {r : Option FieldType} (h1 : Cond.methodLink own idx y ∈ lw_all) (h2 : Cond.instanceMethod y ∈ lw_all) (h3 : Cond.selects C y y ∈ lw_all) (h4 : Cond.initialized C ∈ lw_all) (h5 : Cond.code y b L r ∈ lw_all) : GoodIn lw_all (wsV own idx C y (ws_ y b L r)) := by
  refine lw_app ?_ (lw_meth h5)
  intro w hw
  simp only [List.mem_cons, List.not_mem_nil, or_false] at hw
  rcases hw with e | e | e | e
  · rw [e]; exact h1
  · rw [e]; exact h2
  · rw [e]; exact h3
  · rw [e]; exact h4
/-- what a static call asks: va_cwS n hts (lw_S ..) -/
theorem lw_S {own : String} {idx : Nat} {y : MethodName} {b : ByteArray} {L : Nat} {r : Option FieldType} (h1 : Cond.methodLink own idx y ∈ lw_all) (h2 : Cond.static y ∈ lw_all) (h3 : Cond.initialized y.cls ∈ lw_all) (h4 : Cond.code y b L r ∈ lw_all) : GoodIn lw_all (va_wsS own idx y (ws_ y b L r)) := by
  refine lw_app ?_ (lw_meth h4)
  intro w hw
  simp only [List.mem_cons, List.not_mem_nil, or_false] at hw
  rcases hw with e | e | e
  · rw [e]; exact h1
  · rw [e]; exact h2
  · rw [e]; exact h3
/-- the words of a contract for a method WITH HANDLERS (hh: its table) -/
abbrev wsW_ (y : MethodName) (b : ByteArray) (L : Nat) (r : Option FieldType) (hh : List (Nat × Nat × Nat × Nat)) : List Cond := Cond.codeWith y b L r hh :: lw_all
theorem lw_methW {y : MethodName} {b : ByteArray} {L : Nat} {r : Option FieldType} {hh : List (Nat × Nat × Nat × Nat)} (h : Cond.codeWith y b L r hh ∈ lw_all) : GoodIn lw_all (wsW_ y b L r hh) := by
  intro w hw
  rcases List.mem_cons.mp hw with e | e
  · rw [e]
    exact lw_self _ h
  · exact lw_self _ e
/-- any list of words by their places (lw_in), good -/
theorem lw_good {ws : List Cond} (h : ∀ w ∈ ws, w ∈ lw_all) : GoodIn lw_all ws := fun w hw => lw_self w (h w hw)
/-- what a call of a method with handlers asks: vx_cwVW n hts (lw_VW ..), vx_cwSW n hts (lw_SW ..) -/
theorem lw_VW {own : String} {idx : Nat} {C : String} {y : MethodName} {b : ByteArray} {L : Nat} {r : Option FieldType} {hh : List (Nat × Nat × Nat × Nat)} (h1 : Cond.methodLink own idx y ∈ lw_all) (h2 : Cond.instanceMethod y ∈ lw_all) (h3 : Cond.selects C y y ∈ lw_all) (h4 : Cond.initialized C ∈ lw_all) (h5 : Cond.codeWith y b L r hh ∈ lw_all) : GoodIn lw_all (wsV own idx C y (wsW_ y b L r hh)) := by
  refine lw_app ?_ (lw_methW h5)
  intro w hw
  simp only [List.mem_cons, List.not_mem_nil, or_false] at hw
  rcases hw with e | e | e | e
  · rw [e]; exact h1
  · rw [e]; exact h2
  · rw [e]; exact h3
  · rw [e]; exact h4
theorem lw_SW {own : String} {idx : Nat} {y : MethodName} {b : ByteArray} {L : Nat} {r : Option FieldType} {hh : List (Nat × Nat × Nat × Nat)} (h1 : Cond.methodLink own idx y ∈ lw_all) (h2 : Cond.static y ∈ lw_all) (h3 : Cond.initialized y.cls ∈ lw_all) (h4 : Cond.codeWith y b L r hh ∈ lw_all) : GoodIn lw_all (va_wsS own idx y (wsW_ y b L r hh)) := by
  refine lw_app ?_ (lw_methW h4)
  intro w hw
  simp only [List.mem_cons, List.not_mem_nil, or_false] at hw
  rcases hw with e | e | e
  · rw [e]; exact h1
  · rw [e]; exact h2
  · rw [e]; exact h3
/-- a word by its place in its run of the tables -/
theorem lw_at {r : List Cond} (hr : ∀ w ∈ r, w ∈ lw_tbl) {w : Cond} (i : Nat) (h : r[i]? = some w) : w ∈ lw_tbl := hr w (List.mem_of_getElem? h)
theorem lw_g {w : Cond} (h : w ∈ lw_tbl) (g : goodWord w = true) : w ∈ lw_all := List.mem_filter.mpr ⟨h, g⟩
theorem lw_ms : ∀ w ∈ k2_sels lw_privs, w ∈ lw_tbl := fun w h => show w ∈ k2_sels lw_privs ++ tables_1 from List.mem_append_left _ h
theorem lw_m1 : ∀ w ∈ tables_1_1, w ∈ lw_tbl := fun w h => show w ∈ k2_sels lw_privs ++ tables_1 from List.mem_append_right (k2_sels lw_privs) (show w ∈ tables_1 from List.mem_append_left _ h)
theorem lw_m2 : ∀ w ∈ tables_1_2, w ∈ lw_tbl := fun w h => show w ∈ k2_sels lw_privs ++ tables_1 from List.mem_append_right (k2_sels lw_privs) (show w ∈ tables_1 from List.mem_append_right _ h)
theorem qs0 : (Cond.selects "WalkerPlan" ⟨"WalkerPlan", "hasEdge", "(III)Z"⟩ ⟨"WalkerPlan", "hasEdge", "(III)Z"⟩) ∈ lw_all := lw_g (lw_at lw_ms 0 rfl) rfl
theorem qs1 : (Cond.selects "WalkerPlan" ⟨"WalkerPlan", "turn", "(III)V"⟩ ⟨"WalkerPlan", "turn", "(III)V"⟩) ∈ lw_all := lw_g (lw_at lw_ms 1 rfl) rfl
theorem qs2 : (Cond.selects "WalkerPlan" ⟨"WalkerPlan", "walk", "()V"⟩ ⟨"WalkerPlan", "walk", "()V"⟩) ∈ lw_all := lw_g (lw_at lw_ms 2 rfl) rfl
theorem qs3 : (Cond.selects "WalkerPlan" ⟨"WalkerPlan", "total", "()I"⟩ ⟨"WalkerPlan", "total", "()I"⟩) ∈ lw_all := lw_g (lw_at lw_ms 3 rfl) rfl
theorem qs4 : (Cond.selects "WalkerPlan" ⟨"WalkerPlan", "move", "(II)V"⟩ ⟨"WalkerPlan", "move", "(II)V"⟩) ∈ lw_all := lw_g (lw_at lw_ms 4 rfl) rfl
theorem qs5 : (Cond.selects "WalkerPlan" ⟨"WalkerPlan", "spread", "(III)V"⟩ ⟨"WalkerPlan", "spread", "(III)V"⟩) ∈ lw_all := lw_g (lw_at lw_ms 5 rfl) rfl
theorem qs6 : (Cond.selects "WalkerPlan" ⟨"WalkerPlan", "carry", "(II)V"⟩ ⟨"WalkerPlan", "carry", "(II)V"⟩) ∈ lw_all := lw_g (lw_at lw_ms 6 rfl) rfl
theorem qs7 : (Cond.selects "WalkerPlan" ⟨"WalkerPlan", "moves", "(II)Z"⟩ ⟨"WalkerPlan", "moves", "(II)Z"⟩) ∈ lw_all := lw_g (lw_at lw_ms 7 rfl) rfl
theorem qs8 : (Cond.selects "WalkerPlan" ⟨"WalkerPlan", "keepOne", "()V"⟩ ⟨"WalkerPlan", "keepOne", "()V"⟩) ∈ lw_all := lw_g (lw_at lw_ms 8 rfl) rfl
theorem qs9 : (Cond.selects "WalkerPlan" ⟨"WalkerPlan", "filter", "(II)V"⟩ ⟨"WalkerPlan", "filter", "(II)V"⟩) ∈ lw_all := lw_g (lw_at lw_ms 9 rfl) rfl
theorem qs10 : (Cond.selects "WalkerPlanModel" ⟨"WalkerPlanModel", "vertex", "(I)Z"⟩ ⟨"WalkerPlanModel", "vertex", "(I)Z"⟩) ∈ lw_all := lw_g (lw_at lw_ms 10 rfl) rfl
theorem qs11 : (Cond.selects "WalkerPlanModel" ⟨"WalkerPlanModel", "find", "(III)I"⟩ ⟨"WalkerPlanModel", "find", "(III)I"⟩) ∈ lw_all := lw_g (lw_at lw_ms 11 rfl) rfl
theorem qs12 : (Cond.selects "WalkerPlanModel" ⟨"WalkerPlanModel", "walk", "(I)V"⟩ ⟨"WalkerPlanModel", "walk", "(I)V"⟩) ∈ lw_all := lw_g (lw_at lw_ms 12 rfl) rfl
theorem qs13 : (Cond.selects "WalkerPlanModel" ⟨"WalkerPlanModel", "once", "(II)V"⟩ ⟨"WalkerPlanModel", "once", "(II)V"⟩) ∈ lw_all := lw_g (lw_at lw_ms 13 rfl) rfl
theorem qs14 : (Cond.selects "WalkerPlanModel" ⟨"WalkerPlanModel", "step", "(IIII)V"⟩ ⟨"WalkerPlanModel", "step", "(IIII)V"⟩) ∈ lw_all := lw_g (lw_at lw_ms 14 rfl) rfl
theorem qs15 : (Cond.selects "WalkerPlanModel" ⟨"WalkerPlanModel", "send", "(IIIZZ)I"⟩ ⟨"WalkerPlanModel", "send", "(IIIZZ)I"⟩) ∈ lw_all := lw_g (lw_at lw_ms 15 rfl) rfl
theorem qs16 : (Cond.selects "WalkerPlanModel" ⟨"WalkerPlanModel", "lesser", "(II)Z"⟩ ⟨"WalkerPlanModel", "lesser", "(II)Z"⟩) ∈ lw_all := lw_g (lw_at lw_ms 16 rfl) rfl
end
section
/-! WalkerPlan -/
set_option maxRecDepth 100000
def RX0 : String := "WalkerPlan"
def TX0 : u_T := fun k => match k with
  | 0 => ("WalkerPlan", "numbers", "[B", true)
  | 1 => ("WalkerPlan", "edgeCount", "I", false)
  | 2 => ("WalkerPlan", "outward", "[S", true)
  | 3 => ("WalkerPlan", "inward", "[S", true)
  | 4 => ("WalkerPlan", "kinds", "[B", true)
  | 5 => ("WalkerPlan", "labels", "[B", true)
  | 6 => ("WalkerPlan", "size", "I", false)
  | 7 => ("WalkerPlan", "starts", "I", false)
  | 8 => ("WalkerPlan", "known", "Z", false)
  | 9 => ("WalkerPlan", "here", "[I", true)
  | 10 => ("WalkerPlan", "before", "[I", true)
  | _ => ("WalkerPlan", "totals", "[I", true)
def tyX0 : Nat → FieldType := fun k => match k with
  | 0 => .array .byte
  | 1 => .int
  | 2 => .array .short
  | 3 => .array .short
  | 4 => .array .byte
  | 5 => .array .byte
  | 6 => .int
  | 7 => .int
  | 8 => .boolean
  | 9 => .array .int
  | 10 => .array .int
  | _ => .array .int
abbrev wsX00 : List Cond := u_ws RX0 TX0 12
theorem nmX0 : ∀ a, a < 12 → ∀ b, b < 12 → a ≠ b → (TX0 a).2.1 ≠ (TX0 b).2.1 := by decide +kernel
theorem tyX0_ok : ∀ k, k < 12 → parseFieldDescriptor (TX0 k).2.2.1 = some (tyX0 k) := by decide +kernel
abbrev cX0_init : ByteArray := prog_1_method_1_code
def yX0_init : MethodName := ⟨RX0, "<init>", "()V"⟩
theorem dX0_init_0 : decode cX0_init 0 = .ok (.aload_n 0, 1) := by decide +kernel
theorem dX0_init_1 : decode cX0_init 1 = .ok (.invokespecial 1, 3) := by decide +kernel
theorem dX0_init_4 : decode cX0_init 4 = .ok (.aload_n 0, 1) := by decide +kernel
theorem dX0_init_5 : decode cX0_init 5 = .ok (.bipush 8, 2) := by decide +kernel
theorem dX0_init_7 : decode cX0_init 7 = .ok (.newarray .byte, 2) := by decide +kernel
theorem dX0_init_9 : decode cX0_init 9 = .ok (.putfield 7, 3) := by decide +kernel
theorem dX0_init_12 : decode cX0_init 12 = .ok (.aload_n 0, 1) := by decide +kernel
theorem dX0_init_13 : decode cX0_init 13 = .ok (.bipush 16, 2) := by decide +kernel
theorem dX0_init_15 : decode cX0_init 15 = .ok (.newarray .short, 2) := by decide +kernel
theorem dX0_init_17 : decode cX0_init 17 = .ok (.putfield 13, 3) := by decide +kernel
theorem dX0_init_20 : decode cX0_init 20 = .ok (.aload_n 0, 1) := by decide +kernel
theorem dX0_init_21 : decode cX0_init 21 = .ok (.bipush 16, 2) := by decide +kernel
theorem dX0_init_23 : decode cX0_init 23 = .ok (.newarray .short, 2) := by decide +kernel
theorem dX0_init_25 : decode cX0_init 25 = .ok (.putfield 17, 3) := by decide +kernel
theorem dX0_init_28 : decode cX0_init 28 = .ok (.aload_n 0, 1) := by decide +kernel
theorem dX0_init_29 : decode cX0_init 29 = .ok (.bipush 6, 2) := by decide +kernel
theorem dX0_init_31 : decode cX0_init 31 = .ok (.newarray .byte, 2) := by decide +kernel
theorem dX0_init_33 : decode cX0_init 33 = .ok (.putfield 20, 3) := by decide +kernel
theorem dX0_init_36 : decode cX0_init 36 = .ok (.aload_n 0, 1) := by decide +kernel
theorem dX0_init_37 : decode cX0_init 37 = .ok (.bipush 6, 2) := by decide +kernel
theorem dX0_init_39 : decode cX0_init 39 = .ok (.newarray .byte, 2) := by decide +kernel
theorem dX0_init_41 : decode cX0_init 41 = .ok (.putfield 23, 3) := by decide +kernel
theorem dX0_init_44 : decode cX0_init 44 = .ok (.aload_n 0, 1) := by decide +kernel
theorem dX0_init_45 : decode cX0_init 45 = .ok (.bipush 64, 2) := by decide +kernel
theorem dX0_init_47 : decode cX0_init 47 = .ok (.newarray .int, 2) := by decide +kernel
theorem dX0_init_49 : decode cX0_init 49 = .ok (.putfield 26, 3) := by decide +kernel
theorem dX0_init_52 : decode cX0_init 52 = .ok (.aload_n 0, 1) := by decide +kernel
theorem dX0_init_53 : decode cX0_init 53 = .ok (.bipush 64, 2) := by decide +kernel
theorem dX0_init_55 : decode cX0_init 55 = .ok (.newarray .int, 2) := by decide +kernel
theorem dX0_init_57 : decode cX0_init 57 = .ok (.putfield 30, 3) := by decide +kernel
theorem dX0_init_60 : decode cX0_init 60 = .ok (.aload_n 0, 1) := by decide +kernel
theorem dX0_init_61 : decode cX0_init 61 = .ok (.bipush 7, 2) := by decide +kernel
theorem dX0_init_63 : decode cX0_init 63 = .ok (.newarray .int, 2) := by decide +kernel
theorem dX0_init_65 : decode cX0_init 65 = .ok (.putfield 33, 3) := by decide +kernel
theorem dX0_init_68 : decode cX0_init 68 = .ok (.return_, 1) := by decide +kernel
abbrev cX0_mark : ByteArray := prog_1_method_3_code
def yX0_mark : MethodName := ⟨RX0, "mark", "(II)Z"⟩
theorem dX0_mark_0 : decode cX0_mark 0 = .ok (.iload_n 1, 1) := by decide +kernel
theorem dX0_mark_1 : decode cX0_mark 1 = .ok (.invokestatic 36, 3) := by decide +kernel
theorem dX0_mark_4 : decode cX0_mark 4 = .ok (.ifCond .eq 13, 3) := by decide +kernel
theorem dX0_mark_7 : decode cX0_mark 7 = .ok (.iload_n 2, 1) := by decide +kernel
theorem dX0_mark_8 : decode cX0_mark 8 = .ok (.ifCond .lt 9, 3) := by decide +kernel
theorem dX0_mark_11 : decode cX0_mark 11 = .ok (.iload_n 2, 1) := by decide +kernel
theorem dX0_mark_12 : decode cX0_mark 12 = .ok (.bipush 9, 2) := by decide +kernel
theorem dX0_mark_14 : decode cX0_mark 14 = .ok (.if_icmp .le 5, 3) := by decide +kernel
theorem dX0_mark_17 : decode cX0_mark 17 = .ok (.iconst 0, 1) := by decide +kernel
theorem dX0_mark_18 : decode cX0_mark 18 = .ok (.ireturn, 1) := by decide +kernel
theorem dX0_mark_19 : decode cX0_mark 19 = .ok (.aload_n 0, 1) := by decide +kernel
theorem dX0_mark_20 : decode cX0_mark 20 = .ok (.getfield 7, 3) := by decide +kernel
theorem dX0_mark_23 : decode cX0_mark 23 = .ok (.iload_n 1, 1) := by decide +kernel
theorem dX0_mark_24 : decode cX0_mark 24 = .ok (.iload_n 2, 1) := by decide +kernel
theorem dX0_mark_25 : decode cX0_mark 25 = .ok (.i2b, 1) := by decide +kernel
theorem dX0_mark_26 : decode cX0_mark 26 = .ok (.bastore, 1) := by decide +kernel
theorem dX0_mark_27 : decode cX0_mark 27 = .ok (.aload_n 0, 1) := by decide +kernel
theorem dX0_mark_28 : decode cX0_mark 28 = .ok (.iconst 0, 1) := by decide +kernel
theorem dX0_mark_29 : decode cX0_mark 29 = .ok (.putfield 40, 3) := by decide +kernel
theorem dX0_mark_32 : decode cX0_mark 32 = .ok (.iconst 1, 1) := by decide +kernel
theorem dX0_mark_33 : decode cX0_mark 33 = .ok (.ireturn, 1) := by decide +kernel
abbrev cX0_isVertex : ByteArray := prog_1_method_2_code
def yX0_isVertex : MethodName := ⟨RX0, "isVertex", "(I)Z"⟩
theorem dX0_isVertex_0 : decode cX0_isVertex 0 = .ok (.iload_n 0, 1) := by decide +kernel
theorem dX0_isVertex_1 : decode cX0_isVertex 1 = .ok (.ifCond .lt 13, 3) := by decide +kernel
theorem dX0_isVertex_4 : decode cX0_isVertex 4 = .ok (.iload_n 0, 1) := by decide +kernel
theorem dX0_isVertex_5 : decode cX0_isVertex 5 = .ok (.bipush 8, 2) := by decide +kernel
theorem dX0_isVertex_7 : decode cX0_isVertex 7 = .ok (.if_icmp .ge 7, 3) := by decide +kernel
theorem dX0_isVertex_10 : decode cX0_isVertex 10 = .ok (.iconst 1, 1) := by decide +kernel
theorem dX0_isVertex_11 : decode cX0_isVertex 11 = .ok (.goto 4, 3) := by decide +kernel
theorem dX0_isVertex_14 : decode cX0_isVertex 14 = .ok (.iconst 0, 1) := by decide +kernel
theorem dX0_isVertex_15 : decode cX0_isVertex 15 = .ok (.ireturn, 1) := by decide +kernel
abbrev cX0_join : ByteArray := prog_1_method_6_code
def yX0_join : MethodName := ⟨RX0, "join", "(III)Z"⟩
theorem dX0_join_0 : decode cX0_join 0 = .ok (.iload_n 1, 1) := by decide +kernel
theorem dX0_join_1 : decode cX0_join 1 = .ok (.iload_n 2, 1) := by decide +kernel
theorem dX0_join_2 : decode cX0_join 2 = .ok (.iload_n 3, 1) := by decide +kernel
theorem dX0_join_3 : decode cX0_join 3 = .ok (.invokestatic 44, 3) := by decide +kernel
theorem dX0_join_6 : decode cX0_join 6 = .ok (.ifCond .eq 22, 3) := by decide +kernel
theorem dX0_join_9 : decode cX0_join 9 = .ok (.aload_n 0, 1) := by decide +kernel
theorem dX0_join_10 : decode cX0_join 10 = .ok (.iload_n 1, 1) := by decide +kernel
theorem dX0_join_11 : decode cX0_join 11 = .ok (.iload_n 2, 1) := by decide +kernel
theorem dX0_join_12 : decode cX0_join 12 = .ok (.iload_n 3, 1) := by decide +kernel
theorem dX0_join_13 : decode cX0_join 13 = .ok (.invokevirtual 48, 3) := by decide +kernel
theorem dX0_join_16 : decode cX0_join 16 = .ok (.ifCond .ne 12, 3) := by decide +kernel
theorem dX0_join_19 : decode cX0_join 19 = .ok (.aload_n 0, 1) := by decide +kernel
theorem dX0_join_20 : decode cX0_join 20 = .ok (.getfield 51, 3) := by decide +kernel
theorem dX0_join_23 : decode cX0_join 23 = .ok (.bipush 10, 2) := by decide +kernel
theorem dX0_join_25 : decode cX0_join 25 = .ok (.if_icmp .lt 5, 3) := by decide +kernel
theorem dX0_join_28 : decode cX0_join 28 = .ok (.iconst 0, 1) := by decide +kernel
theorem dX0_join_29 : decode cX0_join 29 = .ok (.ireturn, 1) := by decide +kernel
theorem dX0_join_30 : decode cX0_join 30 = .ok (.aload_n 0, 1) := by decide +kernel
theorem dX0_join_31 : decode cX0_join 31 = .ok (.iload_n 1, 1) := by decide +kernel
theorem dX0_join_32 : decode cX0_join 32 = .ok (.iload_n 2, 1) := by decide +kernel
theorem dX0_join_33 : decode cX0_join 33 = .ok (.iload_n 3, 1) := by decide +kernel
theorem dX0_join_34 : decode cX0_join 34 = .ok (.invokevirtual 55, 3) := by decide +kernel
theorem dX0_join_37 : decode cX0_join 37 = .ok (.aload_n 0, 1) := by decide +kernel
theorem dX0_join_38 : decode cX0_join 38 = .ok (.dup, 1) := by decide +kernel
theorem dX0_join_39 : decode cX0_join 39 = .ok (.getfield 51, 3) := by decide +kernel
theorem dX0_join_42 : decode cX0_join 42 = .ok (.iconst 1, 1) := by decide +kernel
theorem dX0_join_43 : decode cX0_join 43 = .ok (.iadd, 1) := by decide +kernel
theorem dX0_join_44 : decode cX0_join 44 = .ok (.putfield 51, 3) := by decide +kernel
theorem dX0_join_47 : decode cX0_join 47 = .ok (.iconst 1, 1) := by decide +kernel
theorem dX0_join_48 : decode cX0_join 48 = .ok (.ireturn, 1) := by decide +kernel
abbrev cX0_isEdge : ByteArray := prog_1_method_4_code
def yX0_isEdge : MethodName := ⟨RX0, "isEdge", "(III)Z"⟩
theorem dX0_isEdge_0 : decode cX0_isEdge 0 = .ok (.iload_n 0, 1) := by decide +kernel
theorem dX0_isEdge_1 : decode cX0_isEdge 1 = .ok (.invokestatic 36, 3) := by decide +kernel
theorem dX0_isEdge_4 : decode cX0_isEdge 4 = .ok (.ifCond .eq 28, 3) := by decide +kernel
theorem dX0_isEdge_7 : decode cX0_isEdge 7 = .ok (.iload_n 1, 1) := by decide +kernel
theorem dX0_isEdge_8 : decode cX0_isEdge 8 = .ok (.invokestatic 36, 3) := by decide +kernel
theorem dX0_isEdge_11 : decode cX0_isEdge 11 = .ok (.ifCond .eq 21, 3) := by decide +kernel
theorem dX0_isEdge_14 : decode cX0_isEdge 14 = .ok (.iload_n 0, 1) := by decide +kernel
theorem dX0_isEdge_15 : decode cX0_isEdge 15 = .ok (.iload_n 1, 1) := by decide +kernel
theorem dX0_isEdge_16 : decode cX0_isEdge 16 = .ok (.if_icmp .eq 16, 3) := by decide +kernel
theorem dX0_isEdge_19 : decode cX0_isEdge 19 = .ok (.iload_n 2, 1) := by decide +kernel
theorem dX0_isEdge_20 : decode cX0_isEdge 20 = .ok (.ifCond .eq 8, 3) := by decide +kernel
theorem dX0_isEdge_23 : decode cX0_isEdge 23 = .ok (.iload_n 2, 1) := by decide +kernel
theorem dX0_isEdge_24 : decode cX0_isEdge 24 = .ok (.iconst 1, 1) := by decide +kernel
theorem dX0_isEdge_25 : decode cX0_isEdge 25 = .ok (.if_icmp .ne 7, 3) := by decide +kernel
theorem dX0_isEdge_28 : decode cX0_isEdge 28 = .ok (.iconst 1, 1) := by decide +kernel
theorem dX0_isEdge_29 : decode cX0_isEdge 29 = .ok (.goto 4, 3) := by decide +kernel
theorem dX0_isEdge_32 : decode cX0_isEdge 32 = .ok (.iconst 0, 1) := by decide +kernel
theorem dX0_isEdge_33 : decode cX0_isEdge 33 = .ok (.ireturn, 1) := by decide +kernel
abbrev cX0_hasEdge : ByteArray := prog_1_method_5_code
def yX0_hasEdge : MethodName := ⟨RX0, "hasEdge", "(III)Z"⟩
theorem dX0_hasEdge_0 : decode cX0_hasEdge 0 = .ok (.aload_n 0, 1) := by decide +kernel
theorem dX0_hasEdge_1 : decode cX0_hasEdge 1 = .ok (.getfield 13, 3) := by decide +kernel
theorem dX0_hasEdge_4 : decode cX0_hasEdge 4 = .ok (.iload_n 3, 1) := by decide +kernel
theorem dX0_hasEdge_5 : decode cX0_hasEdge 5 = .ok (.bipush 8, 2) := by decide +kernel
theorem dX0_hasEdge_7 : decode cX0_hasEdge 7 = .ok (.imul, 1) := by decide +kernel
theorem dX0_hasEdge_8 : decode cX0_hasEdge 8 = .ok (.iload_n 1, 1) := by decide +kernel
theorem dX0_hasEdge_9 : decode cX0_hasEdge 9 = .ok (.iadd, 1) := by decide +kernel
theorem dX0_hasEdge_10 : decode cX0_hasEdge 10 = .ok (.saload, 1) := by decide +kernel
theorem dX0_hasEdge_11 : decode cX0_hasEdge 11 = .ok (.iload_n 2, 1) := by decide +kernel
theorem dX0_hasEdge_12 : decode cX0_hasEdge 12 = .ok (.ishr, 1) := by decide +kernel
theorem dX0_hasEdge_13 : decode cX0_hasEdge 13 = .ok (.iconst 1, 1) := by decide +kernel
theorem dX0_hasEdge_14 : decode cX0_hasEdge 14 = .ok (.iand, 1) := by decide +kernel
theorem dX0_hasEdge_15 : decode cX0_hasEdge 15 = .ok (.ifCond .eq 7, 3) := by decide +kernel
theorem dX0_hasEdge_18 : decode cX0_hasEdge 18 = .ok (.iconst 1, 1) := by decide +kernel
theorem dX0_hasEdge_19 : decode cX0_hasEdge 19 = .ok (.goto 4, 3) := by decide +kernel
theorem dX0_hasEdge_22 : decode cX0_hasEdge 22 = .ok (.iconst 0, 1) := by decide +kernel
theorem dX0_hasEdge_23 : decode cX0_hasEdge 23 = .ok (.ireturn, 1) := by decide +kernel
abbrev cX0_turn : ByteArray := prog_1_method_8_code
def yX0_turn : MethodName := ⟨RX0, "turn", "(III)V"⟩
theorem dX0_turn_0 : decode cX0_turn 0 = .ok (.iload_n 3, 1) := by decide +kernel
theorem dX0_turn_1 : decode cX0_turn 1 = .ok (.bipush 8, 2) := by decide +kernel
theorem dX0_turn_3 : decode cX0_turn 3 = .ok (.imul, 1) := by decide +kernel
theorem dX0_turn_4 : decode cX0_turn 4 = .ok (.iload_n 1, 1) := by decide +kernel
theorem dX0_turn_5 : decode cX0_turn 5 = .ok (.iadd, 1) := by decide +kernel
theorem dX0_turn_6 : decode cX0_turn 6 = .ok (.istore 4, 2) := by decide +kernel
theorem dX0_turn_8 : decode cX0_turn 8 = .ok (.iload_n 3, 1) := by decide +kernel
theorem dX0_turn_9 : decode cX0_turn 9 = .ok (.bipush 8, 2) := by decide +kernel
theorem dX0_turn_11 : decode cX0_turn 11 = .ok (.imul, 1) := by decide +kernel
theorem dX0_turn_12 : decode cX0_turn 12 = .ok (.iload_n 2, 1) := by decide +kernel
theorem dX0_turn_13 : decode cX0_turn 13 = .ok (.iadd, 1) := by decide +kernel
theorem dX0_turn_14 : decode cX0_turn 14 = .ok (.istore 5, 2) := by decide +kernel
theorem dX0_turn_16 : decode cX0_turn 16 = .ok (.aload_n 0, 1) := by decide +kernel
theorem dX0_turn_17 : decode cX0_turn 17 = .ok (.getfield 13, 3) := by decide +kernel
theorem dX0_turn_20 : decode cX0_turn 20 = .ok (.iload 4, 2) := by decide +kernel
theorem dX0_turn_22 : decode cX0_turn 22 = .ok (.aload_n 0, 1) := by decide +kernel
theorem dX0_turn_23 : decode cX0_turn 23 = .ok (.getfield 13, 3) := by decide +kernel
theorem dX0_turn_26 : decode cX0_turn 26 = .ok (.iload 4, 2) := by decide +kernel
theorem dX0_turn_28 : decode cX0_turn 28 = .ok (.saload, 1) := by decide +kernel
theorem dX0_turn_29 : decode cX0_turn 29 = .ok (.iconst 1, 1) := by decide +kernel
theorem dX0_turn_30 : decode cX0_turn 30 = .ok (.iload_n 2, 1) := by decide +kernel
theorem dX0_turn_31 : decode cX0_turn 31 = .ok (.ishl, 1) := by decide +kernel
theorem dX0_turn_32 : decode cX0_turn 32 = .ok (.ixor, 1) := by decide +kernel
theorem dX0_turn_33 : decode cX0_turn 33 = .ok (.i2s, 1) := by decide +kernel
theorem dX0_turn_34 : decode cX0_turn 34 = .ok (.sastore, 1) := by decide +kernel
theorem dX0_turn_35 : decode cX0_turn 35 = .ok (.aload_n 0, 1) := by decide +kernel
theorem dX0_turn_36 : decode cX0_turn 36 = .ok (.getfield 17, 3) := by decide +kernel
theorem dX0_turn_39 : decode cX0_turn 39 = .ok (.iload 5, 2) := by decide +kernel
theorem dX0_turn_41 : decode cX0_turn 41 = .ok (.aload_n 0, 1) := by decide +kernel
theorem dX0_turn_42 : decode cX0_turn 42 = .ok (.getfield 17, 3) := by decide +kernel
theorem dX0_turn_45 : decode cX0_turn 45 = .ok (.iload 5, 2) := by decide +kernel
theorem dX0_turn_47 : decode cX0_turn 47 = .ok (.saload, 1) := by decide +kernel
theorem dX0_turn_48 : decode cX0_turn 48 = .ok (.iconst 1, 1) := by decide +kernel
theorem dX0_turn_49 : decode cX0_turn 49 = .ok (.iload_n 1, 1) := by decide +kernel
theorem dX0_turn_50 : decode cX0_turn 50 = .ok (.ishl, 1) := by decide +kernel
theorem dX0_turn_51 : decode cX0_turn 51 = .ok (.ixor, 1) := by decide +kernel
theorem dX0_turn_52 : decode cX0_turn 52 = .ok (.i2s, 1) := by decide +kernel
theorem dX0_turn_53 : decode cX0_turn 53 = .ok (.sastore, 1) := by decide +kernel
theorem dX0_turn_54 : decode cX0_turn 54 = .ok (.aload_n 0, 1) := by decide +kernel
theorem dX0_turn_55 : decode cX0_turn 55 = .ok (.iconst 0, 1) := by decide +kernel
theorem dX0_turn_56 : decode cX0_turn 56 = .ok (.putfield 40, 3) := by decide +kernel
theorem dX0_turn_59 : decode cX0_turn 59 = .ok (.return_, 1) := by decide +kernel
abbrev cX0_cut : ByteArray := prog_1_method_7_code
def yX0_cut : MethodName := ⟨RX0, "cut", "(III)Z"⟩
theorem dX0_cut_0 : decode cX0_cut 0 = .ok (.iload_n 1, 1) := by decide +kernel
theorem dX0_cut_1 : decode cX0_cut 1 = .ok (.iload_n 2, 1) := by decide +kernel
theorem dX0_cut_2 : decode cX0_cut 2 = .ok (.iload_n 3, 1) := by decide +kernel
theorem dX0_cut_3 : decode cX0_cut 3 = .ok (.invokestatic 44, 3) := by decide +kernel
theorem dX0_cut_6 : decode cX0_cut 6 = .ok (.ifCond .eq 13, 3) := by decide +kernel
theorem dX0_cut_9 : decode cX0_cut 9 = .ok (.aload_n 0, 1) := by decide +kernel
theorem dX0_cut_10 : decode cX0_cut 10 = .ok (.iload_n 1, 1) := by decide +kernel
theorem dX0_cut_11 : decode cX0_cut 11 = .ok (.iload_n 2, 1) := by decide +kernel
theorem dX0_cut_12 : decode cX0_cut 12 = .ok (.iload_n 3, 1) := by decide +kernel
theorem dX0_cut_13 : decode cX0_cut 13 = .ok (.invokevirtual 48, 3) := by decide +kernel
theorem dX0_cut_16 : decode cX0_cut 16 = .ok (.ifCond .ne 5, 3) := by decide +kernel
theorem dX0_cut_19 : decode cX0_cut 19 = .ok (.iconst 0, 1) := by decide +kernel
theorem dX0_cut_20 : decode cX0_cut 20 = .ok (.ireturn, 1) := by decide +kernel
theorem dX0_cut_21 : decode cX0_cut 21 = .ok (.aload_n 0, 1) := by decide +kernel
theorem dX0_cut_22 : decode cX0_cut 22 = .ok (.iload_n 1, 1) := by decide +kernel
theorem dX0_cut_23 : decode cX0_cut 23 = .ok (.iload_n 2, 1) := by decide +kernel
theorem dX0_cut_24 : decode cX0_cut 24 = .ok (.iload_n 3, 1) := by decide +kernel
theorem dX0_cut_25 : decode cX0_cut 25 = .ok (.invokevirtual 55, 3) := by decide +kernel
theorem dX0_cut_28 : decode cX0_cut 28 = .ok (.aload_n 0, 1) := by decide +kernel
theorem dX0_cut_29 : decode cX0_cut 29 = .ok (.dup, 1) := by decide +kernel
theorem dX0_cut_30 : decode cX0_cut 30 = .ok (.getfield 51, 3) := by decide +kernel
theorem dX0_cut_33 : decode cX0_cut 33 = .ok (.iconst 1, 1) := by decide +kernel
theorem dX0_cut_34 : decode cX0_cut 34 = .ok (.isub, 1) := by decide +kernel
theorem dX0_cut_35 : decode cX0_cut 35 = .ok (.putfield 51, 3) := by decide +kernel
theorem dX0_cut_38 : decode cX0_cut 38 = .ok (.iconst 1, 1) := by decide +kernel
theorem dX0_cut_39 : decode cX0_cut 39 = .ok (.ireturn, 1) := by decide +kernel
abbrev cX0_add : ByteArray := prog_1_method_9_code
def yX0_add : MethodName := ⟨RX0, "add", "(II)I"⟩
theorem dX0_add_0 : decode cX0_add 0 = .ok (.iload_n 1, 1) := by decide +kernel
theorem dX0_add_1 : decode cX0_add 1 = .ok (.ifCond .lt 12, 3) := by decide +kernel
theorem dX0_add_4 : decode cX0_add 4 = .ok (.iload_n 1, 1) := by decide +kernel
theorem dX0_add_5 : decode cX0_add 5 = .ok (.iconst 3, 1) := by decide +kernel
theorem dX0_add_6 : decode cX0_add 6 = .ok (.if_icmp .gt 7, 3) := by decide +kernel
theorem dX0_add_9 : decode cX0_add 9 = .ok (.iconst 1, 1) := by decide +kernel
theorem dX0_add_10 : decode cX0_add 10 = .ok (.goto 4, 3) := by decide +kernel
theorem dX0_add_13 : decode cX0_add 13 = .ok (.iconst 0, 1) := by decide +kernel
theorem dX0_add_14 : decode cX0_add 14 = .ok (.istore_n 3, 1) := by decide +kernel
theorem dX0_add_15 : decode cX0_add 15 = .ok (.iload_n 1, 1) := by decide +kernel
theorem dX0_add_16 : decode cX0_add 16 = .ok (.ifCond .lt 37, 3) := by decide +kernel
theorem dX0_add_19 : decode cX0_add 19 = .ok (.iload_n 1, 1) := by decide +kernel
theorem dX0_add_20 : decode cX0_add 20 = .ok (.bipush 7, 2) := by decide +kernel
theorem dX0_add_22 : decode cX0_add 22 = .ok (.if_icmp .gt 31, 3) := by decide +kernel
theorem dX0_add_25 : decode cX0_add 25 = .ok (.iload_n 3, 1) := by decide +kernel
theorem dX0_add_26 : decode cX0_add 26 = .ok (.ifCond .eq 12, 3) := by decide +kernel
theorem dX0_add_29 : decode cX0_add 29 = .ok (.iload_n 2, 1) := by decide +kernel
theorem dX0_add_30 : decode cX0_add 30 = .ok (.ifCond .lt 23, 3) := by decide +kernel
theorem dX0_add_33 : decode cX0_add 33 = .ok (.iload_n 2, 1) := by decide +kernel
theorem dX0_add_34 : decode cX0_add 34 = .ok (.iconst 2, 1) := by decide +kernel
theorem dX0_add_35 : decode cX0_add 35 = .ok (.if_icmp .gt 18, 3) := by decide +kernel
theorem dX0_add_38 : decode cX0_add 38 = .ok (.iload_n 1, 1) := by decide +kernel
theorem dX0_add_39 : decode cX0_add 39 = .ok (.iconst 4, 1) := by decide +kernel
theorem dX0_add_40 : decode cX0_add 40 = .ok (.if_icmp .ne 15, 3) := by decide +kernel
theorem dX0_add_43 : decode cX0_add 43 = .ok (.iload_n 2, 1) := by decide +kernel
theorem dX0_add_44 : decode cX0_add 44 = .ok (.ifCond .lt 9, 3) := by decide +kernel
theorem dX0_add_47 : decode cX0_add 47 = .ok (.iload_n 2, 1) := by decide +kernel
theorem dX0_add_48 : decode cX0_add 48 = .ok (.bipush 9, 2) := by decide +kernel
theorem dX0_add_50 : decode cX0_add 50 = .ok (.if_icmp .le 5, 3) := by decide +kernel
theorem dX0_add_53 : decode cX0_add 53 = .ok (.iconst (-1), 1) := by decide +kernel
theorem dX0_add_54 : decode cX0_add 54 = .ok (.ireturn, 1) := by decide +kernel
theorem dX0_add_55 : decode cX0_add 55 = .ok (.aload_n 0, 1) := by decide +kernel
theorem dX0_add_56 : decode cX0_add 56 = .ok (.getfield 59, 3) := by decide +kernel
theorem dX0_add_59 : decode cX0_add 59 = .ok (.bipush 6, 2) := by decide +kernel
theorem dX0_add_61 : decode cX0_add 61 = .ok (.if_icmp .lt 6, 3) := by decide +kernel
theorem dX0_add_64 : decode cX0_add 64 = .ok (.bipush (-2), 2) := by decide +kernel
theorem dX0_add_66 : decode cX0_add 66 = .ok (.ireturn, 1) := by decide +kernel
theorem dX0_add_67 : decode cX0_add 67 = .ok (.aload_n 0, 1) := by decide +kernel
theorem dX0_add_68 : decode cX0_add 68 = .ok (.getfield 20, 3) := by decide +kernel
theorem dX0_add_71 : decode cX0_add 71 = .ok (.aload_n 0, 1) := by decide +kernel
theorem dX0_add_72 : decode cX0_add 72 = .ok (.getfield 59, 3) := by decide +kernel
theorem dX0_add_75 : decode cX0_add 75 = .ok (.iload_n 1, 1) := by decide +kernel
theorem dX0_add_76 : decode cX0_add 76 = .ok (.i2b, 1) := by decide +kernel
theorem dX0_add_77 : decode cX0_add 77 = .ok (.bastore, 1) := by decide +kernel
theorem dX0_add_78 : decode cX0_add 78 = .ok (.aload_n 0, 1) := by decide +kernel
theorem dX0_add_79 : decode cX0_add 79 = .ok (.getfield 23, 3) := by decide +kernel
theorem dX0_add_82 : decode cX0_add 82 = .ok (.aload_n 0, 1) := by decide +kernel
theorem dX0_add_83 : decode cX0_add 83 = .ok (.getfield 59, 3) := by decide +kernel
theorem dX0_add_86 : decode cX0_add 86 = .ok (.iload_n 3, 1) := by decide +kernel
theorem dX0_add_87 : decode cX0_add 87 = .ok (.ifCond .ne 8, 3) := by decide +kernel
theorem dX0_add_90 : decode cX0_add 90 = .ok (.iload_n 1, 1) := by decide +kernel
theorem dX0_add_91 : decode cX0_add 91 = .ok (.iconst 4, 1) := by decide +kernel
theorem dX0_add_92 : decode cX0_add 92 = .ok (.if_icmp .ne 7, 3) := by decide +kernel
theorem dX0_add_95 : decode cX0_add 95 = .ok (.iload_n 2, 1) := by decide +kernel
theorem dX0_add_96 : decode cX0_add 96 = .ok (.goto 4, 3) := by decide +kernel
theorem dX0_add_99 : decode cX0_add 99 = .ok (.iconst 0, 1) := by decide +kernel
theorem dX0_add_100 : decode cX0_add 100 = .ok (.i2b, 1) := by decide +kernel
theorem dX0_add_101 : decode cX0_add 101 = .ok (.bastore, 1) := by decide +kernel
theorem dX0_add_102 : decode cX0_add 102 = .ok (.aload_n 0, 1) := by decide +kernel
theorem dX0_add_103 : decode cX0_add 103 = .ok (.dup, 1) := by decide +kernel
theorem dX0_add_104 : decode cX0_add 104 = .ok (.getfield 59, 3) := by decide +kernel
theorem dX0_add_107 : decode cX0_add 107 = .ok (.iconst 1, 1) := by decide +kernel
theorem dX0_add_108 : decode cX0_add 108 = .ok (.iadd, 1) := by decide +kernel
theorem dX0_add_109 : decode cX0_add 109 = .ok (.putfield 59, 3) := by decide +kernel
theorem dX0_add_112 : decode cX0_add 112 = .ok (.aload_n 0, 1) := by decide +kernel
theorem dX0_add_113 : decode cX0_add 113 = .ok (.iconst 0, 1) := by decide +kernel
theorem dX0_add_114 : decode cX0_add 114 = .ok (.putfield 40, 3) := by decide +kernel
theorem dX0_add_117 : decode cX0_add 117 = .ok (.aload_n 0, 1) := by decide +kernel
theorem dX0_add_118 : decode cX0_add 118 = .ok (.getfield 59, 3) := by decide +kernel
theorem dX0_add_121 : decode cX0_add 121 = .ok (.ireturn, 1) := by decide +kernel
abbrev cX0_drop : ByteArray := prog_1_method_10_code
def yX0_drop : MethodName := ⟨RX0, "drop", "()I"⟩
theorem dX0_drop_0 : decode cX0_drop 0 = .ok (.aload_n 0, 1) := by decide +kernel
theorem dX0_drop_1 : decode cX0_drop 1 = .ok (.getfield 59, 3) := by decide +kernel
theorem dX0_drop_4 : decode cX0_drop 4 = .ok (.ifCond .ne 5, 3) := by decide +kernel
theorem dX0_drop_7 : decode cX0_drop 7 = .ok (.iconst (-1), 1) := by decide +kernel
theorem dX0_drop_8 : decode cX0_drop 8 = .ok (.ireturn, 1) := by decide +kernel
theorem dX0_drop_9 : decode cX0_drop 9 = .ok (.aload_n 0, 1) := by decide +kernel
theorem dX0_drop_10 : decode cX0_drop 10 = .ok (.dup, 1) := by decide +kernel
theorem dX0_drop_11 : decode cX0_drop 11 = .ok (.getfield 59, 3) := by decide +kernel
theorem dX0_drop_14 : decode cX0_drop 14 = .ok (.iconst 1, 1) := by decide +kernel
theorem dX0_drop_15 : decode cX0_drop 15 = .ok (.isub, 1) := by decide +kernel
theorem dX0_drop_16 : decode cX0_drop 16 = .ok (.putfield 59, 3) := by decide +kernel
theorem dX0_drop_19 : decode cX0_drop 19 = .ok (.aload_n 0, 1) := by decide +kernel
theorem dX0_drop_20 : decode cX0_drop 20 = .ok (.iconst 0, 1) := by decide +kernel
theorem dX0_drop_21 : decode cX0_drop 21 = .ok (.putfield 40, 3) := by decide +kernel
theorem dX0_drop_24 : decode cX0_drop 24 = .ok (.aload_n 0, 1) := by decide +kernel
theorem dX0_drop_25 : decode cX0_drop 25 = .ok (.getfield 59, 3) := by decide +kernel
theorem dX0_drop_28 : decode cX0_drop 28 = .ok (.ireturn, 1) := by decide +kernel
abbrev cX0_from : ByteArray := prog_1_method_11_code
def yX0_from : MethodName := ⟨RX0, "from", "(I)Z"⟩
theorem dX0_from_0 : decode cX0_from 0 = .ok (.iload_n 1, 1) := by decide +kernel
theorem dX0_from_1 : decode cX0_from 1 = .ok (.ifCond .lt 10, 3) := by decide +kernel
theorem dX0_from_4 : decode cX0_from 4 = .ok (.iload_n 1, 1) := by decide +kernel
theorem dX0_from_5 : decode cX0_from 5 = .ok (.sipush 255, 3) := by decide +kernel
theorem dX0_from_8 : decode cX0_from 8 = .ok (.if_icmp .le 5, 3) := by decide +kernel
theorem dX0_from_11 : decode cX0_from 11 = .ok (.iconst 0, 1) := by decide +kernel
theorem dX0_from_12 : decode cX0_from 12 = .ok (.ireturn, 1) := by decide +kernel
theorem dX0_from_13 : decode cX0_from 13 = .ok (.aload_n 0, 1) := by decide +kernel
theorem dX0_from_14 : decode cX0_from 14 = .ok (.iload_n 1, 1) := by decide +kernel
theorem dX0_from_15 : decode cX0_from 15 = .ok (.putfield 62, 3) := by decide +kernel
theorem dX0_from_18 : decode cX0_from 18 = .ok (.aload_n 0, 1) := by decide +kernel
theorem dX0_from_19 : decode cX0_from 19 = .ok (.iconst 0, 1) := by decide +kernel
theorem dX0_from_20 : decode cX0_from 20 = .ok (.putfield 40, 3) := by decide +kernel
theorem dX0_from_23 : decode cX0_from 23 = .ok (.iconst 1, 1) := by decide +kernel
theorem dX0_from_24 : decode cX0_from 24 = .ok (.ireturn, 1) := by decide +kernel
abbrev cX0_at : ByteArray := prog_1_method_20_code
def yX0_at : MethodName := ⟨RX0, "at", "(I)I"⟩
theorem dX0_at_0 : decode cX0_at 0 = .ok (.iload_n 1, 1) := by decide +kernel
theorem dX0_at_1 : decode cX0_at 1 = .ok (.invokestatic 36, 3) := by decide +kernel
theorem dX0_at_4 : decode cX0_at 4 = .ok (.ifCond .ne 5, 3) := by decide +kernel
theorem dX0_at_7 : decode cX0_at 7 = .ok (.iconst 0, 1) := by decide +kernel
theorem dX0_at_8 : decode cX0_at 8 = .ok (.ireturn, 1) := by decide +kernel
theorem dX0_at_9 : decode cX0_at 9 = .ok (.aload_n 0, 1) := by decide +kernel
theorem dX0_at_10 : decode cX0_at 10 = .ok (.invokevirtual 89, 3) := by decide +kernel
theorem dX0_at_13 : decode cX0_at 13 = .ok (.iconst 0, 1) := by decide +kernel
theorem dX0_at_14 : decode cX0_at 14 = .ok (.istore_n 2, 1) := by decide +kernel
theorem dX0_at_15 : decode cX0_at 15 = .ok (.iconst 0, 1) := by decide +kernel
theorem dX0_at_16 : decode cX0_at 16 = .ok (.istore_n 3, 1) := by decide +kernel
theorem dX0_at_17 : decode cX0_at 17 = .ok (.iload_n 3, 1) := by decide +kernel
theorem dX0_at_18 : decode cX0_at 18 = .ok (.bipush 8, 2) := by decide +kernel
theorem dX0_at_20 : decode cX0_at 20 = .ok (.if_icmp .ge 23, 3) := by decide +kernel
theorem dX0_at_23 : decode cX0_at 23 = .ok (.iload_n 2, 1) := by decide +kernel
theorem dX0_at_24 : decode cX0_at 24 = .ok (.aload_n 0, 1) := by decide +kernel
theorem dX0_at_25 : decode cX0_at 25 = .ok (.getfield 26, 3) := by decide +kernel
theorem dX0_at_28 : decode cX0_at 28 = .ok (.iload_n 1, 1) := by decide +kernel
theorem dX0_at_29 : decode cX0_at 29 = .ok (.bipush 8, 2) := by decide +kernel
theorem dX0_at_31 : decode cX0_at 31 = .ok (.imul, 1) := by decide +kernel
theorem dX0_at_32 : decode cX0_at 32 = .ok (.iload_n 3, 1) := by decide +kernel
theorem dX0_at_33 : decode cX0_at 33 = .ok (.iadd, 1) := by decide +kernel
theorem dX0_at_34 : decode cX0_at 34 = .ok (.iaload, 1) := by decide +kernel
theorem dX0_at_35 : decode cX0_at 35 = .ok (.iadd, 1) := by decide +kernel
theorem dX0_at_36 : decode cX0_at 36 = .ok (.istore_n 2, 1) := by decide +kernel
theorem dX0_at_37 : decode cX0_at 37 = .ok (.iinc 3 1, 3) := by decide +kernel
theorem dX0_at_40 : decode cX0_at 40 = .ok (.goto (-23), 3) := by decide +kernel
theorem dX0_at_43 : decode cX0_at 43 = .ok (.iload_n 2, 1) := by decide +kernel
theorem dX0_at_44 : decode cX0_at 44 = .ok (.ireturn, 1) := by decide +kernel
abbrev cX0_walk : ByteArray := prog_1_method_12_code
def yX0_walk : MethodName := ⟨RX0, "walk", "()V"⟩
theorem dX0_walk_0 : decode cX0_walk 0 = .ok (.aload_n 0, 1) := by decide +kernel
theorem dX0_walk_1 : decode cX0_walk 1 = .ok (.getfield 40, 3) := by decide +kernel
theorem dX0_walk_4 : decode cX0_walk 4 = .ok (.ifCond .eq 4, 3) := by decide +kernel
theorem dX0_walk_7 : decode cX0_walk 7 = .ok (.return_, 1) := by decide +kernel
theorem dX0_walk_8 : decode cX0_walk 8 = .ok (.aload_n 0, 1) := by decide +kernel
theorem dX0_walk_9 : decode cX0_walk 9 = .ok (.iconst 1, 1) := by decide +kernel
theorem dX0_walk_10 : decode cX0_walk 10 = .ok (.putfield 40, 3) := by decide +kernel
theorem dX0_walk_13 : decode cX0_walk 13 = .ok (.iconst 0, 1) := by decide +kernel
theorem dX0_walk_14 : decode cX0_walk 14 = .ok (.istore_n 1, 1) := by decide +kernel
theorem dX0_walk_15 : decode cX0_walk 15 = .ok (.iload_n 1, 1) := by decide +kernel
theorem dX0_walk_16 : decode cX0_walk 16 = .ok (.bipush 64, 2) := by decide +kernel
theorem dX0_walk_18 : decode cX0_walk 18 = .ok (.if_icmp .ge 55, 3) := by decide +kernel
theorem dX0_walk_21 : decode cX0_walk 21 = .ok (.iload_n 1, 1) := by decide +kernel
theorem dX0_walk_22 : decode cX0_walk 22 = .ok (.bipush 8, 2) := by decide +kernel
theorem dX0_walk_24 : decode cX0_walk 24 = .ok (.idiv, 1) := by decide +kernel
theorem dX0_walk_25 : decode cX0_walk 25 = .ok (.iload_n 1, 1) := by decide +kernel
theorem dX0_walk_26 : decode cX0_walk 26 = .ok (.bipush 8, 2) := by decide +kernel
theorem dX0_walk_28 : decode cX0_walk 28 = .ok (.irem, 1) := by decide +kernel
theorem dX0_walk_29 : decode cX0_walk 29 = .ok (.if_icmp .ne 21, 3) := by decide +kernel
theorem dX0_walk_32 : decode cX0_walk 32 = .ok (.aload_n 0, 1) := by decide +kernel
theorem dX0_walk_33 : decode cX0_walk 33 = .ok (.getfield 62, 3) := by decide +kernel
theorem dX0_walk_36 : decode cX0_walk 36 = .ok (.iload_n 1, 1) := by decide +kernel
theorem dX0_walk_37 : decode cX0_walk 37 = .ok (.bipush 8, 2) := by decide +kernel
theorem dX0_walk_39 : decode cX0_walk 39 = .ok (.irem, 1) := by decide +kernel
theorem dX0_walk_40 : decode cX0_walk 40 = .ok (.ishr, 1) := by decide +kernel
theorem dX0_walk_41 : decode cX0_walk 41 = .ok (.iconst 1, 1) := by decide +kernel
theorem dX0_walk_42 : decode cX0_walk 42 = .ok (.iand, 1) := by decide +kernel
theorem dX0_walk_43 : decode cX0_walk 43 = .ok (.ifCond .eq 7, 3) := by decide +kernel
theorem dX0_walk_46 : decode cX0_walk 46 = .ok (.iconst 1, 1) := by decide +kernel
theorem dX0_walk_47 : decode cX0_walk 47 = .ok (.goto 4, 3) := by decide +kernel
theorem dX0_walk_50 : decode cX0_walk 50 = .ok (.iconst 0, 1) := by decide +kernel
theorem dX0_walk_51 : decode cX0_walk 51 = .ok (.istore_n 2, 1) := by decide +kernel
theorem dX0_walk_52 : decode cX0_walk 52 = .ok (.aload_n 0, 1) := by decide +kernel
theorem dX0_walk_53 : decode cX0_walk 53 = .ok (.getfield 26, 3) := by decide +kernel
theorem dX0_walk_56 : decode cX0_walk 56 = .ok (.iload_n 1, 1) := by decide +kernel
theorem dX0_walk_57 : decode cX0_walk 57 = .ok (.iload_n 2, 1) := by decide +kernel
theorem dX0_walk_58 : decode cX0_walk 58 = .ok (.ifCond .eq 7, 3) := by decide +kernel
theorem dX0_walk_61 : decode cX0_walk 61 = .ok (.iconst 1, 1) := by decide +kernel
theorem dX0_walk_62 : decode cX0_walk 62 = .ok (.goto 4, 3) := by decide +kernel
theorem dX0_walk_65 : decode cX0_walk 65 = .ok (.iconst 0, 1) := by decide +kernel
theorem dX0_walk_66 : decode cX0_walk 66 = .ok (.iastore, 1) := by decide +kernel
theorem dX0_walk_67 : decode cX0_walk 67 = .ok (.iinc 1 1, 3) := by decide +kernel
theorem dX0_walk_70 : decode cX0_walk 70 = .ok (.goto (-55), 3) := by decide +kernel
theorem dX0_walk_73 : decode cX0_walk 73 = .ok (.aload_n 0, 1) := by decide +kernel
theorem dX0_walk_74 : decode cX0_walk 74 = .ok (.getfield 33, 3) := by decide +kernel
theorem dX0_walk_77 : decode cX0_walk 77 = .ok (.iconst 0, 1) := by decide +kernel
theorem dX0_walk_78 : decode cX0_walk 78 = .ok (.aload_n 0, 1) := by decide +kernel
theorem dX0_walk_79 : decode cX0_walk 79 = .ok (.invokevirtual 65, 3) := by decide +kernel
theorem dX0_walk_82 : decode cX0_walk 82 = .ok (.iastore, 1) := by decide +kernel
theorem dX0_walk_83 : decode cX0_walk 83 = .ok (.iconst 0, 1) := by decide +kernel
theorem dX0_walk_84 : decode cX0_walk 84 = .ok (.istore_n 1, 1) := by decide +kernel
theorem dX0_walk_85 : decode cX0_walk 85 = .ok (.iload_n 1, 1) := by decide +kernel
theorem dX0_walk_86 : decode cX0_walk 86 = .ok (.aload_n 0, 1) := by decide +kernel
theorem dX0_walk_87 : decode cX0_walk 87 = .ok (.getfield 59, 3) := by decide +kernel
theorem dX0_walk_90 : decode cX0_walk 90 = .ok (.if_icmp .ge 84, 3) := by decide +kernel
theorem dX0_walk_93 : decode cX0_walk 93 = .ok (.aload_n 0, 1) := by decide +kernel
theorem dX0_walk_94 : decode cX0_walk 94 = .ok (.getfield 20, 3) := by decide +kernel
theorem dX0_walk_97 : decode cX0_walk 97 = .ok (.iload_n 1, 1) := by decide +kernel
theorem dX0_walk_98 : decode cX0_walk 98 = .ok (.baload, 1) := by decide +kernel
theorem dX0_walk_99 : decode cX0_walk 99 = .ok (.iconst 3, 1) := by decide +kernel
theorem dX0_walk_100 : decode cX0_walk 100 = .ok (.if_icmp .gt 22, 3) := by decide +kernel
theorem dX0_walk_103 : decode cX0_walk 103 = .ok (.aload_n 0, 1) := by decide +kernel
theorem dX0_walk_104 : decode cX0_walk 104 = .ok (.aload_n 0, 1) := by decide +kernel
theorem dX0_walk_105 : decode cX0_walk 105 = .ok (.getfield 20, 3) := by decide +kernel
theorem dX0_walk_108 : decode cX0_walk 108 = .ok (.iload_n 1, 1) := by decide +kernel
theorem dX0_walk_109 : decode cX0_walk 109 = .ok (.baload, 1) := by decide +kernel
theorem dX0_walk_110 : decode cX0_walk 110 = .ok (.aload_n 0, 1) := by decide +kernel
theorem dX0_walk_111 : decode cX0_walk 111 = .ok (.getfield 23, 3) := by decide +kernel
theorem dX0_walk_114 : decode cX0_walk 114 = .ok (.iload_n 1, 1) := by decide +kernel
theorem dX0_walk_115 : decode cX0_walk 115 = .ok (.baload, 1) := by decide +kernel
theorem dX0_walk_116 : decode cX0_walk 116 = .ok (.invokevirtual 69, 3) := by decide +kernel
theorem dX0_walk_119 : decode cX0_walk 119 = .ok (.goto 37, 3) := by decide +kernel
theorem dX0_walk_122 : decode cX0_walk 122 = .ok (.aload_n 0, 1) := by decide +kernel
theorem dX0_walk_123 : decode cX0_walk 123 = .ok (.getfield 20, 3) := by decide +kernel
theorem dX0_walk_126 : decode cX0_walk 126 = .ok (.iload_n 1, 1) := by decide +kernel
theorem dX0_walk_127 : decode cX0_walk 127 = .ok (.baload, 1) := by decide +kernel
theorem dX0_walk_128 : decode cX0_walk 128 = .ok (.bipush 7, 2) := by decide +kernel
theorem dX0_walk_130 : decode cX0_walk 130 = .ok (.if_icmp .ne 10, 3) := by decide +kernel
theorem dX0_walk_133 : decode cX0_walk 133 = .ok (.aload_n 0, 1) := by decide +kernel
theorem dX0_walk_134 : decode cX0_walk 134 = .ok (.invokevirtual 73, 3) := by decide +kernel
theorem dX0_walk_137 : decode cX0_walk 137 = .ok (.goto 19, 3) := by decide +kernel
theorem dX0_walk_140 : decode cX0_walk 140 = .ok (.aload_n 0, 1) := by decide +kernel
theorem dX0_walk_141 : decode cX0_walk 141 = .ok (.aload_n 0, 1) := by decide +kernel
theorem dX0_walk_142 : decode cX0_walk 142 = .ok (.getfield 20, 3) := by decide +kernel
theorem dX0_walk_145 : decode cX0_walk 145 = .ok (.iload_n 1, 1) := by decide +kernel
theorem dX0_walk_146 : decode cX0_walk 146 = .ok (.baload, 1) := by decide +kernel
theorem dX0_walk_147 : decode cX0_walk 147 = .ok (.aload_n 0, 1) := by decide +kernel
theorem dX0_walk_148 : decode cX0_walk 148 = .ok (.getfield 23, 3) := by decide +kernel
theorem dX0_walk_151 : decode cX0_walk 151 = .ok (.iload_n 1, 1) := by decide +kernel
theorem dX0_walk_152 : decode cX0_walk 152 = .ok (.baload, 1) := by decide +kernel
theorem dX0_walk_153 : decode cX0_walk 153 = .ok (.invokevirtual 76, 3) := by decide +kernel
theorem dX0_walk_156 : decode cX0_walk 156 = .ok (.aload_n 0, 1) := by decide +kernel
theorem dX0_walk_157 : decode cX0_walk 157 = .ok (.getfield 33, 3) := by decide +kernel
theorem dX0_walk_160 : decode cX0_walk 160 = .ok (.iload_n 1, 1) := by decide +kernel
theorem dX0_walk_161 : decode cX0_walk 161 = .ok (.iconst 1, 1) := by decide +kernel
theorem dX0_walk_162 : decode cX0_walk 162 = .ok (.iadd, 1) := by decide +kernel
theorem dX0_walk_163 : decode cX0_walk 163 = .ok (.aload_n 0, 1) := by decide +kernel
theorem dX0_walk_164 : decode cX0_walk 164 = .ok (.invokevirtual 65, 3) := by decide +kernel
theorem dX0_walk_167 : decode cX0_walk 167 = .ok (.iastore, 1) := by decide +kernel
theorem dX0_walk_168 : decode cX0_walk 168 = .ok (.iinc 1 1, 3) := by decide +kernel
theorem dX0_walk_171 : decode cX0_walk 171 = .ok (.goto (-86), 3) := by decide +kernel
theorem dX0_walk_174 : decode cX0_walk 174 = .ok (.return_, 1) := by decide +kernel
abbrev cX0_total : ByteArray := prog_1_method_13_code
def yX0_total : MethodName := ⟨RX0, "total", "()I"⟩
theorem dX0_total_0 : decode cX0_total 0 = .ok (.iconst 0, 1) := by decide +kernel
theorem dX0_total_1 : decode cX0_total 1 = .ok (.istore_n 1, 1) := by decide +kernel
theorem dX0_total_2 : decode cX0_total 2 = .ok (.iconst 0, 1) := by decide +kernel
theorem dX0_total_3 : decode cX0_total 3 = .ok (.istore_n 2, 1) := by decide +kernel
theorem dX0_total_4 : decode cX0_total 4 = .ok (.iload_n 2, 1) := by decide +kernel
theorem dX0_total_5 : decode cX0_total 5 = .ok (.bipush 64, 2) := by decide +kernel
theorem dX0_total_7 : decode cX0_total 7 = .ok (.if_icmp .ge 18, 3) := by decide +kernel
theorem dX0_total_10 : decode cX0_total 10 = .ok (.iload_n 1, 1) := by decide +kernel
theorem dX0_total_11 : decode cX0_total 11 = .ok (.aload_n 0, 1) := by decide +kernel
theorem dX0_total_12 : decode cX0_total 12 = .ok (.getfield 26, 3) := by decide +kernel
theorem dX0_total_15 : decode cX0_total 15 = .ok (.iload_n 2, 1) := by decide +kernel
theorem dX0_total_16 : decode cX0_total 16 = .ok (.iaload, 1) := by decide +kernel
theorem dX0_total_17 : decode cX0_total 17 = .ok (.iadd, 1) := by decide +kernel
theorem dX0_total_18 : decode cX0_total 18 = .ok (.istore_n 1, 1) := by decide +kernel
theorem dX0_total_19 : decode cX0_total 19 = .ok (.iinc 2 1, 3) := by decide +kernel
theorem dX0_total_22 : decode cX0_total 22 = .ok (.goto (-18), 3) := by decide +kernel
theorem dX0_total_25 : decode cX0_total 25 = .ok (.iload_n 1, 1) := by decide +kernel
theorem dX0_total_26 : decode cX0_total 26 = .ok (.ireturn, 1) := by decide +kernel
abbrev cX0_move : ByteArray := prog_1_method_14_code
def yX0_move : MethodName := ⟨RX0, "move", "(II)V"⟩
theorem dX0_move_0 : decode cX0_move 0 = .ok (.iconst 0, 1) := by decide +kernel
theorem dX0_move_1 : decode cX0_move 1 = .ok (.istore_n 3, 1) := by decide +kernel
theorem dX0_move_2 : decode cX0_move 2 = .ok (.iload_n 3, 1) := by decide +kernel
theorem dX0_move_3 : decode cX0_move 3 = .ok (.bipush 64, 2) := by decide +kernel
theorem dX0_move_5 : decode cX0_move 5 = .ok (.if_icmp .ge 28, 3) := by decide +kernel
theorem dX0_move_8 : decode cX0_move 8 = .ok (.aload_n 0, 1) := by decide +kernel
theorem dX0_move_9 : decode cX0_move 9 = .ok (.getfield 30, 3) := by decide +kernel
theorem dX0_move_12 : decode cX0_move 12 = .ok (.iload_n 3, 1) := by decide +kernel
theorem dX0_move_13 : decode cX0_move 13 = .ok (.aload_n 0, 1) := by decide +kernel
theorem dX0_move_14 : decode cX0_move 14 = .ok (.getfield 26, 3) := by decide +kernel
theorem dX0_move_17 : decode cX0_move 17 = .ok (.iload_n 3, 1) := by decide +kernel
theorem dX0_move_18 : decode cX0_move 18 = .ok (.iaload, 1) := by decide +kernel
theorem dX0_move_19 : decode cX0_move 19 = .ok (.iastore, 1) := by decide +kernel
theorem dX0_move_20 : decode cX0_move 20 = .ok (.aload_n 0, 1) := by decide +kernel
theorem dX0_move_21 : decode cX0_move 21 = .ok (.getfield 26, 3) := by decide +kernel
theorem dX0_move_24 : decode cX0_move 24 = .ok (.iload_n 3, 1) := by decide +kernel
theorem dX0_move_25 : decode cX0_move 25 = .ok (.iconst 0, 1) := by decide +kernel
theorem dX0_move_26 : decode cX0_move 26 = .ok (.iastore, 1) := by decide +kernel
theorem dX0_move_27 : decode cX0_move 27 = .ok (.iinc 3 1, 3) := by decide +kernel
theorem dX0_move_30 : decode cX0_move 30 = .ok (.goto (-28), 3) := by decide +kernel
theorem dX0_move_33 : decode cX0_move 33 = .ok (.iconst 0, 1) := by decide +kernel
theorem dX0_move_34 : decode cX0_move 34 = .ok (.istore_n 3, 1) := by decide +kernel
theorem dX0_move_35 : decode cX0_move 35 = .ok (.iload_n 3, 1) := by decide +kernel
theorem dX0_move_36 : decode cX0_move 36 = .ok (.bipush 8, 2) := by decide +kernel
theorem dX0_move_38 : decode cX0_move 38 = .ok (.if_icmp .ge 63, 3) := by decide +kernel
theorem dX0_move_41 : decode cX0_move 41 = .ok (.iconst 0, 1) := by decide +kernel
theorem dX0_move_42 : decode cX0_move 42 = .ok (.istore 4, 2) := by decide +kernel
theorem dX0_move_44 : decode cX0_move 44 = .ok (.iload 4, 2) := by decide +kernel
theorem dX0_move_46 : decode cX0_move 46 = .ok (.iconst 2, 1) := by decide +kernel
theorem dX0_move_47 : decode cX0_move 47 = .ok (.if_icmp .ge 28, 3) := by decide +kernel
theorem dX0_move_50 : decode cX0_move 50 = .ok (.iload_n 2, 1) := by decide +kernel
theorem dX0_move_51 : decode cX0_move 51 = .ok (.iconst 2, 1) := by decide +kernel
theorem dX0_move_52 : decode cX0_move 52 = .ok (.if_icmp .eq 9, 3) := by decide +kernel
theorem dX0_move_55 : decode cX0_move 55 = .ok (.iload_n 2, 1) := by decide +kernel
theorem dX0_move_56 : decode cX0_move 56 = .ok (.iload 4, 2) := by decide +kernel
theorem dX0_move_58 : decode cX0_move 58 = .ok (.if_icmp .ne 11, 3) := by decide +kernel
theorem dX0_move_61 : decode cX0_move 61 = .ok (.aload_n 0, 1) := by decide +kernel
theorem dX0_move_62 : decode cX0_move 62 = .ok (.iload_n 1, 1) := by decide +kernel
theorem dX0_move_63 : decode cX0_move 63 = .ok (.iload_n 3, 1) := by decide +kernel
theorem dX0_move_64 : decode cX0_move 64 = .ok (.iload 4, 2) := by decide +kernel
theorem dX0_move_66 : decode cX0_move 66 = .ok (.invokevirtual 79, 3) := by decide +kernel
theorem dX0_move_69 : decode cX0_move 69 = .ok (.iinc 4 1, 3) := by decide +kernel
theorem dX0_move_72 : decode cX0_move 72 = .ok (.goto (-28), 3) := by decide +kernel
theorem dX0_move_75 : decode cX0_move 75 = .ok (.iload_n 1, 1) := by decide +kernel
theorem dX0_move_76 : decode cX0_move 76 = .ok (.iconst 3, 1) := by decide +kernel
theorem dX0_move_77 : decode cX0_move 77 = .ok (.if_icmp .ne 18, 3) := by decide +kernel
theorem dX0_move_80 : decode cX0_move 80 = .ok (.aload_n 0, 1) := by decide +kernel
theorem dX0_move_81 : decode cX0_move 81 = .ok (.iload_n 3, 1) := by decide +kernel
theorem dX0_move_82 : decode cX0_move 82 = .ok (.iload_n 2, 1) := by decide +kernel
theorem dX0_move_83 : decode cX0_move 83 = .ok (.invokevirtual 82, 3) := by decide +kernel
theorem dX0_move_86 : decode cX0_move 86 = .ok (.ifCond .ne 9, 3) := by decide +kernel
theorem dX0_move_89 : decode cX0_move 89 = .ok (.aload_n 0, 1) := by decide +kernel
theorem dX0_move_90 : decode cX0_move 90 = .ok (.iload_n 3, 1) := by decide +kernel
theorem dX0_move_91 : decode cX0_move 91 = .ok (.iload_n 3, 1) := by decide +kernel
theorem dX0_move_92 : decode cX0_move 92 = .ok (.invokevirtual 86, 3) := by decide +kernel
theorem dX0_move_95 : decode cX0_move 95 = .ok (.iinc 3 1, 3) := by decide +kernel
theorem dX0_move_98 : decode cX0_move 98 = .ok (.goto (-63), 3) := by decide +kernel
theorem dX0_move_101 : decode cX0_move 101 = .ok (.return_, 1) := by decide +kernel
abbrev cX0_spread : ByteArray := prog_1_method_16_code
def yX0_spread : MethodName := ⟨RX0, "spread", "(III)V"⟩
theorem dX0_spread_0 : decode cX0_spread 0 = .ok (.iload_n 1, 1) := by decide +kernel
theorem dX0_spread_1 : decode cX0_spread 1 = .ok (.iconst 1, 1) := by decide +kernel
theorem dX0_spread_2 : decode cX0_spread 2 = .ok (.if_icmp .ne 7, 3) := by decide +kernel
theorem dX0_spread_5 : decode cX0_spread 5 = .ok (.iconst 0, 1) := by decide +kernel
theorem dX0_spread_6 : decode cX0_spread 6 = .ok (.goto 14, 3) := by decide +kernel
theorem dX0_spread_9 : decode cX0_spread 9 = .ok (.aload_n 0, 1) := by decide +kernel
theorem dX0_spread_10 : decode cX0_spread 10 = .ok (.getfield 13, 3) := by decide +kernel
theorem dX0_spread_13 : decode cX0_spread 13 = .ok (.iload_n 3, 1) := by decide +kernel
theorem dX0_spread_14 : decode cX0_spread 14 = .ok (.bipush 8, 2) := by decide +kernel
theorem dX0_spread_16 : decode cX0_spread 16 = .ok (.imul, 1) := by decide +kernel
theorem dX0_spread_17 : decode cX0_spread 17 = .ok (.iload_n 2, 1) := by decide +kernel
theorem dX0_spread_18 : decode cX0_spread 18 = .ok (.iadd, 1) := by decide +kernel
theorem dX0_spread_19 : decode cX0_spread 19 = .ok (.saload, 1) := by decide +kernel
theorem dX0_spread_20 : decode cX0_spread 20 = .ok (.istore 4, 2) := by decide +kernel
theorem dX0_spread_22 : decode cX0_spread 22 = .ok (.iload_n 1, 1) := by decide +kernel
theorem dX0_spread_23 : decode cX0_spread 23 = .ok (.iconst 1, 1) := by decide +kernel
theorem dX0_spread_24 : decode cX0_spread 24 = .ok (.if_icmp .eq 8, 3) := by decide +kernel
theorem dX0_spread_27 : decode cX0_spread 27 = .ok (.iload_n 1, 1) := by decide +kernel
theorem dX0_spread_28 : decode cX0_spread 28 = .ok (.iconst 2, 1) := by decide +kernel
theorem dX0_spread_29 : decode cX0_spread 29 = .ok (.if_icmp .ne 17, 3) := by decide +kernel
theorem dX0_spread_32 : decode cX0_spread 32 = .ok (.aload_n 0, 1) := by decide +kernel
theorem dX0_spread_33 : decode cX0_spread 33 = .ok (.getfield 17, 3) := by decide +kernel
theorem dX0_spread_36 : decode cX0_spread 36 = .ok (.iload_n 3, 1) := by decide +kernel
theorem dX0_spread_37 : decode cX0_spread 37 = .ok (.bipush 8, 2) := by decide +kernel
theorem dX0_spread_39 : decode cX0_spread 39 = .ok (.imul, 1) := by decide +kernel
theorem dX0_spread_40 : decode cX0_spread 40 = .ok (.iload_n 2, 1) := by decide +kernel
theorem dX0_spread_41 : decode cX0_spread 41 = .ok (.iadd, 1) := by decide +kernel
theorem dX0_spread_42 : decode cX0_spread 42 = .ok (.saload, 1) := by decide +kernel
theorem dX0_spread_43 : decode cX0_spread 43 = .ok (.goto 4, 3) := by decide +kernel
theorem dX0_spread_46 : decode cX0_spread 46 = .ok (.iconst 0, 1) := by decide +kernel
theorem dX0_spread_47 : decode cX0_spread 47 = .ok (.istore 5, 2) := by decide +kernel
theorem dX0_spread_49 : decode cX0_spread 49 = .ok (.iconst 0, 1) := by decide +kernel
theorem dX0_spread_50 : decode cX0_spread 50 = .ok (.istore 6, 2) := by decide +kernel
theorem dX0_spread_52 : decode cX0_spread 52 = .ok (.iload 6, 2) := by decide +kernel
theorem dX0_spread_54 : decode cX0_spread 54 = .ok (.bipush 8, 2) := by decide +kernel
theorem dX0_spread_56 : decode cX0_spread 56 = .ok (.if_icmp .ge 43, 3) := by decide +kernel
theorem dX0_spread_59 : decode cX0_spread 59 = .ok (.iload 4, 2) := by decide +kernel
theorem dX0_spread_61 : decode cX0_spread 61 = .ok (.iload 6, 2) := by decide +kernel
theorem dX0_spread_63 : decode cX0_spread 63 = .ok (.ishr, 1) := by decide +kernel
theorem dX0_spread_64 : decode cX0_spread 64 = .ok (.iconst 1, 1) := by decide +kernel
theorem dX0_spread_65 : decode cX0_spread 65 = .ok (.iand, 1) := by decide +kernel
theorem dX0_spread_66 : decode cX0_spread 66 = .ok (.ifCond .eq 10, 3) := by decide +kernel
theorem dX0_spread_69 : decode cX0_spread 69 = .ok (.aload_n 0, 1) := by decide +kernel
theorem dX0_spread_70 : decode cX0_spread 70 = .ok (.iload_n 2, 1) := by decide +kernel
theorem dX0_spread_71 : decode cX0_spread 71 = .ok (.iload 6, 2) := by decide +kernel
theorem dX0_spread_73 : decode cX0_spread 73 = .ok (.invokevirtual 86, 3) := by decide +kernel
theorem dX0_spread_76 : decode cX0_spread 76 = .ok (.iload 5, 2) := by decide +kernel
theorem dX0_spread_78 : decode cX0_spread 78 = .ok (.iload 6, 2) := by decide +kernel
theorem dX0_spread_80 : decode cX0_spread 80 = .ok (.ishr, 1) := by decide +kernel
theorem dX0_spread_81 : decode cX0_spread 81 = .ok (.iconst 1, 1) := by decide +kernel
theorem dX0_spread_82 : decode cX0_spread 82 = .ok (.iand, 1) := by decide +kernel
theorem dX0_spread_83 : decode cX0_spread 83 = .ok (.ifCond .eq 10, 3) := by decide +kernel
theorem dX0_spread_86 : decode cX0_spread 86 = .ok (.aload_n 0, 1) := by decide +kernel
theorem dX0_spread_87 : decode cX0_spread 87 = .ok (.iload_n 2, 1) := by decide +kernel
theorem dX0_spread_88 : decode cX0_spread 88 = .ok (.iload 6, 2) := by decide +kernel
theorem dX0_spread_90 : decode cX0_spread 90 = .ok (.invokevirtual 86, 3) := by decide +kernel
theorem dX0_spread_93 : decode cX0_spread 93 = .ok (.iinc 6 1, 3) := by decide +kernel
theorem dX0_spread_96 : decode cX0_spread 96 = .ok (.goto (-44), 3) := by decide +kernel
theorem dX0_spread_99 : decode cX0_spread 99 = .ok (.return_, 1) := by decide +kernel
abbrev cX0_carry : ByteArray := prog_1_method_17_code
def yX0_carry : MethodName := ⟨RX0, "carry", "(II)V"⟩
theorem dX0_carry_0 : decode cX0_carry 0 = .ok (.iconst 0, 1) := by decide +kernel
theorem dX0_carry_1 : decode cX0_carry 1 = .ok (.istore_n 3, 1) := by decide +kernel
theorem dX0_carry_2 : decode cX0_carry 2 = .ok (.iload_n 3, 1) := by decide +kernel
theorem dX0_carry_3 : decode cX0_carry 3 = .ok (.bipush 8, 2) := by decide +kernel
theorem dX0_carry_5 : decode cX0_carry 5 = .ok (.if_icmp .ge 34, 3) := by decide +kernel
theorem dX0_carry_8 : decode cX0_carry 8 = .ok (.aload_n 0, 1) := by decide +kernel
theorem dX0_carry_9 : decode cX0_carry 9 = .ok (.getfield 26, 3) := by decide +kernel
theorem dX0_carry_12 : decode cX0_carry 12 = .ok (.iload_n 2, 1) := by decide +kernel
theorem dX0_carry_13 : decode cX0_carry 13 = .ok (.bipush 8, 2) := by decide +kernel
theorem dX0_carry_15 : decode cX0_carry 15 = .ok (.imul, 1) := by decide +kernel
theorem dX0_carry_16 : decode cX0_carry 16 = .ok (.iload_n 3, 1) := by decide +kernel
theorem dX0_carry_17 : decode cX0_carry 17 = .ok (.iadd, 1) := by decide +kernel
theorem dX0_carry_18 : decode cX0_carry 18 = .ok (.dup2, 1) := by decide +kernel
theorem dX0_carry_19 : decode cX0_carry 19 = .ok (.iaload, 1) := by decide +kernel
theorem dX0_carry_20 : decode cX0_carry 20 = .ok (.aload_n 0, 1) := by decide +kernel
theorem dX0_carry_21 : decode cX0_carry 21 = .ok (.getfield 30, 3) := by decide +kernel
theorem dX0_carry_24 : decode cX0_carry 24 = .ok (.iload_n 1, 1) := by decide +kernel
theorem dX0_carry_25 : decode cX0_carry 25 = .ok (.bipush 8, 2) := by decide +kernel
theorem dX0_carry_27 : decode cX0_carry 27 = .ok (.imul, 1) := by decide +kernel
theorem dX0_carry_28 : decode cX0_carry 28 = .ok (.iload_n 3, 1) := by decide +kernel
theorem dX0_carry_29 : decode cX0_carry 29 = .ok (.iadd, 1) := by decide +kernel
theorem dX0_carry_30 : decode cX0_carry 30 = .ok (.iaload, 1) := by decide +kernel
theorem dX0_carry_31 : decode cX0_carry 31 = .ok (.iadd, 1) := by decide +kernel
theorem dX0_carry_32 : decode cX0_carry 32 = .ok (.iastore, 1) := by decide +kernel
theorem dX0_carry_33 : decode cX0_carry 33 = .ok (.iinc 3 1, 3) := by decide +kernel
theorem dX0_carry_36 : decode cX0_carry 36 = .ok (.goto (-34), 3) := by decide +kernel
theorem dX0_carry_39 : decode cX0_carry 39 = .ok (.return_, 1) := by decide +kernel
abbrev cX0_moves : ByteArray := prog_1_method_15_code
def yX0_moves : MethodName := ⟨RX0, "moves", "(II)Z"⟩
theorem dX0_moves_0 : decode cX0_moves 0 = .ok (.iload_n 2, 1) := by decide +kernel
theorem dX0_moves_1 : decode cX0_moves 1 = .ok (.iconst 1, 1) := by decide +kernel
theorem dX0_moves_2 : decode cX0_moves 2 = .ok (.if_icmp .eq 16, 3) := by decide +kernel
theorem dX0_moves_5 : decode cX0_moves 5 = .ok (.aload_n 0, 1) := by decide +kernel
theorem dX0_moves_6 : decode cX0_moves 6 = .ok (.getfield 13, 3) := by decide +kernel
theorem dX0_moves_9 : decode cX0_moves 9 = .ok (.iload_n 1, 1) := by decide +kernel
theorem dX0_moves_10 : decode cX0_moves 10 = .ok (.saload, 1) := by decide +kernel
theorem dX0_moves_11 : decode cX0_moves 11 = .ok (.ifCond .eq 7, 3) := by decide +kernel
theorem dX0_moves_14 : decode cX0_moves 14 = .ok (.iconst 1, 1) := by decide +kernel
theorem dX0_moves_15 : decode cX0_moves 15 = .ok (.goto 4, 3) := by decide +kernel
theorem dX0_moves_18 : decode cX0_moves 18 = .ok (.iconst 0, 1) := by decide +kernel
theorem dX0_moves_19 : decode cX0_moves 19 = .ok (.istore_n 3, 1) := by decide +kernel
theorem dX0_moves_20 : decode cX0_moves 20 = .ok (.iload_n 3, 1) := by decide +kernel
theorem dX0_moves_21 : decode cX0_moves 21 = .ok (.ifCond .ne 19, 3) := by decide +kernel
theorem dX0_moves_24 : decode cX0_moves 24 = .ok (.iload_n 2, 1) := by decide +kernel
theorem dX0_moves_25 : decode cX0_moves 25 = .ok (.ifCond .eq 19, 3) := by decide +kernel
theorem dX0_moves_28 : decode cX0_moves 28 = .ok (.aload_n 0, 1) := by decide +kernel
theorem dX0_moves_29 : decode cX0_moves 29 = .ok (.getfield 13, 3) := by decide +kernel
theorem dX0_moves_32 : decode cX0_moves 32 = .ok (.bipush 8, 2) := by decide +kernel
theorem dX0_moves_34 : decode cX0_moves 34 = .ok (.iload_n 1, 1) := by decide +kernel
theorem dX0_moves_35 : decode cX0_moves 35 = .ok (.iadd, 1) := by decide +kernel
theorem dX0_moves_36 : decode cX0_moves 36 = .ok (.saload, 1) := by decide +kernel
theorem dX0_moves_37 : decode cX0_moves 37 = .ok (.ifCond .eq 7, 3) := by decide +kernel
theorem dX0_moves_40 : decode cX0_moves 40 = .ok (.iconst 1, 1) := by decide +kernel
theorem dX0_moves_41 : decode cX0_moves 41 = .ok (.goto 4, 3) := by decide +kernel
theorem dX0_moves_44 : decode cX0_moves 44 = .ok (.iconst 0, 1) := by decide +kernel
theorem dX0_moves_45 : decode cX0_moves 45 = .ok (.ireturn, 1) := by decide +kernel
abbrev cX0_keepOne : ByteArray := prog_1_method_19_code
def yX0_keepOne : MethodName := ⟨RX0, "keepOne", "()V"⟩
theorem dX0_keepOne_0 : decode cX0_keepOne 0 = .ok (.iconst 0, 1) := by decide +kernel
theorem dX0_keepOne_1 : decode cX0_keepOne 1 = .ok (.istore_n 1, 1) := by decide +kernel
theorem dX0_keepOne_2 : decode cX0_keepOne 2 = .ok (.iload_n 1, 1) := by decide +kernel
theorem dX0_keepOne_3 : decode cX0_keepOne 3 = .ok (.bipush 8, 2) := by decide +kernel
theorem dX0_keepOne_5 : decode cX0_keepOne 5 = .ok (.if_icmp .ge 76, 3) := by decide +kernel
theorem dX0_keepOne_8 : decode cX0_keepOne 8 = .ok (.iconst 0, 1) := by decide +kernel
theorem dX0_keepOne_9 : decode cX0_keepOne 9 = .ok (.istore_n 2, 1) := by decide +kernel
theorem dX0_keepOne_10 : decode cX0_keepOne 10 = .ok (.iconst 0, 1) := by decide +kernel
theorem dX0_keepOne_11 : decode cX0_keepOne 11 = .ok (.istore_n 3, 1) := by decide +kernel
theorem dX0_keepOne_12 : decode cX0_keepOne 12 = .ok (.iload_n 3, 1) := by decide +kernel
theorem dX0_keepOne_13 : decode cX0_keepOne 13 = .ok (.bipush 8, 2) := by decide +kernel
theorem dX0_keepOne_15 : decode cX0_keepOne 15 = .ok (.if_icmp .ge 60, 3) := by decide +kernel
theorem dX0_keepOne_18 : decode cX0_keepOne 18 = .ok (.iload_n 2, 1) := by decide +kernel
theorem dX0_keepOne_19 : decode cX0_keepOne 19 = .ok (.ifCond .ne 21, 3) := by decide +kernel
theorem dX0_keepOne_22 : decode cX0_keepOne 22 = .ok (.aload_n 0, 1) := by decide +kernel
theorem dX0_keepOne_23 : decode cX0_keepOne 23 = .ok (.getfield 26, 3) := by decide +kernel
theorem dX0_keepOne_26 : decode cX0_keepOne 26 = .ok (.iload_n 1, 1) := by decide +kernel
theorem dX0_keepOne_27 : decode cX0_keepOne 27 = .ok (.bipush 8, 2) := by decide +kernel
theorem dX0_keepOne_29 : decode cX0_keepOne 29 = .ok (.imul, 1) := by decide +kernel
theorem dX0_keepOne_30 : decode cX0_keepOne 30 = .ok (.iload_n 3, 1) := by decide +kernel
theorem dX0_keepOne_31 : decode cX0_keepOne 31 = .ok (.iadd, 1) := by decide +kernel
theorem dX0_keepOne_32 : decode cX0_keepOne 32 = .ok (.iaload, 1) := by decide +kernel
theorem dX0_keepOne_33 : decode cX0_keepOne 33 = .ok (.ifCond .le 7, 3) := by decide +kernel
theorem dX0_keepOne_36 : decode cX0_keepOne 36 = .ok (.iconst 1, 1) := by decide +kernel
theorem dX0_keepOne_37 : decode cX0_keepOne 37 = .ok (.goto 4, 3) := by decide +kernel
theorem dX0_keepOne_40 : decode cX0_keepOne 40 = .ok (.iconst 0, 1) := by decide +kernel
theorem dX0_keepOne_41 : decode cX0_keepOne 41 = .ok (.istore 4, 2) := by decide +kernel
theorem dX0_keepOne_43 : decode cX0_keepOne 43 = .ok (.aload_n 0, 1) := by decide +kernel
theorem dX0_keepOne_44 : decode cX0_keepOne 44 = .ok (.getfield 26, 3) := by decide +kernel
theorem dX0_keepOne_47 : decode cX0_keepOne 47 = .ok (.iload_n 1, 1) := by decide +kernel
theorem dX0_keepOne_48 : decode cX0_keepOne 48 = .ok (.bipush 8, 2) := by decide +kernel
theorem dX0_keepOne_50 : decode cX0_keepOne 50 = .ok (.imul, 1) := by decide +kernel
theorem dX0_keepOne_51 : decode cX0_keepOne 51 = .ok (.iload_n 3, 1) := by decide +kernel
theorem dX0_keepOne_52 : decode cX0_keepOne 52 = .ok (.iadd, 1) := by decide +kernel
theorem dX0_keepOne_53 : decode cX0_keepOne 53 = .ok (.iload 4, 2) := by decide +kernel
theorem dX0_keepOne_55 : decode cX0_keepOne 55 = .ok (.ifCond .eq 7, 3) := by decide +kernel
theorem dX0_keepOne_58 : decode cX0_keepOne 58 = .ok (.iconst 1, 1) := by decide +kernel
theorem dX0_keepOne_59 : decode cX0_keepOne 59 = .ok (.goto 4, 3) := by decide +kernel
theorem dX0_keepOne_62 : decode cX0_keepOne 62 = .ok (.iconst 0, 1) := by decide +kernel
theorem dX0_keepOne_63 : decode cX0_keepOne 63 = .ok (.iastore, 1) := by decide +kernel
theorem dX0_keepOne_64 : decode cX0_keepOne 64 = .ok (.iload_n 2, 1) := by decide +kernel
theorem dX0_keepOne_65 : decode cX0_keepOne 65 = .ok (.iload 4, 2) := by decide +kernel
theorem dX0_keepOne_67 : decode cX0_keepOne 67 = .ok (.ior, 1) := by decide +kernel
theorem dX0_keepOne_68 : decode cX0_keepOne 68 = .ok (.istore_n 2, 1) := by decide +kernel
theorem dX0_keepOne_69 : decode cX0_keepOne 69 = .ok (.iinc 3 1, 3) := by decide +kernel
theorem dX0_keepOne_72 : decode cX0_keepOne 72 = .ok (.goto (-60), 3) := by decide +kernel
theorem dX0_keepOne_75 : decode cX0_keepOne 75 = .ok (.iinc 1 1, 3) := by decide +kernel
theorem dX0_keepOne_78 : decode cX0_keepOne 78 = .ok (.goto (-76), 3) := by decide +kernel
theorem dX0_keepOne_81 : decode cX0_keepOne 81 = .ok (.return_, 1) := by decide +kernel
abbrev cX0_filter : ByteArray := prog_1_method_18_code
def yX0_filter : MethodName := ⟨RX0, "filter", "(II)V"⟩
theorem dX0_filter_0 : decode cX0_filter 0 = .ok (.iconst 0, 1) := by decide +kernel
theorem dX0_filter_1 : decode cX0_filter 1 = .ok (.istore_n 3, 1) := by decide +kernel
theorem dX0_filter_2 : decode cX0_filter 2 = .ok (.iload_n 3, 1) := by decide +kernel
theorem dX0_filter_3 : decode cX0_filter 3 = .ok (.bipush 64, 2) := by decide +kernel
theorem dX0_filter_5 : decode cX0_filter 5 = .ok (.if_icmp .ge 90, 3) := by decide +kernel
theorem dX0_filter_8 : decode cX0_filter 8 = .ok (.iload_n 3, 1) := by decide +kernel
theorem dX0_filter_9 : decode cX0_filter 9 = .ok (.bipush 8, 2) := by decide +kernel
theorem dX0_filter_11 : decode cX0_filter 11 = .ok (.idiv, 1) := by decide +kernel
theorem dX0_filter_12 : decode cX0_filter 12 = .ok (.istore 4, 2) := by decide +kernel
theorem dX0_filter_14 : decode cX0_filter 14 = .ok (.iload_n 3, 1) := by decide +kernel
theorem dX0_filter_15 : decode cX0_filter 15 = .ok (.bipush 8, 2) := by decide +kernel
theorem dX0_filter_17 : decode cX0_filter 17 = .ok (.irem, 1) := by decide +kernel
theorem dX0_filter_18 : decode cX0_filter 18 = .ok (.istore 5, 2) := by decide +kernel
theorem dX0_filter_20 : decode cX0_filter 20 = .ok (.iload_n 1, 1) := by decide +kernel
theorem dX0_filter_21 : decode cX0_filter 21 = .ok (.iconst 4, 1) := by decide +kernel
theorem dX0_filter_22 : decode cX0_filter 22 = .ok (.if_icmp .ne 22, 3) := by decide +kernel
theorem dX0_filter_25 : decode cX0_filter 25 = .ok (.aload_n 0, 1) := by decide +kernel
theorem dX0_filter_26 : decode cX0_filter 26 = .ok (.getfield 7, 3) := by decide +kernel
theorem dX0_filter_29 : decode cX0_filter 29 = .ok (.iload 4, 2) := by decide +kernel
theorem dX0_filter_31 : decode cX0_filter 31 = .ok (.baload, 1) := by decide +kernel
theorem dX0_filter_32 : decode cX0_filter 32 = .ok (.iload_n 2, 1) := by decide +kernel
theorem dX0_filter_33 : decode cX0_filter 33 = .ok (.if_icmp .lt 7, 3) := by decide +kernel
theorem dX0_filter_36 : decode cX0_filter 36 = .ok (.iconst 1, 1) := by decide +kernel
theorem dX0_filter_37 : decode cX0_filter 37 = .ok (.goto 38, 3) := by decide +kernel
theorem dX0_filter_40 : decode cX0_filter 40 = .ok (.iconst 0, 1) := by decide +kernel
theorem dX0_filter_41 : decode cX0_filter 41 = .ok (.goto 34, 3) := by decide +kernel
theorem dX0_filter_44 : decode cX0_filter 44 = .ok (.iload 4, 2) := by decide +kernel
theorem dX0_filter_46 : decode cX0_filter 46 = .ok (.iload 5, 2) := by decide +kernel
theorem dX0_filter_48 : decode cX0_filter 48 = .ok (.if_icmp .ne 7, 3) := by decide +kernel
theorem dX0_filter_51 : decode cX0_filter 51 = .ok (.iconst 1, 1) := by decide +kernel
theorem dX0_filter_52 : decode cX0_filter 52 = .ok (.goto 4, 3) := by decide +kernel
theorem dX0_filter_55 : decode cX0_filter 55 = .ok (.iconst 0, 1) := by decide +kernel
theorem dX0_filter_56 : decode cX0_filter 56 = .ok (.iload_n 1, 1) := by decide +kernel
theorem dX0_filter_57 : decode cX0_filter 57 = .ok (.bipush 6, 2) := by decide +kernel
theorem dX0_filter_59 : decode cX0_filter 59 = .ok (.if_icmp .ne 7, 3) := by decide +kernel
theorem dX0_filter_62 : decode cX0_filter 62 = .ok (.iconst 1, 1) := by decide +kernel
theorem dX0_filter_63 : decode cX0_filter 63 = .ok (.goto 4, 3) := by decide +kernel
theorem dX0_filter_66 : decode cX0_filter 66 = .ok (.iconst 0, 1) := by decide +kernel
theorem dX0_filter_67 : decode cX0_filter 67 = .ok (.if_icmp .ne 7, 3) := by decide +kernel
theorem dX0_filter_70 : decode cX0_filter 70 = .ok (.iconst 1, 1) := by decide +kernel
theorem dX0_filter_71 : decode cX0_filter 71 = .ok (.goto 4, 3) := by decide +kernel
theorem dX0_filter_74 : decode cX0_filter 74 = .ok (.iconst 0, 1) := by decide +kernel
theorem dX0_filter_75 : decode cX0_filter 75 = .ok (.istore 6, 2) := by decide +kernel
theorem dX0_filter_77 : decode cX0_filter 77 = .ok (.iload 6, 2) := by decide +kernel
theorem dX0_filter_79 : decode cX0_filter 79 = .ok (.ifCond .ne 10, 3) := by decide +kernel
theorem dX0_filter_82 : decode cX0_filter 82 = .ok (.aload_n 0, 1) := by decide +kernel
theorem dX0_filter_83 : decode cX0_filter 83 = .ok (.getfield 26, 3) := by decide +kernel
theorem dX0_filter_86 : decode cX0_filter 86 = .ok (.iload_n 3, 1) := by decide +kernel
theorem dX0_filter_87 : decode cX0_filter 87 = .ok (.iconst 0, 1) := by decide +kernel
theorem dX0_filter_88 : decode cX0_filter 88 = .ok (.iastore, 1) := by decide +kernel
theorem dX0_filter_89 : decode cX0_filter 89 = .ok (.iinc 3 1, 3) := by decide +kernel
theorem dX0_filter_92 : decode cX0_filter 92 = .ok (.goto (-90), 3) := by decide +kernel
theorem dX0_filter_95 : decode cX0_filter 95 = .ok (.return_, 1) := by decide +kernel
abbrev cX0_walkers : ByteArray := prog_1_method_21_code
def yX0_walkers : MethodName := ⟨RX0, "walkers", "()I"⟩
theorem dX0_walkers_0 : decode cX0_walkers 0 = .ok (.aload_n 0, 1) := by decide +kernel
theorem dX0_walkers_1 : decode cX0_walkers 1 = .ok (.invokevirtual 89, 3) := by decide +kernel
theorem dX0_walkers_4 : decode cX0_walkers 4 = .ok (.aload_n 0, 1) := by decide +kernel
theorem dX0_walkers_5 : decode cX0_walkers 5 = .ok (.getfield 33, 3) := by decide +kernel
theorem dX0_walkers_8 : decode cX0_walkers 8 = .ok (.aload_n 0, 1) := by decide +kernel
theorem dX0_walkers_9 : decode cX0_walkers 9 = .ok (.getfield 59, 3) := by decide +kernel
theorem dX0_walkers_12 : decode cX0_walkers 12 = .ok (.iaload, 1) := by decide +kernel
theorem dX0_walkers_13 : decode cX0_walkers 13 = .ok (.ireturn, 1) := by decide +kernel
abbrev cX0_after : ByteArray := prog_1_method_22_code
def yX0_after : MethodName := ⟨RX0, "after", "(I)I"⟩
theorem dX0_after_0 : decode cX0_after 0 = .ok (.iload_n 1, 1) := by decide +kernel
theorem dX0_after_1 : decode cX0_after 1 = .ok (.ifCond .lt 11, 3) := by decide +kernel
theorem dX0_after_4 : decode cX0_after 4 = .ok (.iload_n 1, 1) := by decide +kernel
theorem dX0_after_5 : decode cX0_after 5 = .ok (.aload_n 0, 1) := by decide +kernel
theorem dX0_after_6 : decode cX0_after 6 = .ok (.getfield 59, 3) := by decide +kernel
theorem dX0_after_9 : decode cX0_after 9 = .ok (.if_icmp .le 5, 3) := by decide +kernel
theorem dX0_after_12 : decode cX0_after 12 = .ok (.iconst (-1), 1) := by decide +kernel
theorem dX0_after_13 : decode cX0_after 13 = .ok (.ireturn, 1) := by decide +kernel
theorem dX0_after_14 : decode cX0_after 14 = .ok (.aload_n 0, 1) := by decide +kernel
theorem dX0_after_15 : decode cX0_after 15 = .ok (.invokevirtual 89, 3) := by decide +kernel
theorem dX0_after_18 : decode cX0_after 18 = .ok (.aload_n 0, 1) := by decide +kernel
theorem dX0_after_19 : decode cX0_after 19 = .ok (.getfield 33, 3) := by decide +kernel
theorem dX0_after_22 : decode cX0_after 22 = .ok (.iload_n 1, 1) := by decide +kernel
theorem dX0_after_23 : decode cX0_after 23 = .ok (.iaload, 1) := by decide +kernel
theorem dX0_after_24 : decode cX0_after 24 = .ok (.ireturn, 1) := by decide +kernel
abbrev cX0_between : ByteArray := prog_1_method_23_code
def yX0_between : MethodName := ⟨RX0, "between", "(II)I"⟩
theorem dX0_between_0 : decode cX0_between 0 = .ok (.iload_n 1, 1) := by decide +kernel
theorem dX0_between_1 : decode cX0_between 1 = .ok (.invokestatic 36, 3) := by decide +kernel
theorem dX0_between_4 : decode cX0_between 4 = .ok (.ifCond .eq 10, 3) := by decide +kernel
theorem dX0_between_7 : decode cX0_between 7 = .ok (.iload_n 2, 1) := by decide +kernel
theorem dX0_between_8 : decode cX0_between 8 = .ok (.invokestatic 36, 3) := by decide +kernel
theorem dX0_between_11 : decode cX0_between 11 = .ok (.ifCond .ne 5, 3) := by decide +kernel
theorem dX0_between_14 : decode cX0_between 14 = .ok (.iconst 0, 1) := by decide +kernel
theorem dX0_between_15 : decode cX0_between 15 = .ok (.ireturn, 1) := by decide +kernel
theorem dX0_between_16 : decode cX0_between 16 = .ok (.aload_n 0, 1) := by decide +kernel
theorem dX0_between_17 : decode cX0_between 17 = .ok (.invokevirtual 89, 3) := by decide +kernel
theorem dX0_between_20 : decode cX0_between 20 = .ok (.aload_n 0, 1) := by decide +kernel
theorem dX0_between_21 : decode cX0_between 21 = .ok (.getfield 26, 3) := by decide +kernel
theorem dX0_between_24 : decode cX0_between 24 = .ok (.iload_n 2, 1) := by decide +kernel
theorem dX0_between_25 : decode cX0_between 25 = .ok (.bipush 8, 2) := by decide +kernel
theorem dX0_between_27 : decode cX0_between 27 = .ok (.imul, 1) := by decide +kernel
theorem dX0_between_28 : decode cX0_between 28 = .ok (.iload_n 1, 1) := by decide +kernel
theorem dX0_between_29 : decode cX0_between 29 = .ok (.iadd, 1) := by decide +kernel
theorem dX0_between_30 : decode cX0_between 30 = .ok (.iaload, 1) := by decide +kernel
theorem dX0_between_31 : decode cX0_between 31 = .ok (.ireturn, 1) := by decide +kernel
abbrev cX0_reached : ByteArray := prog_1_method_24_code
def yX0_reached : MethodName := ⟨RX0, "reached", "()I"⟩
theorem dX0_reached_0 : decode cX0_reached 0 = .ok (.iconst 0, 1) := by decide +kernel
theorem dX0_reached_1 : decode cX0_reached 1 = .ok (.istore_n 1, 1) := by decide +kernel
theorem dX0_reached_2 : decode cX0_reached 2 = .ok (.iconst 0, 1) := by decide +kernel
theorem dX0_reached_3 : decode cX0_reached 3 = .ok (.istore_n 2, 1) := by decide +kernel
theorem dX0_reached_4 : decode cX0_reached 4 = .ok (.iload_n 2, 1) := by decide +kernel
theorem dX0_reached_5 : decode cX0_reached 5 = .ok (.bipush 8, 2) := by decide +kernel
theorem dX0_reached_7 : decode cX0_reached 7 = .ok (.if_icmp .ge 27, 3) := by decide +kernel
theorem dX0_reached_10 : decode cX0_reached 10 = .ok (.iload_n 1, 1) := by decide +kernel
theorem dX0_reached_11 : decode cX0_reached 11 = .ok (.aload_n 0, 1) := by decide +kernel
theorem dX0_reached_12 : decode cX0_reached 12 = .ok (.iload_n 2, 1) := by decide +kernel
theorem dX0_reached_13 : decode cX0_reached 13 = .ok (.invokevirtual 92, 3) := by decide +kernel
theorem dX0_reached_16 : decode cX0_reached 16 = .ok (.ifCond .le 9, 3) := by decide +kernel
theorem dX0_reached_19 : decode cX0_reached 19 = .ok (.iconst 1, 1) := by decide +kernel
theorem dX0_reached_20 : decode cX0_reached 20 = .ok (.iload_n 2, 1) := by decide +kernel
theorem dX0_reached_21 : decode cX0_reached 21 = .ok (.ishl, 1) := by decide +kernel
theorem dX0_reached_22 : decode cX0_reached 22 = .ok (.goto 4, 3) := by decide +kernel
theorem dX0_reached_25 : decode cX0_reached 25 = .ok (.iconst 0, 1) := by decide +kernel
theorem dX0_reached_26 : decode cX0_reached 26 = .ok (.ior, 1) := by decide +kernel
theorem dX0_reached_27 : decode cX0_reached 27 = .ok (.istore_n 1, 1) := by decide +kernel
theorem dX0_reached_28 : decode cX0_reached 28 = .ok (.iinc 2 1, 3) := by decide +kernel
theorem dX0_reached_31 : decode cX0_reached 31 = .ok (.goto (-27), 3) := by decide +kernel
theorem dX0_reached_34 : decode cX0_reached 34 = .ok (.iload_n 1, 1) := by decide +kernel
theorem dX0_reached_35 : decode cX0_reached 35 = .ok (.ireturn, 1) := by decide +kernel
abbrev cX0_startsAt : ByteArray := prog_1_method_25_code
def yX0_startsAt : MethodName := ⟨RX0, "startsAt", "(I)I"⟩
theorem dX0_startsAt_0 : decode cX0_startsAt 0 = .ok (.iconst 0, 1) := by decide +kernel
theorem dX0_startsAt_1 : decode cX0_startsAt 1 = .ok (.istore_n 2, 1) := by decide +kernel
theorem dX0_startsAt_2 : decode cX0_startsAt 2 = .ok (.iconst 0, 1) := by decide +kernel
theorem dX0_startsAt_3 : decode cX0_startsAt 3 = .ok (.istore_n 3, 1) := by decide +kernel
theorem dX0_startsAt_4 : decode cX0_startsAt 4 = .ok (.iload_n 3, 1) := by decide +kernel
theorem dX0_startsAt_5 : decode cX0_startsAt 5 = .ok (.bipush 8, 2) := by decide +kernel
theorem dX0_startsAt_7 : decode cX0_startsAt 7 = .ok (.if_icmp .ge 28, 3) := by decide +kernel
theorem dX0_startsAt_10 : decode cX0_startsAt 10 = .ok (.iload_n 2, 1) := by decide +kernel
theorem dX0_startsAt_11 : decode cX0_startsAt 11 = .ok (.aload_n 0, 1) := by decide +kernel
theorem dX0_startsAt_12 : decode cX0_startsAt 12 = .ok (.iload_n 3, 1) := by decide +kernel
theorem dX0_startsAt_13 : decode cX0_startsAt 13 = .ok (.iload_n 1, 1) := by decide +kernel
theorem dX0_startsAt_14 : decode cX0_startsAt 14 = .ok (.invokevirtual 96, 3) := by decide +kernel
theorem dX0_startsAt_17 : decode cX0_startsAt 17 = .ok (.ifCond .le 9, 3) := by decide +kernel
theorem dX0_startsAt_20 : decode cX0_startsAt 20 = .ok (.iconst 1, 1) := by decide +kernel
theorem dX0_startsAt_21 : decode cX0_startsAt 21 = .ok (.iload_n 3, 1) := by decide +kernel
theorem dX0_startsAt_22 : decode cX0_startsAt 22 = .ok (.ishl, 1) := by decide +kernel
theorem dX0_startsAt_23 : decode cX0_startsAt 23 = .ok (.goto 4, 3) := by decide +kernel
theorem dX0_startsAt_26 : decode cX0_startsAt 26 = .ok (.iconst 0, 1) := by decide +kernel
theorem dX0_startsAt_27 : decode cX0_startsAt 27 = .ok (.ior, 1) := by decide +kernel
theorem dX0_startsAt_28 : decode cX0_startsAt 28 = .ok (.istore_n 2, 1) := by decide +kernel
theorem dX0_startsAt_29 : decode cX0_startsAt 29 = .ok (.iinc 3 1, 3) := by decide +kernel
theorem dX0_startsAt_32 : decode cX0_startsAt 32 = .ok (.goto (-28), 3) := by decide +kernel
theorem dX0_startsAt_35 : decode cX0_startsAt 35 = .ok (.iload_n 2, 1) := by decide +kernel
theorem dX0_startsAt_36 : decode cX0_startsAt 36 = .ok (.ireturn, 1) := by decide +kernel
abbrev cX0_diesAfter : ByteArray := prog_1_method_26_code
def yX0_diesAfter : MethodName := ⟨RX0, "diesAfter", "()I"⟩
theorem dX0_diesAfter_0 : decode cX0_diesAfter 0 = .ok (.aload_n 0, 1) := by decide +kernel
theorem dX0_diesAfter_1 : decode cX0_diesAfter 1 = .ok (.invokevirtual 89, 3) := by decide +kernel
theorem dX0_diesAfter_4 : decode cX0_diesAfter 4 = .ok (.iconst 0, 1) := by decide +kernel
theorem dX0_diesAfter_5 : decode cX0_diesAfter 5 = .ok (.istore_n 1, 1) := by decide +kernel
theorem dX0_diesAfter_6 : decode cX0_diesAfter 6 = .ok (.iload_n 1, 1) := by decide +kernel
theorem dX0_diesAfter_7 : decode cX0_diesAfter 7 = .ok (.aload_n 0, 1) := by decide +kernel
theorem dX0_diesAfter_8 : decode cX0_diesAfter 8 = .ok (.getfield 59, 3) := by decide +kernel
theorem dX0_diesAfter_11 : decode cX0_diesAfter 11 = .ok (.if_icmp .gt 20, 3) := by decide +kernel
theorem dX0_diesAfter_14 : decode cX0_diesAfter 14 = .ok (.aload_n 0, 1) := by decide +kernel
theorem dX0_diesAfter_15 : decode cX0_diesAfter 15 = .ok (.getfield 33, 3) := by decide +kernel
theorem dX0_diesAfter_18 : decode cX0_diesAfter 18 = .ok (.iload_n 1, 1) := by decide +kernel
theorem dX0_diesAfter_19 : decode cX0_diesAfter 19 = .ok (.iaload, 1) := by decide +kernel
theorem dX0_diesAfter_20 : decode cX0_diesAfter 20 = .ok (.ifCond .ne 5, 3) := by decide +kernel
theorem dX0_diesAfter_23 : decode cX0_diesAfter 23 = .ok (.iload_n 1, 1) := by decide +kernel
theorem dX0_diesAfter_24 : decode cX0_diesAfter 24 = .ok (.ireturn, 1) := by decide +kernel
theorem dX0_diesAfter_25 : decode cX0_diesAfter 25 = .ok (.iinc 1 1, 3) := by decide +kernel
theorem dX0_diesAfter_28 : decode cX0_diesAfter 28 = .ok (.goto (-22), 3) := by decide +kernel
theorem dX0_diesAfter_31 : decode cX0_diesAfter 31 = .ok (.iconst (-1), 1) := by decide +kernel
theorem dX0_diesAfter_32 : decode cX0_diesAfter 32 = .ok (.ireturn, 1) := by decide +kernel
abbrev cX0_edges : ByteArray := prog_1_method_27_code
def yX0_edges : MethodName := ⟨RX0, "edges", "()I"⟩
theorem dX0_edges_0 : decode cX0_edges 0 = .ok (.aload_n 0, 1) := by decide +kernel
theorem dX0_edges_1 : decode cX0_edges 1 = .ok (.getfield 51, 3) := by decide +kernel
theorem dX0_edges_4 : decode cX0_edges 4 = .ok (.ireturn, 1) := by decide +kernel
theorem q18 : (Jvm.Cond.initialized "WalkerPlan") ∈ lw_all := lw_g (lw_at lw_m1 1 rfl) rfl
theorem q21 : (Jvm.Cond.instantiable "WalkerPlan" (12 : Nat)) ∈ lw_all := lw_g (lw_at lw_m1 4 rfl) rfl
theorem q23 : (Jvm.Cond.instanceMethod ({ cls := "WalkerPlan", name := "<init>", desc := "()V" } : Jvm.MethodName)) ∈ lw_all := lw_g (lw_at lw_m1 6 rfl) rfl
theorem q24 : (Jvm.Cond.code ({ cls := "WalkerPlan", name := "<init>", desc := "()V" } : Jvm.MethodName) prog_1_method_1_code (1 : Nat) (Option.none : Option Jvm.ClassFile.FieldType)) ∈ lw_all := lw_g (lw_at lw_m1 7 rfl) rfl
theorem q25 : (Jvm.Cond.methodLink "WalkerPlan" (1 : Nat) ({ cls := "java/lang/Object", name := "<init>", desc := "()V" } : Jvm.MethodName)) ∈ lw_all := lw_g (lw_at lw_m1 8 rfl) rfl
theorem q28 : (Jvm.Cond.fieldLink "WalkerPlan" (7 : Nat) "WalkerPlan" "numbers" "[B") ∈ lw_all := lw_g (lw_at lw_m1 11 rfl) rfl
theorem q29 : (Jvm.Cond.fieldLink "WalkerPlan" (51 : Nat) "WalkerPlan" "edgeCount" "I") ∈ lw_all := lw_g (lw_at lw_m1 12 rfl) rfl
theorem q30 : (Jvm.Cond.fieldLink "WalkerPlan" (13 : Nat) "WalkerPlan" "outward" "[S") ∈ lw_all := lw_g (lw_at lw_m1 13 rfl) rfl
theorem q31 : (Jvm.Cond.fieldLink "WalkerPlan" (17 : Nat) "WalkerPlan" "inward" "[S") ∈ lw_all := lw_g (lw_at lw_m1 14 rfl) rfl
theorem q32 : (Jvm.Cond.fieldLink "WalkerPlan" (20 : Nat) "WalkerPlan" "kinds" "[B") ∈ lw_all := lw_g (lw_at lw_m1 15 rfl) rfl
theorem q33 : (Jvm.Cond.fieldLink "WalkerPlan" (23 : Nat) "WalkerPlan" "labels" "[B") ∈ lw_all := lw_g (lw_at lw_m1 16 rfl) rfl
theorem q34 : (Jvm.Cond.fieldLink "WalkerPlan" (59 : Nat) "WalkerPlan" "size" "I") ∈ lw_all := lw_g (lw_at lw_m1 17 rfl) rfl
theorem q35 : (Jvm.Cond.fieldLink "WalkerPlan" (62 : Nat) "WalkerPlan" "starts" "I") ∈ lw_all := lw_g (lw_at lw_m1 18 rfl) rfl
theorem q36 : (Jvm.Cond.fieldLink "WalkerPlan" (40 : Nat) "WalkerPlan" "known" "Z") ∈ lw_all := lw_g (lw_at lw_m1 19 rfl) rfl
theorem q37 : (Jvm.Cond.fieldLink "WalkerPlan" (26 : Nat) "WalkerPlan" "here" "[I") ∈ lw_all := lw_g (lw_at lw_m1 20 rfl) rfl
theorem q38 : (Jvm.Cond.fieldLink "WalkerPlan" (30 : Nat) "WalkerPlan" "before" "[I") ∈ lw_all := lw_g (lw_at lw_m1 21 rfl) rfl
theorem q39 : (Jvm.Cond.fieldLink "WalkerPlan" (33 : Nat) "WalkerPlan" "totals" "[I") ∈ lw_all := lw_g (lw_at lw_m1 22 rfl) rfl
theorem q40 : (Jvm.Cond.laysFinal "WalkerPlan" "WalkerPlan" "numbers" "[B") ∈ lw_all := lw_g (lw_at lw_m1 23 rfl) rfl
theorem q41 : (Jvm.Cond.soleField "WalkerPlan" "numbers") ∈ lw_all := lw_g (lw_at lw_m1 24 rfl) rfl
theorem q42 : (Jvm.Cond.lays "WalkerPlan" "WalkerPlan" "edgeCount" "I") ∈ lw_all := lw_g (lw_at lw_m1 25 rfl) rfl
theorem q43 : (Jvm.Cond.soleField "WalkerPlan" "edgeCount") ∈ lw_all := lw_g (lw_at lw_m1 26 rfl) rfl
theorem q44 : (Jvm.Cond.laysFinal "WalkerPlan" "WalkerPlan" "outward" "[S") ∈ lw_all := lw_g (lw_at lw_m1 27 rfl) rfl
theorem q45 : (Jvm.Cond.soleField "WalkerPlan" "outward") ∈ lw_all := lw_g (lw_at lw_m1 28 rfl) rfl
theorem q46 : (Jvm.Cond.laysFinal "WalkerPlan" "WalkerPlan" "inward" "[S") ∈ lw_all := lw_g (lw_at lw_m1 29 rfl) rfl
theorem q47 : (Jvm.Cond.soleField "WalkerPlan" "inward") ∈ lw_all := lw_g (lw_at lw_m1 30 rfl) rfl
theorem q48 : (Jvm.Cond.laysFinal "WalkerPlan" "WalkerPlan" "kinds" "[B") ∈ lw_all := lw_g (lw_at lw_m1 31 rfl) rfl
theorem q49 : (Jvm.Cond.soleField "WalkerPlan" "kinds") ∈ lw_all := lw_g (lw_at lw_m1 32 rfl) rfl
theorem q50 : (Jvm.Cond.laysFinal "WalkerPlan" "WalkerPlan" "labels" "[B") ∈ lw_all := lw_g (lw_at lw_m1 33 rfl) rfl
theorem q51 : (Jvm.Cond.soleField "WalkerPlan" "labels") ∈ lw_all := lw_g (lw_at lw_m1 34 rfl) rfl
theorem q52 : (Jvm.Cond.lays "WalkerPlan" "WalkerPlan" "size" "I") ∈ lw_all := lw_g (lw_at lw_m1 35 rfl) rfl
theorem q53 : (Jvm.Cond.soleField "WalkerPlan" "size") ∈ lw_all := lw_g (lw_at lw_m1 36 rfl) rfl
theorem q54 : (Jvm.Cond.lays "WalkerPlan" "WalkerPlan" "starts" "I") ∈ lw_all := lw_g (lw_at lw_m1 37 rfl) rfl
theorem q55 : (Jvm.Cond.soleField "WalkerPlan" "starts") ∈ lw_all := lw_g (lw_at lw_m1 38 rfl) rfl
theorem q56 : (Jvm.Cond.lays "WalkerPlan" "WalkerPlan" "known" "Z") ∈ lw_all := lw_g (lw_at lw_m1 39 rfl) rfl
theorem q57 : (Jvm.Cond.soleField "WalkerPlan" "known") ∈ lw_all := lw_g (lw_at lw_m1 40 rfl) rfl
theorem q58 : (Jvm.Cond.laysFinal "WalkerPlan" "WalkerPlan" "here" "[I") ∈ lw_all := lw_g (lw_at lw_m1 41 rfl) rfl
theorem q59 : (Jvm.Cond.soleField "WalkerPlan" "here") ∈ lw_all := lw_g (lw_at lw_m1 42 rfl) rfl
theorem q60 : (Jvm.Cond.laysFinal "WalkerPlan" "WalkerPlan" "before" "[I") ∈ lw_all := lw_g (lw_at lw_m1 43 rfl) rfl
theorem q61 : (Jvm.Cond.soleField "WalkerPlan" "before") ∈ lw_all := lw_g (lw_at lw_m1 44 rfl) rfl
theorem q62 : (Jvm.Cond.laysFinal "WalkerPlan" "WalkerPlan" "totals" "[I") ∈ lw_all := lw_g (lw_at lw_m1 45 rfl) rfl
theorem q63 : (Jvm.Cond.soleField "WalkerPlan" "totals") ∈ lw_all := lw_g (lw_at lw_m1 46 rfl) rfl
theorem q64 : (Jvm.Cond.superclass "WalkerPlan" "java/lang/Object") ∈ lw_all := lw_g (lw_at lw_m1 47 rfl) rfl
theorem q69 : (Jvm.Cond.instanceMethod ({ cls := "WalkerPlan", name := "mark", desc := "(II)Z" } : Jvm.MethodName)) ∈ lw_all := lw_g (lw_at lw_m1 52 rfl) rfl
theorem q70 : (Jvm.Cond.selects "WalkerPlan" ({ cls := "WalkerPlan", name := "mark", desc := "(II)Z" } : Jvm.MethodName) ({ cls := "WalkerPlan", name := "mark", desc := "(II)Z" } : Jvm.MethodName)) ∈ lw_all := lw_g (lw_at lw_m1 53 rfl) rfl
theorem q71 : (Jvm.Cond.code ({ cls := "WalkerPlan", name := "mark", desc := "(II)Z" } : Jvm.MethodName) prog_1_method_3_code (3 : Nat) (Option.some Jvm.ClassFile.FieldType.boolean)) ∈ lw_all := lw_g (lw_at lw_m1 54 rfl) rfl
theorem q72 : (Jvm.Cond.methodLink "WalkerPlan" (36 : Nat) ({ cls := "WalkerPlan", name := "isVertex", desc := "(I)Z" } : Jvm.MethodName)) ∈ lw_all := lw_g (lw_at lw_m1 55 rfl) rfl
theorem q73 : (Jvm.Cond.static ({ cls := "WalkerPlan", name := "isVertex", desc := "(I)Z" } : Jvm.MethodName)) ∈ lw_all := lw_g (lw_at lw_m1 56 rfl) rfl
theorem q74 : (Jvm.Cond.code ({ cls := "WalkerPlan", name := "isVertex", desc := "(I)Z" } : Jvm.MethodName) prog_1_method_2_code (1 : Nat) (Option.some Jvm.ClassFile.FieldType.boolean)) ∈ lw_all := lw_g (lw_at lw_m1 57 rfl) rfl
theorem q76 : (Jvm.Cond.instanceMethod ({ cls := "WalkerPlan", name := "join", desc := "(III)Z" } : Jvm.MethodName)) ∈ lw_all := lw_g (lw_at lw_m1 59 rfl) rfl
theorem q77 : (Jvm.Cond.selects "WalkerPlan" ({ cls := "WalkerPlan", name := "join", desc := "(III)Z" } : Jvm.MethodName) ({ cls := "WalkerPlan", name := "join", desc := "(III)Z" } : Jvm.MethodName)) ∈ lw_all := lw_g (lw_at lw_m1 60 rfl) rfl
theorem q78 : (Jvm.Cond.code ({ cls := "WalkerPlan", name := "join", desc := "(III)Z" } : Jvm.MethodName) prog_1_method_6_code (4 : Nat) (Option.some Jvm.ClassFile.FieldType.boolean)) ∈ lw_all := lw_g (lw_at lw_m1 61 rfl) rfl
theorem q79 : (Jvm.Cond.methodLink "WalkerPlan" (44 : Nat) ({ cls := "WalkerPlan", name := "isEdge", desc := "(III)Z" } : Jvm.MethodName)) ∈ lw_all := lw_g (lw_at lw_m1 62 rfl) rfl
theorem q80 : (Jvm.Cond.static ({ cls := "WalkerPlan", name := "isEdge", desc := "(III)Z" } : Jvm.MethodName)) ∈ lw_all := lw_g (lw_at lw_m1 63 rfl) rfl
theorem q81 : (Jvm.Cond.code ({ cls := "WalkerPlan", name := "isEdge", desc := "(III)Z" } : Jvm.MethodName) prog_1_method_4_code (3 : Nat) (Option.some Jvm.ClassFile.FieldType.boolean)) ∈ lw_all := lw_g (lw_at lw_m1 64 rfl) rfl
theorem q82 : (Jvm.Cond.methodLink "WalkerPlan" (48 : Nat) ({ cls := "WalkerPlan", name := "hasEdge", desc := "(III)Z" } : Jvm.MethodName)) ∈ lw_all := lw_g (lw_at lw_m1 65 rfl) rfl
theorem q83 : (Jvm.Cond.privateMethod ({ cls := "WalkerPlan", name := "hasEdge", desc := "(III)Z" } : Jvm.MethodName)) ∈ lw_tbl := lw_at lw_m1 66 rfl
theorem q84 : (Jvm.Cond.instanceMethod ({ cls := "WalkerPlan", name := "hasEdge", desc := "(III)Z" } : Jvm.MethodName)) ∈ lw_all := lw_g (lw_at lw_m1 67 rfl) rfl
theorem q85 : (Jvm.Cond.code ({ cls := "WalkerPlan", name := "hasEdge", desc := "(III)Z" } : Jvm.MethodName) prog_1_method_5_code (4 : Nat) (Option.some Jvm.ClassFile.FieldType.boolean)) ∈ lw_all := lw_g (lw_at lw_m1 68 rfl) rfl
theorem q86 : (Jvm.Cond.methodLink "WalkerPlan" (55 : Nat) ({ cls := "WalkerPlan", name := "turn", desc := "(III)V" } : Jvm.MethodName)) ∈ lw_all := lw_g (lw_at lw_m1 69 rfl) rfl
theorem q87 : (Jvm.Cond.privateMethod ({ cls := "WalkerPlan", name := "turn", desc := "(III)V" } : Jvm.MethodName)) ∈ lw_tbl := lw_at lw_m1 70 rfl
theorem q88 : (Jvm.Cond.instanceMethod ({ cls := "WalkerPlan", name := "turn", desc := "(III)V" } : Jvm.MethodName)) ∈ lw_all := lw_g (lw_at lw_m1 71 rfl) rfl
theorem q89 : (Jvm.Cond.code ({ cls := "WalkerPlan", name := "turn", desc := "(III)V" } : Jvm.MethodName) prog_1_method_8_code (6 : Nat) (Option.none : Option Jvm.ClassFile.FieldType)) ∈ lw_all := lw_g (lw_at lw_m1 72 rfl) rfl
theorem q91 : (Jvm.Cond.instanceMethod ({ cls := "WalkerPlan", name := "cut", desc := "(III)Z" } : Jvm.MethodName)) ∈ lw_all := lw_g (lw_at lw_m1 74 rfl) rfl
theorem q92 : (Jvm.Cond.selects "WalkerPlan" ({ cls := "WalkerPlan", name := "cut", desc := "(III)Z" } : Jvm.MethodName) ({ cls := "WalkerPlan", name := "cut", desc := "(III)Z" } : Jvm.MethodName)) ∈ lw_all := lw_g (lw_at lw_m1 75 rfl) rfl
theorem q93 : (Jvm.Cond.code ({ cls := "WalkerPlan", name := "cut", desc := "(III)Z" } : Jvm.MethodName) prog_1_method_7_code (4 : Nat) (Option.some Jvm.ClassFile.FieldType.boolean)) ∈ lw_all := lw_g (lw_at lw_m1 76 rfl) rfl
theorem q95 : (Jvm.Cond.instanceMethod ({ cls := "WalkerPlan", name := "add", desc := "(II)I" } : Jvm.MethodName)) ∈ lw_all := lw_g (lw_at lw_m1 78 rfl) rfl
theorem q96 : (Jvm.Cond.selects "WalkerPlan" ({ cls := "WalkerPlan", name := "add", desc := "(II)I" } : Jvm.MethodName) ({ cls := "WalkerPlan", name := "add", desc := "(II)I" } : Jvm.MethodName)) ∈ lw_all := lw_g (lw_at lw_m1 79 rfl) rfl
theorem q97 : (Jvm.Cond.code ({ cls := "WalkerPlan", name := "add", desc := "(II)I" } : Jvm.MethodName) prog_1_method_9_code (4 : Nat) (Option.some Jvm.ClassFile.FieldType.int)) ∈ lw_all := lw_g (lw_at lw_m1 80 rfl) rfl
theorem q99 : (Jvm.Cond.instanceMethod ({ cls := "WalkerPlan", name := "drop", desc := "()I" } : Jvm.MethodName)) ∈ lw_all := lw_g (lw_at lw_m1 82 rfl) rfl
theorem q100 : (Jvm.Cond.selects "WalkerPlan" ({ cls := "WalkerPlan", name := "drop", desc := "()I" } : Jvm.MethodName) ({ cls := "WalkerPlan", name := "drop", desc := "()I" } : Jvm.MethodName)) ∈ lw_all := lw_g (lw_at lw_m1 83 rfl) rfl
theorem q101 : (Jvm.Cond.code ({ cls := "WalkerPlan", name := "drop", desc := "()I" } : Jvm.MethodName) prog_1_method_10_code (1 : Nat) (Option.some Jvm.ClassFile.FieldType.int)) ∈ lw_all := lw_g (lw_at lw_m1 84 rfl) rfl
theorem q103 : (Jvm.Cond.instanceMethod ({ cls := "WalkerPlan", name := "from", desc := "(I)Z" } : Jvm.MethodName)) ∈ lw_all := lw_g (lw_at lw_m1 86 rfl) rfl
theorem q104 : (Jvm.Cond.selects "WalkerPlan" ({ cls := "WalkerPlan", name := "from", desc := "(I)Z" } : Jvm.MethodName) ({ cls := "WalkerPlan", name := "from", desc := "(I)Z" } : Jvm.MethodName)) ∈ lw_all := lw_g (lw_at lw_m1 87 rfl) rfl
theorem q105 : (Jvm.Cond.code ({ cls := "WalkerPlan", name := "from", desc := "(I)Z" } : Jvm.MethodName) prog_1_method_11_code (2 : Nat) (Option.some Jvm.ClassFile.FieldType.boolean)) ∈ lw_all := lw_g (lw_at lw_m1 88 rfl) rfl
theorem q107 : (Jvm.Cond.instanceMethod ({ cls := "WalkerPlan", name := "at", desc := "(I)I" } : Jvm.MethodName)) ∈ lw_all := lw_g (lw_at lw_m1 90 rfl) rfl
theorem q108 : (Jvm.Cond.selects "WalkerPlan" ({ cls := "WalkerPlan", name := "at", desc := "(I)I" } : Jvm.MethodName) ({ cls := "WalkerPlan", name := "at", desc := "(I)I" } : Jvm.MethodName)) ∈ lw_all := lw_g (lw_at lw_m1 91 rfl) rfl
theorem q109 : (Jvm.Cond.code ({ cls := "WalkerPlan", name := "at", desc := "(I)I" } : Jvm.MethodName) prog_1_method_20_code (4 : Nat) (Option.some Jvm.ClassFile.FieldType.int)) ∈ lw_all := lw_g (lw_at lw_m1 92 rfl) rfl
theorem q110 : (Jvm.Cond.methodLink "WalkerPlan" (89 : Nat) ({ cls := "WalkerPlan", name := "walk", desc := "()V" } : Jvm.MethodName)) ∈ lw_all := lw_g (lw_at lw_m1 93 rfl) rfl
theorem q111 : (Jvm.Cond.privateMethod ({ cls := "WalkerPlan", name := "walk", desc := "()V" } : Jvm.MethodName)) ∈ lw_tbl := lw_at lw_m1 94 rfl
theorem q112 : (Jvm.Cond.instanceMethod ({ cls := "WalkerPlan", name := "walk", desc := "()V" } : Jvm.MethodName)) ∈ lw_all := lw_g (lw_at lw_m1 95 rfl) rfl
theorem q113 : (Jvm.Cond.code ({ cls := "WalkerPlan", name := "walk", desc := "()V" } : Jvm.MethodName) prog_1_method_12_code (3 : Nat) (Option.none : Option Jvm.ClassFile.FieldType)) ∈ lw_all := lw_g (lw_at lw_m1 96 rfl) rfl
theorem q114 : (Jvm.Cond.methodLink "WalkerPlan" (65 : Nat) ({ cls := "WalkerPlan", name := "total", desc := "()I" } : Jvm.MethodName)) ∈ lw_all := lw_g (lw_at lw_m1 97 rfl) rfl
theorem q115 : (Jvm.Cond.privateMethod ({ cls := "WalkerPlan", name := "total", desc := "()I" } : Jvm.MethodName)) ∈ lw_tbl := lw_at lw_m1 98 rfl
theorem q116 : (Jvm.Cond.instanceMethod ({ cls := "WalkerPlan", name := "total", desc := "()I" } : Jvm.MethodName)) ∈ lw_all := lw_g (lw_at lw_m1 99 rfl) rfl
theorem q117 : (Jvm.Cond.code ({ cls := "WalkerPlan", name := "total", desc := "()I" } : Jvm.MethodName) prog_1_method_13_code (3 : Nat) (Option.some Jvm.ClassFile.FieldType.int)) ∈ lw_all := lw_g (lw_at lw_m1 100 rfl) rfl
theorem q118 : (Jvm.Cond.methodLink "WalkerPlan" (69 : Nat) ({ cls := "WalkerPlan", name := "move", desc := "(II)V" } : Jvm.MethodName)) ∈ lw_all := lw_g (lw_at lw_m1 101 rfl) rfl
theorem q119 : (Jvm.Cond.privateMethod ({ cls := "WalkerPlan", name := "move", desc := "(II)V" } : Jvm.MethodName)) ∈ lw_tbl := lw_at lw_m1 102 rfl
theorem q120 : (Jvm.Cond.instanceMethod ({ cls := "WalkerPlan", name := "move", desc := "(II)V" } : Jvm.MethodName)) ∈ lw_all := lw_g (lw_at lw_m1 103 rfl) rfl
theorem q121 : (Jvm.Cond.code ({ cls := "WalkerPlan", name := "move", desc := "(II)V" } : Jvm.MethodName) prog_1_method_14_code (5 : Nat) (Option.none : Option Jvm.ClassFile.FieldType)) ∈ lw_all := lw_g (lw_at lw_m1 104 rfl) rfl
theorem q122 : (Jvm.Cond.methodLink "WalkerPlan" (79 : Nat) ({ cls := "WalkerPlan", name := "spread", desc := "(III)V" } : Jvm.MethodName)) ∈ lw_all := lw_g (lw_at lw_m1 105 rfl) rfl
theorem q123 : (Jvm.Cond.privateMethod ({ cls := "WalkerPlan", name := "spread", desc := "(III)V" } : Jvm.MethodName)) ∈ lw_tbl := lw_at lw_m1 106 rfl
theorem q124 : (Jvm.Cond.instanceMethod ({ cls := "WalkerPlan", name := "spread", desc := "(III)V" } : Jvm.MethodName)) ∈ lw_all := lw_g (lw_at lw_m1 107 rfl) rfl
theorem q125 : (Jvm.Cond.code ({ cls := "WalkerPlan", name := "spread", desc := "(III)V" } : Jvm.MethodName) prog_1_method_16_code (7 : Nat) (Option.none : Option Jvm.ClassFile.FieldType)) ∈ lw_all := lw_g (lw_at lw_m1 108 rfl) rfl
theorem q126 : (Jvm.Cond.methodLink "WalkerPlan" (86 : Nat) ({ cls := "WalkerPlan", name := "carry", desc := "(II)V" } : Jvm.MethodName)) ∈ lw_all := lw_g (lw_at lw_m1 109 rfl) rfl
theorem q127 : (Jvm.Cond.privateMethod ({ cls := "WalkerPlan", name := "carry", desc := "(II)V" } : Jvm.MethodName)) ∈ lw_tbl := lw_at lw_m1 110 rfl
theorem q128 : (Jvm.Cond.instanceMethod ({ cls := "WalkerPlan", name := "carry", desc := "(II)V" } : Jvm.MethodName)) ∈ lw_all := lw_g (lw_at lw_m1 111 rfl) rfl
theorem q129 : (Jvm.Cond.code ({ cls := "WalkerPlan", name := "carry", desc := "(II)V" } : Jvm.MethodName) prog_1_method_17_code (4 : Nat) (Option.none : Option Jvm.ClassFile.FieldType)) ∈ lw_all := lw_g (lw_at lw_m1 112 rfl) rfl
theorem q130 : (Jvm.Cond.methodLink "WalkerPlan" (82 : Nat) ({ cls := "WalkerPlan", name := "moves", desc := "(II)Z" } : Jvm.MethodName)) ∈ lw_all := lw_g (lw_at lw_m1 113 rfl) rfl
theorem q131 : (Jvm.Cond.privateMethod ({ cls := "WalkerPlan", name := "moves", desc := "(II)Z" } : Jvm.MethodName)) ∈ lw_tbl := lw_at lw_m1 114 rfl
theorem q132 : (Jvm.Cond.instanceMethod ({ cls := "WalkerPlan", name := "moves", desc := "(II)Z" } : Jvm.MethodName)) ∈ lw_all := lw_g (lw_at lw_m1 115 rfl) rfl
theorem q133 : (Jvm.Cond.code ({ cls := "WalkerPlan", name := "moves", desc := "(II)Z" } : Jvm.MethodName) prog_1_method_15_code (4 : Nat) (Option.some Jvm.ClassFile.FieldType.boolean)) ∈ lw_all := lw_g (lw_at lw_m1 116 rfl) rfl
theorem q134 : (Jvm.Cond.methodLink "WalkerPlan" (73 : Nat) ({ cls := "WalkerPlan", name := "keepOne", desc := "()V" } : Jvm.MethodName)) ∈ lw_all := lw_g (lw_at lw_m1 117 rfl) rfl
theorem q135 : (Jvm.Cond.privateMethod ({ cls := "WalkerPlan", name := "keepOne", desc := "()V" } : Jvm.MethodName)) ∈ lw_tbl := lw_at lw_m1 118 rfl
theorem q136 : (Jvm.Cond.instanceMethod ({ cls := "WalkerPlan", name := "keepOne", desc := "()V" } : Jvm.MethodName)) ∈ lw_all := lw_g (lw_at lw_m1 119 rfl) rfl
theorem q137 : (Jvm.Cond.code ({ cls := "WalkerPlan", name := "keepOne", desc := "()V" } : Jvm.MethodName) prog_1_method_19_code (5 : Nat) (Option.none : Option Jvm.ClassFile.FieldType)) ∈ lw_all := lw_g (lw_at lw_m1 120 rfl) rfl
theorem q138 : (Jvm.Cond.methodLink "WalkerPlan" (76 : Nat) ({ cls := "WalkerPlan", name := "filter", desc := "(II)V" } : Jvm.MethodName)) ∈ lw_all := lw_g (lw_at lw_m1 121 rfl) rfl
theorem q139 : (Jvm.Cond.privateMethod ({ cls := "WalkerPlan", name := "filter", desc := "(II)V" } : Jvm.MethodName)) ∈ lw_tbl := lw_at lw_m1 122 rfl
theorem q140 : (Jvm.Cond.instanceMethod ({ cls := "WalkerPlan", name := "filter", desc := "(II)V" } : Jvm.MethodName)) ∈ lw_all := lw_g (lw_at lw_m1 123 rfl) rfl
theorem q141 : (Jvm.Cond.code ({ cls := "WalkerPlan", name := "filter", desc := "(II)V" } : Jvm.MethodName) prog_1_method_18_code (7 : Nat) (Option.none : Option Jvm.ClassFile.FieldType)) ∈ lw_all := lw_g (lw_at lw_m1 124 rfl) rfl
theorem q143 : (Jvm.Cond.instanceMethod ({ cls := "WalkerPlan", name := "walkers", desc := "()I" } : Jvm.MethodName)) ∈ lw_all := lw_g (lw_at lw_m1 126 rfl) rfl
theorem q144 : (Jvm.Cond.selects "WalkerPlan" ({ cls := "WalkerPlan", name := "walkers", desc := "()I" } : Jvm.MethodName) ({ cls := "WalkerPlan", name := "walkers", desc := "()I" } : Jvm.MethodName)) ∈ lw_all := lw_g (lw_at lw_m1 127 rfl) rfl
theorem q145 : (Jvm.Cond.code ({ cls := "WalkerPlan", name := "walkers", desc := "()I" } : Jvm.MethodName) prog_1_method_21_code (1 : Nat) (Option.some Jvm.ClassFile.FieldType.int)) ∈ lw_all := lw_g (lw_at lw_m1 128 rfl) rfl
theorem q147 : (Jvm.Cond.instanceMethod ({ cls := "WalkerPlan", name := "after", desc := "(I)I" } : Jvm.MethodName)) ∈ lw_all := lw_g (lw_at lw_m1 130 rfl) rfl
theorem q148 : (Jvm.Cond.selects "WalkerPlan" ({ cls := "WalkerPlan", name := "after", desc := "(I)I" } : Jvm.MethodName) ({ cls := "WalkerPlan", name := "after", desc := "(I)I" } : Jvm.MethodName)) ∈ lw_all := lw_g (lw_at lw_m1 131 rfl) rfl
theorem q149 : (Jvm.Cond.code ({ cls := "WalkerPlan", name := "after", desc := "(I)I" } : Jvm.MethodName) prog_1_method_22_code (2 : Nat) (Option.some Jvm.ClassFile.FieldType.int)) ∈ lw_all := lw_g (lw_at lw_m1 132 rfl) rfl
theorem q151 : (Jvm.Cond.instanceMethod ({ cls := "WalkerPlan", name := "between", desc := "(II)I" } : Jvm.MethodName)) ∈ lw_all := lw_g (lw_at lw_m1 134 rfl) rfl
theorem q152 : (Jvm.Cond.selects "WalkerPlan" ({ cls := "WalkerPlan", name := "between", desc := "(II)I" } : Jvm.MethodName) ({ cls := "WalkerPlan", name := "between", desc := "(II)I" } : Jvm.MethodName)) ∈ lw_all := lw_g (lw_at lw_m1 135 rfl) rfl
theorem q153 : (Jvm.Cond.code ({ cls := "WalkerPlan", name := "between", desc := "(II)I" } : Jvm.MethodName) prog_1_method_23_code (3 : Nat) (Option.some Jvm.ClassFile.FieldType.int)) ∈ lw_all := lw_g (lw_at lw_m1 136 rfl) rfl
theorem q155 : (Jvm.Cond.instanceMethod ({ cls := "WalkerPlan", name := "reached", desc := "()I" } : Jvm.MethodName)) ∈ lw_all := lw_g (lw_at lw_m1 138 rfl) rfl
theorem q156 : (Jvm.Cond.selects "WalkerPlan" ({ cls := "WalkerPlan", name := "reached", desc := "()I" } : Jvm.MethodName) ({ cls := "WalkerPlan", name := "reached", desc := "()I" } : Jvm.MethodName)) ∈ lw_all := lw_g (lw_at lw_m1 139 rfl) rfl
theorem q157 : (Jvm.Cond.code ({ cls := "WalkerPlan", name := "reached", desc := "()I" } : Jvm.MethodName) prog_1_method_24_code (3 : Nat) (Option.some Jvm.ClassFile.FieldType.int)) ∈ lw_all := lw_g (lw_at lw_m1 140 rfl) rfl
theorem q158 : (Jvm.Cond.methodLink "WalkerPlan" (92 : Nat) ({ cls := "WalkerPlan", name := "at", desc := "(I)I" } : Jvm.MethodName)) ∈ lw_all := lw_g (lw_at lw_m1 141 rfl) rfl
theorem q160 : (Jvm.Cond.instanceMethod ({ cls := "WalkerPlan", name := "startsAt", desc := "(I)I" } : Jvm.MethodName)) ∈ lw_all := lw_g (lw_at lw_m1 143 rfl) rfl
theorem q161 : (Jvm.Cond.selects "WalkerPlan" ({ cls := "WalkerPlan", name := "startsAt", desc := "(I)I" } : Jvm.MethodName) ({ cls := "WalkerPlan", name := "startsAt", desc := "(I)I" } : Jvm.MethodName)) ∈ lw_all := lw_g (lw_at lw_m1 144 rfl) rfl
theorem q162 : (Jvm.Cond.code ({ cls := "WalkerPlan", name := "startsAt", desc := "(I)I" } : Jvm.MethodName) prog_1_method_25_code (4 : Nat) (Option.some Jvm.ClassFile.FieldType.int)) ∈ lw_all := lw_g (lw_at lw_m1 145 rfl) rfl
theorem q163 : (Jvm.Cond.methodLink "WalkerPlan" (96 : Nat) ({ cls := "WalkerPlan", name := "between", desc := "(II)I" } : Jvm.MethodName)) ∈ lw_all := lw_g (lw_at lw_m1 146 rfl) rfl
theorem q165 : (Jvm.Cond.instanceMethod ({ cls := "WalkerPlan", name := "diesAfter", desc := "()I" } : Jvm.MethodName)) ∈ lw_all := lw_g (lw_at lw_m1 148 rfl) rfl
theorem q166 : (Jvm.Cond.selects "WalkerPlan" ({ cls := "WalkerPlan", name := "diesAfter", desc := "()I" } : Jvm.MethodName) ({ cls := "WalkerPlan", name := "diesAfter", desc := "()I" } : Jvm.MethodName)) ∈ lw_all := lw_g (lw_at lw_m1 149 rfl) rfl
theorem q167 : (Jvm.Cond.code ({ cls := "WalkerPlan", name := "diesAfter", desc := "()I" } : Jvm.MethodName) prog_1_method_26_code (2 : Nat) (Option.some Jvm.ClassFile.FieldType.int)) ∈ lw_all := lw_g (lw_at lw_m1 150 rfl) rfl
theorem q169 : (Jvm.Cond.instanceMethod ({ cls := "WalkerPlan", name := "edges", desc := "()I" } : Jvm.MethodName)) ∈ lw_all := lw_g (lw_at lw_m1 152 rfl) rfl
theorem q170 : (Jvm.Cond.selects "WalkerPlan" ({ cls := "WalkerPlan", name := "edges", desc := "()I" } : Jvm.MethodName) ({ cls := "WalkerPlan", name := "edges", desc := "()I" } : Jvm.MethodName)) ∈ lw_all := lw_g (lw_at lw_m1 153 rfl) rfl
theorem q171 : (Jvm.Cond.code ({ cls := "WalkerPlan", name := "edges", desc := "()I" } : Jvm.MethodName) prog_1_method_27_code (1 : Nat) (Option.some Jvm.ClassFile.FieldType.int)) ∈ lw_all := lw_g (lw_at lw_m1 154 rfl) rfl
theorem in_X0 : ∀ w ∈ wsX00, w ∈ lw_all := lw_in wsX00 [40, 42, 44, 46, 48, 50, 52, 54, 56, 58, 60, 62] (by decide +kernel) (by decide +kernel)
end
section
/-! WalkerPlanModel -/
set_option maxRecDepth 100000
def RX1 : String := "WalkerPlanModel"
def TX1 : u_T := fun k => match k with
  | 0 => ("WalkerPlanModel", "marks", "[I", false)
  | 1 => ("WalkerPlanModel", "size", "I", false)
  | 2 => ("WalkerPlanModel", "begin", "[I", false)
  | 3 => ("WalkerPlanModel", "end", "[I", false)
  | 4 => ("WalkerPlanModel", "label", "[I", false)
  | 5 => ("WalkerPlanModel", "steps", "I", false)
  | 6 => ("WalkerPlanModel", "kinds", "[I", false)
  | 7 => ("WalkerPlanModel", "numbers", "[I", false)
  | 8 => ("WalkerPlanModel", "starts", "I", false)
  | 9 => ("WalkerPlanModel", "now", "[I", false)
  | _ => ("WalkerPlanModel", "then", "[I", false)
def tyX1 : Nat → FieldType := fun k => match k with
  | 0 => .array .int
  | 1 => .int
  | 2 => .array .int
  | 3 => .array .int
  | 4 => .array .int
  | 5 => .int
  | 6 => .array .int
  | 7 => .array .int
  | 8 => .int
  | 9 => .array .int
  | _ => .array .int
abbrev wsX10 : List Cond := u_ws RX1 TX1 11
theorem nmX1 : ∀ a, a < 11 → ∀ b, b < 11 → a ≠ b → (TX1 a).2.1 ≠ (TX1 b).2.1 := by decide +kernel
theorem tyX1_ok : ∀ k, k < 11 → parseFieldDescriptor (TX1 k).2.2.1 = some (tyX1 k) := by decide +kernel
abbrev cX1_init : ByteArray := prog_3_method_1_code
def yX1_init : MethodName := ⟨RX1, "<init>", "()V"⟩
theorem dX1_init_0 : decode cX1_init 0 = .ok (.aload_n 0, 1) := by decide +kernel
theorem dX1_init_1 : decode cX1_init 1 = .ok (.invokespecial 1, 3) := by decide +kernel
theorem dX1_init_4 : decode cX1_init 4 = .ok (.aload_n 0, 1) := by decide +kernel
theorem dX1_init_5 : decode cX1_init 5 = .ok (.bipush 8, 2) := by decide +kernel
theorem dX1_init_7 : decode cX1_init 7 = .ok (.newarray .int, 2) := by decide +kernel
theorem dX1_init_9 : decode cX1_init 9 = .ok (.putfield 7, 3) := by decide +kernel
theorem dX1_init_12 : decode cX1_init 12 = .ok (.aload_n 0, 1) := by decide +kernel
theorem dX1_init_13 : decode cX1_init 13 = .ok (.bipush 10, 2) := by decide +kernel
theorem dX1_init_15 : decode cX1_init 15 = .ok (.newarray .int, 2) := by decide +kernel
theorem dX1_init_17 : decode cX1_init 17 = .ok (.putfield 13, 3) := by decide +kernel
theorem dX1_init_20 : decode cX1_init 20 = .ok (.aload_n 0, 1) := by decide +kernel
theorem dX1_init_21 : decode cX1_init 21 = .ok (.bipush 10, 2) := by decide +kernel
theorem dX1_init_23 : decode cX1_init 23 = .ok (.newarray .int, 2) := by decide +kernel
theorem dX1_init_25 : decode cX1_init 25 = .ok (.putfield 16, 3) := by decide +kernel
theorem dX1_init_28 : decode cX1_init 28 = .ok (.aload_n 0, 1) := by decide +kernel
theorem dX1_init_29 : decode cX1_init 29 = .ok (.bipush 10, 2) := by decide +kernel
theorem dX1_init_31 : decode cX1_init 31 = .ok (.newarray .int, 2) := by decide +kernel
theorem dX1_init_33 : decode cX1_init 33 = .ok (.putfield 19, 3) := by decide +kernel
theorem dX1_init_36 : decode cX1_init 36 = .ok (.aload_n 0, 1) := by decide +kernel
theorem dX1_init_37 : decode cX1_init 37 = .ok (.bipush 6, 2) := by decide +kernel
theorem dX1_init_39 : decode cX1_init 39 = .ok (.newarray .int, 2) := by decide +kernel
theorem dX1_init_41 : decode cX1_init 41 = .ok (.putfield 22, 3) := by decide +kernel
theorem dX1_init_44 : decode cX1_init 44 = .ok (.aload_n 0, 1) := by decide +kernel
theorem dX1_init_45 : decode cX1_init 45 = .ok (.bipush 6, 2) := by decide +kernel
theorem dX1_init_47 : decode cX1_init 47 = .ok (.newarray .int, 2) := by decide +kernel
theorem dX1_init_49 : decode cX1_init 49 = .ok (.putfield 25, 3) := by decide +kernel
theorem dX1_init_52 : decode cX1_init 52 = .ok (.aload_n 0, 1) := by decide +kernel
theorem dX1_init_53 : decode cX1_init 53 = .ok (.bipush 64, 2) := by decide +kernel
theorem dX1_init_55 : decode cX1_init 55 = .ok (.newarray .int, 2) := by decide +kernel
theorem dX1_init_57 : decode cX1_init 57 = .ok (.putfield 28, 3) := by decide +kernel
theorem dX1_init_60 : decode cX1_init 60 = .ok (.aload_n 0, 1) := by decide +kernel
theorem dX1_init_61 : decode cX1_init 61 = .ok (.bipush 64, 2) := by decide +kernel
theorem dX1_init_63 : decode cX1_init 63 = .ok (.newarray .int, 2) := by decide +kernel
theorem dX1_init_65 : decode cX1_init 65 = .ok (.putfield 31, 3) := by decide +kernel
theorem dX1_init_68 : decode cX1_init 68 = .ok (.return_, 1) := by decide +kernel
abbrev cX1_mark : ByteArray := prog_3_method_3_code
def yX1_mark : MethodName := ⟨RX1, "mark", "(II)Z"⟩
theorem dX1_mark_0 : decode cX1_mark 0 = .ok (.aload_n 0, 1) := by decide +kernel
theorem dX1_mark_1 : decode cX1_mark 1 = .ok (.iload_n 1, 1) := by decide +kernel
theorem dX1_mark_2 : decode cX1_mark 2 = .ok (.invokevirtual 34, 3) := by decide +kernel
theorem dX1_mark_5 : decode cX1_mark 5 = .ok (.ifCond .eq 13, 3) := by decide +kernel
theorem dX1_mark_8 : decode cX1_mark 8 = .ok (.iload_n 2, 1) := by decide +kernel
theorem dX1_mark_9 : decode cX1_mark 9 = .ok (.ifCond .lt 9, 3) := by decide +kernel
theorem dX1_mark_12 : decode cX1_mark 12 = .ok (.iload_n 2, 1) := by decide +kernel
theorem dX1_mark_13 : decode cX1_mark 13 = .ok (.bipush 9, 2) := by decide +kernel
theorem dX1_mark_15 : decode cX1_mark 15 = .ok (.if_icmp .le 5, 3) := by decide +kernel
theorem dX1_mark_18 : decode cX1_mark 18 = .ok (.iconst 0, 1) := by decide +kernel
theorem dX1_mark_19 : decode cX1_mark 19 = .ok (.ireturn, 1) := by decide +kernel
theorem dX1_mark_20 : decode cX1_mark 20 = .ok (.aload_n 0, 1) := by decide +kernel
theorem dX1_mark_21 : decode cX1_mark 21 = .ok (.getfield 7, 3) := by decide +kernel
theorem dX1_mark_24 : decode cX1_mark 24 = .ok (.iload_n 1, 1) := by decide +kernel
theorem dX1_mark_25 : decode cX1_mark 25 = .ok (.iload_n 2, 1) := by decide +kernel
theorem dX1_mark_26 : decode cX1_mark 26 = .ok (.iastore, 1) := by decide +kernel
theorem dX1_mark_27 : decode cX1_mark 27 = .ok (.iconst 1, 1) := by decide +kernel
theorem dX1_mark_28 : decode cX1_mark 28 = .ok (.ireturn, 1) := by decide +kernel
abbrev cX1_vertex : ByteArray := prog_3_method_2_code
def yX1_vertex : MethodName := ⟨RX1, "vertex", "(I)Z"⟩
theorem dX1_vertex_0 : decode cX1_vertex 0 = .ok (.iload_n 1, 1) := by decide +kernel
theorem dX1_vertex_1 : decode cX1_vertex 1 = .ok (.ifCond .lt 13, 3) := by decide +kernel
theorem dX1_vertex_4 : decode cX1_vertex 4 = .ok (.iload_n 1, 1) := by decide +kernel
theorem dX1_vertex_5 : decode cX1_vertex 5 = .ok (.bipush 7, 2) := by decide +kernel
theorem dX1_vertex_7 : decode cX1_vertex 7 = .ok (.if_icmp .gt 7, 3) := by decide +kernel
theorem dX1_vertex_10 : decode cX1_vertex 10 = .ok (.iconst 1, 1) := by decide +kernel
theorem dX1_vertex_11 : decode cX1_vertex 11 = .ok (.goto 4, 3) := by decide +kernel
theorem dX1_vertex_14 : decode cX1_vertex 14 = .ok (.iconst 0, 1) := by decide +kernel
theorem dX1_vertex_15 : decode cX1_vertex 15 = .ok (.ireturn, 1) := by decide +kernel
abbrev cX1_join : ByteArray := prog_3_method_5_code
def yX1_join : MethodName := ⟨RX1, "join", "(III)Z"⟩
theorem dX1_join_0 : decode cX1_join 0 = .ok (.iload_n 1, 1) := by decide +kernel
theorem dX1_join_1 : decode cX1_join 1 = .ok (.iload_n 2, 1) := by decide +kernel
theorem dX1_join_2 : decode cX1_join 2 = .ok (.if_icmp .eq 47, 3) := by decide +kernel
theorem dX1_join_5 : decode cX1_join 5 = .ok (.aload_n 0, 1) := by decide +kernel
theorem dX1_join_6 : decode cX1_join 6 = .ok (.iload_n 1, 1) := by decide +kernel
theorem dX1_join_7 : decode cX1_join 7 = .ok (.invokevirtual 34, 3) := by decide +kernel
theorem dX1_join_10 : decode cX1_join 10 = .ok (.ifCond .eq 39, 3) := by decide +kernel
theorem dX1_join_13 : decode cX1_join 13 = .ok (.aload_n 0, 1) := by decide +kernel
theorem dX1_join_14 : decode cX1_join 14 = .ok (.iload_n 2, 1) := by decide +kernel
theorem dX1_join_15 : decode cX1_join 15 = .ok (.invokevirtual 34, 3) := by decide +kernel
theorem dX1_join_18 : decode cX1_join 18 = .ok (.ifCond .eq 31, 3) := by decide +kernel
theorem dX1_join_21 : decode cX1_join 21 = .ok (.iload_n 3, 1) := by decide +kernel
theorem dX1_join_22 : decode cX1_join 22 = .ok (.ifCond .lt 27, 3) := by decide +kernel
theorem dX1_join_25 : decode cX1_join 25 = .ok (.iload_n 3, 1) := by decide +kernel
theorem dX1_join_26 : decode cX1_join 26 = .ok (.iconst 1, 1) := by decide +kernel
theorem dX1_join_27 : decode cX1_join 27 = .ok (.if_icmp .gt 22, 3) := by decide +kernel
theorem dX1_join_30 : decode cX1_join 30 = .ok (.aload_n 0, 1) := by decide +kernel
theorem dX1_join_31 : decode cX1_join 31 = .ok (.iload_n 1, 1) := by decide +kernel
theorem dX1_join_32 : decode cX1_join 32 = .ok (.iload_n 2, 1) := by decide +kernel
theorem dX1_join_33 : decode cX1_join 33 = .ok (.iload_n 3, 1) := by decide +kernel
theorem dX1_join_34 : decode cX1_join 34 = .ok (.invokevirtual 42, 3) := by decide +kernel
theorem dX1_join_37 : decode cX1_join 37 = .ok (.ifCond .ge 12, 3) := by decide +kernel
theorem dX1_join_40 : decode cX1_join 40 = .ok (.aload_n 0, 1) := by decide +kernel
theorem dX1_join_41 : decode cX1_join 41 = .ok (.getfield 38, 3) := by decide +kernel
theorem dX1_join_44 : decode cX1_join 44 = .ok (.bipush 10, 2) := by decide +kernel
theorem dX1_join_46 : decode cX1_join 46 = .ok (.if_icmp .lt 5, 3) := by decide +kernel
theorem dX1_join_49 : decode cX1_join 49 = .ok (.iconst 0, 1) := by decide +kernel
theorem dX1_join_50 : decode cX1_join 50 = .ok (.ireturn, 1) := by decide +kernel
theorem dX1_join_51 : decode cX1_join 51 = .ok (.aload_n 0, 1) := by decide +kernel
theorem dX1_join_52 : decode cX1_join 52 = .ok (.getfield 13, 3) := by decide +kernel
theorem dX1_join_55 : decode cX1_join 55 = .ok (.aload_n 0, 1) := by decide +kernel
theorem dX1_join_56 : decode cX1_join 56 = .ok (.getfield 38, 3) := by decide +kernel
theorem dX1_join_59 : decode cX1_join 59 = .ok (.iload_n 1, 1) := by decide +kernel
theorem dX1_join_60 : decode cX1_join 60 = .ok (.iastore, 1) := by decide +kernel
theorem dX1_join_61 : decode cX1_join 61 = .ok (.aload_n 0, 1) := by decide +kernel
theorem dX1_join_62 : decode cX1_join 62 = .ok (.getfield 16, 3) := by decide +kernel
theorem dX1_join_65 : decode cX1_join 65 = .ok (.aload_n 0, 1) := by decide +kernel
theorem dX1_join_66 : decode cX1_join 66 = .ok (.getfield 38, 3) := by decide +kernel
theorem dX1_join_69 : decode cX1_join 69 = .ok (.iload_n 2, 1) := by decide +kernel
theorem dX1_join_70 : decode cX1_join 70 = .ok (.iastore, 1) := by decide +kernel
theorem dX1_join_71 : decode cX1_join 71 = .ok (.aload_n 0, 1) := by decide +kernel
theorem dX1_join_72 : decode cX1_join 72 = .ok (.getfield 19, 3) := by decide +kernel
theorem dX1_join_75 : decode cX1_join 75 = .ok (.aload_n 0, 1) := by decide +kernel
theorem dX1_join_76 : decode cX1_join 76 = .ok (.getfield 38, 3) := by decide +kernel
theorem dX1_join_79 : decode cX1_join 79 = .ok (.iload_n 3, 1) := by decide +kernel
theorem dX1_join_80 : decode cX1_join 80 = .ok (.iastore, 1) := by decide +kernel
theorem dX1_join_81 : decode cX1_join 81 = .ok (.aload_n 0, 1) := by decide +kernel
theorem dX1_join_82 : decode cX1_join 82 = .ok (.dup, 1) := by decide +kernel
theorem dX1_join_83 : decode cX1_join 83 = .ok (.getfield 38, 3) := by decide +kernel
theorem dX1_join_86 : decode cX1_join 86 = .ok (.iconst 1, 1) := by decide +kernel
theorem dX1_join_87 : decode cX1_join 87 = .ok (.iadd, 1) := by decide +kernel
theorem dX1_join_88 : decode cX1_join 88 = .ok (.putfield 38, 3) := by decide +kernel
theorem dX1_join_91 : decode cX1_join 91 = .ok (.iconst 1, 1) := by decide +kernel
theorem dX1_join_92 : decode cX1_join 92 = .ok (.ireturn, 1) := by decide +kernel
abbrev cX1_find : ByteArray := prog_3_method_4_code
def yX1_find : MethodName := ⟨RX1, "find", "(III)I"⟩
theorem dX1_find_0 : decode cX1_find 0 = .ok (.iconst 0, 1) := by decide +kernel
theorem dX1_find_1 : decode cX1_find 1 = .ok (.istore 4, 2) := by decide +kernel
theorem dX1_find_3 : decode cX1_find 3 = .ok (.iload 4, 2) := by decide +kernel
theorem dX1_find_5 : decode cX1_find 5 = .ok (.aload_n 0, 1) := by decide +kernel
theorem dX1_find_6 : decode cX1_find 6 = .ok (.getfield 38, 3) := by decide +kernel
theorem dX1_find_9 : decode cX1_find 9 = .ok (.if_icmp .ge 45, 3) := by decide +kernel
theorem dX1_find_12 : decode cX1_find 12 = .ok (.aload_n 0, 1) := by decide +kernel
theorem dX1_find_13 : decode cX1_find 13 = .ok (.getfield 13, 3) := by decide +kernel
theorem dX1_find_16 : decode cX1_find 16 = .ok (.iload 4, 2) := by decide +kernel
theorem dX1_find_18 : decode cX1_find 18 = .ok (.iaload, 1) := by decide +kernel
theorem dX1_find_19 : decode cX1_find 19 = .ok (.iload_n 1, 1) := by decide +kernel
theorem dX1_find_20 : decode cX1_find 20 = .ok (.if_icmp .ne 28, 3) := by decide +kernel
theorem dX1_find_23 : decode cX1_find 23 = .ok (.aload_n 0, 1) := by decide +kernel
theorem dX1_find_24 : decode cX1_find 24 = .ok (.getfield 16, 3) := by decide +kernel
theorem dX1_find_27 : decode cX1_find 27 = .ok (.iload 4, 2) := by decide +kernel
theorem dX1_find_29 : decode cX1_find 29 = .ok (.iaload, 1) := by decide +kernel
theorem dX1_find_30 : decode cX1_find 30 = .ok (.iload_n 2, 1) := by decide +kernel
theorem dX1_find_31 : decode cX1_find 31 = .ok (.if_icmp .ne 17, 3) := by decide +kernel
theorem dX1_find_34 : decode cX1_find 34 = .ok (.aload_n 0, 1) := by decide +kernel
theorem dX1_find_35 : decode cX1_find 35 = .ok (.getfield 19, 3) := by decide +kernel
theorem dX1_find_38 : decode cX1_find 38 = .ok (.iload 4, 2) := by decide +kernel
theorem dX1_find_40 : decode cX1_find 40 = .ok (.iaload, 1) := by decide +kernel
theorem dX1_find_41 : decode cX1_find 41 = .ok (.iload_n 3, 1) := by decide +kernel
theorem dX1_find_42 : decode cX1_find 42 = .ok (.if_icmp .ne 6, 3) := by decide +kernel
theorem dX1_find_45 : decode cX1_find 45 = .ok (.iload 4, 2) := by decide +kernel
theorem dX1_find_47 : decode cX1_find 47 = .ok (.ireturn, 1) := by decide +kernel
theorem dX1_find_48 : decode cX1_find 48 = .ok (.iinc 4 1, 3) := by decide +kernel
theorem dX1_find_51 : decode cX1_find 51 = .ok (.goto (-48), 3) := by decide +kernel
theorem dX1_find_54 : decode cX1_find 54 = .ok (.iconst (-1), 1) := by decide +kernel
theorem dX1_find_55 : decode cX1_find 55 = .ok (.ireturn, 1) := by decide +kernel
abbrev cX1_cut : ByteArray := prog_3_method_6_code
def yX1_cut : MethodName := ⟨RX1, "cut", "(III)Z"⟩
theorem dX1_cut_0 : decode cX1_cut 0 = .ok (.aload_n 0, 1) := by decide +kernel
theorem dX1_cut_1 : decode cX1_cut 1 = .ok (.iload_n 1, 1) := by decide +kernel
theorem dX1_cut_2 : decode cX1_cut 2 = .ok (.iload_n 2, 1) := by decide +kernel
theorem dX1_cut_3 : decode cX1_cut 3 = .ok (.iload_n 3, 1) := by decide +kernel
theorem dX1_cut_4 : decode cX1_cut 4 = .ok (.invokevirtual 42, 3) := by decide +kernel
theorem dX1_cut_7 : decode cX1_cut 7 = .ok (.istore 4, 2) := by decide +kernel
theorem dX1_cut_9 : decode cX1_cut 9 = .ok (.iload 4, 2) := by decide +kernel
theorem dX1_cut_11 : decode cX1_cut 11 = .ok (.ifCond .ge 5, 3) := by decide +kernel
theorem dX1_cut_14 : decode cX1_cut 14 = .ok (.iconst 0, 1) := by decide +kernel
theorem dX1_cut_15 : decode cX1_cut 15 = .ok (.ireturn, 1) := by decide +kernel
theorem dX1_cut_16 : decode cX1_cut 16 = .ok (.aload_n 0, 1) := by decide +kernel
theorem dX1_cut_17 : decode cX1_cut 17 = .ok (.dup, 1) := by decide +kernel
theorem dX1_cut_18 : decode cX1_cut 18 = .ok (.getfield 38, 3) := by decide +kernel
theorem dX1_cut_21 : decode cX1_cut 21 = .ok (.iconst 1, 1) := by decide +kernel
theorem dX1_cut_22 : decode cX1_cut 22 = .ok (.isub, 1) := by decide +kernel
theorem dX1_cut_23 : decode cX1_cut 23 = .ok (.putfield 38, 3) := by decide +kernel
theorem dX1_cut_26 : decode cX1_cut 26 = .ok (.aload_n 0, 1) := by decide +kernel
theorem dX1_cut_27 : decode cX1_cut 27 = .ok (.getfield 13, 3) := by decide +kernel
theorem dX1_cut_30 : decode cX1_cut 30 = .ok (.iload 4, 2) := by decide +kernel
theorem dX1_cut_32 : decode cX1_cut 32 = .ok (.aload_n 0, 1) := by decide +kernel
theorem dX1_cut_33 : decode cX1_cut 33 = .ok (.getfield 13, 3) := by decide +kernel
theorem dX1_cut_36 : decode cX1_cut 36 = .ok (.aload_n 0, 1) := by decide +kernel
theorem dX1_cut_37 : decode cX1_cut 37 = .ok (.getfield 38, 3) := by decide +kernel
theorem dX1_cut_40 : decode cX1_cut 40 = .ok (.iaload, 1) := by decide +kernel
theorem dX1_cut_41 : decode cX1_cut 41 = .ok (.iastore, 1) := by decide +kernel
theorem dX1_cut_42 : decode cX1_cut 42 = .ok (.aload_n 0, 1) := by decide +kernel
theorem dX1_cut_43 : decode cX1_cut 43 = .ok (.getfield 16, 3) := by decide +kernel
theorem dX1_cut_46 : decode cX1_cut 46 = .ok (.iload 4, 2) := by decide +kernel
theorem dX1_cut_48 : decode cX1_cut 48 = .ok (.aload_n 0, 1) := by decide +kernel
theorem dX1_cut_49 : decode cX1_cut 49 = .ok (.getfield 16, 3) := by decide +kernel
theorem dX1_cut_52 : decode cX1_cut 52 = .ok (.aload_n 0, 1) := by decide +kernel
theorem dX1_cut_53 : decode cX1_cut 53 = .ok (.getfield 38, 3) := by decide +kernel
theorem dX1_cut_56 : decode cX1_cut 56 = .ok (.iaload, 1) := by decide +kernel
theorem dX1_cut_57 : decode cX1_cut 57 = .ok (.iastore, 1) := by decide +kernel
theorem dX1_cut_58 : decode cX1_cut 58 = .ok (.aload_n 0, 1) := by decide +kernel
theorem dX1_cut_59 : decode cX1_cut 59 = .ok (.getfield 19, 3) := by decide +kernel
theorem dX1_cut_62 : decode cX1_cut 62 = .ok (.iload 4, 2) := by decide +kernel
theorem dX1_cut_64 : decode cX1_cut 64 = .ok (.aload_n 0, 1) := by decide +kernel
theorem dX1_cut_65 : decode cX1_cut 65 = .ok (.getfield 19, 3) := by decide +kernel
theorem dX1_cut_68 : decode cX1_cut 68 = .ok (.aload_n 0, 1) := by decide +kernel
theorem dX1_cut_69 : decode cX1_cut 69 = .ok (.getfield 38, 3) := by decide +kernel
theorem dX1_cut_72 : decode cX1_cut 72 = .ok (.iaload, 1) := by decide +kernel
theorem dX1_cut_73 : decode cX1_cut 73 = .ok (.iastore, 1) := by decide +kernel
theorem dX1_cut_74 : decode cX1_cut 74 = .ok (.iconst 1, 1) := by decide +kernel
theorem dX1_cut_75 : decode cX1_cut 75 = .ok (.ireturn, 1) := by decide +kernel
abbrev cX1_add : ByteArray := prog_3_method_7_code
def yX1_add : MethodName := ⟨RX1, "add", "(II)I"⟩
theorem dX1_add_0 : decode cX1_add 0 = .ok (.iload_n 1, 1) := by decide +kernel
theorem dX1_add_1 : decode cX1_add 1 = .ok (.ifCond .lt 38, 3) := by decide +kernel
theorem dX1_add_4 : decode cX1_add 4 = .ok (.iload_n 1, 1) := by decide +kernel
theorem dX1_add_5 : decode cX1_add 5 = .ok (.bipush 7, 2) := by decide +kernel
theorem dX1_add_7 : decode cX1_add 7 = .ok (.if_icmp .gt 32, 3) := by decide +kernel
theorem dX1_add_10 : decode cX1_add 10 = .ok (.iload_n 1, 1) := by decide +kernel
theorem dX1_add_11 : decode cX1_add 11 = .ok (.iconst 3, 1) := by decide +kernel
theorem dX1_add_12 : decode cX1_add 12 = .ok (.if_icmp .gt 12, 3) := by decide +kernel
theorem dX1_add_15 : decode cX1_add 15 = .ok (.iload_n 2, 1) := by decide +kernel
theorem dX1_add_16 : decode cX1_add 16 = .ok (.ifCond .lt 23, 3) := by decide +kernel
theorem dX1_add_19 : decode cX1_add 19 = .ok (.iload_n 2, 1) := by decide +kernel
theorem dX1_add_20 : decode cX1_add 20 = .ok (.iconst 2, 1) := by decide +kernel
theorem dX1_add_21 : decode cX1_add 21 = .ok (.if_icmp .gt 18, 3) := by decide +kernel
theorem dX1_add_24 : decode cX1_add 24 = .ok (.iload_n 1, 1) := by decide +kernel
theorem dX1_add_25 : decode cX1_add 25 = .ok (.iconst 4, 1) := by decide +kernel
theorem dX1_add_26 : decode cX1_add 26 = .ok (.if_icmp .ne 15, 3) := by decide +kernel
theorem dX1_add_29 : decode cX1_add 29 = .ok (.iload_n 2, 1) := by decide +kernel
theorem dX1_add_30 : decode cX1_add 30 = .ok (.ifCond .lt 9, 3) := by decide +kernel
theorem dX1_add_33 : decode cX1_add 33 = .ok (.iload_n 2, 1) := by decide +kernel
theorem dX1_add_34 : decode cX1_add 34 = .ok (.bipush 9, 2) := by decide +kernel
theorem dX1_add_36 : decode cX1_add 36 = .ok (.if_icmp .le 5, 3) := by decide +kernel
theorem dX1_add_39 : decode cX1_add 39 = .ok (.iconst (-1), 1) := by decide +kernel
theorem dX1_add_40 : decode cX1_add 40 = .ok (.ireturn, 1) := by decide +kernel
theorem dX1_add_41 : decode cX1_add 41 = .ok (.aload_n 0, 1) := by decide +kernel
theorem dX1_add_42 : decode cX1_add 42 = .ok (.getfield 46, 3) := by decide +kernel
theorem dX1_add_45 : decode cX1_add 45 = .ok (.bipush 6, 2) := by decide +kernel
theorem dX1_add_47 : decode cX1_add 47 = .ok (.if_icmp .lt 6, 3) := by decide +kernel
theorem dX1_add_50 : decode cX1_add 50 = .ok (.bipush (-2), 2) := by decide +kernel
theorem dX1_add_52 : decode cX1_add 52 = .ok (.ireturn, 1) := by decide +kernel
theorem dX1_add_53 : decode cX1_add 53 = .ok (.aload_n 0, 1) := by decide +kernel
theorem dX1_add_54 : decode cX1_add 54 = .ok (.getfield 22, 3) := by decide +kernel
theorem dX1_add_57 : decode cX1_add 57 = .ok (.aload_n 0, 1) := by decide +kernel
theorem dX1_add_58 : decode cX1_add 58 = .ok (.getfield 46, 3) := by decide +kernel
theorem dX1_add_61 : decode cX1_add 61 = .ok (.iload_n 1, 1) := by decide +kernel
theorem dX1_add_62 : decode cX1_add 62 = .ok (.iastore, 1) := by decide +kernel
theorem dX1_add_63 : decode cX1_add 63 = .ok (.aload_n 0, 1) := by decide +kernel
theorem dX1_add_64 : decode cX1_add 64 = .ok (.getfield 25, 3) := by decide +kernel
theorem dX1_add_67 : decode cX1_add 67 = .ok (.aload_n 0, 1) := by decide +kernel
theorem dX1_add_68 : decode cX1_add 68 = .ok (.getfield 46, 3) := by decide +kernel
theorem dX1_add_71 : decode cX1_add 71 = .ok (.iload_n 2, 1) := by decide +kernel
theorem dX1_add_72 : decode cX1_add 72 = .ok (.iastore, 1) := by decide +kernel
theorem dX1_add_73 : decode cX1_add 73 = .ok (.aload_n 0, 1) := by decide +kernel
theorem dX1_add_74 : decode cX1_add 74 = .ok (.dup, 1) := by decide +kernel
theorem dX1_add_75 : decode cX1_add 75 = .ok (.getfield 46, 3) := by decide +kernel
theorem dX1_add_78 : decode cX1_add 78 = .ok (.iconst 1, 1) := by decide +kernel
theorem dX1_add_79 : decode cX1_add 79 = .ok (.iadd, 1) := by decide +kernel
theorem dX1_add_80 : decode cX1_add 80 = .ok (.putfield 46, 3) := by decide +kernel
theorem dX1_add_83 : decode cX1_add 83 = .ok (.aload_n 0, 1) := by decide +kernel
theorem dX1_add_84 : decode cX1_add 84 = .ok (.getfield 46, 3) := by decide +kernel
theorem dX1_add_87 : decode cX1_add 87 = .ok (.ireturn, 1) := by decide +kernel
abbrev cX1_drop : ByteArray := prog_3_method_8_code
def yX1_drop : MethodName := ⟨RX1, "drop", "()I"⟩
theorem dX1_drop_0 : decode cX1_drop 0 = .ok (.aload_n 0, 1) := by decide +kernel
theorem dX1_drop_1 : decode cX1_drop 1 = .ok (.getfield 46, 3) := by decide +kernel
theorem dX1_drop_4 : decode cX1_drop 4 = .ok (.ifCond .ne 5, 3) := by decide +kernel
theorem dX1_drop_7 : decode cX1_drop 7 = .ok (.iconst (-1), 1) := by decide +kernel
theorem dX1_drop_8 : decode cX1_drop 8 = .ok (.ireturn, 1) := by decide +kernel
theorem dX1_drop_9 : decode cX1_drop 9 = .ok (.aload_n 0, 1) := by decide +kernel
theorem dX1_drop_10 : decode cX1_drop 10 = .ok (.dup, 1) := by decide +kernel
theorem dX1_drop_11 : decode cX1_drop 11 = .ok (.getfield 46, 3) := by decide +kernel
theorem dX1_drop_14 : decode cX1_drop 14 = .ok (.iconst 1, 1) := by decide +kernel
theorem dX1_drop_15 : decode cX1_drop 15 = .ok (.isub, 1) := by decide +kernel
theorem dX1_drop_16 : decode cX1_drop 16 = .ok (.putfield 46, 3) := by decide +kernel
theorem dX1_drop_19 : decode cX1_drop 19 = .ok (.aload_n 0, 1) := by decide +kernel
theorem dX1_drop_20 : decode cX1_drop 20 = .ok (.getfield 46, 3) := by decide +kernel
theorem dX1_drop_23 : decode cX1_drop 23 = .ok (.ireturn, 1) := by decide +kernel
abbrev cX1_from : ByteArray := prog_3_method_9_code
def yX1_from : MethodName := ⟨RX1, "from", "(I)Z"⟩
theorem dX1_from_0 : decode cX1_from 0 = .ok (.iload_n 1, 1) := by decide +kernel
theorem dX1_from_1 : decode cX1_from 1 = .ok (.ifCond .lt 10, 3) := by decide +kernel
theorem dX1_from_4 : decode cX1_from 4 = .ok (.iload_n 1, 1) := by decide +kernel
theorem dX1_from_5 : decode cX1_from 5 = .ok (.sipush 255, 3) := by decide +kernel
theorem dX1_from_8 : decode cX1_from 8 = .ok (.if_icmp .le 5, 3) := by decide +kernel
theorem dX1_from_11 : decode cX1_from 11 = .ok (.iconst 0, 1) := by decide +kernel
theorem dX1_from_12 : decode cX1_from 12 = .ok (.ireturn, 1) := by decide +kernel
theorem dX1_from_13 : decode cX1_from 13 = .ok (.aload_n 0, 1) := by decide +kernel
theorem dX1_from_14 : decode cX1_from 14 = .ok (.iload_n 1, 1) := by decide +kernel
theorem dX1_from_15 : decode cX1_from 15 = .ok (.putfield 49, 3) := by decide +kernel
theorem dX1_from_18 : decode cX1_from 18 = .ok (.iconst 1, 1) := by decide +kernel
theorem dX1_from_19 : decode cX1_from 19 = .ok (.ireturn, 1) := by decide +kernel
abbrev cX1_at : ByteArray := prog_3_method_15_code
def yX1_at : MethodName := ⟨RX1, "at", "(I)I"⟩
theorem dX1_at_0 : decode cX1_at 0 = .ok (.aload_n 0, 1) := by decide +kernel
theorem dX1_at_1 : decode cX1_at 1 = .ok (.aload_n 0, 1) := by decide +kernel
theorem dX1_at_2 : decode cX1_at 2 = .ok (.getfield 46, 3) := by decide +kernel
theorem dX1_at_5 : decode cX1_at 5 = .ok (.invokevirtual 68, 3) := by decide +kernel
theorem dX1_at_8 : decode cX1_at 8 = .ok (.iconst 0, 1) := by decide +kernel
theorem dX1_at_9 : decode cX1_at 9 = .ok (.istore_n 2, 1) := by decide +kernel
theorem dX1_at_10 : decode cX1_at 10 = .ok (.iconst 0, 1) := by decide +kernel
theorem dX1_at_11 : decode cX1_at 11 = .ok (.istore_n 3, 1) := by decide +kernel
theorem dX1_at_12 : decode cX1_at 12 = .ok (.iload_n 3, 1) := by decide +kernel
theorem dX1_at_13 : decode cX1_at 13 = .ok (.bipush 8, 2) := by decide +kernel
theorem dX1_at_15 : decode cX1_at 15 = .ok (.if_icmp .ge 31, 3) := by decide +kernel
theorem dX1_at_18 : decode cX1_at 18 = .ok (.aload_n 0, 1) := by decide +kernel
theorem dX1_at_19 : decode cX1_at 19 = .ok (.iload_n 1, 1) := by decide +kernel
theorem dX1_at_20 : decode cX1_at 20 = .ok (.invokevirtual 34, 3) := by decide +kernel
theorem dX1_at_23 : decode cX1_at 23 = .ok (.ifCond .eq 23, 3) := by decide +kernel
theorem dX1_at_26 : decode cX1_at 26 = .ok (.iload_n 2, 1) := by decide +kernel
theorem dX1_at_27 : decode cX1_at 27 = .ok (.aload_n 0, 1) := by decide +kernel
theorem dX1_at_28 : decode cX1_at 28 = .ok (.getfield 28, 3) := by decide +kernel
theorem dX1_at_31 : decode cX1_at 31 = .ok (.bipush 8, 2) := by decide +kernel
theorem dX1_at_33 : decode cX1_at 33 = .ok (.iload_n 3, 1) := by decide +kernel
theorem dX1_at_34 : decode cX1_at 34 = .ok (.imul, 1) := by decide +kernel
theorem dX1_at_35 : decode cX1_at 35 = .ok (.iload_n 1, 1) := by decide +kernel
theorem dX1_at_36 : decode cX1_at 36 = .ok (.iadd, 1) := by decide +kernel
theorem dX1_at_37 : decode cX1_at 37 = .ok (.iaload, 1) := by decide +kernel
theorem dX1_at_38 : decode cX1_at 38 = .ok (.iadd, 1) := by decide +kernel
theorem dX1_at_39 : decode cX1_at 39 = .ok (.istore_n 2, 1) := by decide +kernel
theorem dX1_at_40 : decode cX1_at 40 = .ok (.iinc 3 1, 3) := by decide +kernel
theorem dX1_at_43 : decode cX1_at 43 = .ok (.goto (-31), 3) := by decide +kernel
theorem dX1_at_46 : decode cX1_at 46 = .ok (.iload_n 2, 1) := by decide +kernel
theorem dX1_at_47 : decode cX1_at 47 = .ok (.ireturn, 1) := by decide +kernel
abbrev cX1_walk : ByteArray := prog_3_method_13_code
def yX1_walk : MethodName := ⟨RX1, "walk", "(I)V"⟩
theorem dX1_walk_0 : decode cX1_walk 0 = .ok (.iconst 0, 1) := by decide +kernel
theorem dX1_walk_1 : decode cX1_walk 1 = .ok (.istore_n 2, 1) := by decide +kernel
theorem dX1_walk_2 : decode cX1_walk 2 = .ok (.iload_n 2, 1) := by decide +kernel
theorem dX1_walk_3 : decode cX1_walk 3 = .ok (.bipush 64, 2) := by decide +kernel
theorem dX1_walk_5 : decode cX1_walk 5 = .ok (.if_icmp .ge 46, 3) := by decide +kernel
theorem dX1_walk_8 : decode cX1_walk 8 = .ok (.aload_n 0, 1) := by decide +kernel
theorem dX1_walk_9 : decode cX1_walk 9 = .ok (.getfield 28, 3) := by decide +kernel
theorem dX1_walk_12 : decode cX1_walk 12 = .ok (.iload_n 2, 1) := by decide +kernel
theorem dX1_walk_13 : decode cX1_walk 13 = .ok (.iload_n 2, 1) := by decide +kernel
theorem dX1_walk_14 : decode cX1_walk 14 = .ok (.bipush 8, 2) := by decide +kernel
theorem dX1_walk_16 : decode cX1_walk 16 = .ok (.idiv, 1) := by decide +kernel
theorem dX1_walk_17 : decode cX1_walk 17 = .ok (.iload_n 2, 1) := by decide +kernel
theorem dX1_walk_18 : decode cX1_walk 18 = .ok (.bipush 8, 2) := by decide +kernel
theorem dX1_walk_20 : decode cX1_walk 20 = .ok (.irem, 1) := by decide +kernel
theorem dX1_walk_21 : decode cX1_walk 21 = .ok (.if_icmp .ne 22, 3) := by decide +kernel
theorem dX1_walk_24 : decode cX1_walk 24 = .ok (.aload_n 0, 1) := by decide +kernel
theorem dX1_walk_25 : decode cX1_walk 25 = .ok (.getfield 49, 3) := by decide +kernel
theorem dX1_walk_28 : decode cX1_walk 28 = .ok (.iload_n 2, 1) := by decide +kernel
theorem dX1_walk_29 : decode cX1_walk 29 = .ok (.bipush 8, 2) := by decide +kernel
theorem dX1_walk_31 : decode cX1_walk 31 = .ok (.idiv, 1) := by decide +kernel
theorem dX1_walk_32 : decode cX1_walk 32 = .ok (.ishr, 1) := by decide +kernel
theorem dX1_walk_33 : decode cX1_walk 33 = .ok (.iconst 1, 1) := by decide +kernel
theorem dX1_walk_34 : decode cX1_walk 34 = .ok (.iand, 1) := by decide +kernel
theorem dX1_walk_35 : decode cX1_walk 35 = .ok (.iconst 1, 1) := by decide +kernel
theorem dX1_walk_36 : decode cX1_walk 36 = .ok (.if_icmp .ne 7, 3) := by decide +kernel
theorem dX1_walk_39 : decode cX1_walk 39 = .ok (.iconst 1, 1) := by decide +kernel
theorem dX1_walk_40 : decode cX1_walk 40 = .ok (.goto 4, 3) := by decide +kernel
theorem dX1_walk_43 : decode cX1_walk 43 = .ok (.iconst 0, 1) := by decide +kernel
theorem dX1_walk_44 : decode cX1_walk 44 = .ok (.iastore, 1) := by decide +kernel
theorem dX1_walk_45 : decode cX1_walk 45 = .ok (.iinc 2 1, 3) := by decide +kernel
theorem dX1_walk_48 : decode cX1_walk 48 = .ok (.goto (-46), 3) := by decide +kernel
theorem dX1_walk_51 : decode cX1_walk 51 = .ok (.iconst 0, 1) := by decide +kernel
theorem dX1_walk_52 : decode cX1_walk 52 = .ok (.istore_n 2, 1) := by decide +kernel
theorem dX1_walk_53 : decode cX1_walk 53 = .ok (.iload_n 2, 1) := by decide +kernel
theorem dX1_walk_54 : decode cX1_walk 54 = .ok (.iload_n 1, 1) := by decide +kernel
theorem dX1_walk_55 : decode cX1_walk 55 = .ok (.if_icmp .ge 25, 3) := by decide +kernel
theorem dX1_walk_58 : decode cX1_walk 58 = .ok (.aload_n 0, 1) := by decide +kernel
theorem dX1_walk_59 : decode cX1_walk 59 = .ok (.aload_n 0, 1) := by decide +kernel
theorem dX1_walk_60 : decode cX1_walk 60 = .ok (.getfield 22, 3) := by decide +kernel
theorem dX1_walk_63 : decode cX1_walk 63 = .ok (.iload_n 2, 1) := by decide +kernel
theorem dX1_walk_64 : decode cX1_walk 64 = .ok (.iaload, 1) := by decide +kernel
theorem dX1_walk_65 : decode cX1_walk 65 = .ok (.aload_n 0, 1) := by decide +kernel
theorem dX1_walk_66 : decode cX1_walk 66 = .ok (.getfield 25, 3) := by decide +kernel
theorem dX1_walk_69 : decode cX1_walk 69 = .ok (.iload_n 2, 1) := by decide +kernel
theorem dX1_walk_70 : decode cX1_walk 70 = .ok (.iaload, 1) := by decide +kernel
theorem dX1_walk_71 : decode cX1_walk 71 = .ok (.invokevirtual 60, 3) := by decide +kernel
theorem dX1_walk_74 : decode cX1_walk 74 = .ok (.iinc 2 1, 3) := by decide +kernel
theorem dX1_walk_77 : decode cX1_walk 77 = .ok (.goto (-24), 3) := by decide +kernel
theorem dX1_walk_80 : decode cX1_walk 80 = .ok (.return_, 1) := by decide +kernel
abbrev cX1_once : ByteArray := prog_3_method_14_code
def yX1_once : MethodName := ⟨RX1, "once", "(II)V"⟩
theorem dX1_once_0 : decode cX1_once 0 = .ok (.iconst 0, 1) := by decide +kernel
theorem dX1_once_1 : decode cX1_once 1 = .ok (.istore_n 3, 1) := by decide +kernel
theorem dX1_once_2 : decode cX1_once 2 = .ok (.iload_n 3, 1) := by decide +kernel
theorem dX1_once_3 : decode cX1_once 3 = .ok (.bipush 64, 2) := by decide +kernel
theorem dX1_once_5 : decode cX1_once 5 = .ok (.if_icmp .ge 16, 3) := by decide +kernel
theorem dX1_once_8 : decode cX1_once 8 = .ok (.aload_n 0, 1) := by decide +kernel
theorem dX1_once_9 : decode cX1_once 9 = .ok (.getfield 31, 3) := by decide +kernel
theorem dX1_once_12 : decode cX1_once 12 = .ok (.iload_n 3, 1) := by decide +kernel
theorem dX1_once_13 : decode cX1_once 13 = .ok (.iconst 0, 1) := by decide +kernel
theorem dX1_once_14 : decode cX1_once 14 = .ok (.iastore, 1) := by decide +kernel
theorem dX1_once_15 : decode cX1_once 15 = .ok (.iinc 3 1, 3) := by decide +kernel
theorem dX1_once_18 : decode cX1_once 18 = .ok (.goto (-16), 3) := by decide +kernel
theorem dX1_once_21 : decode cX1_once 21 = .ok (.iconst 0, 1) := by decide +kernel
theorem dX1_once_22 : decode cX1_once 22 = .ok (.istore_n 3, 1) := by decide +kernel
theorem dX1_once_23 : decode cX1_once 23 = .ok (.iload_n 3, 1) := by decide +kernel
theorem dX1_once_24 : decode cX1_once 24 = .ok (.bipush 64, 2) := by decide +kernel
theorem dX1_once_26 : decode cX1_once 26 = .ok (.if_icmp .ge 32, 3) := by decide +kernel
theorem dX1_once_29 : decode cX1_once 29 = .ok (.aload_n 0, 1) := by decide +kernel
theorem dX1_once_30 : decode cX1_once 30 = .ok (.getfield 28, 3) := by decide +kernel
theorem dX1_once_33 : decode cX1_once 33 = .ok (.iload_n 3, 1) := by decide +kernel
theorem dX1_once_34 : decode cX1_once 34 = .ok (.iaload, 1) := by decide +kernel
theorem dX1_once_35 : decode cX1_once 35 = .ok (.ifCond .le 17, 3) := by decide +kernel
theorem dX1_once_38 : decode cX1_once 38 = .ok (.aload_n 0, 1) := by decide +kernel
theorem dX1_once_39 : decode cX1_once 39 = .ok (.iload_n 1, 1) := by decide +kernel
theorem dX1_once_40 : decode cX1_once 40 = .ok (.iload_n 2, 1) := by decide +kernel
theorem dX1_once_41 : decode cX1_once 41 = .ok (.iload_n 3, 1) := by decide +kernel
theorem dX1_once_42 : decode cX1_once 42 = .ok (.bipush 8, 2) := by decide +kernel
theorem dX1_once_44 : decode cX1_once 44 = .ok (.idiv, 1) := by decide +kernel
theorem dX1_once_45 : decode cX1_once 45 = .ok (.iload_n 3, 1) := by decide +kernel
theorem dX1_once_46 : decode cX1_once 46 = .ok (.bipush 8, 2) := by decide +kernel
theorem dX1_once_48 : decode cX1_once 48 = .ok (.irem, 1) := by decide +kernel
theorem dX1_once_49 : decode cX1_once 49 = .ok (.invokevirtual 64, 3) := by decide +kernel
theorem dX1_once_52 : decode cX1_once 52 = .ok (.iinc 3 1, 3) := by decide +kernel
theorem dX1_once_55 : decode cX1_once 55 = .ok (.goto (-32), 3) := by decide +kernel
theorem dX1_once_58 : decode cX1_once 58 = .ok (.iconst 0, 1) := by decide +kernel
theorem dX1_once_59 : decode cX1_once 59 = .ok (.istore_n 3, 1) := by decide +kernel
theorem dX1_once_60 : decode cX1_once 60 = .ok (.iload_n 3, 1) := by decide +kernel
theorem dX1_once_61 : decode cX1_once 61 = .ok (.bipush 64, 2) := by decide +kernel
theorem dX1_once_63 : decode cX1_once 63 = .ok (.if_icmp .ge 21, 3) := by decide +kernel
theorem dX1_once_66 : decode cX1_once 66 = .ok (.aload_n 0, 1) := by decide +kernel
theorem dX1_once_67 : decode cX1_once 67 = .ok (.getfield 28, 3) := by decide +kernel
theorem dX1_once_70 : decode cX1_once 70 = .ok (.iload_n 3, 1) := by decide +kernel
theorem dX1_once_71 : decode cX1_once 71 = .ok (.aload_n 0, 1) := by decide +kernel
theorem dX1_once_72 : decode cX1_once 72 = .ok (.getfield 31, 3) := by decide +kernel
theorem dX1_once_75 : decode cX1_once 75 = .ok (.iload_n 3, 1) := by decide +kernel
theorem dX1_once_76 : decode cX1_once 76 = .ok (.iaload, 1) := by decide +kernel
theorem dX1_once_77 : decode cX1_once 77 = .ok (.iastore, 1) := by decide +kernel
theorem dX1_once_78 : decode cX1_once 78 = .ok (.iinc 3 1, 3) := by decide +kernel
theorem dX1_once_81 : decode cX1_once 81 = .ok (.goto (-21), 3) := by decide +kernel
theorem dX1_once_84 : decode cX1_once 84 = .ok (.return_, 1) := by decide +kernel
abbrev cX1_step : ByteArray := prog_3_method_12_code
def yX1_step : MethodName := ⟨RX1, "step", "(IIII)V"⟩
theorem dX1_step_0 : decode cX1_step 0 = .ok (.bipush 8, 2) := by decide +kernel
theorem dX1_step_2 : decode cX1_step 2 = .ok (.iload_n 3, 1) := by decide +kernel
theorem dX1_step_3 : decode cX1_step 3 = .ok (.imul, 1) := by decide +kernel
theorem dX1_step_4 : decode cX1_step 4 = .ok (.iload 4, 2) := by decide +kernel
theorem dX1_step_6 : decode cX1_step 6 = .ok (.iadd, 1) := by decide +kernel
theorem dX1_step_7 : decode cX1_step 7 = .ok (.istore 5, 2) := by decide +kernel
theorem dX1_step_9 : decode cX1_step 9 = .ok (.iload_n 1, 1) := by decide +kernel
theorem dX1_step_10 : decode cX1_step 10 = .ok (.iconst 3, 1) := by decide +kernel
theorem dX1_step_11 : decode cX1_step 11 = .ok (.if_icmp .gt 68, 3) := by decide +kernel
theorem dX1_step_14 : decode cX1_step 14 = .ok (.aload_n 0, 1) := by decide +kernel
theorem dX1_step_15 : decode cX1_step 15 = .ok (.iload_n 3, 1) := by decide +kernel
theorem dX1_step_16 : decode cX1_step 16 = .ok (.iload 4, 2) := by decide +kernel
theorem dX1_step_18 : decode cX1_step 18 = .ok (.iload_n 2, 1) := by decide +kernel
theorem dX1_step_19 : decode cX1_step 19 = .ok (.iload_n 1, 1) := by decide +kernel
theorem dX1_step_20 : decode cX1_step 20 = .ok (.iconst 1, 1) := by decide +kernel
theorem dX1_step_21 : decode cX1_step 21 = .ok (.if_icmp .eq 7, 3) := by decide +kernel
theorem dX1_step_24 : decode cX1_step 24 = .ok (.iconst 1, 1) := by decide +kernel
theorem dX1_step_25 : decode cX1_step 25 = .ok (.goto 4, 3) := by decide +kernel
theorem dX1_step_28 : decode cX1_step 28 = .ok (.iconst 0, 1) := by decide +kernel
theorem dX1_step_29 : decode cX1_step 29 = .ok (.iload_n 1, 1) := by decide +kernel
theorem dX1_step_30 : decode cX1_step 30 = .ok (.iconst 1, 1) := by decide +kernel
theorem dX1_step_31 : decode cX1_step 31 = .ok (.if_icmp .eq 8, 3) := by decide +kernel
theorem dX1_step_34 : decode cX1_step 34 = .ok (.iload_n 1, 1) := by decide +kernel
theorem dX1_step_35 : decode cX1_step 35 = .ok (.iconst 2, 1) := by decide +kernel
theorem dX1_step_36 : decode cX1_step 36 = .ok (.if_icmp .ne 7, 3) := by decide +kernel
theorem dX1_step_39 : decode cX1_step 39 = .ok (.iconst 1, 1) := by decide +kernel
theorem dX1_step_40 : decode cX1_step 40 = .ok (.goto 4, 3) := by decide +kernel
theorem dX1_step_43 : decode cX1_step 43 = .ok (.iconst 0, 1) := by decide +kernel
theorem dX1_step_44 : decode cX1_step 44 = .ok (.invokevirtual 52, 3) := by decide +kernel
theorem dX1_step_47 : decode cX1_step 47 = .ok (.istore 6, 2) := by decide +kernel
theorem dX1_step_49 : decode cX1_step 49 = .ok (.iload_n 1, 1) := by decide +kernel
theorem dX1_step_50 : decode cX1_step 50 = .ok (.iconst 3, 1) := by decide +kernel
theorem dX1_step_51 : decode cX1_step 51 = .ok (.if_icmp .ne 25, 3) := by decide +kernel
theorem dX1_step_54 : decode cX1_step 54 = .ok (.iload 6, 2) := by decide +kernel
theorem dX1_step_56 : decode cX1_step 56 = .ok (.ifCond .ne 20, 3) := by decide +kernel
theorem dX1_step_59 : decode cX1_step 59 = .ok (.aload_n 0, 1) := by decide +kernel
theorem dX1_step_60 : decode cX1_step 60 = .ok (.getfield 31, 3) := by decide +kernel
theorem dX1_step_63 : decode cX1_step 63 = .ok (.iload 5, 2) := by decide +kernel
theorem dX1_step_65 : decode cX1_step 65 = .ok (.dup2, 1) := by decide +kernel
theorem dX1_step_66 : decode cX1_step 66 = .ok (.iaload, 1) := by decide +kernel
theorem dX1_step_67 : decode cX1_step 67 = .ok (.aload_n 0, 1) := by decide +kernel
theorem dX1_step_68 : decode cX1_step 68 = .ok (.getfield 28, 3) := by decide +kernel
theorem dX1_step_71 : decode cX1_step 71 = .ok (.iload 5, 2) := by decide +kernel
theorem dX1_step_73 : decode cX1_step 73 = .ok (.iaload, 1) := by decide +kernel
theorem dX1_step_74 : decode cX1_step 74 = .ok (.iadd, 1) := by decide +kernel
theorem dX1_step_75 : decode cX1_step 75 = .ok (.iastore, 1) := by decide +kernel
theorem dX1_step_76 : decode cX1_step 76 = .ok (.goto 97, 3) := by decide +kernel
theorem dX1_step_79 : decode cX1_step 79 = .ok (.iload_n 1, 1) := by decide +kernel
theorem dX1_step_80 : decode cX1_step 80 = .ok (.bipush 7, 2) := by decide +kernel
theorem dX1_step_82 : decode cX1_step 82 = .ok (.if_icmp .ne 38, 3) := by decide +kernel
theorem dX1_step_85 : decode cX1_step 85 = .ok (.aload_n 0, 1) := by decide +kernel
theorem dX1_step_86 : decode cX1_step 86 = .ok (.getfield 31, 3) := by decide +kernel
theorem dX1_step_89 : decode cX1_step 89 = .ok (.iload 5, 2) := by decide +kernel
theorem dX1_step_91 : decode cX1_step 91 = .ok (.aload_n 0, 1) := by decide +kernel
theorem dX1_step_92 : decode cX1_step 92 = .ok (.getfield 28, 3) := by decide +kernel
theorem dX1_step_95 : decode cX1_step 95 = .ok (.iload 5, 2) := by decide +kernel
theorem dX1_step_97 : decode cX1_step 97 = .ok (.iaload, 1) := by decide +kernel
theorem dX1_step_98 : decode cX1_step 98 = .ok (.ifCond .le 17, 3) := by decide +kernel
theorem dX1_step_101 : decode cX1_step 101 = .ok (.aload_n 0, 1) := by decide +kernel
theorem dX1_step_102 : decode cX1_step 102 = .ok (.iload_n 3, 1) := by decide +kernel
theorem dX1_step_103 : decode cX1_step 103 = .ok (.iload 4, 2) := by decide +kernel
theorem dX1_step_105 : decode cX1_step 105 = .ok (.invokevirtual 56, 3) := by decide +kernel
theorem dX1_step_108 : decode cX1_step 108 = .ok (.ifCond .ne 7, 3) := by decide +kernel
theorem dX1_step_111 : decode cX1_step 111 = .ok (.iconst 1, 1) := by decide +kernel
theorem dX1_step_112 : decode cX1_step 112 = .ok (.goto 4, 3) := by decide +kernel
theorem dX1_step_115 : decode cX1_step 115 = .ok (.iconst 0, 1) := by decide +kernel
theorem dX1_step_116 : decode cX1_step 116 = .ok (.iastore, 1) := by decide +kernel
theorem dX1_step_117 : decode cX1_step 117 = .ok (.goto 56, 3) := by decide +kernel
theorem dX1_step_120 : decode cX1_step 120 = .ok (.iload_n 1, 1) := by decide +kernel
theorem dX1_step_121 : decode cX1_step 121 = .ok (.iconst 4, 1) := by decide +kernel
theorem dX1_step_122 : decode cX1_step 122 = .ok (.if_icmp .ne 17, 3) := by decide +kernel
theorem dX1_step_125 : decode cX1_step 125 = .ok (.aload_n 0, 1) := by decide +kernel
theorem dX1_step_126 : decode cX1_step 126 = .ok (.getfield 7, 3) := by decide +kernel
theorem dX1_step_129 : decode cX1_step 129 = .ok (.iload 4, 2) := by decide +kernel
theorem dX1_step_131 : decode cX1_step 131 = .ok (.iaload, 1) := by decide +kernel
theorem dX1_step_132 : decode cX1_step 132 = .ok (.iload_n 2, 1) := by decide +kernel
theorem dX1_step_133 : decode cX1_step 133 = .ok (.if_icmp .lt 40, 3) := by decide +kernel
theorem dX1_step_136 : decode cX1_step 136 = .ok (.goto 23, 3) := by decide +kernel
theorem dX1_step_139 : decode cX1_step 139 = .ok (.iload_n 1, 1) := by decide +kernel
theorem dX1_step_140 : decode cX1_step 140 = .ok (.iconst 5, 1) := by decide +kernel
theorem dX1_step_141 : decode cX1_step 141 = .ok (.if_icmp .ne 12, 3) := by decide +kernel
theorem dX1_step_144 : decode cX1_step 144 = .ok (.iload_n 3, 1) := by decide +kernel
theorem dX1_step_145 : decode cX1_step 145 = .ok (.iload 4, 2) := by decide +kernel
theorem dX1_step_147 : decode cX1_step 147 = .ok (.if_icmp .eq 26, 3) := by decide +kernel
theorem dX1_step_150 : decode cX1_step 150 = .ok (.goto 9, 3) := by decide +kernel
theorem dX1_step_153 : decode cX1_step 153 = .ok (.iload_n 3, 1) := by decide +kernel
theorem dX1_step_154 : decode cX1_step 154 = .ok (.iload 4, 2) := by decide +kernel
theorem dX1_step_156 : decode cX1_step 156 = .ok (.if_icmp .ne 17, 3) := by decide +kernel
theorem dX1_step_159 : decode cX1_step 159 = .ok (.aload_n 0, 1) := by decide +kernel
theorem dX1_step_160 : decode cX1_step 160 = .ok (.getfield 31, 3) := by decide +kernel
theorem dX1_step_163 : decode cX1_step 163 = .ok (.iload 5, 2) := by decide +kernel
theorem dX1_step_165 : decode cX1_step 165 = .ok (.aload_n 0, 1) := by decide +kernel
theorem dX1_step_166 : decode cX1_step 166 = .ok (.getfield 28, 3) := by decide +kernel
theorem dX1_step_169 : decode cX1_step 169 = .ok (.iload 5, 2) := by decide +kernel
theorem dX1_step_171 : decode cX1_step 171 = .ok (.iaload, 1) := by decide +kernel
theorem dX1_step_172 : decode cX1_step 172 = .ok (.iastore, 1) := by decide +kernel
theorem dX1_step_173 : decode cX1_step 173 = .ok (.return_, 1) := by decide +kernel
abbrev cX1_send : ByteArray := prog_3_method_10_code
def yX1_send : MethodName := ⟨RX1, "send", "(IIIZZ)I"⟩
theorem dX1_send_0 : decode cX1_send 0 = .ok (.iconst 0, 1) := by decide +kernel
theorem dX1_send_1 : decode cX1_send 1 = .ok (.istore 6, 2) := by decide +kernel
theorem dX1_send_3 : decode cX1_send 3 = .ok (.iconst 0, 1) := by decide +kernel
theorem dX1_send_4 : decode cX1_send 4 = .ok (.istore 7, 2) := by decide +kernel
theorem dX1_send_6 : decode cX1_send 6 = .ok (.iload 7, 2) := by decide +kernel
theorem dX1_send_8 : decode cX1_send 8 = .ok (.aload_n 0, 1) := by decide +kernel
theorem dX1_send_9 : decode cX1_send 9 = .ok (.getfield 38, 3) := by decide +kernel
theorem dX1_send_12 : decode cX1_send 12 = .ok (.if_icmp .ge 142, 3) := by decide +kernel
theorem dX1_send_15 : decode cX1_send 15 = .ok (.iload_n 3, 1) := by decide +kernel
theorem dX1_send_16 : decode cX1_send 16 = .ok (.iconst 2, 1) := by decide +kernel
theorem dX1_send_17 : decode cX1_send 17 = .ok (.if_icmp .eq 14, 3) := by decide +kernel
theorem dX1_send_20 : decode cX1_send 20 = .ok (.aload_n 0, 1) := by decide +kernel
theorem dX1_send_21 : decode cX1_send 21 = .ok (.getfield 19, 3) := by decide +kernel
theorem dX1_send_24 : decode cX1_send 24 = .ok (.iload 7, 2) := by decide +kernel
theorem dX1_send_26 : decode cX1_send 26 = .ok (.iaload, 1) := by decide +kernel
theorem dX1_send_27 : decode cX1_send 27 = .ok (.iload_n 3, 1) := by decide +kernel
theorem dX1_send_28 : decode cX1_send 28 = .ok (.if_icmp .ne 7, 3) := by decide +kernel
theorem dX1_send_31 : decode cX1_send 31 = .ok (.iconst 1, 1) := by decide +kernel
theorem dX1_send_32 : decode cX1_send 32 = .ok (.goto 4, 3) := by decide +kernel
theorem dX1_send_35 : decode cX1_send 35 = .ok (.iconst 0, 1) := by decide +kernel
theorem dX1_send_36 : decode cX1_send 36 = .ok (.istore 8, 2) := by decide +kernel
theorem dX1_send_38 : decode cX1_send 38 = .ok (.iload 8, 2) := by decide +kernel
theorem dX1_send_40 : decode cX1_send 40 = .ok (.ifCond .eq 53, 3) := by decide +kernel
theorem dX1_send_43 : decode cX1_send 43 = .ok (.iload 4, 2) := by decide +kernel
theorem dX1_send_45 : decode cX1_send 45 = .ok (.ifCond .eq 48, 3) := by decide +kernel
theorem dX1_send_48 : decode cX1_send 48 = .ok (.aload_n 0, 1) := by decide +kernel
theorem dX1_send_49 : decode cX1_send 49 = .ok (.getfield 13, 3) := by decide +kernel
theorem dX1_send_52 : decode cX1_send 52 = .ok (.iload 7, 2) := by decide +kernel
theorem dX1_send_54 : decode cX1_send 54 = .ok (.iaload, 1) := by decide +kernel
theorem dX1_send_55 : decode cX1_send 55 = .ok (.iload_n 2, 1) := by decide +kernel
theorem dX1_send_56 : decode cX1_send 56 = .ok (.if_icmp .ne 37, 3) := by decide +kernel
theorem dX1_send_59 : decode cX1_send 59 = .ok (.aload_n 0, 1) := by decide +kernel
theorem dX1_send_60 : decode cX1_send 60 = .ok (.getfield 31, 3) := by decide +kernel
theorem dX1_send_63 : decode cX1_send 63 = .ok (.bipush 8, 2) := by decide +kernel
theorem dX1_send_65 : decode cX1_send 65 = .ok (.iload_n 1, 1) := by decide +kernel
theorem dX1_send_66 : decode cX1_send 66 = .ok (.imul, 1) := by decide +kernel
theorem dX1_send_67 : decode cX1_send 67 = .ok (.aload_n 0, 1) := by decide +kernel
theorem dX1_send_68 : decode cX1_send 68 = .ok (.getfield 16, 3) := by decide +kernel
theorem dX1_send_71 : decode cX1_send 71 = .ok (.iload 7, 2) := by decide +kernel
theorem dX1_send_73 : decode cX1_send 73 = .ok (.iaload, 1) := by decide +kernel
theorem dX1_send_74 : decode cX1_send 74 = .ok (.iadd, 1) := by decide +kernel
theorem dX1_send_75 : decode cX1_send 75 = .ok (.dup2, 1) := by decide +kernel
theorem dX1_send_76 : decode cX1_send 76 = .ok (.iaload, 1) := by decide +kernel
theorem dX1_send_77 : decode cX1_send 77 = .ok (.aload_n 0, 1) := by decide +kernel
theorem dX1_send_78 : decode cX1_send 78 = .ok (.getfield 28, 3) := by decide +kernel
theorem dX1_send_81 : decode cX1_send 81 = .ok (.bipush 8, 2) := by decide +kernel
theorem dX1_send_83 : decode cX1_send 83 = .ok (.iload_n 1, 1) := by decide +kernel
theorem dX1_send_84 : decode cX1_send 84 = .ok (.imul, 1) := by decide +kernel
theorem dX1_send_85 : decode cX1_send 85 = .ok (.iload_n 2, 1) := by decide +kernel
theorem dX1_send_86 : decode cX1_send 86 = .ok (.iadd, 1) := by decide +kernel
theorem dX1_send_87 : decode cX1_send 87 = .ok (.iaload, 1) := by decide +kernel
theorem dX1_send_88 : decode cX1_send 88 = .ok (.iadd, 1) := by decide +kernel
theorem dX1_send_89 : decode cX1_send 89 = .ok (.iastore, 1) := by decide +kernel
theorem dX1_send_90 : decode cX1_send 90 = .ok (.iinc 6 1, 3) := by decide +kernel
theorem dX1_send_93 : decode cX1_send 93 = .ok (.iload 8, 2) := by decide +kernel
theorem dX1_send_95 : decode cX1_send 95 = .ok (.ifCond .eq 53, 3) := by decide +kernel
theorem dX1_send_98 : decode cX1_send 98 = .ok (.iload 5, 2) := by decide +kernel
theorem dX1_send_100 : decode cX1_send 100 = .ok (.ifCond .eq 48, 3) := by decide +kernel
theorem dX1_send_103 : decode cX1_send 103 = .ok (.aload_n 0, 1) := by decide +kernel
theorem dX1_send_104 : decode cX1_send 104 = .ok (.getfield 16, 3) := by decide +kernel
theorem dX1_send_107 : decode cX1_send 107 = .ok (.iload 7, 2) := by decide +kernel
theorem dX1_send_109 : decode cX1_send 109 = .ok (.iaload, 1) := by decide +kernel
theorem dX1_send_110 : decode cX1_send 110 = .ok (.iload_n 2, 1) := by decide +kernel
theorem dX1_send_111 : decode cX1_send 111 = .ok (.if_icmp .ne 37, 3) := by decide +kernel
theorem dX1_send_114 : decode cX1_send 114 = .ok (.aload_n 0, 1) := by decide +kernel
theorem dX1_send_115 : decode cX1_send 115 = .ok (.getfield 31, 3) := by decide +kernel
theorem dX1_send_118 : decode cX1_send 118 = .ok (.bipush 8, 2) := by decide +kernel
theorem dX1_send_120 : decode cX1_send 120 = .ok (.iload_n 1, 1) := by decide +kernel
theorem dX1_send_121 : decode cX1_send 121 = .ok (.imul, 1) := by decide +kernel
theorem dX1_send_122 : decode cX1_send 122 = .ok (.aload_n 0, 1) := by decide +kernel
theorem dX1_send_123 : decode cX1_send 123 = .ok (.getfield 13, 3) := by decide +kernel
theorem dX1_send_126 : decode cX1_send 126 = .ok (.iload 7, 2) := by decide +kernel
theorem dX1_send_128 : decode cX1_send 128 = .ok (.iaload, 1) := by decide +kernel
theorem dX1_send_129 : decode cX1_send 129 = .ok (.iadd, 1) := by decide +kernel
theorem dX1_send_130 : decode cX1_send 130 = .ok (.dup2, 1) := by decide +kernel
theorem dX1_send_131 : decode cX1_send 131 = .ok (.iaload, 1) := by decide +kernel
theorem dX1_send_132 : decode cX1_send 132 = .ok (.aload_n 0, 1) := by decide +kernel
theorem dX1_send_133 : decode cX1_send 133 = .ok (.getfield 28, 3) := by decide +kernel
theorem dX1_send_136 : decode cX1_send 136 = .ok (.bipush 8, 2) := by decide +kernel
theorem dX1_send_138 : decode cX1_send 138 = .ok (.iload_n 1, 1) := by decide +kernel
theorem dX1_send_139 : decode cX1_send 139 = .ok (.imul, 1) := by decide +kernel
theorem dX1_send_140 : decode cX1_send 140 = .ok (.iload_n 2, 1) := by decide +kernel
theorem dX1_send_141 : decode cX1_send 141 = .ok (.iadd, 1) := by decide +kernel
theorem dX1_send_142 : decode cX1_send 142 = .ok (.iaload, 1) := by decide +kernel
theorem dX1_send_143 : decode cX1_send 143 = .ok (.iadd, 1) := by decide +kernel
theorem dX1_send_144 : decode cX1_send 144 = .ok (.iastore, 1) := by decide +kernel
theorem dX1_send_145 : decode cX1_send 145 = .ok (.iinc 6 1, 3) := by decide +kernel
theorem dX1_send_148 : decode cX1_send 148 = .ok (.iinc 7 1, 3) := by decide +kernel
theorem dX1_send_151 : decode cX1_send 151 = .ok (.goto (-145), 3) := by decide +kernel
theorem dX1_send_154 : decode cX1_send 154 = .ok (.iload 6, 2) := by decide +kernel
theorem dX1_send_156 : decode cX1_send 156 = .ok (.ireturn, 1) := by decide +kernel
abbrev cX1_lesser : ByteArray := prog_3_method_11_code
def yX1_lesser : MethodName := ⟨RX1, "lesser", "(II)Z"⟩
theorem dX1_lesser_0 : decode cX1_lesser 0 = .ok (.iconst 0, 1) := by decide +kernel
theorem dX1_lesser_1 : decode cX1_lesser 1 = .ok (.istore_n 3, 1) := by decide +kernel
theorem dX1_lesser_2 : decode cX1_lesser 2 = .ok (.iconst 0, 1) := by decide +kernel
theorem dX1_lesser_3 : decode cX1_lesser 3 = .ok (.istore 4, 2) := by decide +kernel
theorem dX1_lesser_5 : decode cX1_lesser 5 = .ok (.iload 4, 2) := by decide +kernel
theorem dX1_lesser_7 : decode cX1_lesser 7 = .ok (.iload_n 1, 1) := by decide +kernel
theorem dX1_lesser_8 : decode cX1_lesser 8 = .ok (.if_icmp .ge 34, 3) := by decide +kernel
theorem dX1_lesser_11 : decode cX1_lesser 11 = .ok (.iload_n 3, 1) := by decide +kernel
theorem dX1_lesser_12 : decode cX1_lesser 12 = .ok (.ifCond .ne 18, 3) := by decide +kernel
theorem dX1_lesser_15 : decode cX1_lesser 15 = .ok (.aload_n 0, 1) := by decide +kernel
theorem dX1_lesser_16 : decode cX1_lesser 16 = .ok (.getfield 28, 3) := by decide +kernel
theorem dX1_lesser_19 : decode cX1_lesser 19 = .ok (.bipush 8, 2) := by decide +kernel
theorem dX1_lesser_21 : decode cX1_lesser 21 = .ok (.iload 4, 2) := by decide +kernel
theorem dX1_lesser_23 : decode cX1_lesser 23 = .ok (.imul, 1) := by decide +kernel
theorem dX1_lesser_24 : decode cX1_lesser 24 = .ok (.iload_n 2, 1) := by decide +kernel
theorem dX1_lesser_25 : decode cX1_lesser 25 = .ok (.iadd, 1) := by decide +kernel
theorem dX1_lesser_26 : decode cX1_lesser 26 = .ok (.iaload, 1) := by decide +kernel
theorem dX1_lesser_27 : decode cX1_lesser 27 = .ok (.ifCond .le 7, 3) := by decide +kernel
theorem dX1_lesser_30 : decode cX1_lesser 30 = .ok (.iconst 1, 1) := by decide +kernel
theorem dX1_lesser_31 : decode cX1_lesser 31 = .ok (.goto 4, 3) := by decide +kernel
theorem dX1_lesser_34 : decode cX1_lesser 34 = .ok (.iconst 0, 1) := by decide +kernel
theorem dX1_lesser_35 : decode cX1_lesser 35 = .ok (.istore_n 3, 1) := by decide +kernel
theorem dX1_lesser_36 : decode cX1_lesser 36 = .ok (.iinc 4 1, 3) := by decide +kernel
theorem dX1_lesser_39 : decode cX1_lesser 39 = .ok (.goto (-34), 3) := by decide +kernel
theorem dX1_lesser_42 : decode cX1_lesser 42 = .ok (.iload_n 3, 1) := by decide +kernel
theorem dX1_lesser_43 : decode cX1_lesser 43 = .ok (.ireturn, 1) := by decide +kernel
abbrev cX1_walkers : ByteArray := prog_3_method_16_code
def yX1_walkers : MethodName := ⟨RX1, "walkers", "()I"⟩
theorem dX1_walkers_0 : decode cX1_walkers 0 = .ok (.aload_n 0, 1) := by decide +kernel
theorem dX1_walkers_1 : decode cX1_walkers 1 = .ok (.aload_n 0, 1) := by decide +kernel
theorem dX1_walkers_2 : decode cX1_walkers 2 = .ok (.getfield 46, 3) := by decide +kernel
theorem dX1_walkers_5 : decode cX1_walkers 5 = .ok (.invokevirtual 72, 3) := by decide +kernel
theorem dX1_walkers_8 : decode cX1_walkers 8 = .ok (.ireturn, 1) := by decide +kernel
abbrev cX1_after : ByteArray := prog_3_method_17_code
def yX1_after : MethodName := ⟨RX1, "after", "(I)I"⟩
theorem dX1_after_0 : decode cX1_after 0 = .ok (.iload_n 1, 1) := by decide +kernel
theorem dX1_after_1 : decode cX1_after 1 = .ok (.ifCond .lt 11, 3) := by decide +kernel
theorem dX1_after_4 : decode cX1_after 4 = .ok (.iload_n 1, 1) := by decide +kernel
theorem dX1_after_5 : decode cX1_after 5 = .ok (.aload_n 0, 1) := by decide +kernel
theorem dX1_after_6 : decode cX1_after 6 = .ok (.getfield 46, 3) := by decide +kernel
theorem dX1_after_9 : decode cX1_after 9 = .ok (.if_icmp .le 5, 3) := by decide +kernel
theorem dX1_after_12 : decode cX1_after 12 = .ok (.iconst (-1), 1) := by decide +kernel
theorem dX1_after_13 : decode cX1_after 13 = .ok (.ireturn, 1) := by decide +kernel
theorem dX1_after_14 : decode cX1_after 14 = .ok (.aload_n 0, 1) := by decide +kernel
theorem dX1_after_15 : decode cX1_after 15 = .ok (.iload_n 1, 1) := by decide +kernel
theorem dX1_after_16 : decode cX1_after 16 = .ok (.invokevirtual 68, 3) := by decide +kernel
theorem dX1_after_19 : decode cX1_after 19 = .ok (.iconst 0, 1) := by decide +kernel
theorem dX1_after_20 : decode cX1_after 20 = .ok (.istore_n 2, 1) := by decide +kernel
theorem dX1_after_21 : decode cX1_after 21 = .ok (.iconst 0, 1) := by decide +kernel
theorem dX1_after_22 : decode cX1_after 22 = .ok (.istore_n 3, 1) := by decide +kernel
theorem dX1_after_23 : decode cX1_after 23 = .ok (.iload_n 3, 1) := by decide +kernel
theorem dX1_after_24 : decode cX1_after 24 = .ok (.bipush 64, 2) := by decide +kernel
theorem dX1_after_26 : decode cX1_after 26 = .ok (.if_icmp .ge 18, 3) := by decide +kernel
theorem dX1_after_29 : decode cX1_after 29 = .ok (.iload_n 2, 1) := by decide +kernel
theorem dX1_after_30 : decode cX1_after 30 = .ok (.aload_n 0, 1) := by decide +kernel
theorem dX1_after_31 : decode cX1_after 31 = .ok (.getfield 28, 3) := by decide +kernel
theorem dX1_after_34 : decode cX1_after 34 = .ok (.iload_n 3, 1) := by decide +kernel
theorem dX1_after_35 : decode cX1_after 35 = .ok (.iaload, 1) := by decide +kernel
theorem dX1_after_36 : decode cX1_after 36 = .ok (.iadd, 1) := by decide +kernel
theorem dX1_after_37 : decode cX1_after 37 = .ok (.istore_n 2, 1) := by decide +kernel
theorem dX1_after_38 : decode cX1_after 38 = .ok (.iinc 3 1, 3) := by decide +kernel
theorem dX1_after_41 : decode cX1_after 41 = .ok (.goto (-18), 3) := by decide +kernel
theorem dX1_after_44 : decode cX1_after 44 = .ok (.iload_n 2, 1) := by decide +kernel
theorem dX1_after_45 : decode cX1_after 45 = .ok (.ireturn, 1) := by decide +kernel
abbrev cX1_between : ByteArray := prog_3_method_18_code
def yX1_between : MethodName := ⟨RX1, "between", "(II)I"⟩
theorem dX1_between_0 : decode cX1_between 0 = .ok (.aload_n 0, 1) := by decide +kernel
theorem dX1_between_1 : decode cX1_between 1 = .ok (.aload_n 0, 1) := by decide +kernel
theorem dX1_between_2 : decode cX1_between 2 = .ok (.getfield 46, 3) := by decide +kernel
theorem dX1_between_5 : decode cX1_between 5 = .ok (.invokevirtual 68, 3) := by decide +kernel
theorem dX1_between_8 : decode cX1_between 8 = .ok (.aload_n 0, 1) := by decide +kernel
theorem dX1_between_9 : decode cX1_between 9 = .ok (.iload_n 1, 1) := by decide +kernel
theorem dX1_between_10 : decode cX1_between 10 = .ok (.invokevirtual 34, 3) := by decide +kernel
theorem dX1_between_13 : decode cX1_between 13 = .ok (.ifCond .eq 25, 3) := by decide +kernel
theorem dX1_between_16 : decode cX1_between 16 = .ok (.aload_n 0, 1) := by decide +kernel
theorem dX1_between_17 : decode cX1_between 17 = .ok (.iload_n 2, 1) := by decide +kernel
theorem dX1_between_18 : decode cX1_between 18 = .ok (.invokevirtual 34, 3) := by decide +kernel
theorem dX1_between_21 : decode cX1_between 21 = .ok (.ifCond .eq 17, 3) := by decide +kernel
theorem dX1_between_24 : decode cX1_between 24 = .ok (.aload_n 0, 1) := by decide +kernel
theorem dX1_between_25 : decode cX1_between 25 = .ok (.getfield 28, 3) := by decide +kernel
theorem dX1_between_28 : decode cX1_between 28 = .ok (.bipush 8, 2) := by decide +kernel
theorem dX1_between_30 : decode cX1_between 30 = .ok (.iload_n 1, 1) := by decide +kernel
theorem dX1_between_31 : decode cX1_between 31 = .ok (.imul, 1) := by decide +kernel
theorem dX1_between_32 : decode cX1_between 32 = .ok (.iload_n 2, 1) := by decide +kernel
theorem dX1_between_33 : decode cX1_between 33 = .ok (.iadd, 1) := by decide +kernel
theorem dX1_between_34 : decode cX1_between 34 = .ok (.iaload, 1) := by decide +kernel
theorem dX1_between_35 : decode cX1_between 35 = .ok (.goto 4, 3) := by decide +kernel
theorem dX1_between_38 : decode cX1_between 38 = .ok (.iconst 0, 1) := by decide +kernel
theorem dX1_between_39 : decode cX1_between 39 = .ok (.ireturn, 1) := by decide +kernel
abbrev cX1_reached : ByteArray := prog_3_method_19_code
def yX1_reached : MethodName := ⟨RX1, "reached", "()I"⟩
theorem dX1_reached_0 : decode cX1_reached 0 = .ok (.aload_n 0, 1) := by decide +kernel
theorem dX1_reached_1 : decode cX1_reached 1 = .ok (.aload_n 0, 1) := by decide +kernel
theorem dX1_reached_2 : decode cX1_reached 2 = .ok (.getfield 46, 3) := by decide +kernel
theorem dX1_reached_5 : decode cX1_reached 5 = .ok (.invokevirtual 68, 3) := by decide +kernel
theorem dX1_reached_8 : decode cX1_reached 8 = .ok (.iconst 0, 1) := by decide +kernel
theorem dX1_reached_9 : decode cX1_reached 9 = .ok (.istore_n 1, 1) := by decide +kernel
theorem dX1_reached_10 : decode cX1_reached 10 = .ok (.iconst 0, 1) := by decide +kernel
theorem dX1_reached_11 : decode cX1_reached 11 = .ok (.istore_n 2, 1) := by decide +kernel
theorem dX1_reached_12 : decode cX1_reached 12 = .ok (.iload_n 2, 1) := by decide +kernel
theorem dX1_reached_13 : decode cX1_reached 13 = .ok (.bipush 64, 2) := by decide +kernel
theorem dX1_reached_15 : decode cX1_reached 15 = .ok (.if_icmp .ge 31, 3) := by decide +kernel
theorem dX1_reached_18 : decode cX1_reached 18 = .ok (.aload_n 0, 1) := by decide +kernel
theorem dX1_reached_19 : decode cX1_reached 19 = .ok (.getfield 28, 3) := by decide +kernel
theorem dX1_reached_22 : decode cX1_reached 22 = .ok (.iload_n 2, 1) := by decide +kernel
theorem dX1_reached_23 : decode cX1_reached 23 = .ok (.iaload, 1) := by decide +kernel
theorem dX1_reached_24 : decode cX1_reached 24 = .ok (.ifCond .le 14, 3) := by decide +kernel
theorem dX1_reached_27 : decode cX1_reached 27 = .ok (.iload_n 1, 1) := by decide +kernel
theorem dX1_reached_28 : decode cX1_reached 28 = .ok (.iconst 1, 1) := by decide +kernel
theorem dX1_reached_29 : decode cX1_reached 29 = .ok (.iload_n 2, 1) := by decide +kernel
theorem dX1_reached_30 : decode cX1_reached 30 = .ok (.bipush 8, 2) := by decide +kernel
theorem dX1_reached_32 : decode cX1_reached 32 = .ok (.irem, 1) := by decide +kernel
theorem dX1_reached_33 : decode cX1_reached 33 = .ok (.ishl, 1) := by decide +kernel
theorem dX1_reached_34 : decode cX1_reached 34 = .ok (.ior, 1) := by decide +kernel
theorem dX1_reached_35 : decode cX1_reached 35 = .ok (.goto 4, 3) := by decide +kernel
theorem dX1_reached_38 : decode cX1_reached 38 = .ok (.iload_n 1, 1) := by decide +kernel
theorem dX1_reached_39 : decode cX1_reached 39 = .ok (.istore_n 1, 1) := by decide +kernel
theorem dX1_reached_40 : decode cX1_reached 40 = .ok (.iinc 2 1, 3) := by decide +kernel
theorem dX1_reached_43 : decode cX1_reached 43 = .ok (.goto (-31), 3) := by decide +kernel
theorem dX1_reached_46 : decode cX1_reached 46 = .ok (.iload_n 1, 1) := by decide +kernel
theorem dX1_reached_47 : decode cX1_reached 47 = .ok (.ireturn, 1) := by decide +kernel
abbrev cX1_startsAt : ByteArray := prog_3_method_20_code
def yX1_startsAt : MethodName := ⟨RX1, "startsAt", "(I)I"⟩
theorem dX1_startsAt_0 : decode cX1_startsAt 0 = .ok (.aload_n 0, 1) := by decide +kernel
theorem dX1_startsAt_1 : decode cX1_startsAt 1 = .ok (.aload_n 0, 1) := by decide +kernel
theorem dX1_startsAt_2 : decode cX1_startsAt 2 = .ok (.getfield 46, 3) := by decide +kernel
theorem dX1_startsAt_5 : decode cX1_startsAt 5 = .ok (.invokevirtual 68, 3) := by decide +kernel
theorem dX1_startsAt_8 : decode cX1_startsAt 8 = .ok (.iconst 0, 1) := by decide +kernel
theorem dX1_startsAt_9 : decode cX1_startsAt 9 = .ok (.istore_n 2, 1) := by decide +kernel
theorem dX1_startsAt_10 : decode cX1_startsAt 10 = .ok (.iconst 0, 1) := by decide +kernel
theorem dX1_startsAt_11 : decode cX1_startsAt 11 = .ok (.istore_n 3, 1) := by decide +kernel
theorem dX1_startsAt_12 : decode cX1_startsAt 12 = .ok (.iload_n 3, 1) := by decide +kernel
theorem dX1_startsAt_13 : decode cX1_startsAt 13 = .ok (.bipush 8, 2) := by decide +kernel
theorem dX1_startsAt_15 : decode cX1_startsAt 15 = .ok (.if_icmp .ge 41, 3) := by decide +kernel
theorem dX1_startsAt_18 : decode cX1_startsAt 18 = .ok (.aload_n 0, 1) := by decide +kernel
theorem dX1_startsAt_19 : decode cX1_startsAt 19 = .ok (.iload_n 1, 1) := by decide +kernel
theorem dX1_startsAt_20 : decode cX1_startsAt 20 = .ok (.invokevirtual 34, 3) := by decide +kernel
theorem dX1_startsAt_23 : decode cX1_startsAt 23 = .ok (.ifCond .eq 33, 3) := by decide +kernel
theorem dX1_startsAt_26 : decode cX1_startsAt 26 = .ok (.aload_n 0, 1) := by decide +kernel
theorem dX1_startsAt_27 : decode cX1_startsAt 27 = .ok (.getfield 28, 3) := by decide +kernel
theorem dX1_startsAt_30 : decode cX1_startsAt 30 = .ok (.bipush 8, 2) := by decide +kernel
theorem dX1_startsAt_32 : decode cX1_startsAt 32 = .ok (.iload_n 3, 1) := by decide +kernel
theorem dX1_startsAt_33 : decode cX1_startsAt 33 = .ok (.imul, 1) := by decide +kernel
theorem dX1_startsAt_34 : decode cX1_startsAt 34 = .ok (.iload_n 1, 1) := by decide +kernel
theorem dX1_startsAt_35 : decode cX1_startsAt 35 = .ok (.iadd, 1) := by decide +kernel
theorem dX1_startsAt_36 : decode cX1_startsAt 36 = .ok (.iaload, 1) := by decide +kernel
theorem dX1_startsAt_37 : decode cX1_startsAt 37 = .ok (.ifCond .le 11, 3) := by decide +kernel
theorem dX1_startsAt_40 : decode cX1_startsAt 40 = .ok (.iload_n 2, 1) := by decide +kernel
theorem dX1_startsAt_41 : decode cX1_startsAt 41 = .ok (.iconst 1, 1) := by decide +kernel
theorem dX1_startsAt_42 : decode cX1_startsAt 42 = .ok (.iload_n 3, 1) := by decide +kernel
theorem dX1_startsAt_43 : decode cX1_startsAt 43 = .ok (.ishl, 1) := by decide +kernel
theorem dX1_startsAt_44 : decode cX1_startsAt 44 = .ok (.ior, 1) := by decide +kernel
theorem dX1_startsAt_45 : decode cX1_startsAt 45 = .ok (.goto 4, 3) := by decide +kernel
theorem dX1_startsAt_48 : decode cX1_startsAt 48 = .ok (.iload_n 2, 1) := by decide +kernel
theorem dX1_startsAt_49 : decode cX1_startsAt 49 = .ok (.istore_n 2, 1) := by decide +kernel
theorem dX1_startsAt_50 : decode cX1_startsAt 50 = .ok (.iinc 3 1, 3) := by decide +kernel
theorem dX1_startsAt_53 : decode cX1_startsAt 53 = .ok (.goto (-41), 3) := by decide +kernel
theorem dX1_startsAt_56 : decode cX1_startsAt 56 = .ok (.iload_n 2, 1) := by decide +kernel
theorem dX1_startsAt_57 : decode cX1_startsAt 57 = .ok (.ireturn, 1) := by decide +kernel
abbrev cX1_diesAfter : ByteArray := prog_3_method_21_code
def yX1_diesAfter : MethodName := ⟨RX1, "diesAfter", "()I"⟩
theorem dX1_diesAfter_0 : decode cX1_diesAfter 0 = .ok (.iconst 0, 1) := by decide +kernel
theorem dX1_diesAfter_1 : decode cX1_diesAfter 1 = .ok (.istore_n 1, 1) := by decide +kernel
theorem dX1_diesAfter_2 : decode cX1_diesAfter 2 = .ok (.iload_n 1, 1) := by decide +kernel
theorem dX1_diesAfter_3 : decode cX1_diesAfter 3 = .ok (.aload_n 0, 1) := by decide +kernel
theorem dX1_diesAfter_4 : decode cX1_diesAfter 4 = .ok (.getfield 46, 3) := by decide +kernel
theorem dX1_diesAfter_7 : decode cX1_diesAfter 7 = .ok (.if_icmp .gt 19, 3) := by decide +kernel
theorem dX1_diesAfter_10 : decode cX1_diesAfter 10 = .ok (.aload_n 0, 1) := by decide +kernel
theorem dX1_diesAfter_11 : decode cX1_diesAfter 11 = .ok (.iload_n 1, 1) := by decide +kernel
theorem dX1_diesAfter_12 : decode cX1_diesAfter 12 = .ok (.invokevirtual 72, 3) := by decide +kernel
theorem dX1_diesAfter_15 : decode cX1_diesAfter 15 = .ok (.ifCond .ne 5, 3) := by decide +kernel
theorem dX1_diesAfter_18 : decode cX1_diesAfter 18 = .ok (.iload_n 1, 1) := by decide +kernel
theorem dX1_diesAfter_19 : decode cX1_diesAfter 19 = .ok (.ireturn, 1) := by decide +kernel
theorem dX1_diesAfter_20 : decode cX1_diesAfter 20 = .ok (.iinc 1 1, 3) := by decide +kernel
theorem dX1_diesAfter_23 : decode cX1_diesAfter 23 = .ok (.goto (-21), 3) := by decide +kernel
theorem dX1_diesAfter_26 : decode cX1_diesAfter 26 = .ok (.iconst (-1), 1) := by decide +kernel
theorem dX1_diesAfter_27 : decode cX1_diesAfter 27 = .ok (.ireturn, 1) := by decide +kernel
abbrev cX1_edges : ByteArray := prog_3_method_22_code
def yX1_edges : MethodName := ⟨RX1, "edges", "()I"⟩
theorem dX1_edges_0 : decode cX1_edges 0 = .ok (.aload_n 0, 1) := by decide +kernel
theorem dX1_edges_1 : decode cX1_edges 1 = .ok (.getfield 38, 3) := by decide +kernel
theorem dX1_edges_4 : decode cX1_edges 4 = .ok (.ireturn, 1) := by decide +kernel
theorem q19 : (Jvm.Cond.initialized "WalkerPlanModel") ∈ lw_all := lw_g (lw_at lw_m1 2 rfl) rfl
theorem q173 : (Jvm.Cond.instantiable "WalkerPlanModel" (11 : Nat)) ∈ lw_all := lw_g (lw_at lw_m1 156 rfl) rfl
theorem q175 : (Jvm.Cond.instanceMethod ({ cls := "WalkerPlanModel", name := "<init>", desc := "()V" } : Jvm.MethodName)) ∈ lw_all := lw_g (lw_at lw_m1 158 rfl) rfl
theorem q176 : (Jvm.Cond.code ({ cls := "WalkerPlanModel", name := "<init>", desc := "()V" } : Jvm.MethodName) prog_3_method_1_code (1 : Nat) (Option.none : Option Jvm.ClassFile.FieldType)) ∈ lw_all := lw_g (lw_at lw_m1 159 rfl) rfl
theorem q177 : (Jvm.Cond.methodLink "WalkerPlanModel" (1 : Nat) ({ cls := "java/lang/Object", name := "<init>", desc := "()V" } : Jvm.MethodName)) ∈ lw_all := lw_g (lw_at lw_m1 160 rfl) rfl
theorem q178 : (Jvm.Cond.fieldLink "WalkerPlanModel" (7 : Nat) "WalkerPlanModel" "marks" "[I") ∈ lw_all := lw_g (lw_at lw_m1 161 rfl) rfl
theorem q179 : (Jvm.Cond.fieldLink "WalkerPlanModel" (38 : Nat) "WalkerPlanModel" "size" "I") ∈ lw_all := lw_g (lw_at lw_m1 162 rfl) rfl
theorem q180 : (Jvm.Cond.fieldLink "WalkerPlanModel" (13 : Nat) "WalkerPlanModel" "begin" "[I") ∈ lw_all := lw_g (lw_at lw_m1 163 rfl) rfl
theorem q181 : (Jvm.Cond.fieldLink "WalkerPlanModel" (16 : Nat) "WalkerPlanModel" "end" "[I") ∈ lw_all := lw_g (lw_at lw_m1 164 rfl) rfl
theorem q182 : (Jvm.Cond.fieldLink "WalkerPlanModel" (19 : Nat) "WalkerPlanModel" "label" "[I") ∈ lw_all := lw_g (lw_at lw_m1 165 rfl) rfl
theorem q183 : (Jvm.Cond.fieldLink "WalkerPlanModel" (46 : Nat) "WalkerPlanModel" "steps" "I") ∈ lw_all := lw_g (lw_at lw_m1 166 rfl) rfl
theorem q184 : (Jvm.Cond.fieldLink "WalkerPlanModel" (22 : Nat) "WalkerPlanModel" "kinds" "[I") ∈ lw_all := lw_g (lw_at lw_m1 167 rfl) rfl
theorem q185 : (Jvm.Cond.fieldLink "WalkerPlanModel" (25 : Nat) "WalkerPlanModel" "numbers" "[I") ∈ lw_all := lw_g (lw_at lw_m1 168 rfl) rfl
theorem q186 : (Jvm.Cond.fieldLink "WalkerPlanModel" (49 : Nat) "WalkerPlanModel" "starts" "I") ∈ lw_all := lw_g (lw_at lw_m1 169 rfl) rfl
theorem q187 : (Jvm.Cond.fieldLink "WalkerPlanModel" (28 : Nat) "WalkerPlanModel" "now" "[I") ∈ lw_all := lw_g (lw_at lw_m1 170 rfl) rfl
theorem q188 : (Jvm.Cond.fieldLink "WalkerPlanModel" (31 : Nat) "WalkerPlanModel" "then" "[I") ∈ lw_all := lw_g (lw_at lw_m1 171 rfl) rfl
theorem q189 : (Jvm.Cond.lays "WalkerPlanModel" "WalkerPlanModel" "marks" "[I") ∈ lw_all := lw_g (lw_at lw_m1 172 rfl) rfl
theorem q190 : (Jvm.Cond.soleField "WalkerPlanModel" "marks") ∈ lw_all := lw_g (lw_at lw_m1 173 rfl) rfl
theorem q191 : (Jvm.Cond.lays "WalkerPlanModel" "WalkerPlanModel" "size" "I") ∈ lw_all := lw_g (lw_at lw_m1 174 rfl) rfl
theorem q192 : (Jvm.Cond.soleField "WalkerPlanModel" "size") ∈ lw_all := lw_g (lw_at lw_m1 175 rfl) rfl
theorem q193 : (Jvm.Cond.lays "WalkerPlanModel" "WalkerPlanModel" "begin" "[I") ∈ lw_all := lw_g (lw_at lw_m1 176 rfl) rfl
theorem q194 : (Jvm.Cond.soleField "WalkerPlanModel" "begin") ∈ lw_all := lw_g (lw_at lw_m1 177 rfl) rfl
theorem q195 : (Jvm.Cond.lays "WalkerPlanModel" "WalkerPlanModel" "end" "[I") ∈ lw_all := lw_g (lw_at lw_m1 178 rfl) rfl
theorem q196 : (Jvm.Cond.soleField "WalkerPlanModel" "end") ∈ lw_all := lw_g (lw_at lw_m1 179 rfl) rfl
theorem q197 : (Jvm.Cond.lays "WalkerPlanModel" "WalkerPlanModel" "label" "[I") ∈ lw_all := lw_g (lw_at lw_m1 180 rfl) rfl
theorem q198 : (Jvm.Cond.soleField "WalkerPlanModel" "label") ∈ lw_all := lw_g (lw_at lw_m1 181 rfl) rfl
theorem q199 : (Jvm.Cond.lays "WalkerPlanModel" "WalkerPlanModel" "steps" "I") ∈ lw_all := lw_g (lw_at lw_m1 182 rfl) rfl
theorem q200 : (Jvm.Cond.soleField "WalkerPlanModel" "steps") ∈ lw_all := lw_g (lw_at lw_m1 183 rfl) rfl
theorem q201 : (Jvm.Cond.lays "WalkerPlanModel" "WalkerPlanModel" "kinds" "[I") ∈ lw_all := lw_g (lw_at lw_m1 184 rfl) rfl
theorem q202 : (Jvm.Cond.soleField "WalkerPlanModel" "kinds") ∈ lw_all := lw_g (lw_at lw_m1 185 rfl) rfl
theorem q203 : (Jvm.Cond.lays "WalkerPlanModel" "WalkerPlanModel" "numbers" "[I") ∈ lw_all := lw_g (lw_at lw_m1 186 rfl) rfl
theorem q204 : (Jvm.Cond.soleField "WalkerPlanModel" "numbers") ∈ lw_all := lw_g (lw_at lw_m1 187 rfl) rfl
theorem q205 : (Jvm.Cond.lays "WalkerPlanModel" "WalkerPlanModel" "starts" "I") ∈ lw_all := lw_g (lw_at lw_m1 188 rfl) rfl
theorem q206 : (Jvm.Cond.soleField "WalkerPlanModel" "starts") ∈ lw_all := lw_g (lw_at lw_m1 189 rfl) rfl
theorem q207 : (Jvm.Cond.lays "WalkerPlanModel" "WalkerPlanModel" "now" "[I") ∈ lw_all := lw_g (lw_at lw_m1 190 rfl) rfl
theorem q208 : (Jvm.Cond.soleField "WalkerPlanModel" "now") ∈ lw_all := lw_g (lw_at lw_m1 191 rfl) rfl
theorem q209 : (Jvm.Cond.lays "WalkerPlanModel" "WalkerPlanModel" "then" "[I") ∈ lw_all := lw_g (lw_at lw_m1 192 rfl) rfl
theorem q210 : (Jvm.Cond.soleField "WalkerPlanModel" "then") ∈ lw_all := lw_g (lw_at lw_m1 193 rfl) rfl
theorem q211 : (Jvm.Cond.superclass "WalkerPlanModel" "java/lang/Object") ∈ lw_all := lw_g (lw_at lw_m1 194 rfl) rfl
theorem q213 : (Jvm.Cond.instanceMethod ({ cls := "WalkerPlanModel", name := "mark", desc := "(II)Z" } : Jvm.MethodName)) ∈ lw_all := lw_g (lw_at lw_m1 196 rfl) rfl
theorem q214 : (Jvm.Cond.selects "WalkerPlanModel" ({ cls := "WalkerPlanModel", name := "mark", desc := "(II)Z" } : Jvm.MethodName) ({ cls := "WalkerPlanModel", name := "mark", desc := "(II)Z" } : Jvm.MethodName)) ∈ lw_all := lw_g (lw_at lw_m1 197 rfl) rfl
theorem q215 : (Jvm.Cond.code ({ cls := "WalkerPlanModel", name := "mark", desc := "(II)Z" } : Jvm.MethodName) prog_3_method_3_code (3 : Nat) (Option.some Jvm.ClassFile.FieldType.boolean)) ∈ lw_all := lw_g (lw_at lw_m1 198 rfl) rfl
theorem q216 : (Jvm.Cond.methodLink "WalkerPlanModel" (34 : Nat) ({ cls := "WalkerPlanModel", name := "vertex", desc := "(I)Z" } : Jvm.MethodName)) ∈ lw_all := lw_g (lw_at lw_m1 199 rfl) rfl
theorem q217 : (Jvm.Cond.privateMethod ({ cls := "WalkerPlanModel", name := "vertex", desc := "(I)Z" } : Jvm.MethodName)) ∈ lw_tbl := lw_at lw_m1 200 rfl
theorem q218 : (Jvm.Cond.instanceMethod ({ cls := "WalkerPlanModel", name := "vertex", desc := "(I)Z" } : Jvm.MethodName)) ∈ lw_all := lw_g (lw_at lw_m1 201 rfl) rfl
theorem q219 : (Jvm.Cond.code ({ cls := "WalkerPlanModel", name := "vertex", desc := "(I)Z" } : Jvm.MethodName) prog_3_method_2_code (2 : Nat) (Option.some Jvm.ClassFile.FieldType.boolean)) ∈ lw_all := lw_g (lw_at lw_m1 202 rfl) rfl
theorem q221 : (Jvm.Cond.instanceMethod ({ cls := "WalkerPlanModel", name := "join", desc := "(III)Z" } : Jvm.MethodName)) ∈ lw_all := lw_g (lw_at lw_m1 204 rfl) rfl
theorem q222 : (Jvm.Cond.selects "WalkerPlanModel" ({ cls := "WalkerPlanModel", name := "join", desc := "(III)Z" } : Jvm.MethodName) ({ cls := "WalkerPlanModel", name := "join", desc := "(III)Z" } : Jvm.MethodName)) ∈ lw_all := lw_g (lw_at lw_m1 205 rfl) rfl
theorem q223 : (Jvm.Cond.code ({ cls := "WalkerPlanModel", name := "join", desc := "(III)Z" } : Jvm.MethodName) prog_3_method_5_code (4 : Nat) (Option.some Jvm.ClassFile.FieldType.boolean)) ∈ lw_all := lw_g (lw_at lw_m1 206 rfl) rfl
theorem q224 : (Jvm.Cond.methodLink "WalkerPlanModel" (42 : Nat) ({ cls := "WalkerPlanModel", name := "find", desc := "(III)I" } : Jvm.MethodName)) ∈ lw_all := lw_g (lw_at lw_m1 207 rfl) rfl
theorem q225 : (Jvm.Cond.privateMethod ({ cls := "WalkerPlanModel", name := "find", desc := "(III)I" } : Jvm.MethodName)) ∈ lw_tbl := lw_at lw_m1 208 rfl
theorem q226 : (Jvm.Cond.instanceMethod ({ cls := "WalkerPlanModel", name := "find", desc := "(III)I" } : Jvm.MethodName)) ∈ lw_all := lw_g (lw_at lw_m1 209 rfl) rfl
theorem q227 : (Jvm.Cond.code ({ cls := "WalkerPlanModel", name := "find", desc := "(III)I" } : Jvm.MethodName) prog_3_method_4_code (5 : Nat) (Option.some Jvm.ClassFile.FieldType.int)) ∈ lw_all := lw_g (lw_at lw_m1 210 rfl) rfl
theorem q229 : (Jvm.Cond.instanceMethod ({ cls := "WalkerPlanModel", name := "cut", desc := "(III)Z" } : Jvm.MethodName)) ∈ lw_all := lw_g (lw_at lw_m1 212 rfl) rfl
theorem q230 : (Jvm.Cond.selects "WalkerPlanModel" ({ cls := "WalkerPlanModel", name := "cut", desc := "(III)Z" } : Jvm.MethodName) ({ cls := "WalkerPlanModel", name := "cut", desc := "(III)Z" } : Jvm.MethodName)) ∈ lw_all := lw_g (lw_at lw_m1 213 rfl) rfl
theorem q231 : (Jvm.Cond.code ({ cls := "WalkerPlanModel", name := "cut", desc := "(III)Z" } : Jvm.MethodName) prog_3_method_6_code (5 : Nat) (Option.some Jvm.ClassFile.FieldType.boolean)) ∈ lw_all := lw_g (lw_at lw_m1 214 rfl) rfl
theorem q233 : (Jvm.Cond.instanceMethod ({ cls := "WalkerPlanModel", name := "add", desc := "(II)I" } : Jvm.MethodName)) ∈ lw_all := lw_g (lw_at lw_m1 216 rfl) rfl
theorem q234 : (Jvm.Cond.selects "WalkerPlanModel" ({ cls := "WalkerPlanModel", name := "add", desc := "(II)I" } : Jvm.MethodName) ({ cls := "WalkerPlanModel", name := "add", desc := "(II)I" } : Jvm.MethodName)) ∈ lw_all := lw_g (lw_at lw_m1 217 rfl) rfl
theorem q235 : (Jvm.Cond.code ({ cls := "WalkerPlanModel", name := "add", desc := "(II)I" } : Jvm.MethodName) prog_3_method_7_code (3 : Nat) (Option.some Jvm.ClassFile.FieldType.int)) ∈ lw_all := lw_g (lw_at lw_m1 218 rfl) rfl
theorem q237 : (Jvm.Cond.instanceMethod ({ cls := "WalkerPlanModel", name := "drop", desc := "()I" } : Jvm.MethodName)) ∈ lw_all := lw_g (lw_at lw_m1 220 rfl) rfl
theorem q238 : (Jvm.Cond.selects "WalkerPlanModel" ({ cls := "WalkerPlanModel", name := "drop", desc := "()I" } : Jvm.MethodName) ({ cls := "WalkerPlanModel", name := "drop", desc := "()I" } : Jvm.MethodName)) ∈ lw_all := lw_g (lw_at lw_m1 221 rfl) rfl
theorem q239 : (Jvm.Cond.code ({ cls := "WalkerPlanModel", name := "drop", desc := "()I" } : Jvm.MethodName) prog_3_method_8_code (1 : Nat) (Option.some Jvm.ClassFile.FieldType.int)) ∈ lw_all := lw_g (lw_at lw_m1 222 rfl) rfl
theorem q241 : (Jvm.Cond.instanceMethod ({ cls := "WalkerPlanModel", name := "from", desc := "(I)Z" } : Jvm.MethodName)) ∈ lw_all := lw_g (lw_at lw_m1 224 rfl) rfl
theorem q242 : (Jvm.Cond.selects "WalkerPlanModel" ({ cls := "WalkerPlanModel", name := "from", desc := "(I)Z" } : Jvm.MethodName) ({ cls := "WalkerPlanModel", name := "from", desc := "(I)Z" } : Jvm.MethodName)) ∈ lw_all := lw_g (lw_at lw_m1 225 rfl) rfl
theorem q243 : (Jvm.Cond.code ({ cls := "WalkerPlanModel", name := "from", desc := "(I)Z" } : Jvm.MethodName) prog_3_method_9_code (2 : Nat) (Option.some Jvm.ClassFile.FieldType.boolean)) ∈ lw_all := lw_g (lw_at lw_m1 226 rfl) rfl
theorem q245 : (Jvm.Cond.instanceMethod ({ cls := "WalkerPlanModel", name := "at", desc := "(I)I" } : Jvm.MethodName)) ∈ lw_all := lw_g (lw_at lw_m1 228 rfl) rfl
theorem q246 : (Jvm.Cond.selects "WalkerPlanModel" ({ cls := "WalkerPlanModel", name := "at", desc := "(I)I" } : Jvm.MethodName) ({ cls := "WalkerPlanModel", name := "at", desc := "(I)I" } : Jvm.MethodName)) ∈ lw_all := lw_g (lw_at lw_m1 229 rfl) rfl
theorem q247 : (Jvm.Cond.code ({ cls := "WalkerPlanModel", name := "at", desc := "(I)I" } : Jvm.MethodName) prog_3_method_15_code (4 : Nat) (Option.some Jvm.ClassFile.FieldType.int)) ∈ lw_all := lw_g (lw_at lw_m1 230 rfl) rfl
theorem q248 : (Jvm.Cond.methodLink "WalkerPlanModel" (68 : Nat) ({ cls := "WalkerPlanModel", name := "walk", desc := "(I)V" } : Jvm.MethodName)) ∈ lw_all := lw_g (lw_at lw_m1 231 rfl) rfl
theorem q249 : (Jvm.Cond.privateMethod ({ cls := "WalkerPlanModel", name := "walk", desc := "(I)V" } : Jvm.MethodName)) ∈ lw_tbl := lw_at lw_m1 232 rfl
theorem q250 : (Jvm.Cond.instanceMethod ({ cls := "WalkerPlanModel", name := "walk", desc := "(I)V" } : Jvm.MethodName)) ∈ lw_all := lw_g (lw_at lw_m1 233 rfl) rfl
theorem q251 : (Jvm.Cond.code ({ cls := "WalkerPlanModel", name := "walk", desc := "(I)V" } : Jvm.MethodName) prog_3_method_13_code (3 : Nat) (Option.none : Option Jvm.ClassFile.FieldType)) ∈ lw_all := lw_g (lw_at lw_m1 234 rfl) rfl
theorem q252 : (Jvm.Cond.methodLink "WalkerPlanModel" (60 : Nat) ({ cls := "WalkerPlanModel", name := "once", desc := "(II)V" } : Jvm.MethodName)) ∈ lw_all := lw_g (lw_at lw_m1 235 rfl) rfl
theorem q253 : (Jvm.Cond.privateMethod ({ cls := "WalkerPlanModel", name := "once", desc := "(II)V" } : Jvm.MethodName)) ∈ lw_tbl := lw_at lw_m1 236 rfl
theorem q254 : (Jvm.Cond.instanceMethod ({ cls := "WalkerPlanModel", name := "once", desc := "(II)V" } : Jvm.MethodName)) ∈ lw_all := lw_g (lw_at lw_m1 237 rfl) rfl
theorem q255 : (Jvm.Cond.code ({ cls := "WalkerPlanModel", name := "once", desc := "(II)V" } : Jvm.MethodName) prog_3_method_14_code (4 : Nat) (Option.none : Option Jvm.ClassFile.FieldType)) ∈ lw_all := lw_g (lw_at lw_m1 238 rfl) rfl
theorem q256 : (Jvm.Cond.methodLink "WalkerPlanModel" (64 : Nat) ({ cls := "WalkerPlanModel", name := "step", desc := "(IIII)V" } : Jvm.MethodName)) ∈ lw_all := lw_g (lw_at lw_m1 239 rfl) rfl
theorem q257 : (Jvm.Cond.privateMethod ({ cls := "WalkerPlanModel", name := "step", desc := "(IIII)V" } : Jvm.MethodName)) ∈ lw_tbl := lw_at lw_m2 0 rfl
theorem q258 : (Jvm.Cond.instanceMethod ({ cls := "WalkerPlanModel", name := "step", desc := "(IIII)V" } : Jvm.MethodName)) ∈ lw_all := lw_g (lw_at lw_m2 1 rfl) rfl
theorem q259 : (Jvm.Cond.code ({ cls := "WalkerPlanModel", name := "step", desc := "(IIII)V" } : Jvm.MethodName) prog_3_method_12_code (7 : Nat) (Option.none : Option Jvm.ClassFile.FieldType)) ∈ lw_all := lw_g (lw_at lw_m2 2 rfl) rfl
theorem q260 : (Jvm.Cond.methodLink "WalkerPlanModel" (52 : Nat) ({ cls := "WalkerPlanModel", name := "send", desc := "(IIIZZ)I" } : Jvm.MethodName)) ∈ lw_all := lw_g (lw_at lw_m2 3 rfl) rfl
theorem q261 : (Jvm.Cond.privateMethod ({ cls := "WalkerPlanModel", name := "send", desc := "(IIIZZ)I" } : Jvm.MethodName)) ∈ lw_tbl := lw_at lw_m2 4 rfl
theorem q262 : (Jvm.Cond.instanceMethod ({ cls := "WalkerPlanModel", name := "send", desc := "(IIIZZ)I" } : Jvm.MethodName)) ∈ lw_all := lw_g (lw_at lw_m2 5 rfl) rfl
theorem q263 : (Jvm.Cond.code ({ cls := "WalkerPlanModel", name := "send", desc := "(IIIZZ)I" } : Jvm.MethodName) prog_3_method_10_code (9 : Nat) (Option.some Jvm.ClassFile.FieldType.int)) ∈ lw_all := lw_g (lw_at lw_m2 6 rfl) rfl
theorem q264 : (Jvm.Cond.methodLink "WalkerPlanModel" (56 : Nat) ({ cls := "WalkerPlanModel", name := "lesser", desc := "(II)Z" } : Jvm.MethodName)) ∈ lw_all := lw_g (lw_at lw_m2 7 rfl) rfl
theorem q265 : (Jvm.Cond.privateMethod ({ cls := "WalkerPlanModel", name := "lesser", desc := "(II)Z" } : Jvm.MethodName)) ∈ lw_tbl := lw_at lw_m2 8 rfl
theorem q266 : (Jvm.Cond.instanceMethod ({ cls := "WalkerPlanModel", name := "lesser", desc := "(II)Z" } : Jvm.MethodName)) ∈ lw_all := lw_g (lw_at lw_m2 9 rfl) rfl
theorem q267 : (Jvm.Cond.code ({ cls := "WalkerPlanModel", name := "lesser", desc := "(II)Z" } : Jvm.MethodName) prog_3_method_11_code (5 : Nat) (Option.some Jvm.ClassFile.FieldType.boolean)) ∈ lw_all := lw_g (lw_at lw_m2 10 rfl) rfl
theorem q269 : (Jvm.Cond.instanceMethod ({ cls := "WalkerPlanModel", name := "walkers", desc := "()I" } : Jvm.MethodName)) ∈ lw_all := lw_g (lw_at lw_m2 12 rfl) rfl
theorem q270 : (Jvm.Cond.selects "WalkerPlanModel" ({ cls := "WalkerPlanModel", name := "walkers", desc := "()I" } : Jvm.MethodName) ({ cls := "WalkerPlanModel", name := "walkers", desc := "()I" } : Jvm.MethodName)) ∈ lw_all := lw_g (lw_at lw_m2 13 rfl) rfl
theorem q271 : (Jvm.Cond.code ({ cls := "WalkerPlanModel", name := "walkers", desc := "()I" } : Jvm.MethodName) prog_3_method_16_code (1 : Nat) (Option.some Jvm.ClassFile.FieldType.int)) ∈ lw_all := lw_g (lw_at lw_m2 14 rfl) rfl
theorem q272 : (Jvm.Cond.methodLink "WalkerPlanModel" (72 : Nat) ({ cls := "WalkerPlanModel", name := "after", desc := "(I)I" } : Jvm.MethodName)) ∈ lw_all := lw_g (lw_at lw_m2 15 rfl) rfl
theorem q273 : (Jvm.Cond.instanceMethod ({ cls := "WalkerPlanModel", name := "after", desc := "(I)I" } : Jvm.MethodName)) ∈ lw_all := lw_g (lw_at lw_m2 16 rfl) rfl
theorem q274 : (Jvm.Cond.selects "WalkerPlanModel" ({ cls := "WalkerPlanModel", name := "after", desc := "(I)I" } : Jvm.MethodName) ({ cls := "WalkerPlanModel", name := "after", desc := "(I)I" } : Jvm.MethodName)) ∈ lw_all := lw_g (lw_at lw_m2 17 rfl) rfl
theorem q275 : (Jvm.Cond.code ({ cls := "WalkerPlanModel", name := "after", desc := "(I)I" } : Jvm.MethodName) prog_3_method_17_code (4 : Nat) (Option.some Jvm.ClassFile.FieldType.int)) ∈ lw_all := lw_g (lw_at lw_m2 18 rfl) rfl
theorem q278 : (Jvm.Cond.instanceMethod ({ cls := "WalkerPlanModel", name := "between", desc := "(II)I" } : Jvm.MethodName)) ∈ lw_all := lw_g (lw_at lw_m2 21 rfl) rfl
theorem q279 : (Jvm.Cond.selects "WalkerPlanModel" ({ cls := "WalkerPlanModel", name := "between", desc := "(II)I" } : Jvm.MethodName) ({ cls := "WalkerPlanModel", name := "between", desc := "(II)I" } : Jvm.MethodName)) ∈ lw_all := lw_g (lw_at lw_m2 22 rfl) rfl
theorem q280 : (Jvm.Cond.code ({ cls := "WalkerPlanModel", name := "between", desc := "(II)I" } : Jvm.MethodName) prog_3_method_18_code (3 : Nat) (Option.some Jvm.ClassFile.FieldType.int)) ∈ lw_all := lw_g (lw_at lw_m2 23 rfl) rfl
theorem q282 : (Jvm.Cond.instanceMethod ({ cls := "WalkerPlanModel", name := "reached", desc := "()I" } : Jvm.MethodName)) ∈ lw_all := lw_g (lw_at lw_m2 25 rfl) rfl
theorem q283 : (Jvm.Cond.selects "WalkerPlanModel" ({ cls := "WalkerPlanModel", name := "reached", desc := "()I" } : Jvm.MethodName) ({ cls := "WalkerPlanModel", name := "reached", desc := "()I" } : Jvm.MethodName)) ∈ lw_all := lw_g (lw_at lw_m2 26 rfl) rfl
theorem q284 : (Jvm.Cond.code ({ cls := "WalkerPlanModel", name := "reached", desc := "()I" } : Jvm.MethodName) prog_3_method_19_code (3 : Nat) (Option.some Jvm.ClassFile.FieldType.int)) ∈ lw_all := lw_g (lw_at lw_m2 27 rfl) rfl
theorem q286 : (Jvm.Cond.instanceMethod ({ cls := "WalkerPlanModel", name := "startsAt", desc := "(I)I" } : Jvm.MethodName)) ∈ lw_all := lw_g (lw_at lw_m2 29 rfl) rfl
theorem q287 : (Jvm.Cond.selects "WalkerPlanModel" ({ cls := "WalkerPlanModel", name := "startsAt", desc := "(I)I" } : Jvm.MethodName) ({ cls := "WalkerPlanModel", name := "startsAt", desc := "(I)I" } : Jvm.MethodName)) ∈ lw_all := lw_g (lw_at lw_m2 30 rfl) rfl
theorem q288 : (Jvm.Cond.code ({ cls := "WalkerPlanModel", name := "startsAt", desc := "(I)I" } : Jvm.MethodName) prog_3_method_20_code (4 : Nat) (Option.some Jvm.ClassFile.FieldType.int)) ∈ lw_all := lw_g (lw_at lw_m2 31 rfl) rfl
theorem q290 : (Jvm.Cond.instanceMethod ({ cls := "WalkerPlanModel", name := "diesAfter", desc := "()I" } : Jvm.MethodName)) ∈ lw_all := lw_g (lw_at lw_m2 33 rfl) rfl
theorem q291 : (Jvm.Cond.selects "WalkerPlanModel" ({ cls := "WalkerPlanModel", name := "diesAfter", desc := "()I" } : Jvm.MethodName) ({ cls := "WalkerPlanModel", name := "diesAfter", desc := "()I" } : Jvm.MethodName)) ∈ lw_all := lw_g (lw_at lw_m2 34 rfl) rfl
theorem q292 : (Jvm.Cond.code ({ cls := "WalkerPlanModel", name := "diesAfter", desc := "()I" } : Jvm.MethodName) prog_3_method_21_code (2 : Nat) (Option.some Jvm.ClassFile.FieldType.int)) ∈ lw_all := lw_g (lw_at lw_m2 35 rfl) rfl
theorem q294 : (Jvm.Cond.instanceMethod ({ cls := "WalkerPlanModel", name := "edges", desc := "()I" } : Jvm.MethodName)) ∈ lw_all := lw_g (lw_at lw_m2 37 rfl) rfl
theorem q295 : (Jvm.Cond.selects "WalkerPlanModel" ({ cls := "WalkerPlanModel", name := "edges", desc := "()I" } : Jvm.MethodName) ({ cls := "WalkerPlanModel", name := "edges", desc := "()I" } : Jvm.MethodName)) ∈ lw_all := lw_g (lw_at lw_m2 38 rfl) rfl
theorem q296 : (Jvm.Cond.code ({ cls := "WalkerPlanModel", name := "edges", desc := "()I" } : Jvm.MethodName) prog_3_method_22_code (1 : Nat) (Option.some Jvm.ClassFile.FieldType.int)) ∈ lw_all := lw_g (lw_at lw_m2 39 rfl) rfl
theorem in_X1 : ∀ w ∈ wsX10, w ∈ lw_all := lw_in wsX10 [189, 191, 193, 195, 197, 199, 201, 203, 205, 207, 209] (by decide +kernel) (by decide +kernel)
end
section
/-! java/lang/Object -/
set_option maxRecDepth 100000
def RJ0 : String := "java/lang/Object"
abbrev cJ0_init : ByteArray := object_method_1_code
def yJ0_init : MethodName := ⟨RJ0, "<init>", "()V"⟩
theorem dJ0_init_0 : decode cJ0_init 0 = .ok (.return_, 1) := by decide +kernel
theorem q26 : (Jvm.Cond.instanceMethod ({ cls := "java/lang/Object", name := "<init>", desc := "()V" } : Jvm.MethodName)) ∈ lw_all := lw_g (lw_at lw_m1 9 rfl) rfl
theorem q27 : (Jvm.Cond.code ({ cls := "java/lang/Object", name := "<init>", desc := "()V" } : Jvm.MethodName) object_method_1_code (1 : Nat) (Option.none : Option Jvm.ClassFile.FieldType)) ∈ lw_all := lw_g (lw_at lw_m1 10 rfl) rfl
/-! the law's own entry -/
set_option maxRecDepth 100000
abbrev cL_law : ByteArray := code
theorem dL_law_0 : decode cL_law 0 = .ok (.new 7, 3) := by decide +kernel
theorem dL_law_3 : decode cL_law 3 = .ok (.dup, 1) := by decide +kernel
theorem dL_law_4 : decode cL_law 4 = .ok (.invokespecial 9, 3) := by decide +kernel
theorem dL_law_7 : decode cL_law 7 = .ok (.astore_n 1, 1) := by decide +kernel
theorem dL_law_8 : decode cL_law 8 = .ok (.new 10, 3) := by decide +kernel
theorem dL_law_11 : decode cL_law 11 = .ok (.dup, 1) := by decide +kernel
theorem dL_law_12 : decode cL_law 12 = .ok (.invokespecial 12, 3) := by decide +kernel
theorem dL_law_15 : decode cL_law 15 = .ok (.astore_n 2, 1) := by decide +kernel
theorem dL_law_16 : decode cL_law 16 = .ok (.iconst 0, 1) := by decide +kernel
theorem dL_law_17 : decode cL_law 17 = .ok (.istore_n 3, 1) := by decide +kernel
theorem dL_law_18 : decode cL_law 18 = .ok (.iload_n 3, 1) := by decide +kernel
theorem dL_law_19 : decode cL_law 19 = .ok (.aload_n 0, 1) := by decide +kernel
theorem dL_law_20 : decode cL_law 20 = .ok (.arraylength, 1) := by decide +kernel
theorem dL_law_21 : decode cL_law 21 = .ok (.iconst 4, 1) := by decide +kernel
theorem dL_law_22 : decode cL_law 22 = .ok (.isub, 1) := by decide +kernel
theorem dL_law_23 : decode cL_law 23 = .ok (.if_icmp .gt 429, 3) := by decide +kernel
theorem dL_law_26 : decode cL_law 26 = .ok (.aload_n 0, 1) := by decide +kernel
theorem dL_law_27 : decode cL_law 27 = .ok (.iload_n 3, 1) := by decide +kernel
theorem dL_law_28 : decode cL_law 28 = .ok (.iaload, 1) := by decide +kernel
theorem dL_law_29 : decode cL_law 29 = .ok (.bipush 15, 2) := by decide +kernel
theorem dL_law_31 : decode cL_law 31 = .ok (.iand, 1) := by decide +kernel
theorem dL_law_32 : decode cL_law 32 = .ok (.tableswitch 414 0 13 #[72, 105, 148, 191, 224, 237, 260, 283, 296, 319, 352, 365, 388, 401], 72) := by decide +kernel
theorem dL_law_104 : decode cL_law 104 = .ok (.aload_n 1, 1) := by decide +kernel
theorem dL_law_105 : decode cL_law 105 = .ok (.aload_n 0, 1) := by decide +kernel
theorem dL_law_106 : decode cL_law 106 = .ok (.iload_n 3, 1) := by decide +kernel
theorem dL_law_107 : decode cL_law 107 = .ok (.iconst 1, 1) := by decide +kernel
theorem dL_law_108 : decode cL_law 108 = .ok (.iadd, 1) := by decide +kernel
theorem dL_law_109 : decode cL_law 109 = .ok (.iaload, 1) := by decide +kernel
theorem dL_law_110 : decode cL_law 110 = .ok (.aload_n 0, 1) := by decide +kernel
theorem dL_law_111 : decode cL_law 111 = .ok (.iload_n 3, 1) := by decide +kernel
theorem dL_law_112 : decode cL_law 112 = .ok (.iconst 2, 1) := by decide +kernel
theorem dL_law_113 : decode cL_law 113 = .ok (.iadd, 1) := by decide +kernel
theorem dL_law_114 : decode cL_law 114 = .ok (.iaload, 1) := by decide +kernel
theorem dL_law_115 : decode cL_law 115 = .ok (.invokevirtual 13, 3) := by decide +kernel
theorem dL_law_118 : decode cL_law 118 = .ok (.aload_n 2, 1) := by decide +kernel
theorem dL_law_119 : decode cL_law 119 = .ok (.aload_n 0, 1) := by decide +kernel
theorem dL_law_120 : decode cL_law 120 = .ok (.iload_n 3, 1) := by decide +kernel
theorem dL_law_121 : decode cL_law 121 = .ok (.iconst 1, 1) := by decide +kernel
theorem dL_law_122 : decode cL_law 122 = .ok (.iadd, 1) := by decide +kernel
theorem dL_law_123 : decode cL_law 123 = .ok (.iaload, 1) := by decide +kernel
theorem dL_law_124 : decode cL_law 124 = .ok (.aload_n 0, 1) := by decide +kernel
theorem dL_law_125 : decode cL_law 125 = .ok (.iload_n 3, 1) := by decide +kernel
theorem dL_law_126 : decode cL_law 126 = .ok (.iconst 2, 1) := by decide +kernel
theorem dL_law_127 : decode cL_law 127 = .ok (.iadd, 1) := by decide +kernel
theorem dL_law_128 : decode cL_law 128 = .ok (.iaload, 1) := by decide +kernel
theorem dL_law_129 : decode cL_law 129 = .ok (.invokevirtual 17, 3) := by decide +kernel
theorem dL_law_132 : decode cL_law 132 = .ok (.if_icmp .eq 314, 3) := by decide +kernel
theorem dL_law_135 : decode cL_law 135 = .ok (.iconst 0, 1) := by decide +kernel
theorem dL_law_136 : decode cL_law 136 = .ok (.ireturn, 1) := by decide +kernel
theorem dL_law_137 : decode cL_law 137 = .ok (.aload_n 1, 1) := by decide +kernel
theorem dL_law_138 : decode cL_law 138 = .ok (.aload_n 0, 1) := by decide +kernel
theorem dL_law_139 : decode cL_law 139 = .ok (.iload_n 3, 1) := by decide +kernel
theorem dL_law_140 : decode cL_law 140 = .ok (.iconst 1, 1) := by decide +kernel
theorem dL_law_141 : decode cL_law 141 = .ok (.iadd, 1) := by decide +kernel
theorem dL_law_142 : decode cL_law 142 = .ok (.iaload, 1) := by decide +kernel
theorem dL_law_143 : decode cL_law 143 = .ok (.aload_n 0, 1) := by decide +kernel
theorem dL_law_144 : decode cL_law 144 = .ok (.iload_n 3, 1) := by decide +kernel
theorem dL_law_145 : decode cL_law 145 = .ok (.iconst 2, 1) := by decide +kernel
theorem dL_law_146 : decode cL_law 146 = .ok (.iadd, 1) := by decide +kernel
theorem dL_law_147 : decode cL_law 147 = .ok (.iaload, 1) := by decide +kernel
theorem dL_law_148 : decode cL_law 148 = .ok (.aload_n 0, 1) := by decide +kernel
theorem dL_law_149 : decode cL_law 149 = .ok (.iload_n 3, 1) := by decide +kernel
theorem dL_law_150 : decode cL_law 150 = .ok (.iconst 3, 1) := by decide +kernel
theorem dL_law_151 : decode cL_law 151 = .ok (.iadd, 1) := by decide +kernel
theorem dL_law_152 : decode cL_law 152 = .ok (.iaload, 1) := by decide +kernel
theorem dL_law_153 : decode cL_law 153 = .ok (.invokevirtual 18, 3) := by decide +kernel
theorem dL_law_156 : decode cL_law 156 = .ok (.aload_n 2, 1) := by decide +kernel
theorem dL_law_157 : decode cL_law 157 = .ok (.aload_n 0, 1) := by decide +kernel
theorem dL_law_158 : decode cL_law 158 = .ok (.iload_n 3, 1) := by decide +kernel
theorem dL_law_159 : decode cL_law 159 = .ok (.iconst 1, 1) := by decide +kernel
theorem dL_law_160 : decode cL_law 160 = .ok (.iadd, 1) := by decide +kernel
theorem dL_law_161 : decode cL_law 161 = .ok (.iaload, 1) := by decide +kernel
theorem dL_law_162 : decode cL_law 162 = .ok (.aload_n 0, 1) := by decide +kernel
theorem dL_law_163 : decode cL_law 163 = .ok (.iload_n 3, 1) := by decide +kernel
theorem dL_law_164 : decode cL_law 164 = .ok (.iconst 2, 1) := by decide +kernel
theorem dL_law_165 : decode cL_law 165 = .ok (.iadd, 1) := by decide +kernel
theorem dL_law_166 : decode cL_law 166 = .ok (.iaload, 1) := by decide +kernel
theorem dL_law_167 : decode cL_law 167 = .ok (.aload_n 0, 1) := by decide +kernel
theorem dL_law_168 : decode cL_law 168 = .ok (.iload_n 3, 1) := by decide +kernel
theorem dL_law_169 : decode cL_law 169 = .ok (.iconst 3, 1) := by decide +kernel
theorem dL_law_170 : decode cL_law 170 = .ok (.iadd, 1) := by decide +kernel
theorem dL_law_171 : decode cL_law 171 = .ok (.iaload, 1) := by decide +kernel
theorem dL_law_172 : decode cL_law 172 = .ok (.invokevirtual 22, 3) := by decide +kernel
theorem dL_law_175 : decode cL_law 175 = .ok (.if_icmp .eq 271, 3) := by decide +kernel
theorem dL_law_178 : decode cL_law 178 = .ok (.iconst 0, 1) := by decide +kernel
theorem dL_law_179 : decode cL_law 179 = .ok (.ireturn, 1) := by decide +kernel
theorem dL_law_180 : decode cL_law 180 = .ok (.aload_n 1, 1) := by decide +kernel
theorem dL_law_181 : decode cL_law 181 = .ok (.aload_n 0, 1) := by decide +kernel
theorem dL_law_182 : decode cL_law 182 = .ok (.iload_n 3, 1) := by decide +kernel
theorem dL_law_183 : decode cL_law 183 = .ok (.iconst 1, 1) := by decide +kernel
theorem dL_law_184 : decode cL_law 184 = .ok (.iadd, 1) := by decide +kernel
theorem dL_law_185 : decode cL_law 185 = .ok (.iaload, 1) := by decide +kernel
theorem dL_law_186 : decode cL_law 186 = .ok (.aload_n 0, 1) := by decide +kernel
theorem dL_law_187 : decode cL_law 187 = .ok (.iload_n 3, 1) := by decide +kernel
theorem dL_law_188 : decode cL_law 188 = .ok (.iconst 2, 1) := by decide +kernel
theorem dL_law_189 : decode cL_law 189 = .ok (.iadd, 1) := by decide +kernel
theorem dL_law_190 : decode cL_law 190 = .ok (.iaload, 1) := by decide +kernel
theorem dL_law_191 : decode cL_law 191 = .ok (.aload_n 0, 1) := by decide +kernel
theorem dL_law_192 : decode cL_law 192 = .ok (.iload_n 3, 1) := by decide +kernel
theorem dL_law_193 : decode cL_law 193 = .ok (.iconst 3, 1) := by decide +kernel
theorem dL_law_194 : decode cL_law 194 = .ok (.iadd, 1) := by decide +kernel
theorem dL_law_195 : decode cL_law 195 = .ok (.iaload, 1) := by decide +kernel
theorem dL_law_196 : decode cL_law 196 = .ok (.invokevirtual 23, 3) := by decide +kernel
theorem dL_law_199 : decode cL_law 199 = .ok (.aload_n 2, 1) := by decide +kernel
theorem dL_law_200 : decode cL_law 200 = .ok (.aload_n 0, 1) := by decide +kernel
theorem dL_law_201 : decode cL_law 201 = .ok (.iload_n 3, 1) := by decide +kernel
theorem dL_law_202 : decode cL_law 202 = .ok (.iconst 1, 1) := by decide +kernel
theorem dL_law_203 : decode cL_law 203 = .ok (.iadd, 1) := by decide +kernel
theorem dL_law_204 : decode cL_law 204 = .ok (.iaload, 1) := by decide +kernel
theorem dL_law_205 : decode cL_law 205 = .ok (.aload_n 0, 1) := by decide +kernel
theorem dL_law_206 : decode cL_law 206 = .ok (.iload_n 3, 1) := by decide +kernel
theorem dL_law_207 : decode cL_law 207 = .ok (.iconst 2, 1) := by decide +kernel
theorem dL_law_208 : decode cL_law 208 = .ok (.iadd, 1) := by decide +kernel
theorem dL_law_209 : decode cL_law 209 = .ok (.iaload, 1) := by decide +kernel
theorem dL_law_210 : decode cL_law 210 = .ok (.aload_n 0, 1) := by decide +kernel
theorem dL_law_211 : decode cL_law 211 = .ok (.iload_n 3, 1) := by decide +kernel
theorem dL_law_212 : decode cL_law 212 = .ok (.iconst 3, 1) := by decide +kernel
theorem dL_law_213 : decode cL_law 213 = .ok (.iadd, 1) := by decide +kernel
theorem dL_law_214 : decode cL_law 214 = .ok (.iaload, 1) := by decide +kernel
theorem dL_law_215 : decode cL_law 215 = .ok (.invokevirtual 26, 3) := by decide +kernel
theorem dL_law_218 : decode cL_law 218 = .ok (.if_icmp .eq 228, 3) := by decide +kernel
theorem dL_law_221 : decode cL_law 221 = .ok (.iconst 0, 1) := by decide +kernel
theorem dL_law_222 : decode cL_law 222 = .ok (.ireturn, 1) := by decide +kernel
theorem dL_law_223 : decode cL_law 223 = .ok (.aload_n 1, 1) := by decide +kernel
theorem dL_law_224 : decode cL_law 224 = .ok (.aload_n 0, 1) := by decide +kernel
theorem dL_law_225 : decode cL_law 225 = .ok (.iload_n 3, 1) := by decide +kernel
theorem dL_law_226 : decode cL_law 226 = .ok (.iconst 1, 1) := by decide +kernel
theorem dL_law_227 : decode cL_law 227 = .ok (.iadd, 1) := by decide +kernel
theorem dL_law_228 : decode cL_law 228 = .ok (.iaload, 1) := by decide +kernel
theorem dL_law_229 : decode cL_law 229 = .ok (.aload_n 0, 1) := by decide +kernel
theorem dL_law_230 : decode cL_law 230 = .ok (.iload_n 3, 1) := by decide +kernel
theorem dL_law_231 : decode cL_law 231 = .ok (.iconst 2, 1) := by decide +kernel
theorem dL_law_232 : decode cL_law 232 = .ok (.iadd, 1) := by decide +kernel
theorem dL_law_233 : decode cL_law 233 = .ok (.iaload, 1) := by decide +kernel
theorem dL_law_234 : decode cL_law 234 = .ok (.invokevirtual 27, 3) := by decide +kernel
theorem dL_law_237 : decode cL_law 237 = .ok (.aload_n 2, 1) := by decide +kernel
theorem dL_law_238 : decode cL_law 238 = .ok (.aload_n 0, 1) := by decide +kernel
theorem dL_law_239 : decode cL_law 239 = .ok (.iload_n 3, 1) := by decide +kernel
theorem dL_law_240 : decode cL_law 240 = .ok (.iconst 1, 1) := by decide +kernel
theorem dL_law_241 : decode cL_law 241 = .ok (.iadd, 1) := by decide +kernel
theorem dL_law_242 : decode cL_law 242 = .ok (.iaload, 1) := by decide +kernel
theorem dL_law_243 : decode cL_law 243 = .ok (.aload_n 0, 1) := by decide +kernel
theorem dL_law_244 : decode cL_law 244 = .ok (.iload_n 3, 1) := by decide +kernel
theorem dL_law_245 : decode cL_law 245 = .ok (.iconst 2, 1) := by decide +kernel
theorem dL_law_246 : decode cL_law 246 = .ok (.iadd, 1) := by decide +kernel
theorem dL_law_247 : decode cL_law 247 = .ok (.iaload, 1) := by decide +kernel
theorem dL_law_248 : decode cL_law 248 = .ok (.invokevirtual 31, 3) := by decide +kernel
theorem dL_law_251 : decode cL_law 251 = .ok (.if_icmp .eq 195, 3) := by decide +kernel
theorem dL_law_254 : decode cL_law 254 = .ok (.iconst 0, 1) := by decide +kernel
theorem dL_law_255 : decode cL_law 255 = .ok (.ireturn, 1) := by decide +kernel
theorem dL_law_256 : decode cL_law 256 = .ok (.aload_n 1, 1) := by decide +kernel
theorem dL_law_257 : decode cL_law 257 = .ok (.invokevirtual 32, 3) := by decide +kernel
theorem dL_law_260 : decode cL_law 260 = .ok (.aload_n 2, 1) := by decide +kernel
theorem dL_law_261 : decode cL_law 261 = .ok (.invokevirtual 36, 3) := by decide +kernel
theorem dL_law_264 : decode cL_law 264 = .ok (.if_icmp .eq 182, 3) := by decide +kernel
theorem dL_law_267 : decode cL_law 267 = .ok (.iconst 0, 1) := by decide +kernel
theorem dL_law_268 : decode cL_law 268 = .ok (.ireturn, 1) := by decide +kernel
theorem dL_law_269 : decode cL_law 269 = .ok (.aload_n 1, 1) := by decide +kernel
theorem dL_law_270 : decode cL_law 270 = .ok (.aload_n 0, 1) := by decide +kernel
theorem dL_law_271 : decode cL_law 271 = .ok (.iload_n 3, 1) := by decide +kernel
theorem dL_law_272 : decode cL_law 272 = .ok (.iconst 1, 1) := by decide +kernel
theorem dL_law_273 : decode cL_law 273 = .ok (.iadd, 1) := by decide +kernel
theorem dL_law_274 : decode cL_law 274 = .ok (.iaload, 1) := by decide +kernel
theorem dL_law_275 : decode cL_law 275 = .ok (.invokevirtual 37, 3) := by decide +kernel
theorem dL_law_278 : decode cL_law 278 = .ok (.aload_n 2, 1) := by decide +kernel
theorem dL_law_279 : decode cL_law 279 = .ok (.aload_n 0, 1) := by decide +kernel
theorem dL_law_280 : decode cL_law 280 = .ok (.iload_n 3, 1) := by decide +kernel
theorem dL_law_281 : decode cL_law 281 = .ok (.iconst 1, 1) := by decide +kernel
theorem dL_law_282 : decode cL_law 282 = .ok (.iadd, 1) := by decide +kernel
theorem dL_law_283 : decode cL_law 283 = .ok (.iaload, 1) := by decide +kernel
theorem dL_law_284 : decode cL_law 284 = .ok (.invokevirtual 41, 3) := by decide +kernel
theorem dL_law_287 : decode cL_law 287 = .ok (.if_icmp .eq 159, 3) := by decide +kernel
theorem dL_law_290 : decode cL_law 290 = .ok (.iconst 0, 1) := by decide +kernel
theorem dL_law_291 : decode cL_law 291 = .ok (.ireturn, 1) := by decide +kernel
theorem dL_law_292 : decode cL_law 292 = .ok (.aload_n 1, 1) := by decide +kernel
theorem dL_law_293 : decode cL_law 293 = .ok (.aload_n 0, 1) := by decide +kernel
theorem dL_law_294 : decode cL_law 294 = .ok (.iload_n 3, 1) := by decide +kernel
theorem dL_law_295 : decode cL_law 295 = .ok (.iconst 1, 1) := by decide +kernel
theorem dL_law_296 : decode cL_law 296 = .ok (.iadd, 1) := by decide +kernel
theorem dL_law_297 : decode cL_law 297 = .ok (.iaload, 1) := by decide +kernel
theorem dL_law_298 : decode cL_law 298 = .ok (.invokevirtual 42, 3) := by decide +kernel
theorem dL_law_301 : decode cL_law 301 = .ok (.aload_n 2, 1) := by decide +kernel
theorem dL_law_302 : decode cL_law 302 = .ok (.aload_n 0, 1) := by decide +kernel
theorem dL_law_303 : decode cL_law 303 = .ok (.iload_n 3, 1) := by decide +kernel
theorem dL_law_304 : decode cL_law 304 = .ok (.iconst 1, 1) := by decide +kernel
theorem dL_law_305 : decode cL_law 305 = .ok (.iadd, 1) := by decide +kernel
theorem dL_law_306 : decode cL_law 306 = .ok (.iaload, 1) := by decide +kernel
theorem dL_law_307 : decode cL_law 307 = .ok (.invokevirtual 46, 3) := by decide +kernel
theorem dL_law_310 : decode cL_law 310 = .ok (.if_icmp .eq 136, 3) := by decide +kernel
theorem dL_law_313 : decode cL_law 313 = .ok (.iconst 0, 1) := by decide +kernel
theorem dL_law_314 : decode cL_law 314 = .ok (.ireturn, 1) := by decide +kernel
theorem dL_law_315 : decode cL_law 315 = .ok (.aload_n 1, 1) := by decide +kernel
theorem dL_law_316 : decode cL_law 316 = .ok (.invokevirtual 47, 3) := by decide +kernel
theorem dL_law_319 : decode cL_law 319 = .ok (.aload_n 2, 1) := by decide +kernel
theorem dL_law_320 : decode cL_law 320 = .ok (.invokevirtual 50, 3) := by decide +kernel
theorem dL_law_323 : decode cL_law 323 = .ok (.if_icmp .eq 123, 3) := by decide +kernel
theorem dL_law_326 : decode cL_law 326 = .ok (.iconst 0, 1) := by decide +kernel
theorem dL_law_327 : decode cL_law 327 = .ok (.ireturn, 1) := by decide +kernel
theorem dL_law_328 : decode cL_law 328 = .ok (.aload_n 1, 1) := by decide +kernel
theorem dL_law_329 : decode cL_law 329 = .ok (.aload_n 0, 1) := by decide +kernel
theorem dL_law_330 : decode cL_law 330 = .ok (.iload_n 3, 1) := by decide +kernel
theorem dL_law_331 : decode cL_law 331 = .ok (.iconst 1, 1) := by decide +kernel
theorem dL_law_332 : decode cL_law 332 = .ok (.iadd, 1) := by decide +kernel
theorem dL_law_333 : decode cL_law 333 = .ok (.iaload, 1) := by decide +kernel
theorem dL_law_334 : decode cL_law 334 = .ok (.invokevirtual 51, 3) := by decide +kernel
theorem dL_law_337 : decode cL_law 337 = .ok (.aload_n 2, 1) := by decide +kernel
theorem dL_law_338 : decode cL_law 338 = .ok (.aload_n 0, 1) := by decide +kernel
theorem dL_law_339 : decode cL_law 339 = .ok (.iload_n 3, 1) := by decide +kernel
theorem dL_law_340 : decode cL_law 340 = .ok (.iconst 1, 1) := by decide +kernel
theorem dL_law_341 : decode cL_law 341 = .ok (.iadd, 1) := by decide +kernel
theorem dL_law_342 : decode cL_law 342 = .ok (.iaload, 1) := by decide +kernel
theorem dL_law_343 : decode cL_law 343 = .ok (.invokevirtual 54, 3) := by decide +kernel
theorem dL_law_346 : decode cL_law 346 = .ok (.if_icmp .eq 100, 3) := by decide +kernel
theorem dL_law_349 : decode cL_law 349 = .ok (.iconst 0, 1) := by decide +kernel
theorem dL_law_350 : decode cL_law 350 = .ok (.ireturn, 1) := by decide +kernel
theorem dL_law_351 : decode cL_law 351 = .ok (.aload_n 1, 1) := by decide +kernel
theorem dL_law_352 : decode cL_law 352 = .ok (.aload_n 0, 1) := by decide +kernel
theorem dL_law_353 : decode cL_law 353 = .ok (.iload_n 3, 1) := by decide +kernel
theorem dL_law_354 : decode cL_law 354 = .ok (.iconst 1, 1) := by decide +kernel
theorem dL_law_355 : decode cL_law 355 = .ok (.iadd, 1) := by decide +kernel
theorem dL_law_356 : decode cL_law 356 = .ok (.iaload, 1) := by decide +kernel
theorem dL_law_357 : decode cL_law 357 = .ok (.aload_n 0, 1) := by decide +kernel
theorem dL_law_358 : decode cL_law 358 = .ok (.iload_n 3, 1) := by decide +kernel
theorem dL_law_359 : decode cL_law 359 = .ok (.iconst 2, 1) := by decide +kernel
theorem dL_law_360 : decode cL_law 360 = .ok (.iadd, 1) := by decide +kernel
theorem dL_law_361 : decode cL_law 361 = .ok (.iaload, 1) := by decide +kernel
theorem dL_law_362 : decode cL_law 362 = .ok (.invokevirtual 55, 3) := by decide +kernel
theorem dL_law_365 : decode cL_law 365 = .ok (.aload_n 2, 1) := by decide +kernel
theorem dL_law_366 : decode cL_law 366 = .ok (.aload_n 0, 1) := by decide +kernel
theorem dL_law_367 : decode cL_law 367 = .ok (.iload_n 3, 1) := by decide +kernel
theorem dL_law_368 : decode cL_law 368 = .ok (.iconst 1, 1) := by decide +kernel
theorem dL_law_369 : decode cL_law 369 = .ok (.iadd, 1) := by decide +kernel
theorem dL_law_370 : decode cL_law 370 = .ok (.iaload, 1) := by decide +kernel
theorem dL_law_371 : decode cL_law 371 = .ok (.aload_n 0, 1) := by decide +kernel
theorem dL_law_372 : decode cL_law 372 = .ok (.iload_n 3, 1) := by decide +kernel
theorem dL_law_373 : decode cL_law 373 = .ok (.iconst 2, 1) := by decide +kernel
theorem dL_law_374 : decode cL_law 374 = .ok (.iadd, 1) := by decide +kernel
theorem dL_law_375 : decode cL_law 375 = .ok (.iaload, 1) := by decide +kernel
theorem dL_law_376 : decode cL_law 376 = .ok (.invokevirtual 58, 3) := by decide +kernel
theorem dL_law_379 : decode cL_law 379 = .ok (.if_icmp .eq 67, 3) := by decide +kernel
theorem dL_law_382 : decode cL_law 382 = .ok (.iconst 0, 1) := by decide +kernel
theorem dL_law_383 : decode cL_law 383 = .ok (.ireturn, 1) := by decide +kernel
theorem dL_law_384 : decode cL_law 384 = .ok (.aload_n 1, 1) := by decide +kernel
theorem dL_law_385 : decode cL_law 385 = .ok (.invokevirtual 59, 3) := by decide +kernel
theorem dL_law_388 : decode cL_law 388 = .ok (.aload_n 2, 1) := by decide +kernel
theorem dL_law_389 : decode cL_law 389 = .ok (.invokevirtual 62, 3) := by decide +kernel
theorem dL_law_392 : decode cL_law 392 = .ok (.if_icmp .eq 54, 3) := by decide +kernel
theorem dL_law_395 : decode cL_law 395 = .ok (.iconst 0, 1) := by decide +kernel
theorem dL_law_396 : decode cL_law 396 = .ok (.ireturn, 1) := by decide +kernel
theorem dL_law_397 : decode cL_law 397 = .ok (.aload_n 1, 1) := by decide +kernel
theorem dL_law_398 : decode cL_law 398 = .ok (.aload_n 0, 1) := by decide +kernel
theorem dL_law_399 : decode cL_law 399 = .ok (.iload_n 3, 1) := by decide +kernel
theorem dL_law_400 : decode cL_law 400 = .ok (.iconst 1, 1) := by decide +kernel
theorem dL_law_401 : decode cL_law 401 = .ok (.iadd, 1) := by decide +kernel
theorem dL_law_402 : decode cL_law 402 = .ok (.iaload, 1) := by decide +kernel
theorem dL_law_403 : decode cL_law 403 = .ok (.invokevirtual 63, 3) := by decide +kernel
theorem dL_law_406 : decode cL_law 406 = .ok (.aload_n 2, 1) := by decide +kernel
theorem dL_law_407 : decode cL_law 407 = .ok (.aload_n 0, 1) := by decide +kernel
theorem dL_law_408 : decode cL_law 408 = .ok (.iload_n 3, 1) := by decide +kernel
theorem dL_law_409 : decode cL_law 409 = .ok (.iconst 1, 1) := by decide +kernel
theorem dL_law_410 : decode cL_law 410 = .ok (.iadd, 1) := by decide +kernel
theorem dL_law_411 : decode cL_law 411 = .ok (.iaload, 1) := by decide +kernel
theorem dL_law_412 : decode cL_law 412 = .ok (.invokevirtual 66, 3) := by decide +kernel
theorem dL_law_415 : decode cL_law 415 = .ok (.if_icmp .eq 31, 3) := by decide +kernel
theorem dL_law_418 : decode cL_law 418 = .ok (.iconst 0, 1) := by decide +kernel
theorem dL_law_419 : decode cL_law 419 = .ok (.ireturn, 1) := by decide +kernel
theorem dL_law_420 : decode cL_law 420 = .ok (.aload_n 1, 1) := by decide +kernel
theorem dL_law_421 : decode cL_law 421 = .ok (.invokevirtual 67, 3) := by decide +kernel
theorem dL_law_424 : decode cL_law 424 = .ok (.aload_n 2, 1) := by decide +kernel
theorem dL_law_425 : decode cL_law 425 = .ok (.invokevirtual 70, 3) := by decide +kernel
theorem dL_law_428 : decode cL_law 428 = .ok (.if_icmp .eq 18, 3) := by decide +kernel
theorem dL_law_431 : decode cL_law 431 = .ok (.iconst 0, 1) := by decide +kernel
theorem dL_law_432 : decode cL_law 432 = .ok (.ireturn, 1) := by decide +kernel
theorem dL_law_433 : decode cL_law 433 = .ok (.aload_n 1, 1) := by decide +kernel
theorem dL_law_434 : decode cL_law 434 = .ok (.invokevirtual 71, 3) := by decide +kernel
theorem dL_law_437 : decode cL_law 437 = .ok (.aload_n 2, 1) := by decide +kernel
theorem dL_law_438 : decode cL_law 438 = .ok (.invokevirtual 74, 3) := by decide +kernel
theorem dL_law_441 : decode cL_law 441 = .ok (.if_icmp .eq 5, 3) := by decide +kernel
theorem dL_law_444 : decode cL_law 444 = .ok (.iconst 0, 1) := by decide +kernel
theorem dL_law_445 : decode cL_law 445 = .ok (.ireturn, 1) := by decide +kernel
theorem dL_law_446 : decode cL_law 446 = .ok (.iinc 3 4, 3) := by decide +kernel
theorem dL_law_449 : decode cL_law 449 = .ok (.goto (-431), 3) := by decide +kernel
theorem dL_law_452 : decode cL_law 452 = .ok (.iconst 1, 1) := by decide +kernel
theorem dL_law_453 : decode cL_law 453 = .ok (.ireturn, 1) := by decide +kernel
theorem q17 : (Jvm.Cond.initialized "WalkerPlanLaw") ∈ lw_all := lw_g (lw_at lw_m1 0 rfl) rfl
set_option maxRecDepth 100000
theorem q20 : (Jvm.Cond.classLink "WalkerPlanLaw" (7 : Nat) "WalkerPlan") ∈ lw_all := lw_g (lw_at lw_m1 3 rfl) rfl
theorem q22 : (Jvm.Cond.methodLink "WalkerPlanLaw" (9 : Nat) ({ cls := "WalkerPlan", name := "<init>", desc := "()V" } : Jvm.MethodName)) ∈ lw_all := lw_g (lw_at lw_m1 5 rfl) rfl
theorem q68 : (Jvm.Cond.methodLink "WalkerPlanLaw" (13 : Nat) ({ cls := "WalkerPlan", name := "mark", desc := "(II)Z" } : Jvm.MethodName)) ∈ lw_all := lw_g (lw_at lw_m1 51 rfl) rfl
theorem q75 : (Jvm.Cond.methodLink "WalkerPlanLaw" (18 : Nat) ({ cls := "WalkerPlan", name := "join", desc := "(III)Z" } : Jvm.MethodName)) ∈ lw_all := lw_g (lw_at lw_m1 58 rfl) rfl
theorem q90 : (Jvm.Cond.methodLink "WalkerPlanLaw" (23 : Nat) ({ cls := "WalkerPlan", name := "cut", desc := "(III)Z" } : Jvm.MethodName)) ∈ lw_all := lw_g (lw_at lw_m1 73 rfl) rfl
theorem q94 : (Jvm.Cond.methodLink "WalkerPlanLaw" (27 : Nat) ({ cls := "WalkerPlan", name := "add", desc := "(II)I" } : Jvm.MethodName)) ∈ lw_all := lw_g (lw_at lw_m1 77 rfl) rfl
theorem q98 : (Jvm.Cond.methodLink "WalkerPlanLaw" (32 : Nat) ({ cls := "WalkerPlan", name := "drop", desc := "()I" } : Jvm.MethodName)) ∈ lw_all := lw_g (lw_at lw_m1 81 rfl) rfl
theorem q102 : (Jvm.Cond.methodLink "WalkerPlanLaw" (37 : Nat) ({ cls := "WalkerPlan", name := "from", desc := "(I)Z" } : Jvm.MethodName)) ∈ lw_all := lw_g (lw_at lw_m1 85 rfl) rfl
theorem q106 : (Jvm.Cond.methodLink "WalkerPlanLaw" (42 : Nat) ({ cls := "WalkerPlan", name := "at", desc := "(I)I" } : Jvm.MethodName)) ∈ lw_all := lw_g (lw_at lw_m1 89 rfl) rfl
theorem q142 : (Jvm.Cond.methodLink "WalkerPlanLaw" (47 : Nat) ({ cls := "WalkerPlan", name := "walkers", desc := "()I" } : Jvm.MethodName)) ∈ lw_all := lw_g (lw_at lw_m1 125 rfl) rfl
theorem q146 : (Jvm.Cond.methodLink "WalkerPlanLaw" (51 : Nat) ({ cls := "WalkerPlan", name := "after", desc := "(I)I" } : Jvm.MethodName)) ∈ lw_all := lw_g (lw_at lw_m1 129 rfl) rfl
theorem q150 : (Jvm.Cond.methodLink "WalkerPlanLaw" (55 : Nat) ({ cls := "WalkerPlan", name := "between", desc := "(II)I" } : Jvm.MethodName)) ∈ lw_all := lw_g (lw_at lw_m1 133 rfl) rfl
theorem q154 : (Jvm.Cond.methodLink "WalkerPlanLaw" (59 : Nat) ({ cls := "WalkerPlan", name := "reached", desc := "()I" } : Jvm.MethodName)) ∈ lw_all := lw_g (lw_at lw_m1 137 rfl) rfl
theorem q159 : (Jvm.Cond.methodLink "WalkerPlanLaw" (63 : Nat) ({ cls := "WalkerPlan", name := "startsAt", desc := "(I)I" } : Jvm.MethodName)) ∈ lw_all := lw_g (lw_at lw_m1 142 rfl) rfl
theorem q164 : (Jvm.Cond.methodLink "WalkerPlanLaw" (67 : Nat) ({ cls := "WalkerPlan", name := "diesAfter", desc := "()I" } : Jvm.MethodName)) ∈ lw_all := lw_g (lw_at lw_m1 147 rfl) rfl
theorem q168 : (Jvm.Cond.methodLink "WalkerPlanLaw" (71 : Nat) ({ cls := "WalkerPlan", name := "edges", desc := "()I" } : Jvm.MethodName)) ∈ lw_all := lw_g (lw_at lw_m1 151 rfl) rfl
theorem q172 : (Jvm.Cond.classLink "WalkerPlanLaw" (10 : Nat) "WalkerPlanModel") ∈ lw_all := lw_g (lw_at lw_m1 155 rfl) rfl
theorem q174 : (Jvm.Cond.methodLink "WalkerPlanLaw" (12 : Nat) ({ cls := "WalkerPlanModel", name := "<init>", desc := "()V" } : Jvm.MethodName)) ∈ lw_all := lw_g (lw_at lw_m1 157 rfl) rfl
theorem q212 : (Jvm.Cond.methodLink "WalkerPlanLaw" (17 : Nat) ({ cls := "WalkerPlanModel", name := "mark", desc := "(II)Z" } : Jvm.MethodName)) ∈ lw_all := lw_g (lw_at lw_m1 195 rfl) rfl
theorem q220 : (Jvm.Cond.methodLink "WalkerPlanLaw" (22 : Nat) ({ cls := "WalkerPlanModel", name := "join", desc := "(III)Z" } : Jvm.MethodName)) ∈ lw_all := lw_g (lw_at lw_m1 203 rfl) rfl
theorem q228 : (Jvm.Cond.methodLink "WalkerPlanLaw" (26 : Nat) ({ cls := "WalkerPlanModel", name := "cut", desc := "(III)Z" } : Jvm.MethodName)) ∈ lw_all := lw_g (lw_at lw_m1 211 rfl) rfl
theorem q232 : (Jvm.Cond.methodLink "WalkerPlanLaw" (31 : Nat) ({ cls := "WalkerPlanModel", name := "add", desc := "(II)I" } : Jvm.MethodName)) ∈ lw_all := lw_g (lw_at lw_m1 215 rfl) rfl
theorem q236 : (Jvm.Cond.methodLink "WalkerPlanLaw" (36 : Nat) ({ cls := "WalkerPlanModel", name := "drop", desc := "()I" } : Jvm.MethodName)) ∈ lw_all := lw_g (lw_at lw_m1 219 rfl) rfl
theorem q240 : (Jvm.Cond.methodLink "WalkerPlanLaw" (41 : Nat) ({ cls := "WalkerPlanModel", name := "from", desc := "(I)Z" } : Jvm.MethodName)) ∈ lw_all := lw_g (lw_at lw_m1 223 rfl) rfl
theorem q244 : (Jvm.Cond.methodLink "WalkerPlanLaw" (46 : Nat) ({ cls := "WalkerPlanModel", name := "at", desc := "(I)I" } : Jvm.MethodName)) ∈ lw_all := lw_g (lw_at lw_m1 227 rfl) rfl
theorem q268 : (Jvm.Cond.methodLink "WalkerPlanLaw" (50 : Nat) ({ cls := "WalkerPlanModel", name := "walkers", desc := "()I" } : Jvm.MethodName)) ∈ lw_all := lw_g (lw_at lw_m2 11 rfl) rfl
theorem q276 : (Jvm.Cond.methodLink "WalkerPlanLaw" (54 : Nat) ({ cls := "WalkerPlanModel", name := "after", desc := "(I)I" } : Jvm.MethodName)) ∈ lw_all := lw_g (lw_at lw_m2 19 rfl) rfl
theorem q277 : (Jvm.Cond.methodLink "WalkerPlanLaw" (58 : Nat) ({ cls := "WalkerPlanModel", name := "between", desc := "(II)I" } : Jvm.MethodName)) ∈ lw_all := lw_g (lw_at lw_m2 20 rfl) rfl
theorem q281 : (Jvm.Cond.methodLink "WalkerPlanLaw" (62 : Nat) ({ cls := "WalkerPlanModel", name := "reached", desc := "()I" } : Jvm.MethodName)) ∈ lw_all := lw_g (lw_at lw_m2 24 rfl) rfl
theorem q285 : (Jvm.Cond.methodLink "WalkerPlanLaw" (66 : Nat) ({ cls := "WalkerPlanModel", name := "startsAt", desc := "(I)I" } : Jvm.MethodName)) ∈ lw_all := lw_g (lw_at lw_m2 28 rfl) rfl
theorem q289 : (Jvm.Cond.methodLink "WalkerPlanLaw" (70 : Nat) ({ cls := "WalkerPlanModel", name := "diesAfter", desc := "()I" } : Jvm.MethodName)) ∈ lw_all := lw_g (lw_at lw_m2 32 rfl) rfl
theorem q293 : (Jvm.Cond.methodLink "WalkerPlanLaw" (74 : Nat) ({ cls := "WalkerPlanModel", name := "edges", desc := "()I" } : Jvm.MethodName)) ∈ lw_all := lw_g (lw_at lw_m2 36 rfl) rfl
theorem q65 : (Jvm.Cond.arrayClass Jvm.ClassFile.FieldType.byte) ∈ lw_all := lw_g (lw_at lw_m1 48 rfl) rfl
set_option maxRecDepth 100000
theorem q66 : (Jvm.Cond.arrayClass Jvm.ClassFile.FieldType.short) ∈ lw_all := lw_g (lw_at lw_m1 49 rfl) rfl
theorem q67 : (Jvm.Cond.arrayClass Jvm.ClassFile.FieldType.int) ∈ lw_all := lw_g (lw_at lw_m1 50 rfl) rfl
end
section
/-! rows of instructions over naturals (nI), the shapes of the contracts, calls -/
set_option maxRecDepth 100000
def wq_it {α : Type} (f : Nat → α → α) : Nat → α → α
  | 0, x => x
  | n + 1, x => f n (wq_it f n x)
def wq_up (f : Nat → Nat) (k x : Nat) : Nat → Nat := fun j => if j = k then x else f j
def wq_A (f : Nat → Nat) : Nat → Int32 := fun j => nI (f j)
theorem wq_A_up (f : Nat → Nat) (k x : Nat) (h : k < 2 ^ 31) : upd (wq_A f) (nI k).toNatClampNeg (nI x) = wq_A (wq_up f k x) := by
  rw [nI_clamp h]
  funext j
  unfold upd wq_A wq_up
  split <;> rfl
theorem wq_A_at (f : Nat → Nat) (k : Nat) (h : k < 2 ^ 31) : wq_A f (nI k).toNatClampNeg = nI (f k) := by
  rw [nI_clamp h]
  rfl
theorem wq_toNat (n : Nat) : (nI n).toBitVec.toNat = n % 2 ^ 32 := BitVec.toNat_ofNat n 32
theorem wq_or (a b : Nat) : nI a ||| nI b = nI (a ||| b) := by
  apply Int32.toBitVec_inj.mp
  apply BitVec.eq_of_toNat_eq
  rw [Int32.toBitVec_or, BitVec.toNat_or, wq_toNat, wq_toNat, wq_toNat, Nat.or_mod_two_pow]
theorem wq_xor (a b : Nat) : nI a ^^^ nI b = nI (a ^^^ b) := by
  apply Int32.toBitVec_inj.mp
  apply BitVec.eq_of_toNat_eq
  rw [Int32.toBitVec_xor, BitVec.toNat_xor, wq_toNat, wq_toNat, wq_toNat, Nat.xor_mod_two_pow]
theorem wq_cnt : ∀ n, n < 32 → ((nI n &&& 31).toBitVec.smod 32).toNat = n := by decide +kernel
theorem wq_shr {a b : Nat} (ha : a < 2 ^ 31) (hb : b < 32) : nI a >>> (nI b &&& 31) = nI (a / 2 ^ b) := pk_shrN ha _ b (wq_cnt b hb)
theorem wq_shl {b : Nat} (hb : b < 31) : nI 1 <<< (nI b &&& 31) = nI (2 ^ b) := by
  have h : 2 ^ b < 2 ^ 31 := Nat.pow_lt_pow_right (by decide) hb
  rw [pk_shlN _ b (wq_cnt b (by omega)) (by rw [Nat.one_mul]; omega), Nat.one_mul]
theorem wq_and1 {a : Nat} (ha : a < 2 ^ 31) : nI a &&& nI 1 = nI (a % 2) := pk_andN (by omega) 1 (by decide)
theorem wq_i2b : ∀ n, n < 128 → (nI n).toInt8.toInt32 = nI n := by decide +kernel
theorem wq_i2s {n : Nat} (h : n < 32768) : (nI n).toInt16.toInt32 = nI n := by
  apply Int32.toInt_inj.mp
  rw [Int16.toInt_toInt32, Int32.toInt_toInt16, nI_toInt (by omega)]
  exact Int.bmod_eq_of_le (by omega) (by omega)
theorem wq_narb {n : Nat} (h : n < 128) : vp_nar .byte (nI n) = nI n := by rw [vp_nar_byte, wq_i2b n h]
theorem wq_nars {n : Nat} (h : n < 32768) : vp_nar .short (nI n) = nI n := by rw [vp_nar_short, wq_i2s h]
theorem wq_eq0 {a : Nat} (ha : a < 2 ^ 31) : nI a = 0 ↔ a = 0 := nI_eq (b := 0) ha (by decide)
theorem wq_lt0 {a : Nat} (ha : a < 2 ^ 31) : 0 < nI a ↔ 0 < a := nI_ltI (a := 0) (by decide) ha
theorem wq_le0 {a : Nat} (ha : a < 2 ^ 31) : nI a ≤ 0 ↔ a = 0 := (nI_leI (b := 0) ha (by decide)).trans (by omega)
section
variable {p : Program} {l : Launch} {e : Env} {R : Room} {s : State} {m : MethodId} {args : Array Value} {below : List Frame} {meth : Method} {c : Code} {H : Heap} {locs : List Loc} {cells slots : Nat} {Q : State → Prop}
variable {cc : ByteArray} {pc nL : Nat} {ls : Array Slot} {rest : List Value} {Ts : List Cond} {own : String}
theorem wq_iadd (F : CallFix p m c cc nL s args Ts own) {a b : Nat}  (hdg : decode cc pc = .ok (.iadd, 1)) (k : W p l e R s m args below meth c H locs cells slots Q (F0 m (pc + 1) ls (.int (nI (a + b)) :: rest))) : W p l e R s m args below meth c H locs cells slots Q (F0 m pc ls (.int (nI b) :: .int (nI a) :: rest)) :=
  lv_iadd F.1 F.2.1 hdg (by rw [nI_add]; exact k)
theorem wq_imul (F : CallFix p m c cc nL s args Ts own) {a b : Nat}  (hdg : decode cc pc = .ok (.imul, 1)) (k : W p l e R s m args below meth c H locs cells slots Q (F0 m (pc + 1) ls (.int (nI (a * b)) :: rest))) : W p l e R s m args below meth c H locs cells slots Q (F0 m pc ls (.int (nI b) :: .int (nI a) :: rest)) :=
  lv_imul F.1 F.2.1 hdg (by rw [pk_mul]; exact k)
theorem wq_isub (F : CallFix p m c cc nL s args Ts own) {a b : Nat} (h : b ≤ a) (hdg : decode cc pc = .ok (.isub, 1)) (k : W p l e R s m args below meth c H locs cells slots Q (F0 m (pc + 1) ls (.int (nI (a - b)) :: rest))) : W p l e R s m args below meth c H locs cells slots Q (F0 m pc ls (.int (nI b) :: .int (nI a) :: rest)) :=
  lv_isub F.1 F.2.1 hdg (by rw [pk_sub h]; exact k)
theorem wq_ior (F : CallFix p m c cc nL s args Ts own) {a b : Nat}  (hdg : decode cc pc = .ok (.ior, 1)) (k : W p l e R s m args below meth c H locs cells slots Q (F0 m (pc + 1) ls (.int (nI (a ||| b)) :: rest))) : W p l e R s m args below meth c H locs cells slots Q (F0 m pc ls (.int (nI b) :: .int (nI a) :: rest)) :=
  lv_ior F.1 F.2.1 hdg (by rw [wq_or]; exact k)
theorem wq_ixor (F : CallFix p m c cc nL s args Ts own) {a b : Nat}  (hdg : decode cc pc = .ok (.ixor, 1)) (k : W p l e R s m args below meth c H locs cells slots Q (F0 m (pc + 1) ls (.int (nI (a ^^^ b)) :: rest))) : W p l e R s m args below meth c H locs cells slots Q (F0 m pc ls (.int (nI b) :: .int (nI a) :: rest)) :=
  lv_ixor F.1 F.2.1 hdg (by rw [wq_xor]; exact k)
theorem wq_idiv (F : CallFix p m c cc nL s args Ts own) {a b : Nat} (ha : a < 2 ^ 31) (h0 : 0 < b) (hb : b < 2 ^ 31) (hdg : decode cc pc = .ok (.idiv, 1)) (k : W p l e R s m args below meth c H locs cells slots Q (F0 m (pc + 1) ls (.int (nI (a / b)) :: rest))) : W p l e R s m args below meth c H locs cells slots Q (F0 m pc ls (.int (nI b) :: .int (nI a) :: rest)) :=
  lv_idiv F.1 F.2.1 hdg (fun q => absurd ((wq_eq0 hb).mp q) (Nat.ne_of_gt h0)) (by rw [pk_div ha h0 hb]; exact k)
theorem wq_irem (F : CallFix p m c cc nL s args Ts own) {a b : Nat} (ha : a < 2 ^ 31) (h0 : 0 < b) (hb : b < 2 ^ 31) (hdg : decode cc pc = .ok (.irem, 1)) (k : W p l e R s m args below meth c H locs cells slots Q (F0 m (pc + 1) ls (.int (nI (a % b)) :: rest))) : W p l e R s m args below meth c H locs cells slots Q (F0 m pc ls (.int (nI b) :: .int (nI a) :: rest)) :=
  lv_irem F.1 F.2.1 hdg (fun q => absurd ((wq_eq0 hb).mp q) (Nat.ne_of_gt h0)) (by rw [pk_rem ha h0 hb]; exact k)
theorem wq_ishr (F : CallFix p m c cc nL s args Ts own) {a b : Nat} (ha : a < 2 ^ 31) (hb : b < 32) (hdg : decode cc pc = .ok (.ishr, 1)) (k : W p l e R s m args below meth c H locs cells slots Q (F0 m (pc + 1) ls (.int (nI (a / 2 ^ b)) :: rest))) : W p l e R s m args below meth c H locs cells slots Q (F0 m pc ls (.int (nI b) :: .int (nI a) :: rest)) :=
  lv_ishr F.1 F.2.1 hdg (by rw [wq_shr ha hb]; exact k)
theorem wq_ishl1 (F : CallFix p m c cc nL s args Ts own) {b : Nat} (hb : b < 31) (hdg : decode cc pc = .ok (.ishl, 1)) (k : W p l e R s m args below meth c H locs cells slots Q (F0 m (pc + 1) ls (.int (nI (2 ^ b)) :: rest))) : W p l e R s m args below meth c H locs cells slots Q (F0 m pc ls (.int (nI b) :: .int (nI 1) :: rest)) :=
  lv_ishl F.1 F.2.1 hdg (by rw [wq_shl hb]; exact k)
theorem wq_iand1 (F : CallFix p m c cc nL s args Ts own) {a : Nat} (ha : a < 2 ^ 31) (hdg : decode cc pc = .ok (.iand, 1)) (k : W p l e R s m args below meth c H locs cells slots Q (F0 m (pc + 1) ls (.int (nI (a % 2)) :: rest))) : W p l e R s m args below meth c H locs cells slots Q (F0 m pc ls (.int (nI 1) :: .int (nI a) :: rest)) :=
  lv_iand F.1 F.2.1 hdg (by rw [wq_and1 ha]; exact k)
theorem wq_i2bN (F : CallFix p m c cc nL s args Ts own) {a : Nat} (ha : a < 128) (hdg : decode cc pc = .ok (.i2b, 1)) (k : W p l e R s m args below meth c H locs cells slots Q (F0 m (pc + 1) ls (.int (nI a) :: rest))) : W p l e R s m args below meth c H locs cells slots Q (F0 m pc ls (.int (nI a) :: rest)) :=
  lv_i2b F.1 F.2.1 hdg (wq_i2b a ha) k
theorem wq_i2sN (F : CallFix p m c cc nL s args Ts own) {a : Nat} (ha : a < 32768) (hdg : decode cc pc = .ok (.i2s, 1)) (k : W p l e R s m args below meth c H locs cells slots Q (F0 m (pc + 1) ls (.int (nI a) :: rest))) : W p l e R s m args below meth c H locs cells slots Q (F0 m pc ls (.int (nI a) :: rest)) :=
  lv_i2s F.1 F.2.1 hdg (wq_i2s ha) k
theorem wq_iconst (F : CallFix p m c cc nL s args Ts own) {n : Int} (v : Nat) (hdg : decode cc pc = .ok (.iconst n, 1)) (hv : Int32.ofInt n = nI v) (k : W p l e R s m args below meth c H locs cells slots Q (F0 m (pc + 1) ls (.int (nI v) :: rest))) : W p l e R s m args below meth c H locs cells slots Q (F0 m pc ls rest) :=
  lv_iconst F.1 F.2.1 hdg hv k
theorem wq_bipush (F : CallFix p m c cc nL s args Ts own) {n : Int} (v : Nat) (hdg : decode cc pc = .ok (.bipush n, 2)) (hv : (Int8.ofInt n).toInt32 = nI v) (k : W p l e R s m args below meth c H locs cells slots Q (F0 m (pc + 2) ls (.int (nI v) :: rest))) : W p l e R s m args below meth c H locs cells slots Q (F0 m pc ls rest) :=
  lv_bipush F.1 F.2.1 hdg hv k
theorem wq_sipush (F : CallFix p m c cc nL s args Ts own) {n : Int} (v : Nat) (hdg : decode cc pc = .ok (.sipush n, 3)) (hv : (Int16.ofInt n).toInt32 = nI v) (k : W p l e R s m args below meth c H locs cells slots Q (F0 m (pc + 3) ls (.int (nI v) :: rest))) : W p l e R s m args below meth c H locs cells slots Q (F0 m pc ls rest) :=
  lv_sipush F.1 F.2.1 hdg hv k
/-- the top of the stack by another name -/
theorem wq_top {x y : Int32} (h : x = y) (k : W p l e R s m args below meth c H locs cells slots Q (F0 m pc ls (.int y :: rest))) : W p l e R s m args below meth c H locs cells slots Q (F0 m pc ls (.int x :: rest)) := h ▸ k
theorem wq_icmp_eq (F : CallFix p m c cc nL s args Ts own) {a b : Nat} {off : Int} {tgt : Nat} (ha : a < 2 ^ 31) (hb : b < 2 ^ 31) (hdg : decode cc pc = .ok (.if_icmp .eq off, 3)) (ht : (pc : Int) + off = (tgt : Int)) (kt : a = b → W p l e R s m args below meth c H locs cells slots Q (F0 m tgt ls rest)) (kf : ¬ a = b → W p l e R s m args below meth c H locs cells slots Q (F0 m (pc + 3) ls rest)) : W p l e R s m args below meth c H locs cells slots Q (F0 m pc ls (.int (nI b) :: .int (nI a) :: rest)) :=
  lv_icmp_eq F.1 F.2.1 hdg ht (fun h => kt ((nI_eq ha hb).mp h)) (fun h => kf (fun q => h ((nI_eq ha hb).mpr q)))
theorem wq_icmp_lt (F : CallFix p m c cc nL s args Ts own) {a b : Nat} {off : Int} {tgt : Nat} (ha : a < 2 ^ 31) (hb : b < 2 ^ 31) (hdg : decode cc pc = .ok (.if_icmp .lt off, 3)) (ht : (pc : Int) + off = (tgt : Int)) (kt : a < b → W p l e R s m args below meth c H locs cells slots Q (F0 m tgt ls rest)) (kf : b ≤ a → W p l e R s m args below meth c H locs cells slots Q (F0 m (pc + 3) ls rest)) : W p l e R s m args below meth c H locs cells slots Q (F0 m pc ls (.int (nI b) :: .int (nI a) :: rest)) :=
  lv_icmp_lt F.1 F.2.1 hdg ht (fun h => kt ((nI_ltI ha hb).mp h)) (fun h => kf (by have : ¬ (a < b) := fun q => h ((nI_ltI ha hb).mpr q); omega))
theorem wq_icmp_ge (F : CallFix p m c cc nL s args Ts own) {a b : Nat} {off : Int} {tgt : Nat} (ha : a < 2 ^ 31) (hb : b < 2 ^ 31) (hdg : decode cc pc = .ok (.if_icmp .ge off, 3)) (ht : (pc : Int) + off = (tgt : Int)) (kt : b ≤ a → W p l e R s m args below meth c H locs cells slots Q (F0 m tgt ls rest)) (kf : a < b → W p l e R s m args below meth c H locs cells slots Q (F0 m (pc + 3) ls rest)) : W p l e R s m args below meth c H locs cells slots Q (F0 m pc ls (.int (nI b) :: .int (nI a) :: rest)) :=
  lv_icmp_ge F.1 F.2.1 hdg ht (fun h => kt ((nI_leI hb ha).mp h)) (fun h => kf (by have : ¬ (b ≤ a) := fun q => h ((nI_leI hb ha).mpr q); omega))
theorem wq_icmp_gt (F : CallFix p m c cc nL s args Ts own) {a b : Nat} {off : Int} {tgt : Nat} (ha : a < 2 ^ 31) (hb : b < 2 ^ 31) (hdg : decode cc pc = .ok (.if_icmp .gt off, 3)) (ht : (pc : Int) + off = (tgt : Int)) (kt : b < a → W p l e R s m args below meth c H locs cells slots Q (F0 m tgt ls rest)) (kf : a ≤ b → W p l e R s m args below meth c H locs cells slots Q (F0 m (pc + 3) ls rest)) : W p l e R s m args below meth c H locs cells slots Q (F0 m pc ls (.int (nI b) :: .int (nI a) :: rest)) :=
  lv_icmp_gt F.1 F.2.1 hdg ht (fun h => kt ((nI_ltI hb ha).mp h)) (fun h => kf (by have : ¬ (b < a) := fun q => h ((nI_ltI hb ha).mpr q); omega))
theorem wq_icmp_le (F : CallFix p m c cc nL s args Ts own) {a b : Nat} {off : Int} {tgt : Nat} (ha : a < 2 ^ 31) (hb : b < 2 ^ 31) (hdg : decode cc pc = .ok (.if_icmp .le off, 3)) (ht : (pc : Int) + off = (tgt : Int)) (kt : a ≤ b → W p l e R s m args below meth c H locs cells slots Q (F0 m tgt ls rest)) (kf : b < a → W p l e R s m args below meth c H locs cells slots Q (F0 m (pc + 3) ls rest)) : W p l e R s m args below meth c H locs cells slots Q (F0 m pc ls (.int (nI b) :: .int (nI a) :: rest)) :=
  lv_icmp_le F.1 F.2.1 hdg ht (fun h => kt ((nI_leI ha hb).mp h)) (fun h => kf (by have : ¬ (a ≤ b) := fun q => h ((nI_leI ha hb).mpr q); omega))
theorem wq_icmp_ne (F : CallFix p m c cc nL s args Ts own) {a b : Nat} {off : Int} {tgt : Nat} (ha : a < 2 ^ 31) (hb : b < 2 ^ 31) (hdg : decode cc pc = .ok (.if_icmp .ne off, 3)) (ht : (pc : Int) + off = (tgt : Int)) (kt : ¬ a = b → W p l e R s m args below meth c H locs cells slots Q (F0 m tgt ls rest)) (kf : a = b → W p l e R s m args below meth c H locs cells slots Q (F0 m (pc + 3) ls rest)) : W p l e R s m args below meth c H locs cells slots Q (F0 m pc ls (.int (nI b) :: .int (nI a) :: rest)) :=
  lv_icmp_ne F.1 F.2.1 hdg ht (fun h => kt (fun q => h ((nI_eq ha hb).mpr q))) (fun h => kf ((nI_eq ha hb).mp h))
theorem wq_if_eq (F : CallFix p m c cc nL s args Ts own) {a : Nat} {off : Int} {tgt : Nat} (ha : a < 2 ^ 31) (hdg : decode cc pc = .ok (.ifCond .eq off, 3)) (ht : (pc : Int) + off = (tgt : Int)) (kt : a = 0 → W p l e R s m args below meth c H locs cells slots Q (F0 m tgt ls rest)) (kf : ¬ a = 0 → W p l e R s m args below meth c H locs cells slots Q (F0 m (pc + 3) ls rest)) : W p l e R s m args below meth c H locs cells slots Q (F0 m pc ls (.int (nI a) :: rest)) :=
  lv_if_eq F.1 F.2.1 hdg ht (fun h => kt ((wq_eq0 ha).mp h)) (fun h => kf (fun q => h ((wq_eq0 ha).mpr q)))
theorem wq_if_ne (F : CallFix p m c cc nL s args Ts own) {a : Nat} {off : Int} {tgt : Nat} (ha : a < 2 ^ 31) (hdg : decode cc pc = .ok (.ifCond .ne off, 3)) (ht : (pc : Int) + off = (tgt : Int)) (kt : ¬ a = 0 → W p l e R s m args below meth c H locs cells slots Q (F0 m tgt ls rest)) (kf : a = 0 → W p l e R s m args below meth c H locs cells slots Q (F0 m (pc + 3) ls rest)) : W p l e R s m args below meth c H locs cells slots Q (F0 m pc ls (.int (nI a) :: rest)) :=
  lv_if_ne F.1 F.2.1 hdg ht (fun h => kt (fun q => h ((wq_eq0 ha).mpr q))) (fun h => kf ((wq_eq0 ha).mp h))
theorem wq_if_lt (F : CallFix p m c cc nL s args Ts own) {a : Nat} {off : Int} {tgt : Nat} (ha : a < 2 ^ 31) (hdg : decode cc pc = .ok (.ifCond .lt off, 3)) (ht : (pc : Int) + off = (tgt : Int)) (kt : False → W p l e R s m args below meth c H locs cells slots Q (F0 m tgt ls rest)) (kf : True → W p l e R s m args below meth c H locs cells slots Q (F0 m (pc + 3) ls rest)) : W p l e R s m args below meth c H locs cells slots Q (F0 m pc ls (.int (nI a) :: rest)) :=
  lv_if_lt F.1 F.2.1 hdg ht (fun h => absurd h (nI_pos ha)) (fun h => kf trivial)
theorem wq_if_ge (F : CallFix p m c cc nL s args Ts own) {a : Nat} {off : Int} {tgt : Nat} (ha : a < 2 ^ 31) (hdg : decode cc pc = .ok (.ifCond .ge off, 3)) (ht : (pc : Int) + off = (tgt : Int)) (kt : True → W p l e R s m args below meth c H locs cells slots Q (F0 m tgt ls rest)) (kf : False → W p l e R s m args below meth c H locs cells slots Q (F0 m (pc + 3) ls rest)) : W p l e R s m args below meth c H locs cells slots Q (F0 m pc ls (.int (nI a) :: rest)) :=
  lv_if_ge F.1 F.2.1 hdg ht (fun h => kt trivial) (fun h => absurd (nI_pos' ha) h)
theorem wq_if_gt (F : CallFix p m c cc nL s args Ts own) {a : Nat} {off : Int} {tgt : Nat} (ha : a < 2 ^ 31) (hdg : decode cc pc = .ok (.ifCond .gt off, 3)) (ht : (pc : Int) + off = (tgt : Int)) (kt : 0 < a → W p l e R s m args below meth c H locs cells slots Q (F0 m tgt ls rest)) (kf : a = 0 → W p l e R s m args below meth c H locs cells slots Q (F0 m (pc + 3) ls rest)) : W p l e R s m args below meth c H locs cells slots Q (F0 m pc ls (.int (nI a) :: rest)) :=
  lv_if_gt F.1 F.2.1 hdg ht (fun h => kt ((wq_lt0 ha).mp h)) (fun h => kf (by have : ¬ 0 < a := fun q => h ((wq_lt0 ha).mpr q); omega))
theorem wq_if_le (F : CallFix p m c cc nL s args Ts own) {a : Nat} {off : Int} {tgt : Nat} (ha : a < 2 ^ 31) (hdg : decode cc pc = .ok (.ifCond .le off, 3)) (ht : (pc : Int) + off = (tgt : Int)) (kt : a = 0 → W p l e R s m args below meth c H locs cells slots Q (F0 m tgt ls rest)) (kf : 0 < a → W p l e R s m args below meth c H locs cells slots Q (F0 m (pc + 3) ls rest)) : W p l e R s m args below meth c H locs cells slots Q (F0 m pc ls (.int (nI a) :: rest)) :=
  lv_if_le F.1 F.2.1 hdg ht (fun h => kt ((wq_le0 ha).mp h)) (fun h => kf (by have : ¬ a = 0 := fun q => h ((wq_le0 ha).mpr q); omega))
theorem wr_icmp_eq (F : CallFix p m c cc nL s args Ts own) {x y : Int32} {xa ya : Int} {off : Int} {tgt : Nat} (hx : x.toInt = xa) (hy : y.toInt = ya) (hdg : decode cc pc = .ok (.if_icmp .eq off, 3)) (ht : (pc : Int) + off = (tgt : Int)) (kt : xa = ya → W p l e R s m args below meth c H locs cells slots Q (F0 m tgt ls rest)) (kf : ¬ xa = ya → W p l e R s m args below meth c H locs cells slots Q (F0 m (pc + 3) ls rest)) : W p l e R s m args below meth c H locs cells slots Q (F0 m pc ls (.int y :: .int x :: rest)) := by
  subst hx; subst hy
  exact lv_icmp_eq F.1 F.2.1 hdg ht (fun h => kt (Int32.toInt_inj.mpr h)) (fun h => kf (fun q => h (Int32.toInt_inj.mp q)))
theorem wr_icmp_lt (F : CallFix p m c cc nL s args Ts own) {x y : Int32} {xa ya : Int} {off : Int} {tgt : Nat} (hx : x.toInt = xa) (hy : y.toInt = ya) (hdg : decode cc pc = .ok (.if_icmp .lt off, 3)) (ht : (pc : Int) + off = (tgt : Int)) (kt : xa < ya → W p l e R s m args below meth c H locs cells slots Q (F0 m tgt ls rest)) (kf : ya ≤ xa → W p l e R s m args below meth c H locs cells slots Q (F0 m (pc + 3) ls rest)) : W p l e R s m args below meth c H locs cells slots Q (F0 m pc ls (.int y :: .int x :: rest)) := by
  subst hx; subst hy
  exact lv_icmp_lt F.1 F.2.1 hdg ht (fun h => kt (Int32.lt_iff_toInt_lt.symm.mpr h)) (fun h => kf (by have : ¬ (x.toInt < y.toInt) := fun q => h (Int32.lt_iff_toInt_lt.symm.mp q); omega))
theorem wr_icmp_ge (F : CallFix p m c cc nL s args Ts own) {x y : Int32} {xa ya : Int} {off : Int} {tgt : Nat} (hx : x.toInt = xa) (hy : y.toInt = ya) (hdg : decode cc pc = .ok (.if_icmp .ge off, 3)) (ht : (pc : Int) + off = (tgt : Int)) (kt : ya ≤ xa → W p l e R s m args below meth c H locs cells slots Q (F0 m tgt ls rest)) (kf : xa < ya → W p l e R s m args below meth c H locs cells slots Q (F0 m (pc + 3) ls rest)) : W p l e R s m args below meth c H locs cells slots Q (F0 m pc ls (.int y :: .int x :: rest)) := by
  subst hx; subst hy
  exact lv_icmp_ge F.1 F.2.1 hdg ht (fun h => kt (Int32.le_iff_toInt_le.symm.mpr h)) (fun h => kf (by have : ¬ (y.toInt ≤ x.toInt) := fun q => h (Int32.le_iff_toInt_le.symm.mp q); omega))
theorem wr_icmp_gt (F : CallFix p m c cc nL s args Ts own) {x y : Int32} {xa ya : Int} {off : Int} {tgt : Nat} (hx : x.toInt = xa) (hy : y.toInt = ya) (hdg : decode cc pc = .ok (.if_icmp .gt off, 3)) (ht : (pc : Int) + off = (tgt : Int)) (kt : ya < xa → W p l e R s m args below meth c H locs cells slots Q (F0 m tgt ls rest)) (kf : xa ≤ ya → W p l e R s m args below meth c H locs cells slots Q (F0 m (pc + 3) ls rest)) : W p l e R s m args below meth c H locs cells slots Q (F0 m pc ls (.int y :: .int x :: rest)) := by
  subst hx; subst hy
  exact lv_icmp_gt F.1 F.2.1 hdg ht (fun h => kt (Int32.lt_iff_toInt_lt.symm.mpr h)) (fun h => kf (by have : ¬ (y.toInt < x.toInt) := fun q => h (Int32.lt_iff_toInt_lt.symm.mp q); omega))
theorem wr_icmp_le (F : CallFix p m c cc nL s args Ts own) {x y : Int32} {xa ya : Int} {off : Int} {tgt : Nat} (hx : x.toInt = xa) (hy : y.toInt = ya) (hdg : decode cc pc = .ok (.if_icmp .le off, 3)) (ht : (pc : Int) + off = (tgt : Int)) (kt : xa ≤ ya → W p l e R s m args below meth c H locs cells slots Q (F0 m tgt ls rest)) (kf : ya < xa → W p l e R s m args below meth c H locs cells slots Q (F0 m (pc + 3) ls rest)) : W p l e R s m args below meth c H locs cells slots Q (F0 m pc ls (.int y :: .int x :: rest)) := by
  subst hx; subst hy
  exact lv_icmp_le F.1 F.2.1 hdg ht (fun h => kt (Int32.le_iff_toInt_le.symm.mpr h)) (fun h => kf (by have : ¬ (x.toInt ≤ y.toInt) := fun q => h (Int32.le_iff_toInt_le.symm.mp q); omega))
theorem wr_icmp_ne (F : CallFix p m c cc nL s args Ts own) {x y : Int32} {xa ya : Int} {off : Int} {tgt : Nat} (hx : x.toInt = xa) (hy : y.toInt = ya) (hdg : decode cc pc = .ok (.if_icmp .ne off, 3)) (ht : (pc : Int) + off = (tgt : Int)) (kt : ¬ xa = ya → W p l e R s m args below meth c H locs cells slots Q (F0 m tgt ls rest)) (kf : xa = ya → W p l e R s m args below meth c H locs cells slots Q (F0 m (pc + 3) ls rest)) : W p l e R s m args below meth c H locs cells slots Q (F0 m pc ls (.int y :: .int x :: rest)) := by
  subst hx; subst hy
  exact lv_icmp_ne F.1 F.2.1 hdg ht (fun h => kt (fun q => h (Int32.toInt_inj.mp q))) (fun h => kf (by rw [h]))
theorem wr_z : (0 : Int32).toInt = 0 := rfl
theorem wr_if_eq (F : CallFix p m c cc nL s args Ts own) {x : Int32} {off : Int} {tgt : Nat} (hdg : decode cc pc = .ok (.ifCond .eq off, 3)) (ht : (pc : Int) + off = (tgt : Int)) (kt : x.toInt = 0 → W p l e R s m args below meth c H locs cells slots Q (F0 m tgt ls rest)) (kf : ¬ x.toInt = 0 → W p l e R s m args below meth c H locs cells slots Q (F0 m (pc + 3) ls rest)) : W p l e R s m args below meth c H locs cells slots Q (F0 m pc ls (.int x :: rest)) :=
  lv_if_eq F.1 F.2.1 hdg ht (fun h => kt (by rw [h]; rfl)) (fun h => kf (fun q => h (Int32.toInt_inj.mp q)))
theorem wr_if_ne (F : CallFix p m c cc nL s args Ts own) {x : Int32} {off : Int} {tgt : Nat} (hdg : decode cc pc = .ok (.ifCond .ne off, 3)) (ht : (pc : Int) + off = (tgt : Int)) (kt : ¬ x.toInt = 0 → W p l e R s m args below meth c H locs cells slots Q (F0 m tgt ls rest)) (kf : x.toInt = 0 → W p l e R s m args below meth c H locs cells slots Q (F0 m (pc + 3) ls rest)) : W p l e R s m args below meth c H locs cells slots Q (F0 m pc ls (.int x :: rest)) :=
  lv_if_ne F.1 F.2.1 hdg ht (fun h => kt (fun q => h (Int32.toInt_inj.mp q))) (fun h => kf (by rw [h]; rfl))
theorem wr_if_lt (F : CallFix p m c cc nL s args Ts own) {x : Int32} {off : Int} {tgt : Nat} (hdg : decode cc pc = .ok (.ifCond .lt off, 3)) (ht : (pc : Int) + off = (tgt : Int)) (kt : x.toInt < 0 → W p l e R s m args below meth c H locs cells slots Q (F0 m tgt ls rest)) (kf : 0 ≤ x.toInt → W p l e R s m args below meth c H locs cells slots Q (F0 m (pc + 3) ls rest)) : W p l e R s m args below meth c H locs cells slots Q (F0 m pc ls (.int x :: rest)) :=
  lv_if_lt F.1 F.2.1 hdg ht (fun h => kt (by have q := Int32.lt_iff_toInt_lt.mp h; rw [wr_z] at q; exact q)) (fun h => kf (by have q : ¬ (x.toInt < 0) := fun q => h (Int32.lt_iff_toInt_lt.mpr (by rw [wr_z]; exact q)); omega))
theorem wr_if_ge (F : CallFix p m c cc nL s args Ts own) {x : Int32} {off : Int} {tgt : Nat} (hdg : decode cc pc = .ok (.ifCond .ge off, 3)) (ht : (pc : Int) + off = (tgt : Int)) (kt : 0 ≤ x.toInt → W p l e R s m args below meth c H locs cells slots Q (F0 m tgt ls rest)) (kf : x.toInt < 0 → W p l e R s m args below meth c H locs cells slots Q (F0 m (pc + 3) ls rest)) : W p l e R s m args below meth c H locs cells slots Q (F0 m pc ls (.int x :: rest)) :=
  lv_if_ge F.1 F.2.1 hdg ht (fun h => kt (by have q := Int32.le_iff_toInt_le.mp h; rw [wr_z] at q; exact q)) (fun h => kf (by have q : ¬ (0 ≤ x.toInt) := fun q => h (Int32.le_iff_toInt_le.mpr (by rw [wr_z]; exact q)); omega))
theorem wr_if_gt (F : CallFix p m c cc nL s args Ts own) {x : Int32} {off : Int} {tgt : Nat} (hdg : decode cc pc = .ok (.ifCond .gt off, 3)) (ht : (pc : Int) + off = (tgt : Int)) (kt : 0 < x.toInt → W p l e R s m args below meth c H locs cells slots Q (F0 m tgt ls rest)) (kf : x.toInt ≤ 0 → W p l e R s m args below meth c H locs cells slots Q (F0 m (pc + 3) ls rest)) : W p l e R s m args below meth c H locs cells slots Q (F0 m pc ls (.int x :: rest)) :=
  lv_if_gt F.1 F.2.1 hdg ht (fun h => kt (by have q := Int32.lt_iff_toInt_lt.mp h; rw [wr_z] at q; exact q)) (fun h => kf (by have q : ¬ (0 < x.toInt) := fun q => h (Int32.lt_iff_toInt_lt.mpr (by rw [wr_z]; exact q)); omega))
theorem wr_if_le (F : CallFix p m c cc nL s args Ts own) {x : Int32} {off : Int} {tgt : Nat} (hdg : decode cc pc = .ok (.ifCond .le off, 3)) (ht : (pc : Int) + off = (tgt : Int)) (kt : x.toInt ≤ 0 → W p l e R s m args below meth c H locs cells slots Q (F0 m tgt ls rest)) (kf : 0 < x.toInt → W p l e R s m args below meth c H locs cells slots Q (F0 m (pc + 3) ls rest)) : W p l e R s m args below meth c H locs cells slots Q (F0 m pc ls (.int x :: rest)) :=
  lv_if_le F.1 F.2.1 hdg ht (fun h => kt (by have q := Int32.le_iff_toInt_le.mp h; rw [wr_z] at q; exact q)) (fun h => kf (by have q : ¬ (x.toInt ≤ 0) := fun q => h (Int32.le_iff_toInt_le.mpr (by rw [wr_z]; exact q)); omega))
variable {D : va_G} {cl : List vw_C} {A : Nat → Prop} {a : Nat} {tys : List (ClassId × FieldType)} {ws : va_W} {H0 : Heap}
theorem wq_iald (F : CallFix p m c cc nL s args Ts own) (hK : va_K D cl tys s) (hP : va_P D cl ws H) (q0 t0 : Nat) {cA : ClassId} {n : Nat} {f : Nat → Nat} (ha : ws[q0]? = some (a, .inl (cA, n, .inl (wq_A f)))) (ht : tys[t0]? = some (cA, .int)) {i : Nat} (hi : i < n) (hn : n < 1000) (hdg : decode cc pc = .ok (.iaload, 1)) (kk : W p l e R s m args below meth c H locs cells slots Q (F0 m (pc + 1) ls (.int (nI (f i)) :: rest))) : W p l e R s m args below meth c H locs cells slots Q (F0 m pc ls (.int (nI i) :: .ref a :: rest)) :=
  va_iald F.1 F.2.1 hK hP q0 t0 ha ht (vp_in_nI hi (by omega)) hdg (by rw [wq_A_at f i (by omega)]; exact kk)
theorem wq_bald (F : CallFix p m c cc nL s args Ts own) (hK : va_K D cl tys s) (hP : va_P D cl ws H) (q0 t0 : Nat) {cA : ClassId} {n : Nat} {f : Nat → Nat} (ha : ws[q0]? = some (a, .inl (cA, n, .inl (wq_A f)))) (ht : tys[t0]? = some (cA, .byte)) {i : Nat} (hi : i < n) (hn : n < 1000) (hdg : decode cc pc = .ok (.baload, 1)) (kk : W p l e R s m args below meth c H locs cells slots Q (F0 m (pc + 1) ls (.int (nI (f i)) :: rest))) : W p l e R s m args below meth c H locs cells slots Q (F0 m pc ls (.int (nI i) :: .ref a :: rest)) :=
  va_bald F.1 F.2.1 hK hP q0 t0 ha ht (vp_in_nI hi (by omega)) hdg (by rw [wq_A_at f i (by omega)]; exact kk)
theorem wq_sald (F : CallFix p m c cc nL s args Ts own) (hK : va_K D cl tys s) (hP : va_P D cl ws H) (q0 t0 : Nat) {cA : ClassId} {n : Nat} {f : Nat → Nat} (ha : ws[q0]? = some (a, .inl (cA, n, .inl (wq_A f)))) (ht : tys[t0]? = some (cA, .short)) {i : Nat} (hi : i < n) (hn : n < 1000) (hdg : decode cc pc = .ok (.saload, 1)) (kk : W p l e R s m args below meth c H locs cells slots Q (F0 m (pc + 1) ls (.int (nI (f i)) :: rest))) : W p l e R s m args below meth c H locs cells slots Q (F0 m pc ls (.int (nI i) :: .ref a :: rest)) :=
  va_sald F.1 F.2.1 hK hP q0 t0 ha ht (vp_in_nI hi (by omega)) hdg (by rw [wq_A_at f i (by omega)]; exact kk)
theorem wr_iald (F : CallFix p m c cc nL s args Ts own) (hK : va_K D cl tys s) (hP : va_P D cl ws H) (q0 t0 : Nat) {cA : ClassId} {n : Nat} {f : Nat → Int32} (ha : ws[q0]? = some (a, .inl (cA, n, .inl f))) (ht : tys[t0]? = some (cA, .int)) {i : Nat} (hi : i < n) (hn : n < 1000) (hdg : decode cc pc = .ok (.iaload, 1)) (kk : W p l e R s m args below meth c H locs cells slots Q (F0 m (pc + 1) ls (.int (f i) :: rest))) : W p l e R s m args below meth c H locs cells slots Q (F0 m pc ls (.int (nI i) :: .ref a :: rest)) :=
  va_iald F.1 F.2.1 hK hP q0 t0 ha ht (vp_in_nI hi (by omega)) hdg (by rw [nI_clamp (show i < 2 ^ 31 by omega)]; exact kk)
theorem wq_iast (F : CallFix p m c cc nL s args Ts own) (hK : va_K D cl tys s) (hP : va_P D cl ws H) (hD : va_D A ws) (hS : va_S A H0 H locs) (q0 t0 : Nat) {cA : ClassId} {n : Nat} {f : Nat → Nat} (ha : ws[q0]? = some (a, .inl (cA, n, .inl (wq_A f)))) (ht : tys[t0]? = some (cA, .int)) {i x : Nat} (hi : i < n) (hn : n < 1000) (hdg : decode cc pc = .ok (.iastore, 1)) {ws' : va_W} (hw : ws.set q0 (a, .inl (cA, n, .inl (wq_A (wq_up f i x)))) = ws') (kk : ∀ (H1 : Heap) (locs1 : List Loc), va_P D cl ws' H1 → va_D A ws' → va_S A H0 H1 locs1 → W p l e R s m args below meth c H1 locs1 cells slots Q (F0 m (pc + 1) ls rest)) : W p l e R s m args below meth c H locs cells slots Q (F0 m pc ls (.int (nI x) :: .int (nI i) :: .ref a :: rest)) := by
  subst hw
  refine va_iast F.1 F.2.1 hK hP hD hS q0 t0 ha ht (vp_in_nI hi (by omega)) hdg (fun H1 locs1 h1 h2 h3 => ?_)
  rw [wq_A_up f i x (by omega)] at h1 h2
  exact kk H1 locs1 h1 h2 h3
theorem wq_bast (F : CallFix p m c cc nL s args Ts own) (hK : va_K D cl tys s) (hP : va_P D cl ws H) (hD : va_D A ws) (hS : va_S A H0 H locs) (q0 t0 : Nat) {cA : ClassId} {n : Nat} {f : Nat → Nat} (ha : ws[q0]? = some (a, .inl (cA, n, .inl (wq_A f)))) (ht : tys[t0]? = some (cA, .byte)) {i x : Nat} (hi : i < n) (hn : n < 1000) (hx : x < 128) (hdg : decode cc pc = .ok (.bastore, 1)) {ws' : va_W} (hw : ws.set q0 (a, .inl (cA, n, .inl (wq_A (wq_up f i x)))) = ws') (kk : ∀ (H1 : Heap) (locs1 : List Loc), va_P D cl ws' H1 → va_D A ws' → va_S A H0 H1 locs1 → W p l e R s m args below meth c H1 locs1 cells slots Q (F0 m (pc + 1) ls rest)) : W p l e R s m args below meth c H locs cells slots Q (F0 m pc ls (.int (nI x) :: .int (nI i) :: .ref a :: rest)) := by
  subst hw
  refine va_bast F.1 F.2.1 hK hP hD hS q0 t0 ha ht (vp_in_nI hi (by omega)) hdg (fun H1 locs1 h1 h2 h3 => ?_)
  rw [wq_narb hx, wq_A_up f i x (by omega)] at h1 h2
  exact kk H1 locs1 h1 h2 h3
theorem wq_sast (F : CallFix p m c cc nL s args Ts own) (hK : va_K D cl tys s) (hP : va_P D cl ws H) (hD : va_D A ws) (hS : va_S A H0 H locs) (q0 t0 : Nat) {cA : ClassId} {n : Nat} {f : Nat → Nat} (ha : ws[q0]? = some (a, .inl (cA, n, .inl (wq_A f)))) (ht : tys[t0]? = some (cA, .short)) {i x : Nat} (hi : i < n) (hn : n < 1000) (hx : x < 32768) (hdg : decode cc pc = .ok (.sastore, 1)) {ws' : va_W} (hw : ws.set q0 (a, .inl (cA, n, .inl (wq_A (wq_up f i x)))) = ws') (kk : ∀ (H1 : Heap) (locs1 : List Loc), va_P D cl ws' H1 → va_D A ws' → va_S A H0 H1 locs1 → W p l e R s m args below meth c H1 locs1 cells slots Q (F0 m (pc + 1) ls rest)) : W p l e R s m args below meth c H locs cells slots Q (F0 m pc ls (.int (nI x) :: .int (nI i) :: .ref a :: rest)) := by
  subst hw
  refine va_sast F.1 F.2.1 hK hP hD hS q0 t0 ha ht (vp_in_nI hi (by omega)) hdg (fun H1 locs1 h1 h2 h3 => ?_)
  rw [wq_nars hx, wq_A_up f i x (by omega)] at h1 h2
  exact kk H1 locs1 h1 h2 h3
theorem wr_iast (F : CallFix p m c cc nL s args Ts own) (hK : va_K D cl tys s) (hP : va_P D cl ws H) (hD : va_D A ws) (hS : va_S A H0 H locs) (q0 t0 : Nat) {cA : ClassId} {n : Nat} {f : Nat → Int32} (ha : ws[q0]? = some (a, .inl (cA, n, .inl f))) (ht : tys[t0]? = some (cA, .int)) {i : Nat} {x : Int32} (hi : i < n) (hn : n < 1000) (hdg : decode cc pc = .ok (.iastore, 1)) {ws' : va_W} (hw : ws.set q0 (a, .inl (cA, n, .inl (upd f i x))) = ws') (kk : ∀ (H1 : Heap) (locs1 : List Loc), va_P D cl ws' H1 → va_D A ws' → va_S A H0 H1 locs1 → W p l e R s m args below meth c H1 locs1 cells slots Q (F0 m (pc + 1) ls rest)) : W p l e R s m args below meth c H locs cells slots Q (F0 m pc ls (.int x :: .int (nI i) :: .ref a :: rest)) := by
  subst hw
  refine va_iast F.1 F.2.1 hK hP hD hS q0 t0 ha ht (vp_in_nI hi (by omega)) hdg (fun H1 locs1 h1 h2 h3 => ?_)
  rw [nI_clamp (show i < 2 ^ 31 by omega)] at h1 h2
  exact kk H1 locs1 h1 h2 h3
end
/-! the shapes of the contracts -/
/-- a world of cells, its classes and array classes, apart and within A -/
def wq_B (D : va_G) (cl : List vw_C) (tys : List (ClassId × FieldType)) (A : Nat → Prop) (ws : va_W) (t : State) : Prop := va_P D cl ws t.heap ∧ va_K D cl tys t ∧ va_D A ws
def wq_Pc (D : va_G) (cl : List vw_C) (tys : List (ClassId × FieldType)) (av : List Value) (ws : va_W) (sz : Nat) : Array Value → State → Prop := va_Pc av (fun U => U.heap.size = sz ∧ va_P D cl ws U.heap ∧ va_K D cl tys U ∧ va_D (fun _ => True) ws)
def wq_QV (D : va_G) (cl : List vw_C) (tys : List (ClassId × FieldType)) (A : Nat → Prop) (ws : va_W) : Array Value → State → Outcome → State → Prop := va_Qv (fun _ : Unit => True) (fun _ t => wq_B D cl tys A ws t) A
def wq_QI (D : va_G) (cl : List vw_C) (tys : List (ClassId × FieldType)) (A : Nat → Prop) (r0 : Int32) (ws : va_W) : Array Value → State → Outcome → State → Prop := va_Qi (fun (r : Int32) (_ : Unit) => r = r0) (fun _ t => wq_B D cl tys A ws t) A
/-- y, called with av where the world is ws, returns, and the world is ws2 -/
def CtV (l : Launch) (D : va_G) (cl : List vw_C) (tys : List (ClassId × FieldType)) (y : MethodName) (cc : ByteArray) (nL : Nat) (rm : Room) (av : List Value) (ws ws2 : va_W) : Prop := ∀ sz : Nat, Met l y (ws_ y cc nL none) rm (wq_Pc D cl tys av ws sz) (wq_QV D cl tys (va_A ws sz) ws2) 0 0 (va_A ws sz)
/-- y, called with av where the world is ws, answers r0, and the world is ws2 -/
def CtI (l : Launch) (D : va_G) (cl : List vw_C) (tys : List (ClassId × FieldType)) (y : MethodName) (cc : ByteArray) (nL : Nat) (ty : FieldType) (rm : Room) (av : List Value) (ws : va_W) (r0 : Int32) (ws2 : va_W) : Prop := ∀ sz : Nat, Met l y (ws_ y cc nL (some ty)) rm (wq_Pc D cl tys av ws sz) (wq_QI D cl tys (va_A ws sz) r0 ws2) 0 0 (va_A ws sz)
theorem wq_blind {D : va_G} {cl : List vw_C} {tys : List (ClassId × FieldType)} {av : List Value} {ws : va_W} {sz : Nat} : FrameBlind (wq_Pc D cl tys av ws sz) := fun a U g mk q => by
  obtain ⟨q0, q1, qP, qK, qD⟩ := q
  exact ⟨q0, q1, qP, va_K.moved (u := U) (U := U.calling g mk a) (Vm.Alike.refl U.vm) qK, qD⟩
theorem CtV.of {l : Launch} {D : va_G} {cl : List vw_C} {tys : List (ClassId × FieldType)} {y : MethodName} {cc : ByteArray} {nL : Nat} {rm : Room} {av : List Value} {ws ws2 : va_W} (own : String) (hy : y.cls = own) (hpl : plainName y.cls = true) (hlen : (lg_sl av).length ≤ nL)
    (body : ∀ (p : Program) (e : Env) (s : State) (m : MethodId) (below : List Frame) (meth : Method) (c : Code) (A : Nat → Prop) (ls : Array Slot), CallFix p m c cc nL s av.toArray lw_all own → meth.sig.returnType = none → meth.locks = false → va_K D cl tys s → (∀ q, s.heap.size ≤ q → A q) → va_P D cl ws s.heap → va_D A ws → va_S A s.heap s.heap [] → lv_has ls nL (lv_args 0 av) →
      W p l e rm s m av.toArray below meth c s.heap [] 0 0 (MQ below (wq_QV D cl tys A ws2) av.toArray s 0 0 A) (F0 m 0 ls [])) : CtV l D cl tys y cc nL rm av ws ws2 := by
  intro sz
  refine Met.ofW (cc := cc) (maxL := nL) (ret := none) hpl rfl ?_
  intro p e s m args below meth c s₁ B hml hv
  obtain ⟨rfl, hsz, hP, hK, hD0⟩ := hv
  have hts0 := atoms_spec (ws := ws_ y cc nL none) B.pre
  have hts : ∀ w ∈ lw_all, w.before _ s = true := fun w h => hts0 w (List.mem_cons_of_mem _ h)
  have hown : s.vm.findClass own = some m.cls := by
    rw [← hy]
    exact findClass_of_methodNamed B.named
  subst hsz
  rw [lg_entry_eq]
  exact body p e s m below meth c (va_A ws s.heap.size) _ ⟨B.exec, B.bytes, hml, hown, hts⟩ B.returns B.notSynchronized hK (fun q h => Or.inr h) hP hD0.self va_S.rf (lv_entry av hlen)
theorem CtI.of {l : Launch} {D : va_G} {cl : List vw_C} {tys : List (ClassId × FieldType)} {y : MethodName} {cc : ByteArray} {nL : Nat} {ty : FieldType} {r0 : Int32} {rm : Room} {av : List Value} {ws ws2 : va_W} (own : String) (hy : y.cls = own) (hpl : plainName y.cls = true) (hlen : (lg_sl av).length ≤ nL)
    (body : ∀ (p : Program) (e : Env) (s : State) (m : MethodId) (below : List Frame) (meth : Method) (c : Code) (A : Nat → Prop) (ls : Array Slot), CallFix p m c cc nL s av.toArray lw_all own → meth.sig.returnType = (some ty) → meth.locks = false → va_K D cl tys s → (∀ q, s.heap.size ≤ q → A q) → va_P D cl ws s.heap → va_D A ws → va_S A s.heap s.heap [] → lv_has ls nL (lv_args 0 av) →
      W p l e rm s m av.toArray below meth c s.heap [] 0 0 (MQ below (wq_QI D cl tys A r0 ws2) av.toArray s 0 0 A) (F0 m 0 ls [])) : CtI l D cl tys y cc nL ty rm av ws r0 ws2 := by
  intro sz
  refine Met.ofW (cc := cc) (maxL := nL) (ret := (some ty)) hpl rfl ?_
  intro p e s m args below meth c s₁ B hml hv
  obtain ⟨rfl, hsz, hP, hK, hD0⟩ := hv
  have hts0 := atoms_spec (ws := ws_ y cc nL (some ty)) B.pre
  have hts : ∀ w ∈ lw_all, w.before _ s = true := fun w h => hts0 w (List.mem_cons_of_mem _ h)
  have hown : s.vm.findClass own = some m.cls := by
    rw [← hy]
    exact findClass_of_methodNamed B.named
  subst hsz
  rw [lg_entry_eq]
  exact body p e s m below meth c (va_A ws s.heap.size) _ ⟨B.exec, B.bytes, hml, hown, hts⟩ B.returns B.notSynchronized hK (fun q h => Or.inr h) hP hD0.self va_S.rf (lv_entry av hlen)
section
variable {p : Program} {l : Launch} {e : Env} {R : Room} {s : State} {m : MethodId} {args : Array Value} {below : List Frame} {meth : Method} {c : Code} {H : Heap} {locs : List Loc} {cells slots : Nat} {Q : State → Prop}
variable {cc : ByteArray} {pc nL : Nat} {ls : Array Slot} {rest : List Value} {Ts : List Cond} {own : String}
variable {D : va_G} {cl : List vw_C} {A : Nat → Prop} {a : Nat} {tys : List (ClassId × FieldType)} {ws ws2 : va_W}
theorem wq_vret (F : CallFix p m c cc nL s args Ts own) (hr : meth.sig.returnType = none) (hlocks : meth.locks = false) (hK : va_K D cl tys s) (hP : va_P D cl ws2 H) (hD : va_D A ws2) (hS : va_S A s.heap H locs) (hdg : decode cc pc = .ok (.return_, 1)) : W p l e R s m args below meth c H locs 0 0 (MQ below (wq_QV D cl tys A ws2) args s 0 0 A) (F0 m pc ls []) :=
  W.vret F.1 F.2.1 hr (fun t ht hW => ⟨⟨(), rfl, trivial, by rw [ht]; exact hP, va_K.moved hW.alike hK, hD⟩, hS.F ht⟩) hS.2.2 hdg hlocks
theorem wq_zret (F : CallFix p m c cc nL s args Ts own) {ty : FieldType} {v r0 : Int32} (hr : meth.sig.returnType = some ty) (hlocks : meth.locks = false) (hn : narrow ty (.int v) = .int v) (hv : v = r0) (hK : va_K D cl tys s) (hP : va_P D cl ws2 H) (hD : va_D A ws2) (hS : va_S A s.heap H locs) (hdg : decode cc pc = .ok (.ireturn, 1)) : W p l e R s m args below meth c H locs 0 0 (MQ below (wq_QI D cl tys A r0 ws2) args s 0 0 A) (F0 m pc ls [.int v]) :=
  W.zret F.1 F.2.1 hr hn (fun t ht hW => ⟨⟨v, (), rfl, hv, by rw [ht]; exact hP, va_K.moved hW.alike hK, hD⟩, hS.F ht⟩) hS.2.2 hdg hlocks
theorem wq_iret (F : CallFix p m c cc nL s args Ts own) {v r0 : Int32} (hr : meth.sig.returnType = some .int) (hlocks : meth.locks = false) (hv : v = r0) (hK : va_K D cl tys s) (hP : va_P D cl ws2 H) (hD : va_D A ws2) (hS : va_S A s.heap H locs) (hdg : decode cc pc = .ok (.ireturn, 1)) : W p l e R s m args below meth c H locs 0 0 (MQ below (wq_QI D cl tys A r0 ws2) args s 0 0 A) (F0 m pc ls [.int v]) :=
  W.iret F.1 F.2.1 hr (fun t ht hW => ⟨⟨v, (), rfl, hv, by rw [ht]; exact hP, va_K.moved hW.alike hK, hD⟩, hS.F ht⟩) hS.2.2 hdg hlocks
theorem wq_free (hD : va_D A ws) (hS : va_S A s.heap H locs) (hA : ∀ q, s.heap.size ≤ q → A q) : ∀ q, va_A ws H.size q → A q := by
  intro q h
  rcases h with ⟨k, x, h⟩ | h
  · exact hD.2 k (q, x) h
  · exact hA q (Nat.le_trans hS.1 h)
theorem wq_callVv (F : CallFix p m c cc nL s args lw_all own) {y : MethodName} {bytes : ByteArray} {maxL n index : Nat} {rm : Room} {As : List Value} {C : String} {T : u_T} {N ci b : Nat} {fs : List Value} (hc : cl[ci]? = some (C, T, N)) (he : ws[0]? = some (b, .inr (ci, fs))) (hM : CtV l D cl tys y bytes maxL rm (.ref b :: As) ws ws2) (cw : CallW R s args own C index y bytes maxL none (ws_ y bytes maxL none) rm 0 0 n) (hn : As.length = n) (hK : va_K D cl tys s) (hP : va_P D cl ws H) (hD : va_D A ws) (hS : va_S A s.heap H locs) (hA : ∀ q, s.heap.size ≤ q → A q) (hsize : ls.size = nL) {st : List Value} (hst : st = As.reverse ++ .ref b :: rest) (hW : (rest.map fun v => v.category).sum ≤ 8) (hdg : decode cc pc = .ok (.invokevirtual index, 3)) (hf : cells + 0 ≤ R.cells ∧ slots + 0 ≤ R.slots)
    (kk : ∀ (H1 : Heap) (locs1 : List Loc), va_P D cl ws2 H1 → va_D A ws2 → va_S A s.heap H1 locs1 → W p l e R s m args below meth c H1 locs1 cells slots Q (F0 m (pc + 3) ls rest)) : W p l e R s m args below meth c H locs cells slots Q (F0 m pc ls st) := by
  have hFc := wq_free (H := H) hD hS hA
  refine va_callv (va_runV (As := As) (rest := rest) F (hM H.size) cw ⟨wq_blind, va_recv hK hP hc he, fun U hU hW => ⟨rfl, by rw [hU], by rw [hU]; exact hP, va_K.moved hW.alike hK, hD.weaken (fun _ _ _ _ => trivial)⟩⟩ rfl hn hsize hst (lv_room hW) hdg hf) hS (fun q _ h => hFc q h) hFc (fun u t H1 locs1 ht hvm hw hB hz1 hk1 hS1 => ?_)
  obtain ⟨hP1, hK1, hD1⟩ := hB
  rw [ht] at hP1
  exact kk H1 locs1 hP1 (hD1.weaken (fun k q _ h => hFc q.1 h)) hS1
theorem wq_callVs (F : CallFix p m c cc nL s args lw_all own) {y : MethodName} {bytes : ByteArray} {maxL n index : Nat} {rm : Room} {As : List Value} (hM : CtV l D cl tys y bytes maxL rm As ws ws2) (cw : CallB R s args own index y bytes maxL none (ws_ y bytes maxL none) rm 0 0 n ∧ (Cond.static y).before args s = true) (hn : As.length = n) (hK : va_K D cl tys s) (hP : va_P D cl ws H) (hD : va_D A ws) (hS : va_S A s.heap H locs) (hA : ∀ q, s.heap.size ≤ q → A q) (hsize : ls.size = nL) {st : List Value} (hst : st = As.reverse ++ rest) (hW : (rest.map fun v => v.category).sum ≤ 8) (hdg : decode cc pc = .ok (.invokestatic index, 3)) (hf : cells + 0 ≤ R.cells ∧ slots + 0 ≤ R.slots)
    (kk : ∀ (H1 : Heap) (locs1 : List Loc), va_P D cl ws2 H1 → va_D A ws2 → va_S A s.heap H1 locs1 → W p l e R s m args below meth c H1 locs1 cells slots Q (F0 m (pc + 3) ls rest)) : W p l e R s m args below meth c H locs cells slots Q (F0 m pc ls st) := by
  have hFc := wq_free (H := H) hD hS hA
  refine va_callv (va_runS (As := As) (rest := rest) F (hM H.size) cw ⟨wq_blind, fun U hU hW => ⟨rfl, by rw [hU], by rw [hU]; exact hP, va_K.moved hW.alike hK, hD.weaken (fun _ _ _ _ => trivial)⟩⟩ rfl hn hsize hst (lv_room hW) hdg hf) hS (fun q _ h => hFc q h) hFc (fun u t H1 locs1 ht hvm hw hB hz1 hk1 hS1 => ?_)
  obtain ⟨hP1, hK1, hD1⟩ := hB
  rw [ht] at hP1
  exact kk H1 locs1 hP1 (hD1.weaken (fun k q _ h => hFc q.1 h)) hS1
theorem wq_callIv (F : CallFix p m c cc nL s args lw_all own) {y : MethodName} {bytes : ByteArray} {maxL n index : Nat} {ty : FieldType} {r0 : Int32} {rm : Room} {As : List Value} {C : String} {T : u_T} {N ci b : Nat} {fs : List Value} (hc : cl[ci]? = some (C, T, N)) (he : ws[0]? = some (b, .inr (ci, fs))) (hM : CtI l D cl tys y bytes maxL ty rm (.ref b :: As) ws r0 ws2) (cw : CallW R s args own C index y bytes maxL (some ty) (ws_ y bytes maxL (some ty)) rm 0 0 n) (hn : As.length = n) (hK : va_K D cl tys s) (hP : va_P D cl ws H) (hD : va_D A ws) (hS : va_S A s.heap H locs) (hA : ∀ q, s.heap.size ≤ q → A q) (hsize : ls.size = nL) {st : List Value} (hst : st = As.reverse ++ .ref b :: rest) (hW : (rest.map fun v => v.category).sum ≤ 8) (hdg : decode cc pc = .ok (.invokevirtual index, 3)) (hf : cells + 0 ≤ R.cells ∧ slots + 0 ≤ R.slots)
    (kk : ∀ (H1 : Heap) (locs1 : List Loc), va_P D cl ws2 H1 → va_D A ws2 → va_S A s.heap H1 locs1 → W p l e R s m args below meth c H1 locs1 cells slots Q (F0 m (pc + 3) ls (.int r0 :: rest))) : W p l e R s m args below meth c H locs cells slots Q (F0 m pc ls st) := by
  have hFc := wq_free (H := H) hD hS hA
  refine va_calli (va_runV (As := As) (rest := rest) F (hM H.size) cw ⟨wq_blind, va_recv hK hP hc he, fun U hU hW => ⟨rfl, by rw [hU], by rw [hU]; exact hP, va_K.moved hW.alike hK, hD.weaken (fun _ _ _ _ => trivial)⟩⟩ rfl hn hsize hst (lv_room hW) hdg hf) hS (fun q _ h => hFc q h) hFc (fun r u t H1 locs1 ht hvm hw hB hz1 hk1 hS1 => ?_)
  obtain ⟨hP1, hK1, hD1⟩ := hB
  rw [ht] at hP1
  have hw : r = r0 := hw
  subst hw
  exact kk H1 locs1 hP1 (hD1.weaken (fun k q _ h => hFc q.1 h)) hS1
theorem wq_callIs (F : CallFix p m c cc nL s args lw_all own) {y : MethodName} {bytes : ByteArray} {maxL n index : Nat} {ty : FieldType} {r0 : Int32} {rm : Room} {As : List Value} (hM : CtI l D cl tys y bytes maxL ty rm As ws r0 ws2) (cw : CallB R s args own index y bytes maxL (some ty) (ws_ y bytes maxL (some ty)) rm 0 0 n ∧ (Cond.static y).before args s = true) (hn : As.length = n) (hK : va_K D cl tys s) (hP : va_P D cl ws H) (hD : va_D A ws) (hS : va_S A s.heap H locs) (hA : ∀ q, s.heap.size ≤ q → A q) (hsize : ls.size = nL) {st : List Value} (hst : st = As.reverse ++ rest) (hW : (rest.map fun v => v.category).sum ≤ 8) (hdg : decode cc pc = .ok (.invokestatic index, 3)) (hf : cells + 0 ≤ R.cells ∧ slots + 0 ≤ R.slots)
    (kk : ∀ (H1 : Heap) (locs1 : List Loc), va_P D cl ws2 H1 → va_D A ws2 → va_S A s.heap H1 locs1 → W p l e R s m args below meth c H1 locs1 cells slots Q (F0 m (pc + 3) ls (.int r0 :: rest))) : W p l e R s m args below meth c H locs cells slots Q (F0 m pc ls st) := by
  have hFc := wq_free (H := H) hD hS hA
  refine va_calli (va_runS (As := As) (rest := rest) F (hM H.size) cw ⟨wq_blind, fun U hU hW => ⟨rfl, by rw [hU], by rw [hU]; exact hP, va_K.moved hW.alike hK, hD.weaken (fun _ _ _ _ => trivial)⟩⟩ rfl hn hsize hst (lv_room hW) hdg hf) hS (fun q _ h => hFc q h) hFc (fun r u t H1 locs1 ht hvm hw hB hz1 hk1 hS1 => ?_)
  obtain ⟨hP1, hK1, hD1⟩ := hB
  rw [ht] at hP1
  have hw : r = r0 := hw
  subst hw
  exact kk H1 locs1 hP1 (hD1.weaken (fun k q _ h => hFc q.1 h)) hS1
theorem wq_partV (F : CallFix p m c cc nL s args lw_all own) {y : MethodName} {bytes : ByteArray} {maxL n index : Nat} {rm : Room} {As : List Value} {C : String} {T : u_T} {N ci b : Nat} {fs : List Value} {tysC : List (ClassId × FieldType)} {wc w1 wr : va_W} (hc : cl[ci]? = some (C, T, N)) (he : wc[0]? = some (b, .inr (ci, fs))) (hM : CtV l D cl tysC y bytes maxL rm (.ref b :: As) wc w1) (cw : CallW R s args own C index y bytes maxL none (ws_ y bytes maxL none) rm 0 0 n) (hn : As.length = n) (hK : va_K D cl tys s) (isK : List Nat) (hKs : isK.filterMap (fun i => tys[i]?) = tysC) (hP : va_P D cl ws H) (hD : va_D A ws) (isC isR : List Nat) (hC : isC.map (fun i => ws[i]?) = wc.map some) (hCp : isC.filterMap (fun i => ws[i]?) = wc) (hCn : va_nd isC = true) (hR : isR.map (fun i => ws[i]?) = wr.map some) (hnd : va_nd isR = true) (hdis : ∀ i ∈ isR, i ∉ isC) (hS : va_S A s.heap H locs) (hA : ∀ q, s.heap.size ≤ q → A q) (hsize : ls.size = nL) {st : List Value} (hst : st = As.reverse ++ .ref b :: rest) (hW : (rest.map fun v => v.category).sum ≤ 8) (hdg : decode cc pc = .ok (.invokevirtual index, 3)) (hf : cells + 0 ≤ R.cells ∧ slots + 0 ≤ R.slots)
    (kk : ∀ (H1 : Heap) (locs1 : List Loc), va_P D cl (wr ++ w1) H1 → va_D A (wr ++ w1) → va_S A s.heap H1 locs1 → W p l e R s m args below meth c H1 locs1 cells slots Q (F0 m (pc + 3) ls rest)) : W p l e R s m args below meth c H locs cells slots Q (F0 m pc ls st) := by
  have hPc := hP.sub (ws' := wc) isC hCp
  have hDc := hD.sub (ws' := wc) isC hCn hC
  have hKc := hK.sub (tys' := tysC) isK hKs
  have hFc := va_free (wc := wc) hD hS hA isC hC
  refine va_callv (va_runV (As := As) (rest := rest) F (hM H.size) cw ⟨wq_blind, va_recv hKc hPc hc he, fun U hU hW => ⟨rfl, by rw [hU], by rw [hU]; exact hPc, va_K.moved hW.alike hKc, hDc.weaken (fun _ _ _ _ => trivial)⟩⟩ rfl hn hsize hst (lv_room hW) hdg hf) hS (fun q _ h => hFc q h) hFc (fun u t H1 locs1 ht hvm hw hB hz1 hk1 hS1 => ?_)
  obtain ⟨hP1, hK1, hD1⟩ := hB
  rw [ht] at hP1
  obtain ⟨hP2, hD2⟩ := va_join (wr := wr) (w1 := w1) hP hD isC isR hC hR hnd hdis hk1 hFc hP1 hD1
  exact kk H1 locs1 hP2 hD2 hS1
theorem wq_partI (F : CallFix p m c cc nL s args lw_all own) {y : MethodName} {bytes : ByteArray} {maxL n index : Nat} {ty : FieldType} {r0 : Int32} {rm : Room} {As : List Value} {C : String} {T : u_T} {N ci b : Nat} {fs : List Value} {tysC : List (ClassId × FieldType)} {wc w1 wr : va_W} (hc : cl[ci]? = some (C, T, N)) (he : wc[0]? = some (b, .inr (ci, fs))) (hM : CtI l D cl tysC y bytes maxL ty rm (.ref b :: As) wc r0 w1) (cw : CallW R s args own C index y bytes maxL (some ty) (ws_ y bytes maxL (some ty)) rm 0 0 n) (hn : As.length = n) (hK : va_K D cl tys s) (isK : List Nat) (hKs : isK.filterMap (fun i => tys[i]?) = tysC) (hP : va_P D cl ws H) (hD : va_D A ws) (isC isR : List Nat) (hC : isC.map (fun i => ws[i]?) = wc.map some) (hCp : isC.filterMap (fun i => ws[i]?) = wc) (hCn : va_nd isC = true) (hR : isR.map (fun i => ws[i]?) = wr.map some) (hnd : va_nd isR = true) (hdis : ∀ i ∈ isR, i ∉ isC) (hS : va_S A s.heap H locs) (hA : ∀ q, s.heap.size ≤ q → A q) (hsize : ls.size = nL) {st : List Value} (hst : st = As.reverse ++ .ref b :: rest) (hW : (rest.map fun v => v.category).sum ≤ 8) (hdg : decode cc pc = .ok (.invokevirtual index, 3)) (hf : cells + 0 ≤ R.cells ∧ slots + 0 ≤ R.slots)
    (kk : ∀ (H1 : Heap) (locs1 : List Loc), va_P D cl (wr ++ w1) H1 → va_D A (wr ++ w1) → va_S A s.heap H1 locs1 → W p l e R s m args below meth c H1 locs1 cells slots Q (F0 m (pc + 3) ls (.int r0 :: rest))) : W p l e R s m args below meth c H locs cells slots Q (F0 m pc ls st) := by
  have hPc := hP.sub (ws' := wc) isC hCp
  have hDc := hD.sub (ws' := wc) isC hCn hC
  have hKc := hK.sub (tys' := tysC) isK hKs
  have hFc := va_free (wc := wc) hD hS hA isC hC
  refine va_calli (va_runV (As := As) (rest := rest) F (hM H.size) cw ⟨wq_blind, va_recv hKc hPc hc he, fun U hU hW => ⟨rfl, by rw [hU], by rw [hU]; exact hPc, va_K.moved hW.alike hKc, hDc.weaken (fun _ _ _ _ => trivial)⟩⟩ rfl hn hsize hst (lv_room hW) hdg hf) hS (fun q _ h => hFc q h) hFc (fun r u t H1 locs1 ht hvm hw hB hz1 hk1 hS1 => ?_)
  obtain ⟨hP1, hK1, hD1⟩ := hB
  rw [ht] at hP1
  have hw : r = r0 := hw
  subst hw
  obtain ⟨hP2, hD2⟩ := va_join (wr := wr) (w1 := w1) hP hD isC isR hC hR hnd hdis hk1 hFc hP1 hD1
  exact kk H1 locs1 hP2 hD2 hS1
end
end
section
/-! the worlds of WalkerPlan (wX) and WalkerPlanModel (wY), rows for their fields, the mirrors of the methods -/
set_option maxRecDepth 100000
abbrev vwCl : List vw_C := [(RX0, TX0, 12), (RX1, TX1, 11)]
def wX (q : Nat → Nat) (d : Nat → ClassId) (ec sz st kn : Nat) (nu ou iw ki la he be to : Nat → Nat) : va_W := [(q 0, .inr (0, [.ref (q 1), .int (nI ec), .ref (q 2), .ref (q 3), .ref (q 4), .ref (q 5), .int (nI sz), .int (nI st), .int (nI kn), .ref (q 6), .ref (q 7), .ref (q 8)])), (q 1, .inl (d 1, 8, .inl (wq_A nu))), (q 2, .inl (d 2, 16, .inl (wq_A ou))), (q 3, .inl (d 3, 16, .inl (wq_A iw))), (q 4, .inl (d 4, 6, .inl (wq_A ki))), (q 5, .inl (d 5, 6, .inl (wq_A la))), (q 6, .inl (d 6, 64, .inl (wq_A he))), (q 7, .inl (d 7, 64, .inl (wq_A be))), (q 8, .inl (d 8, 7, .inl (wq_A to)))]
abbrev tX (d : Nat → ClassId) : List (ClassId × FieldType) := [(d 1, .byte), (d 2, .short), (d 3, .short), (d 4, .byte), (d 5, .byte), (d 6, .int), (d 7, .int), (d 8, .int)]
def wY (q : Nat → Nat) (d : Nat → ClassId) (sz sp st : Nat) (ma bg en lb ki : Nat → Nat) (nm : Nat → Int32) (nw th : Nat → Nat) : va_W := [(q 0, .inr (1, [.ref (q 1), .int (nI sz), .ref (q 2), .ref (q 3), .ref (q 4), .int (nI sp), .ref (q 5), .ref (q 6), .int (nI st), .ref (q 7), .ref (q 8)])), (q 1, .inl (d 1, 8, .inl (wq_A ma))), (q 2, .inl (d 2, 10, .inl (wq_A bg))), (q 3, .inl (d 3, 10, .inl (wq_A en))), (q 4, .inl (d 4, 10, .inl (wq_A lb))), (q 5, .inl (d 5, 6, .inl (wq_A ki))), (q 6, .inl (d 6, 6, .inl nm)), (q 7, .inl (d 7, 64, .inl (wq_A nw))), (q 8, .inl (d 8, 64, .inl (wq_A th)))]
abbrev tY (d : Nat → ClassId) : List (ClassId × FieldType) := [(d 1, .int), (d 2, .int), (d 3, .int), (d 4, .int), (d 5, .int), (d 6, .int), (d 7, .int), (d 8, .int)]
section
variable {p : Program} {l : Launch} {e : Env} {R : Room} {s : State} {m : MethodId} {args : Array Value} {below : List Frame} {meth : Method} {c : Code} {H : Heap} {locs : List Loc} {cells slots : Nat} {Q : State → Prop}
variable {cc : ByteArray} {pc nL : Nat} {ls : Array Slot} {rest : List Value}
variable {D : va_G} {A : Nat → Prop} {a : Nat} {tys : List (ClassId × FieldType)} {ws : va_W} {H0 : Heap}
theorem gX0 (F : CallFix p m c cc nL s args lw_all RX0) (hK : va_K D vwCl tys s) (hP : va_P D vwCl ws H) {index : Nat} {fs : List Value} (he : ws[0]? = some (a, .inr (0, fs))) (k : Nat) (hk : k < 12) (hlink : (Cond.fieldLink RX0 index RX0 (TX0 k).2.1 (TX0 k).2.2.1) ∈ lw_all) (hT : (TX0 k).1 = RX0) {v : Value} (hv : fs[k]? = some v) (hdg : decode cc pc = .ok (.getfield index, 3)) (kk : W p l e R s m args below meth c H locs cells slots Q (F0 m (pc + 3) ls (v :: rest))) : W p l e R s m args below meth c H locs cells slots Q (F0 m pc ls (.ref a :: rest)) :=
  va_get (D := D) (cl := vwCl) (ci := 0) (C := RX0) (T := TX0) (N := 12) F.1 F.2.1 F.2.2.2.2 in_X0 F.2.2.2.1 hK hP 0 he rfl k hk (F.2.2.2.2 _ hlink) (fun _ h9 => hT ▸ h9) hv hdg kk
theorem pX0 (F : CallFix p m c cc nL s args lw_all RX0) (hK : va_K D vwCl tys s) (hP : va_P D vwCl ws H) (hD : va_D A ws) (hS : va_S A H0 H locs) {index : Nat} {fs : List Value} (he : ws[0]? = some (a, .inr (0, fs))) (k : Nat) (hk : k < 12) (hlink : (Cond.fieldLink RX0 index RX0 (TX0 k).2.1 (TX0 k).2.2.1) ∈ lw_all) (hT : (TX0 k).1 = RX0) (hfin : (TX0 k).2.2.2 = false) {ty : FieldType} {v : Value} (hd : parseFieldDescriptor (TX0 k).2.2.1 = some ty) (hn : narrow ty v = v) (hfit : fits ty v = true) (hl : k < fs.length) (hdg : decode cc pc = .ok (.putfield index, 3)) {ws' : va_W} (hw : ws.set 0 (a, .inr (0, fs.set k v)) = ws') (kk : ∀ (H1 : Heap) (locs1 : List Loc), va_P D vwCl ws' H1 → va_D A ws' → va_S A H0 H1 locs1 → W p l e R s m args below meth c H1 locs1 cells slots Q (F0 m (pc + 3) ls rest)) : W p l e R s m args below meth c H locs cells slots Q (F0 m pc ls (v :: .ref a :: rest)) := by
  subst hw
  exact va_put (D := D) (cl := vwCl) (ci := 0) (C := RX0) (T := TX0) (N := 12) F.1 F.2.1 F.2.2.2.2 in_X0 tyX0 tyX0_ok nmX0 F.2.2.2.1 hK hP hD hS 0 he rfl k hk (F.2.2.2.2 _ hlink) (fun _ h9 => hT ▸ h9) hfin hd hn hfit hl hdg kk
theorem gX1 (F : CallFix p m c cc nL s args lw_all RX1) (hK : va_K D vwCl tys s) (hP : va_P D vwCl ws H) {index : Nat} {fs : List Value} (he : ws[0]? = some (a, .inr (1, fs))) (k : Nat) (hk : k < 11) (hlink : (Cond.fieldLink RX1 index RX1 (TX1 k).2.1 (TX1 k).2.2.1) ∈ lw_all) (hT : (TX1 k).1 = RX1) {v : Value} (hv : fs[k]? = some v) (hdg : decode cc pc = .ok (.getfield index, 3)) (kk : W p l e R s m args below meth c H locs cells slots Q (F0 m (pc + 3) ls (v :: rest))) : W p l e R s m args below meth c H locs cells slots Q (F0 m pc ls (.ref a :: rest)) :=
  va_get (D := D) (cl := vwCl) (ci := 1) (C := RX1) (T := TX1) (N := 11) F.1 F.2.1 F.2.2.2.2 in_X1 F.2.2.2.1 hK hP 0 he rfl k hk (F.2.2.2.2 _ hlink) (fun _ h9 => hT ▸ h9) hv hdg kk
theorem pX1 (F : CallFix p m c cc nL s args lw_all RX1) (hK : va_K D vwCl tys s) (hP : va_P D vwCl ws H) (hD : va_D A ws) (hS : va_S A H0 H locs) {index : Nat} {fs : List Value} (he : ws[0]? = some (a, .inr (1, fs))) (k : Nat) (hk : k < 11) (hlink : (Cond.fieldLink RX1 index RX1 (TX1 k).2.1 (TX1 k).2.2.1) ∈ lw_all) (hT : (TX1 k).1 = RX1) (hfin : (TX1 k).2.2.2 = false) {ty : FieldType} {v : Value} (hd : parseFieldDescriptor (TX1 k).2.2.1 = some ty) (hn : narrow ty v = v) (hfit : fits ty v = true) (hl : k < fs.length) (hdg : decode cc pc = .ok (.putfield index, 3)) {ws' : va_W} (hw : ws.set 0 (a, .inr (1, fs.set k v)) = ws') (kk : ∀ (H1 : Heap) (locs1 : List Loc), va_P D vwCl ws' H1 → va_D A ws' → va_S A H0 H1 locs1 → W p l e R s m args below meth c H1 locs1 cells slots Q (F0 m (pc + 3) ls rest)) : W p l e R s m args below meth c H locs cells slots Q (F0 m pc ls (v :: .ref a :: rest)) := by
  subst hw
  exact va_put (D := D) (cl := vwCl) (ci := 1) (C := RX1) (T := TX1) (N := 11) F.1 F.2.1 F.2.2.2.2 in_X1 tyX1 tyX1_ok nmX1 F.2.2.2.1 hK hP hD hS 0 he rfl k hk (F.2.2.2.2 _ hlink) (fun _ h9 => hT ▸ h9) hfin hd hn hfit hl hdg kk
end
/-! mirrors: what the methods compute -/
def wq_isV (x : Int32) : Nat := if 0 ≤ x.toInt ∧ x.toInt < 8 then 1 else 0
def wq_isE (a b l : Int32) : Nat := if ((0 ≤ a.toInt ∧ a.toInt < 8) ∧ (0 ≤ b.toInt ∧ b.toInt < 8)) ∧ ¬ a.toInt = b.toInt ∧ (l.toInt = 0 ∨ l.toInt = 1) then 1 else 0
def mX_carry (be : Nat → Nat) (v w : Nat) (he : Nat → Nat) : Nat → Nat := wq_it (fun s h => wq_up h (w * 8 + s) (h (w * 8 + s) + be (v * 8 + s))) 8 he
def mX_c1 (be : Nat → Nat) (v b w : Nat) (h : Nat → Nat) : Nat → Nat := if b / 2 ^ w % 2 = 0 then h else mX_carry be v w h
def mX_fo (ou : Nat → Nat) (kind v l : Nat) : Nat := if kind = 1 then 0 else ou (l * 8 + v)
def mX_ba (iw : Nat → Nat) (kind v l : Nat) : Nat := if kind = 1 ∨ kind = 2 then iw (l * 8 + v) else 0
def mX_sp (be : Nat → Nat) (v fo ba : Nat) (he : Nat → Nat) : Nat → Nat := wq_it (fun w h => mX_c1 be v ba w (mX_c1 be v fo w h)) 8 he
def mX_spread (ou iw be : Nat → Nat) (kind v l : Nat) (he : Nat → Nat) : Nat → Nat := mX_sp be v (mX_fo ou kind v l) (mX_ba iw kind v l) he
def mX_moves (ou : Nat → Nat) (v label : Nat) : Nat := if (¬ label = 1 ∧ ¬ ou v = 0) ∨ (¬ label = 0 ∧ ¬ ou (8 + v) = 0) then 1 else 0
def mX_ml (ou iw be : Nat → Nat) (kind label v : Nat) (h : Nat → Nat) : Nat → Nat := wq_it (fun l h => if label = 2 ∨ label = l then mX_spread ou iw be kind v l h else h) 2 h
def mX_mv (ou iw be : Nat → Nat) (kind label v : Nat) (h : Nat → Nat) : Nat → Nat := if kind = 3 ∧ mX_moves ou v label = 0 then mX_carry be v v (mX_ml ou iw be kind label v h) else mX_ml ou iw be kind label v h
def mX_cp (x : (Nat → Nat) × (Nat → Nat)) : (Nat → Nat) × (Nat → Nat) := wq_it (fun i x => (wq_up x.1 i (x.2 i), wq_up x.2 i 0)) 64 x
def mX_move (ou iw : Nat → Nat) (kind label : Nat) (he be : Nat → Nat) : (Nat → Nat) × (Nat → Nat) := (wq_it (fun v h => mX_mv ou iw (mX_cp (be, he)).1 kind label v h) 8 (mX_cp (be, he)).2, (mX_cp (be, he)).1)
def mX_total (he : Nat → Nat) : Nat := wq_it (fun i a => a + he i) 64 0
def mX_stay (nu : Nat → Nat) (kind n v s : Nat) : Nat := if kind = 4 then (if n ≤ nu v then 1 else 0) else (if (if v = s then 1 else 0) = (if kind = 6 then 1 else 0) then 1 else 0)
def mX_filter (nu : Nat → Nat) (kind n : Nat) (he : Nat → Nat) : Nat → Nat := wq_it (fun i h => if mX_stay nu kind n (i / 8) (i % 8) = 0 then wq_up h i 0 else h) 64 he
def mX_first (found x : Nat) : Nat := if found = 0 ∧ 0 < x then 1 else 0
def mX_k1 (v : Nat) (n : Nat) (x : Nat × (Nat → Nat)) : Nat × (Nat → Nat) := wq_it (fun s x => (x.1 ||| mX_first x.1 (x.2 (v * 8 + s)), wq_up x.2 (v * 8 + s) (mX_first x.1 (x.2 (v * 8 + s))))) n x
def mX_keepOne (he : Nat → Nat) : Nat → Nat := wq_it (fun v h => (mX_k1 v 8 (0, h)).2) 8 he
def mX_b0 (st i : Nat) : Nat := if i / 8 = i % 8 ∧ ¬ st / 2 ^ (i % 8) % 2 = 0 then 1 else 0
def mX_init (st : Nat) (he : Nat → Nat) : Nat → Nat := wq_it (fun i h => wq_up h i (mX_b0 st i)) 64 he
def mX_step (nu ou iw : Nat → Nat) (kind label : Nat) (he be : Nat → Nat) : (Nat → Nat) × (Nat → Nat) := if kind ≤ 3 then mX_move ou iw kind label he be else if kind = 7 then (mX_keepOne he, be) else (mX_filter nu kind label he, be)
def mX_ws (nu ou iw ki la : Nat → Nat) (k : Nat) (x : (Nat → Nat) × (Nat → Nat) × (Nat → Nat)) : (Nat → Nat) × (Nat → Nat) × (Nat → Nat) := ((mX_step nu ou iw (ki k) (la k) x.1 x.2.1).1, (mX_step nu ou iw (ki k) (la k) x.1 x.2.1).2, wq_up x.2.2 (k + 1) (mX_total (mX_step nu ou iw (ki k) (la k) x.1 x.2.1).1))
def mX_wi (nu ou iw ki la : Nat → Nat) (st k : Nat) (he be to : Nat → Nat) : (Nat → Nat) × (Nat → Nat) × (Nat → Nat) := wq_it (mX_ws nu ou iw ki la) k (mX_init st he, be, wq_up to 0 (mX_total (mX_init st he)))
/-- what walk() leaves: known, here, before, totals -/
def mX_walk (nu ou iw ki la : Nat → Nat) (sz st : Nat) (x : Nat × (Nat → Nat) × (Nat → Nat) × (Nat → Nat)) : Nat × (Nat → Nat) × (Nat → Nat) × (Nat → Nat) := if x.1 = 0 then (1, mX_wi nu ou iw ki la st sz x.2.1 x.2.2.1 x.2.2.2) else x
def mX_row (he : Nat → Nat) (v : Nat) : Nat := wq_it (fun s a => a + he (v * 8 + s)) 8 0
def mX_reached (nu ou iw ki la : Nat → Nat) (sz st : Nat) (n : Nat) (x : Nat × Nat × (Nat → Nat) × (Nat → Nat) × (Nat → Nat)) : Nat × Nat × (Nat → Nat) × (Nat → Nat) × (Nat → Nat) := wq_it (fun v x => (x.1 ||| (if mX_row (mX_walk nu ou iw ki la sz st x.2).2.1 v = 0 then 0 else 2 ^ v), mX_walk nu ou iw ki la sz st x.2)) n x
def mX_startsAt (nu ou iw ki la : Nat → Nat) (sz st v : Nat) (n : Nat) (x : Nat × Nat × (Nat → Nat) × (Nat → Nat) × (Nat → Nat)) : Nat × Nat × (Nat → Nat) × (Nat → Nat) × (Nat → Nat) := wq_it (fun s x => (x.1 ||| (if (mX_walk nu ou iw ki la sz st x.2).2.1 (v * 8 + s) = 0 then 0 else 2 ^ s), mX_walk nu ou iw ki la sz st x.2)) n x
def mX_dies (to : Nat → Nat) : Nat → Nat → Int32
  | 0, _ => -1
  | n + 1, i => if to i = 0 then nI i else mX_dies to n (i + 1)
def mY_find (bg en lb : Nat → Nat) (a b l : Int32) : Nat → Nat → Int32
  | 0, _ => -1
  | n + 1, i => if (bg i : Int) = a.toInt ∧ (en i : Int) = b.toInt ∧ (lb i : Int) = l.toInt then nI i else mY_find bg en lb a b l n (i + 1)
def mY_fits (lb : Nat → Nat) (l : Int32) (e : Nat) : Nat := if l.toInt = 2 ∨ (lb e : Int) = l.toInt then 1 else 0
def mY_s1 (f o a v k x : Nat) (y : Nat × (Nat → Nat)) : Nat × (Nat → Nat) := if (¬ f = 0 ∧ ¬ o = 0) ∧ a = v then (y.1 + 1, wq_up y.2 k (y.2 k + x)) else y
def mY_send (bg en lb nw : Nat → Nat) (s v : Nat) (l : Int32) (o i : Nat) (n : Nat) (y : Nat × (Nat → Nat)) : Nat × (Nat → Nat) := wq_it (fun e y => mY_s1 (mY_fits lb l e) i (en e) v (8 * s + bg e) (nw (8 * s + v)) (mY_s1 (mY_fits lb l e) o (bg e) v (8 * s + en e) (nw (8 * s + v)) y)) n y
def mY_lesser (nw : Nat → Nat) (s v : Nat) : Nat := wq_it (fun r f => if f = 0 ∧ nw (8 * r + v) = 0 then 0 else 1) s 0
def mY_out (kind : Nat) : Nat := if kind = 1 then 0 else 1
def mY_in (kind : Nat) : Nat := if kind = 1 ∨ kind = 2 then 1 else 0
def mY_mv (bg en lb nw : Nat → Nat) (sz kind : Nat) (n : Int32) (s v : Nat) (th : Nat → Nat) : Nat → Nat := if kind = 3 ∧ (mY_send bg en lb nw s v n (mY_out kind) (mY_in kind) sz (0, th)).1 = 0 then wq_up (mY_send bg en lb nw s v n (mY_out kind) (mY_in kind) sz (0, th)).2 (8 * s + v) ((mY_send bg en lb nw s v n (mY_out kind) (mY_in kind) sz (0, th)).2 (8 * s + v) + nw (8 * s + v)) else (mY_send bg en lb nw s v n (mY_out kind) (mY_in kind) sz (0, th)).2
def mY_step (ma bg en lb nw : Nat → Nat) (sz kind : Nat) (n : Int32) (s v : Nat) (th : Nat → Nat) : Nat → Nat := if kind ≤ 3 then mY_mv bg en lb nw sz kind n s v th else if kind = 7 then wq_up th (8 * s + v) (if 0 < nw (8 * s + v) ∧ mY_lesser nw s v = 0 then 1 else 0) else if (kind = 4 ∧ n.toInt ≤ (ma v : Int)) ∨ (¬ kind = 4 ∧ ((kind = 5 ∧ ¬ s = v) ∨ (¬ kind = 5 ∧ s = v))) then wq_up th (8 * s + v) (nw (8 * s + v)) else th
def mY_o1 (ma bg en lb nw : Nat → Nat) (sz kind : Nat) (n : Int32) (th : Nat → Nat) : Nat → Nat := wq_it (fun c t => if nw c = 0 then t else mY_step ma bg en lb nw sz kind n (c / 8) (c % 8) t) 64 (wq_it (fun c t => wq_up t c 0) 64 th)
def mY_once (ma bg en lb : Nat → Nat) (sz kind : Nat) (n : Int32) (x : (Nat → Nat) × (Nat → Nat)) : (Nat → Nat) × (Nat → Nat) := (wq_it (fun c y => wq_up y c (mY_o1 ma bg en lb x.1 sz kind n x.2 c)) 64 x.1, mY_o1 ma bg en lb x.1 sz kind n x.2)
def mY_b0 (st c : Nat) : Nat := if c / 8 = c % 8 ∧ st / 2 ^ (c / 8) % 2 = 1 then 1 else 0
def mY_init (st : Nat) (nw : Nat → Nat) : Nat → Nat := wq_it (fun c x => wq_up x c (mY_b0 st c)) 64 nw
def mY_walk (ma bg en lb ki : Nat → Nat) (nm : Nat → Int32) (sz st k : Nat) (x : (Nat → Nat) × (Nat → Nat)) : (Nat → Nat) × (Nat → Nat) := wq_it (fun i x => mY_once ma bg en lb sz (ki i) (nm i) x) k (mY_init st x.1, x.2)
def mY_row (nw : Nat → Nat) (v : Nat) : Nat := wq_it (fun s a => a + nw (8 * s + v)) 8 0
def mY_total (nw : Nat → Nat) : Nat := wq_it (fun c a => a + nw c) 64 0
def mY_reached (nw : Nat → Nat) (n : Nat) : Nat := wq_it (fun c a => if nw c = 0 then a else a ||| 2 ^ (c % 8)) n 0
def mY_startsAt (nw : Nat → Nat) (v n : Nat) : Nat := wq_it (fun s a => if nw (8 * s + v) = 0 then a else a ||| 2 ^ s) n 0
def mY_dies (ma bg en lb ki : Nat → Nat) (nm : Nat → Int32) (sz st : Nat) : Nat → Nat → (Nat → Nat) × (Nat → Nat) → Int32 × (Nat → Nat) × (Nat → Nat)
  | 0, _, x => (-1, x)
  | n + 1, k, x => if mY_total (mY_walk ma bg en lb ki nm sz st k x).1 = 0 then (nI k, mY_walk ma bg en lb ki nm sz st k x) else mY_dies ma bg en lb ki nm sz st n (k + 1) (mY_walk ma bg en lb ki nm sz st k x)
end
section
/-! contracts of WalkerPlan: the graph, the plan -/
set_option maxRecDepth 100000
abbrev rmX0_isVertex : Room := { frames := 0, cells := 0, slots := 0, locals := 0 }
abbrev rmX0_mark : Room := { frames := 1, cells := 0, slots := 0, locals := 20 }
abbrev rmX0_isEdge : Room := { frames := 1, cells := 0, slots := 0, locals := 20 }
abbrev rmX0_hasEdge : Room := { frames := 0, cells := 0, slots := 0, locals := 0 }
abbrev rmX0_turn : Room := { frames := 0, cells := 0, slots := 0, locals := 0 }
abbrev rmX0_join : Room := { frames := 2, cells := 0, slots := 0, locals := 42 }
abbrev rmX0_cut : Room := { frames := 2, cells := 0, slots := 0, locals := 42 }
abbrev rmX0_add : Room := { frames := 0, cells := 0, slots := 0, locals := 0 }
abbrev rmX0_drop : Room := { frames := 0, cells := 0, slots := 0, locals := 0 }
abbrev rmX0_from : Room := { frames := 0, cells := 0, slots := 0, locals := 0 }
abbrev rmX0_total : Room := { frames := 0, cells := 0, slots := 0, locals := 0 }
abbrev rmX0_carry : Room := { frames := 0, cells := 0, slots := 0, locals := 0 }
abbrev rmX0_spread : Room := { frames := 1, cells := 0, slots := 0, locals := 23 }
abbrev rmX0_moves : Room := { frames := 0, cells := 0, slots := 0, locals := 0 }
abbrev rmX0_move : Room := { frames := 2, cells := 0, slots := 0, locals := 49 }
abbrev rmX0_keepOne : Room := { frames := 0, cells := 0, slots := 0, locals := 0 }
abbrev rmX0_filter : Room := { frames := 0, cells := 0, slots := 0, locals := 0 }
abbrev rmX0_walk : Room := { frames := 3, cells := 0, slots := 0, locals := 73 }
abbrev rmX0_at : Room := { frames := 4, cells := 0, slots := 0, locals := 95 }
abbrev rmX0_walkers : Room := { frames := 4, cells := 0, slots := 0, locals := 95 }
abbrev rmX0_after : Room := { frames := 4, cells := 0, slots := 0, locals := 95 }
abbrev rmX0_between : Room := { frames := 4, cells := 0, slots := 0, locals := 95 }
abbrev rmX0_reached : Room := { frames := 5, cells := 0, slots := 0, locals := 118 }
abbrev rmX0_startsAt : Room := { frames := 5, cells := 0, slots := 0, locals := 117 }
abbrev rmX0_diesAfter : Room := { frames := 4, cells := 0, slots := 0, locals := 95 }
abbrev rmX0_edges : Room := { frames := 0, cells := 0, slots := 0, locals := 0 }
theorem wq_inc1 (a : Nat) : nI a + Int32.ofInt 1 = nI (a + 1) := nI_1 a
theorem wq_inc4 (a : Nat) : nI a + Int32.ofInt 4 = nI (a + 4) := nI_add a 4
theorem wq_isV_lt (x : Int32) : wq_isV x < 2 ^ 31 := by unfold wq_isV; split <;> decide
theorem wq_isV_0 {x : Int32} : wq_isV x = 0 ↔ ¬ (0 ≤ x.toInt ∧ x.toInt < 8) := by
  unfold wq_isV
  split <;> simp_all
theorem wq_isV_n {v : Nat} (h : v < 8) : wq_isV (nI v) = 1 := by
  unfold wq_isV
  rw [nI_toInt (by omega), if_pos (by omega)]
theorem wq_isE_lt (a b j : Int32) : wq_isE a b j < 2 ^ 31 := by unfold wq_isE; split <;> decide
theorem wq_isE_z {a b j : Int32} (h : wq_isV a = 0 ∨ wq_isV b = 0 ∨ a.toInt = b.toInt ∨ (¬ j.toInt = 0 ∧ ¬ j.toInt = 1)) : nI 0 = nI (wq_isE a b j) := by
  rw [wq_isV_0, wq_isV_0] at h
  unfold wq_isE
  rw [if_neg (by omega)]
theorem wq_isE_o {a b j : Int32} (h1 : ¬ wq_isV a = 0) (h2 : ¬ wq_isV b = 0) (h3 : ¬ a.toInt = b.toInt) (h4 : j.toInt = 0 ∨ j.toInt = 1) : nI 1 = nI (wq_isE a b j) := by
  rw [wq_isV_0] at h1 h2
  unfold wq_isE
  rw [if_pos (by omega)]
theorem wq_isE_n {a b j : Nat} (ha : a < 8) (hb : b < 8) (hab : ¬ a = b) (hj : j < 2) : wq_isE (nI a) (nI b) (nI j) = 1 := by
  unfold wq_isE
  rw [nI_toInt (by omega), nI_toInt (by omega), nI_toInt (by omega), if_pos (by omega)]
theorem wq_x8 {x b : Nat} (hx : x < 256) (hb : b < 8) : x ^^^ 2 ^ b < 256 := Nat.xor_lt_two_pow (n := 8) hx (Nat.pow_lt_pow_right (by decide) hb)

set_option maxHeartbeats 4000000 in
set_option maxRecDepth 100000 in
/-- isVertex(x) -/
theorem cX_isVertex (l : Launch) (D : va_G) (tys : List (ClassId × FieldType)) (ws : va_W) (x : Int32)  : CtI l D vwCl tys yX0_isVertex cX0_isVertex 1 .boolean rmX0_isVertex [.int x] ws (nI (wq_isV x)) ws := by
  refine CtI.of RX0 rfl (by decide +kernel) (Nat.le_of_ble_eq_true rfl) ?_
  intro p e s m below meth c A ls F hr hlk hK hA hP hD hS hl
  have hl : lv_has ls 1 [(0, .int x)] := hl
  refine lv_iload_n F.1 F.2.1 dX0_isVertex_0 rfl (lv_at hl 0 rfl) ?_
  refine wr_if_lt (tgt := 14) F dX0_isVertex_1 (by decide) (fun c1 => ?_) (fun c1 => ?_)
  · refine wq_iconst F 0 dX0_isVertex_14 (by decide) ?_
    exact wq_zret F hr hlk rfl (by unfold wq_isV; rw [if_neg (by omega)]) hK hP hD hS dX0_isVertex_15
  · refine lv_iload_n F.1 F.2.1 dX0_isVertex_4 rfl (lv_at hl 0 rfl) ?_
    refine wq_bipush F 8 dX0_isVertex_5 (by decide) ?_
    refine wr_icmp_ge (tgt := 14) F (rfl) (show (nI 8).toInt = (8 : Int) by decide) dX0_isVertex_7 (by decide) (fun c7 => ?_) (fun c7 => ?_)
    · refine wq_iconst F 0 dX0_isVertex_14 (by decide) ?_
      exact wq_zret F hr hlk rfl (by unfold wq_isV; rw [if_neg (by omega)]) hK hP hD hS dX0_isVertex_15
    · refine wq_iconst F 1 dX0_isVertex_10 (by decide) ?_
      refine lv_goto (tgt := 15) F.1 F.2.1 dX0_isVertex_11 (by decide) ?_
      exact wq_zret F hr hlk rfl (by unfold wq_isV; rw [if_pos (by omega)]) hK hP hD hS dX0_isVertex_15

set_option maxHeartbeats 4000000 in
set_option maxRecDepth 100000 in
/-- isEdge(a, b, j) -/
theorem cX_isEdge (l : Launch) (D : va_G) (tys : List (ClassId × FieldType)) (ws : va_W) (a b j : Int32)  : CtI l D vwCl tys yX0_isEdge cX0_isEdge 3 .boolean rmX0_isEdge [.int a, .int b, .int j] ws (nI (wq_isE a b j)) ws := by
  refine CtI.of RX0 rfl (by decide +kernel) (Nat.le_of_ble_eq_true rfl) ?_
  intro p e s m below meth c A ls F hr hlk hK hA hP hD hS hl
  have hl : lv_has ls 3 [(0, .int a), (1, .int b), (2, .int j)] := hl
  refine lv_iload_n F.1 F.2.1 dX0_isEdge_0 rfl (lv_at hl 0 rfl) ?_
  refine wq_callIs F (rest := []) (cX_isVertex l D tys ws a) (va_cwS 1 F.2.2.2.2 (lw_S q72 q73 q18 q74) rfl rfl rfl (by decide +kernel) ⟨Nat.le_of_ble_eq_true rfl, Nat.le_of_ble_eq_true rfl⟩) rfl hK hP hD hS hA hl.1 rfl (Nat.le_of_ble_eq_true rfl) dX0_isEdge_1 ⟨Nat.zero_le _, Nat.zero_le _⟩ (fun H locs hP hD hS => ?_)
  refine wq_if_eq (tgt := 32) F (wq_isV_lt _) dX0_isEdge_4 (by decide) (fun c4 => ?_) (fun c4 => ?_)
  · refine wq_iconst F 0 dX0_isEdge_32 (by decide) ?_
    exact wq_zret F hr hlk rfl (wq_isE_z (by omega)) hK hP hD hS dX0_isEdge_33
  · refine lv_iload_n F.1 F.2.1 dX0_isEdge_7 rfl (lv_at hl 1 rfl) ?_
    refine wq_callIs F (rest := []) (cX_isVertex l D tys ws b) (va_cwS 1 F.2.2.2.2 (lw_S q72 q73 q18 q74) rfl rfl rfl (by decide +kernel) ⟨Nat.le_of_ble_eq_true rfl, Nat.le_of_ble_eq_true rfl⟩) rfl hK hP hD hS hA hl.1 rfl (Nat.le_of_ble_eq_true rfl) dX0_isEdge_8 ⟨Nat.zero_le _, Nat.zero_le _⟩ (fun H locs hP hD hS => ?_)
    refine wq_if_eq (tgt := 32) F (wq_isV_lt _) dX0_isEdge_11 (by decide) (fun c11 => ?_) (fun c11 => ?_)
    · refine wq_iconst F 0 dX0_isEdge_32 (by decide) ?_
      exact wq_zret F hr hlk rfl (wq_isE_z (by omega)) hK hP hD hS dX0_isEdge_33
    · refine lv_iload_n F.1 F.2.1 dX0_isEdge_14 rfl (lv_at hl 0 rfl) ?_
      refine lv_iload_n F.1 F.2.1 dX0_isEdge_15 rfl (lv_at hl 1 rfl) ?_
      refine wr_icmp_eq (tgt := 32) F (rfl) (rfl) dX0_isEdge_16 (by decide) (fun c16 => ?_) (fun c16 => ?_)
      · refine wq_iconst F 0 dX0_isEdge_32 (by decide) ?_
        exact wq_zret F hr hlk rfl (wq_isE_z (by omega)) hK hP hD hS dX0_isEdge_33
      · refine lv_iload_n F.1 F.2.1 dX0_isEdge_19 rfl (lv_at hl 2 rfl) ?_
        refine wr_if_eq (tgt := 28) F dX0_isEdge_20 (by decide) (fun c20 => ?_) (fun c20 => ?_)
        · refine wq_iconst F 1 dX0_isEdge_28 (by decide) ?_
          refine lv_goto (tgt := 33) F.1 F.2.1 dX0_isEdge_29 (by decide) ?_
          exact wq_zret F hr hlk rfl (wq_isE_o c4 c11 c16 (by omega)) hK hP hD hS dX0_isEdge_33
        · refine lv_iload_n F.1 F.2.1 dX0_isEdge_23 rfl (lv_at hl 2 rfl) ?_
          refine wq_iconst F 1 dX0_isEdge_24 (by decide) ?_
          refine wr_icmp_ne (tgt := 32) F (rfl) (show (nI 1).toInt = (1 : Int) by decide) dX0_isEdge_25 (by decide) (fun c25 => ?_) (fun c25 => ?_)
          · refine wq_iconst F 0 dX0_isEdge_32 (by decide) ?_
            exact wq_zret F hr hlk rfl (wq_isE_z (by omega)) hK hP hD hS dX0_isEdge_33
          · refine wq_iconst F 1 dX0_isEdge_28 (by decide) ?_
            refine lv_goto (tgt := 33) F.1 F.2.1 dX0_isEdge_29 (by decide) ?_
            exact wq_zret F hr hlk rfl (wq_isE_o c4 c11 c16 (by omega)) hK hP hD hS dX0_isEdge_33

set_option maxHeartbeats 4000000 in
set_option maxRecDepth 100000 in
/-- hasEdge(a, b, j) -/
theorem cX_hasEdge (l : Launch) (D : va_G) (q : Nat → Nat) (d : Nat → ClassId) (ec sz st kn : Nat) (nu ou iw ki la he be to : Nat → Nat) (a b j : Nat) (ha : a < 8) (hb : b < 8) (hj : j < 2) (hou : ∀ k, ou k < 256) : CtI l D vwCl (tX d) yX0_hasEdge cX0_hasEdge 4 .boolean rmX0_hasEdge [.ref (q 0), .int (nI a), .int (nI b), .int (nI j)] (wX q d ec sz st kn nu ou iw ki la he be to) (nI (if ou (j * 8 + a) / 2 ^ b % 2 = 0 then 0 else 1)) (wX q d ec sz st kn nu ou iw ki la he be to) := by
  refine CtI.of RX0 rfl (by decide +kernel) (Nat.le_of_ble_eq_true rfl) ?_
  intro p e s m below meth c A ls F hr hlk hK hA hP hD hS hl
  have hl : lv_has ls 4 [(0, .ref (q 0)), (1, .int (nI a)), (2, .int (nI b)), (3, .int (nI j))] := hl
  refine lv_aload_n F.1 F.2.1 dX0_hasEdge_0 rfl (lv_at hl 0 rfl) ?_
  refine gX0 F hK hP rfl 2 (by decide) q30 rfl (v := .ref (q 2)) rfl dX0_hasEdge_1 ?_
  refine lv_iload_n F.1 F.2.1 dX0_hasEdge_4 rfl (lv_at hl 3 rfl) ?_
  refine wq_bipush F 8 dX0_hasEdge_5 (by decide) ?_
  refine wq_imul F dX0_hasEdge_7 ?_
  refine lv_iload_n F.1 F.2.1 dX0_hasEdge_8 rfl (lv_at hl 1 rfl) ?_
  refine wq_iadd F dX0_hasEdge_9 ?_
  refine wq_sald F hK hP 2 1 rfl rfl (by omega) (by decide) dX0_hasEdge_10 ?_
  refine lv_iload_n F.1 F.2.1 dX0_hasEdge_11 rfl (lv_at hl 2 rfl) ?_
  have ho := hou (j * 8 + a)
  refine wq_ishr F (by omega) (by omega) dX0_hasEdge_12 ?_
  refine wq_iconst F 1 dX0_hasEdge_13 (by decide) ?_
  refine wq_iand1 F (Nat.lt_of_le_of_lt (Nat.div_le_self _ _) (by omega)) dX0_hasEdge_14 ?_
  refine wq_if_eq (tgt := 22) F (by omega) dX0_hasEdge_15 (by decide) (fun c15 => ?_) (fun c15 => ?_)
  · refine wq_iconst F 0 dX0_hasEdge_22 (by decide) ?_
    exact wq_zret F hr hlk rfl (by rw [if_pos c15]) hK hP hD hS dX0_hasEdge_23
  · refine wq_iconst F 1 dX0_hasEdge_18 (by decide) ?_
    refine lv_goto (tgt := 23) F.1 F.2.1 dX0_hasEdge_19 (by decide) ?_
    exact wq_zret F hr hlk rfl (by rw [if_neg c15]) hK hP hD hS dX0_hasEdge_23

set_option maxHeartbeats 4000000 in
set_option maxRecDepth 100000 in
/-- turn(a, b, j) -/
theorem cX_turn (l : Launch) (D : va_G) (q : Nat → Nat) (d : Nat → ClassId) (ec sz st kn : Nat) (nu ou iw ki la he be to : Nat → Nat) (a b j : Nat) (ha : a < 8) (hb : b < 8) (hj : j < 2) (hou : ∀ k, ou k < 256) (hiw : ∀ k, iw k < 256) : CtV l D vwCl (tX d) yX0_turn cX0_turn 6 rmX0_turn [.ref (q 0), .int (nI a), .int (nI b), .int (nI j)] (wX q d ec sz st kn nu ou iw ki la he be to) (wX q d ec sz st 0 nu (wq_up ou (j * 8 + a) (ou (j * 8 + a) ^^^ 2 ^ b)) (wq_up iw (j * 8 + b) (iw (j * 8 + b) ^^^ 2 ^ a)) ki la he be to) := by
  refine CtV.of RX0 rfl (by decide +kernel) (Nat.le_of_ble_eq_true rfl) ?_
  intro p e s m below meth c A ls F hr hlk hK hA hP hD hS hl
  have hl : lv_has ls 6 [(0, .ref (q 0)), (1, .int (nI a)), (2, .int (nI b)), (3, .int (nI j))] := hl
  refine lv_iload_n F.1 F.2.1 dX0_turn_0 rfl (lv_at hl 3 rfl) ?_
  refine wq_bipush F 8 dX0_turn_1 (by decide) ?_
  refine wq_imul F dX0_turn_3 ?_
  refine lv_iload_n F.1 F.2.1 dX0_turn_4 rfl (lv_at hl 1 rfl) ?_
  refine wq_iadd F dX0_turn_5 ?_
  refine lv_istore (lv' := [(4, .int (nI ((j * 8) + a))), (0, .ref (q 0)), (1, .int (nI a)), (2, .int (nI b)), (3, .int (nI j))]) F.1 F.2.1 dX0_turn_6 hl (by decide) rfl (fun ls hl => ?_)
  refine lv_iload_n F.1 F.2.1 dX0_turn_8 rfl (lv_at hl 4 rfl) ?_
  refine wq_bipush F 8 dX0_turn_9 (by decide) ?_
  refine wq_imul F dX0_turn_11 ?_
  refine lv_iload_n F.1 F.2.1 dX0_turn_12 rfl (lv_at hl 3 rfl) ?_
  refine wq_iadd F dX0_turn_13 ?_
  refine lv_istore (lv' := [(5, .int (nI ((j * 8) + b))), (4, .int (nI ((j * 8) + a))), (0, .ref (q 0)), (1, .int (nI a)), (2, .int (nI b)), (3, .int (nI j))]) F.1 F.2.1 dX0_turn_14 hl (by decide) rfl (fun ls hl => ?_)
  refine lv_aload_n F.1 F.2.1 dX0_turn_16 rfl (lv_at hl 2 rfl) ?_
  refine gX0 F hK hP rfl 2 (by decide) q30 rfl (v := .ref (q 2)) rfl dX0_turn_17 ?_
  refine lv_iload F.1 F.2.1 dX0_turn_20 (lv_at hl 1 rfl) ?_
  refine lv_aload_n F.1 F.2.1 dX0_turn_22 rfl (lv_at hl 2 rfl) ?_
  refine gX0 F hK hP rfl 2 (by decide) q30 rfl (v := .ref (q 2)) rfl dX0_turn_23 ?_
  refine lv_iload F.1 F.2.1 dX0_turn_26 (lv_at hl 1 rfl) ?_
  refine wq_sald F hK hP 2 1 rfl rfl (by omega) (by decide) dX0_turn_28 ?_
  refine wq_iconst F 1 dX0_turn_29 (by decide) ?_
  refine lv_iload_n F.1 F.2.1 dX0_turn_30 rfl (lv_at hl 4 rfl) ?_
  refine wq_ishl1 F (by omega) dX0_turn_31 ?_
  refine wq_ixor F dX0_turn_32 ?_
  refine wq_i2sN F (Nat.lt_trans (wq_x8 (hou _) hb) (by decide)) dX0_turn_33 ?_
  refine wq_sast F hK hP hD hS 2 1 rfl rfl (by omega) (by decide) (Nat.lt_trans (wq_x8 (hou _) hb) (by decide)) dX0_turn_34 (ws' := wX q d ec sz st kn nu (wq_up ou ((j * 8) + a) ((ou ((j * 8) + a)) ^^^ (2 ^ b))) iw ki la he be to) rfl (fun H locs hP hD hS => ?_)
  refine lv_aload_n F.1 F.2.1 dX0_turn_35 rfl (lv_at hl 2 rfl) ?_
  refine gX0 F hK hP rfl 3 (by decide) q31 rfl (v := .ref (q 3)) rfl dX0_turn_36 ?_
  refine lv_iload F.1 F.2.1 dX0_turn_39 (lv_at hl 0 rfl) ?_
  refine lv_aload_n F.1 F.2.1 dX0_turn_41 rfl (lv_at hl 2 rfl) ?_
  refine gX0 F hK hP rfl 3 (by decide) q31 rfl (v := .ref (q 3)) rfl dX0_turn_42 ?_
  refine lv_iload F.1 F.2.1 dX0_turn_45 (lv_at hl 0 rfl) ?_
  refine wq_sald F hK hP 3 2 rfl rfl (by omega) (by decide) dX0_turn_47 ?_
  refine wq_iconst F 1 dX0_turn_48 (by decide) ?_
  refine lv_iload_n F.1 F.2.1 dX0_turn_49 rfl (lv_at hl 3 rfl) ?_
  refine wq_ishl1 F (by omega) dX0_turn_50 ?_
  refine wq_ixor F dX0_turn_51 ?_
  refine wq_i2sN F (Nat.lt_trans (wq_x8 (hiw _) ha) (by decide)) dX0_turn_52 ?_
  refine wq_sast F hK hP hD hS 3 2 rfl rfl (by omega) (by decide) (Nat.lt_trans (wq_x8 (hiw _) ha) (by decide)) dX0_turn_53 (ws' := wX q d ec sz st kn nu (wq_up ou ((j * 8) + a) ((ou ((j * 8) + a)) ^^^ (2 ^ b))) (wq_up iw ((j * 8) + b) ((iw ((j * 8) + b)) ^^^ (2 ^ a))) ki la he be to) rfl (fun H locs hP hD hS => ?_)
  refine lv_aload_n F.1 F.2.1 dX0_turn_54 rfl (lv_at hl 2 rfl) ?_
  refine wq_iconst F 0 dX0_turn_55 (by decide) ?_
  refine pX0 F hK hP hD hS rfl 8 (by decide) q36 rfl rfl (ty := .boolean) (by decide +kernel) (by decide +kernel) (by decide +kernel) (Nat.le_of_ble_eq_true rfl) dX0_turn_56 (ws' := wX q d ec sz st 0 nu (wq_up ou ((j * 8) + a) ((ou ((j * 8) + a)) ^^^ (2 ^ b))) (wq_up iw ((j * 8) + b) ((iw ((j * 8) + b)) ^^^ (2 ^ a))) ki la he be to) rfl (fun H locs hP hD hS => ?_)
  exact wq_vret F hr hlk hK hP hD hS dX0_turn_59

set_option maxHeartbeats 4000000 in
set_option maxRecDepth 100000 in
/-- join: no edge -/
theorem cX_join_no (l : Launch) (D : va_G) (q : Nat → Nat) (d : Nat → ClassId) (ec sz st kn : Nat) (nu ou iw ki la he be to : Nat → Nat) (a b j : Int32) (h : wq_isE a b j = 0) : CtI l D vwCl (tX d) yX0_join cX0_join 4 .boolean rmX0_join [.ref (q 0), .int a, .int b, .int j] (wX q d ec sz st kn nu ou iw ki la he be to) (nI 0) (wX q d ec sz st kn nu ou iw ki la he be to) := by
  refine CtI.of RX0 rfl (by decide +kernel) (Nat.le_of_ble_eq_true rfl) ?_
  intro p e s m below meth c A ls F hr hlk hK hA hP hD hS hl
  have hl : lv_has ls 4 [(0, .ref (q 0)), (1, .int a), (2, .int b), (3, .int j)] := hl
  refine lv_iload_n F.1 F.2.1 dX0_join_0 rfl (lv_at hl 1 rfl) ?_
  refine lv_iload_n F.1 F.2.1 dX0_join_1 rfl (lv_at hl 2 rfl) ?_
  refine lv_iload_n F.1 F.2.1 dX0_join_2 rfl (lv_at hl 3 rfl) ?_
  refine wq_callIs F (rest := []) (cX_isEdge l D (tX d) _ (a) (b) (j)) (va_cwS 3 F.2.2.2.2 (lw_S q79 q80 q18 q81) rfl rfl rfl (by decide +kernel) ⟨Nat.le_of_ble_eq_true rfl, Nat.le_of_ble_eq_true rfl⟩) rfl hK hP hD hS hA hl.1 rfl (Nat.le_of_ble_eq_true rfl) dX0_join_3 ⟨Nat.zero_le _, Nat.zero_le _⟩ (fun H locs hP hD hS => ?_)
  refine wq_if_eq (tgt := 28) F (wq_isE_lt _ _ _) dX0_join_6 (by decide) (fun c6 => ?_) (fun c6 => False.elim (by omega))
  refine wq_iconst F 0 dX0_join_28 (by decide) ?_
  exact wq_zret F hr hlk rfl (rfl) hK hP hD hS dX0_join_29

set_option maxHeartbeats 4000000 in
set_option maxRecDepth 100000 in
/-- cut: no edge -/
theorem cX_cut_no (l : Launch) (D : va_G) (q : Nat → Nat) (d : Nat → ClassId) (ec sz st kn : Nat) (nu ou iw ki la he be to : Nat → Nat) (a b j : Int32) (h : wq_isE a b j = 0) : CtI l D vwCl (tX d) yX0_cut cX0_cut 4 .boolean rmX0_cut [.ref (q 0), .int a, .int b, .int j] (wX q d ec sz st kn nu ou iw ki la he be to) (nI 0) (wX q d ec sz st kn nu ou iw ki la he be to) := by
  refine CtI.of RX0 rfl (by decide +kernel) (Nat.le_of_ble_eq_true rfl) ?_
  intro p e s m below meth c A ls F hr hlk hK hA hP hD hS hl
  have hl : lv_has ls 4 [(0, .ref (q 0)), (1, .int a), (2, .int b), (3, .int j)] := hl
  refine lv_iload_n F.1 F.2.1 dX0_cut_0 rfl (lv_at hl 1 rfl) ?_
  refine lv_iload_n F.1 F.2.1 dX0_cut_1 rfl (lv_at hl 2 rfl) ?_
  refine lv_iload_n F.1 F.2.1 dX0_cut_2 rfl (lv_at hl 3 rfl) ?_
  refine wq_callIs F (rest := []) (cX_isEdge l D (tX d) _ (a) (b) (j)) (va_cwS 3 F.2.2.2.2 (lw_S q79 q80 q18 q81) rfl rfl rfl (by decide +kernel) ⟨Nat.le_of_ble_eq_true rfl, Nat.le_of_ble_eq_true rfl⟩) rfl hK hP hD hS hA hl.1 rfl (Nat.le_of_ble_eq_true rfl) dX0_cut_3 ⟨Nat.zero_le _, Nat.zero_le _⟩ (fun H locs hP hD hS => ?_)
  refine wq_if_eq (tgt := 19) F (wq_isE_lt _ _ _) dX0_cut_6 (by decide) (fun c6 => ?_) (fun c6 => False.elim (by omega))
  refine wq_iconst F 0 dX0_cut_19 (by decide) ?_
  exact wq_zret F hr hlk rfl (rfl) hK hP hD hS dX0_cut_20

set_option maxHeartbeats 4000000 in
set_option maxRecDepth 100000 in
/-- join: the edge is there, or there is no place -/
theorem cX_join_there (l : Launch) (D : va_G) (q : Nat → Nat) (d : Nat → ClassId) (ec sz st kn : Nat) (nu ou iw ki la he be to : Nat → Nat) (a b j : Nat) (ha : a < 8) (hb : b < 8) (hab : ¬ a = b) (hj : j < 2) (hou : ∀ k, ou k < 256) (hec : ec < 2 ^ 31) (h : ¬ ou (j * 8 + a) / 2 ^ b % 2 = 0 ∨ 10 ≤ ec) : CtI l D vwCl (tX d) yX0_join cX0_join 4 .boolean rmX0_join [.ref (q 0), .int (nI a), .int (nI b), .int (nI j)] (wX q d ec sz st kn nu ou iw ki la he be to) (nI 0) (wX q d ec sz st kn nu ou iw ki la he be to) := by
  refine CtI.of RX0 rfl (by decide +kernel) (Nat.le_of_ble_eq_true rfl) ?_
  intro p e s m below meth c A ls F hr hlk hK hA hP hD hS hl
  have hl : lv_has ls 4 [(0, .ref (q 0)), (1, .int (nI a)), (2, .int (nI b)), (3, .int (nI j))] := hl
  refine lv_iload_n F.1 F.2.1 dX0_join_0 rfl (lv_at hl 1 rfl) ?_
  refine lv_iload_n F.1 F.2.1 dX0_join_1 rfl (lv_at hl 2 rfl) ?_
  refine lv_iload_n F.1 F.2.1 dX0_join_2 rfl (lv_at hl 3 rfl) ?_
  refine wq_callIs F (rest := []) (cX_isEdge l D (tX d) _ ((nI a)) ((nI b)) ((nI j))) (va_cwS 3 F.2.2.2.2 (lw_S q79 q80 q18 q81) rfl rfl rfl (by decide +kernel) ⟨Nat.le_of_ble_eq_true rfl, Nat.le_of_ble_eq_true rfl⟩) rfl hK hP hD hS hA hl.1 rfl (Nat.le_of_ble_eq_true rfl) dX0_join_3 ⟨Nat.zero_le _, Nat.zero_le _⟩ (fun H locs hP hD hS => ?_)
  have he1 := wq_isE_n ha hb hab hj
  refine wq_if_eq (tgt := 28) F (wq_isE_lt _ _ _) dX0_join_6 (by decide) (fun c6 => False.elim (by omega)) (fun c6 => ?_)
  refine lv_aload_n F.1 F.2.1 dX0_join_9 rfl (lv_at hl 0 rfl) ?_
  refine lv_iload_n F.1 F.2.1 dX0_join_10 rfl (lv_at hl 1 rfl) ?_
  refine lv_iload_n F.1 F.2.1 dX0_join_11 rfl (lv_at hl 2 rfl) ?_
  refine lv_iload_n F.1 F.2.1 dX0_join_12 rfl (lv_at hl 3 rfl) ?_
  refine wq_callIv F (rest := []) (ci := 0) rfl rfl (cX_hasEdge l D q d ec sz st kn nu ou iw ki la he be to a b j ha hb hj hou) (cwV 3 F.2.2.2.2 (lw_V q82 q84 qs0 q18 q85) rfl rfl rfl (by decide +kernel) ⟨Nat.le_of_ble_eq_true rfl, Nat.le_of_ble_eq_true rfl⟩) rfl hK hP hD hS hA hl.1 rfl (Nat.le_of_ble_eq_true rfl) dX0_join_13 ⟨Nat.zero_le _, Nat.zero_le _⟩ (fun H locs hP hD hS => ?_)
  refine wq_if_ne (tgt := 28) F (by split <;> decide) dX0_join_16 (by decide) (fun c16 => ?_) (fun c16 => ?_)
  · refine wq_iconst F 0 dX0_join_28 (by decide) ?_
    exact wq_zret F hr hlk rfl (rfl) hK hP hD hS dX0_join_29
  · have c16 : ou (j * 8 + a) / 2 ^ b % 2 = 0 := by split at c16 <;> simp_all
    refine lv_aload_n F.1 F.2.1 dX0_join_19 rfl (lv_at hl 0 rfl) ?_
    refine gX0 F hK hP rfl 1 (by decide) q29 rfl (v := .int (nI ec)) rfl dX0_join_20 ?_
    refine wq_bipush F 10 dX0_join_23 (by decide) ?_
    refine wq_icmp_lt (tgt := 30) F (by omega) (by omega) dX0_join_25 (by decide) (fun c25 => False.elim (by omega)) (fun c25 => ?_)
    refine wq_iconst F 0 dX0_join_28 (by decide) ?_
    exact wq_zret F hr hlk rfl (rfl) hK hP hD hS dX0_join_29

set_option maxHeartbeats 4000000 in
set_option maxRecDepth 100000 in
/-- join: a new edge -/
theorem cX_join_ok (l : Launch) (D : va_G) (q : Nat → Nat) (d : Nat → ClassId) (ec sz st kn : Nat) (nu ou iw ki la he be to : Nat → Nat) (a b j : Nat) (ha : a < 8) (hb : b < 8) (hab : ¬ a = b) (hj : j < 2) (hou : ∀ k, ou k < 256) (hiw : ∀ k, iw k < 256) (hec : ec < 10) (h : ou (j * 8 + a) / 2 ^ b % 2 = 0) : CtI l D vwCl (tX d) yX0_join cX0_join 4 .boolean rmX0_join [.ref (q 0), .int (nI a), .int (nI b), .int (nI j)] (wX q d ec sz st kn nu ou iw ki la he be to) (nI 1) (wX q d (ec + 1) sz st 0 nu (wq_up ou (j * 8 + a) (ou (j * 8 + a) ^^^ 2 ^ b)) (wq_up iw (j * 8 + b) (iw (j * 8 + b) ^^^ 2 ^ a)) ki la he be to) := by
  refine CtI.of RX0 rfl (by decide +kernel) (Nat.le_of_ble_eq_true rfl) ?_
  intro p e s m below meth c A ls F hr hlk hK hA hP hD hS hl
  have hl : lv_has ls 4 [(0, .ref (q 0)), (1, .int (nI a)), (2, .int (nI b)), (3, .int (nI j))] := hl
  refine lv_iload_n F.1 F.2.1 dX0_join_0 rfl (lv_at hl 1 rfl) ?_
  refine lv_iload_n F.1 F.2.1 dX0_join_1 rfl (lv_at hl 2 rfl) ?_
  refine lv_iload_n F.1 F.2.1 dX0_join_2 rfl (lv_at hl 3 rfl) ?_
  refine wq_callIs F (rest := []) (cX_isEdge l D (tX d) _ ((nI a)) ((nI b)) ((nI j))) (va_cwS 3 F.2.2.2.2 (lw_S q79 q80 q18 q81) rfl rfl rfl (by decide +kernel) ⟨Nat.le_of_ble_eq_true rfl, Nat.le_of_ble_eq_true rfl⟩) rfl hK hP hD hS hA hl.1 rfl (Nat.le_of_ble_eq_true rfl) dX0_join_3 ⟨Nat.zero_le _, Nat.zero_le _⟩ (fun H locs hP hD hS => ?_)
  have he1 := wq_isE_n ha hb hab hj
  refine wq_if_eq (tgt := 28) F (wq_isE_lt _ _ _) dX0_join_6 (by decide) (fun c6 => False.elim (by omega)) (fun c6 => ?_)
  refine lv_aload_n F.1 F.2.1 dX0_join_9 rfl (lv_at hl 0 rfl) ?_
  refine lv_iload_n F.1 F.2.1 dX0_join_10 rfl (lv_at hl 1 rfl) ?_
  refine lv_iload_n F.1 F.2.1 dX0_join_11 rfl (lv_at hl 2 rfl) ?_
  refine lv_iload_n F.1 F.2.1 dX0_join_12 rfl (lv_at hl 3 rfl) ?_
  refine wq_callIv F (rest := []) (ci := 0) rfl rfl (cX_hasEdge l D q d ec sz st kn nu ou iw ki la he be to a b j ha hb hj hou) (cwV 3 F.2.2.2.2 (lw_V q82 q84 qs0 q18 q85) rfl rfl rfl (by decide +kernel) ⟨Nat.le_of_ble_eq_true rfl, Nat.le_of_ble_eq_true rfl⟩) rfl hK hP hD hS hA hl.1 rfl (Nat.le_of_ble_eq_true rfl) dX0_join_13 ⟨Nat.zero_le _, Nat.zero_le _⟩ (fun H locs hP hD hS => ?_)
  refine wq_if_ne (tgt := 28) F (by split <;> decide) dX0_join_16 (by decide) (fun c16 => False.elim (by rw [if_pos h] at c16; exact c16 rfl)) (fun c16 => ?_)
  refine lv_aload_n F.1 F.2.1 dX0_join_19 rfl (lv_at hl 0 rfl) ?_
  refine gX0 F hK hP rfl 1 (by decide) q29 rfl (v := .int (nI ec)) rfl dX0_join_20 ?_
  refine wq_bipush F 10 dX0_join_23 (by decide) ?_
  refine wq_icmp_lt (tgt := 30) F (by omega) (by omega) dX0_join_25 (by decide) (fun c25 => ?_) (fun c25 => False.elim (by omega))
  refine lv_aload_n F.1 F.2.1 dX0_join_30 rfl (lv_at hl 0 rfl) ?_
  refine lv_iload_n F.1 F.2.1 dX0_join_31 rfl (lv_at hl 1 rfl) ?_
  refine lv_iload_n F.1 F.2.1 dX0_join_32 rfl (lv_at hl 2 rfl) ?_
  refine lv_iload_n F.1 F.2.1 dX0_join_33 rfl (lv_at hl 3 rfl) ?_
  refine wq_callVv F (rest := []) (ci := 0) rfl rfl (cX_turn l D q d ec sz st kn nu ou iw ki la he be to a b j ha hb hj hou hiw) (cwV 3 F.2.2.2.2 (lw_V q86 q88 qs1 q18 q89) rfl rfl rfl (by decide +kernel) ⟨Nat.le_of_ble_eq_true rfl, Nat.le_of_ble_eq_true rfl⟩) rfl hK hP hD hS hA hl.1 rfl (Nat.le_of_ble_eq_true rfl) dX0_join_34 ⟨Nat.zero_le _, Nat.zero_le _⟩ (fun H locs hP hD hS => ?_)
  refine lv_aload_n F.1 F.2.1 dX0_join_37 rfl (lv_at hl 0 rfl) ?_
  refine lv_dup F.1 F.2.1 dX0_join_38 rfl ?_
  refine gX0 F hK hP rfl 1 (by decide) q29 rfl (v := .int (nI ec)) rfl dX0_join_39 ?_
  refine wq_iconst F 1 dX0_join_42 (by decide) ?_
  refine wq_iadd F dX0_join_43 ?_
  refine pX0 F hK hP hD hS rfl 1 (by decide) q29 rfl rfl (ty := .int) (by decide +kernel) rfl rfl (Nat.le_of_ble_eq_true rfl) dX0_join_44 (ws' := wX q d (ec + 1) sz st 0 nu (wq_up ou (j * 8 + a) (ou (j * 8 + a) ^^^ 2 ^ b)) (wq_up iw (j * 8 + b) (iw (j * 8 + b) ^^^ 2 ^ a)) ki la he be to) rfl (fun H locs hP hD hS => ?_)
  refine wq_iconst F 1 dX0_join_47 (by decide) ?_
  exact wq_zret F hr hlk rfl (rfl) hK hP hD hS dX0_join_48

set_option maxHeartbeats 4000000 in
set_option maxRecDepth 100000 in
/-- cut: the edge isn't there -/
theorem cX_cut_not (l : Launch) (D : va_G) (q : Nat → Nat) (d : Nat → ClassId) (ec sz st kn : Nat) (nu ou iw ki la he be to : Nat → Nat) (a b j : Nat) (ha : a < 8) (hb : b < 8) (hab : ¬ a = b) (hj : j < 2) (hou : ∀ k, ou k < 256) (h : ou (j * 8 + a) / 2 ^ b % 2 = 0) : CtI l D vwCl (tX d) yX0_cut cX0_cut 4 .boolean rmX0_cut [.ref (q 0), .int (nI a), .int (nI b), .int (nI j)] (wX q d ec sz st kn nu ou iw ki la he be to) (nI 0) (wX q d ec sz st kn nu ou iw ki la he be to) := by
  refine CtI.of RX0 rfl (by decide +kernel) (Nat.le_of_ble_eq_true rfl) ?_
  intro p e s m below meth c A ls F hr hlk hK hA hP hD hS hl
  have hl : lv_has ls 4 [(0, .ref (q 0)), (1, .int (nI a)), (2, .int (nI b)), (3, .int (nI j))] := hl
  refine lv_iload_n F.1 F.2.1 dX0_cut_0 rfl (lv_at hl 1 rfl) ?_
  refine lv_iload_n F.1 F.2.1 dX0_cut_1 rfl (lv_at hl 2 rfl) ?_
  refine lv_iload_n F.1 F.2.1 dX0_cut_2 rfl (lv_at hl 3 rfl) ?_
  refine wq_callIs F (rest := []) (cX_isEdge l D (tX d) _ ((nI a)) ((nI b)) ((nI j))) (va_cwS 3 F.2.2.2.2 (lw_S q79 q80 q18 q81) rfl rfl rfl (by decide +kernel) ⟨Nat.le_of_ble_eq_true rfl, Nat.le_of_ble_eq_true rfl⟩) rfl hK hP hD hS hA hl.1 rfl (Nat.le_of_ble_eq_true rfl) dX0_cut_3 ⟨Nat.zero_le _, Nat.zero_le _⟩ (fun H locs hP hD hS => ?_)
  have he1 := wq_isE_n ha hb hab hj
  refine wq_if_eq (tgt := 19) F (wq_isE_lt _ _ _) dX0_cut_6 (by decide) (fun c6 => False.elim (by omega)) (fun c6 => ?_)
  refine lv_aload_n F.1 F.2.1 dX0_cut_9 rfl (lv_at hl 0 rfl) ?_
  refine lv_iload_n F.1 F.2.1 dX0_cut_10 rfl (lv_at hl 1 rfl) ?_
  refine lv_iload_n F.1 F.2.1 dX0_cut_11 rfl (lv_at hl 2 rfl) ?_
  refine lv_iload_n F.1 F.2.1 dX0_cut_12 rfl (lv_at hl 3 rfl) ?_
  refine wq_callIv F (rest := []) (ci := 0) rfl rfl (cX_hasEdge l D q d ec sz st kn nu ou iw ki la he be to a b j ha hb hj hou) (cwV 3 F.2.2.2.2 (lw_V q82 q84 qs0 q18 q85) rfl rfl rfl (by decide +kernel) ⟨Nat.le_of_ble_eq_true rfl, Nat.le_of_ble_eq_true rfl⟩) rfl hK hP hD hS hA hl.1 rfl (Nat.le_of_ble_eq_true rfl) dX0_cut_13 ⟨Nat.zero_le _, Nat.zero_le _⟩ (fun H locs hP hD hS => ?_)
  refine wq_if_ne (tgt := 21) F (by split <;> decide) dX0_cut_16 (by decide) (fun c16 => False.elim (by rw [if_pos h] at c16; exact c16 rfl)) (fun c16 => ?_)
  refine wq_iconst F 0 dX0_cut_19 (by decide) ?_
  exact wq_zret F hr hlk rfl (rfl) hK hP hD hS dX0_cut_20

set_option maxHeartbeats 4000000 in
set_option maxRecDepth 100000 in
/-- cut: an edge goes -/
theorem cX_cut_ok (l : Launch) (D : va_G) (q : Nat → Nat) (d : Nat → ClassId) (ec sz st kn : Nat) (nu ou iw ki la he be to : Nat → Nat) (a b j : Nat) (ha : a < 8) (hb : b < 8) (hab : ¬ a = b) (hj : j < 2) (hou : ∀ k, ou k < 256) (hiw : ∀ k, iw k < 256) (hec : 0 < ec) (h : ¬ ou (j * 8 + a) / 2 ^ b % 2 = 0) : CtI l D vwCl (tX d) yX0_cut cX0_cut 4 .boolean rmX0_cut [.ref (q 0), .int (nI a), .int (nI b), .int (nI j)] (wX q d ec sz st kn nu ou iw ki la he be to) (nI 1) (wX q d (ec - 1) sz st 0 nu (wq_up ou (j * 8 + a) (ou (j * 8 + a) ^^^ 2 ^ b)) (wq_up iw (j * 8 + b) (iw (j * 8 + b) ^^^ 2 ^ a)) ki la he be to) := by
  refine CtI.of RX0 rfl (by decide +kernel) (Nat.le_of_ble_eq_true rfl) ?_
  intro p e s m below meth c A ls F hr hlk hK hA hP hD hS hl
  have hl : lv_has ls 4 [(0, .ref (q 0)), (1, .int (nI a)), (2, .int (nI b)), (3, .int (nI j))] := hl
  refine lv_iload_n F.1 F.2.1 dX0_cut_0 rfl (lv_at hl 1 rfl) ?_
  refine lv_iload_n F.1 F.2.1 dX0_cut_1 rfl (lv_at hl 2 rfl) ?_
  refine lv_iload_n F.1 F.2.1 dX0_cut_2 rfl (lv_at hl 3 rfl) ?_
  refine wq_callIs F (rest := []) (cX_isEdge l D (tX d) _ ((nI a)) ((nI b)) ((nI j))) (va_cwS 3 F.2.2.2.2 (lw_S q79 q80 q18 q81) rfl rfl rfl (by decide +kernel) ⟨Nat.le_of_ble_eq_true rfl, Nat.le_of_ble_eq_true rfl⟩) rfl hK hP hD hS hA hl.1 rfl (Nat.le_of_ble_eq_true rfl) dX0_cut_3 ⟨Nat.zero_le _, Nat.zero_le _⟩ (fun H locs hP hD hS => ?_)
  have he1 := wq_isE_n ha hb hab hj
  refine wq_if_eq (tgt := 19) F (wq_isE_lt _ _ _) dX0_cut_6 (by decide) (fun c6 => False.elim (by omega)) (fun c6 => ?_)
  refine lv_aload_n F.1 F.2.1 dX0_cut_9 rfl (lv_at hl 0 rfl) ?_
  refine lv_iload_n F.1 F.2.1 dX0_cut_10 rfl (lv_at hl 1 rfl) ?_
  refine lv_iload_n F.1 F.2.1 dX0_cut_11 rfl (lv_at hl 2 rfl) ?_
  refine lv_iload_n F.1 F.2.1 dX0_cut_12 rfl (lv_at hl 3 rfl) ?_
  refine wq_callIv F (rest := []) (ci := 0) rfl rfl (cX_hasEdge l D q d ec sz st kn nu ou iw ki la he be to a b j ha hb hj hou) (cwV 3 F.2.2.2.2 (lw_V q82 q84 qs0 q18 q85) rfl rfl rfl (by decide +kernel) ⟨Nat.le_of_ble_eq_true rfl, Nat.le_of_ble_eq_true rfl⟩) rfl hK hP hD hS hA hl.1 rfl (Nat.le_of_ble_eq_true rfl) dX0_cut_13 ⟨Nat.zero_le _, Nat.zero_le _⟩ (fun H locs hP hD hS => ?_)
  refine wq_if_ne (tgt := 21) F (by split <;> decide) dX0_cut_16 (by decide) (fun c16 => ?_) (fun c16 => False.elim (by rw [if_neg h] at c16; exact absurd c16 (by decide)))
  refine lv_aload_n F.1 F.2.1 dX0_cut_21 rfl (lv_at hl 0 rfl) ?_
  refine lv_iload_n F.1 F.2.1 dX0_cut_22 rfl (lv_at hl 1 rfl) ?_
  refine lv_iload_n F.1 F.2.1 dX0_cut_23 rfl (lv_at hl 2 rfl) ?_
  refine lv_iload_n F.1 F.2.1 dX0_cut_24 rfl (lv_at hl 3 rfl) ?_
  refine wq_callVv F (rest := []) (ci := 0) rfl rfl (cX_turn l D q d ec sz st kn nu ou iw ki la he be to a b j ha hb hj hou hiw) (cwV 3 F.2.2.2.2 (lw_V q86 q88 qs1 q18 q89) rfl rfl rfl (by decide +kernel) ⟨Nat.le_of_ble_eq_true rfl, Nat.le_of_ble_eq_true rfl⟩) rfl hK hP hD hS hA hl.1 rfl (Nat.le_of_ble_eq_true rfl) dX0_cut_25 ⟨Nat.zero_le _, Nat.zero_le _⟩ (fun H locs hP hD hS => ?_)
  refine lv_aload_n F.1 F.2.1 dX0_cut_28 rfl (lv_at hl 0 rfl) ?_
  refine lv_dup F.1 F.2.1 dX0_cut_29 rfl ?_
  refine gX0 F hK hP rfl 1 (by decide) q29 rfl (v := .int (nI ec)) rfl dX0_cut_30 ?_
  refine wq_iconst F 1 dX0_cut_33 (by decide) ?_
  refine wq_isub F (by omega) dX0_cut_34 ?_
  refine pX0 F hK hP hD hS rfl 1 (by decide) q29 rfl rfl (ty := .int) (by decide +kernel) rfl rfl (Nat.le_of_ble_eq_true rfl) dX0_cut_35 (ws' := wX q d (ec - 1) sz st 0 nu (wq_up ou (j * 8 + a) (ou (j * 8 + a) ^^^ 2 ^ b)) (wq_up iw (j * 8 + b) (iw (j * 8 + b) ^^^ 2 ^ a)) ki la he be to) rfl (fun H locs hP hD hS => ?_)
  refine wq_iconst F 1 dX0_cut_38 (by decide) ?_
  exact wq_zret F hr hlk rfl (rfl) hK hP hD hS dX0_cut_39

set_option maxHeartbeats 4000000 in
set_option maxRecDepth 100000 in
/-- mark: no -/
theorem cX_mark_no (l : Launch) (D : va_G) (q : Nat → Nat) (d : Nat → ClassId) (ec sz st kn : Nat) (nu ou iw ki la he be to : Nat → Nat) (v k : Int32) (h : wq_isV v = 0 ∨ k.toInt < 0 ∨ 9 < k.toInt) : CtI l D vwCl (tX d) yX0_mark cX0_mark 3 .boolean rmX0_mark [.ref (q 0), .int v, .int k] (wX q d ec sz st kn nu ou iw ki la he be to) (nI 0) (wX q d ec sz st kn nu ou iw ki la he be to) := by
  refine CtI.of RX0 rfl (by decide +kernel) (Nat.le_of_ble_eq_true rfl) ?_
  intro p e s m below meth c A ls F hr hlk hK hA hP hD hS hl
  have hl : lv_has ls 3 [(0, .ref (q 0)), (1, .int v), (2, .int k)] := hl
  refine lv_iload_n F.1 F.2.1 dX0_mark_0 rfl (lv_at hl 1 rfl) ?_
  refine wq_callIs F (rest := []) (cX_isVertex l D (tX d) _ (v)) (va_cwS 1 F.2.2.2.2 (lw_S q72 q73 q18 q74) rfl rfl rfl (by decide +kernel) ⟨Nat.le_of_ble_eq_true rfl, Nat.le_of_ble_eq_true rfl⟩) rfl hK hP hD hS hA hl.1 rfl (Nat.le_of_ble_eq_true rfl) dX0_mark_1 ⟨Nat.zero_le _, Nat.zero_le _⟩ (fun H locs hP hD hS => ?_)
  refine wq_if_eq (tgt := 17) F (wq_isV_lt _) dX0_mark_4 (by decide) (fun c4 => ?_) (fun c4 => ?_)
  · refine wq_iconst F 0 dX0_mark_17 (by decide) ?_
    exact wq_zret F hr hlk rfl (rfl) hK hP hD hS dX0_mark_18
  · refine lv_iload_n F.1 F.2.1 dX0_mark_7 rfl (lv_at hl 2 rfl) ?_
    refine wr_if_lt (tgt := 17) F dX0_mark_8 (by decide) (fun c8 => ?_) (fun c8 => ?_)
    · refine wq_iconst F 0 dX0_mark_17 (by decide) ?_
      exact wq_zret F hr hlk rfl (rfl) hK hP hD hS dX0_mark_18
    · refine lv_iload_n F.1 F.2.1 dX0_mark_11 rfl (lv_at hl 2 rfl) ?_
      refine wq_bipush F 9 dX0_mark_12 (by decide) ?_
      refine wr_icmp_le (tgt := 19) F (rfl) (show (nI 9).toInt = (9 : Int) by decide) dX0_mark_14 (by decide) (fun c14 => False.elim (by omega)) (fun c14 => ?_)
      refine wq_iconst F 0 dX0_mark_17 (by decide) ?_
      exact wq_zret F hr hlk rfl (rfl) hK hP hD hS dX0_mark_18

set_option maxHeartbeats 4000000 in
set_option maxRecDepth 100000 in
/-- mark: done -/
theorem cX_mark_ok (l : Launch) (D : va_G) (q : Nat → Nat) (d : Nat → ClassId) (ec sz st kn : Nat) (nu ou iw ki la he be to : Nat → Nat) (v k : Nat) (hv : v < 8) (hk : k ≤ 9) : CtI l D vwCl (tX d) yX0_mark cX0_mark 3 .boolean rmX0_mark [.ref (q 0), .int (nI v), .int (nI k)] (wX q d ec sz st kn nu ou iw ki la he be to) (nI 1) (wX q d ec sz st 0 (wq_up nu v k) ou iw ki la he be to) := by
  refine CtI.of RX0 rfl (by decide +kernel) (Nat.le_of_ble_eq_true rfl) ?_
  intro p e s m below meth c A ls F hr hlk hK hA hP hD hS hl
  have hl : lv_has ls 3 [(0, .ref (q 0)), (1, .int (nI v)), (2, .int (nI k))] := hl
  refine lv_iload_n F.1 F.2.1 dX0_mark_0 rfl (lv_at hl 1 rfl) ?_
  refine wq_callIs F (rest := []) (cX_isVertex l D (tX d) _ ((nI v))) (va_cwS 1 F.2.2.2.2 (lw_S q72 q73 q18 q74) rfl rfl rfl (by decide +kernel) ⟨Nat.le_of_ble_eq_true rfl, Nat.le_of_ble_eq_true rfl⟩) rfl hK hP hD hS hA hl.1 rfl (Nat.le_of_ble_eq_true rfl) dX0_mark_1 ⟨Nat.zero_le _, Nat.zero_le _⟩ (fun H locs hP hD hS => ?_)
  have he1 := wq_isV_n hv
  refine wq_if_eq (tgt := 17) F (wq_isV_lt _) dX0_mark_4 (by decide) (fun c4 => False.elim (by omega)) (fun c4 => ?_)
  refine lv_iload_n F.1 F.2.1 dX0_mark_7 rfl (lv_at hl 2 rfl) ?_
  refine wq_if_lt (tgt := 17) F (by omega) dX0_mark_8 (by decide) (fun c8 => False.elim (c8)) (fun c8 => ?_)
  refine lv_iload_n F.1 F.2.1 dX0_mark_11 rfl (lv_at hl 2 rfl) ?_
  refine wq_bipush F 9 dX0_mark_12 (by decide) ?_
  refine wq_icmp_le (tgt := 19) F (by omega) (by omega) dX0_mark_14 (by decide) (fun c14 => ?_) (fun c14 => False.elim (by omega))
  refine lv_aload_n F.1 F.2.1 dX0_mark_19 rfl (lv_at hl 0 rfl) ?_
  refine gX0 F hK hP rfl 0 (by decide) q28 rfl (v := .ref (q 1)) rfl dX0_mark_20 ?_
  refine lv_iload_n F.1 F.2.1 dX0_mark_23 rfl (lv_at hl 1 rfl) ?_
  refine lv_iload_n F.1 F.2.1 dX0_mark_24 rfl (lv_at hl 2 rfl) ?_
  refine wq_i2bN F (by omega) dX0_mark_25 ?_
  refine wq_bast F hK hP hD hS 1 0 rfl rfl (by omega) (by decide) (by omega) dX0_mark_26 (ws' := wX q d ec sz st kn (wq_up nu v k) ou iw ki la he be to) rfl (fun H locs hP hD hS => ?_)
  refine lv_aload_n F.1 F.2.1 dX0_mark_27 rfl (lv_at hl 0 rfl) ?_
  refine wq_iconst F 0 dX0_mark_28 (by decide) ?_
  refine pX0 F hK hP hD hS rfl 8 (by decide) q36 rfl rfl (ty := .boolean) (by decide +kernel) (by decide +kernel) (by decide +kernel) (Nat.le_of_ble_eq_true rfl) dX0_mark_29 (ws' := wX q d ec sz st 0 (wq_up nu v k) ou iw ki la he be to) rfl (fun H locs hP hD hS => ?_)
  refine wq_iconst F 1 dX0_mark_32 (by decide) ?_
  exact wq_zret F hr hlk rfl (rfl) hK hP hD hS dX0_mark_33

set_option maxHeartbeats 4000000 in
set_option maxRecDepth 100000 in
/-- add: no -/
theorem cX_add_no (l : Launch) (D : va_G) (q : Nat → Nat) (d : Nat → ClassId) (ec sz st kn : Nat) (nu ou iw ki la he be to : Nat → Nat) (k x : Int32) (h : ¬ ((0 ≤ k.toInt ∧ k.toInt ≤ 7) ∧ (k.toInt ≤ 3 → 0 ≤ x.toInt ∧ x.toInt ≤ 2) ∧ (k.toInt = 4 → 0 ≤ x.toInt ∧ x.toInt ≤ 9))) : CtI l D vwCl (tX d) yX0_add cX0_add 4 .int rmX0_add [.ref (q 0), .int k, .int x] (wX q d ec sz st kn nu ou iw ki la he be to) (-1) (wX q d ec sz st kn nu ou iw ki la he be to) := by
  refine CtI.of RX0 rfl (by decide +kernel) (Nat.le_of_ble_eq_true rfl) ?_
  intro p e s m below meth c A ls F hr hlk hK hA hP hD hS hl
  have hl : lv_has ls 4 [(0, .ref (q 0)), (1, .int k), (2, .int x)] := hl
  refine lv_iload_n F.1 F.2.1 dX0_add_0 rfl (lv_at hl 1 rfl) ?_
  refine wr_if_lt (tgt := 13) F dX0_add_1 (by decide) (fun c1 => ?_) (fun c1 => ?_)
  · refine wq_iconst F 0 dX0_add_13 (by decide) ?_
    refine lv_istore_n (lv' := [(3, .int (nI 0)), (0, .ref (q 0)), (1, .int k), (2, .int x)]) F.1 F.2.1 dX0_add_14 rfl hl (by decide) rfl (fun ls hl => ?_)
    refine lv_iload_n F.1 F.2.1 dX0_add_15 rfl (lv_at hl 2 rfl) ?_
    refine wr_if_lt (tgt := 53) F dX0_add_16 (by decide) (fun c16 => ?_) (fun c16 => ?_)
    · refine lv_iconst (v := -1) F.1 F.2.1 dX0_add_53 (by decide) ?_
      exact wq_iret F hr hlk (rfl) hK hP hD hS dX0_add_54
    · refine lv_iload_n F.1 F.2.1 dX0_add_19 rfl (lv_at hl 2 rfl) ?_
      refine wq_bipush F 7 dX0_add_20 (by decide) ?_
      refine wr_icmp_gt (tgt := 53) F (rfl) (show (nI 7).toInt = (7 : Int) by decide) dX0_add_22 (by decide) (fun c22 => ?_) (fun c22 => ?_)
      · refine lv_iconst (v := -1) F.1 F.2.1 dX0_add_53 (by decide) ?_
        exact wq_iret F hr hlk (rfl) hK hP hD hS dX0_add_54
      · refine lv_iload_n F.1 F.2.1 dX0_add_25 rfl (lv_at hl 0 rfl) ?_
        refine wq_if_eq (tgt := 38) F (by omega) dX0_add_26 (by decide) (fun c26 => ?_) (fun c26 => False.elim (by omega))
        refine lv_iload_n F.1 F.2.1 dX0_add_38 rfl (lv_at hl 2 rfl) ?_
        refine wq_iconst F 4 dX0_add_39 (by decide) ?_
        refine wr_icmp_ne (tgt := 55) F (rfl) (show (nI 4).toInt = (4 : Int) by decide) dX0_add_40 (by decide) (fun c40 => ?_) (fun c40 => ?_)
        · exfalso
          omega
        · refine lv_iload_n F.1 F.2.1 dX0_add_43 rfl (lv_at hl 3 rfl) ?_
          refine wr_if_lt (tgt := 53) F dX0_add_44 (by decide) (fun c44 => ?_) (fun c44 => ?_)
          · refine lv_iconst (v := -1) F.1 F.2.1 dX0_add_53 (by decide) ?_
            exact wq_iret F hr hlk (rfl) hK hP hD hS dX0_add_54
          · refine lv_iload_n F.1 F.2.1 dX0_add_47 rfl (lv_at hl 3 rfl) ?_
            refine wq_bipush F 9 dX0_add_48 (by decide) ?_
            refine wr_icmp_le (tgt := 55) F (rfl) (show (nI 9).toInt = (9 : Int) by decide) dX0_add_50 (by decide) (fun c50 => ?_) (fun c50 => ?_)
            · exfalso
              omega
            · refine lv_iconst (v := -1) F.1 F.2.1 dX0_add_53 (by decide) ?_
              exact wq_iret F hr hlk (rfl) hK hP hD hS dX0_add_54
  · refine lv_iload_n F.1 F.2.1 dX0_add_4 rfl (lv_at hl 1 rfl) ?_
    refine wq_iconst F 3 dX0_add_5 (by decide) ?_
    refine wr_icmp_gt (tgt := 13) F (rfl) (show (nI 3).toInt = (3 : Int) by decide) dX0_add_6 (by decide) (fun c6 => ?_) (fun c6 => ?_)
    · refine wq_iconst F 0 dX0_add_13 (by decide) ?_
      refine lv_istore_n (lv' := [(3, .int (nI 0)), (0, .ref (q 0)), (1, .int k), (2, .int x)]) F.1 F.2.1 dX0_add_14 rfl hl (by decide) rfl (fun ls hl => ?_)
      refine lv_iload_n F.1 F.2.1 dX0_add_15 rfl (lv_at hl 2 rfl) ?_
      refine wr_if_lt (tgt := 53) F dX0_add_16 (by decide) (fun c16 => ?_) (fun c16 => ?_)
      · refine lv_iconst (v := -1) F.1 F.2.1 dX0_add_53 (by decide) ?_
        exact wq_iret F hr hlk (rfl) hK hP hD hS dX0_add_54
      · refine lv_iload_n F.1 F.2.1 dX0_add_19 rfl (lv_at hl 2 rfl) ?_
        refine wq_bipush F 7 dX0_add_20 (by decide) ?_
        refine wr_icmp_gt (tgt := 53) F (rfl) (show (nI 7).toInt = (7 : Int) by decide) dX0_add_22 (by decide) (fun c22 => ?_) (fun c22 => ?_)
        · refine lv_iconst (v := -1) F.1 F.2.1 dX0_add_53 (by decide) ?_
          exact wq_iret F hr hlk (rfl) hK hP hD hS dX0_add_54
        · refine lv_iload_n F.1 F.2.1 dX0_add_25 rfl (lv_at hl 0 rfl) ?_
          refine wq_if_eq (tgt := 38) F (by omega) dX0_add_26 (by decide) (fun c26 => ?_) (fun c26 => False.elim (by omega))
          refine lv_iload_n F.1 F.2.1 dX0_add_38 rfl (lv_at hl 2 rfl) ?_
          refine wq_iconst F 4 dX0_add_39 (by decide) ?_
          refine wr_icmp_ne (tgt := 55) F (rfl) (show (nI 4).toInt = (4 : Int) by decide) dX0_add_40 (by decide) (fun c40 => ?_) (fun c40 => ?_)
          · exfalso
            omega
          · refine lv_iload_n F.1 F.2.1 dX0_add_43 rfl (lv_at hl 3 rfl) ?_
            refine wr_if_lt (tgt := 53) F dX0_add_44 (by decide) (fun c44 => ?_) (fun c44 => ?_)
            · refine lv_iconst (v := -1) F.1 F.2.1 dX0_add_53 (by decide) ?_
              exact wq_iret F hr hlk (rfl) hK hP hD hS dX0_add_54
            · refine lv_iload_n F.1 F.2.1 dX0_add_47 rfl (lv_at hl 3 rfl) ?_
              refine wq_bipush F 9 dX0_add_48 (by decide) ?_
              refine wr_icmp_le (tgt := 55) F (rfl) (show (nI 9).toInt = (9 : Int) by decide) dX0_add_50 (by decide) (fun c50 => ?_) (fun c50 => ?_)
              · exfalso
                omega
              · refine lv_iconst (v := -1) F.1 F.2.1 dX0_add_53 (by decide) ?_
                exact wq_iret F hr hlk (rfl) hK hP hD hS dX0_add_54
    · refine wq_iconst F 1 dX0_add_9 (by decide) ?_
      refine lv_goto (tgt := 14) F.1 F.2.1 dX0_add_10 (by decide) ?_
      refine lv_istore_n (lv' := [(3, .int (nI 1)), (0, .ref (q 0)), (1, .int k), (2, .int x)]) F.1 F.2.1 dX0_add_14 rfl hl (by decide) rfl (fun ls hl => ?_)
      refine lv_iload_n F.1 F.2.1 dX0_add_15 rfl (lv_at hl 2 rfl) ?_
      refine wr_if_lt (tgt := 53) F dX0_add_16 (by decide) (fun c16 => ?_) (fun c16 => ?_)
      · refine lv_iconst (v := -1) F.1 F.2.1 dX0_add_53 (by decide) ?_
        exact wq_iret F hr hlk (rfl) hK hP hD hS dX0_add_54
      · refine lv_iload_n F.1 F.2.1 dX0_add_19 rfl (lv_at hl 2 rfl) ?_
        refine wq_bipush F 7 dX0_add_20 (by decide) ?_
        refine wr_icmp_gt (tgt := 53) F (rfl) (show (nI 7).toInt = (7 : Int) by decide) dX0_add_22 (by decide) (fun c22 => ?_) (fun c22 => ?_)
        · refine lv_iconst (v := -1) F.1 F.2.1 dX0_add_53 (by decide) ?_
          exact wq_iret F hr hlk (rfl) hK hP hD hS dX0_add_54
        · refine lv_iload_n F.1 F.2.1 dX0_add_25 rfl (lv_at hl 0 rfl) ?_
          refine wq_if_eq (tgt := 38) F (by omega) dX0_add_26 (by decide) (fun c26 => False.elim (by omega)) (fun c26 => ?_)
          refine lv_iload_n F.1 F.2.1 dX0_add_29 rfl (lv_at hl 3 rfl) ?_
          refine wr_if_lt (tgt := 53) F dX0_add_30 (by decide) (fun c30 => ?_) (fun c30 => ?_)
          · refine lv_iconst (v := -1) F.1 F.2.1 dX0_add_53 (by decide) ?_
            exact wq_iret F hr hlk (rfl) hK hP hD hS dX0_add_54
          · refine lv_iload_n F.1 F.2.1 dX0_add_33 rfl (lv_at hl 3 rfl) ?_
            refine wq_iconst F 2 dX0_add_34 (by decide) ?_
            refine wr_icmp_gt (tgt := 53) F (rfl) (show (nI 2).toInt = (2 : Int) by decide) dX0_add_35 (by decide) (fun c35 => ?_) (fun c35 => ?_)
            · refine lv_iconst (v := -1) F.1 F.2.1 dX0_add_53 (by decide) ?_
              exact wq_iret F hr hlk (rfl) hK hP hD hS dX0_add_54
            · refine lv_iload_n F.1 F.2.1 dX0_add_38 rfl (lv_at hl 2 rfl) ?_
              refine wq_iconst F 4 dX0_add_39 (by decide) ?_
              refine wr_icmp_ne (tgt := 55) F (rfl) (show (nI 4).toInt = (4 : Int) by decide) dX0_add_40 (by decide) (fun c40 => ?_) (fun c40 => ?_)
              · exfalso
                omega
              · refine lv_iload_n F.1 F.2.1 dX0_add_43 rfl (lv_at hl 3 rfl) ?_
                refine wr_if_lt (tgt := 53) F dX0_add_44 (by decide) (fun c44 => ?_) (fun c44 => ?_)
                · refine lv_iconst (v := -1) F.1 F.2.1 dX0_add_53 (by decide) ?_
                  exact wq_iret F hr hlk (rfl) hK hP hD hS dX0_add_54
                · refine lv_iload_n F.1 F.2.1 dX0_add_47 rfl (lv_at hl 3 rfl) ?_
                  refine wq_bipush F 9 dX0_add_48 (by decide) ?_
                  refine wr_icmp_le (tgt := 55) F (rfl) (show (nI 9).toInt = (9 : Int) by decide) dX0_add_50 (by decide) (fun c50 => ?_) (fun c50 => ?_)
                  · exfalso
                    omega
                  · refine lv_iconst (v := -1) F.1 F.2.1 dX0_add_53 (by decide) ?_
                    exact wq_iret F hr hlk (rfl) hK hP hD hS dX0_add_54

set_option maxHeartbeats 4000000 in
set_option maxRecDepth 100000 in
/-- add: full -/
theorem cX_add_full (l : Launch) (D : va_G) (q : Nat → Nat) (d : Nat → ClassId) (ec sz st kn : Nat) (nu ou iw ki la he be to : Nat → Nat) (k x : Int32) (hsz : 6 ≤ sz) (hs2 : sz < 2 ^ 31) (h : (0 ≤ k.toInt ∧ k.toInt ≤ 7) ∧ (k.toInt ≤ 3 → 0 ≤ x.toInt ∧ x.toInt ≤ 2) ∧ (k.toInt = 4 → 0 ≤ x.toInt ∧ x.toInt ≤ 9)) : CtI l D vwCl (tX d) yX0_add cX0_add 4 .int rmX0_add [.ref (q 0), .int k, .int x] (wX q d ec sz st kn nu ou iw ki la he be to) (-2) (wX q d ec sz st kn nu ou iw ki la he be to) := by
  refine CtI.of RX0 rfl (by decide +kernel) (Nat.le_of_ble_eq_true rfl) ?_
  intro p e s m below meth c A ls F hr hlk hK hA hP hD hS hl
  have hl : lv_has ls 4 [(0, .ref (q 0)), (1, .int k), (2, .int x)] := hl
  refine lv_iload_n F.1 F.2.1 dX0_add_0 rfl (lv_at hl 1 rfl) ?_
  refine wr_if_lt (tgt := 13) F dX0_add_1 (by decide) (fun c1 => ?_) (fun c1 => ?_)
  · refine wq_iconst F 0 dX0_add_13 (by decide) ?_
    refine lv_istore_n (lv' := [(3, .int (nI 0)), (0, .ref (q 0)), (1, .int k), (2, .int x)]) F.1 F.2.1 dX0_add_14 rfl hl (by decide) rfl (fun ls hl => ?_)
    refine lv_iload_n F.1 F.2.1 dX0_add_15 rfl (lv_at hl 2 rfl) ?_
    refine wr_if_lt (tgt := 53) F dX0_add_16 (by decide) (fun c16 => ?_) (fun c16 => ?_)
    · exfalso
      omega
    · refine lv_iload_n F.1 F.2.1 dX0_add_19 rfl (lv_at hl 2 rfl) ?_
      refine wq_bipush F 7 dX0_add_20 (by decide) ?_
      refine wr_icmp_gt (tgt := 53) F (rfl) (show (nI 7).toInt = (7 : Int) by decide) dX0_add_22 (by decide) (fun c22 => ?_) (fun c22 => ?_)
      · exfalso
        omega
      · refine lv_iload_n F.1 F.2.1 dX0_add_25 rfl (lv_at hl 0 rfl) ?_
        refine wq_if_eq (tgt := 38) F (by omega) dX0_add_26 (by decide) (fun c26 => ?_) (fun c26 => False.elim (by omega))
        refine lv_iload_n F.1 F.2.1 dX0_add_38 rfl (lv_at hl 2 rfl) ?_
        refine wq_iconst F 4 dX0_add_39 (by decide) ?_
        refine wr_icmp_ne (tgt := 55) F (rfl) (show (nI 4).toInt = (4 : Int) by decide) dX0_add_40 (by decide) (fun c40 => ?_) (fun c40 => ?_)
        · refine lv_aload_n F.1 F.2.1 dX0_add_55 rfl (lv_at hl 1 rfl) ?_
          refine gX0 F hK hP rfl 6 (by decide) q34 rfl (v := .int (nI sz)) rfl dX0_add_56 ?_
          refine wq_bipush F 6 dX0_add_59 (by decide) ?_
          refine wq_icmp_lt (tgt := 67) F (by omega) (by omega) dX0_add_61 (by decide) (fun c61 => False.elim (by omega)) (fun c61 => ?_)
          refine lv_bipush (v := -2) F.1 F.2.1 dX0_add_64 (by decide) ?_
          exact wq_iret F hr hlk (rfl) hK hP hD hS dX0_add_66
        · refine lv_iload_n F.1 F.2.1 dX0_add_43 rfl (lv_at hl 3 rfl) ?_
          refine wr_if_lt (tgt := 53) F dX0_add_44 (by decide) (fun c44 => ?_) (fun c44 => ?_)
          · exfalso
            omega
          · refine lv_iload_n F.1 F.2.1 dX0_add_47 rfl (lv_at hl 3 rfl) ?_
            refine wq_bipush F 9 dX0_add_48 (by decide) ?_
            refine wr_icmp_le (tgt := 55) F (rfl) (show (nI 9).toInt = (9 : Int) by decide) dX0_add_50 (by decide) (fun c50 => ?_) (fun c50 => ?_)
            · refine lv_aload_n F.1 F.2.1 dX0_add_55 rfl (lv_at hl 1 rfl) ?_
              refine gX0 F hK hP rfl 6 (by decide) q34 rfl (v := .int (nI sz)) rfl dX0_add_56 ?_
              refine wq_bipush F 6 dX0_add_59 (by decide) ?_
              refine wq_icmp_lt (tgt := 67) F (by omega) (by omega) dX0_add_61 (by decide) (fun c61 => False.elim (by omega)) (fun c61 => ?_)
              refine lv_bipush (v := -2) F.1 F.2.1 dX0_add_64 (by decide) ?_
              exact wq_iret F hr hlk (rfl) hK hP hD hS dX0_add_66
            · exfalso
              omega
  · refine lv_iload_n F.1 F.2.1 dX0_add_4 rfl (lv_at hl 1 rfl) ?_
    refine wq_iconst F 3 dX0_add_5 (by decide) ?_
    refine wr_icmp_gt (tgt := 13) F (rfl) (show (nI 3).toInt = (3 : Int) by decide) dX0_add_6 (by decide) (fun c6 => ?_) (fun c6 => ?_)
    · refine wq_iconst F 0 dX0_add_13 (by decide) ?_
      refine lv_istore_n (lv' := [(3, .int (nI 0)), (0, .ref (q 0)), (1, .int k), (2, .int x)]) F.1 F.2.1 dX0_add_14 rfl hl (by decide) rfl (fun ls hl => ?_)
      refine lv_iload_n F.1 F.2.1 dX0_add_15 rfl (lv_at hl 2 rfl) ?_
      refine wr_if_lt (tgt := 53) F dX0_add_16 (by decide) (fun c16 => ?_) (fun c16 => ?_)
      · exfalso
        omega
      · refine lv_iload_n F.1 F.2.1 dX0_add_19 rfl (lv_at hl 2 rfl) ?_
        refine wq_bipush F 7 dX0_add_20 (by decide) ?_
        refine wr_icmp_gt (tgt := 53) F (rfl) (show (nI 7).toInt = (7 : Int) by decide) dX0_add_22 (by decide) (fun c22 => ?_) (fun c22 => ?_)
        · exfalso
          omega
        · refine lv_iload_n F.1 F.2.1 dX0_add_25 rfl (lv_at hl 0 rfl) ?_
          refine wq_if_eq (tgt := 38) F (by omega) dX0_add_26 (by decide) (fun c26 => ?_) (fun c26 => False.elim (by omega))
          refine lv_iload_n F.1 F.2.1 dX0_add_38 rfl (lv_at hl 2 rfl) ?_
          refine wq_iconst F 4 dX0_add_39 (by decide) ?_
          refine wr_icmp_ne (tgt := 55) F (rfl) (show (nI 4).toInt = (4 : Int) by decide) dX0_add_40 (by decide) (fun c40 => ?_) (fun c40 => ?_)
          · refine lv_aload_n F.1 F.2.1 dX0_add_55 rfl (lv_at hl 1 rfl) ?_
            refine gX0 F hK hP rfl 6 (by decide) q34 rfl (v := .int (nI sz)) rfl dX0_add_56 ?_
            refine wq_bipush F 6 dX0_add_59 (by decide) ?_
            refine wq_icmp_lt (tgt := 67) F (by omega) (by omega) dX0_add_61 (by decide) (fun c61 => False.elim (by omega)) (fun c61 => ?_)
            refine lv_bipush (v := -2) F.1 F.2.1 dX0_add_64 (by decide) ?_
            exact wq_iret F hr hlk (rfl) hK hP hD hS dX0_add_66
          · refine lv_iload_n F.1 F.2.1 dX0_add_43 rfl (lv_at hl 3 rfl) ?_
            refine wr_if_lt (tgt := 53) F dX0_add_44 (by decide) (fun c44 => ?_) (fun c44 => ?_)
            · exfalso
              omega
            · refine lv_iload_n F.1 F.2.1 dX0_add_47 rfl (lv_at hl 3 rfl) ?_
              refine wq_bipush F 9 dX0_add_48 (by decide) ?_
              refine wr_icmp_le (tgt := 55) F (rfl) (show (nI 9).toInt = (9 : Int) by decide) dX0_add_50 (by decide) (fun c50 => ?_) (fun c50 => ?_)
              · refine lv_aload_n F.1 F.2.1 dX0_add_55 rfl (lv_at hl 1 rfl) ?_
                refine gX0 F hK hP rfl 6 (by decide) q34 rfl (v := .int (nI sz)) rfl dX0_add_56 ?_
                refine wq_bipush F 6 dX0_add_59 (by decide) ?_
                refine wq_icmp_lt (tgt := 67) F (by omega) (by omega) dX0_add_61 (by decide) (fun c61 => False.elim (by omega)) (fun c61 => ?_)
                refine lv_bipush (v := -2) F.1 F.2.1 dX0_add_64 (by decide) ?_
                exact wq_iret F hr hlk (rfl) hK hP hD hS dX0_add_66
              · exfalso
                omega
    · refine wq_iconst F 1 dX0_add_9 (by decide) ?_
      refine lv_goto (tgt := 14) F.1 F.2.1 dX0_add_10 (by decide) ?_
      refine lv_istore_n (lv' := [(3, .int (nI 1)), (0, .ref (q 0)), (1, .int k), (2, .int x)]) F.1 F.2.1 dX0_add_14 rfl hl (by decide) rfl (fun ls hl => ?_)
      refine lv_iload_n F.1 F.2.1 dX0_add_15 rfl (lv_at hl 2 rfl) ?_
      refine wr_if_lt (tgt := 53) F dX0_add_16 (by decide) (fun c16 => ?_) (fun c16 => ?_)
      · exfalso
        omega
      · refine lv_iload_n F.1 F.2.1 dX0_add_19 rfl (lv_at hl 2 rfl) ?_
        refine wq_bipush F 7 dX0_add_20 (by decide) ?_
        refine wr_icmp_gt (tgt := 53) F (rfl) (show (nI 7).toInt = (7 : Int) by decide) dX0_add_22 (by decide) (fun c22 => ?_) (fun c22 => ?_)
        · exfalso
          omega
        · refine lv_iload_n F.1 F.2.1 dX0_add_25 rfl (lv_at hl 0 rfl) ?_
          refine wq_if_eq (tgt := 38) F (by omega) dX0_add_26 (by decide) (fun c26 => False.elim (by omega)) (fun c26 => ?_)
          refine lv_iload_n F.1 F.2.1 dX0_add_29 rfl (lv_at hl 3 rfl) ?_
          refine wr_if_lt (tgt := 53) F dX0_add_30 (by decide) (fun c30 => ?_) (fun c30 => ?_)
          · exfalso
            omega
          · refine lv_iload_n F.1 F.2.1 dX0_add_33 rfl (lv_at hl 3 rfl) ?_
            refine wq_iconst F 2 dX0_add_34 (by decide) ?_
            refine wr_icmp_gt (tgt := 53) F (rfl) (show (nI 2).toInt = (2 : Int) by decide) dX0_add_35 (by decide) (fun c35 => ?_) (fun c35 => ?_)
            · exfalso
              omega
            · refine lv_iload_n F.1 F.2.1 dX0_add_38 rfl (lv_at hl 2 rfl) ?_
              refine wq_iconst F 4 dX0_add_39 (by decide) ?_
              refine wr_icmp_ne (tgt := 55) F (rfl) (show (nI 4).toInt = (4 : Int) by decide) dX0_add_40 (by decide) (fun c40 => ?_) (fun c40 => ?_)
              · refine lv_aload_n F.1 F.2.1 dX0_add_55 rfl (lv_at hl 1 rfl) ?_
                refine gX0 F hK hP rfl 6 (by decide) q34 rfl (v := .int (nI sz)) rfl dX0_add_56 ?_
                refine wq_bipush F 6 dX0_add_59 (by decide) ?_
                refine wq_icmp_lt (tgt := 67) F (by omega) (by omega) dX0_add_61 (by decide) (fun c61 => False.elim (by omega)) (fun c61 => ?_)
                refine lv_bipush (v := -2) F.1 F.2.1 dX0_add_64 (by decide) ?_
                exact wq_iret F hr hlk (rfl) hK hP hD hS dX0_add_66
              · refine lv_iload_n F.1 F.2.1 dX0_add_43 rfl (lv_at hl 3 rfl) ?_
                refine wr_if_lt (tgt := 53) F dX0_add_44 (by decide) (fun c44 => ?_) (fun c44 => ?_)
                · exfalso
                  omega
                · refine lv_iload_n F.1 F.2.1 dX0_add_47 rfl (lv_at hl 3 rfl) ?_
                  refine wq_bipush F 9 dX0_add_48 (by decide) ?_
                  refine wr_icmp_le (tgt := 55) F (rfl) (show (nI 9).toInt = (9 : Int) by decide) dX0_add_50 (by decide) (fun c50 => ?_) (fun c50 => ?_)
                  · refine lv_aload_n F.1 F.2.1 dX0_add_55 rfl (lv_at hl 1 rfl) ?_
                    refine gX0 F hK hP rfl 6 (by decide) q34 rfl (v := .int (nI sz)) rfl dX0_add_56 ?_
                    refine wq_bipush F 6 dX0_add_59 (by decide) ?_
                    refine wq_icmp_lt (tgt := 67) F (by omega) (by omega) dX0_add_61 (by decide) (fun c61 => False.elim (by omega)) (fun c61 => ?_)
                    refine lv_bipush (v := -2) F.1 F.2.1 dX0_add_64 (by decide) ?_
                    exact wq_iret F hr hlk (rfl) hK hP hD hS dX0_add_66
                  · exfalso
                    omega

set_option maxHeartbeats 4000000 in
set_option maxRecDepth 100000 in
/-- add: a step with a number -/
theorem cX_add_ok (l : Launch) (D : va_G) (q : Nat → Nat) (d : Nat → ClassId) (ec sz st kn : Nat) (nu ou iw ki la he be to : Nat → Nat) (k x : Nat) (hsz : sz < 6) (hk : k ≤ 4) (hx : x ≤ 9) (h3 : k ≤ 3 → x ≤ 2) : CtI l D vwCl (tX d) yX0_add cX0_add 4 .int rmX0_add [.ref (q 0), .int (nI k), .int (nI x)] (wX q d ec sz st kn nu ou iw ki la he be to) (nI (sz + 1)) (wX q d ec (sz + 1) st 0 nu ou iw (wq_up ki sz k) (wq_up la sz x) he be to) := by
  refine CtI.of RX0 rfl (by decide +kernel) (Nat.le_of_ble_eq_true rfl) ?_
  intro p e s m below meth c A ls F hr hlk hK hA hP hD hS hl
  have hl : lv_has ls 4 [(0, .ref (q 0)), (1, .int (nI k)), (2, .int (nI x))] := hl
  refine lv_iload_n F.1 F.2.1 dX0_add_0 rfl (lv_at hl 1 rfl) ?_
  refine wq_if_lt (tgt := 13) F (by omega) dX0_add_1 (by decide) (fun c1 => False.elim (c1)) (fun c1 => ?_)
  refine lv_iload_n F.1 F.2.1 dX0_add_4 rfl (lv_at hl 1 rfl) ?_
  refine wq_iconst F 3 dX0_add_5 (by decide) ?_
  refine wq_icmp_gt (tgt := 13) F (by omega) (by omega) dX0_add_6 (by decide) (fun c6 => ?_) (fun c6 => ?_)
  · refine wq_iconst F 0 dX0_add_13 (by decide) ?_
    refine lv_istore_n (lv' := [(3, .int (nI 0)), (0, .ref (q 0)), (1, .int (nI k)), (2, .int (nI x))]) F.1 F.2.1 dX0_add_14 rfl hl (by decide) rfl (fun ls hl => ?_)
    refine lv_iload_n F.1 F.2.1 dX0_add_15 rfl (lv_at hl 2 rfl) ?_
    refine wq_if_lt (tgt := 53) F (by omega) dX0_add_16 (by decide) (fun c16 => False.elim (c16)) (fun c16 => ?_)
    refine lv_iload_n F.1 F.2.1 dX0_add_19 rfl (lv_at hl 2 rfl) ?_
    refine wq_bipush F 7 dX0_add_20 (by decide) ?_
    refine wq_icmp_gt (tgt := 53) F (by omega) (by omega) dX0_add_22 (by decide) (fun c22 => ?_) (fun c22 => ?_)
    · exfalso
      omega
    · refine lv_iload_n F.1 F.2.1 dX0_add_25 rfl (lv_at hl 0 rfl) ?_
      refine wq_if_eq (tgt := 38) F (by omega) dX0_add_26 (by decide) (fun c26 => ?_) (fun c26 => False.elim (by omega))
      refine lv_iload_n F.1 F.2.1 dX0_add_38 rfl (lv_at hl 2 rfl) ?_
      refine wq_iconst F 4 dX0_add_39 (by decide) ?_
      refine wq_icmp_ne (tgt := 55) F (by omega) (by omega) dX0_add_40 (by decide) (fun c40 => ?_) (fun c40 => ?_)
      · refine lv_aload_n F.1 F.2.1 dX0_add_55 rfl (lv_at hl 1 rfl) ?_
        refine gX0 F hK hP rfl 6 (by decide) q34 rfl (v := .int (nI sz)) rfl dX0_add_56 ?_
        refine wq_bipush F 6 dX0_add_59 (by decide) ?_
        refine wq_icmp_lt (tgt := 67) F (by omega) (by omega) dX0_add_61 (by decide) (fun c61 => ?_) (fun c61 => False.elim (by omega))
        refine lv_aload_n F.1 F.2.1 dX0_add_67 rfl (lv_at hl 1 rfl) ?_
        refine gX0 F hK hP rfl 4 (by decide) q32 rfl (v := .ref (q 4)) rfl dX0_add_68 ?_
        refine lv_aload_n F.1 F.2.1 dX0_add_71 rfl (lv_at hl 1 rfl) ?_
        refine gX0 F hK hP rfl 6 (by decide) q34 rfl (v := .int (nI sz)) rfl dX0_add_72 ?_
        refine lv_iload_n F.1 F.2.1 dX0_add_75 rfl (lv_at hl 2 rfl) ?_
        refine wq_i2bN F (by omega) dX0_add_76 ?_
        refine wq_bast F hK hP hD hS 4 3 rfl rfl (by omega) (by decide) (by omega) dX0_add_77 (ws' := wX q d ec sz st kn nu ou iw (wq_up ki sz k) la he be to) rfl (fun H locs hP hD hS => ?_)
        refine lv_aload_n F.1 F.2.1 dX0_add_78 rfl (lv_at hl 1 rfl) ?_
        refine gX0 F hK hP rfl 5 (by decide) q33 rfl (v := .ref (q 5)) rfl dX0_add_79 ?_
        refine lv_aload_n F.1 F.2.1 dX0_add_82 rfl (lv_at hl 1 rfl) ?_
        refine gX0 F hK hP rfl 6 (by decide) q34 rfl (v := .int (nI sz)) rfl dX0_add_83 ?_
        refine lv_iload_n F.1 F.2.1 dX0_add_86 rfl (lv_at hl 0 rfl) ?_
        refine wq_if_ne (tgt := 95) F (by omega) dX0_add_87 (by decide) (fun c87 => False.elim (by omega)) (fun c87 => ?_)
        refine lv_iload_n F.1 F.2.1 dX0_add_90 rfl (lv_at hl 2 rfl) ?_
        refine wq_iconst F 4 dX0_add_91 (by decide) ?_
        refine wq_icmp_ne (tgt := 99) F (by omega) (by omega) dX0_add_92 (by decide) (fun c92 => ?_) (fun c92 => ?_)
        · exfalso
          omega
        · refine lv_iload_n F.1 F.2.1 dX0_add_95 rfl (lv_at hl 3 rfl) ?_
          refine lv_goto (tgt := 100) F.1 F.2.1 dX0_add_96 (by decide) ?_
          refine wq_i2bN F (by omega) dX0_add_100 ?_
          refine wq_bast F hK hP hD hS 5 4 rfl rfl (by omega) (by decide) (by omega) dX0_add_101 (ws' := wX q d ec sz st kn nu ou iw (wq_up ki sz k) (wq_up la sz x) he be to) rfl (fun H locs hP hD hS => ?_)
          refine lv_aload_n F.1 F.2.1 dX0_add_102 rfl (lv_at hl 1 rfl) ?_
          refine lv_dup F.1 F.2.1 dX0_add_103 rfl ?_
          refine gX0 F hK hP rfl 6 (by decide) q34 rfl (v := .int (nI sz)) rfl dX0_add_104 ?_
          refine wq_iconst F 1 dX0_add_107 (by decide) ?_
          refine wq_iadd F dX0_add_108 ?_
          refine pX0 F hK hP hD hS rfl 6 (by decide) q34 rfl rfl (ty := .int) (by decide +kernel) rfl rfl (Nat.le_of_ble_eq_true rfl) dX0_add_109 (ws' := wX q d ec (sz + 1) st kn nu ou iw (wq_up ki sz k) (wq_up la sz x) he be to) rfl (fun H locs hP hD hS => ?_)
          refine lv_aload_n F.1 F.2.1 dX0_add_112 rfl (lv_at hl 1 rfl) ?_
          refine wq_iconst F 0 dX0_add_113 (by decide) ?_
          refine pX0 F hK hP hD hS rfl 8 (by decide) q36 rfl rfl (ty := .boolean) (by decide +kernel) (by decide +kernel) (by decide +kernel) (Nat.le_of_ble_eq_true rfl) dX0_add_114 (ws' := wX q d ec (sz + 1) st 0 nu ou iw (wq_up ki sz k) (wq_up la sz x) he be to) rfl (fun H locs hP hD hS => ?_)
          refine lv_aload_n F.1 F.2.1 dX0_add_117 rfl (lv_at hl 1 rfl) ?_
          refine gX0 F hK hP rfl 6 (by decide) q34 rfl (v := .int (nI (sz + 1))) rfl dX0_add_118 ?_
          exact wq_iret F hr hlk (rfl) hK hP hD hS dX0_add_121
      · refine lv_iload_n F.1 F.2.1 dX0_add_43 rfl (lv_at hl 3 rfl) ?_
        refine wq_if_lt (tgt := 53) F (by omega) dX0_add_44 (by decide) (fun c44 => False.elim (c44)) (fun c44 => ?_)
        refine lv_iload_n F.1 F.2.1 dX0_add_47 rfl (lv_at hl 3 rfl) ?_
        refine wq_bipush F 9 dX0_add_48 (by decide) ?_
        refine wq_icmp_le (tgt := 55) F (by omega) (by omega) dX0_add_50 (by decide) (fun c50 => ?_) (fun c50 => ?_)
        · refine lv_aload_n F.1 F.2.1 dX0_add_55 rfl (lv_at hl 1 rfl) ?_
          refine gX0 F hK hP rfl 6 (by decide) q34 rfl (v := .int (nI sz)) rfl dX0_add_56 ?_
          refine wq_bipush F 6 dX0_add_59 (by decide) ?_
          refine wq_icmp_lt (tgt := 67) F (by omega) (by omega) dX0_add_61 (by decide) (fun c61 => ?_) (fun c61 => False.elim (by omega))
          refine lv_aload_n F.1 F.2.1 dX0_add_67 rfl (lv_at hl 1 rfl) ?_
          refine gX0 F hK hP rfl 4 (by decide) q32 rfl (v := .ref (q 4)) rfl dX0_add_68 ?_
          refine lv_aload_n F.1 F.2.1 dX0_add_71 rfl (lv_at hl 1 rfl) ?_
          refine gX0 F hK hP rfl 6 (by decide) q34 rfl (v := .int (nI sz)) rfl dX0_add_72 ?_
          refine lv_iload_n F.1 F.2.1 dX0_add_75 rfl (lv_at hl 2 rfl) ?_
          refine wq_i2bN F (by omega) dX0_add_76 ?_
          refine wq_bast F hK hP hD hS 4 3 rfl rfl (by omega) (by decide) (by omega) dX0_add_77 (ws' := wX q d ec sz st kn nu ou iw (wq_up ki sz k) la he be to) rfl (fun H locs hP hD hS => ?_)
          refine lv_aload_n F.1 F.2.1 dX0_add_78 rfl (lv_at hl 1 rfl) ?_
          refine gX0 F hK hP rfl 5 (by decide) q33 rfl (v := .ref (q 5)) rfl dX0_add_79 ?_
          refine lv_aload_n F.1 F.2.1 dX0_add_82 rfl (lv_at hl 1 rfl) ?_
          refine gX0 F hK hP rfl 6 (by decide) q34 rfl (v := .int (nI sz)) rfl dX0_add_83 ?_
          refine lv_iload_n F.1 F.2.1 dX0_add_86 rfl (lv_at hl 0 rfl) ?_
          refine wq_if_ne (tgt := 95) F (by omega) dX0_add_87 (by decide) (fun c87 => False.elim (by omega)) (fun c87 => ?_)
          refine lv_iload_n F.1 F.2.1 dX0_add_90 rfl (lv_at hl 2 rfl) ?_
          refine wq_iconst F 4 dX0_add_91 (by decide) ?_
          refine wq_icmp_ne (tgt := 99) F (by omega) (by omega) dX0_add_92 (by decide) (fun c92 => ?_) (fun c92 => ?_)
          · exfalso
            omega
          · refine lv_iload_n F.1 F.2.1 dX0_add_95 rfl (lv_at hl 3 rfl) ?_
            refine lv_goto (tgt := 100) F.1 F.2.1 dX0_add_96 (by decide) ?_
            refine wq_i2bN F (by omega) dX0_add_100 ?_
            refine wq_bast F hK hP hD hS 5 4 rfl rfl (by omega) (by decide) (by omega) dX0_add_101 (ws' := wX q d ec sz st kn nu ou iw (wq_up ki sz k) (wq_up la sz x) he be to) rfl (fun H locs hP hD hS => ?_)
            refine lv_aload_n F.1 F.2.1 dX0_add_102 rfl (lv_at hl 1 rfl) ?_
            refine lv_dup F.1 F.2.1 dX0_add_103 rfl ?_
            refine gX0 F hK hP rfl 6 (by decide) q34 rfl (v := .int (nI sz)) rfl dX0_add_104 ?_
            refine wq_iconst F 1 dX0_add_107 (by decide) ?_
            refine wq_iadd F dX0_add_108 ?_
            refine pX0 F hK hP hD hS rfl 6 (by decide) q34 rfl rfl (ty := .int) (by decide +kernel) rfl rfl (Nat.le_of_ble_eq_true rfl) dX0_add_109 (ws' := wX q d ec (sz + 1) st kn nu ou iw (wq_up ki sz k) (wq_up la sz x) he be to) rfl (fun H locs hP hD hS => ?_)
            refine lv_aload_n F.1 F.2.1 dX0_add_112 rfl (lv_at hl 1 rfl) ?_
            refine wq_iconst F 0 dX0_add_113 (by decide) ?_
            refine pX0 F hK hP hD hS rfl 8 (by decide) q36 rfl rfl (ty := .boolean) (by decide +kernel) (by decide +kernel) (by decide +kernel) (Nat.le_of_ble_eq_true rfl) dX0_add_114 (ws' := wX q d ec (sz + 1) st 0 nu ou iw (wq_up ki sz k) (wq_up la sz x) he be to) rfl (fun H locs hP hD hS => ?_)
            refine lv_aload_n F.1 F.2.1 dX0_add_117 rfl (lv_at hl 1 rfl) ?_
            refine gX0 F hK hP rfl 6 (by decide) q34 rfl (v := .int (nI (sz + 1))) rfl dX0_add_118 ?_
            exact wq_iret F hr hlk (rfl) hK hP hD hS dX0_add_121
        · exfalso
          omega
  · refine wq_iconst F 1 dX0_add_9 (by decide) ?_
    refine lv_goto (tgt := 14) F.1 F.2.1 dX0_add_10 (by decide) ?_
    refine lv_istore_n (lv' := [(3, .int (nI 1)), (0, .ref (q 0)), (1, .int (nI k)), (2, .int (nI x))]) F.1 F.2.1 dX0_add_14 rfl hl (by decide) rfl (fun ls hl => ?_)
    refine lv_iload_n F.1 F.2.1 dX0_add_15 rfl (lv_at hl 2 rfl) ?_
    refine wq_if_lt (tgt := 53) F (by omega) dX0_add_16 (by decide) (fun c16 => False.elim (c16)) (fun c16 => ?_)
    refine lv_iload_n F.1 F.2.1 dX0_add_19 rfl (lv_at hl 2 rfl) ?_
    refine wq_bipush F 7 dX0_add_20 (by decide) ?_
    refine wq_icmp_gt (tgt := 53) F (by omega) (by omega) dX0_add_22 (by decide) (fun c22 => ?_) (fun c22 => ?_)
    · exfalso
      omega
    · refine lv_iload_n F.1 F.2.1 dX0_add_25 rfl (lv_at hl 0 rfl) ?_
      refine wq_if_eq (tgt := 38) F (by omega) dX0_add_26 (by decide) (fun c26 => False.elim (by omega)) (fun c26 => ?_)
      refine lv_iload_n F.1 F.2.1 dX0_add_29 rfl (lv_at hl 3 rfl) ?_
      refine wq_if_lt (tgt := 53) F (by omega) dX0_add_30 (by decide) (fun c30 => False.elim (c30)) (fun c30 => ?_)
      refine lv_iload_n F.1 F.2.1 dX0_add_33 rfl (lv_at hl 3 rfl) ?_
      refine wq_iconst F 2 dX0_add_34 (by decide) ?_
      refine wq_icmp_gt (tgt := 53) F (by omega) (by omega) dX0_add_35 (by decide) (fun c35 => ?_) (fun c35 => ?_)
      · exfalso
        omega
      · refine lv_iload_n F.1 F.2.1 dX0_add_38 rfl (lv_at hl 2 rfl) ?_
        refine wq_iconst F 4 dX0_add_39 (by decide) ?_
        refine wq_icmp_ne (tgt := 55) F (by omega) (by omega) dX0_add_40 (by decide) (fun c40 => ?_) (fun c40 => ?_)
        · refine lv_aload_n F.1 F.2.1 dX0_add_55 rfl (lv_at hl 1 rfl) ?_
          refine gX0 F hK hP rfl 6 (by decide) q34 rfl (v := .int (nI sz)) rfl dX0_add_56 ?_
          refine wq_bipush F 6 dX0_add_59 (by decide) ?_
          refine wq_icmp_lt (tgt := 67) F (by omega) (by omega) dX0_add_61 (by decide) (fun c61 => ?_) (fun c61 => False.elim (by omega))
          refine lv_aload_n F.1 F.2.1 dX0_add_67 rfl (lv_at hl 1 rfl) ?_
          refine gX0 F hK hP rfl 4 (by decide) q32 rfl (v := .ref (q 4)) rfl dX0_add_68 ?_
          refine lv_aload_n F.1 F.2.1 dX0_add_71 rfl (lv_at hl 1 rfl) ?_
          refine gX0 F hK hP rfl 6 (by decide) q34 rfl (v := .int (nI sz)) rfl dX0_add_72 ?_
          refine lv_iload_n F.1 F.2.1 dX0_add_75 rfl (lv_at hl 2 rfl) ?_
          refine wq_i2bN F (by omega) dX0_add_76 ?_
          refine wq_bast F hK hP hD hS 4 3 rfl rfl (by omega) (by decide) (by omega) dX0_add_77 (ws' := wX q d ec sz st kn nu ou iw (wq_up ki sz k) la he be to) rfl (fun H locs hP hD hS => ?_)
          refine lv_aload_n F.1 F.2.1 dX0_add_78 rfl (lv_at hl 1 rfl) ?_
          refine gX0 F hK hP rfl 5 (by decide) q33 rfl (v := .ref (q 5)) rfl dX0_add_79 ?_
          refine lv_aload_n F.1 F.2.1 dX0_add_82 rfl (lv_at hl 1 rfl) ?_
          refine gX0 F hK hP rfl 6 (by decide) q34 rfl (v := .int (nI sz)) rfl dX0_add_83 ?_
          refine lv_iload_n F.1 F.2.1 dX0_add_86 rfl (lv_at hl 0 rfl) ?_
          refine wq_if_ne (tgt := 95) F (by omega) dX0_add_87 (by decide) (fun c87 => ?_) (fun c87 => False.elim (by omega))
          refine lv_iload_n F.1 F.2.1 dX0_add_95 rfl (lv_at hl 3 rfl) ?_
          refine lv_goto (tgt := 100) F.1 F.2.1 dX0_add_96 (by decide) ?_
          refine wq_i2bN F (by omega) dX0_add_100 ?_
          refine wq_bast F hK hP hD hS 5 4 rfl rfl (by omega) (by decide) (by omega) dX0_add_101 (ws' := wX q d ec sz st kn nu ou iw (wq_up ki sz k) (wq_up la sz x) he be to) rfl (fun H locs hP hD hS => ?_)
          refine lv_aload_n F.1 F.2.1 dX0_add_102 rfl (lv_at hl 1 rfl) ?_
          refine lv_dup F.1 F.2.1 dX0_add_103 rfl ?_
          refine gX0 F hK hP rfl 6 (by decide) q34 rfl (v := .int (nI sz)) rfl dX0_add_104 ?_
          refine wq_iconst F 1 dX0_add_107 (by decide) ?_
          refine wq_iadd F dX0_add_108 ?_
          refine pX0 F hK hP hD hS rfl 6 (by decide) q34 rfl rfl (ty := .int) (by decide +kernel) rfl rfl (Nat.le_of_ble_eq_true rfl) dX0_add_109 (ws' := wX q d ec (sz + 1) st kn nu ou iw (wq_up ki sz k) (wq_up la sz x) he be to) rfl (fun H locs hP hD hS => ?_)
          refine lv_aload_n F.1 F.2.1 dX0_add_112 rfl (lv_at hl 1 rfl) ?_
          refine wq_iconst F 0 dX0_add_113 (by decide) ?_
          refine pX0 F hK hP hD hS rfl 8 (by decide) q36 rfl rfl (ty := .boolean) (by decide +kernel) (by decide +kernel) (by decide +kernel) (Nat.le_of_ble_eq_true rfl) dX0_add_114 (ws' := wX q d ec (sz + 1) st 0 nu ou iw (wq_up ki sz k) (wq_up la sz x) he be to) rfl (fun H locs hP hD hS => ?_)
          refine lv_aload_n F.1 F.2.1 dX0_add_117 rfl (lv_at hl 1 rfl) ?_
          refine gX0 F hK hP rfl 6 (by decide) q34 rfl (v := .int (nI (sz + 1))) rfl dX0_add_118 ?_
          exact wq_iret F hr hlk (rfl) hK hP hD hS dX0_add_121
        · refine lv_iload_n F.1 F.2.1 dX0_add_43 rfl (lv_at hl 3 rfl) ?_
          refine wq_if_lt (tgt := 53) F (by omega) dX0_add_44 (by decide) (fun c44 => False.elim (c44)) (fun c44 => ?_)
          refine lv_iload_n F.1 F.2.1 dX0_add_47 rfl (lv_at hl 3 rfl) ?_
          refine wq_bipush F 9 dX0_add_48 (by decide) ?_
          refine wq_icmp_le (tgt := 55) F (by omega) (by omega) dX0_add_50 (by decide) (fun c50 => ?_) (fun c50 => ?_)
          · refine lv_aload_n F.1 F.2.1 dX0_add_55 rfl (lv_at hl 1 rfl) ?_
            refine gX0 F hK hP rfl 6 (by decide) q34 rfl (v := .int (nI sz)) rfl dX0_add_56 ?_
            refine wq_bipush F 6 dX0_add_59 (by decide) ?_
            refine wq_icmp_lt (tgt := 67) F (by omega) (by omega) dX0_add_61 (by decide) (fun c61 => ?_) (fun c61 => False.elim (by omega))
            refine lv_aload_n F.1 F.2.1 dX0_add_67 rfl (lv_at hl 1 rfl) ?_
            refine gX0 F hK hP rfl 4 (by decide) q32 rfl (v := .ref (q 4)) rfl dX0_add_68 ?_
            refine lv_aload_n F.1 F.2.1 dX0_add_71 rfl (lv_at hl 1 rfl) ?_
            refine gX0 F hK hP rfl 6 (by decide) q34 rfl (v := .int (nI sz)) rfl dX0_add_72 ?_
            refine lv_iload_n F.1 F.2.1 dX0_add_75 rfl (lv_at hl 2 rfl) ?_
            refine wq_i2bN F (by omega) dX0_add_76 ?_
            refine wq_bast F hK hP hD hS 4 3 rfl rfl (by omega) (by decide) (by omega) dX0_add_77 (ws' := wX q d ec sz st kn nu ou iw (wq_up ki sz k) la he be to) rfl (fun H locs hP hD hS => ?_)
            refine lv_aload_n F.1 F.2.1 dX0_add_78 rfl (lv_at hl 1 rfl) ?_
            refine gX0 F hK hP rfl 5 (by decide) q33 rfl (v := .ref (q 5)) rfl dX0_add_79 ?_
            refine lv_aload_n F.1 F.2.1 dX0_add_82 rfl (lv_at hl 1 rfl) ?_
            refine gX0 F hK hP rfl 6 (by decide) q34 rfl (v := .int (nI sz)) rfl dX0_add_83 ?_
            refine lv_iload_n F.1 F.2.1 dX0_add_86 rfl (lv_at hl 0 rfl) ?_
            refine wq_if_ne (tgt := 95) F (by omega) dX0_add_87 (by decide) (fun c87 => ?_) (fun c87 => False.elim (by omega))
            refine lv_iload_n F.1 F.2.1 dX0_add_95 rfl (lv_at hl 3 rfl) ?_
            refine lv_goto (tgt := 100) F.1 F.2.1 dX0_add_96 (by decide) ?_
            refine wq_i2bN F (by omega) dX0_add_100 ?_
            refine wq_bast F hK hP hD hS 5 4 rfl rfl (by omega) (by decide) (by omega) dX0_add_101 (ws' := wX q d ec sz st kn nu ou iw (wq_up ki sz k) (wq_up la sz x) he be to) rfl (fun H locs hP hD hS => ?_)
            refine lv_aload_n F.1 F.2.1 dX0_add_102 rfl (lv_at hl 1 rfl) ?_
            refine lv_dup F.1 F.2.1 dX0_add_103 rfl ?_
            refine gX0 F hK hP rfl 6 (by decide) q34 rfl (v := .int (nI sz)) rfl dX0_add_104 ?_
            refine wq_iconst F 1 dX0_add_107 (by decide) ?_
            refine wq_iadd F dX0_add_108 ?_
            refine pX0 F hK hP hD hS rfl 6 (by decide) q34 rfl rfl (ty := .int) (by decide +kernel) rfl rfl (Nat.le_of_ble_eq_true rfl) dX0_add_109 (ws' := wX q d ec (sz + 1) st kn nu ou iw (wq_up ki sz k) (wq_up la sz x) he be to) rfl (fun H locs hP hD hS => ?_)
            refine lv_aload_n F.1 F.2.1 dX0_add_112 rfl (lv_at hl 1 rfl) ?_
            refine wq_iconst F 0 dX0_add_113 (by decide) ?_
            refine pX0 F hK hP hD hS rfl 8 (by decide) q36 rfl rfl (ty := .boolean) (by decide +kernel) (by decide +kernel) (by decide +kernel) (Nat.le_of_ble_eq_true rfl) dX0_add_114 (ws' := wX q d ec (sz + 1) st 0 nu ou iw (wq_up ki sz k) (wq_up la sz x) he be to) rfl (fun H locs hP hD hS => ?_)
            refine lv_aload_n F.1 F.2.1 dX0_add_117 rfl (lv_at hl 1 rfl) ?_
            refine gX0 F hK hP rfl 6 (by decide) q34 rfl (v := .int (nI (sz + 1))) rfl dX0_add_118 ?_
            exact wq_iret F hr hlk (rfl) hK hP hD hS dX0_add_121
          · exfalso
            omega

set_option maxHeartbeats 4000000 in
set_option maxRecDepth 100000 in
/-- add: a step without a number -/
theorem cX_add_ok2 (l : Launch) (D : va_G) (q : Nat → Nat) (d : Nat → ClassId) (ec sz st kn : Nat) (nu ou iw ki la he be to : Nat → Nat) (k : Nat) (x : Int32) (hsz : sz < 6) (hk : 5 ≤ k) (hk7 : k ≤ 7) : CtI l D vwCl (tX d) yX0_add cX0_add 4 .int rmX0_add [.ref (q 0), .int (nI k), .int x] (wX q d ec sz st kn nu ou iw ki la he be to) (nI (sz + 1)) (wX q d ec (sz + 1) st 0 nu ou iw (wq_up ki sz k) (wq_up la sz 0) he be to) := by
  refine CtI.of RX0 rfl (by decide +kernel) (Nat.le_of_ble_eq_true rfl) ?_
  intro p e s m below meth c A ls F hr hlk hK hA hP hD hS hl
  have hl : lv_has ls 4 [(0, .ref (q 0)), (1, .int (nI k)), (2, .int x)] := hl
  refine lv_iload_n F.1 F.2.1 dX0_add_0 rfl (lv_at hl 1 rfl) ?_
  refine wq_if_lt (tgt := 13) F (by omega) dX0_add_1 (by decide) (fun c1 => False.elim (c1)) (fun c1 => ?_)
  refine lv_iload_n F.1 F.2.1 dX0_add_4 rfl (lv_at hl 1 rfl) ?_
  refine wq_iconst F 3 dX0_add_5 (by decide) ?_
  refine wq_icmp_gt (tgt := 13) F (by omega) (by omega) dX0_add_6 (by decide) (fun c6 => ?_) (fun c6 => ?_)
  · refine wq_iconst F 0 dX0_add_13 (by decide) ?_
    refine lv_istore_n (lv' := [(3, .int (nI 0)), (0, .ref (q 0)), (1, .int (nI k)), (2, .int x)]) F.1 F.2.1 dX0_add_14 rfl hl (by decide) rfl (fun ls hl => ?_)
    refine lv_iload_n F.1 F.2.1 dX0_add_15 rfl (lv_at hl 2 rfl) ?_
    refine wq_if_lt (tgt := 53) F (by omega) dX0_add_16 (by decide) (fun c16 => False.elim (c16)) (fun c16 => ?_)
    refine lv_iload_n F.1 F.2.1 dX0_add_19 rfl (lv_at hl 2 rfl) ?_
    refine wq_bipush F 7 dX0_add_20 (by decide) ?_
    refine wq_icmp_gt (tgt := 53) F (by omega) (by omega) dX0_add_22 (by decide) (fun c22 => ?_) (fun c22 => ?_)
    · exfalso
      omega
    · refine lv_iload_n F.1 F.2.1 dX0_add_25 rfl (lv_at hl 0 rfl) ?_
      refine wq_if_eq (tgt := 38) F (by omega) dX0_add_26 (by decide) (fun c26 => ?_) (fun c26 => False.elim (by omega))
      refine lv_iload_n F.1 F.2.1 dX0_add_38 rfl (lv_at hl 2 rfl) ?_
      refine wq_iconst F 4 dX0_add_39 (by decide) ?_
      refine wq_icmp_ne (tgt := 55) F (by omega) (by omega) dX0_add_40 (by decide) (fun c40 => ?_) (fun c40 => ?_)
      · refine lv_aload_n F.1 F.2.1 dX0_add_55 rfl (lv_at hl 1 rfl) ?_
        refine gX0 F hK hP rfl 6 (by decide) q34 rfl (v := .int (nI sz)) rfl dX0_add_56 ?_
        refine wq_bipush F 6 dX0_add_59 (by decide) ?_
        refine wq_icmp_lt (tgt := 67) F (by omega) (by omega) dX0_add_61 (by decide) (fun c61 => ?_) (fun c61 => False.elim (by omega))
        refine lv_aload_n F.1 F.2.1 dX0_add_67 rfl (lv_at hl 1 rfl) ?_
        refine gX0 F hK hP rfl 4 (by decide) q32 rfl (v := .ref (q 4)) rfl dX0_add_68 ?_
        refine lv_aload_n F.1 F.2.1 dX0_add_71 rfl (lv_at hl 1 rfl) ?_
        refine gX0 F hK hP rfl 6 (by decide) q34 rfl (v := .int (nI sz)) rfl dX0_add_72 ?_
        refine lv_iload_n F.1 F.2.1 dX0_add_75 rfl (lv_at hl 2 rfl) ?_
        refine wq_i2bN F (by omega) dX0_add_76 ?_
        refine wq_bast F hK hP hD hS 4 3 rfl rfl (by omega) (by decide) (by omega) dX0_add_77 (ws' := wX q d ec sz st kn nu ou iw (wq_up ki sz k) la he be to) rfl (fun H locs hP hD hS => ?_)
        refine lv_aload_n F.1 F.2.1 dX0_add_78 rfl (lv_at hl 1 rfl) ?_
        refine gX0 F hK hP rfl 5 (by decide) q33 rfl (v := .ref (q 5)) rfl dX0_add_79 ?_
        refine lv_aload_n F.1 F.2.1 dX0_add_82 rfl (lv_at hl 1 rfl) ?_
        refine gX0 F hK hP rfl 6 (by decide) q34 rfl (v := .int (nI sz)) rfl dX0_add_83 ?_
        refine lv_iload_n F.1 F.2.1 dX0_add_86 rfl (lv_at hl 0 rfl) ?_
        refine wq_if_ne (tgt := 95) F (by omega) dX0_add_87 (by decide) (fun c87 => False.elim (by omega)) (fun c87 => ?_)
        refine lv_iload_n F.1 F.2.1 dX0_add_90 rfl (lv_at hl 2 rfl) ?_
        refine wq_iconst F 4 dX0_add_91 (by decide) ?_
        refine wq_icmp_ne (tgt := 99) F (by omega) (by omega) dX0_add_92 (by decide) (fun c92 => ?_) (fun c92 => ?_)
        · refine wq_iconst F 0 dX0_add_99 (by decide) ?_
          refine wq_i2bN F (by omega) dX0_add_100 ?_
          refine wq_bast F hK hP hD hS 5 4 rfl rfl (by omega) (by decide) (by omega) dX0_add_101 (ws' := wX q d ec sz st kn nu ou iw (wq_up ki sz k) (wq_up la sz 0) he be to) rfl (fun H locs hP hD hS => ?_)
          refine lv_aload_n F.1 F.2.1 dX0_add_102 rfl (lv_at hl 1 rfl) ?_
          refine lv_dup F.1 F.2.1 dX0_add_103 rfl ?_
          refine gX0 F hK hP rfl 6 (by decide) q34 rfl (v := .int (nI sz)) rfl dX0_add_104 ?_
          refine wq_iconst F 1 dX0_add_107 (by decide) ?_
          refine wq_iadd F dX0_add_108 ?_
          refine pX0 F hK hP hD hS rfl 6 (by decide) q34 rfl rfl (ty := .int) (by decide +kernel) rfl rfl (Nat.le_of_ble_eq_true rfl) dX0_add_109 (ws' := wX q d ec (sz + 1) st kn nu ou iw (wq_up ki sz k) (wq_up la sz 0) he be to) rfl (fun H locs hP hD hS => ?_)
          refine lv_aload_n F.1 F.2.1 dX0_add_112 rfl (lv_at hl 1 rfl) ?_
          refine wq_iconst F 0 dX0_add_113 (by decide) ?_
          refine pX0 F hK hP hD hS rfl 8 (by decide) q36 rfl rfl (ty := .boolean) (by decide +kernel) (by decide +kernel) (by decide +kernel) (Nat.le_of_ble_eq_true rfl) dX0_add_114 (ws' := wX q d ec (sz + 1) st 0 nu ou iw (wq_up ki sz k) (wq_up la sz 0) he be to) rfl (fun H locs hP hD hS => ?_)
          refine lv_aload_n F.1 F.2.1 dX0_add_117 rfl (lv_at hl 1 rfl) ?_
          refine gX0 F hK hP rfl 6 (by decide) q34 rfl (v := .int (nI (sz + 1))) rfl dX0_add_118 ?_
          exact wq_iret F hr hlk (rfl) hK hP hD hS dX0_add_121
        · exfalso
          omega
      · exfalso
        omega
  · refine wq_iconst F 1 dX0_add_9 (by decide) ?_
    refine lv_goto (tgt := 14) F.1 F.2.1 dX0_add_10 (by decide) ?_
    refine lv_istore_n (lv' := [(3, .int (nI 1)), (0, .ref (q 0)), (1, .int (nI k)), (2, .int x)]) F.1 F.2.1 dX0_add_14 rfl hl (by decide) rfl (fun ls hl => ?_)
    refine lv_iload_n F.1 F.2.1 dX0_add_15 rfl (lv_at hl 2 rfl) ?_
    refine wq_if_lt (tgt := 53) F (by omega) dX0_add_16 (by decide) (fun c16 => False.elim (c16)) (fun c16 => ?_)
    refine lv_iload_n F.1 F.2.1 dX0_add_19 rfl (lv_at hl 2 rfl) ?_
    refine wq_bipush F 7 dX0_add_20 (by decide) ?_
    refine wq_icmp_gt (tgt := 53) F (by omega) (by omega) dX0_add_22 (by decide) (fun c22 => ?_) (fun c22 => ?_)
    · exfalso
      omega
    · refine lv_iload_n F.1 F.2.1 dX0_add_25 rfl (lv_at hl 0 rfl) ?_
      refine wq_if_eq (tgt := 38) F (by omega) dX0_add_26 (by decide) (fun c26 => False.elim (by omega)) (fun c26 => ?_)
      exfalso
      omega

set_option maxHeartbeats 4000000 in
set_option maxRecDepth 100000 in
/-- drop: no -/
theorem cX_drop_no (l : Launch) (D : va_G) (q : Nat → Nat) (d : Nat → ClassId) (ec sz st kn : Nat) (nu ou iw ki la he be to : Nat → Nat) (h : sz = 0) : CtI l D vwCl (tX d) yX0_drop cX0_drop 1 .int rmX0_drop [.ref (q 0)] (wX q d ec sz st kn nu ou iw ki la he be to) (-1) (wX q d ec sz st kn nu ou iw ki la he be to) := by
  refine CtI.of RX0 rfl (by decide +kernel) (Nat.le_of_ble_eq_true rfl) ?_
  intro p e s m below meth c A ls F hr hlk hK hA hP hD hS hl
  have hl : lv_has ls 1 [(0, .ref (q 0))] := hl
  refine lv_aload_n F.1 F.2.1 dX0_drop_0 rfl (lv_at hl 0 rfl) ?_
  refine gX0 F hK hP rfl 6 (by decide) q34 rfl (v := .int (nI sz)) rfl dX0_drop_1 ?_
  refine wq_if_ne (tgt := 9) F (by omega) dX0_drop_4 (by decide) (fun c4 => False.elim (by omega)) (fun c4 => ?_)
  refine lv_iconst (v := -1) F.1 F.2.1 dX0_drop_7 (by decide) ?_
  exact wq_iret F hr hlk (rfl) hK hP hD hS dX0_drop_8

set_option maxHeartbeats 4000000 in
set_option maxRecDepth 100000 in
/-- drop: done -/
theorem cX_drop_ok (l : Launch) (D : va_G) (q : Nat → Nat) (d : Nat → ClassId) (ec sz st kn : Nat) (nu ou iw ki la he be to : Nat → Nat) (h : 0 < sz) (h6 : sz ≤ 6) : CtI l D vwCl (tX d) yX0_drop cX0_drop 1 .int rmX0_drop [.ref (q 0)] (wX q d ec sz st kn nu ou iw ki la he be to) (nI (sz - 1)) (wX q d ec (sz - 1) st 0 nu ou iw ki la he be to) := by
  refine CtI.of RX0 rfl (by decide +kernel) (Nat.le_of_ble_eq_true rfl) ?_
  intro p e s m below meth c A ls F hr hlk hK hA hP hD hS hl
  have hl : lv_has ls 1 [(0, .ref (q 0))] := hl
  refine lv_aload_n F.1 F.2.1 dX0_drop_0 rfl (lv_at hl 0 rfl) ?_
  refine gX0 F hK hP rfl 6 (by decide) q34 rfl (v := .int (nI sz)) rfl dX0_drop_1 ?_
  refine wq_if_ne (tgt := 9) F (by omega) dX0_drop_4 (by decide) (fun c4 => ?_) (fun c4 => False.elim (by omega))
  refine lv_aload_n F.1 F.2.1 dX0_drop_9 rfl (lv_at hl 0 rfl) ?_
  refine lv_dup F.1 F.2.1 dX0_drop_10 rfl ?_
  refine gX0 F hK hP rfl 6 (by decide) q34 rfl (v := .int (nI sz)) rfl dX0_drop_11 ?_
  refine wq_iconst F 1 dX0_drop_14 (by decide) ?_
  refine wq_isub F (by omega) dX0_drop_15 ?_
  refine pX0 F hK hP hD hS rfl 6 (by decide) q34 rfl rfl (ty := .int) (by decide +kernel) rfl rfl (Nat.le_of_ble_eq_true rfl) dX0_drop_16 (ws' := wX q d ec (sz - 1) st kn nu ou iw ki la he be to) rfl (fun H locs hP hD hS => ?_)
  refine lv_aload_n F.1 F.2.1 dX0_drop_19 rfl (lv_at hl 0 rfl) ?_
  refine wq_iconst F 0 dX0_drop_20 (by decide) ?_
  refine pX0 F hK hP hD hS rfl 8 (by decide) q36 rfl rfl (ty := .boolean) (by decide +kernel) (by decide +kernel) (by decide +kernel) (Nat.le_of_ble_eq_true rfl) dX0_drop_21 (ws' := wX q d ec (sz - 1) st 0 nu ou iw ki la he be to) rfl (fun H locs hP hD hS => ?_)
  refine lv_aload_n F.1 F.2.1 dX0_drop_24 rfl (lv_at hl 0 rfl) ?_
  refine gX0 F hK hP rfl 6 (by decide) q34 rfl (v := .int (nI (sz - 1))) rfl dX0_drop_25 ?_
  exact wq_iret F hr hlk (rfl) hK hP hD hS dX0_drop_28

set_option maxHeartbeats 4000000 in
set_option maxRecDepth 100000 in
/-- from: no -/
theorem cX_from_no (l : Launch) (D : va_G) (q : Nat → Nat) (d : Nat → ClassId) (ec sz st kn : Nat) (nu ou iw ki la he be to : Nat → Nat) (x : Int32) (h : x.toInt < 0 ∨ 255 < x.toInt) : CtI l D vwCl (tX d) yX0_from cX0_from 2 .boolean rmX0_from [.ref (q 0), .int x] (wX q d ec sz st kn nu ou iw ki la he be to) (nI 0) (wX q d ec sz st kn nu ou iw ki la he be to) := by
  refine CtI.of RX0 rfl (by decide +kernel) (Nat.le_of_ble_eq_true rfl) ?_
  intro p e s m below meth c A ls F hr hlk hK hA hP hD hS hl
  have hl : lv_has ls 2 [(0, .ref (q 0)), (1, .int x)] := hl
  refine lv_iload_n F.1 F.2.1 dX0_from_0 rfl (lv_at hl 1 rfl) ?_
  refine wr_if_lt (tgt := 11) F dX0_from_1 (by decide) (fun c1 => ?_) (fun c1 => ?_)
  · refine wq_iconst F 0 dX0_from_11 (by decide) ?_
    exact wq_zret F hr hlk rfl (rfl) hK hP hD hS dX0_from_12
  · refine lv_iload_n F.1 F.2.1 dX0_from_4 rfl (lv_at hl 1 rfl) ?_
    refine wq_sipush F 255 dX0_from_5 (by decide) ?_
    refine wr_icmp_le (tgt := 13) F (rfl) (show (nI 255).toInt = (255 : Int) by decide) dX0_from_8 (by decide) (fun c8 => False.elim (by omega)) (fun c8 => ?_)
    refine wq_iconst F 0 dX0_from_11 (by decide) ?_
    exact wq_zret F hr hlk rfl (rfl) hK hP hD hS dX0_from_12

set_option maxHeartbeats 4000000 in
set_option maxRecDepth 100000 in
/-- from: done -/
theorem cX_from_ok (l : Launch) (D : va_G) (q : Nat → Nat) (d : Nat → ClassId) (ec sz st kn : Nat) (nu ou iw ki la he be to : Nat → Nat) (x : Nat) (h : x ≤ 255) : CtI l D vwCl (tX d) yX0_from cX0_from 2 .boolean rmX0_from [.ref (q 0), .int (nI x)] (wX q d ec sz st kn nu ou iw ki la he be to) (nI 1) (wX q d ec sz x 0 nu ou iw ki la he be to) := by
  refine CtI.of RX0 rfl (by decide +kernel) (Nat.le_of_ble_eq_true rfl) ?_
  intro p e s m below meth c A ls F hr hlk hK hA hP hD hS hl
  have hl : lv_has ls 2 [(0, .ref (q 0)), (1, .int (nI x))] := hl
  refine lv_iload_n F.1 F.2.1 dX0_from_0 rfl (lv_at hl 1 rfl) ?_
  refine wq_if_lt (tgt := 11) F (by omega) dX0_from_1 (by decide) (fun c1 => False.elim (c1)) (fun c1 => ?_)
  refine lv_iload_n F.1 F.2.1 dX0_from_4 rfl (lv_at hl 1 rfl) ?_
  refine wq_sipush F 255 dX0_from_5 (by decide) ?_
  refine wq_icmp_le (tgt := 13) F (by omega) (by omega) dX0_from_8 (by decide) (fun c8 => ?_) (fun c8 => False.elim (by omega))
  refine lv_aload_n F.1 F.2.1 dX0_from_13 rfl (lv_at hl 0 rfl) ?_
  refine lv_iload_n F.1 F.2.1 dX0_from_14 rfl (lv_at hl 1 rfl) ?_
  refine pX0 F hK hP hD hS rfl 7 (by decide) q35 rfl rfl (ty := .int) (by decide +kernel) rfl rfl (Nat.le_of_ble_eq_true rfl) dX0_from_15 (ws' := wX q d ec sz x kn nu ou iw ki la he be to) rfl (fun H locs hP hD hS => ?_)
  refine lv_aload_n F.1 F.2.1 dX0_from_18 rfl (lv_at hl 0 rfl) ?_
  refine wq_iconst F 0 dX0_from_19 (by decide) ?_
  refine pX0 F hK hP hD hS rfl 8 (by decide) q36 rfl rfl (ty := .boolean) (by decide +kernel) (by decide +kernel) (by decide +kernel) (Nat.le_of_ble_eq_true rfl) dX0_from_20 (ws' := wX q d ec sz x 0 nu ou iw ki la he be to) rfl (fun H locs hP hD hS => ?_)
  refine wq_iconst F 1 dX0_from_23 (by decide) ?_
  exact wq_zret F hr hlk rfl (rfl) hK hP hD hS dX0_from_24

set_option maxHeartbeats 4000000 in
set_option maxRecDepth 100000 in
/-- edges() -/
theorem cX_edges (l : Launch) (D : va_G) (q : Nat → Nat) (d : Nat → ClassId) (ec sz st kn : Nat) (nu ou iw ki la he be to : Nat → Nat)  : CtI l D vwCl (tX d) yX0_edges cX0_edges 1 .int rmX0_edges [.ref (q 0)] (wX q d ec sz st kn nu ou iw ki la he be to) (nI ec) (wX q d ec sz st kn nu ou iw ki la he be to) := by
  refine CtI.of RX0 rfl (by decide +kernel) (Nat.le_of_ble_eq_true rfl) ?_
  intro p e s m below meth c A ls F hr hlk hK hA hP hD hS hl
  have hl : lv_has ls 1 [(0, .ref (q 0))] := hl
  refine lv_aload_n F.1 F.2.1 dX0_edges_0 rfl (lv_at hl 0 rfl) ?_
  refine gX0 F hK hP rfl 1 (by decide) q29 rfl (v := .int (nI ec)) rfl dX0_edges_1 ?_
  exact wq_iret F hr hlk (rfl) hK hP hD hS dX0_edges_4
end
section
/-! contracts of WalkerPlan: the walk -/
set_option maxRecDepth 100000
theorem mX_c1_z {be : Nat → Nat} {v b w : Nat} {h : Nat → Nat} (c : b / 2 ^ w % 2 = 0) : h = mX_c1 be v b w h := by unfold mX_c1; rw [if_pos c]
theorem mX_c1_o {be : Nat → Nat} {v b w : Nat} {h : Nat → Nat} (c : ¬ b / 2 ^ w % 2 = 0) : mX_carry be v w h = mX_c1 be v b w h := by unfold mX_c1; rw [if_neg c]
theorem mX_fo_lt {ou : Nat → Nat} {kind v j : Nat} (h : ∀ k, ou k < 256) : mX_fo ou kind v j < 256 := by
  unfold mX_fo
  split
  · decide
  · exact h _
theorem mX_ba_lt {iw : Nat → Nat} {kind v j : Nat} (h : ∀ k, iw k < 256) : mX_ba iw kind v j < 256 := by
  unfold mX_ba
  split
  · exact h _
  · decide
theorem mX_moves_lt {ou : Nat → Nat} {v label : Nat} : mX_moves ou v label < 2 ^ 31 := by unfold mX_moves; split <;> decide
theorem mX_mv_z {ou iw be h : Nat → Nat} {kind label v : Nat} (c : ¬ (kind = 3 ∧ mX_moves ou v label = 0)) : mX_ml ou iw be kind label v h = mX_mv ou iw be kind label v h := by unfold mX_mv; rw [if_neg c]
theorem mX_mv_o {ou iw be h : Nat → Nat} {kind label v : Nat} (c : kind = 3 ∧ mX_moves ou v label = 0) : mX_carry be v v (mX_ml ou iw be kind label v h) = mX_mv ou iw be kind label v h := by unfold mX_mv; rw [if_pos c]
theorem wq_b01 {c : Prop} [Decidable c] : (if c then 1 else 0 : Nat) < 2 ^ 31 := by split <;> decide
theorem mX_stay_lt {nu : Nat → Nat} {kind x v s : Nat} : mX_stay nu kind x v s < 2 ^ 31 := by
  by_cases h : kind = 4
  · unfold mX_stay
    rw [if_pos h]
    exact wq_b01
  · unfold mX_stay
    rw [if_neg h]
    exact wq_b01
theorem mX_first_z {f x : Nat} (h : ¬ f = 0 ∨ x = 0) : 0 = mX_first f x := by unfold mX_first; rw [if_neg (by omega)]
theorem mX_first_o {f x : Nat} (h : f = 0) (h2 : 0 < x) : 1 = mX_first f x := by unfold mX_first; rw [if_pos ⟨h, h2⟩]
theorem mX_first_le {f x : Nat} : mX_first f x ≤ 1 := by unfold mX_first; split <;> decide
theorem mX_first_1 {f x : Nat} (h : ¬ mX_first f x = 0) : 1 = mX_first f x := by have := mX_first_le (f := f) (x := x); omega
theorem wq_or1 {a b : Nat} (ha : a ≤ 1) (hb : b ≤ 1) : a ||| b ≤ 1 := by
  have h : a ||| b < 2 ^ 1 := Nat.or_lt_two_pow (by omega) (by omega)
  omega
theorem mX_k1_f (v : Nat) (h : Nat → Nat) : ∀ n, (mX_k1 v n (0, h)).1 ≤ 1
  | 0 => Nat.zero_le _
  | n + 1 => wq_or1 (mX_k1_f v h n) mX_first_le
theorem wq_up_bd {h : Nat → Nat} {k x : Nat} (hB : ∀ j, j < 64 → h j < 2 ^ 31) (hx : x < 2 ^ 31) : ∀ j, j < 64 → wq_up h k x j < 2 ^ 31 := by
  intro j hj
  unfold wq_up
  split
  · exact hx
  · exact hB j hj
theorem mX_k1_bd (v : Nat) {h : Nat → Nat} (hB : ∀ j, j < 64 → h j < 2 ^ 31) : ∀ n, ∀ j, j < 64 → (mX_k1 v n (0, h)).2 j < 2 ^ 31
  | 0 => hB
  | n + 1 => wq_up_bd (mX_k1_bd v hB n) (Nat.lt_of_le_of_lt mX_first_le (by decide))
theorem mX_keep_bd {he : Nat → Nat} (hB : ∀ j, j < 64 → he j < 2 ^ 31) : ∀ n, ∀ j, j < 64 → wq_it (fun v h => (mX_k1 v 8 (0, h)).2) n he j < 2 ^ 31
  | 0 => hB
  | n + 1 => mX_k1_bd n (mX_keep_bd hB n) 8
theorem mX_b0_z {st i : Nat} (h : ¬ i / 8 = i % 8 ∨ st / 2 ^ (i % 8) % 2 = 0) : 0 = mX_b0 st i := by unfold mX_b0; rw [if_neg (by omega)]
theorem mX_b0_o {st i : Nat} (h : i / 8 = i % 8) (h2 : ¬ st / 2 ^ (i % 8) % 2 = 0) : 1 = mX_b0 st i := by unfold mX_b0; rw [if_pos ⟨h, h2⟩]
theorem mX_b0_le {st i : Nat} : mX_b0 st i ≤ 1 := by unfold mX_b0; split <;> decide
theorem mX_b0_1 {st i : Nat} (h : ¬ mX_b0 st i = 0) : 1 = mX_b0 st i := by have := mX_b0_le (st := st) (i := i); omega
theorem mX_step_m {nu ou iw he be : Nat → Nat} {kind label : Nat} (h : kind ≤ 3) : mX_move ou iw kind label he be = mX_step nu ou iw kind label he be := by unfold mX_step; rw [if_pos h]
theorem mX_step_k {nu ou iw he be : Nat → Nat} {kind label : Nat} (h3 : 3 < kind) (h : kind = 7) : (mX_keepOne he, be) = mX_step nu ou iw kind label he be := by unfold mX_step; rw [if_neg (by omega), if_pos h]
theorem mX_step_f {nu ou iw he be : Nat → Nat} {kind label : Nat} (h3 : 3 < kind) (h : ¬ kind = 7) : (mX_filter nu kind label he, be) = mX_step nu ou iw kind label he be := by unfold mX_step; rw [if_neg (by omega), if_neg h]
theorem mX_walk_0 {nu ou iw ki la he be to : Nat → Nat} {sz st kn : Nat} (h : kn = 0) : mX_walk nu ou iw ki la sz st (kn, he, be, to) = (1, mX_wi nu ou iw ki la st sz he be to) := if_pos h
theorem mX_walk_1 {nu ou iw ki la he be to : Nat → Nat} {sz st kn : Nat} (h : ¬ kn = 0) : mX_walk nu ou iw ki la sz st (kn, he, be, to) = (kn, he, be, to) := if_neg h
/-- what a walk needs of the fields -/
def okX (sz st kn : Nat) (nu ou iw ki la he be to : Nat → Nat) : Prop := kn ≤ 1 ∧ sz ≤ 6 ∧ st < 256 ∧ (∀ k, nu k < 128) ∧ (∀ k, ou k < 256) ∧ (∀ k, iw k < 256) ∧ (∀ k, ki k ≤ 7) ∧ (∀ k, la k ≤ 9) ∧ (kn = 0 → ∀ k, k ≤ sz → ∀ j, j < 64 → (mX_wi nu ou iw ki la st k he be to).1 j < 2 ^ 31)
theorem mX_walk_kn {nu ou iw ki la : Nat → Nat} {sz st : Nat} {x : Nat × (Nat → Nat) × (Nat → Nat) × (Nat → Nat)} (h : x.1 ≤ 1) : (mX_walk nu ou iw ki la sz st x).1 = 1 := by
  unfold mX_walk
  split
  · rfl
  · omega
theorem mX_walk_again {nu ou iw ki la : Nat → Nat} {sz st : Nat} {x : Nat × (Nat → Nat) × (Nat → Nat) × (Nat → Nat)} (h : x.1 = 1) : mX_walk nu ou iw ki la sz st x = x := if_neg (by omega)
theorem okX_any {sz st kn : Nat} {nu ou iw ki la he be to he2 be2 to2 : Nat → Nat} (h : okX sz st kn nu ou iw ki la he be to) {kn2 : Nat} (hk : kn2 = 1) : okX sz st kn2 nu ou iw ki la he2 be2 to2 := by
  obtain ⟨h1, h2, h3, h4, h5, h6, h7, h8, h9⟩ := h
  exact ⟨by omega, h2, h3, h4, h5, h6, h7, h8, fun h => by omega⟩
theorem okX_walk {sz st kn : Nat} {nu ou iw ki la he be to : Nat → Nat} (h : okX sz st kn nu ou iw ki la he be to) : okX sz st (mX_walk nu ou iw ki la sz st (kn, he, be, to)).1 nu ou iw ki la (mX_walk nu ou iw ki la sz st (kn, he, be, to)).2.1 (mX_walk nu ou iw ki la sz st (kn, he, be, to)).2.2.1 (mX_walk nu ou iw ki la sz st (kn, he, be, to)).2.2.2 := okX_any h (mX_walk_kn h.1)

set_option maxHeartbeats 4000000 in
set_option maxRecDepth 100000 in
/-- total() -/
theorem cX_total (l : Launch) (D : va_G) (q : Nat → Nat) (d : Nat → ClassId) (ec sz st kn : Nat) (nu ou iw ki la he be to : Nat → Nat)  : CtI l D vwCl (tX d) yX0_total cX0_total 3 .int rmX0_total [.ref (q 0)] (wX q d ec sz st kn nu ou iw ki la he be to) (nI (mX_total he)) (wX q d ec sz st kn nu ou iw ki la he be to) := by
  refine CtI.of RX0 rfl (by decide +kernel) (Nat.le_of_ble_eq_true rfl) ?_
  intro p e s m below meth c A ls F hr hlk hK hA hP hD hS hl
  have hl : lv_has ls 3 [(0, .ref (q 0))] := hl
  refine wq_iconst F 0 dX0_total_0 (by decide) ?_
  refine lv_istore_n (lv' := [(1, .int (nI 0)), (0, .ref (q 0))]) F.1 F.2.1 dX0_total_1 rfl hl (by decide) rfl (fun ls hl => ?_)
  refine wq_iconst F 0 dX0_total_2 (by decide) ?_
  refine lv_istore_n (lv' := [(2, .int (nI 0)), (1, .int (nI 0)), (0, .ref (q 0))]) F.1 F.2.1 dX0_total_3 rfl hl (by decide) rfl (fun ls hl => ?_)
  have lp1 : ∀ (n i : Nat), i + n = 64 → ∀ (H : Heap) (locs : List Loc) (ls : Array Slot), va_P D vwCl (wX q d ec sz st kn nu ou iw ki la he be to) H → va_D A (wX q d ec sz st kn nu ou iw ki la he be to) → va_S A s.heap H locs → lv_has ls 3 [(0, .ref (q 0)), (1, .int (nI (wq_it (fun i a => a + he i) i 0))), (2, .int (nI i))] → W p l e rmX0_total s m [.ref (q 0)].toArray below meth c H locs 0 0 (MQ below (wq_QI D vwCl (tX d) A (nI (mX_total he)) (wX q d ec sz st kn nu ou iw ki la he be to)) [.ref (q 0)].toArray s 0 0 A) (F0 m 4 ls []) := by
    intro n
    induction n with
    | zero =>
      intro i hi H locs ls hP hD hS hl
      have ei : 64 = i := by omega
      subst ei
      refine lv_iload_n F.1 F.2.1 dX0_total_4 rfl (lv_at hl 2 rfl) ?_
      refine wq_bipush F 64 dX0_total_5 (by decide) ?_
      refine wq_icmp_ge (tgt := 25) F (by omega) (by omega) dX0_total_7 (by decide) (fun c7 => ?_) (fun c7 => False.elim (by omega))
      refine lv_iload_n F.1 F.2.1 dX0_total_25 rfl (lv_at hl 1 rfl) ?_
      exact wq_iret F hr hlk (rfl) hK hP hD hS dX0_total_26
    | succ n ihlp1 =>
      intro i hi H locs ls hP hD hS hl
      refine lv_iload_n F.1 F.2.1 dX0_total_4 rfl (lv_at hl 2 rfl) ?_
      refine wq_bipush F 64 dX0_total_5 (by decide) ?_
      refine wq_icmp_ge (tgt := 25) F (by omega) (by omega) dX0_total_7 (by decide) (fun c7 => False.elim (by omega)) (fun c7 => ?_)
      refine lv_iload_n F.1 F.2.1 dX0_total_10 rfl (lv_at hl 1 rfl) ?_
      refine lv_aload_n F.1 F.2.1 dX0_total_11 rfl (lv_at hl 0 rfl) ?_
      refine gX0 F hK hP rfl 9 (by decide) q37 rfl (v := .ref (q 6)) rfl dX0_total_12 ?_
      refine lv_iload_n F.1 F.2.1 dX0_total_15 rfl (lv_at hl 2 rfl) ?_
      refine wq_iald F hK hP 6 5 rfl rfl (by omega) (by decide) dX0_total_16 ?_
      refine wq_iadd F dX0_total_17 ?_
      refine lv_istore_n (lv' := [(1, .int (nI ((wq_it (fun i a => a + he i) i 0) + (he i)))), (0, .ref (q 0)), (2, .int (nI i))]) F.1 F.2.1 dX0_total_18 rfl hl (by decide) rfl (fun ls hl => ?_)
      refine lv_iinc (v := nI (i + 1)) (lv' := [(2, .int (nI (i + 1))), (1, .int (nI ((wq_it (fun i a => a + he i) i 0) + (he i)))), (0, .ref (q 0))]) F.1 F.2.1 dX0_total_19 hl (k := 2) rfl (wq_inc1 _) (by decide) rfl (fun ls hl => ?_)
      refine lv_goto (tgt := 4) F.1 F.2.1 dX0_total_22 (by decide) ?_
      exact ihlp1 (i + 1) (by omega) _ _ _ hP hD hS (lv_sub hl [2, 1, 0] rfl)
  exact lp1 64 0 (by omega) _ _ _ hP hD hS (lv_sub hl [2, 1, 0] rfl)

set_option maxHeartbeats 4000000 in
set_option maxRecDepth 100000 in
/-- carry(v, w) -/
theorem cX_carry (l : Launch) (D : va_G) (q : Nat → Nat) (d : Nat → ClassId) (ec sz st kn : Nat) (nu ou iw ki la he be to : Nat → Nat) (v w : Nat) (hv : v < 8) (hw : w < 8) : CtV l D vwCl (tX d) yX0_carry cX0_carry 4 rmX0_carry [.ref (q 0), .int (nI v), .int (nI w)] (wX q d ec sz st kn nu ou iw ki la he be to) (wX q d ec sz st kn nu ou iw ki la (mX_carry be v w he) be to) := by
  refine CtV.of RX0 rfl (by decide +kernel) (Nat.le_of_ble_eq_true rfl) ?_
  intro p e s m below meth c A ls F hr hlk hK hA hP hD hS hl
  have hl : lv_has ls 4 [(0, .ref (q 0)), (1, .int (nI v)), (2, .int (nI w))] := hl
  refine wq_iconst F 0 dX0_carry_0 (by decide) ?_
  refine lv_istore_n (lv' := [(3, .int (nI 0)), (0, .ref (q 0)), (1, .int (nI v)), (2, .int (nI w))]) F.1 F.2.1 dX0_carry_1 rfl hl (by decide) rfl (fun ls hl => ?_)
  have lp1 : ∀ (n i : Nat), i + n = 8 → ∀ (H : Heap) (locs : List Loc) (ls : Array Slot), va_P D vwCl (wX q d ec sz st kn nu ou iw ki la (wq_it (fun s h => wq_up h (w * 8 + s) (h (w * 8 + s) + be (v * 8 + s))) i he) be to) H → va_D A (wX q d ec sz st kn nu ou iw ki la (wq_it (fun s h => wq_up h (w * 8 + s) (h (w * 8 + s) + be (v * 8 + s))) i he) be to) → va_S A s.heap H locs → lv_has ls 4 [(0, .ref (q 0)), (1, .int (nI v)), (2, .int (nI w)), (3, .int (nI i))] → W p l e rmX0_carry s m [.ref (q 0), .int (nI v), .int (nI w)].toArray below meth c H locs 0 0 (MQ below (wq_QV D vwCl (tX d) A (wX q d ec sz st kn nu ou iw ki la (mX_carry be v w he) be to)) [.ref (q 0), .int (nI v), .int (nI w)].toArray s 0 0 A) (F0 m 2 ls []) := by
    intro n
    induction n with
    | zero =>
      intro i hi H locs ls hP hD hS hl
      have ei : 8 = i := by omega
      subst ei
      refine lv_iload_n F.1 F.2.1 dX0_carry_2 rfl (lv_at hl 3 rfl) ?_
      refine wq_bipush F 8 dX0_carry_3 (by decide) ?_
      refine wq_icmp_ge (tgt := 39) F (by omega) (by omega) dX0_carry_5 (by decide) (fun c5 => ?_) (fun c5 => False.elim (by omega))
      exact wq_vret F hr hlk hK hP hD hS dX0_carry_39
    | succ n ihlp1 =>
      intro i hi H locs ls hP hD hS hl
      refine lv_iload_n F.1 F.2.1 dX0_carry_2 rfl (lv_at hl 3 rfl) ?_
      refine wq_bipush F 8 dX0_carry_3 (by decide) ?_
      refine wq_icmp_ge (tgt := 39) F (by omega) (by omega) dX0_carry_5 (by decide) (fun c5 => False.elim (by omega)) (fun c5 => ?_)
      refine lv_aload_n F.1 F.2.1 dX0_carry_8 rfl (lv_at hl 0 rfl) ?_
      refine gX0 F hK hP rfl 9 (by decide) q37 rfl (v := .ref (q 6)) rfl dX0_carry_9 ?_
      refine lv_iload_n F.1 F.2.1 dX0_carry_12 rfl (lv_at hl 2 rfl) ?_
      refine wq_bipush F 8 dX0_carry_13 (by decide) ?_
      refine wq_imul F dX0_carry_15 ?_
      refine lv_iload_n F.1 F.2.1 dX0_carry_16 rfl (lv_at hl 3 rfl) ?_
      refine wq_iadd F dX0_carry_17 ?_
      refine lv_dup2_11 F.1 F.2.1 dX0_carry_18 rfl rfl ?_
      refine wq_iald F hK hP 6 5 rfl rfl (by omega) (by decide) dX0_carry_19 ?_
      refine lv_aload_n F.1 F.2.1 dX0_carry_20 rfl (lv_at hl 0 rfl) ?_
      refine gX0 F hK hP rfl 10 (by decide) q38 rfl (v := .ref (q 7)) rfl dX0_carry_21 ?_
      refine lv_iload_n F.1 F.2.1 dX0_carry_24 rfl (lv_at hl 1 rfl) ?_
      refine wq_bipush F 8 dX0_carry_25 (by decide) ?_
      refine wq_imul F dX0_carry_27 ?_
      refine lv_iload_n F.1 F.2.1 dX0_carry_28 rfl (lv_at hl 3 rfl) ?_
      refine wq_iadd F dX0_carry_29 ?_
      refine wq_iald F hK hP 7 6 rfl rfl (by omega) (by decide) dX0_carry_30 ?_
      refine wq_iadd F dX0_carry_31 ?_
      refine wq_iast F hK hP hD hS 6 5 rfl rfl (by omega) (by decide) dX0_carry_32 (ws' := wX q d ec sz st kn nu ou iw ki la (wq_up (wq_it (fun s h => wq_up h (w * 8 + s) (h (w * 8 + s) + be (v * 8 + s))) i he) ((w * 8) + i) (((wq_it (fun s h => wq_up h (w * 8 + s) (h (w * 8 + s) + be (v * 8 + s))) i he) ((w * 8) + i)) + (be ((v * 8) + i)))) be to) rfl (fun H locs hP hD hS => ?_)
      refine lv_iinc (v := nI (i + 1)) (lv' := [(3, .int (nI (i + 1))), (0, .ref (q 0)), (1, .int (nI v)), (2, .int (nI w))]) F.1 F.2.1 dX0_carry_33 hl (k := 3) rfl (wq_inc1 _) (by decide) rfl (fun ls hl => ?_)
      refine lv_goto (tgt := 2) F.1 F.2.1 dX0_carry_36 (by decide) ?_
      exact ihlp1 (i + 1) (by omega) _ _ _ hP hD hS (lv_sub hl [1, 2, 3, 0] rfl)
  exact lp1 8 0 (by omega) _ _ _ hP hD hS (lv_sub hl [1, 2, 3, 0] rfl)

set_option maxHeartbeats 4000000 in
set_option maxRecDepth 100000 in
/-- moves(v, label) -/
theorem cX_moves (l : Launch) (D : va_G) (q : Nat → Nat) (d : Nat → ClassId) (ec sz st kn : Nat) (nu ou iw ki la he be to : Nat → Nat) (v label : Nat) (hv : v < 8) (hlab : label < 2 ^ 31) (hou : ∀ k, ou k < 256) : CtI l D vwCl (tX d) yX0_moves cX0_moves 4 .boolean rmX0_moves [.ref (q 0), .int (nI v), .int (nI label)] (wX q d ec sz st kn nu ou iw ki la he be to) (nI (mX_moves ou v label)) (wX q d ec sz st kn nu ou iw ki la he be to) := by
  refine CtI.of RX0 rfl (by decide +kernel) (Nat.le_of_ble_eq_true rfl) ?_
  intro p e s m below meth c A ls F hr hlk hK hA hP hD hS hl
  have hl : lv_has ls 4 [(0, .ref (q 0)), (1, .int (nI v)), (2, .int (nI label))] := hl
  refine lv_iload_n F.1 F.2.1 dX0_moves_0 rfl (lv_at hl 2 rfl) ?_
  refine wq_iconst F 1 dX0_moves_1 (by decide) ?_
  refine wq_icmp_eq (tgt := 18) F (by omega) (by omega) dX0_moves_2 (by decide) (fun c2 => ?_) (fun c2 => ?_)
  · refine wq_iconst F 0 dX0_moves_18 (by decide) ?_
    refine lv_istore_n (lv' := [(3, .int (nI 0)), (0, .ref (q 0)), (1, .int (nI v)), (2, .int (nI label))]) F.1 F.2.1 dX0_moves_19 rfl hl (by decide) rfl (fun ls hl => ?_)
    refine lv_iload_n F.1 F.2.1 dX0_moves_20 rfl (lv_at hl 0 rfl) ?_
    refine wq_if_ne (tgt := 40) F (by omega) dX0_moves_21 (by decide) (fun c21 => False.elim (by omega)) (fun c21 => ?_)
    refine lv_iload_n F.1 F.2.1 dX0_moves_24 rfl (lv_at hl 3 rfl) ?_
    refine wq_if_eq (tgt := 44) F (by omega) dX0_moves_25 (by decide) (fun c25 => ?_) (fun c25 => ?_)
    · refine wq_iconst F 0 dX0_moves_44 (by decide) ?_
      exact wq_zret F hr hlk rfl (by unfold mX_moves; rw [if_neg (by omega)]) hK hP hD hS dX0_moves_45
    · refine lv_aload_n F.1 F.2.1 dX0_moves_28 rfl (lv_at hl 1 rfl) ?_
      refine gX0 F hK hP rfl 2 (by decide) q30 rfl (v := .ref (q 2)) rfl dX0_moves_29 ?_
      refine wq_bipush F 8 dX0_moves_32 (by decide) ?_
      refine lv_iload_n F.1 F.2.1 dX0_moves_34 rfl (lv_at hl 2 rfl) ?_
      refine wq_iadd F dX0_moves_35 ?_
      refine wq_sald F hK hP 2 1 rfl rfl (by omega) (by decide) dX0_moves_36 ?_
      have ho8 := hou (8 + v)
      refine wq_if_eq (tgt := 44) F (by omega) dX0_moves_37 (by decide) (fun c37 => ?_) (fun c37 => ?_)
      · refine wq_iconst F 0 dX0_moves_44 (by decide) ?_
        exact wq_zret F hr hlk rfl (by unfold mX_moves; rw [if_neg (by omega)]) hK hP hD hS dX0_moves_45
      · refine wq_iconst F 1 dX0_moves_40 (by decide) ?_
        refine lv_goto (tgt := 45) F.1 F.2.1 dX0_moves_41 (by decide) ?_
        exact wq_zret F hr hlk rfl (by unfold mX_moves; rw [if_pos (by omega)]) hK hP hD hS dX0_moves_45
  · refine lv_aload_n F.1 F.2.1 dX0_moves_5 rfl (lv_at hl 0 rfl) ?_
    refine gX0 F hK hP rfl 2 (by decide) q30 rfl (v := .ref (q 2)) rfl dX0_moves_6 ?_
    refine lv_iload_n F.1 F.2.1 dX0_moves_9 rfl (lv_at hl 1 rfl) ?_
    refine wq_sald F hK hP 2 1 rfl rfl (by omega) (by decide) dX0_moves_10 ?_
    have ho := hou v
    refine wq_if_eq (tgt := 18) F (by omega) dX0_moves_11 (by decide) (fun c11 => ?_) (fun c11 => ?_)
    · refine wq_iconst F 0 dX0_moves_18 (by decide) ?_
      refine lv_istore_n (lv' := [(3, .int (nI 0)), (0, .ref (q 0)), (1, .int (nI v)), (2, .int (nI label))]) F.1 F.2.1 dX0_moves_19 rfl hl (by decide) rfl (fun ls hl => ?_)
      refine lv_iload_n F.1 F.2.1 dX0_moves_20 rfl (lv_at hl 0 rfl) ?_
      refine wq_if_ne (tgt := 40) F (by omega) dX0_moves_21 (by decide) (fun c21 => False.elim (by omega)) (fun c21 => ?_)
      refine lv_iload_n F.1 F.2.1 dX0_moves_24 rfl (lv_at hl 3 rfl) ?_
      refine wq_if_eq (tgt := 44) F (by omega) dX0_moves_25 (by decide) (fun c25 => ?_) (fun c25 => ?_)
      · refine wq_iconst F 0 dX0_moves_44 (by decide) ?_
        exact wq_zret F hr hlk rfl (by unfold mX_moves; rw [if_neg (by omega)]) hK hP hD hS dX0_moves_45
      · refine lv_aload_n F.1 F.2.1 dX0_moves_28 rfl (lv_at hl 1 rfl) ?_
        refine gX0 F hK hP rfl 2 (by decide) q30 rfl (v := .ref (q 2)) rfl dX0_moves_29 ?_
        refine wq_bipush F 8 dX0_moves_32 (by decide) ?_
        refine lv_iload_n F.1 F.2.1 dX0_moves_34 rfl (lv_at hl 2 rfl) ?_
        refine wq_iadd F dX0_moves_35 ?_
        refine wq_sald F hK hP 2 1 rfl rfl (by omega) (by decide) dX0_moves_36 ?_
        have ho8 := hou (8 + v)
        refine wq_if_eq (tgt := 44) F (by omega) dX0_moves_37 (by decide) (fun c37 => ?_) (fun c37 => ?_)
        · refine wq_iconst F 0 dX0_moves_44 (by decide) ?_
          exact wq_zret F hr hlk rfl (by unfold mX_moves; rw [if_neg (by omega)]) hK hP hD hS dX0_moves_45
        · refine wq_iconst F 1 dX0_moves_40 (by decide) ?_
          refine lv_goto (tgt := 45) F.1 F.2.1 dX0_moves_41 (by decide) ?_
          exact wq_zret F hr hlk rfl (by unfold mX_moves; rw [if_pos (by omega)]) hK hP hD hS dX0_moves_45
    · refine wq_iconst F 1 dX0_moves_14 (by decide) ?_
      refine lv_goto (tgt := 19) F.1 F.2.1 dX0_moves_15 (by decide) ?_
      refine lv_istore_n (lv' := [(3, .int (nI 1)), (0, .ref (q 0)), (1, .int (nI v)), (2, .int (nI label))]) F.1 F.2.1 dX0_moves_19 rfl hl (by decide) rfl (fun ls hl => ?_)
      refine lv_iload_n F.1 F.2.1 dX0_moves_20 rfl (lv_at hl 0 rfl) ?_
      refine wq_if_ne (tgt := 40) F (by omega) dX0_moves_21 (by decide) (fun c21 => ?_) (fun c21 => False.elim (by omega))
      refine wq_iconst F 1 dX0_moves_40 (by decide) ?_
      refine lv_goto (tgt := 45) F.1 F.2.1 dX0_moves_41 (by decide) ?_
      exact wq_zret F hr hlk rfl (by unfold mX_moves; rw [if_pos (by omega)]) hK hP hD hS dX0_moves_45

set_option maxHeartbeats 4000000 in
set_option maxRecDepth 100000 in
/-- spread(kind, v, j) -/
theorem cX_spread (l : Launch) (D : va_G) (q : Nat → Nat) (d : Nat → ClassId) (ec sz st kn : Nat) (nu ou iw ki la he be to : Nat → Nat) (kind v j : Nat) (hv : v < 8) (hj : j < 2) (hk : kind < 2 ^ 31) (hou : ∀ k, ou k < 256) (hiw : ∀ k, iw k < 256) : CtV l D vwCl (tX d) yX0_spread cX0_spread 7 rmX0_spread [.ref (q 0), .int (nI kind), .int (nI v), .int (nI j)] (wX q d ec sz st kn nu ou iw ki la he be to) (wX q d ec sz st kn nu ou iw ki la (mX_spread ou iw be kind v j he) be to) := by
  refine CtV.of RX0 rfl (by decide +kernel) (Nat.le_of_ble_eq_true rfl) ?_
  intro p e s m below meth c A ls F hr hlk hK hA hP hD hS hl
  have hl : lv_has ls 7 [(0, .ref (q 0)), (1, .int (nI kind)), (2, .int (nI v)), (3, .int (nI j))] := hl
  have K20 : ∀ (x0 : Nat), x0 = (mX_fo ou kind v j) → ∀ (H : Heap) (locs : List Loc) (ls : Array Slot), va_P D vwCl (wX q d ec sz st kn nu ou iw ki la he be to) H → va_D A (wX q d ec sz st kn nu ou iw ki la he be to) → va_S A s.heap H locs → lv_has ls 7 [(0, .ref (q 0)), (1, .int (nI kind)), (2, .int (nI v)), (3, .int (nI j))] → W p l e rmX0_spread s m [.ref (q 0), .int (nI kind), .int (nI v), .int (nI j)].toArray below meth c H locs 0 0 (MQ below (wq_QV D vwCl (tX d) A (wX q d ec sz st kn nu ou iw ki la (mX_spread ou iw be kind v j he) be to)) [.ref (q 0), .int (nI kind), .int (nI v), .int (nI j)].toArray s 0 0 A) (F0 m 20 ls [.int (nI x0)]) := by
    intro x0 ex0 H locs ls hP hD hS hl
    subst ex0
    refine lv_istore (lv' := [(4, .int (nI (mX_fo ou kind v j))), (0, .ref (q 0)), (1, .int (nI kind)), (2, .int (nI v)), (3, .int (nI j))]) F.1 F.2.1 dX0_spread_20 hl (by decide) rfl (fun ls hl => ?_)
    have K47 : ∀ (x1 : Nat), x1 = (mX_ba iw kind v j) → ∀ (H : Heap) (locs : List Loc) (ls : Array Slot), va_P D vwCl (wX q d ec sz st kn nu ou iw ki la he be to) H → va_D A (wX q d ec sz st kn nu ou iw ki la he be to) → va_S A s.heap H locs → lv_has ls 7 [(4, .int (nI (mX_fo ou kind v j))), (0, .ref (q 0)), (1, .int (nI kind)), (2, .int (nI v)), (3, .int (nI j))] → W p l e rmX0_spread s m [.ref (q 0), .int (nI kind), .int (nI v), .int (nI j)].toArray below meth c H locs 0 0 (MQ below (wq_QV D vwCl (tX d) A (wX q d ec sz st kn nu ou iw ki la (mX_spread ou iw be kind v j he) be to)) [.ref (q 0), .int (nI kind), .int (nI v), .int (nI j)].toArray s 0 0 A) (F0 m 47 ls [.int (nI x1)]) := by
      intro x1 ex1 H locs ls hP hD hS hl
      subst ex1
      refine lv_istore (lv' := [(5, .int (nI (mX_ba iw kind v j))), (4, .int (nI (mX_fo ou kind v j))), (0, .ref (q 0)), (1, .int (nI kind)), (2, .int (nI v)), (3, .int (nI j))]) F.1 F.2.1 dX0_spread_47 hl (by decide) rfl (fun ls hl => ?_)
      refine wq_iconst F 0 dX0_spread_49 (by decide) ?_
      refine lv_istore (lv' := [(6, .int (nI 0)), (5, .int (nI (mX_ba iw kind v j))), (4, .int (nI (mX_fo ou kind v j))), (0, .ref (q 0)), (1, .int (nI kind)), (2, .int (nI v)), (3, .int (nI j))]) F.1 F.2.1 dX0_spread_50 hl (by decide) rfl (fun ls hl => ?_)
      have lp1 : ∀ (n i : Nat), i + n = 8 → ∀ (H : Heap) (locs : List Loc) (ls : Array Slot), va_P D vwCl (wX q d ec sz st kn nu ou iw ki la (wq_it (fun w h => mX_c1 be v (mX_ba iw kind v j) w (mX_c1 be v (mX_fo ou kind v j) w h)) i he) be to) H → va_D A (wX q d ec sz st kn nu ou iw ki la (wq_it (fun w h => mX_c1 be v (mX_ba iw kind v j) w (mX_c1 be v (mX_fo ou kind v j) w h)) i he) be to) → va_S A s.heap H locs → lv_has ls 7 [(0, .ref (q 0)), (2, .int (nI v)), (4, .int (nI (mX_fo ou kind v j))), (5, .int (nI (mX_ba iw kind v j))), (6, .int (nI i))] → W p l e rmX0_spread s m [.ref (q 0), .int (nI kind), .int (nI v), .int (nI j)].toArray below meth c H locs 0 0 (MQ below (wq_QV D vwCl (tX d) A (wX q d ec sz st kn nu ou iw ki la (mX_spread ou iw be kind v j he) be to)) [.ref (q 0), .int (nI kind), .int (nI v), .int (nI j)].toArray s 0 0 A) (F0 m 52 ls []) := by
        intro n
        induction n with
        | zero =>
          intro i hi H locs ls hP hD hS hl
          have ei : 8 = i := by omega
          subst ei
          refine lv_iload F.1 F.2.1 dX0_spread_52 (lv_at hl 4 rfl) ?_
          refine wq_bipush F 8 dX0_spread_54 (by decide) ?_
          refine wq_icmp_ge (tgt := 99) F (by omega) (by omega) dX0_spread_56 (by decide) (fun c56 => ?_) (fun c56 => False.elim (by omega))
          exact wq_vret F hr hlk hK hP hD hS dX0_spread_99
        | succ n ihlp1 =>
          intro i hi H locs ls hP hD hS hl
          refine lv_iload F.1 F.2.1 dX0_spread_52 (lv_at hl 4 rfl) ?_
          refine wq_bipush F 8 dX0_spread_54 (by decide) ?_
          refine wq_icmp_ge (tgt := 99) F (by omega) (by omega) dX0_spread_56 (by decide) (fun c56 => False.elim (by omega)) (fun c56 => ?_)
          have K76 : ∀ (h1 : Nat → Nat), h1 = (mX_c1 be v (mX_fo ou kind v j) i (wq_it (fun w h => mX_c1 be v (mX_ba iw kind v j) w (mX_c1 be v (mX_fo ou kind v j) w h)) i he)) → ∀ (H : Heap) (locs : List Loc) (ls : Array Slot), va_P D vwCl (wX q d ec sz st kn nu ou iw ki la h1 be to) H → va_D A (wX q d ec sz st kn nu ou iw ki la h1 be to) → va_S A s.heap H locs → lv_has ls 7 [(0, .ref (q 0)), (2, .int (nI v)), (4, .int (nI (mX_fo ou kind v j))), (5, .int (nI (mX_ba iw kind v j))), (6, .int (nI i))] → W p l e rmX0_spread s m [.ref (q 0), .int (nI kind), .int (nI v), .int (nI j)].toArray below meth c H locs 0 0 (MQ below (wq_QV D vwCl (tX d) A (wX q d ec sz st kn nu ou iw ki la (mX_spread ou iw be kind v j he) be to)) [.ref (q 0), .int (nI kind), .int (nI v), .int (nI j)].toArray s 0 0 A) (F0 m 76 ls []) := by
            intro h1 eh1 H locs ls hP hD hS hl
            subst eh1
            refine lv_iload F.1 F.2.1 dX0_spread_76 (lv_at hl 3 rfl) ?_
            have K93 : ∀ (h2 : Nat → Nat), h2 = (mX_c1 be v (mX_ba iw kind v j) i (mX_c1 be v (mX_fo ou kind v j) i (wq_it (fun w h => mX_c1 be v (mX_ba iw kind v j) w (mX_c1 be v (mX_fo ou kind v j) w h)) i he))) → ∀ (H : Heap) (locs : List Loc) (ls : Array Slot), va_P D vwCl (wX q d ec sz st kn nu ou iw ki la h2 be to) H → va_D A (wX q d ec sz st kn nu ou iw ki la h2 be to) → va_S A s.heap H locs → lv_has ls 7 [(0, .ref (q 0)), (2, .int (nI v)), (4, .int (nI (mX_fo ou kind v j))), (5, .int (nI (mX_ba iw kind v j))), (6, .int (nI i))] → W p l e rmX0_spread s m [.ref (q 0), .int (nI kind), .int (nI v), .int (nI j)].toArray below meth c H locs 0 0 (MQ below (wq_QV D vwCl (tX d) A (wX q d ec sz st kn nu ou iw ki la (mX_spread ou iw be kind v j he) be to)) [.ref (q 0), .int (nI kind), .int (nI v), .int (nI j)].toArray s 0 0 A) (F0 m 93 ls []) := by
              intro h2 eh2 H locs ls hP hD hS hl
              subst eh2
              refine lv_iinc (v := nI (i + 1)) (lv' := [(6, .int (nI (i + 1))), (0, .ref (q 0)), (2, .int (nI v)), (4, .int (nI (mX_fo ou kind v j))), (5, .int (nI (mX_ba iw kind v j)))]) F.1 F.2.1 dX0_spread_93 hl (k := 4) rfl (wq_inc1 _) (by decide) rfl (fun ls hl => ?_)
              refine lv_goto (tgt := 52) F.1 F.2.1 dX0_spread_96 (by decide) ?_
              exact ihlp1 (i + 1) (by omega) _ _ _ hP hD hS (lv_sub hl [1, 2, 3, 4, 0] rfl)
            refine lv_iload F.1 F.2.1 dX0_spread_78 (lv_at hl 4 rfl) ?_
            refine wq_ishr F (Nat.lt_trans (mX_ba_lt hiw) (by decide)) (by omega) dX0_spread_80 ?_
            refine wq_iconst F 1 dX0_spread_81 (by decide) ?_
            refine wq_iand1 F (Nat.lt_of_le_of_lt (Nat.div_le_self _ _) (Nat.lt_trans (mX_ba_lt hiw) (by decide))) dX0_spread_82 ?_
            refine wq_if_eq (tgt := 93) F (by omega) dX0_spread_83 (by decide) (fun c83 => ?_) (fun c83 => ?_)
            · exact K93 (mX_c1 be v (mX_fo ou kind v j) i (wq_it (fun w h => mX_c1 be v (mX_ba iw kind v j) w (mX_c1 be v (mX_fo ou kind v j) w h)) i he)) (mX_c1_z c83) _ _ _ hP hD hS (lv_sub hl [0, 1, 2, 3, 4] rfl)
            · refine lv_aload_n F.1 F.2.1 dX0_spread_86 rfl (lv_at hl 0 rfl) ?_
              refine lv_iload_n F.1 F.2.1 dX0_spread_87 rfl (lv_at hl 1 rfl) ?_
              refine lv_iload F.1 F.2.1 dX0_spread_88 (lv_at hl 4 rfl) ?_
              refine wq_callVv F (rest := []) (ci := 0) rfl rfl (cX_carry l D q d ec sz st kn nu ou iw ki la (mX_c1 be v (mX_fo ou kind v j) i (wq_it (fun w h => mX_c1 be v (mX_ba iw kind v j) w (mX_c1 be v (mX_fo ou kind v j) w h)) i he)) be to v i hv (by omega)) (cwV 2 F.2.2.2.2 (lw_V q126 q128 qs6 q18 q129) rfl rfl rfl (by decide +kernel) ⟨Nat.le_of_ble_eq_true rfl, Nat.le_of_ble_eq_true rfl⟩) rfl hK hP hD hS hA hl.1 rfl (Nat.le_of_ble_eq_true rfl) dX0_spread_90 ⟨Nat.zero_le _, Nat.zero_le _⟩ (fun H locs hP hD hS => ?_)
              exact K93 (mX_carry be v i (mX_c1 be v (mX_fo ou kind v j) i (wq_it (fun w h => mX_c1 be v (mX_ba iw kind v j) w (mX_c1 be v (mX_fo ou kind v j) w h)) i he))) (mX_c1_o c83) _ _ _ hP hD hS (lv_sub hl [0, 1, 2, 3, 4] rfl)
          refine lv_iload F.1 F.2.1 dX0_spread_59 (lv_at hl 2 rfl) ?_
          refine lv_iload F.1 F.2.1 dX0_spread_61 (lv_at hl 4 rfl) ?_
          refine wq_ishr F (Nat.lt_trans (mX_fo_lt hou) (by decide)) (by omega) dX0_spread_63 ?_
          refine wq_iconst F 1 dX0_spread_64 (by decide) ?_
          refine wq_iand1 F (Nat.lt_of_le_of_lt (Nat.div_le_self _ _) (Nat.lt_trans (mX_fo_lt hou) (by decide))) dX0_spread_65 ?_
          refine wq_if_eq (tgt := 76) F (by omega) dX0_spread_66 (by decide) (fun c66 => ?_) (fun c66 => ?_)
          · exact K76 (wq_it (fun w h => mX_c1 be v (mX_ba iw kind v j) w (mX_c1 be v (mX_fo ou kind v j) w h)) i he) (mX_c1_z c66) _ _ _ hP hD hS (lv_sub hl [0, 1, 2, 3, 4] rfl)
          · refine lv_aload_n F.1 F.2.1 dX0_spread_69 rfl (lv_at hl 0 rfl) ?_
            refine lv_iload_n F.1 F.2.1 dX0_spread_70 rfl (lv_at hl 1 rfl) ?_
            refine lv_iload F.1 F.2.1 dX0_spread_71 (lv_at hl 4 rfl) ?_
            refine wq_callVv F (rest := []) (ci := 0) rfl rfl (cX_carry l D q d ec sz st kn nu ou iw ki la (wq_it (fun w h => mX_c1 be v (mX_ba iw kind v j) w (mX_c1 be v (mX_fo ou kind v j) w h)) i he) be to v i hv (by omega)) (cwV 2 F.2.2.2.2 (lw_V q126 q128 qs6 q18 q129) rfl rfl rfl (by decide +kernel) ⟨Nat.le_of_ble_eq_true rfl, Nat.le_of_ble_eq_true rfl⟩) rfl hK hP hD hS hA hl.1 rfl (Nat.le_of_ble_eq_true rfl) dX0_spread_73 ⟨Nat.zero_le _, Nat.zero_le _⟩ (fun H locs hP hD hS => ?_)
            exact K76 (mX_carry be v i (wq_it (fun w h => mX_c1 be v (mX_ba iw kind v j) w (mX_c1 be v (mX_fo ou kind v j) w h)) i he)) (mX_c1_o c66) _ _ _ hP hD hS (lv_sub hl [0, 1, 2, 3, 4] rfl)
      exact lp1 8 0 (by omega) _ _ _ hP hD hS (lv_sub hl [3, 5, 2, 1, 0] rfl)
    refine lv_iload_n F.1 F.2.1 dX0_spread_22 rfl (lv_at hl 2 rfl) ?_
    refine wq_iconst F 1 dX0_spread_23 (by decide) ?_
    refine wq_icmp_eq (tgt := 32) F (by omega) (by omega) dX0_spread_24 (by decide) (fun c24 => ?_) (fun c24 => ?_)
    · refine lv_aload_n F.1 F.2.1 dX0_spread_32 rfl (lv_at hl 1 rfl) ?_
      refine gX0 F hK hP rfl 3 (by decide) q31 rfl (v := .ref (q 3)) rfl dX0_spread_33 ?_
      refine lv_iload_n F.1 F.2.1 dX0_spread_36 rfl (lv_at hl 4 rfl) ?_
      refine wq_bipush F 8 dX0_spread_37 (by decide) ?_
      refine wq_imul F dX0_spread_39 ?_
      refine lv_iload_n F.1 F.2.1 dX0_spread_40 rfl (lv_at hl 3 rfl) ?_
      refine wq_iadd F dX0_spread_41 ?_
      refine wq_sald F hK hP 3 2 rfl rfl (by omega) (by decide) dX0_spread_42 ?_
      refine lv_goto (tgt := 47) F.1 F.2.1 dX0_spread_43 (by decide) ?_
      exact K47 (iw ((j * 8) + v)) (by unfold mX_ba; rw [if_pos (by omega)]) _ _ _ hP hD hS (lv_sub hl [0, 1, 2, 3, 4] rfl)
    · refine lv_iload_n F.1 F.2.1 dX0_spread_27 rfl (lv_at hl 2 rfl) ?_
      refine wq_iconst F 2 dX0_spread_28 (by decide) ?_
      refine wq_icmp_ne (tgt := 46) F (by omega) (by omega) dX0_spread_29 (by decide) (fun c29 => ?_) (fun c29 => ?_)
      · refine wq_iconst F 0 dX0_spread_46 (by decide) ?_
        exact K47 (0) (by unfold mX_ba; rw [if_neg (by omega)]) _ _ _ hP hD hS (lv_sub hl [0, 1, 2, 3, 4] rfl)
      · refine lv_aload_n F.1 F.2.1 dX0_spread_32 rfl (lv_at hl 1 rfl) ?_
        refine gX0 F hK hP rfl 3 (by decide) q31 rfl (v := .ref (q 3)) rfl dX0_spread_33 ?_
        refine lv_iload_n F.1 F.2.1 dX0_spread_36 rfl (lv_at hl 4 rfl) ?_
        refine wq_bipush F 8 dX0_spread_37 (by decide) ?_
        refine wq_imul F dX0_spread_39 ?_
        refine lv_iload_n F.1 F.2.1 dX0_spread_40 rfl (lv_at hl 3 rfl) ?_
        refine wq_iadd F dX0_spread_41 ?_
        refine wq_sald F hK hP 3 2 rfl rfl (by omega) (by decide) dX0_spread_42 ?_
        refine lv_goto (tgt := 47) F.1 F.2.1 dX0_spread_43 (by decide) ?_
        exact K47 (iw ((j * 8) + v)) (by unfold mX_ba; rw [if_pos (by omega)]) _ _ _ hP hD hS (lv_sub hl [0, 1, 2, 3, 4] rfl)
  refine lv_iload_n F.1 F.2.1 dX0_spread_0 rfl (lv_at hl 1 rfl) ?_
  refine wq_iconst F 1 dX0_spread_1 (by decide) ?_
  refine wq_icmp_ne (tgt := 9) F (by omega) (by omega) dX0_spread_2 (by decide) (fun c2 => ?_) (fun c2 => ?_)
  · refine lv_aload_n F.1 F.2.1 dX0_spread_9 rfl (lv_at hl 0 rfl) ?_
    refine gX0 F hK hP rfl 2 (by decide) q30 rfl (v := .ref (q 2)) rfl dX0_spread_10 ?_
    refine lv_iload_n F.1 F.2.1 dX0_spread_13 rfl (lv_at hl 3 rfl) ?_
    refine wq_bipush F 8 dX0_spread_14 (by decide) ?_
    refine wq_imul F dX0_spread_16 ?_
    refine lv_iload_n F.1 F.2.1 dX0_spread_17 rfl (lv_at hl 2 rfl) ?_
    refine wq_iadd F dX0_spread_18 ?_
    refine wq_sald F hK hP 2 1 rfl rfl (by omega) (by decide) dX0_spread_19 ?_
    exact K20 (ou ((j * 8) + v)) (by unfold mX_fo; rw [if_neg c2]) _ _ _ hP hD hS (lv_sub hl [0, 1, 2, 3] rfl)
  · refine wq_iconst F 0 dX0_spread_5 (by decide) ?_
    refine lv_goto (tgt := 20) F.1 F.2.1 dX0_spread_6 (by decide) ?_
    exact K20 (0) (by unfold mX_fo; rw [if_pos c2]) _ _ _ hP hD hS (lv_sub hl [0, 1, 2, 3] rfl)

set_option maxHeartbeats 4000000 in
set_option maxRecDepth 100000 in
/-- move(kind, label) -/
theorem cX_move (l : Launch) (D : va_G) (q : Nat → Nat) (d : Nat → ClassId) (ec sz st kn : Nat) (nu ou iw ki la he be to : Nat → Nat) (kind label : Nat) (hk : kind < 2 ^ 31) (hlab : label < 2 ^ 31) (hou : ∀ k, ou k < 256) (hiw : ∀ k, iw k < 256) : CtV l D vwCl (tX d) yX0_move cX0_move 5 rmX0_move [.ref (q 0), .int (nI kind), .int (nI label)] (wX q d ec sz st kn nu ou iw ki la he be to) (wX q d ec sz st kn nu ou iw ki la ((mX_move ou iw kind label he be).1) ((mX_move ou iw kind label he be).2) to) := by
  refine CtV.of RX0 rfl (by decide +kernel) (Nat.le_of_ble_eq_true rfl) ?_
  intro p e s m below meth c A ls F hr hlk hK hA hP hD hS hl
  have hl : lv_has ls 5 [(0, .ref (q 0)), (1, .int (nI kind)), (2, .int (nI label))] := hl
  refine wq_iconst F 0 dX0_move_0 (by decide) ?_
  refine lv_istore_n (lv' := [(3, .int (nI 0)), (0, .ref (q 0)), (1, .int (nI kind)), (2, .int (nI label))]) F.1 F.2.1 dX0_move_1 rfl hl (by decide) rfl (fun ls hl => ?_)
  have lp1 : ∀ (n i : Nat), i + n = 64 → ∀ (H : Heap) (locs : List Loc) (ls : Array Slot), va_P D vwCl (wX q d ec sz st kn nu ou iw ki la ((wq_it (fun i (x : (Nat → Nat) × (Nat → Nat)) => (wq_up x.1 i (x.2 i), wq_up x.2 i 0)) i (be, he)).2) ((wq_it (fun i (x : (Nat → Nat) × (Nat → Nat)) => (wq_up x.1 i (x.2 i), wq_up x.2 i 0)) i (be, he)).1) to) H → va_D A (wX q d ec sz st kn nu ou iw ki la ((wq_it (fun i (x : (Nat → Nat) × (Nat → Nat)) => (wq_up x.1 i (x.2 i), wq_up x.2 i 0)) i (be, he)).2) ((wq_it (fun i (x : (Nat → Nat) × (Nat → Nat)) => (wq_up x.1 i (x.2 i), wq_up x.2 i 0)) i (be, he)).1) to) → va_S A s.heap H locs → lv_has ls 5 [(0, .ref (q 0)), (1, .int (nI kind)), (2, .int (nI label)), (3, .int (nI i))] → W p l e rmX0_move s m [.ref (q 0), .int (nI kind), .int (nI label)].toArray below meth c H locs 0 0 (MQ below (wq_QV D vwCl (tX d) A (wX q d ec sz st kn nu ou iw ki la ((mX_move ou iw kind label he be).1) ((mX_move ou iw kind label he be).2) to)) [.ref (q 0), .int (nI kind), .int (nI label)].toArray s 0 0 A) (F0 m 2 ls []) := by
    intro n
    induction n with
    | zero =>
      intro i hi H locs ls hP hD hS hl
      have ei : 64 = i := by omega
      subst ei
      refine lv_iload_n F.1 F.2.1 dX0_move_2 rfl (lv_at hl 3 rfl) ?_
      refine wq_bipush F 64 dX0_move_3 (by decide) ?_
      refine wq_icmp_ge (tgt := 33) F (by omega) (by omega) dX0_move_5 (by decide) (fun c5 => ?_) (fun c5 => False.elim (by omega))
      refine wq_iconst F 0 dX0_move_33 (by decide) ?_
      refine lv_istore_n (lv' := [(3, .int (nI 0)), (0, .ref (q 0)), (1, .int (nI kind)), (2, .int (nI label))]) F.1 F.2.1 dX0_move_34 rfl hl (by decide) rfl (fun ls hl => ?_)
      have lp2 : ∀ (n i : Nat), i + n = 8 → ∀ (H : Heap) (locs : List Loc) (ls : Array Slot), va_P D vwCl (wX q d ec sz st kn nu ou iw ki la (wq_it (fun v h => mX_mv ou iw (mX_cp (be, he)).1 kind label v h) i (mX_cp (be, he)).2) ((mX_cp (be, he)).1) to) H → va_D A (wX q d ec sz st kn nu ou iw ki la (wq_it (fun v h => mX_mv ou iw (mX_cp (be, he)).1 kind label v h) i (mX_cp (be, he)).2) ((mX_cp (be, he)).1) to) → va_S A s.heap H locs → lv_has ls 5 [(0, .ref (q 0)), (1, .int (nI kind)), (2, .int (nI label)), (3, .int (nI i))] → W p l e rmX0_move s m [.ref (q 0), .int (nI kind), .int (nI label)].toArray below meth c H locs 0 0 (MQ below (wq_QV D vwCl (tX d) A (wX q d ec sz st kn nu ou iw ki la ((mX_move ou iw kind label he be).1) ((mX_move ou iw kind label he be).2) to)) [.ref (q 0), .int (nI kind), .int (nI label)].toArray s 0 0 A) (F0 m 35 ls []) := by
        intro n
        induction n with
        | zero =>
          intro i hi H locs ls hP hD hS hl
          have ei : 8 = i := by omega
          subst ei
          refine lv_iload_n F.1 F.2.1 dX0_move_35 rfl (lv_at hl 3 rfl) ?_
          refine wq_bipush F 8 dX0_move_36 (by decide) ?_
          refine wq_icmp_ge (tgt := 101) F (by omega) (by omega) dX0_move_38 (by decide) (fun c38 => ?_) (fun c38 => False.elim (by omega))
          exact wq_vret F hr hlk hK hP hD hS dX0_move_101
        | succ n ihlp2 =>
          intro i hi H locs ls hP hD hS hl
          refine lv_iload_n F.1 F.2.1 dX0_move_35 rfl (lv_at hl 3 rfl) ?_
          refine wq_bipush F 8 dX0_move_36 (by decide) ?_
          refine wq_icmp_ge (tgt := 101) F (by omega) (by omega) dX0_move_38 (by decide) (fun c38 => False.elim (by omega)) (fun c38 => ?_)
          refine wq_iconst F 0 dX0_move_41 (by decide) ?_
          refine lv_istore (lv' := [(4, .int (nI 0)), (0, .ref (q 0)), (1, .int (nI kind)), (2, .int (nI label)), (3, .int (nI i))]) F.1 F.2.1 dX0_move_42 hl (by decide) rfl (fun ls hl => ?_)
          have lp3 : ∀ (n j : Nat), j + n = 2 → ∀ (H : Heap) (locs : List Loc) (ls : Array Slot), va_P D vwCl (wX q d ec sz st kn nu ou iw ki la (wq_it (fun l h => if label = 2 ∨ label = l then mX_spread ou iw (mX_cp (be, he)).1 kind i l h else h) j (wq_it (fun v h => mX_mv ou iw (mX_cp (be, he)).1 kind label v h) i (mX_cp (be, he)).2)) ((mX_cp (be, he)).1) to) H → va_D A (wX q d ec sz st kn nu ou iw ki la (wq_it (fun l h => if label = 2 ∨ label = l then mX_spread ou iw (mX_cp (be, he)).1 kind i l h else h) j (wq_it (fun v h => mX_mv ou iw (mX_cp (be, he)).1 kind label v h) i (mX_cp (be, he)).2)) ((mX_cp (be, he)).1) to) → va_S A s.heap H locs → lv_has ls 5 [(0, .ref (q 0)), (1, .int (nI kind)), (2, .int (nI label)), (3, .int (nI i)), (4, .int (nI j))] → W p l e rmX0_move s m [.ref (q 0), .int (nI kind), .int (nI label)].toArray below meth c H locs 0 0 (MQ below (wq_QV D vwCl (tX d) A (wX q d ec sz st kn nu ou iw ki la ((mX_move ou iw kind label he be).1) ((mX_move ou iw kind label he be).2) to)) [.ref (q 0), .int (nI kind), .int (nI label)].toArray s 0 0 A) (F0 m 44 ls []) := by
            intro n
            induction n with
            | zero =>
              intro j hj H locs ls hP hD hS hl
              have ej : 2 = j := by omega
              subst ej
              refine lv_iload F.1 F.2.1 dX0_move_44 (lv_at hl 4 rfl) ?_
              refine wq_iconst F 2 dX0_move_46 (by decide) ?_
              refine wq_icmp_ge (tgt := 75) F (by omega) (by omega) dX0_move_47 (by decide) (fun c47 => ?_) (fun c47 => False.elim (by omega))
              have K95 : ∀ (h2 : Nat → Nat), h2 = (mX_mv ou iw (mX_cp (be, he)).1 kind label i (wq_it (fun v h => mX_mv ou iw (mX_cp (be, he)).1 kind label v h) i (mX_cp (be, he)).2)) → ∀ (H : Heap) (locs : List Loc) (ls : Array Slot), va_P D vwCl (wX q d ec sz st kn nu ou iw ki la h2 ((mX_cp (be, he)).1) to) H → va_D A (wX q d ec sz st kn nu ou iw ki la h2 ((mX_cp (be, he)).1) to) → va_S A s.heap H locs → lv_has ls 5 [(0, .ref (q 0)), (1, .int (nI kind)), (2, .int (nI label)), (3, .int (nI i))] → W p l e rmX0_move s m [.ref (q 0), .int (nI kind), .int (nI label)].toArray below meth c H locs 0 0 (MQ below (wq_QV D vwCl (tX d) A (wX q d ec sz st kn nu ou iw ki la ((mX_move ou iw kind label he be).1) ((mX_move ou iw kind label he be).2) to)) [.ref (q 0), .int (nI kind), .int (nI label)].toArray s 0 0 A) (F0 m 95 ls []) := by
                intro h2 eh2 H locs ls hP hD hS hl
                subst eh2
                refine lv_iinc (v := nI (i + 1)) (lv' := [(3, .int (nI (i + 1))), (0, .ref (q 0)), (1, .int (nI kind)), (2, .int (nI label))]) F.1 F.2.1 dX0_move_95 hl (k := 3) rfl (wq_inc1 _) (by decide) rfl (fun ls hl => ?_)
                refine lv_goto (tgt := 35) F.1 F.2.1 dX0_move_98 (by decide) ?_
                exact ihlp2 (i + 1) (by omega) _ _ _ hP hD hS (lv_sub hl [1, 2, 3, 0] rfl)
              refine lv_iload_n F.1 F.2.1 dX0_move_75 rfl (lv_at hl 1 rfl) ?_
              refine wq_iconst F 3 dX0_move_76 (by decide) ?_
              refine wq_icmp_ne (tgt := 95) F (by omega) (by omega) dX0_move_77 (by decide) (fun c77 => ?_) (fun c77 => ?_)
              · exact K95 (wq_it (fun l h => if label = 2 ∨ label = l then mX_spread ou iw (mX_cp (be, he)).1 kind i l h else h) 2 (wq_it (fun v h => mX_mv ou iw (mX_cp (be, he)).1 kind label v h) i (mX_cp (be, he)).2)) (mX_mv_z (by omega)) _ _ _ hP hD hS (lv_sub hl [0, 1, 2, 3] rfl)
              · refine lv_aload_n F.1 F.2.1 dX0_move_80 rfl (lv_at hl 0 rfl) ?_
                refine lv_iload_n F.1 F.2.1 dX0_move_81 rfl (lv_at hl 3 rfl) ?_
                refine lv_iload_n F.1 F.2.1 dX0_move_82 rfl (lv_at hl 2 rfl) ?_
                refine wq_callIv F (rest := []) (ci := 0) rfl rfl (cX_moves l D q d ec sz st kn nu ou iw ki la (wq_it (fun l h => if label = 2 ∨ label = l then mX_spread ou iw (mX_cp (be, he)).1 kind i l h else h) 2 (wq_it (fun v h => mX_mv ou iw (mX_cp (be, he)).1 kind label v h) i (mX_cp (be, he)).2)) ((mX_cp (be, he)).1) to i label (by omega) hlab hou) (cwV 2 F.2.2.2.2 (lw_V q130 q132 qs7 q18 q133) rfl rfl rfl (by decide +kernel) ⟨Nat.le_of_ble_eq_true rfl, Nat.le_of_ble_eq_true rfl⟩) rfl hK hP hD hS hA hl.1 rfl (Nat.le_of_ble_eq_true rfl) dX0_move_83 ⟨Nat.zero_le _, Nat.zero_le _⟩ (fun H locs hP hD hS => ?_)
                refine wq_if_ne (tgt := 95) F (mX_moves_lt) dX0_move_86 (by decide) (fun c86 => ?_) (fun c86 => ?_)
                · exact K95 (wq_it (fun l h => if label = 2 ∨ label = l then mX_spread ou iw (mX_cp (be, he)).1 kind i l h else h) 2 (wq_it (fun v h => mX_mv ou iw (mX_cp (be, he)).1 kind label v h) i (mX_cp (be, he)).2)) (mX_mv_z (by omega)) _ _ _ hP hD hS (lv_sub hl [0, 1, 2, 3] rfl)
                · refine lv_aload_n F.1 F.2.1 dX0_move_89 rfl (lv_at hl 0 rfl) ?_
                  refine lv_iload_n F.1 F.2.1 dX0_move_90 rfl (lv_at hl 3 rfl) ?_
                  refine lv_iload_n F.1 F.2.1 dX0_move_91 rfl (lv_at hl 3 rfl) ?_
                  refine wq_callVv F (rest := []) (ci := 0) rfl rfl (cX_carry l D q d ec sz st kn nu ou iw ki la (wq_it (fun l h => if label = 2 ∨ label = l then mX_spread ou iw (mX_cp (be, he)).1 kind i l h else h) 2 (wq_it (fun v h => mX_mv ou iw (mX_cp (be, he)).1 kind label v h) i (mX_cp (be, he)).2)) ((mX_cp (be, he)).1) to i i (by omega) (by omega)) (cwV 2 F.2.2.2.2 (lw_V q126 q128 qs6 q18 q129) rfl rfl rfl (by decide +kernel) ⟨Nat.le_of_ble_eq_true rfl, Nat.le_of_ble_eq_true rfl⟩) rfl hK hP hD hS hA hl.1 rfl (Nat.le_of_ble_eq_true rfl) dX0_move_92 ⟨Nat.zero_le _, Nat.zero_le _⟩ (fun H locs hP hD hS => ?_)
                  exact K95 (mX_carry (mX_cp (be, he)).1 i i (wq_it (fun l h => if label = 2 ∨ label = l then mX_spread ou iw (mX_cp (be, he)).1 kind i l h else h) 2 (wq_it (fun v h => mX_mv ou iw (mX_cp (be, he)).1 kind label v h) i (mX_cp (be, he)).2))) (mX_mv_o ⟨c77, c86⟩) _ _ _ hP hD hS (lv_sub hl [0, 1, 2, 3] rfl)
            | succ n ihlp3 =>
              intro j hj H locs ls hP hD hS hl
              refine lv_iload F.1 F.2.1 dX0_move_44 (lv_at hl 4 rfl) ?_
              refine wq_iconst F 2 dX0_move_46 (by decide) ?_
              refine wq_icmp_ge (tgt := 75) F (by omega) (by omega) dX0_move_47 (by decide) (fun c47 => False.elim (by omega)) (fun c47 => ?_)
              have K69 : ∀ (h1 : Nat → Nat), h1 = (if label = 2 ∨ label = j then mX_spread ou iw (mX_cp (be, he)).1 kind i j (wq_it (fun l h => if label = 2 ∨ label = l then mX_spread ou iw (mX_cp (be, he)).1 kind i l h else h) j (wq_it (fun v h => mX_mv ou iw (mX_cp (be, he)).1 kind label v h) i (mX_cp (be, he)).2)) else wq_it (fun l h => if label = 2 ∨ label = l then mX_spread ou iw (mX_cp (be, he)).1 kind i l h else h) j (wq_it (fun v h => mX_mv ou iw (mX_cp (be, he)).1 kind label v h) i (mX_cp (be, he)).2)) → ∀ (H : Heap) (locs : List Loc) (ls : Array Slot), va_P D vwCl (wX q d ec sz st kn nu ou iw ki la h1 ((mX_cp (be, he)).1) to) H → va_D A (wX q d ec sz st kn nu ou iw ki la h1 ((mX_cp (be, he)).1) to) → va_S A s.heap H locs → lv_has ls 5 [(0, .ref (q 0)), (1, .int (nI kind)), (2, .int (nI label)), (3, .int (nI i)), (4, .int (nI j))] → W p l e rmX0_move s m [.ref (q 0), .int (nI kind), .int (nI label)].toArray below meth c H locs 0 0 (MQ below (wq_QV D vwCl (tX d) A (wX q d ec sz st kn nu ou iw ki la ((mX_move ou iw kind label he be).1) ((mX_move ou iw kind label he be).2) to)) [.ref (q 0), .int (nI kind), .int (nI label)].toArray s 0 0 A) (F0 m 69 ls []) := by
                intro h1 eh1 H locs ls hP hD hS hl
                subst eh1
                refine lv_iinc (v := nI (j + 1)) (lv' := [(4, .int (nI (j + 1))), (0, .ref (q 0)), (1, .int (nI kind)), (2, .int (nI label)), (3, .int (nI i))]) F.1 F.2.1 dX0_move_69 hl (k := 4) rfl (wq_inc1 _) (by decide) rfl (fun ls hl => ?_)
                refine lv_goto (tgt := 44) F.1 F.2.1 dX0_move_72 (by decide) ?_
                exact ihlp3 (j + 1) (by omega) _ _ _ hP hD hS (lv_sub hl [1, 2, 3, 4, 0] rfl)
              refine lv_iload_n F.1 F.2.1 dX0_move_50 rfl (lv_at hl 2 rfl) ?_
              refine wq_iconst F 2 dX0_move_51 (by decide) ?_
              refine wq_icmp_eq (tgt := 61) F (by omega) (by omega) dX0_move_52 (by decide) (fun c52 => ?_) (fun c52 => ?_)
              · refine lv_aload_n F.1 F.2.1 dX0_move_61 rfl (lv_at hl 0 rfl) ?_
                refine lv_iload_n F.1 F.2.1 dX0_move_62 rfl (lv_at hl 1 rfl) ?_
                refine lv_iload_n F.1 F.2.1 dX0_move_63 rfl (lv_at hl 3 rfl) ?_
                refine lv_iload F.1 F.2.1 dX0_move_64 (lv_at hl 4 rfl) ?_
                refine wq_callVv F (rest := []) (ci := 0) rfl rfl (cX_spread l D q d ec sz st kn nu ou iw ki la (wq_it (fun l h => if label = 2 ∨ label = l then mX_spread ou iw (mX_cp (be, he)).1 kind i l h else h) j (wq_it (fun v h => mX_mv ou iw (mX_cp (be, he)).1 kind label v h) i (mX_cp (be, he)).2)) ((mX_cp (be, he)).1) to kind i j (by omega) (by omega) hk hou hiw) (cwV 3 F.2.2.2.2 (lw_V q122 q124 qs5 q18 q125) rfl rfl rfl (by decide +kernel) ⟨Nat.le_of_ble_eq_true rfl, Nat.le_of_ble_eq_true rfl⟩) rfl hK hP hD hS hA hl.1 rfl (Nat.le_of_ble_eq_true rfl) dX0_move_66 ⟨Nat.zero_le _, Nat.zero_le _⟩ (fun H locs hP hD hS => ?_)
                exact K69 (mX_spread ou iw (mX_cp (be, he)).1 kind i j (wq_it (fun l h => if label = 2 ∨ label = l then mX_spread ou iw (mX_cp (be, he)).1 kind i l h else h) j (wq_it (fun v h => mX_mv ou iw (mX_cp (be, he)).1 kind label v h) i (mX_cp (be, he)).2))) ((if_pos (by omega)).symm) _ _ _ hP hD hS (lv_sub hl [0, 1, 2, 3, 4] rfl)
              · refine lv_iload_n F.1 F.2.1 dX0_move_55 rfl (lv_at hl 2 rfl) ?_
                refine lv_iload F.1 F.2.1 dX0_move_56 (lv_at hl 4 rfl) ?_
                refine wq_icmp_ne (tgt := 69) F (by omega) (by omega) dX0_move_58 (by decide) (fun c58 => ?_) (fun c58 => ?_)
                · exact K69 (wq_it (fun l h => if label = 2 ∨ label = l then mX_spread ou iw (mX_cp (be, he)).1 kind i l h else h) j (wq_it (fun v h => mX_mv ou iw (mX_cp (be, he)).1 kind label v h) i (mX_cp (be, he)).2)) ((if_neg (by omega)).symm) _ _ _ hP hD hS (lv_sub hl [0, 1, 2, 3, 4] rfl)
                · refine lv_aload_n F.1 F.2.1 dX0_move_61 rfl (lv_at hl 0 rfl) ?_
                  refine lv_iload_n F.1 F.2.1 dX0_move_62 rfl (lv_at hl 1 rfl) ?_
                  refine lv_iload_n F.1 F.2.1 dX0_move_63 rfl (lv_at hl 3 rfl) ?_
                  refine lv_iload F.1 F.2.1 dX0_move_64 (lv_at hl 4 rfl) ?_
                  refine wq_callVv F (rest := []) (ci := 0) rfl rfl (cX_spread l D q d ec sz st kn nu ou iw ki la (wq_it (fun l h => if label = 2 ∨ label = l then mX_spread ou iw (mX_cp (be, he)).1 kind i l h else h) j (wq_it (fun v h => mX_mv ou iw (mX_cp (be, he)).1 kind label v h) i (mX_cp (be, he)).2)) ((mX_cp (be, he)).1) to kind i j (by omega) (by omega) hk hou hiw) (cwV 3 F.2.2.2.2 (lw_V q122 q124 qs5 q18 q125) rfl rfl rfl (by decide +kernel) ⟨Nat.le_of_ble_eq_true rfl, Nat.le_of_ble_eq_true rfl⟩) rfl hK hP hD hS hA hl.1 rfl (Nat.le_of_ble_eq_true rfl) dX0_move_66 ⟨Nat.zero_le _, Nat.zero_le _⟩ (fun H locs hP hD hS => ?_)
                  exact K69 (mX_spread ou iw (mX_cp (be, he)).1 kind i j (wq_it (fun l h => if label = 2 ∨ label = l then mX_spread ou iw (mX_cp (be, he)).1 kind i l h else h) j (wq_it (fun v h => mX_mv ou iw (mX_cp (be, he)).1 kind label v h) i (mX_cp (be, he)).2))) ((if_pos (by omega)).symm) _ _ _ hP hD hS (lv_sub hl [0, 1, 2, 3, 4] rfl)
          exact lp3 2 0 (by omega) _ _ _ hP hD hS (lv_sub hl [1, 2, 3, 4, 0] rfl)
      exact lp2 8 0 (by omega) _ _ _ hP hD hS (lv_sub hl [1, 2, 3, 0] rfl)
    | succ n ihlp1 =>
      intro i hi H locs ls hP hD hS hl
      refine lv_iload_n F.1 F.2.1 dX0_move_2 rfl (lv_at hl 3 rfl) ?_
      refine wq_bipush F 64 dX0_move_3 (by decide) ?_
      refine wq_icmp_ge (tgt := 33) F (by omega) (by omega) dX0_move_5 (by decide) (fun c5 => False.elim (by omega)) (fun c5 => ?_)
      refine lv_aload_n F.1 F.2.1 dX0_move_8 rfl (lv_at hl 0 rfl) ?_
      refine gX0 F hK hP rfl 10 (by decide) q38 rfl (v := .ref (q 7)) rfl dX0_move_9 ?_
      refine lv_iload_n F.1 F.2.1 dX0_move_12 rfl (lv_at hl 3 rfl) ?_
      refine lv_aload_n F.1 F.2.1 dX0_move_13 rfl (lv_at hl 0 rfl) ?_
      refine gX0 F hK hP rfl 9 (by decide) q37 rfl (v := .ref (q 6)) rfl dX0_move_14 ?_
      refine lv_iload_n F.1 F.2.1 dX0_move_17 rfl (lv_at hl 3 rfl) ?_
      refine wq_iald F hK hP 6 5 rfl rfl (by omega) (by decide) dX0_move_18 ?_
      refine wq_iast F hK hP hD hS 7 6 rfl rfl (by omega) (by decide) dX0_move_19 (ws' := wX q d ec sz st kn nu ou iw ki la ((wq_it (fun i (x : (Nat → Nat) × (Nat → Nat)) => (wq_up x.1 i (x.2 i), wq_up x.2 i 0)) i (be, he)).2) (wq_up ((wq_it (fun i (x : (Nat → Nat) × (Nat → Nat)) => (wq_up x.1 i (x.2 i), wq_up x.2 i 0)) i (be, he)).1) i (((wq_it (fun i (x : (Nat → Nat) × (Nat → Nat)) => (wq_up x.1 i (x.2 i), wq_up x.2 i 0)) i (be, he)).2) i)) to) rfl (fun H locs hP hD hS => ?_)
      refine lv_aload_n F.1 F.2.1 dX0_move_20 rfl (lv_at hl 0 rfl) ?_
      refine gX0 F hK hP rfl 9 (by decide) q37 rfl (v := .ref (q 6)) rfl dX0_move_21 ?_
      refine lv_iload_n F.1 F.2.1 dX0_move_24 rfl (lv_at hl 3 rfl) ?_
      refine wq_iconst F 0 dX0_move_25 (by decide) ?_
      refine wq_iast F hK hP hD hS 6 5 rfl rfl (by omega) (by decide) dX0_move_26 (ws' := wX q d ec sz st kn nu ou iw ki la (wq_up ((wq_it (fun i (x : (Nat → Nat) × (Nat → Nat)) => (wq_up x.1 i (x.2 i), wq_up x.2 i 0)) i (be, he)).2) i 0) (wq_up ((wq_it (fun i (x : (Nat → Nat) × (Nat → Nat)) => (wq_up x.1 i (x.2 i), wq_up x.2 i 0)) i (be, he)).1) i (((wq_it (fun i (x : (Nat → Nat) × (Nat → Nat)) => (wq_up x.1 i (x.2 i), wq_up x.2 i 0)) i (be, he)).2) i)) to) rfl (fun H locs hP hD hS => ?_)
      refine lv_iinc (v := nI (i + 1)) (lv' := [(3, .int (nI (i + 1))), (0, .ref (q 0)), (1, .int (nI kind)), (2, .int (nI label))]) F.1 F.2.1 dX0_move_27 hl (k := 3) rfl (wq_inc1 _) (by decide) rfl (fun ls hl => ?_)
      refine lv_goto (tgt := 2) F.1 F.2.1 dX0_move_30 (by decide) ?_
      exact ihlp1 (i + 1) (by omega) _ _ _ hP hD hS (lv_sub hl [1, 2, 3, 0] rfl)
  exact lp1 64 0 (by omega) _ _ _ hP hD hS (lv_sub hl [1, 2, 3, 0] rfl)

set_option maxHeartbeats 4000000 in
set_option maxRecDepth 100000 in
/-- filter(kind, x) -/
theorem cX_filter (l : Launch) (D : va_G) (q : Nat → Nat) (d : Nat → ClassId) (ec sz st kn : Nat) (nu ou iw ki la he be to : Nat → Nat) (kind x : Nat) (hk : kind < 2 ^ 31) (hx : x < 2 ^ 31) (hnu : ∀ k, nu k < 128) : CtV l D vwCl (tX d) yX0_filter cX0_filter 7 rmX0_filter [.ref (q 0), .int (nI kind), .int (nI x)] (wX q d ec sz st kn nu ou iw ki la he be to) (wX q d ec sz st kn nu ou iw ki la (mX_filter nu kind x he) be to) := by
  refine CtV.of RX0 rfl (by decide +kernel) (Nat.le_of_ble_eq_true rfl) ?_
  intro p e s m below meth c A ls F hr hlk hK hA hP hD hS hl
  have hl : lv_has ls 7 [(0, .ref (q 0)), (1, .int (nI kind)), (2, .int (nI x))] := hl
  refine wq_iconst F 0 dX0_filter_0 (by decide) ?_
  refine lv_istore_n (lv' := [(3, .int (nI 0)), (0, .ref (q 0)), (1, .int (nI kind)), (2, .int (nI x))]) F.1 F.2.1 dX0_filter_1 rfl hl (by decide) rfl (fun ls hl => ?_)
  have lp1 : ∀ (n i : Nat), i + n = 64 → ∀ (H : Heap) (locs : List Loc) (ls : Array Slot), va_P D vwCl (wX q d ec sz st kn nu ou iw ki la (wq_it (fun i h => if mX_stay nu kind x (i / 8) (i % 8) = 0 then wq_up h i 0 else h) i he) be to) H → va_D A (wX q d ec sz st kn nu ou iw ki la (wq_it (fun i h => if mX_stay nu kind x (i / 8) (i % 8) = 0 then wq_up h i 0 else h) i he) be to) → va_S A s.heap H locs → lv_has ls 7 [(0, .ref (q 0)), (1, .int (nI kind)), (2, .int (nI x)), (3, .int (nI i))] → W p l e rmX0_filter s m [.ref (q 0), .int (nI kind), .int (nI x)].toArray below meth c H locs 0 0 (MQ below (wq_QV D vwCl (tX d) A (wX q d ec sz st kn nu ou iw ki la (mX_filter nu kind x he) be to)) [.ref (q 0), .int (nI kind), .int (nI x)].toArray s 0 0 A) (F0 m 2 ls []) := by
    intro n
    induction n with
    | zero =>
      intro i hi H locs ls hP hD hS hl
      have ei : 64 = i := by omega
      subst ei
      refine lv_iload_n F.1 F.2.1 dX0_filter_2 rfl (lv_at hl 3 rfl) ?_
      refine wq_bipush F 64 dX0_filter_3 (by decide) ?_
      refine wq_icmp_ge (tgt := 95) F (by omega) (by omega) dX0_filter_5 (by decide) (fun c5 => ?_) (fun c5 => False.elim (by omega))
      exact wq_vret F hr hlk hK hP hD hS dX0_filter_95
    | succ n ihlp1 =>
      intro i hi H locs ls hP hD hS hl
      refine lv_iload_n F.1 F.2.1 dX0_filter_2 rfl (lv_at hl 3 rfl) ?_
      refine wq_bipush F 64 dX0_filter_3 (by decide) ?_
      refine wq_icmp_ge (tgt := 95) F (by omega) (by omega) dX0_filter_5 (by decide) (fun c5 => False.elim (by omega)) (fun c5 => ?_)
      refine lv_iload_n F.1 F.2.1 dX0_filter_8 rfl (lv_at hl 3 rfl) ?_
      refine wq_bipush F 8 dX0_filter_9 (by decide) ?_
      refine wq_idiv F (by omega) (by decide) (by decide) dX0_filter_11 ?_
      refine lv_istore (lv' := [(4, .int (nI (i / 8))), (0, .ref (q 0)), (1, .int (nI kind)), (2, .int (nI x)), (3, .int (nI i))]) F.1 F.2.1 dX0_filter_12 hl (by decide) rfl (fun ls hl => ?_)
      refine lv_iload_n F.1 F.2.1 dX0_filter_14 rfl (lv_at hl 4 rfl) ?_
      refine wq_bipush F 8 dX0_filter_15 (by decide) ?_
      refine wq_irem F (by omega) (by decide) (by decide) dX0_filter_17 ?_
      refine lv_istore (lv' := [(5, .int (nI (i % 8))), (4, .int (nI (i / 8))), (0, .ref (q 0)), (1, .int (nI kind)), (2, .int (nI x)), (3, .int (nI i))]) F.1 F.2.1 dX0_filter_18 hl (by decide) rfl (fun ls hl => ?_)
      have K75 : ∀ (x0 : Nat), x0 = (mX_stay nu kind x (i / 8) (i % 8)) → ∀ (H : Heap) (locs : List Loc) (ls : Array Slot), va_P D vwCl (wX q d ec sz st kn nu ou iw ki la (wq_it (fun i h => if mX_stay nu kind x (i / 8) (i % 8) = 0 then wq_up h i 0 else h) i he) be to) H → va_D A (wX q d ec sz st kn nu ou iw ki la (wq_it (fun i h => if mX_stay nu kind x (i / 8) (i % 8) = 0 then wq_up h i 0 else h) i he) be to) → va_S A s.heap H locs → lv_has ls 7 [(0, .ref (q 0)), (1, .int (nI kind)), (2, .int (nI x)), (3, .int (nI i))] → W p l e rmX0_filter s m [.ref (q 0), .int (nI kind), .int (nI x)].toArray below meth c H locs 0 0 (MQ below (wq_QV D vwCl (tX d) A (wX q d ec sz st kn nu ou iw ki la (mX_filter nu kind x he) be to)) [.ref (q 0), .int (nI kind), .int (nI x)].toArray s 0 0 A) (F0 m 75 ls [.int (nI x0)]) := by
        intro x0 ex0 H locs ls hP hD hS hl
        subst ex0
        refine lv_istore (lv' := [(6, .int (nI (mX_stay nu kind x (i / 8) (i % 8)))), (0, .ref (q 0)), (1, .int (nI kind)), (2, .int (nI x)), (3, .int (nI i))]) F.1 F.2.1 dX0_filter_75 hl (by decide) rfl (fun ls hl => ?_)
        have K89 : ∀ (h1 : Nat → Nat), h1 = (if mX_stay nu kind x (i / 8) (i % 8) = 0 then wq_up (wq_it (fun i h => if mX_stay nu kind x (i / 8) (i % 8) = 0 then wq_up h i 0 else h) i he) i 0 else wq_it (fun i h => if mX_stay nu kind x (i / 8) (i % 8) = 0 then wq_up h i 0 else h) i he) → ∀ (H : Heap) (locs : List Loc) (ls : Array Slot), va_P D vwCl (wX q d ec sz st kn nu ou iw ki la h1 be to) H → va_D A (wX q d ec sz st kn nu ou iw ki la h1 be to) → va_S A s.heap H locs → lv_has ls 7 [(0, .ref (q 0)), (1, .int (nI kind)), (2, .int (nI x)), (3, .int (nI i))] → W p l e rmX0_filter s m [.ref (q 0), .int (nI kind), .int (nI x)].toArray below meth c H locs 0 0 (MQ below (wq_QV D vwCl (tX d) A (wX q d ec sz st kn nu ou iw ki la (mX_filter nu kind x he) be to)) [.ref (q 0), .int (nI kind), .int (nI x)].toArray s 0 0 A) (F0 m 89 ls []) := by
          intro h1 eh1 H locs ls hP hD hS hl
          subst eh1
          refine lv_iinc (v := nI (i + 1)) (lv' := [(3, .int (nI (i + 1))), (0, .ref (q 0)), (1, .int (nI kind)), (2, .int (nI x))]) F.1 F.2.1 dX0_filter_89 hl (k := 3) rfl (wq_inc1 _) (by decide) rfl (fun ls hl => ?_)
          refine lv_goto (tgt := 2) F.1 F.2.1 dX0_filter_92 (by decide) ?_
          exact ihlp1 (i + 1) (by omega) _ _ _ hP hD hS (lv_sub hl [1, 2, 3, 0] rfl)
        refine lv_iload F.1 F.2.1 dX0_filter_77 (lv_at hl 0 rfl) ?_
        refine wq_if_ne (tgt := 89) F (mX_stay_lt) dX0_filter_79 (by decide) (fun c79 => ?_) (fun c79 => ?_)
        · exact K89 (wq_it (fun i h => if mX_stay nu kind x (i / 8) (i % 8) = 0 then wq_up h i 0 else h) i he) ((if_neg c79).symm) _ _ _ hP hD hS (lv_sub hl [1, 2, 3, 4] rfl)
        · refine lv_aload_n F.1 F.2.1 dX0_filter_82 rfl (lv_at hl 1 rfl) ?_
          refine gX0 F hK hP rfl 9 (by decide) q37 rfl (v := .ref (q 6)) rfl dX0_filter_83 ?_
          refine lv_iload_n F.1 F.2.1 dX0_filter_86 rfl (lv_at hl 4 rfl) ?_
          refine wq_iconst F 0 dX0_filter_87 (by decide) ?_
          refine wq_iast F hK hP hD hS 6 5 rfl rfl (by omega) (by decide) dX0_filter_88 (ws' := wX q d ec sz st kn nu ou iw ki la (wq_up (wq_it (fun i h => if mX_stay nu kind x (i / 8) (i % 8) = 0 then wq_up h i 0 else h) i he) i 0) be to) rfl (fun H locs hP hD hS => ?_)
          exact K89 (wq_up (wq_it (fun i h => if mX_stay nu kind x (i / 8) (i % 8) = 0 then wq_up h i 0 else h) i he) i 0) ((if_pos c79).symm) _ _ _ hP hD hS (lv_sub hl [1, 2, 3, 4] rfl)
      refine lv_iload_n F.1 F.2.1 dX0_filter_20 rfl (lv_at hl 3 rfl) ?_
      refine wq_iconst F 4 dX0_filter_21 (by decide) ?_
      refine wq_icmp_ne (tgt := 44) F (by omega) (by omega) dX0_filter_22 (by decide) (fun c22 => ?_) (fun c22 => ?_)
      · refine lv_iload F.1 F.2.1 dX0_filter_44 (lv_at hl 1 rfl) ?_
        refine lv_iload F.1 F.2.1 dX0_filter_46 (lv_at hl 0 rfl) ?_
        refine wq_icmp_ne (tgt := 55) F (by omega) (by omega) dX0_filter_48 (by decide) (fun c48 => ?_) (fun c48 => ?_)
        · refine wq_iconst F 0 dX0_filter_55 (by decide) ?_
          refine lv_iload_n F.1 F.2.1 dX0_filter_56 rfl (lv_at hl 3 rfl) ?_
          refine wq_bipush F 6 dX0_filter_57 (by decide) ?_
          refine wq_icmp_ne (tgt := 66) F (by omega) (by omega) dX0_filter_59 (by decide) (fun c59 => ?_) (fun c59 => ?_)
          · refine wq_iconst F 0 dX0_filter_66 (by decide) ?_
            refine wq_icmp_ne (tgt := 74) F (by omega) (by omega) dX0_filter_67 (by decide) (fun c67 => False.elim (by omega)) (fun c67 => ?_)
            refine wq_iconst F 1 dX0_filter_70 (by decide) ?_
            refine lv_goto (tgt := 75) F.1 F.2.1 dX0_filter_71 (by decide) ?_
            exact K75 (1) (by unfold mX_stay; rw [if_neg c22]; simp [c48, c59]) _ _ _ hP hD hS (lv_sub hl [2, 3, 4, 5] rfl)
          · refine wq_iconst F 1 dX0_filter_62 (by decide) ?_
            refine lv_goto (tgt := 67) F.1 F.2.1 dX0_filter_63 (by decide) ?_
            refine wq_icmp_ne (tgt := 74) F (by omega) (by omega) dX0_filter_67 (by decide) (fun c67 => ?_) (fun c67 => False.elim (by omega))
            refine wq_iconst F 0 dX0_filter_74 (by decide) ?_
            exact K75 (0) (by unfold mX_stay; rw [if_neg c22]; simp [c48, c59]) _ _ _ hP hD hS (lv_sub hl [2, 3, 4, 5] rfl)
        · refine wq_iconst F 1 dX0_filter_51 (by decide) ?_
          refine lv_goto (tgt := 56) F.1 F.2.1 dX0_filter_52 (by decide) ?_
          refine lv_iload_n F.1 F.2.1 dX0_filter_56 rfl (lv_at hl 3 rfl) ?_
          refine wq_bipush F 6 dX0_filter_57 (by decide) ?_
          refine wq_icmp_ne (tgt := 66) F (by omega) (by omega) dX0_filter_59 (by decide) (fun c59 => ?_) (fun c59 => ?_)
          · refine wq_iconst F 0 dX0_filter_66 (by decide) ?_
            refine wq_icmp_ne (tgt := 74) F (by omega) (by omega) dX0_filter_67 (by decide) (fun c67 => ?_) (fun c67 => False.elim (by omega))
            refine wq_iconst F 0 dX0_filter_74 (by decide) ?_
            exact K75 (0) (by unfold mX_stay; rw [if_neg c22]; simp [c48, c59]) _ _ _ hP hD hS (lv_sub hl [2, 3, 4, 5] rfl)
          · refine wq_iconst F 1 dX0_filter_62 (by decide) ?_
            refine lv_goto (tgt := 67) F.1 F.2.1 dX0_filter_63 (by decide) ?_
            refine wq_icmp_ne (tgt := 74) F (by omega) (by omega) dX0_filter_67 (by decide) (fun c67 => False.elim (by omega)) (fun c67 => ?_)
            refine wq_iconst F 1 dX0_filter_70 (by decide) ?_
            refine lv_goto (tgt := 75) F.1 F.2.1 dX0_filter_71 (by decide) ?_
            exact K75 (1) (by unfold mX_stay; rw [if_neg c22]; simp [c48, c59]) _ _ _ hP hD hS (lv_sub hl [2, 3, 4, 5] rfl)
      · refine lv_aload_n F.1 F.2.1 dX0_filter_25 rfl (lv_at hl 2 rfl) ?_
        refine gX0 F hK hP rfl 0 (by decide) q28 rfl (v := .ref (q 1)) rfl dX0_filter_26 ?_
        refine lv_iload F.1 F.2.1 dX0_filter_29 (lv_at hl 1 rfl) ?_
        refine wq_bald F hK hP 1 0 rfl rfl (by omega) (by decide) dX0_filter_31 ?_
        have hn1 := hnu (i / 8)
        refine lv_iload_n F.1 F.2.1 dX0_filter_32 rfl (lv_at hl 4 rfl) ?_
        refine wq_icmp_lt (tgt := 40) F (by omega) (by omega) dX0_filter_33 (by decide) (fun c33 => ?_) (fun c33 => ?_)
        · refine wq_iconst F 0 dX0_filter_40 (by decide) ?_
          refine lv_goto (tgt := 75) F.1 F.2.1 dX0_filter_41 (by decide) ?_
          exact K75 (0) (by unfold mX_stay; rw [if_pos c22, if_neg (by omega)]) _ _ _ hP hD hS (lv_sub hl [2, 3, 4, 5] rfl)
        · refine wq_iconst F 1 dX0_filter_36 (by decide) ?_
          refine lv_goto (tgt := 75) F.1 F.2.1 dX0_filter_37 (by decide) ?_
          exact K75 (1) (by unfold mX_stay; rw [if_pos c22, if_pos c33]) _ _ _ hP hD hS (lv_sub hl [2, 3, 4, 5] rfl)
  exact lp1 64 0 (by omega) _ _ _ hP hD hS (lv_sub hl [1, 2, 3, 0] rfl)

set_option maxHeartbeats 4000000 in
set_option maxRecDepth 100000 in
/-- keepOne() -/
theorem cX_keepOne (l : Launch) (D : va_G) (q : Nat → Nat) (d : Nat → ClassId) (ec sz st kn : Nat) (nu ou iw ki la he be to : Nat → Nat) (hB : ∀ j, j < 64 → he j < 2 ^ 31) : CtV l D vwCl (tX d) yX0_keepOne cX0_keepOne 5 rmX0_keepOne [.ref (q 0)] (wX q d ec sz st kn nu ou iw ki la he be to) (wX q d ec sz st kn nu ou iw ki la (mX_keepOne he) be to) := by
  refine CtV.of RX0 rfl (by decide +kernel) (Nat.le_of_ble_eq_true rfl) ?_
  intro p e s m below meth c A ls F hr hlk hK hA hP hD hS hl
  have hl : lv_has ls 5 [(0, .ref (q 0))] := hl
  refine wq_iconst F 0 dX0_keepOne_0 (by decide) ?_
  refine lv_istore_n (lv' := [(1, .int (nI 0)), (0, .ref (q 0))]) F.1 F.2.1 dX0_keepOne_1 rfl hl (by decide) rfl (fun ls hl => ?_)
  have lp1 : ∀ (n i : Nat), i + n = 8 → ∀ (H : Heap) (locs : List Loc) (ls : Array Slot), va_P D vwCl (wX q d ec sz st kn nu ou iw ki la (wq_it (fun v h => (mX_k1 v 8 (0, h)).2) i he) be to) H → va_D A (wX q d ec sz st kn nu ou iw ki la (wq_it (fun v h => (mX_k1 v 8 (0, h)).2) i he) be to) → va_S A s.heap H locs → lv_has ls 5 [(0, .ref (q 0)), (1, .int (nI i))] → W p l e rmX0_keepOne s m [.ref (q 0)].toArray below meth c H locs 0 0 (MQ below (wq_QV D vwCl (tX d) A (wX q d ec sz st kn nu ou iw ki la (mX_keepOne he) be to)) [.ref (q 0)].toArray s 0 0 A) (F0 m 2 ls []) := by
    intro n
    induction n with
    | zero =>
      intro i hi H locs ls hP hD hS hl
      have ei : 8 = i := by omega
      subst ei
      refine lv_iload_n F.1 F.2.1 dX0_keepOne_2 rfl (lv_at hl 1 rfl) ?_
      refine wq_bipush F 8 dX0_keepOne_3 (by decide) ?_
      refine wq_icmp_ge (tgt := 81) F (by omega) (by omega) dX0_keepOne_5 (by decide) (fun c5 => ?_) (fun c5 => False.elim (by omega))
      exact wq_vret F hr hlk hK hP hD hS dX0_keepOne_81
    | succ n ihlp1 =>
      intro i hi H locs ls hP hD hS hl
      refine lv_iload_n F.1 F.2.1 dX0_keepOne_2 rfl (lv_at hl 1 rfl) ?_
      refine wq_bipush F 8 dX0_keepOne_3 (by decide) ?_
      refine wq_icmp_ge (tgt := 81) F (by omega) (by omega) dX0_keepOne_5 (by decide) (fun c5 => False.elim (by omega)) (fun c5 => ?_)
      refine wq_iconst F 0 dX0_keepOne_8 (by decide) ?_
      refine lv_istore_n (lv' := [(2, .int (nI 0)), (0, .ref (q 0)), (1, .int (nI i))]) F.1 F.2.1 dX0_keepOne_9 rfl hl (by decide) rfl (fun ls hl => ?_)
      refine wq_iconst F 0 dX0_keepOne_10 (by decide) ?_
      refine lv_istore_n (lv' := [(3, .int (nI 0)), (2, .int (nI 0)), (0, .ref (q 0)), (1, .int (nI i))]) F.1 F.2.1 dX0_keepOne_11 rfl hl (by decide) rfl (fun ls hl => ?_)
      have lp2 : ∀ (n j : Nat), j + n = 8 → ∀ (H : Heap) (locs : List Loc) (ls : Array Slot), va_P D vwCl (wX q d ec sz st kn nu ou iw ki la ((mX_k1 i j (0, wq_it (fun v h => (mX_k1 v 8 (0, h)).2) i he)).2) be to) H → va_D A (wX q d ec sz st kn nu ou iw ki la ((mX_k1 i j (0, wq_it (fun v h => (mX_k1 v 8 (0, h)).2) i he)).2) be to) → va_S A s.heap H locs → lv_has ls 5 [(0, .ref (q 0)), (1, .int (nI i)), (2, .int (nI ((mX_k1 i j (0, wq_it (fun v h => (mX_k1 v 8 (0, h)).2) i he)).1))), (3, .int (nI j))] → W p l e rmX0_keepOne s m [.ref (q 0)].toArray below meth c H locs 0 0 (MQ below (wq_QV D vwCl (tX d) A (wX q d ec sz st kn nu ou iw ki la (mX_keepOne he) be to)) [.ref (q 0)].toArray s 0 0 A) (F0 m 12 ls []) := by
        intro n
        induction n with
        | zero =>
          intro j hj H locs ls hP hD hS hl
          have ej : 8 = j := by omega
          subst ej
          refine lv_iload_n F.1 F.2.1 dX0_keepOne_12 rfl (lv_at hl 3 rfl) ?_
          refine wq_bipush F 8 dX0_keepOne_13 (by decide) ?_
          refine wq_icmp_ge (tgt := 75) F (by omega) (by omega) dX0_keepOne_15 (by decide) (fun c15 => ?_) (fun c15 => False.elim (by omega))
          refine lv_iinc (v := nI (i + 1)) (lv' := [(1, .int (nI (i + 1))), (0, .ref (q 0)), (2, .int (nI ((mX_k1 i 8 (0, wq_it (fun v h => (mX_k1 v 8 (0, h)).2) i he)).1))), (3, .int (nI 8))]) F.1 F.2.1 dX0_keepOne_75 hl (k := 1) rfl (wq_inc1 _) (by decide) rfl (fun ls hl => ?_)
          refine lv_goto (tgt := 2) F.1 F.2.1 dX0_keepOne_78 (by decide) ?_
          exact ihlp1 (i + 1) (by omega) _ _ _ hP hD hS (lv_sub hl [1, 0] rfl)
        | succ n ihlp2 =>
          intro j hj H locs ls hP hD hS hl
          refine lv_iload_n F.1 F.2.1 dX0_keepOne_12 rfl (lv_at hl 3 rfl) ?_
          refine wq_bipush F 8 dX0_keepOne_13 (by decide) ?_
          refine wq_icmp_ge (tgt := 75) F (by omega) (by omega) dX0_keepOne_15 (by decide) (fun c15 => False.elim (by omega)) (fun c15 => ?_)
          have hf := mX_k1_f i (wq_it (fun v h => (mX_k1 v 8 (0, h)).2) i he) j
          have hb := mX_k1_bd i (mX_keep_bd hB i) j (i * 8 + j) (by omega)
          have K41 : ∀ (x0 : Nat), x0 = (mX_first (mX_k1 i j (0, wq_it (fun v h => (mX_k1 v 8 (0, h)).2) i he)).1 ((mX_k1 i j (0, wq_it (fun v h => (mX_k1 v 8 (0, h)).2) i he)).2 (i * 8 + j))) → ∀ (H : Heap) (locs : List Loc) (ls : Array Slot), va_P D vwCl (wX q d ec sz st kn nu ou iw ki la ((mX_k1 i j (0, wq_it (fun v h => (mX_k1 v 8 (0, h)).2) i he)).2) be to) H → va_D A (wX q d ec sz st kn nu ou iw ki la ((mX_k1 i j (0, wq_it (fun v h => (mX_k1 v 8 (0, h)).2) i he)).2) be to) → va_S A s.heap H locs → lv_has ls 5 [(0, .ref (q 0)), (1, .int (nI i)), (2, .int (nI ((mX_k1 i j (0, wq_it (fun v h => (mX_k1 v 8 (0, h)).2) i he)).1))), (3, .int (nI j))] → W p l e rmX0_keepOne s m [.ref (q 0)].toArray below meth c H locs 0 0 (MQ below (wq_QV D vwCl (tX d) A (wX q d ec sz st kn nu ou iw ki la (mX_keepOne he) be to)) [.ref (q 0)].toArray s 0 0 A) (F0 m 41 ls [.int (nI x0)]) := by
            intro x0 ex0 H locs ls hP hD hS hl
            subst ex0
            refine lv_istore (lv' := [(4, .int (nI (mX_first (mX_k1 i j (0, wq_it (fun v h => (mX_k1 v 8 (0, h)).2) i he)).1 ((mX_k1 i j (0, wq_it (fun v h => (mX_k1 v 8 (0, h)).2) i he)).2 (i * 8 + j))))), (0, .ref (q 0)), (1, .int (nI i)), (2, .int (nI ((mX_k1 i j (0, wq_it (fun v h => (mX_k1 v 8 (0, h)).2) i he)).1))), (3, .int (nI j))]) F.1 F.2.1 dX0_keepOne_41 hl (by decide) rfl (fun ls hl => ?_)
            have K63 : ∀ (x1 : Nat), x1 = (mX_first (mX_k1 i j (0, wq_it (fun v h => (mX_k1 v 8 (0, h)).2) i he)).1 ((mX_k1 i j (0, wq_it (fun v h => (mX_k1 v 8 (0, h)).2) i he)).2 (i * 8 + j))) → ∀ (H : Heap) (locs : List Loc) (ls : Array Slot), va_P D vwCl (wX q d ec sz st kn nu ou iw ki la ((mX_k1 i j (0, wq_it (fun v h => (mX_k1 v 8 (0, h)).2) i he)).2) be to) H → va_D A (wX q d ec sz st kn nu ou iw ki la ((mX_k1 i j (0, wq_it (fun v h => (mX_k1 v 8 (0, h)).2) i he)).2) be to) → va_S A s.heap H locs → lv_has ls 5 [(4, .int (nI (mX_first (mX_k1 i j (0, wq_it (fun v h => (mX_k1 v 8 (0, h)).2) i he)).1 ((mX_k1 i j (0, wq_it (fun v h => (mX_k1 v 8 (0, h)).2) i he)).2 (i * 8 + j))))), (0, .ref (q 0)), (1, .int (nI i)), (2, .int (nI ((mX_k1 i j (0, wq_it (fun v h => (mX_k1 v 8 (0, h)).2) i he)).1))), (3, .int (nI j))] → W p l e rmX0_keepOne s m [.ref (q 0)].toArray below meth c H locs 0 0 (MQ below (wq_QV D vwCl (tX d) A (wX q d ec sz st kn nu ou iw ki la (mX_keepOne he) be to)) [.ref (q 0)].toArray s 0 0 A) (F0 m 63 ls [.int (nI x1), .int (nI (i * 8 + j)), .ref (q 6)]) := by
              intro x1 ex1 H locs ls hP hD hS hl
              subst ex1
              refine wq_iast F hK hP hD hS 6 5 rfl rfl (by omega) (by decide) dX0_keepOne_63 (ws' := wX q d ec sz st kn nu ou iw ki la (wq_up ((mX_k1 i j (0, wq_it (fun v h => (mX_k1 v 8 (0, h)).2) i he)).2) (i * 8 + j) (mX_first (mX_k1 i j (0, wq_it (fun v h => (mX_k1 v 8 (0, h)).2) i he)).1 ((mX_k1 i j (0, wq_it (fun v h => (mX_k1 v 8 (0, h)).2) i he)).2 (i * 8 + j)))) be to) rfl (fun H locs hP hD hS => ?_)
              refine lv_iload_n F.1 F.2.1 dX0_keepOne_64 rfl (lv_at hl 3 rfl) ?_
              refine lv_iload F.1 F.2.1 dX0_keepOne_65 (lv_at hl 0 rfl) ?_
              refine wq_ior F dX0_keepOne_67 ?_
              refine lv_istore_n (lv' := [(2, .int (nI (((mX_k1 i j (0, wq_it (fun v h => (mX_k1 v 8 (0, h)).2) i he)).1) ||| (mX_first (mX_k1 i j (0, wq_it (fun v h => (mX_k1 v 8 (0, h)).2) i he)).1 ((mX_k1 i j (0, wq_it (fun v h => (mX_k1 v 8 (0, h)).2) i he)).2 (i * 8 + j)))))), (4, .int (nI (mX_first (mX_k1 i j (0, wq_it (fun v h => (mX_k1 v 8 (0, h)).2) i he)).1 ((mX_k1 i j (0, wq_it (fun v h => (mX_k1 v 8 (0, h)).2) i he)).2 (i * 8 + j))))), (0, .ref (q 0)), (1, .int (nI i)), (3, .int (nI j))]) F.1 F.2.1 dX0_keepOne_68 rfl hl (by decide) rfl (fun ls hl => ?_)
              refine lv_iinc (v := nI (j + 1)) (lv' := [(3, .int (nI (j + 1))), (2, .int (nI (((mX_k1 i j (0, wq_it (fun v h => (mX_k1 v 8 (0, h)).2) i he)).1) ||| (mX_first (mX_k1 i j (0, wq_it (fun v h => (mX_k1 v 8 (0, h)).2) i he)).1 ((mX_k1 i j (0, wq_it (fun v h => (mX_k1 v 8 (0, h)).2) i he)).2 (i * 8 + j)))))), (4, .int (nI (mX_first (mX_k1 i j (0, wq_it (fun v h => (mX_k1 v 8 (0, h)).2) i he)).1 ((mX_k1 i j (0, wq_it (fun v h => (mX_k1 v 8 (0, h)).2) i he)).2 (i * 8 + j))))), (0, .ref (q 0)), (1, .int (nI i))]) F.1 F.2.1 dX0_keepOne_69 hl (k := 4) rfl (wq_inc1 _) (by decide) rfl (fun ls hl => ?_)
              refine lv_goto (tgt := 12) F.1 F.2.1 dX0_keepOne_72 (by decide) ?_
              exact ihlp2 (j + 1) (by omega) _ _ _ hP hD hS (lv_sub hl [3, 4, 1, 0] rfl)
            refine lv_aload_n F.1 F.2.1 dX0_keepOne_43 rfl (lv_at hl 1 rfl) ?_
            refine gX0 F hK hP rfl 9 (by decide) q37 rfl (v := .ref (q 6)) rfl dX0_keepOne_44 ?_
            refine lv_iload_n F.1 F.2.1 dX0_keepOne_47 rfl (lv_at hl 2 rfl) ?_
            refine wq_bipush F 8 dX0_keepOne_48 (by decide) ?_
            refine wq_imul F dX0_keepOne_50 ?_
            refine lv_iload_n F.1 F.2.1 dX0_keepOne_51 rfl (lv_at hl 4 rfl) ?_
            refine wq_iadd F dX0_keepOne_52 ?_
            refine lv_iload F.1 F.2.1 dX0_keepOne_53 (lv_at hl 0 rfl) ?_
            refine wq_if_eq (tgt := 62) F (Nat.lt_of_le_of_lt mX_first_le (by decide)) dX0_keepOne_55 (by decide) (fun c55 => ?_) (fun c55 => ?_)
            · refine wq_iconst F 0 dX0_keepOne_62 (by decide) ?_
              exact K63 (0) (c55.symm) _ _ _ hP hD hS (lv_sub hl [0, 1, 2, 3, 4] rfl)
            · refine wq_iconst F 1 dX0_keepOne_58 (by decide) ?_
              refine lv_goto (tgt := 63) F.1 F.2.1 dX0_keepOne_59 (by decide) ?_
              exact K63 (1) (mX_first_1 c55) _ _ _ hP hD hS (lv_sub hl [0, 1, 2, 3, 4] rfl)
          refine lv_iload_n F.1 F.2.1 dX0_keepOne_18 rfl (lv_at hl 2 rfl) ?_
          refine wq_if_ne (tgt := 40) F (by omega) dX0_keepOne_19 (by decide) (fun c19 => ?_) (fun c19 => ?_)
          · refine wq_iconst F 0 dX0_keepOne_40 (by decide) ?_
            exact K41 (0) (mX_first_z (by omega)) _ _ _ hP hD hS (lv_sub hl [0, 1, 2, 3] rfl)
          · refine lv_aload_n F.1 F.2.1 dX0_keepOne_22 rfl (lv_at hl 0 rfl) ?_
            refine gX0 F hK hP rfl 9 (by decide) q37 rfl (v := .ref (q 6)) rfl dX0_keepOne_23 ?_
            refine lv_iload_n F.1 F.2.1 dX0_keepOne_26 rfl (lv_at hl 1 rfl) ?_
            refine wq_bipush F 8 dX0_keepOne_27 (by decide) ?_
            refine wq_imul F dX0_keepOne_29 ?_
            refine lv_iload_n F.1 F.2.1 dX0_keepOne_30 rfl (lv_at hl 3 rfl) ?_
            refine wq_iadd F dX0_keepOne_31 ?_
            refine wq_iald F hK hP 6 5 rfl rfl (by omega) (by decide) dX0_keepOne_32 ?_
            refine wq_if_le (tgt := 40) F (by omega) dX0_keepOne_33 (by decide) (fun c33 => ?_) (fun c33 => ?_)
            · refine wq_iconst F 0 dX0_keepOne_40 (by decide) ?_
              exact K41 (0) (mX_first_z (by omega)) _ _ _ hP hD hS (lv_sub hl [0, 1, 2, 3] rfl)
            · refine wq_iconst F 1 dX0_keepOne_36 (by decide) ?_
              refine lv_goto (tgt := 41) F.1 F.2.1 dX0_keepOne_37 (by decide) ?_
              exact K41 (1) (mX_first_o c19 c33) _ _ _ hP hD hS (lv_sub hl [0, 1, 2, 3] rfl)
      exact lp2 8 0 (by omega) _ _ _ hP hD hS (lv_sub hl [2, 3, 1, 0] rfl)
  exact lp1 8 0 (by omega) _ _ _ hP hD hS (lv_sub hl [1, 0] rfl)

set_option maxHeartbeats 4000000 in
set_option maxRecDepth 100000 in
/-- walk() -/
theorem cX_walk (l : Launch) (D : va_G) (q : Nat → Nat) (d : Nat → ClassId) (ec sz st kn : Nat) (nu ou iw ki la he be to : Nat → Nat) (ok : okX sz st kn nu ou iw ki la he be to) : CtV l D vwCl (tX d) yX0_walk cX0_walk 3 rmX0_walk [.ref (q 0)] (wX q d ec sz st kn nu ou iw ki la he be to) (wX q d ec sz st ((mX_walk nu ou iw ki la sz st (kn, he, be, to)).1) nu ou iw ki la ((mX_walk nu ou iw ki la sz st (kn, he, be, to)).2.1) ((mX_walk nu ou iw ki la sz st (kn, he, be, to)).2.2.1) ((mX_walk nu ou iw ki la sz st (kn, he, be, to)).2.2.2)) := by
  refine CtV.of RX0 rfl (by decide +kernel) (Nat.le_of_ble_eq_true rfl) ?_
  intro p e s m below meth c A ls F hr hlk hK hA hP hD hS hl
  have hl : lv_has ls 3 [(0, .ref (q 0))] := hl
  obtain ⟨hkn, hsz, hst, hnu, hou, hiw, hki, hla, hB⟩ := ok
  refine lv_aload_n F.1 F.2.1 dX0_walk_0 rfl (lv_at hl 0 rfl) ?_
  refine gX0 F hK hP rfl 8 (by decide) q36 rfl (v := .int (nI kn)) rfl dX0_walk_1 ?_
  refine wq_if_eq (tgt := 8) F (by omega) dX0_walk_4 (by decide) (fun c4 => ?_) (fun c4 => ?_)
  · refine lv_aload_n F.1 F.2.1 dX0_walk_8 rfl (lv_at hl 0 rfl) ?_
    refine wq_iconst F 1 dX0_walk_9 (by decide) ?_
    refine pX0 F hK hP hD hS rfl 8 (by decide) q36 rfl rfl (ty := .boolean) (by decide +kernel) (by decide +kernel) (by decide +kernel) (Nat.le_of_ble_eq_true rfl) dX0_walk_10 (ws' := wX q d ec sz st 1 nu ou iw ki la he be to) rfl (fun H locs hP hD hS => ?_)
    refine wq_iconst F 0 dX0_walk_13 (by decide) ?_
    refine lv_istore_n (lv' := [(1, .int (nI 0)), (0, .ref (q 0))]) F.1 F.2.1 dX0_walk_14 rfl hl (by decide) rfl (fun ls hl => ?_)
    have lp1 : ∀ (n i : Nat), i + n = 64 → ∀ (H : Heap) (locs : List Loc) (ls : Array Slot), va_P D vwCl (wX q d ec sz st 1 nu ou iw ki la (wq_it (fun i h => wq_up h i (mX_b0 st i)) i he) be to) H → va_D A (wX q d ec sz st 1 nu ou iw ki la (wq_it (fun i h => wq_up h i (mX_b0 st i)) i he) be to) → va_S A s.heap H locs → lv_has ls 3 [(0, .ref (q 0)), (1, .int (nI i))] → W p l e rmX0_walk s m [.ref (q 0)].toArray below meth c H locs 0 0 (MQ below (wq_QV D vwCl (tX d) A (wX q d ec sz st ((mX_walk nu ou iw ki la sz st (kn, he, be, to)).1) nu ou iw ki la ((mX_walk nu ou iw ki la sz st (kn, he, be, to)).2.1) ((mX_walk nu ou iw ki la sz st (kn, he, be, to)).2.2.1) ((mX_walk nu ou iw ki la sz st (kn, he, be, to)).2.2.2))) [.ref (q 0)].toArray s 0 0 A) (F0 m 15 ls []) := by
      intro n
      induction n with
      | zero =>
        intro i hi H locs ls hP hD hS hl
        have ei : 64 = i := by omega
        subst ei
        refine lv_iload_n F.1 F.2.1 dX0_walk_15 rfl (lv_at hl 1 rfl) ?_
        refine wq_bipush F 64 dX0_walk_16 (by decide) ?_
        refine wq_icmp_ge (tgt := 73) F (by omega) (by omega) dX0_walk_18 (by decide) (fun c18 => ?_) (fun c18 => False.elim (by omega))
        have hP : va_P D vwCl (wX q d ec sz st 1 nu ou iw ki la (mX_init st he) be to) H := hP
        have hD : va_D A (wX q d ec sz st 1 nu ou iw ki la (mX_init st he) be to) := hD
        refine lv_aload_n F.1 F.2.1 dX0_walk_73 rfl (lv_at hl 0 rfl) ?_
        refine gX0 F hK hP rfl 11 (by decide) q39 rfl (v := .ref (q 8)) rfl dX0_walk_74 ?_
        refine wq_iconst F 0 dX0_walk_77 (by decide) ?_
        refine lv_aload_n F.1 F.2.1 dX0_walk_78 rfl (lv_at hl 0 rfl) ?_
        refine wq_callIv F (rest := [.int (nI 0), .ref (q 8)]) (ci := 0) rfl rfl (cX_total l D q d ec sz st 1 nu ou iw ki la (mX_init st he) be to) (cwV 0 F.2.2.2.2 (lw_V q114 q116 qs3 q18 q117) rfl rfl rfl (by decide +kernel) ⟨Nat.le_of_ble_eq_true rfl, Nat.le_of_ble_eq_true rfl⟩) rfl hK hP hD hS hA hl.1 rfl (Nat.le_of_ble_eq_true rfl) dX0_walk_79 ⟨Nat.zero_le _, Nat.zero_le _⟩ (fun H locs hP hD hS => ?_)
        refine wq_iast F hK hP hD hS 8 7 rfl rfl (by omega) (by decide) dX0_walk_82 (ws' := wX q d ec sz st 1 nu ou iw ki la (mX_init st he) be (wq_up to 0 (mX_total (mX_init st he)))) rfl (fun H locs hP hD hS => ?_)
        refine wq_iconst F 0 dX0_walk_83 (by decide) ?_
        refine lv_istore_n (lv' := [(1, .int (nI 0)), (0, .ref (q 0))]) F.1 F.2.1 dX0_walk_84 rfl hl (by decide) rfl (fun ls hl => ?_)
        have lp2 : ∀ (n i : Nat), i + n = sz → ∀ (H : Heap) (locs : List Loc) (ls : Array Slot), va_P D vwCl (wX q d ec sz st 1 nu ou iw ki la ((mX_wi nu ou iw ki la st i he be to).1) ((mX_wi nu ou iw ki la st i he be to).2.1) ((mX_wi nu ou iw ki la st i he be to).2.2)) H → va_D A (wX q d ec sz st 1 nu ou iw ki la ((mX_wi nu ou iw ki la st i he be to).1) ((mX_wi nu ou iw ki la st i he be to).2.1) ((mX_wi nu ou iw ki la st i he be to).2.2)) → va_S A s.heap H locs → lv_has ls 3 [(0, .ref (q 0)), (1, .int (nI i))] → W p l e rmX0_walk s m [.ref (q 0)].toArray below meth c H locs 0 0 (MQ below (wq_QV D vwCl (tX d) A (wX q d ec sz st ((mX_walk nu ou iw ki la sz st (kn, he, be, to)).1) nu ou iw ki la ((mX_walk nu ou iw ki la sz st (kn, he, be, to)).2.1) ((mX_walk nu ou iw ki la sz st (kn, he, be, to)).2.2.1) ((mX_walk nu ou iw ki la sz st (kn, he, be, to)).2.2.2))) [.ref (q 0)].toArray s 0 0 A) (F0 m 85 ls []) := by
          intro n
          induction n with
          | zero =>
            intro i hi H locs ls hP hD hS hl
            have ei : sz = i := by omega
            subst ei
            refine lv_iload_n F.1 F.2.1 dX0_walk_85 rfl (lv_at hl 1 rfl) ?_
            refine lv_aload_n F.1 F.2.1 dX0_walk_86 rfl (lv_at hl 0 rfl) ?_
            refine gX0 F hK hP rfl 6 (by decide) q34 rfl (v := .int (nI sz)) rfl dX0_walk_87 ?_
            refine wq_icmp_ge (tgt := 174) F (by omega) (by omega) dX0_walk_90 (by decide) (fun c90 => ?_) (fun c90 => False.elim (by omega))
            exact wq_vret F hr hlk hK (by rw [mX_walk_0 c4]; exact hP) (by rw [mX_walk_0 c4]; exact hD) hS dX0_walk_174
          | succ n ihlp2 =>
            intro i hi H locs ls hP hD hS hl
            refine lv_iload_n F.1 F.2.1 dX0_walk_85 rfl (lv_at hl 1 rfl) ?_
            refine lv_aload_n F.1 F.2.1 dX0_walk_86 rfl (lv_at hl 0 rfl) ?_
            refine gX0 F hK hP rfl 6 (by decide) q34 rfl (v := .int (nI sz)) rfl dX0_walk_87 ?_
            refine wq_icmp_ge (tgt := 174) F (by omega) (by omega) dX0_walk_90 (by decide) (fun c90 => False.elim (by omega)) (fun c90 => ?_)
            have hk1 := hki i
            have hl1 := hla i
            have K156 : ∀ (x0 : (Nat → Nat) × (Nat → Nat)), x0 = (mX_step nu ou iw (ki i) (la i) (mX_wi nu ou iw ki la st i he be to).1 (mX_wi nu ou iw ki la st i he be to).2.1) → ∀ (H : Heap) (locs : List Loc) (ls : Array Slot), va_P D vwCl (wX q d ec sz st 1 nu ou iw ki la ((x0).1) ((x0).2) ((mX_wi nu ou iw ki la st i he be to).2.2)) H → va_D A (wX q d ec sz st 1 nu ou iw ki la ((x0).1) ((x0).2) ((mX_wi nu ou iw ki la st i he be to).2.2)) → va_S A s.heap H locs → lv_has ls 3 [(0, .ref (q 0)), (1, .int (nI i))] → W p l e rmX0_walk s m [.ref (q 0)].toArray below meth c H locs 0 0 (MQ below (wq_QV D vwCl (tX d) A (wX q d ec sz st ((mX_walk nu ou iw ki la sz st (kn, he, be, to)).1) nu ou iw ki la ((mX_walk nu ou iw ki la sz st (kn, he, be, to)).2.1) ((mX_walk nu ou iw ki la sz st (kn, he, be, to)).2.2.1) ((mX_walk nu ou iw ki la sz st (kn, he, be, to)).2.2.2))) [.ref (q 0)].toArray s 0 0 A) (F0 m 156 ls []) := by
              intro x0 ex0 H locs ls hP hD hS hl
              subst ex0
              refine lv_aload_n F.1 F.2.1 dX0_walk_156 rfl (lv_at hl 0 rfl) ?_
              refine gX0 F hK hP rfl 11 (by decide) q39 rfl (v := .ref (q 8)) rfl dX0_walk_157 ?_
              refine lv_iload_n F.1 F.2.1 dX0_walk_160 rfl (lv_at hl 1 rfl) ?_
              refine wq_iconst F 1 dX0_walk_161 (by decide) ?_
              refine wq_iadd F dX0_walk_162 ?_
              refine lv_aload_n F.1 F.2.1 dX0_walk_163 rfl (lv_at hl 0 rfl) ?_
              refine wq_callIv F (rest := [.int (nI (i + 1)), .ref (q 8)]) (ci := 0) rfl rfl (cX_total l D q d ec sz st 1 nu ou iw ki la ((mX_step nu ou iw (ki i) (la i) (mX_wi nu ou iw ki la st i he be to).1 (mX_wi nu ou iw ki la st i he be to).2.1).1) ((mX_step nu ou iw (ki i) (la i) (mX_wi nu ou iw ki la st i he be to).1 (mX_wi nu ou iw ki la st i he be to).2.1).2) ((mX_wi nu ou iw ki la st i he be to).2.2)) (cwV 0 F.2.2.2.2 (lw_V q114 q116 qs3 q18 q117) rfl rfl rfl (by decide +kernel) ⟨Nat.le_of_ble_eq_true rfl, Nat.le_of_ble_eq_true rfl⟩) rfl hK hP hD hS hA hl.1 rfl (Nat.le_of_ble_eq_true rfl) dX0_walk_164 ⟨Nat.zero_le _, Nat.zero_le _⟩ (fun H locs hP hD hS => ?_)
              refine wq_iast F hK hP hD hS 8 7 rfl rfl (by omega) (by decide) dX0_walk_167 (ws' := wX q d ec sz st 1 nu ou iw ki la ((mX_step nu ou iw (ki i) (la i) (mX_wi nu ou iw ki la st i he be to).1 (mX_wi nu ou iw ki la st i he be to).2.1).1) ((mX_step nu ou iw (ki i) (la i) (mX_wi nu ou iw ki la st i he be to).1 (mX_wi nu ou iw ki la st i he be to).2.1).2) (wq_up ((mX_wi nu ou iw ki la st i he be to).2.2) (i + 1) (mX_total ((mX_step nu ou iw (ki i) (la i) (mX_wi nu ou iw ki la st i he be to).1 (mX_wi nu ou iw ki la st i he be to).2.1).1)))) rfl (fun H locs hP hD hS => ?_)
              refine lv_iinc (v := nI (i + 1)) (lv' := [(1, .int (nI (i + 1))), (0, .ref (q 0))]) F.1 F.2.1 dX0_walk_168 hl (k := 1) rfl (wq_inc1 _) (by decide) rfl (fun ls hl => ?_)
              refine lv_goto (tgt := 85) F.1 F.2.1 dX0_walk_171 (by decide) ?_
              exact ihlp2 (i + 1) (by omega) _ _ _ hP hD hS (lv_sub hl [1, 0] rfl)
            refine lv_aload_n F.1 F.2.1 dX0_walk_93 rfl (lv_at hl 0 rfl) ?_
            refine gX0 F hK hP rfl 4 (by decide) q32 rfl (v := .ref (q 4)) rfl dX0_walk_94 ?_
            refine lv_iload_n F.1 F.2.1 dX0_walk_97 rfl (lv_at hl 1 rfl) ?_
            refine wq_bald F hK hP 4 3 rfl rfl (by omega) (by decide) dX0_walk_98 ?_
            refine wq_iconst F 3 dX0_walk_99 (by decide) ?_
            refine wq_icmp_gt (tgt := 122) F (by omega) (by omega) dX0_walk_100 (by decide) (fun c100 => ?_) (fun c100 => ?_)
            · refine lv_aload_n F.1 F.2.1 dX0_walk_122 rfl (lv_at hl 0 rfl) ?_
              refine gX0 F hK hP rfl 4 (by decide) q32 rfl (v := .ref (q 4)) rfl dX0_walk_123 ?_
              refine lv_iload_n F.1 F.2.1 dX0_walk_126 rfl (lv_at hl 1 rfl) ?_
              refine wq_bald F hK hP 4 3 rfl rfl (by omega) (by decide) dX0_walk_127 ?_
              refine wq_bipush F 7 dX0_walk_128 (by decide) ?_
              refine wq_icmp_ne (tgt := 140) F (by omega) (by omega) dX0_walk_130 (by decide) (fun c130 => ?_) (fun c130 => ?_)
              · refine lv_aload_n F.1 F.2.1 dX0_walk_140 rfl (lv_at hl 0 rfl) ?_
                refine lv_aload_n F.1 F.2.1 dX0_walk_141 rfl (lv_at hl 0 rfl) ?_
                refine gX0 F hK hP rfl 4 (by decide) q32 rfl (v := .ref (q 4)) rfl dX0_walk_142 ?_
                refine lv_iload_n F.1 F.2.1 dX0_walk_145 rfl (lv_at hl 1 rfl) ?_
                refine wq_bald F hK hP 4 3 rfl rfl (by omega) (by decide) dX0_walk_146 ?_
                refine lv_aload_n F.1 F.2.1 dX0_walk_147 rfl (lv_at hl 0 rfl) ?_
                refine gX0 F hK hP rfl 5 (by decide) q33 rfl (v := .ref (q 5)) rfl dX0_walk_148 ?_
                refine lv_iload_n F.1 F.2.1 dX0_walk_151 rfl (lv_at hl 1 rfl) ?_
                refine wq_bald F hK hP 5 4 rfl rfl (by omega) (by decide) dX0_walk_152 ?_
                refine wq_callVv F (rest := []) (ci := 0) rfl rfl (cX_filter l D q d ec sz st 1 nu ou iw ki la ((mX_wi nu ou iw ki la st i he be to).1) ((mX_wi nu ou iw ki la st i he be to).2.1) ((mX_wi nu ou iw ki la st i he be to).2.2) (ki i) (la i) (by omega) (by omega) hnu) (cwV 2 F.2.2.2.2 (lw_V q138 q140 qs9 q18 q141) rfl rfl rfl (by decide +kernel) ⟨Nat.le_of_ble_eq_true rfl, Nat.le_of_ble_eq_true rfl⟩) rfl hK hP hD hS hA hl.1 rfl (Nat.le_of_ble_eq_true rfl) dX0_walk_153 ⟨Nat.zero_le _, Nat.zero_le _⟩ (fun H locs hP hD hS => ?_)
                exact K156 ((mX_filter nu (ki i) (la i) (mX_wi nu ou iw ki la st i he be to).1, (mX_wi nu ou iw ki la st i he be to).2.1)) (mX_step_f c100 c130) _ _ _ hP hD hS (lv_sub hl [0, 1] rfl)
              · refine lv_aload_n F.1 F.2.1 dX0_walk_133 rfl (lv_at hl 0 rfl) ?_
                refine wq_callVv F (rest := []) (ci := 0) rfl rfl (cX_keepOne l D q d ec sz st 1 nu ou iw ki la ((mX_wi nu ou iw ki la st i he be to).1) ((mX_wi nu ou iw ki la st i he be to).2.1) ((mX_wi nu ou iw ki la st i he be to).2.2) (hB c4 i (by omega))) (cwV 0 F.2.2.2.2 (lw_V q134 q136 qs8 q18 q137) rfl rfl rfl (by decide +kernel) ⟨Nat.le_of_ble_eq_true rfl, Nat.le_of_ble_eq_true rfl⟩) rfl hK hP hD hS hA hl.1 rfl (Nat.le_of_ble_eq_true rfl) dX0_walk_134 ⟨Nat.zero_le _, Nat.zero_le _⟩ (fun H locs hP hD hS => ?_)
                refine lv_goto (tgt := 156) F.1 F.2.1 dX0_walk_137 (by decide) ?_
                exact K156 ((mX_keepOne (mX_wi nu ou iw ki la st i he be to).1, (mX_wi nu ou iw ki la st i he be to).2.1)) (mX_step_k c100 c130) _ _ _ hP hD hS (lv_sub hl [0, 1] rfl)
            · refine lv_aload_n F.1 F.2.1 dX0_walk_103 rfl (lv_at hl 0 rfl) ?_
              refine lv_aload_n F.1 F.2.1 dX0_walk_104 rfl (lv_at hl 0 rfl) ?_
              refine gX0 F hK hP rfl 4 (by decide) q32 rfl (v := .ref (q 4)) rfl dX0_walk_105 ?_
              refine lv_iload_n F.1 F.2.1 dX0_walk_108 rfl (lv_at hl 1 rfl) ?_
              refine wq_bald F hK hP 4 3 rfl rfl (by omega) (by decide) dX0_walk_109 ?_
              refine lv_aload_n F.1 F.2.1 dX0_walk_110 rfl (lv_at hl 0 rfl) ?_
              refine gX0 F hK hP rfl 5 (by decide) q33 rfl (v := .ref (q 5)) rfl dX0_walk_111 ?_
              refine lv_iload_n F.1 F.2.1 dX0_walk_114 rfl (lv_at hl 1 rfl) ?_
              refine wq_bald F hK hP 5 4 rfl rfl (by omega) (by decide) dX0_walk_115 ?_
              refine wq_callVv F (rest := []) (ci := 0) rfl rfl (cX_move l D q d ec sz st 1 nu ou iw ki la ((mX_wi nu ou iw ki la st i he be to).1) ((mX_wi nu ou iw ki la st i he be to).2.1) ((mX_wi nu ou iw ki la st i he be to).2.2) (ki i) (la i) (by omega) (by omega) hou hiw) (cwV 2 F.2.2.2.2 (lw_V q118 q120 qs4 q18 q121) rfl rfl rfl (by decide +kernel) ⟨Nat.le_of_ble_eq_true rfl, Nat.le_of_ble_eq_true rfl⟩) rfl hK hP hD hS hA hl.1 rfl (Nat.le_of_ble_eq_true rfl) dX0_walk_116 ⟨Nat.zero_le _, Nat.zero_le _⟩ (fun H locs hP hD hS => ?_)
              refine lv_goto (tgt := 156) F.1 F.2.1 dX0_walk_119 (by decide) ?_
              exact K156 (mX_move ou iw (ki i) (la i) (mX_wi nu ou iw ki la st i he be to).1 (mX_wi nu ou iw ki la st i he be to).2.1) (mX_step_m c100) _ _ _ hP hD hS (lv_sub hl [0, 1] rfl)
        exact lp2 sz 0 (by omega) _ _ _ hP hD hS (lv_sub hl [1, 0] rfl)
      | succ n ihlp1 =>
        intro i hi H locs ls hP hD hS hl
        refine lv_iload_n F.1 F.2.1 dX0_walk_15 rfl (lv_at hl 1 rfl) ?_
        refine wq_bipush F 64 dX0_walk_16 (by decide) ?_
        refine wq_icmp_ge (tgt := 73) F (by omega) (by omega) dX0_walk_18 (by decide) (fun c18 => False.elim (by omega)) (fun c18 => ?_)
        have K51 : ∀ (x0 : Nat), x0 = (mX_b0 st i) → ∀ (H : Heap) (locs : List Loc) (ls : Array Slot), va_P D vwCl (wX q d ec sz st 1 nu ou iw ki la (wq_it (fun i h => wq_up h i (mX_b0 st i)) i he) be to) H → va_D A (wX q d ec sz st 1 nu ou iw ki la (wq_it (fun i h => wq_up h i (mX_b0 st i)) i he) be to) → va_S A s.heap H locs → lv_has ls 3 [(0, .ref (q 0)), (1, .int (nI i))] → W p l e rmX0_walk s m [.ref (q 0)].toArray below meth c H locs 0 0 (MQ below (wq_QV D vwCl (tX d) A (wX q d ec sz st ((mX_walk nu ou iw ki la sz st (kn, he, be, to)).1) nu ou iw ki la ((mX_walk nu ou iw ki la sz st (kn, he, be, to)).2.1) ((mX_walk nu ou iw ki la sz st (kn, he, be, to)).2.2.1) ((mX_walk nu ou iw ki la sz st (kn, he, be, to)).2.2.2))) [.ref (q 0)].toArray s 0 0 A) (F0 m 51 ls [.int (nI x0)]) := by
          intro x0 ex0 H locs ls hP hD hS hl
          subst ex0
          refine lv_istore_n (lv' := [(2, .int (nI (mX_b0 st i))), (0, .ref (q 0)), (1, .int (nI i))]) F.1 F.2.1 dX0_walk_51 rfl hl (by decide) rfl (fun ls hl => ?_)
          have K66 : ∀ (x1 : Nat), x1 = (mX_b0 st i) → ∀ (H : Heap) (locs : List Loc) (ls : Array Slot), va_P D vwCl (wX q d ec sz st 1 nu ou iw ki la (wq_it (fun i h => wq_up h i (mX_b0 st i)) i he) be to) H → va_D A (wX q d ec sz st 1 nu ou iw ki la (wq_it (fun i h => wq_up h i (mX_b0 st i)) i he) be to) → va_S A s.heap H locs → lv_has ls 3 [(2, .int (nI (mX_b0 st i))), (0, .ref (q 0)), (1, .int (nI i))] → W p l e rmX0_walk s m [.ref (q 0)].toArray below meth c H locs 0 0 (MQ below (wq_QV D vwCl (tX d) A (wX q d ec sz st ((mX_walk nu ou iw ki la sz st (kn, he, be, to)).1) nu ou iw ki la ((mX_walk nu ou iw ki la sz st (kn, he, be, to)).2.1) ((mX_walk nu ou iw ki la sz st (kn, he, be, to)).2.2.1) ((mX_walk nu ou iw ki la sz st (kn, he, be, to)).2.2.2))) [.ref (q 0)].toArray s 0 0 A) (F0 m 66 ls [.int (nI x1), .int (nI i), .ref (q 6)]) := by
            intro x1 ex1 H locs ls hP hD hS hl
            subst ex1
            refine wq_iast F hK hP hD hS 6 5 rfl rfl (by omega) (by decide) dX0_walk_66 (ws' := wX q d ec sz st 1 nu ou iw ki la (wq_up (wq_it (fun i h => wq_up h i (mX_b0 st i)) i he) i (mX_b0 st i)) be to) rfl (fun H locs hP hD hS => ?_)
            refine lv_iinc (v := nI (i + 1)) (lv' := [(1, .int (nI (i + 1))), (2, .int (nI (mX_b0 st i))), (0, .ref (q 0))]) F.1 F.2.1 dX0_walk_67 hl (k := 2) rfl (wq_inc1 _) (by decide) rfl (fun ls hl => ?_)
            refine lv_goto (tgt := 15) F.1 F.2.1 dX0_walk_70 (by decide) ?_
            exact ihlp1 (i + 1) (by omega) _ _ _ hP hD hS (lv_sub hl [2, 0] rfl)
          refine lv_aload_n F.1 F.2.1 dX0_walk_52 rfl (lv_at hl 1 rfl) ?_
          refine gX0 F hK hP rfl 9 (by decide) q37 rfl (v := .ref (q 6)) rfl dX0_walk_53 ?_
          refine lv_iload_n F.1 F.2.1 dX0_walk_56 rfl (lv_at hl 2 rfl) ?_
          refine lv_iload_n F.1 F.2.1 dX0_walk_57 rfl (lv_at hl 0 rfl) ?_
          refine wq_if_eq (tgt := 65) F (Nat.lt_of_le_of_lt mX_b0_le (by decide)) dX0_walk_58 (by decide) (fun c58 => ?_) (fun c58 => ?_)
          · refine wq_iconst F 0 dX0_walk_65 (by decide) ?_
            exact K66 (0) (c58.symm) _ _ _ hP hD hS (lv_sub hl [0, 1, 2] rfl)
          · refine wq_iconst F 1 dX0_walk_61 (by decide) ?_
            refine lv_goto (tgt := 66) F.1 F.2.1 dX0_walk_62 (by decide) ?_
            exact K66 (1) (mX_b0_1 c58) _ _ _ hP hD hS (lv_sub hl [0, 1, 2] rfl)
        refine lv_iload_n F.1 F.2.1 dX0_walk_21 rfl (lv_at hl 1 rfl) ?_
        refine wq_bipush F 8 dX0_walk_22 (by decide) ?_
        refine wq_idiv F (by omega) (by decide) (by decide) dX0_walk_24 ?_
        refine lv_iload_n F.1 F.2.1 dX0_walk_25 rfl (lv_at hl 1 rfl) ?_
        refine wq_bipush F 8 dX0_walk_26 (by decide) ?_
        refine wq_irem F (by omega) (by decide) (by decide) dX0_walk_28 ?_
        refine wq_icmp_ne (tgt := 50) F (by omega) (by omega) dX0_walk_29 (by decide) (fun c29 => ?_) (fun c29 => ?_)
        · refine wq_iconst F 0 dX0_walk_50 (by decide) ?_
          exact K51 (0) (mX_b0_z (by omega)) _ _ _ hP hD hS (lv_sub hl [0, 1] rfl)
        · refine lv_aload_n F.1 F.2.1 dX0_walk_32 rfl (lv_at hl 0 rfl) ?_
          refine gX0 F hK hP rfl 7 (by decide) q35 rfl (v := .int (nI st)) rfl dX0_walk_33 ?_
          refine lv_iload_n F.1 F.2.1 dX0_walk_36 rfl (lv_at hl 1 rfl) ?_
          refine wq_bipush F 8 dX0_walk_37 (by decide) ?_
          refine wq_irem F (by omega) (by decide) (by decide) dX0_walk_39 ?_
          refine wq_ishr F (by omega) (by omega) dX0_walk_40 ?_
          refine wq_iconst F 1 dX0_walk_41 (by decide) ?_
          refine wq_iand1 F (Nat.lt_of_le_of_lt (Nat.div_le_self _ _) (by omega)) dX0_walk_42 ?_
          refine wq_if_eq (tgt := 50) F (by omega) dX0_walk_43 (by decide) (fun c43 => ?_) (fun c43 => ?_)
          · refine wq_iconst F 0 dX0_walk_50 (by decide) ?_
            exact K51 (0) (mX_b0_z (by omega)) _ _ _ hP hD hS (lv_sub hl [0, 1] rfl)
          · refine wq_iconst F 1 dX0_walk_46 (by decide) ?_
            refine lv_goto (tgt := 51) F.1 F.2.1 dX0_walk_47 (by decide) ?_
            exact K51 (1) (mX_b0_o c29 c43) _ _ _ hP hD hS (lv_sub hl [0, 1] rfl)
    exact lp1 64 0 (by omega) _ _ _ hP hD hS (lv_sub hl [1, 0] rfl)
  · exact wq_vret F hr hlk hK (by rw [mX_walk_1 c4]; exact hP) (by rw [mX_walk_1 c4]; exact hD) hS dX0_walk_7
end
section
/-! contracts of WalkerPlan: the answers -/
set_option maxRecDepth 100000
theorem mX_reached_kn {nu ou iw ki la : Nat → Nat} {sz st : Nat} {x : Nat × Nat × (Nat → Nat) × (Nat → Nat) × (Nat → Nat)} (h : x.2.1 ≤ 1) : ∀ i, (mX_reached nu ou iw ki la sz st i x).2.1 ≤ 1
  | 0 => h
  | i + 1 => Nat.le_of_eq (mX_walk_kn (mX_reached_kn h i))
theorem mX_reached_w {nu ou iw ki la : Nat → Nat} {sz st : Nat} {x : Nat × Nat × (Nat → Nat) × (Nat → Nat) × (Nat → Nat)} (h : x.2.1 ≤ 1) : ∀ i, mX_walk nu ou iw ki la sz st (mX_reached nu ou iw ki la sz st i x).2 = mX_walk nu ou iw ki la sz st x.2
  | 0 => rfl
  | i + 1 => (mX_walk_again (mX_walk_kn (mX_reached_kn h i))).trans (mX_reached_w h i)
theorem mX_reached_ok {nu ou iw ki la he be to : Nat → Nat} {sz st kn x : Nat} (ok : okX sz st kn nu ou iw ki la he be to) : ∀ i, okX sz st (mX_reached nu ou iw ki la sz st i (x, kn, he, be, to)).2.1 nu ou iw ki la (mX_reached nu ou iw ki la sz st i (x, kn, he, be, to)).2.2.1 (mX_reached nu ou iw ki la sz st i (x, kn, he, be, to)).2.2.2.1 (mX_reached nu ou iw ki la sz st i (x, kn, he, be, to)).2.2.2.2
  | 0 => ok
  | i + 1 => okX_any ok (mX_walk_kn (mX_reached_kn ok.1 i))
theorem mX_startsAt_kn {nu ou iw ki la : Nat → Nat} {sz st v : Nat} {x : Nat × Nat × (Nat → Nat) × (Nat → Nat) × (Nat → Nat)} (h : x.2.1 ≤ 1) : ∀ i, (mX_startsAt nu ou iw ki la sz st v i x).2.1 ≤ 1
  | 0 => h
  | i + 1 => Nat.le_of_eq (mX_walk_kn (mX_startsAt_kn h i))
theorem mX_startsAt_w {nu ou iw ki la : Nat → Nat} {sz st v : Nat} {x : Nat × Nat × (Nat → Nat) × (Nat → Nat) × (Nat → Nat)} (h : x.2.1 ≤ 1) : ∀ i, mX_walk nu ou iw ki la sz st (mX_startsAt nu ou iw ki la sz st v i x).2 = mX_walk nu ou iw ki la sz st x.2
  | 0 => rfl
  | i + 1 => (mX_walk_again (mX_walk_kn (mX_startsAt_kn h i))).trans (mX_startsAt_w h i)
theorem mX_startsAt_ok {nu ou iw ki la he be to : Nat → Nat} {sz st v kn x : Nat} (ok : okX sz st kn nu ou iw ki la he be to) : ∀ i, okX sz st (mX_startsAt nu ou iw ki la sz st v i (x, kn, he, be, to)).2.1 nu ou iw ki la (mX_startsAt nu ou iw ki la sz st v i (x, kn, he, be, to)).2.2.1 (mX_startsAt nu ou iw ki la sz st v i (x, kn, he, be, to)).2.2.2.1 (mX_startsAt nu ou iw ki la sz st v i (x, kn, he, be, to)).2.2.2.2
  | 0 => ok
  | i + 1 => okX_any ok (mX_walk_kn (mX_startsAt_kn ok.1 i))

set_option maxHeartbeats 4000000 in
set_option maxRecDepth 100000 in
/-- at: no vertex -/
theorem cX_at_no (l : Launch) (D : va_G) (q : Nat → Nat) (d : Nat → ClassId) (ec sz st kn : Nat) (nu ou iw ki la he be to : Nat → Nat) (v : Int32) (h : wq_isV v = 0) : CtI l D vwCl (tX d) yX0_at cX0_at 4 .int rmX0_at [.ref (q 0), .int v] (wX q d ec sz st kn nu ou iw ki la he be to) (nI 0) (wX q d ec sz st kn nu ou iw ki la he be to) := by
  refine CtI.of RX0 rfl (by decide +kernel) (Nat.le_of_ble_eq_true rfl) ?_
  intro p e s m below meth c A ls F hr hlk hK hA hP hD hS hl
  have hl : lv_has ls 4 [(0, .ref (q 0)), (1, .int v)] := hl
  refine lv_iload_n F.1 F.2.1 dX0_at_0 rfl (lv_at hl 1 rfl) ?_
  refine wq_callIs F (rest := []) (cX_isVertex l D (tX d) _ (v)) (va_cwS 1 F.2.2.2.2 (lw_S q72 q73 q18 q74) rfl rfl rfl (by decide +kernel) ⟨Nat.le_of_ble_eq_true rfl, Nat.le_of_ble_eq_true rfl⟩) rfl hK hP hD hS hA hl.1 rfl (Nat.le_of_ble_eq_true rfl) dX0_at_1 ⟨Nat.zero_le _, Nat.zero_le _⟩ (fun H locs hP hD hS => ?_)
  refine wq_if_ne (tgt := 9) F (wq_isV_lt _) dX0_at_4 (by decide) (fun c4 => False.elim (by omega)) (fun c4 => ?_)
  refine wq_iconst F 0 dX0_at_7 (by decide) ?_
  exact wq_iret F hr hlk (rfl) hK hP hD hS dX0_at_8

set_option maxHeartbeats 4000000 in
set_option maxRecDepth 100000 in
/-- at(v) -/
theorem cX_at_ok (l : Launch) (D : va_G) (q : Nat → Nat) (d : Nat → ClassId) (ec sz st kn : Nat) (nu ou iw ki la he be to : Nat → Nat) (v : Nat) (ok : okX sz st kn nu ou iw ki la he be to) (hv : v < 8) : CtI l D vwCl (tX d) yX0_at cX0_at 4 .int rmX0_at [.ref (q 0), .int (nI v)] (wX q d ec sz st kn nu ou iw ki la he be to) (nI (mX_row (mX_walk nu ou iw ki la sz st (kn, he, be, to)).2.1 v)) (wX q d ec sz st ((mX_walk nu ou iw ki la sz st (kn, he, be, to)).1) nu ou iw ki la ((mX_walk nu ou iw ki la sz st (kn, he, be, to)).2.1) ((mX_walk nu ou iw ki la sz st (kn, he, be, to)).2.2.1) ((mX_walk nu ou iw ki la sz st (kn, he, be, to)).2.2.2)) := by
  refine CtI.of RX0 rfl (by decide +kernel) (Nat.le_of_ble_eq_true rfl) ?_
  intro p e s m below meth c A ls F hr hlk hK hA hP hD hS hl
  have hl : lv_has ls 4 [(0, .ref (q 0)), (1, .int (nI v))] := hl
  refine lv_iload_n F.1 F.2.1 dX0_at_0 rfl (lv_at hl 1 rfl) ?_
  refine wq_callIs F (rest := []) (cX_isVertex l D (tX d) _ ((nI v))) (va_cwS 1 F.2.2.2.2 (lw_S q72 q73 q18 q74) rfl rfl rfl (by decide +kernel) ⟨Nat.le_of_ble_eq_true rfl, Nat.le_of_ble_eq_true rfl⟩) rfl hK hP hD hS hA hl.1 rfl (Nat.le_of_ble_eq_true rfl) dX0_at_1 ⟨Nat.zero_le _, Nat.zero_le _⟩ (fun H locs hP hD hS => ?_)
  have he1 := wq_isV_n hv
  refine wq_if_ne (tgt := 9) F (wq_isV_lt _) dX0_at_4 (by decide) (fun c4 => ?_) (fun c4 => False.elim (by omega))
  refine lv_aload_n F.1 F.2.1 dX0_at_9 rfl (lv_at hl 0 rfl) ?_
  refine wq_callVv F (rest := []) (ci := 0) rfl rfl (cX_walk l D q d ec sz st kn nu ou iw ki la he be to ok) (cwV 0 F.2.2.2.2 (lw_V q110 q112 qs2 q18 q113) rfl rfl rfl (by decide +kernel) ⟨Nat.le_of_ble_eq_true rfl, Nat.le_of_ble_eq_true rfl⟩) rfl hK hP hD hS hA hl.1 rfl (Nat.le_of_ble_eq_true rfl) dX0_at_10 ⟨Nat.zero_le _, Nat.zero_le _⟩ (fun H locs hP hD hS => ?_)
  refine wq_iconst F 0 dX0_at_13 (by decide) ?_
  refine lv_istore_n (lv' := [(2, .int (nI 0)), (0, .ref (q 0)), (1, .int (nI v))]) F.1 F.2.1 dX0_at_14 rfl hl (by decide) rfl (fun ls hl => ?_)
  refine wq_iconst F 0 dX0_at_15 (by decide) ?_
  refine lv_istore_n (lv' := [(3, .int (nI 0)), (2, .int (nI 0)), (0, .ref (q 0)), (1, .int (nI v))]) F.1 F.2.1 dX0_at_16 rfl hl (by decide) rfl (fun ls hl => ?_)
  have lp1 : ∀ (n i : Nat), i + n = 8 → ∀ (H : Heap) (locs : List Loc) (ls : Array Slot), va_P D vwCl (wX q d ec sz st ((mX_walk nu ou iw ki la sz st (kn, he, be, to)).1) nu ou iw ki la ((mX_walk nu ou iw ki la sz st (kn, he, be, to)).2.1) ((mX_walk nu ou iw ki la sz st (kn, he, be, to)).2.2.1) ((mX_walk nu ou iw ki la sz st (kn, he, be, to)).2.2.2)) H → va_D A (wX q d ec sz st ((mX_walk nu ou iw ki la sz st (kn, he, be, to)).1) nu ou iw ki la ((mX_walk nu ou iw ki la sz st (kn, he, be, to)).2.1) ((mX_walk nu ou iw ki la sz st (kn, he, be, to)).2.2.1) ((mX_walk nu ou iw ki la sz st (kn, he, be, to)).2.2.2)) → va_S A s.heap H locs → lv_has ls 4 [(0, .ref (q 0)), (1, .int (nI v)), (2, .int (nI (wq_it (fun s a => a + (mX_walk nu ou iw ki la sz st (kn, he, be, to)).2.1 (v * 8 + s)) i 0))), (3, .int (nI i))] → W p l e rmX0_at s m [.ref (q 0), .int (nI v)].toArray below meth c H locs 0 0 (MQ below (wq_QI D vwCl (tX d) A (nI (mX_row (mX_walk nu ou iw ki la sz st (kn, he, be, to)).2.1 v)) (wX q d ec sz st ((mX_walk nu ou iw ki la sz st (kn, he, be, to)).1) nu ou iw ki la ((mX_walk nu ou iw ki la sz st (kn, he, be, to)).2.1) ((mX_walk nu ou iw ki la sz st (kn, he, be, to)).2.2.1) ((mX_walk nu ou iw ki la sz st (kn, he, be, to)).2.2.2))) [.ref (q 0), .int (nI v)].toArray s 0 0 A) (F0 m 17 ls []) := by
    intro n
    induction n with
    | zero =>
      intro i hi H locs ls hP hD hS hl
      have ei : 8 = i := by omega
      subst ei
      refine lv_iload_n F.1 F.2.1 dX0_at_17 rfl (lv_at hl 3 rfl) ?_
      refine wq_bipush F 8 dX0_at_18 (by decide) ?_
      refine wq_icmp_ge (tgt := 43) F (by omega) (by omega) dX0_at_20 (by decide) (fun c20 => ?_) (fun c20 => False.elim (by omega))
      refine lv_iload_n F.1 F.2.1 dX0_at_43 rfl (lv_at hl 2 rfl) ?_
      exact wq_iret F hr hlk (rfl) hK hP hD hS dX0_at_44
    | succ n ihlp1 =>
      intro i hi H locs ls hP hD hS hl
      refine lv_iload_n F.1 F.2.1 dX0_at_17 rfl (lv_at hl 3 rfl) ?_
      refine wq_bipush F 8 dX0_at_18 (by decide) ?_
      refine wq_icmp_ge (tgt := 43) F (by omega) (by omega) dX0_at_20 (by decide) (fun c20 => False.elim (by omega)) (fun c20 => ?_)
      refine lv_iload_n F.1 F.2.1 dX0_at_23 rfl (lv_at hl 2 rfl) ?_
      refine lv_aload_n F.1 F.2.1 dX0_at_24 rfl (lv_at hl 0 rfl) ?_
      refine gX0 F hK hP rfl 9 (by decide) q37 rfl (v := .ref (q 6)) rfl dX0_at_25 ?_
      refine lv_iload_n F.1 F.2.1 dX0_at_28 rfl (lv_at hl 1 rfl) ?_
      refine wq_bipush F 8 dX0_at_29 (by decide) ?_
      refine wq_imul F dX0_at_31 ?_
      refine lv_iload_n F.1 F.2.1 dX0_at_32 rfl (lv_at hl 3 rfl) ?_
      refine wq_iadd F dX0_at_33 ?_
      refine wq_iald F hK hP 6 5 rfl rfl (by omega) (by decide) dX0_at_34 ?_
      refine wq_iadd F dX0_at_35 ?_
      refine lv_istore_n (lv' := [(2, .int (nI ((wq_it (fun s a => a + (mX_walk nu ou iw ki la sz st (kn, he, be, to)).2.1 (v * 8 + s)) i 0) + (((mX_walk nu ou iw ki la sz st (kn, he, be, to)).2.1) ((v * 8) + i))))), (0, .ref (q 0)), (1, .int (nI v)), (3, .int (nI i))]) F.1 F.2.1 dX0_at_36 rfl hl (by decide) rfl (fun ls hl => ?_)
      refine lv_iinc (v := nI (i + 1)) (lv' := [(3, .int (nI (i + 1))), (2, .int (nI ((wq_it (fun s a => a + (mX_walk nu ou iw ki la sz st (kn, he, be, to)).2.1 (v * 8 + s)) i 0) + (((mX_walk nu ou iw ki la sz st (kn, he, be, to)).2.1) ((v * 8) + i))))), (0, .ref (q 0)), (1, .int (nI v))]) F.1 F.2.1 dX0_at_37 hl (k := 3) rfl (wq_inc1 _) (by decide) rfl (fun ls hl => ?_)
      refine lv_goto (tgt := 17) F.1 F.2.1 dX0_at_40 (by decide) ?_
      exact ihlp1 (i + 1) (by omega) _ _ _ hP hD hS (lv_sub hl [2, 3, 1, 0] rfl)
  exact lp1 8 0 (by omega) _ _ _ hP hD hS (lv_sub hl [2, 3, 1, 0] rfl)

set_option maxHeartbeats 4000000 in
set_option maxRecDepth 100000 in
/-- walkers() -/
theorem cX_walkers (l : Launch) (D : va_G) (q : Nat → Nat) (d : Nat → ClassId) (ec sz st kn : Nat) (nu ou iw ki la he be to : Nat → Nat) (ok : okX sz st kn nu ou iw ki la he be to) : CtI l D vwCl (tX d) yX0_walkers cX0_walkers 1 .int rmX0_walkers [.ref (q 0)] (wX q d ec sz st kn nu ou iw ki la he be to) (nI ((mX_walk nu ou iw ki la sz st (kn, he, be, to)).2.2.2 sz)) (wX q d ec sz st ((mX_walk nu ou iw ki la sz st (kn, he, be, to)).1) nu ou iw ki la ((mX_walk nu ou iw ki la sz st (kn, he, be, to)).2.1) ((mX_walk nu ou iw ki la sz st (kn, he, be, to)).2.2.1) ((mX_walk nu ou iw ki la sz st (kn, he, be, to)).2.2.2)) := by
  refine CtI.of RX0 rfl (by decide +kernel) (Nat.le_of_ble_eq_true rfl) ?_
  intro p e s m below meth c A ls F hr hlk hK hA hP hD hS hl
  have hl : lv_has ls 1 [(0, .ref (q 0))] := hl
  obtain ⟨hkn, hsz, hst, hnu, hou, hiw, hki, hla, hB⟩ := id ok
  refine lv_aload_n F.1 F.2.1 dX0_walkers_0 rfl (lv_at hl 0 rfl) ?_
  refine wq_callVv F (rest := []) (ci := 0) rfl rfl (cX_walk l D q d ec sz st kn nu ou iw ki la he be to ok) (cwV 0 F.2.2.2.2 (lw_V q110 q112 qs2 q18 q113) rfl rfl rfl (by decide +kernel) ⟨Nat.le_of_ble_eq_true rfl, Nat.le_of_ble_eq_true rfl⟩) rfl hK hP hD hS hA hl.1 rfl (Nat.le_of_ble_eq_true rfl) dX0_walkers_1 ⟨Nat.zero_le _, Nat.zero_le _⟩ (fun H locs hP hD hS => ?_)
  refine lv_aload_n F.1 F.2.1 dX0_walkers_4 rfl (lv_at hl 0 rfl) ?_
  refine gX0 F hK hP rfl 11 (by decide) q39 rfl (v := .ref (q 8)) rfl dX0_walkers_5 ?_
  refine lv_aload_n F.1 F.2.1 dX0_walkers_8 rfl (lv_at hl 0 rfl) ?_
  refine gX0 F hK hP rfl 6 (by decide) q34 rfl (v := .int (nI sz)) rfl dX0_walkers_9 ?_
  refine wq_iald F hK hP 8 7 rfl rfl (by omega) (by decide) dX0_walkers_12 ?_
  exact wq_iret F hr hlk (rfl) hK hP hD hS dX0_walkers_13

set_option maxHeartbeats 4000000 in
set_option maxRecDepth 100000 in
/-- after: no step -/
theorem cX_after_no (l : Launch) (D : va_G) (q : Nat → Nat) (d : Nat → ClassId) (ec sz st kn : Nat) (nu ou iw ki la he be to : Nat → Nat) (k : Int32) (hs : sz < 2 ^ 31) (h : k.toInt < 0 ∨ (sz : Int) < k.toInt) : CtI l D vwCl (tX d) yX0_after cX0_after 2 .int rmX0_after [.ref (q 0), .int k] (wX q d ec sz st kn nu ou iw ki la he be to) (-1) (wX q d ec sz st kn nu ou iw ki la he be to) := by
  refine CtI.of RX0 rfl (by decide +kernel) (Nat.le_of_ble_eq_true rfl) ?_
  intro p e s m below meth c A ls F hr hlk hK hA hP hD hS hl
  have hl : lv_has ls 2 [(0, .ref (q 0)), (1, .int k)] := hl
  refine lv_iload_n F.1 F.2.1 dX0_after_0 rfl (lv_at hl 1 rfl) ?_
  refine wr_if_lt (tgt := 12) F dX0_after_1 (by decide) (fun c1 => ?_) (fun c1 => ?_)
  · refine lv_iconst (v := -1) F.1 F.2.1 dX0_after_12 (by decide) ?_
    exact wq_iret F hr hlk (rfl) hK hP hD hS dX0_after_13
  · refine lv_iload_n F.1 F.2.1 dX0_after_4 rfl (lv_at hl 1 rfl) ?_
    refine lv_aload_n F.1 F.2.1 dX0_after_5 rfl (lv_at hl 0 rfl) ?_
    refine gX0 F hK hP rfl 6 (by decide) q34 rfl (v := .int (nI sz)) rfl dX0_after_6 ?_
    refine wr_icmp_le (tgt := 14) F (rfl) (nI_toInt (by omega)) dX0_after_9 (by decide) (fun c9 => False.elim (by omega)) (fun c9 => ?_)
    refine lv_iconst (v := -1) F.1 F.2.1 dX0_after_12 (by decide) ?_
    exact wq_iret F hr hlk (rfl) hK hP hD hS dX0_after_13

set_option maxHeartbeats 4000000 in
set_option maxRecDepth 100000 in
/-- after(k) -/
theorem cX_after_ok (l : Launch) (D : va_G) (q : Nat → Nat) (d : Nat → ClassId) (ec sz st kn : Nat) (nu ou iw ki la he be to : Nat → Nat) (k : Nat) (ok : okX sz st kn nu ou iw ki la he be to) (hk : k ≤ sz) : CtI l D vwCl (tX d) yX0_after cX0_after 2 .int rmX0_after [.ref (q 0), .int (nI k)] (wX q d ec sz st kn nu ou iw ki la he be to) (nI ((mX_walk nu ou iw ki la sz st (kn, he, be, to)).2.2.2 k)) (wX q d ec sz st ((mX_walk nu ou iw ki la sz st (kn, he, be, to)).1) nu ou iw ki la ((mX_walk nu ou iw ki la sz st (kn, he, be, to)).2.1) ((mX_walk nu ou iw ki la sz st (kn, he, be, to)).2.2.1) ((mX_walk nu ou iw ki la sz st (kn, he, be, to)).2.2.2)) := by
  refine CtI.of RX0 rfl (by decide +kernel) (Nat.le_of_ble_eq_true rfl) ?_
  intro p e s m below meth c A ls F hr hlk hK hA hP hD hS hl
  have hl : lv_has ls 2 [(0, .ref (q 0)), (1, .int (nI k))] := hl
  obtain ⟨hkn, hsz, hst, hnu, hou, hiw, hki, hla, hB⟩ := id ok
  refine lv_iload_n F.1 F.2.1 dX0_after_0 rfl (lv_at hl 1 rfl) ?_
  refine wq_if_lt (tgt := 12) F (by omega) dX0_after_1 (by decide) (fun c1 => False.elim (c1)) (fun c1 => ?_)
  refine lv_iload_n F.1 F.2.1 dX0_after_4 rfl (lv_at hl 1 rfl) ?_
  refine lv_aload_n F.1 F.2.1 dX0_after_5 rfl (lv_at hl 0 rfl) ?_
  refine gX0 F hK hP rfl 6 (by decide) q34 rfl (v := .int (nI sz)) rfl dX0_after_6 ?_
  refine wq_icmp_le (tgt := 14) F (by omega) (by omega) dX0_after_9 (by decide) (fun c9 => ?_) (fun c9 => False.elim (by omega))
  refine lv_aload_n F.1 F.2.1 dX0_after_14 rfl (lv_at hl 0 rfl) ?_
  refine wq_callVv F (rest := []) (ci := 0) rfl rfl (cX_walk l D q d ec sz st kn nu ou iw ki la he be to ok) (cwV 0 F.2.2.2.2 (lw_V q110 q112 qs2 q18 q113) rfl rfl rfl (by decide +kernel) ⟨Nat.le_of_ble_eq_true rfl, Nat.le_of_ble_eq_true rfl⟩) rfl hK hP hD hS hA hl.1 rfl (Nat.le_of_ble_eq_true rfl) dX0_after_15 ⟨Nat.zero_le _, Nat.zero_le _⟩ (fun H locs hP hD hS => ?_)
  refine lv_aload_n F.1 F.2.1 dX0_after_18 rfl (lv_at hl 0 rfl) ?_
  refine gX0 F hK hP rfl 11 (by decide) q39 rfl (v := .ref (q 8)) rfl dX0_after_19 ?_
  refine lv_iload_n F.1 F.2.1 dX0_after_22 rfl (lv_at hl 1 rfl) ?_
  refine wq_iald F hK hP 8 7 rfl rfl (by omega) (by decide) dX0_after_23 ?_
  exact wq_iret F hr hlk (rfl) hK hP hD hS dX0_after_24

set_option maxHeartbeats 4000000 in
set_option maxRecDepth 100000 in
/-- between: no vertex -/
theorem cX_between_no (l : Launch) (D : va_G) (q : Nat → Nat) (d : Nat → ClassId) (ec sz st kn : Nat) (nu ou iw ki la he be to : Nat → Nat) (u v : Int32) (h : wq_isV u = 0 ∨ wq_isV v = 0) : CtI l D vwCl (tX d) yX0_between cX0_between 3 .int rmX0_between [.ref (q 0), .int u, .int v] (wX q d ec sz st kn nu ou iw ki la he be to) (nI 0) (wX q d ec sz st kn nu ou iw ki la he be to) := by
  refine CtI.of RX0 rfl (by decide +kernel) (Nat.le_of_ble_eq_true rfl) ?_
  intro p e s m below meth c A ls F hr hlk hK hA hP hD hS hl
  have hl : lv_has ls 3 [(0, .ref (q 0)), (1, .int u), (2, .int v)] := hl
  refine lv_iload_n F.1 F.2.1 dX0_between_0 rfl (lv_at hl 1 rfl) ?_
  refine wq_callIs F (rest := []) (cX_isVertex l D (tX d) _ (u)) (va_cwS 1 F.2.2.2.2 (lw_S q72 q73 q18 q74) rfl rfl rfl (by decide +kernel) ⟨Nat.le_of_ble_eq_true rfl, Nat.le_of_ble_eq_true rfl⟩) rfl hK hP hD hS hA hl.1 rfl (Nat.le_of_ble_eq_true rfl) dX0_between_1 ⟨Nat.zero_le _, Nat.zero_le _⟩ (fun H locs hP hD hS => ?_)
  refine wq_if_eq (tgt := 14) F (wq_isV_lt _) dX0_between_4 (by decide) (fun c4 => ?_) (fun c4 => ?_)
  · refine wq_iconst F 0 dX0_between_14 (by decide) ?_
    exact wq_iret F hr hlk (rfl) hK hP hD hS dX0_between_15
  · refine lv_iload_n F.1 F.2.1 dX0_between_7 rfl (lv_at hl 2 rfl) ?_
    refine wq_callIs F (rest := []) (cX_isVertex l D (tX d) _ (v)) (va_cwS 1 F.2.2.2.2 (lw_S q72 q73 q18 q74) rfl rfl rfl (by decide +kernel) ⟨Nat.le_of_ble_eq_true rfl, Nat.le_of_ble_eq_true rfl⟩) rfl hK hP hD hS hA hl.1 rfl (Nat.le_of_ble_eq_true rfl) dX0_between_8 ⟨Nat.zero_le _, Nat.zero_le _⟩ (fun H locs hP hD hS => ?_)
    refine wq_if_ne (tgt := 16) F (wq_isV_lt _) dX0_between_11 (by decide) (fun c11 => False.elim (by omega)) (fun c11 => ?_)
    refine wq_iconst F 0 dX0_between_14 (by decide) ?_
    exact wq_iret F hr hlk (rfl) hK hP hD hS dX0_between_15

set_option maxHeartbeats 4000000 in
set_option maxRecDepth 100000 in
/-- between(u, v) -/
theorem cX_between_ok (l : Launch) (D : va_G) (q : Nat → Nat) (d : Nat → ClassId) (ec sz st kn : Nat) (nu ou iw ki la he be to : Nat → Nat) (u v : Nat) (ok : okX sz st kn nu ou iw ki la he be to) (hu : u < 8) (hv : v < 8) : CtI l D vwCl (tX d) yX0_between cX0_between 3 .int rmX0_between [.ref (q 0), .int (nI u), .int (nI v)] (wX q d ec sz st kn nu ou iw ki la he be to) (nI ((mX_walk nu ou iw ki la sz st (kn, he, be, to)).2.1 (v * 8 + u))) (wX q d ec sz st ((mX_walk nu ou iw ki la sz st (kn, he, be, to)).1) nu ou iw ki la ((mX_walk nu ou iw ki la sz st (kn, he, be, to)).2.1) ((mX_walk nu ou iw ki la sz st (kn, he, be, to)).2.2.1) ((mX_walk nu ou iw ki la sz st (kn, he, be, to)).2.2.2)) := by
  refine CtI.of RX0 rfl (by decide +kernel) (Nat.le_of_ble_eq_true rfl) ?_
  intro p e s m below meth c A ls F hr hlk hK hA hP hD hS hl
  have hl : lv_has ls 3 [(0, .ref (q 0)), (1, .int (nI u)), (2, .int (nI v))] := hl
  refine lv_iload_n F.1 F.2.1 dX0_between_0 rfl (lv_at hl 1 rfl) ?_
  refine wq_callIs F (rest := []) (cX_isVertex l D (tX d) _ ((nI u))) (va_cwS 1 F.2.2.2.2 (lw_S q72 q73 q18 q74) rfl rfl rfl (by decide +kernel) ⟨Nat.le_of_ble_eq_true rfl, Nat.le_of_ble_eq_true rfl⟩) rfl hK hP hD hS hA hl.1 rfl (Nat.le_of_ble_eq_true rfl) dX0_between_1 ⟨Nat.zero_le _, Nat.zero_le _⟩ (fun H locs hP hD hS => ?_)
  have he1 := wq_isV_n hu
  refine wq_if_eq (tgt := 14) F (wq_isV_lt _) dX0_between_4 (by decide) (fun c4 => False.elim (by omega)) (fun c4 => ?_)
  refine lv_iload_n F.1 F.2.1 dX0_between_7 rfl (lv_at hl 2 rfl) ?_
  refine wq_callIs F (rest := []) (cX_isVertex l D (tX d) _ ((nI v))) (va_cwS 1 F.2.2.2.2 (lw_S q72 q73 q18 q74) rfl rfl rfl (by decide +kernel) ⟨Nat.le_of_ble_eq_true rfl, Nat.le_of_ble_eq_true rfl⟩) rfl hK hP hD hS hA hl.1 rfl (Nat.le_of_ble_eq_true rfl) dX0_between_8 ⟨Nat.zero_le _, Nat.zero_le _⟩ (fun H locs hP hD hS => ?_)
  have he2 := wq_isV_n hv
  refine wq_if_ne (tgt := 16) F (wq_isV_lt _) dX0_between_11 (by decide) (fun c11 => ?_) (fun c11 => False.elim (by omega))
  refine lv_aload_n F.1 F.2.1 dX0_between_16 rfl (lv_at hl 0 rfl) ?_
  refine wq_callVv F (rest := []) (ci := 0) rfl rfl (cX_walk l D q d ec sz st kn nu ou iw ki la he be to ok) (cwV 0 F.2.2.2.2 (lw_V q110 q112 qs2 q18 q113) rfl rfl rfl (by decide +kernel) ⟨Nat.le_of_ble_eq_true rfl, Nat.le_of_ble_eq_true rfl⟩) rfl hK hP hD hS hA hl.1 rfl (Nat.le_of_ble_eq_true rfl) dX0_between_17 ⟨Nat.zero_le _, Nat.zero_le _⟩ (fun H locs hP hD hS => ?_)
  refine lv_aload_n F.1 F.2.1 dX0_between_20 rfl (lv_at hl 0 rfl) ?_
  refine gX0 F hK hP rfl 9 (by decide) q37 rfl (v := .ref (q 6)) rfl dX0_between_21 ?_
  refine lv_iload_n F.1 F.2.1 dX0_between_24 rfl (lv_at hl 2 rfl) ?_
  refine wq_bipush F 8 dX0_between_25 (by decide) ?_
  refine wq_imul F dX0_between_27 ?_
  refine lv_iload_n F.1 F.2.1 dX0_between_28 rfl (lv_at hl 1 rfl) ?_
  refine wq_iadd F dX0_between_29 ?_
  refine wq_iald F hK hP 6 5 rfl rfl (by omega) (by decide) dX0_between_30 ?_
  exact wq_iret F hr hlk (rfl) hK hP hD hS dX0_between_31

set_option maxHeartbeats 4000000 in
set_option maxRecDepth 100000 in
/-- reached() -/
theorem cX_reached (l : Launch) (D : va_G) (q : Nat → Nat) (d : Nat → ClassId) (ec sz st kn : Nat) (nu ou iw ki la he be to : Nat → Nat) (ok : okX sz st kn nu ou iw ki la he be to) (hR : ∀ v, v < 8 → mX_row (mX_walk nu ou iw ki la sz st (kn, he, be, to)).2.1 v < 2 ^ 31) : CtI l D vwCl (tX d) yX0_reached cX0_reached 3 .int rmX0_reached [.ref (q 0)] (wX q d ec sz st kn nu ou iw ki la he be to) (nI (mX_reached nu ou iw ki la sz st 8 (0, kn, he, be, to)).1) (wX q d ec sz st ((mX_reached nu ou iw ki la sz st 8 (0, kn, he, be, to)).2.1) nu ou iw ki la ((mX_reached nu ou iw ki la sz st 8 (0, kn, he, be, to)).2.2.1) ((mX_reached nu ou iw ki la sz st 8 (0, kn, he, be, to)).2.2.2.1) ((mX_reached nu ou iw ki la sz st 8 (0, kn, he, be, to)).2.2.2.2)) := by
  refine CtI.of RX0 rfl (by decide +kernel) (Nat.le_of_ble_eq_true rfl) ?_
  intro p e s m below meth c A ls F hr hlk hK hA hP hD hS hl
  have hl : lv_has ls 3 [(0, .ref (q 0))] := hl
  refine wq_iconst F 0 dX0_reached_0 (by decide) ?_
  refine lv_istore_n (lv' := [(1, .int (nI 0)), (0, .ref (q 0))]) F.1 F.2.1 dX0_reached_1 rfl hl (by decide) rfl (fun ls hl => ?_)
  refine wq_iconst F 0 dX0_reached_2 (by decide) ?_
  refine lv_istore_n (lv' := [(2, .int (nI 0)), (1, .int (nI 0)), (0, .ref (q 0))]) F.1 F.2.1 dX0_reached_3 rfl hl (by decide) rfl (fun ls hl => ?_)
  have lp1 : ∀ (n i : Nat), i + n = 8 → ∀ (H : Heap) (locs : List Loc) (ls : Array Slot), va_P D vwCl (wX q d ec sz st ((mX_reached nu ou iw ki la sz st i (0, kn, he, be, to)).2.1) nu ou iw ki la ((mX_reached nu ou iw ki la sz st i (0, kn, he, be, to)).2.2.1) ((mX_reached nu ou iw ki la sz st i (0, kn, he, be, to)).2.2.2.1) ((mX_reached nu ou iw ki la sz st i (0, kn, he, be, to)).2.2.2.2)) H → va_D A (wX q d ec sz st ((mX_reached nu ou iw ki la sz st i (0, kn, he, be, to)).2.1) nu ou iw ki la ((mX_reached nu ou iw ki la sz st i (0, kn, he, be, to)).2.2.1) ((mX_reached nu ou iw ki la sz st i (0, kn, he, be, to)).2.2.2.1) ((mX_reached nu ou iw ki la sz st i (0, kn, he, be, to)).2.2.2.2)) → va_S A s.heap H locs → lv_has ls 3 [(0, .ref (q 0)), (1, .int (nI ((mX_reached nu ou iw ki la sz st i (0, kn, he, be, to)).1))), (2, .int (nI i))] → W p l e rmX0_reached s m [.ref (q 0)].toArray below meth c H locs 0 0 (MQ below (wq_QI D vwCl (tX d) A (nI (mX_reached nu ou iw ki la sz st 8 (0, kn, he, be, to)).1) (wX q d ec sz st ((mX_reached nu ou iw ki la sz st 8 (0, kn, he, be, to)).2.1) nu ou iw ki la ((mX_reached nu ou iw ki la sz st 8 (0, kn, he, be, to)).2.2.1) ((mX_reached nu ou iw ki la sz st 8 (0, kn, he, be, to)).2.2.2.1) ((mX_reached nu ou iw ki la sz st 8 (0, kn, he, be, to)).2.2.2.2))) [.ref (q 0)].toArray s 0 0 A) (F0 m 4 ls []) := by
    intro n
    induction n with
    | zero =>
      intro i hi H locs ls hP hD hS hl
      have ei : 8 = i := by omega
      subst ei
      refine lv_iload_n F.1 F.2.1 dX0_reached_4 rfl (lv_at hl 2 rfl) ?_
      refine wq_bipush F 8 dX0_reached_5 (by decide) ?_
      refine wq_icmp_ge (tgt := 34) F (by omega) (by omega) dX0_reached_7 (by decide) (fun c7 => ?_) (fun c7 => False.elim (by omega))
      refine lv_iload_n F.1 F.2.1 dX0_reached_34 rfl (lv_at hl 1 rfl) ?_
      exact wq_iret F hr hlk (rfl) hK hP hD hS dX0_reached_35
    | succ n ihlp1 =>
      intro i hi H locs ls hP hD hS hl
      refine lv_iload_n F.1 F.2.1 dX0_reached_4 rfl (lv_at hl 2 rfl) ?_
      refine wq_bipush F 8 dX0_reached_5 (by decide) ?_
      refine wq_icmp_ge (tgt := 34) F (by omega) (by omega) dX0_reached_7 (by decide) (fun c7 => False.elim (by omega)) (fun c7 => ?_)
      refine lv_iload_n F.1 F.2.1 dX0_reached_10 rfl (lv_at hl 1 rfl) ?_
      refine lv_aload_n F.1 F.2.1 dX0_reached_11 rfl (lv_at hl 0 rfl) ?_
      refine lv_iload_n F.1 F.2.1 dX0_reached_12 rfl (lv_at hl 2 rfl) ?_
      refine wq_callIv F (rest := [.int (nI ((mX_reached nu ou iw ki la sz st i (0, kn, he, be, to)).1))]) (ci := 0) rfl rfl (cX_at_ok l D q d ec sz st ((mX_reached nu ou iw ki la sz st i (0, kn, he, be, to)).2.1) nu ou iw ki la ((mX_reached nu ou iw ki la sz st i (0, kn, he, be, to)).2.2.1) ((mX_reached nu ou iw ki la sz st i (0, kn, he, be, to)).2.2.2.1) ((mX_reached nu ou iw ki la sz st i (0, kn, he, be, to)).2.2.2.2) i (mX_reached_ok ok i) (by omega)) (cwV 1 F.2.2.2.2 (lw_V q158 q107 q108 q18 q109) rfl rfl rfl (by decide +kernel) ⟨Nat.le_of_ble_eq_true rfl, Nat.le_of_ble_eq_true rfl⟩) rfl hK hP hD hS hA hl.1 rfl (Nat.le_of_ble_eq_true rfl) dX0_reached_13 ⟨Nat.zero_le _, Nat.zero_le _⟩ (fun H locs hP hD hS => ?_)
      have hr1 : mX_row (mX_walk nu ou iw ki la sz st (mX_reached nu ou iw ki la sz st i (0, kn, he, be, to)).2).2.1 i < 2 ^ 31 := by rw [mX_reached_w (x := (0, kn, he, be, to)) ok.1 i]; exact hR i (by omega)
      have K26 : ∀ (x0 : Nat), x0 = (if mX_row (mX_walk nu ou iw ki la sz st (mX_reached nu ou iw ki la sz st i (0, kn, he, be, to)).2).2.1 i = 0 then 0 else 2 ^ i) → ∀ (H : Heap) (locs : List Loc) (ls : Array Slot), va_P D vwCl (wX q d ec sz st ((mX_walk nu ou iw ki la sz st (mX_reached nu ou iw ki la sz st i (0, kn, he, be, to)).2).1) nu ou iw ki la ((mX_walk nu ou iw ki la sz st (mX_reached nu ou iw ki la sz st i (0, kn, he, be, to)).2).2.1) ((mX_walk nu ou iw ki la sz st (mX_reached nu ou iw ki la sz st i (0, kn, he, be, to)).2).2.2.1) ((mX_walk nu ou iw ki la sz st (mX_reached nu ou iw ki la sz st i (0, kn, he, be, to)).2).2.2.2)) H → va_D A (wX q d ec sz st ((mX_walk nu ou iw ki la sz st (mX_reached nu ou iw ki la sz st i (0, kn, he, be, to)).2).1) nu ou iw ki la ((mX_walk nu ou iw ki la sz st (mX_reached nu ou iw ki la sz st i (0, kn, he, be, to)).2).2.1) ((mX_walk nu ou iw ki la sz st (mX_reached nu ou iw ki la sz st i (0, kn, he, be, to)).2).2.2.1) ((mX_walk nu ou iw ki la sz st (mX_reached nu ou iw ki la sz st i (0, kn, he, be, to)).2).2.2.2)) → va_S A s.heap H locs → lv_has ls 3 [(0, .ref (q 0)), (1, .int (nI ((mX_reached nu ou iw ki la sz st i (0, kn, he, be, to)).1))), (2, .int (nI i))] → W p l e rmX0_reached s m [.ref (q 0)].toArray below meth c H locs 0 0 (MQ below (wq_QI D vwCl (tX d) A (nI (mX_reached nu ou iw ki la sz st 8 (0, kn, he, be, to)).1) (wX q d ec sz st ((mX_reached nu ou iw ki la sz st 8 (0, kn, he, be, to)).2.1) nu ou iw ki la ((mX_reached nu ou iw ki la sz st 8 (0, kn, he, be, to)).2.2.1) ((mX_reached nu ou iw ki la sz st 8 (0, kn, he, be, to)).2.2.2.1) ((mX_reached nu ou iw ki la sz st 8 (0, kn, he, be, to)).2.2.2.2))) [.ref (q 0)].toArray s 0 0 A) (F0 m 26 ls [.int (nI x0), .int (nI ((mX_reached nu ou iw ki la sz st i (0, kn, he, be, to)).1))]) := by
        intro x0 ex0 H locs ls hP hD hS hl
        subst ex0
        refine wq_ior F dX0_reached_26 ?_
        refine lv_istore_n (lv' := [(1, .int (nI (((mX_reached nu ou iw ki la sz st i (0, kn, he, be, to)).1) ||| (if mX_row (mX_walk nu ou iw ki la sz st (mX_reached nu ou iw ki la sz st i (0, kn, he, be, to)).2).2.1 i = 0 then 0 else 2 ^ i)))), (0, .ref (q 0)), (2, .int (nI i))]) F.1 F.2.1 dX0_reached_27 rfl hl (by decide) rfl (fun ls hl => ?_)
        refine lv_iinc (v := nI (i + 1)) (lv' := [(2, .int (nI (i + 1))), (1, .int (nI (((mX_reached nu ou iw ki la sz st i (0, kn, he, be, to)).1) ||| (if mX_row (mX_walk nu ou iw ki la sz st (mX_reached nu ou iw ki la sz st i (0, kn, he, be, to)).2).2.1 i = 0 then 0 else 2 ^ i)))), (0, .ref (q 0))]) F.1 F.2.1 dX0_reached_28 hl (k := 2) rfl (wq_inc1 _) (by decide) rfl (fun ls hl => ?_)
        refine lv_goto (tgt := 4) F.1 F.2.1 dX0_reached_31 (by decide) ?_
        exact ihlp1 (i + 1) (by omega) _ _ _ hP hD hS (lv_sub hl [2, 1, 0] rfl)
      refine wq_if_le (tgt := 25) F (hr1) dX0_reached_16 (by decide) (fun c16 => ?_) (fun c16 => ?_)
      · refine wq_iconst F 0 dX0_reached_25 (by decide) ?_
        exact K26 (0) ((if_pos c16).symm) _ _ _ hP hD hS (lv_sub hl [0, 1, 2] rfl)
      · refine wq_iconst F 1 dX0_reached_19 (by decide) ?_
        refine lv_iload_n F.1 F.2.1 dX0_reached_20 rfl (lv_at hl 2 rfl) ?_
        refine wq_ishl1 F (by omega) dX0_reached_21 ?_
        refine lv_goto (tgt := 26) F.1 F.2.1 dX0_reached_22 (by decide) ?_
        exact K26 (2 ^ i) ((if_neg (Nat.ne_of_gt c16)).symm) _ _ _ hP hD hS (lv_sub hl [0, 1, 2] rfl)
  exact lp1 8 0 (by omega) _ _ _ hP hD hS (lv_sub hl [2, 1, 0] rfl)

set_option maxHeartbeats 4000000 in
set_option maxRecDepth 100000 in
/-- startsAt: no vertex -/
theorem cX_startsAt_no (l : Launch) (D : va_G) (q : Nat → Nat) (d : Nat → ClassId) (ec sz st kn : Nat) (nu ou iw ki la he be to : Nat → Nat) (v : Int32) (h : wq_isV v = 0) : CtI l D vwCl (tX d) yX0_startsAt cX0_startsAt 4 .int rmX0_startsAt [.ref (q 0), .int v] (wX q d ec sz st kn nu ou iw ki la he be to) (nI 0) (wX q d ec sz st kn nu ou iw ki la he be to) := by
  refine CtI.of RX0 rfl (by decide +kernel) (Nat.le_of_ble_eq_true rfl) ?_
  intro p e s m below meth c A ls F hr hlk hK hA hP hD hS hl
  have hl : lv_has ls 4 [(0, .ref (q 0)), (1, .int v)] := hl
  refine wq_iconst F 0 dX0_startsAt_0 (by decide) ?_
  refine lv_istore_n (lv' := [(2, .int (nI 0)), (0, .ref (q 0)), (1, .int v)]) F.1 F.2.1 dX0_startsAt_1 rfl hl (by decide) rfl (fun ls hl => ?_)
  refine wq_iconst F 0 dX0_startsAt_2 (by decide) ?_
  refine lv_istore_n (lv' := [(3, .int (nI 0)), (2, .int (nI 0)), (0, .ref (q 0)), (1, .int v)]) F.1 F.2.1 dX0_startsAt_3 rfl hl (by decide) rfl (fun ls hl => ?_)
  have lp1 : ∀ (n i : Nat), i + n = 8 → ∀ (H : Heap) (locs : List Loc) (ls : Array Slot), va_P D vwCl (wX q d ec sz st kn nu ou iw ki la he be to) H → va_D A (wX q d ec sz st kn nu ou iw ki la he be to) → va_S A s.heap H locs → lv_has ls 4 [(0, .ref (q 0)), (1, .int v), (2, .int (nI 0)), (3, .int (nI i))] → W p l e rmX0_startsAt s m [.ref (q 0), .int v].toArray below meth c H locs 0 0 (MQ below (wq_QI D vwCl (tX d) A (nI 0) (wX q d ec sz st kn nu ou iw ki la he be to)) [.ref (q 0), .int v].toArray s 0 0 A) (F0 m 4 ls []) := by
    intro n
    induction n with
    | zero =>
      intro i hi H locs ls hP hD hS hl
      have ei : 8 = i := by omega
      subst ei
      refine lv_iload_n F.1 F.2.1 dX0_startsAt_4 rfl (lv_at hl 3 rfl) ?_
      refine wq_bipush F 8 dX0_startsAt_5 (by decide) ?_
      refine wq_icmp_ge (tgt := 35) F (by omega) (by omega) dX0_startsAt_7 (by decide) (fun c7 => ?_) (fun c7 => False.elim (by omega))
      refine lv_iload_n F.1 F.2.1 dX0_startsAt_35 rfl (lv_at hl 2 rfl) ?_
      exact wq_iret F hr hlk (rfl) hK hP hD hS dX0_startsAt_36
    | succ n ihlp1 =>
      intro i hi H locs ls hP hD hS hl
      refine lv_iload_n F.1 F.2.1 dX0_startsAt_4 rfl (lv_at hl 3 rfl) ?_
      refine wq_bipush F 8 dX0_startsAt_5 (by decide) ?_
      refine wq_icmp_ge (tgt := 35) F (by omega) (by omega) dX0_startsAt_7 (by decide) (fun c7 => False.elim (by omega)) (fun c7 => ?_)
      refine lv_iload_n F.1 F.2.1 dX0_startsAt_10 rfl (lv_at hl 2 rfl) ?_
      refine lv_aload_n F.1 F.2.1 dX0_startsAt_11 rfl (lv_at hl 0 rfl) ?_
      refine lv_iload_n F.1 F.2.1 dX0_startsAt_12 rfl (lv_at hl 3 rfl) ?_
      refine lv_iload_n F.1 F.2.1 dX0_startsAt_13 rfl (lv_at hl 1 rfl) ?_
      refine wq_callIv F (rest := [.int (nI 0)]) (ci := 0) rfl rfl (cX_between_no l D q d ec sz st kn nu ou iw ki la he be to (nI i) v (Or.inr h)) (cwV 2 F.2.2.2.2 (lw_V q163 q151 q152 q18 q153) rfl rfl rfl (by decide +kernel) ⟨Nat.le_of_ble_eq_true rfl, Nat.le_of_ble_eq_true rfl⟩) rfl hK hP hD hS hA hl.1 rfl (Nat.le_of_ble_eq_true rfl) dX0_startsAt_14 ⟨Nat.zero_le _, Nat.zero_le _⟩ (fun H locs hP hD hS => ?_)
      refine wq_if_le (tgt := 26) F (by omega) dX0_startsAt_17 (by decide) (fun c17 => ?_) (fun c17 => False.elim (by omega))
      refine wq_iconst F 0 dX0_startsAt_26 (by decide) ?_
      refine wq_ior F dX0_startsAt_27 ?_
      refine wq_top (show nI (0 ||| 0) = nI 0 from rfl) ?_
      refine lv_istore_n (lv' := [(2, .int (nI 0)), (0, .ref (q 0)), (1, .int v), (3, .int (nI i))]) F.1 F.2.1 dX0_startsAt_28 rfl hl (by decide) rfl (fun ls hl => ?_)
      refine lv_iinc (v := nI (i + 1)) (lv' := [(3, .int (nI (i + 1))), (2, .int (nI 0)), (0, .ref (q 0)), (1, .int v)]) F.1 F.2.1 dX0_startsAt_29 hl (k := 3) rfl (wq_inc1 _) (by decide) rfl (fun ls hl => ?_)
      refine lv_goto (tgt := 4) F.1 F.2.1 dX0_startsAt_32 (by decide) ?_
      exact ihlp1 (i + 1) (by omega) _ _ _ hP hD hS (lv_sub hl [2, 3, 1, 0] rfl)
  exact lp1 8 0 (by omega) _ _ _ hP hD hS (lv_sub hl [2, 3, 1, 0] rfl)

set_option maxHeartbeats 4000000 in
set_option maxRecDepth 100000 in
/-- startsAt(v) -/
theorem cX_startsAt_ok (l : Launch) (D : va_G) (q : Nat → Nat) (d : Nat → ClassId) (ec sz st kn : Nat) (nu ou iw ki la he be to : Nat → Nat) (v : Nat) (ok : okX sz st kn nu ou iw ki la he be to) (hv : v < 8) (hR : ∀ j, j < 64 → (mX_walk nu ou iw ki la sz st (kn, he, be, to)).2.1 j < 2 ^ 31) : CtI l D vwCl (tX d) yX0_startsAt cX0_startsAt 4 .int rmX0_startsAt [.ref (q 0), .int (nI v)] (wX q d ec sz st kn nu ou iw ki la he be to) (nI (mX_startsAt nu ou iw ki la sz st v 8 (0, kn, he, be, to)).1) (wX q d ec sz st ((mX_startsAt nu ou iw ki la sz st v 8 (0, kn, he, be, to)).2.1) nu ou iw ki la ((mX_startsAt nu ou iw ki la sz st v 8 (0, kn, he, be, to)).2.2.1) ((mX_startsAt nu ou iw ki la sz st v 8 (0, kn, he, be, to)).2.2.2.1) ((mX_startsAt nu ou iw ki la sz st v 8 (0, kn, he, be, to)).2.2.2.2)) := by
  refine CtI.of RX0 rfl (by decide +kernel) (Nat.le_of_ble_eq_true rfl) ?_
  intro p e s m below meth c A ls F hr hlk hK hA hP hD hS hl
  have hl : lv_has ls 4 [(0, .ref (q 0)), (1, .int (nI v))] := hl
  refine wq_iconst F 0 dX0_startsAt_0 (by decide) ?_
  refine lv_istore_n (lv' := [(2, .int (nI 0)), (0, .ref (q 0)), (1, .int (nI v))]) F.1 F.2.1 dX0_startsAt_1 rfl hl (by decide) rfl (fun ls hl => ?_)
  refine wq_iconst F 0 dX0_startsAt_2 (by decide) ?_
  refine lv_istore_n (lv' := [(3, .int (nI 0)), (2, .int (nI 0)), (0, .ref (q 0)), (1, .int (nI v))]) F.1 F.2.1 dX0_startsAt_3 rfl hl (by decide) rfl (fun ls hl => ?_)
  have lp1 : ∀ (n i : Nat), i + n = 8 → ∀ (H : Heap) (locs : List Loc) (ls : Array Slot), va_P D vwCl (wX q d ec sz st ((mX_startsAt nu ou iw ki la sz st v i (0, kn, he, be, to)).2.1) nu ou iw ki la ((mX_startsAt nu ou iw ki la sz st v i (0, kn, he, be, to)).2.2.1) ((mX_startsAt nu ou iw ki la sz st v i (0, kn, he, be, to)).2.2.2.1) ((mX_startsAt nu ou iw ki la sz st v i (0, kn, he, be, to)).2.2.2.2)) H → va_D A (wX q d ec sz st ((mX_startsAt nu ou iw ki la sz st v i (0, kn, he, be, to)).2.1) nu ou iw ki la ((mX_startsAt nu ou iw ki la sz st v i (0, kn, he, be, to)).2.2.1) ((mX_startsAt nu ou iw ki la sz st v i (0, kn, he, be, to)).2.2.2.1) ((mX_startsAt nu ou iw ki la sz st v i (0, kn, he, be, to)).2.2.2.2)) → va_S A s.heap H locs → lv_has ls 4 [(0, .ref (q 0)), (1, .int (nI v)), (2, .int (nI ((mX_startsAt nu ou iw ki la sz st v i (0, kn, he, be, to)).1))), (3, .int (nI i))] → W p l e rmX0_startsAt s m [.ref (q 0), .int (nI v)].toArray below meth c H locs 0 0 (MQ below (wq_QI D vwCl (tX d) A (nI (mX_startsAt nu ou iw ki la sz st v 8 (0, kn, he, be, to)).1) (wX q d ec sz st ((mX_startsAt nu ou iw ki la sz st v 8 (0, kn, he, be, to)).2.1) nu ou iw ki la ((mX_startsAt nu ou iw ki la sz st v 8 (0, kn, he, be, to)).2.2.1) ((mX_startsAt nu ou iw ki la sz st v 8 (0, kn, he, be, to)).2.2.2.1) ((mX_startsAt nu ou iw ki la sz st v 8 (0, kn, he, be, to)).2.2.2.2))) [.ref (q 0), .int (nI v)].toArray s 0 0 A) (F0 m 4 ls []) := by
    intro n
    induction n with
    | zero =>
      intro i hi H locs ls hP hD hS hl
      have ei : 8 = i := by omega
      subst ei
      refine lv_iload_n F.1 F.2.1 dX0_startsAt_4 rfl (lv_at hl 3 rfl) ?_
      refine wq_bipush F 8 dX0_startsAt_5 (by decide) ?_
      refine wq_icmp_ge (tgt := 35) F (by omega) (by omega) dX0_startsAt_7 (by decide) (fun c7 => ?_) (fun c7 => False.elim (by omega))
      refine lv_iload_n F.1 F.2.1 dX0_startsAt_35 rfl (lv_at hl 2 rfl) ?_
      exact wq_iret F hr hlk (rfl) hK hP hD hS dX0_startsAt_36
    | succ n ihlp1 =>
      intro i hi H locs ls hP hD hS hl
      refine lv_iload_n F.1 F.2.1 dX0_startsAt_4 rfl (lv_at hl 3 rfl) ?_
      refine wq_bipush F 8 dX0_startsAt_5 (by decide) ?_
      refine wq_icmp_ge (tgt := 35) F (by omega) (by omega) dX0_startsAt_7 (by decide) (fun c7 => False.elim (by omega)) (fun c7 => ?_)
      refine lv_iload_n F.1 F.2.1 dX0_startsAt_10 rfl (lv_at hl 2 rfl) ?_
      refine lv_aload_n F.1 F.2.1 dX0_startsAt_11 rfl (lv_at hl 0 rfl) ?_
      refine lv_iload_n F.1 F.2.1 dX0_startsAt_12 rfl (lv_at hl 3 rfl) ?_
      refine lv_iload_n F.1 F.2.1 dX0_startsAt_13 rfl (lv_at hl 1 rfl) ?_
      refine wq_callIv F (rest := [.int (nI ((mX_startsAt nu ou iw ki la sz st v i (0, kn, he, be, to)).1))]) (ci := 0) rfl rfl (cX_between_ok l D q d ec sz st ((mX_startsAt nu ou iw ki la sz st v i (0, kn, he, be, to)).2.1) nu ou iw ki la ((mX_startsAt nu ou iw ki la sz st v i (0, kn, he, be, to)).2.2.1) ((mX_startsAt nu ou iw ki la sz st v i (0, kn, he, be, to)).2.2.2.1) ((mX_startsAt nu ou iw ki la sz st v i (0, kn, he, be, to)).2.2.2.2) i v (mX_startsAt_ok ok i) (by omega) hv) (cwV 2 F.2.2.2.2 (lw_V q163 q151 q152 q18 q153) rfl rfl rfl (by decide +kernel) ⟨Nat.le_of_ble_eq_true rfl, Nat.le_of_ble_eq_true rfl⟩) rfl hK hP hD hS hA hl.1 rfl (Nat.le_of_ble_eq_true rfl) dX0_startsAt_14 ⟨Nat.zero_le _, Nat.zero_le _⟩ (fun H locs hP hD hS => ?_)
      have hr1 : (mX_walk nu ou iw ki la sz st (mX_startsAt nu ou iw ki la sz st v i (0, kn, he, be, to)).2).2.1 (v * 8 + i) < 2 ^ 31 := by rw [mX_startsAt_w (x := (0, kn, he, be, to)) ok.1 i]; exact hR _ (by omega)
      have K27 : ∀ (x0 : Nat), x0 = (if (mX_walk nu ou iw ki la sz st (mX_startsAt nu ou iw ki la sz st v i (0, kn, he, be, to)).2).2.1 (v * 8 + i) = 0 then 0 else 2 ^ i) → ∀ (H : Heap) (locs : List Loc) (ls : Array Slot), va_P D vwCl (wX q d ec sz st ((mX_walk nu ou iw ki la sz st (mX_startsAt nu ou iw ki la sz st v i (0, kn, he, be, to)).2).1) nu ou iw ki la ((mX_walk nu ou iw ki la sz st (mX_startsAt nu ou iw ki la sz st v i (0, kn, he, be, to)).2).2.1) ((mX_walk nu ou iw ki la sz st (mX_startsAt nu ou iw ki la sz st v i (0, kn, he, be, to)).2).2.2.1) ((mX_walk nu ou iw ki la sz st (mX_startsAt nu ou iw ki la sz st v i (0, kn, he, be, to)).2).2.2.2)) H → va_D A (wX q d ec sz st ((mX_walk nu ou iw ki la sz st (mX_startsAt nu ou iw ki la sz st v i (0, kn, he, be, to)).2).1) nu ou iw ki la ((mX_walk nu ou iw ki la sz st (mX_startsAt nu ou iw ki la sz st v i (0, kn, he, be, to)).2).2.1) ((mX_walk nu ou iw ki la sz st (mX_startsAt nu ou iw ki la sz st v i (0, kn, he, be, to)).2).2.2.1) ((mX_walk nu ou iw ki la sz st (mX_startsAt nu ou iw ki la sz st v i (0, kn, he, be, to)).2).2.2.2)) → va_S A s.heap H locs → lv_has ls 4 [(0, .ref (q 0)), (1, .int (nI v)), (2, .int (nI ((mX_startsAt nu ou iw ki la sz st v i (0, kn, he, be, to)).1))), (3, .int (nI i))] → W p l e rmX0_startsAt s m [.ref (q 0), .int (nI v)].toArray below meth c H locs 0 0 (MQ below (wq_QI D vwCl (tX d) A (nI (mX_startsAt nu ou iw ki la sz st v 8 (0, kn, he, be, to)).1) (wX q d ec sz st ((mX_startsAt nu ou iw ki la sz st v 8 (0, kn, he, be, to)).2.1) nu ou iw ki la ((mX_startsAt nu ou iw ki la sz st v 8 (0, kn, he, be, to)).2.2.1) ((mX_startsAt nu ou iw ki la sz st v 8 (0, kn, he, be, to)).2.2.2.1) ((mX_startsAt nu ou iw ki la sz st v 8 (0, kn, he, be, to)).2.2.2.2))) [.ref (q 0), .int (nI v)].toArray s 0 0 A) (F0 m 27 ls [.int (nI x0), .int (nI ((mX_startsAt nu ou iw ki la sz st v i (0, kn, he, be, to)).1))]) := by
        intro x0 ex0 H locs ls hP hD hS hl
        subst ex0
        refine wq_ior F dX0_startsAt_27 ?_
        refine lv_istore_n (lv' := [(2, .int (nI (((mX_startsAt nu ou iw ki la sz st v i (0, kn, he, be, to)).1) ||| (if (mX_walk nu ou iw ki la sz st (mX_startsAt nu ou iw ki la sz st v i (0, kn, he, be, to)).2).2.1 (v * 8 + i) = 0 then 0 else 2 ^ i)))), (0, .ref (q 0)), (1, .int (nI v)), (3, .int (nI i))]) F.1 F.2.1 dX0_startsAt_28 rfl hl (by decide) rfl (fun ls hl => ?_)
        refine lv_iinc (v := nI (i + 1)) (lv' := [(3, .int (nI (i + 1))), (2, .int (nI (((mX_startsAt nu ou iw ki la sz st v i (0, kn, he, be, to)).1) ||| (if (mX_walk nu ou iw ki la sz st (mX_startsAt nu ou iw ki la sz st v i (0, kn, he, be, to)).2).2.1 (v * 8 + i) = 0 then 0 else 2 ^ i)))), (0, .ref (q 0)), (1, .int (nI v))]) F.1 F.2.1 dX0_startsAt_29 hl (k := 3) rfl (wq_inc1 _) (by decide) rfl (fun ls hl => ?_)
        refine lv_goto (tgt := 4) F.1 F.2.1 dX0_startsAt_32 (by decide) ?_
        exact ihlp1 (i + 1) (by omega) _ _ _ hP hD hS (lv_sub hl [2, 3, 1, 0] rfl)
      refine wq_if_le (tgt := 26) F (hr1) dX0_startsAt_17 (by decide) (fun c17 => ?_) (fun c17 => ?_)
      · refine wq_iconst F 0 dX0_startsAt_26 (by decide) ?_
        exact K27 (0) ((if_pos c17).symm) _ _ _ hP hD hS (lv_sub hl [0, 1, 2, 3] rfl)
      · refine wq_iconst F 1 dX0_startsAt_20 (by decide) ?_
        refine lv_iload_n F.1 F.2.1 dX0_startsAt_21 rfl (lv_at hl 3 rfl) ?_
        refine wq_ishl1 F (by omega) dX0_startsAt_22 ?_
        refine lv_goto (tgt := 27) F.1 F.2.1 dX0_startsAt_23 (by decide) ?_
        exact K27 (2 ^ i) ((if_neg (Nat.ne_of_gt c17)).symm) _ _ _ hP hD hS (lv_sub hl [0, 1, 2, 3] rfl)
  exact lp1 8 0 (by omega) _ _ _ hP hD hS (lv_sub hl [2, 3, 1, 0] rfl)

set_option maxHeartbeats 4000000 in
set_option maxRecDepth 100000 in
/-- diesAfter() -/
theorem cX_diesAfter (l : Launch) (D : va_G) (q : Nat → Nat) (d : Nat → ClassId) (ec sz st kn : Nat) (nu ou iw ki la he be to : Nat → Nat) (ok : okX sz st kn nu ou iw ki la he be to) (hT : ∀ k, k ≤ sz → (mX_walk nu ou iw ki la sz st (kn, he, be, to)).2.2.2 k < 2 ^ 31) : CtI l D vwCl (tX d) yX0_diesAfter cX0_diesAfter 2 .int rmX0_diesAfter [.ref (q 0)] (wX q d ec sz st kn nu ou iw ki la he be to) (mX_dies (mX_walk nu ou iw ki la sz st (kn, he, be, to)).2.2.2 (sz + 1) 0) (wX q d ec sz st ((mX_walk nu ou iw ki la sz st (kn, he, be, to)).1) nu ou iw ki la ((mX_walk nu ou iw ki la sz st (kn, he, be, to)).2.1) ((mX_walk nu ou iw ki la sz st (kn, he, be, to)).2.2.1) ((mX_walk nu ou iw ki la sz st (kn, he, be, to)).2.2.2)) := by
  refine CtI.of RX0 rfl (by decide +kernel) (Nat.le_of_ble_eq_true rfl) ?_
  intro p e s m below meth c A ls F hr hlk hK hA hP hD hS hl
  have hl : lv_has ls 2 [(0, .ref (q 0))] := hl
  obtain ⟨hkn, hsz, hst, hnu, hou, hiw, hki, hla, hB⟩ := id ok
  refine lv_aload_n F.1 F.2.1 dX0_diesAfter_0 rfl (lv_at hl 0 rfl) ?_
  refine wq_callVv F (rest := []) (ci := 0) rfl rfl (cX_walk l D q d ec sz st kn nu ou iw ki la he be to ok) (cwV 0 F.2.2.2.2 (lw_V q110 q112 qs2 q18 q113) rfl rfl rfl (by decide +kernel) ⟨Nat.le_of_ble_eq_true rfl, Nat.le_of_ble_eq_true rfl⟩) rfl hK hP hD hS hA hl.1 rfl (Nat.le_of_ble_eq_true rfl) dX0_diesAfter_1 ⟨Nat.zero_le _, Nat.zero_le _⟩ (fun H locs hP hD hS => ?_)
  refine wq_iconst F 0 dX0_diesAfter_4 (by decide) ?_
  refine lv_istore_n (lv' := [(1, .int (nI 0)), (0, .ref (q 0))]) F.1 F.2.1 dX0_diesAfter_5 rfl hl (by decide) rfl (fun ls hl => ?_)
  have lp1 : ∀ (n i : Nat), i + n = sz + 1 → mX_dies (mX_walk nu ou iw ki la sz st (kn, he, be, to)).2.2.2 n i = mX_dies (mX_walk nu ou iw ki la sz st (kn, he, be, to)).2.2.2 (sz + 1) 0 → ∀ (H : Heap) (locs : List Loc) (ls : Array Slot), va_P D vwCl (wX q d ec sz st ((mX_walk nu ou iw ki la sz st (kn, he, be, to)).1) nu ou iw ki la ((mX_walk nu ou iw ki la sz st (kn, he, be, to)).2.1) ((mX_walk nu ou iw ki la sz st (kn, he, be, to)).2.2.1) ((mX_walk nu ou iw ki la sz st (kn, he, be, to)).2.2.2)) H → va_D A (wX q d ec sz st ((mX_walk nu ou iw ki la sz st (kn, he, be, to)).1) nu ou iw ki la ((mX_walk nu ou iw ki la sz st (kn, he, be, to)).2.1) ((mX_walk nu ou iw ki la sz st (kn, he, be, to)).2.2.1) ((mX_walk nu ou iw ki la sz st (kn, he, be, to)).2.2.2)) → va_S A s.heap H locs → lv_has ls 2 [(0, .ref (q 0)), (1, .int (nI i))] → W p l e rmX0_diesAfter s m [.ref (q 0)].toArray below meth c H locs 0 0 (MQ below (wq_QI D vwCl (tX d) A (mX_dies (mX_walk nu ou iw ki la sz st (kn, he, be, to)).2.2.2 (sz + 1) 0) (wX q d ec sz st ((mX_walk nu ou iw ki la sz st (kn, he, be, to)).1) nu ou iw ki la ((mX_walk nu ou iw ki la sz st (kn, he, be, to)).2.1) ((mX_walk nu ou iw ki la sz st (kn, he, be, to)).2.2.1) ((mX_walk nu ou iw ki la sz st (kn, he, be, to)).2.2.2))) [.ref (q 0)].toArray s 0 0 A) (F0 m 6 ls []) := by
    intro n
    induction n with
    | zero =>
      intro i hi hx H locs ls hP hD hS hl
      have ei : sz + 1 = i := by omega
      subst ei
      refine lv_iload_n F.1 F.2.1 dX0_diesAfter_6 rfl (lv_at hl 1 rfl) ?_
      refine lv_aload_n F.1 F.2.1 dX0_diesAfter_7 rfl (lv_at hl 0 rfl) ?_
      refine gX0 F hK hP rfl 6 (by decide) q34 rfl (v := .int (nI sz)) rfl dX0_diesAfter_8 ?_
      refine wq_icmp_gt (tgt := 31) F (by omega) (by omega) dX0_diesAfter_11 (by decide) (fun c11 => ?_) (fun c11 => False.elim (by omega))
      refine lv_iconst (v := -1) F.1 F.2.1 dX0_diesAfter_31 (by decide) ?_
      exact wq_iret F hr hlk (hx) hK hP hD hS dX0_diesAfter_32
    | succ n ihlp1 =>
      intro i hi hx H locs ls hP hD hS hl
      refine lv_iload_n F.1 F.2.1 dX0_diesAfter_6 rfl (lv_at hl 1 rfl) ?_
      refine lv_aload_n F.1 F.2.1 dX0_diesAfter_7 rfl (lv_at hl 0 rfl) ?_
      refine gX0 F hK hP rfl 6 (by decide) q34 rfl (v := .int (nI sz)) rfl dX0_diesAfter_8 ?_
      refine wq_icmp_gt (tgt := 31) F (by omega) (by omega) dX0_diesAfter_11 (by decide) (fun c11 => False.elim (by omega)) (fun c11 => ?_)
      refine lv_aload_n F.1 F.2.1 dX0_diesAfter_14 rfl (lv_at hl 0 rfl) ?_
      refine gX0 F hK hP rfl 11 (by decide) q39 rfl (v := .ref (q 8)) rfl dX0_diesAfter_15 ?_
      refine lv_iload_n F.1 F.2.1 dX0_diesAfter_18 rfl (lv_at hl 1 rfl) ?_
      refine wq_iald F hK hP 8 7 rfl rfl (by omega) (by decide) dX0_diesAfter_19 ?_
      have ht1 := hT i (by omega)
      refine wq_if_ne (tgt := 25) F (by omega) dX0_diesAfter_20 (by decide) (fun c20 => ?_) (fun c20 => ?_)
      · refine lv_iinc (v := nI (i + 1)) (lv' := [(1, .int (nI (i + 1))), (0, .ref (q 0))]) F.1 F.2.1 dX0_diesAfter_25 hl (k := 1) rfl (wq_inc1 _) (by decide) rfl (fun ls hl => ?_)
        refine lv_goto (tgt := 6) F.1 F.2.1 dX0_diesAfter_28 (by decide) ?_
        exact ihlp1 (i + 1) (by omega) (by rw [← hx, mX_dies, if_neg c20]) _ _ _ hP hD hS (lv_sub hl [1, 0] rfl)
      · refine lv_iload_n F.1 F.2.1 dX0_diesAfter_23 rfl (lv_at hl 1 rfl) ?_
        exact wq_iret F hr hlk (by rw [← hx, mX_dies, if_pos c20]) hK hP hD hS dX0_diesAfter_24
  exact lp1 (sz + 1) 0 (by omega) rfl _ _ _ hP hD hS (lv_sub hl [1, 0] rfl)
end
section
/-! contracts of WalkerPlanModel -/
set_option maxRecDepth 100000
abbrev rmX1_vertex : Room := { frames := 0, cells := 0, slots := 0, locals := 0 }
abbrev rmX1_mark : Room := { frames := 1, cells := 0, slots := 0, locals := 21 }
abbrev rmX1_find : Room := { frames := 0, cells := 0, slots := 0, locals := 0 }
abbrev rmX1_join : Room := { frames := 1, cells := 0, slots := 0, locals := 24 }
abbrev rmX1_cut : Room := { frames := 1, cells := 0, slots := 0, locals := 24 }
abbrev rmX1_add : Room := { frames := 0, cells := 0, slots := 0, locals := 0 }
abbrev rmX1_drop : Room := { frames := 0, cells := 0, slots := 0, locals := 0 }
abbrev rmX1_from : Room := { frames := 0, cells := 0, slots := 0, locals := 0 }
abbrev rmX1_send : Room := { frames := 0, cells := 0, slots := 0, locals := 0 }
abbrev rmX1_lesser : Room := { frames := 0, cells := 0, slots := 0, locals := 0 }
abbrev rmX1_step : Room := { frames := 1, cells := 0, slots := 0, locals := 28 }
abbrev rmX1_once : Room := { frames := 2, cells := 0, slots := 0, locals := 54 }
abbrev rmX1_walk : Room := { frames := 3, cells := 0, slots := 0, locals := 77 }
abbrev rmX1_at : Room := { frames := 4, cells := 0, slots := 0, locals := 99 }
abbrev rmX1_after : Room := { frames := 4, cells := 0, slots := 0, locals := 99 }
abbrev rmX1_walkers : Room := { frames := 5, cells := 0, slots := 0, locals := 122 }
abbrev rmX1_between : Room := { frames := 4, cells := 0, slots := 0, locals := 99 }
abbrev rmX1_reached : Room := { frames := 4, cells := 0, slots := 0, locals := 99 }
abbrev rmX1_startsAt : Room := { frames := 4, cells := 0, slots := 0, locals := 99 }
abbrev rmX1_diesAfter : Room := { frames := 5, cells := 0, slots := 0, locals := 122 }
abbrev rmX1_edges : Room := { frames := 0, cells := 0, slots := 0, locals := 0 }
theorem wq_isE_nz {a b j : Int32} (h1 : ¬ wq_isV a = 0) (h2 : ¬ wq_isV b = 0) (h3 : ¬ a.toInt = b.toInt) (h4 : j.toInt = 0 ∨ j.toInt = 1) : ¬ wq_isE a b j = 0 := by
  rw [wq_isV_0] at h1 h2
  unfold wq_isE
  rw [if_pos (by omega)]
  decide
theorem wq_narz {x : Nat} (h : x ≤ 1) : narrow .boolean (.int (nI x)) = .int (nI x) := by
  have : x = 0 ∨ x = 1 := by omega
  rcases this with rfl | rfl <;> rfl
theorem mY_s1_z {f o a v k x : Nat} {y : Nat × (Nat → Nat)} (h : ¬ ((¬ f = 0 ∧ ¬ o = 0) ∧ a = v)) : y = mY_s1 f o a v k x y := by unfold mY_s1; rw [if_neg h]
theorem mY_s1_o {f o a v k x : Nat} {y : Nat × (Nat → Nat)} (h : (¬ f = 0 ∧ ¬ o = 0) ∧ a = v) : (y.1 + 1, wq_up y.2 k (y.2 k + x)) = mY_s1 f o a v k x y := by unfold mY_s1; rw [if_pos h]
theorem mY_s1_le {f o a v k x : Nat} {y : Nat × (Nat → Nat)} : (mY_s1 f o a v k x y).1 ≤ y.1 + 1 := by
  unfold mY_s1
  split
  · exact Nat.le_refl _
  · omega
theorem mY_fits_lt {lb : Nat → Nat} {j : Int32} {e : Nat} : mY_fits lb j e < 2 ^ 31 := wq_b01
theorem mY_send_le (bg en lb nw : Nat → Nat) (s v : Nat) (j : Int32) (o i : Nat) (th : Nat → Nat) : ∀ n, (mY_send bg en lb nw s v j o i n (0, th)).1 ≤ 2 * n
  | 0 => Nat.zero_le _
  | n + 1 => by
    have h1 := mY_send_le bg en lb nw s v j o i th n
    refine Nat.le_trans mY_s1_le (Nat.le_trans (Nat.add_le_add_right mY_s1_le 1) ?_)
    show (mY_send bg en lb nw s v j o i n (0, th)).1 + 1 + 1 ≤ 2 * (n + 1)
    omega
theorem mY_les_le (nw : Nat → Nat) (v : Nat) : ∀ n, wq_it (fun r f => if f = 0 ∧ nw (8 * r + v) = 0 then 0 else 1) n 0 ≤ 1
  | 0 => Nat.zero_le _
  | n + 1 => by
    show (if wq_it (fun r f => if f = 0 ∧ nw (8 * r + v) = 0 then 0 else 1) n 0 = 0 ∧ nw (8 * n + v) = 0 then 0 else 1) ≤ 1
    split <;> decide
theorem mY_out_le {kind : Nat} : mY_out kind ≤ 1 := by unfold mY_out; split <;> decide
theorem mY_in_le {kind : Nat} : mY_in kind ≤ 1 := by unfold mY_in; split <;> decide
theorem mY_b0_z {st c : Nat} (h : ¬ c / 8 = c % 8 ∨ ¬ st / 2 ^ (c / 8) % 2 = 1) : 0 = mY_b0 st c := by unfold mY_b0; rw [if_neg (by omega)]
theorem mY_b0_o {st c : Nat} (h : c / 8 = c % 8) (h2 : st / 2 ^ (c / 8) % 2 = 1) : 1 = mY_b0 st c := by unfold mY_b0; rw [if_pos ⟨h, h2⟩]
section
variable {ma bg en lb nw th : Nat → Nat} {sz kind s v : Nat} {x : Int32}
theorem mY_step_mz (h : kind ≤ 3) (c : ¬ (kind = 3 ∧ (mY_send bg en lb nw s v x (mY_out kind) (mY_in kind) sz (0, th)).1 = 0)) : (mY_send bg en lb nw s v x (mY_out kind) (mY_in kind) sz (0, th)).2 = mY_step ma bg en lb nw sz kind x s v th := by
  unfold mY_step
  rw [if_pos h]
  unfold mY_mv
  rw [if_neg c]
theorem mY_step_mo (h : kind ≤ 3) (c : kind = 3 ∧ (mY_send bg en lb nw s v x (mY_out kind) (mY_in kind) sz (0, th)).1 = 0) : wq_up (mY_send bg en lb nw s v x (mY_out kind) (mY_in kind) sz (0, th)).2 (8 * s + v) ((mY_send bg en lb nw s v x (mY_out kind) (mY_in kind) sz (0, th)).2 (8 * s + v) + nw (8 * s + v)) = mY_step ma bg en lb nw sz kind x s v th := by
  unfold mY_step
  rw [if_pos h]
  unfold mY_mv
  rw [if_pos c]
theorem mY_step_7 (h : kind = 7) : wq_up th (8 * s + v) (if 0 < nw (8 * s + v) ∧ mY_lesser nw s v = 0 then 1 else 0) = mY_step ma bg en lb nw sz kind x s v th := by
  unfold mY_step
  rw [if_neg (show ¬ kind ≤ 3 by omega), if_pos h]
theorem mY_step_y (h3 : 3 < kind) (h7 : ¬ kind = 7) (c : (kind = 4 ∧ x.toInt ≤ (ma v : Int)) ∨ (¬ kind = 4 ∧ ((kind = 5 ∧ ¬ s = v) ∨ (¬ kind = 5 ∧ s = v)))) : wq_up th (8 * s + v) (nw (8 * s + v)) = mY_step ma bg en lb nw sz kind x s v th := by
  unfold mY_step
  rw [if_neg (by omega), if_neg h7, if_pos c]
theorem mY_step_n (h3 : 3 < kind) (h7 : ¬ kind = 7) (c : ¬ ((kind = 4 ∧ x.toInt ≤ (ma v : Int)) ∨ (¬ kind = 4 ∧ ((kind = 5 ∧ ¬ s = v) ∨ (¬ kind = 5 ∧ s = v))))) : th = mY_step ma bg en lb nw sz kind x s v th := by
  unfold mY_step
  rw [if_neg (by omega), if_neg h7, if_neg c]
end
/-- what the fields keep -/
def okY (sz sp st : Nat) (ma bg en lb ki : Nat → Nat) (nm : Nat → Int32) : Prop := sz ≤ 10 ∧ sp ≤ 6 ∧ st < 256 ∧ (∀ k, ma k < 128) ∧ (∀ k, bg k < 8) ∧ (∀ k, en k < 8) ∧ (∀ k, lb k < 2) ∧ (∀ k, ki k ≤ 7) ∧ (∀ x i, i ≤ sp → ∀ j, j < 64 → (mY_walk ma bg en lb ki nm sz st i x).1 j < 2 ^ 31) ∧ (∀ x i, i ≤ sp → mY_total (mY_walk ma bg en lb ki nm sz st i x).1 < 2 ^ 31)

set_option maxHeartbeats 4000000 in
set_option maxRecDepth 100000 in
/-- vertex(x) -/
theorem cY_vertex (l : Launch) (D : va_G) (q : Nat → Nat) (d : Nat → ClassId) (sz sp st : Nat) (ma bg en lb ki : Nat → Nat) (nm : Nat → Int32) (nw th : Nat → Nat) (x : Int32)  : CtI l D vwCl (tY d) yX1_vertex cX1_vertex 2 .boolean rmX1_vertex [.ref (q 0), .int x] (wY q d sz sp st ma bg en lb ki nm nw th) (nI (wq_isV x)) (wY q d sz sp st ma bg en lb ki nm nw th) := by
  refine CtI.of RX1 rfl (by decide +kernel) (Nat.le_of_ble_eq_true rfl) ?_
  intro p e s m below meth c A ls F hr hlk hK hA hP hD hS hl
  have hl : lv_has ls 2 [(0, .ref (q 0)), (1, .int x)] := hl
  refine lv_iload_n F.1 F.2.1 dX1_vertex_0 rfl (lv_at hl 1 rfl) ?_
  refine wr_if_lt (tgt := 14) F dX1_vertex_1 (by decide) (fun c1 => ?_) (fun c1 => ?_)
  · refine wq_iconst F 0 dX1_vertex_14 (by decide) ?_
    exact wq_zret F hr hlk rfl (by unfold wq_isV; rw [if_neg (by omega)]) hK hP hD hS dX1_vertex_15
  · refine lv_iload_n F.1 F.2.1 dX1_vertex_4 rfl (lv_at hl 1 rfl) ?_
    refine wq_bipush F 7 dX1_vertex_5 (by decide) ?_
    refine wr_icmp_gt (tgt := 14) F (rfl) (show (nI 7).toInt = (7 : Int) by decide) dX1_vertex_7 (by decide) (fun c7 => ?_) (fun c7 => ?_)
    · refine wq_iconst F 0 dX1_vertex_14 (by decide) ?_
      exact wq_zret F hr hlk rfl (by unfold wq_isV; rw [if_neg (by omega)]) hK hP hD hS dX1_vertex_15
    · refine wq_iconst F 1 dX1_vertex_10 (by decide) ?_
      refine lv_goto (tgt := 15) F.1 F.2.1 dX1_vertex_11 (by decide) ?_
      exact wq_zret F hr hlk rfl (by unfold wq_isV; rw [if_pos (by omega)]) hK hP hD hS dX1_vertex_15

set_option maxHeartbeats 4000000 in
set_option maxRecDepth 100000 in
/-- mark: no -/
theorem cY_mark_no (l : Launch) (D : va_G) (q : Nat → Nat) (d : Nat → ClassId) (sz sp st : Nat) (ma bg en lb ki : Nat → Nat) (nm : Nat → Int32) (nw th : Nat → Nat) (v k : Int32) (h : wq_isV v = 0 ∨ k.toInt < 0 ∨ 9 < k.toInt) : CtI l D vwCl (tY d) yX1_mark cX1_mark 3 .boolean rmX1_mark [.ref (q 0), .int v, .int k] (wY q d sz sp st ma bg en lb ki nm nw th) (nI 0) (wY q d sz sp st ma bg en lb ki nm nw th) := by
  refine CtI.of RX1 rfl (by decide +kernel) (Nat.le_of_ble_eq_true rfl) ?_
  intro p e s m below meth c A ls F hr hlk hK hA hP hD hS hl
  have hl : lv_has ls 3 [(0, .ref (q 0)), (1, .int v), (2, .int k)] := hl
  refine lv_aload_n F.1 F.2.1 dX1_mark_0 rfl (lv_at hl 0 rfl) ?_
  refine lv_iload_n F.1 F.2.1 dX1_mark_1 rfl (lv_at hl 1 rfl) ?_
  refine wq_callIv F (rest := []) (ci := 1) rfl rfl (cY_vertex l D q d sz sp st ma bg en lb ki nm nw th (v)) (cwV 1 F.2.2.2.2 (lw_V q216 q218 qs10 q19 q219) rfl rfl rfl (by decide +kernel) ⟨Nat.le_of_ble_eq_true rfl, Nat.le_of_ble_eq_true rfl⟩) rfl hK hP hD hS hA hl.1 rfl (Nat.le_of_ble_eq_true rfl) dX1_mark_2 ⟨Nat.zero_le _, Nat.zero_le _⟩ (fun H locs hP hD hS => ?_)
  refine wq_if_eq (tgt := 18) F (wq_isV_lt _) dX1_mark_5 (by decide) (fun c5 => ?_) (fun c5 => ?_)
  · refine wq_iconst F 0 dX1_mark_18 (by decide) ?_
    exact wq_zret F hr hlk rfl (rfl) hK hP hD hS dX1_mark_19
  · refine lv_iload_n F.1 F.2.1 dX1_mark_8 rfl (lv_at hl 2 rfl) ?_
    refine wr_if_lt (tgt := 18) F dX1_mark_9 (by decide) (fun c9 => ?_) (fun c9 => ?_)
    · refine wq_iconst F 0 dX1_mark_18 (by decide) ?_
      exact wq_zret F hr hlk rfl (rfl) hK hP hD hS dX1_mark_19
    · refine lv_iload_n F.1 F.2.1 dX1_mark_12 rfl (lv_at hl 2 rfl) ?_
      refine wq_bipush F 9 dX1_mark_13 (by decide) ?_
      refine wr_icmp_le (tgt := 20) F (rfl) (show (nI 9).toInt = (9 : Int) by decide) dX1_mark_15 (by decide) (fun c15 => False.elim (by omega)) (fun c15 => ?_)
      refine wq_iconst F 0 dX1_mark_18 (by decide) ?_
      exact wq_zret F hr hlk rfl (rfl) hK hP hD hS dX1_mark_19

set_option maxHeartbeats 4000000 in
set_option maxRecDepth 100000 in
/-- mark: done -/
theorem cY_mark_ok (l : Launch) (D : va_G) (q : Nat → Nat) (d : Nat → ClassId) (sz sp st : Nat) (ma bg en lb ki : Nat → Nat) (nm : Nat → Int32) (nw th : Nat → Nat) (v k : Nat) (hv : v < 8) (hk : k ≤ 9) : CtI l D vwCl (tY d) yX1_mark cX1_mark 3 .boolean rmX1_mark [.ref (q 0), .int (nI v), .int (nI k)] (wY q d sz sp st ma bg en lb ki nm nw th) (nI 1) (wY q d sz sp st (wq_up ma v k) bg en lb ki nm nw th) := by
  refine CtI.of RX1 rfl (by decide +kernel) (Nat.le_of_ble_eq_true rfl) ?_
  intro p e s m below meth c A ls F hr hlk hK hA hP hD hS hl
  have hl : lv_has ls 3 [(0, .ref (q 0)), (1, .int (nI v)), (2, .int (nI k))] := hl
  refine lv_aload_n F.1 F.2.1 dX1_mark_0 rfl (lv_at hl 0 rfl) ?_
  refine lv_iload_n F.1 F.2.1 dX1_mark_1 rfl (lv_at hl 1 rfl) ?_
  refine wq_callIv F (rest := []) (ci := 1) rfl rfl (cY_vertex l D q d sz sp st ma bg en lb ki nm nw th ((nI v))) (cwV 1 F.2.2.2.2 (lw_V q216 q218 qs10 q19 q219) rfl rfl rfl (by decide +kernel) ⟨Nat.le_of_ble_eq_true rfl, Nat.le_of_ble_eq_true rfl⟩) rfl hK hP hD hS hA hl.1 rfl (Nat.le_of_ble_eq_true rfl) dX1_mark_2 ⟨Nat.zero_le _, Nat.zero_le _⟩ (fun H locs hP hD hS => ?_)
  have he1 := wq_isV_n hv
  refine wq_if_eq (tgt := 18) F (wq_isV_lt _) dX1_mark_5 (by decide) (fun c5 => False.elim (by omega)) (fun c5 => ?_)
  refine lv_iload_n F.1 F.2.1 dX1_mark_8 rfl (lv_at hl 2 rfl) ?_
  refine wq_if_lt (tgt := 18) F (by omega) dX1_mark_9 (by decide) (fun c9 => False.elim (c9)) (fun c9 => ?_)
  refine lv_iload_n F.1 F.2.1 dX1_mark_12 rfl (lv_at hl 2 rfl) ?_
  refine wq_bipush F 9 dX1_mark_13 (by decide) ?_
  refine wq_icmp_le (tgt := 20) F (by omega) (by omega) dX1_mark_15 (by decide) (fun c15 => ?_) (fun c15 => False.elim (by omega))
  refine lv_aload_n F.1 F.2.1 dX1_mark_20 rfl (lv_at hl 0 rfl) ?_
  refine gX1 F hK hP rfl 0 (by decide) q178 rfl (v := .ref (q 1)) rfl dX1_mark_21 ?_
  refine lv_iload_n F.1 F.2.1 dX1_mark_24 rfl (lv_at hl 1 rfl) ?_
  refine lv_iload_n F.1 F.2.1 dX1_mark_25 rfl (lv_at hl 2 rfl) ?_
  refine wq_iast F hK hP hD hS 1 0 rfl rfl (by omega) (by decide) dX1_mark_26 (ws' := wY q d sz sp st (wq_up ma v k) bg en lb ki nm nw th) rfl (fun H locs hP hD hS => ?_)
  refine wq_iconst F 1 dX1_mark_27 (by decide) ?_
  exact wq_zret F hr hlk rfl (rfl) hK hP hD hS dX1_mark_28

set_option maxHeartbeats 4000000 in
set_option maxRecDepth 100000 in
/-- find(a, b, j) -/
theorem cY_find (l : Launch) (D : va_G) (q : Nat → Nat) (d : Nat → ClassId) (sz sp st : Nat) (ma bg en lb ki : Nat → Nat) (nm : Nat → Int32) (nw th : Nat → Nat) (a b j : Int32) (hsz : sz ≤ 10) (hbg : ∀ k, bg k < 8) (hen : ∀ k, en k < 8) (hlb : ∀ k, lb k < 2) : CtI l D vwCl (tY d) yX1_find cX1_find 5 .int rmX1_find [.ref (q 0), .int a, .int b, .int j] (wY q d sz sp st ma bg en lb ki nm nw th) (mY_find bg en lb a b j sz 0) (wY q d sz sp st ma bg en lb ki nm nw th) := by
  refine CtI.of RX1 rfl (by decide +kernel) (Nat.le_of_ble_eq_true rfl) ?_
  intro p e s m below meth c A ls F hr hlk hK hA hP hD hS hl
  have hl : lv_has ls 5 [(0, .ref (q 0)), (1, .int a), (2, .int b), (3, .int j)] := hl
  refine wq_iconst F 0 dX1_find_0 (by decide) ?_
  refine lv_istore (lv' := [(4, .int (nI 0)), (0, .ref (q 0)), (1, .int a), (2, .int b), (3, .int j)]) F.1 F.2.1 dX1_find_1 hl (by decide) rfl (fun ls hl => ?_)
  have lp1 : ∀ (n i : Nat), i + n = sz → mY_find bg en lb a b j n i = mY_find bg en lb a b j sz 0 → ∀ (H : Heap) (locs : List Loc) (ls : Array Slot), va_P D vwCl (wY q d sz sp st ma bg en lb ki nm nw th) H → va_D A (wY q d sz sp st ma bg en lb ki nm nw th) → va_S A s.heap H locs → lv_has ls 5 [(0, .ref (q 0)), (1, .int a), (2, .int b), (3, .int j), (4, .int (nI i))] → W p l e rmX1_find s m [.ref (q 0), .int a, .int b, .int j].toArray below meth c H locs 0 0 (MQ below (wq_QI D vwCl (tY d) A (mY_find bg en lb a b j sz 0) (wY q d sz sp st ma bg en lb ki nm nw th)) [.ref (q 0), .int a, .int b, .int j].toArray s 0 0 A) (F0 m 3 ls []) := by
    intro n
    induction n with
    | zero =>
      intro i hi hx H locs ls hP hD hS hl
      have ei : sz = i := by omega
      subst ei
      refine lv_iload F.1 F.2.1 dX1_find_3 (lv_at hl 4 rfl) ?_
      refine lv_aload_n F.1 F.2.1 dX1_find_5 rfl (lv_at hl 0 rfl) ?_
      refine gX1 F hK hP rfl 1 (by decide) q179 rfl (v := .int (nI sz)) rfl dX1_find_6 ?_
      refine wq_icmp_ge (tgt := 54) F (by omega) (by omega) dX1_find_9 (by decide) (fun c9 => ?_) (fun c9 => False.elim (by omega))
      refine lv_iconst (v := -1) F.1 F.2.1 dX1_find_54 (by decide) ?_
      exact wq_iret F hr hlk (hx) hK hP hD hS dX1_find_55
    | succ n ihlp1 =>
      intro i hi hx H locs ls hP hD hS hl
      refine lv_iload F.1 F.2.1 dX1_find_3 (lv_at hl 4 rfl) ?_
      refine lv_aload_n F.1 F.2.1 dX1_find_5 rfl (lv_at hl 0 rfl) ?_
      refine gX1 F hK hP rfl 1 (by decide) q179 rfl (v := .int (nI sz)) rfl dX1_find_6 ?_
      refine wq_icmp_ge (tgt := 54) F (by omega) (by omega) dX1_find_9 (by decide) (fun c9 => False.elim (by omega)) (fun c9 => ?_)
      have h1 := hbg i
      have h2 := hen i
      have h3 := hlb i
      refine lv_aload_n F.1 F.2.1 dX1_find_12 rfl (lv_at hl 0 rfl) ?_
      refine gX1 F hK hP rfl 2 (by decide) q180 rfl (v := .ref (q 2)) rfl dX1_find_13 ?_
      refine lv_iload F.1 F.2.1 dX1_find_16 (lv_at hl 4 rfl) ?_
      refine wq_iald F hK hP 2 1 rfl rfl (by omega) (by decide) dX1_find_18 ?_
      refine lv_iload_n F.1 F.2.1 dX1_find_19 rfl (lv_at hl 1 rfl) ?_
      refine wr_icmp_ne (tgt := 48) F (nI_toInt (by omega)) (rfl) dX1_find_20 (by decide) (fun c20 => ?_) (fun c20 => ?_)
      · refine lv_iinc (v := nI (i + 1)) (lv' := [(4, .int (nI (i + 1))), (0, .ref (q 0)), (1, .int a), (2, .int b), (3, .int j)]) F.1 F.2.1 dX1_find_48 hl (k := 4) rfl (wq_inc1 _) (by decide) rfl (fun ls hl => ?_)
        refine lv_goto (tgt := 3) F.1 F.2.1 dX1_find_51 (by decide) ?_
        exact ihlp1 (i + 1) (by omega) (by rw [← hx, mY_find, if_neg (by omega)]) _ _ _ hP hD hS (lv_sub hl [1, 2, 3, 4, 0] rfl)
      · refine lv_aload_n F.1 F.2.1 dX1_find_23 rfl (lv_at hl 0 rfl) ?_
        refine gX1 F hK hP rfl 3 (by decide) q181 rfl (v := .ref (q 3)) rfl dX1_find_24 ?_
        refine lv_iload F.1 F.2.1 dX1_find_27 (lv_at hl 4 rfl) ?_
        refine wq_iald F hK hP 3 2 rfl rfl (by omega) (by decide) dX1_find_29 ?_
        refine lv_iload_n F.1 F.2.1 dX1_find_30 rfl (lv_at hl 2 rfl) ?_
        refine wr_icmp_ne (tgt := 48) F (nI_toInt (by omega)) (rfl) dX1_find_31 (by decide) (fun c31 => ?_) (fun c31 => ?_)
        · refine lv_iinc (v := nI (i + 1)) (lv' := [(4, .int (nI (i + 1))), (0, .ref (q 0)), (1, .int a), (2, .int b), (3, .int j)]) F.1 F.2.1 dX1_find_48 hl (k := 4) rfl (wq_inc1 _) (by decide) rfl (fun ls hl => ?_)
          refine lv_goto (tgt := 3) F.1 F.2.1 dX1_find_51 (by decide) ?_
          exact ihlp1 (i + 1) (by omega) (by rw [← hx, mY_find, if_neg (by omega)]) _ _ _ hP hD hS (lv_sub hl [1, 2, 3, 4, 0] rfl)
        · refine lv_aload_n F.1 F.2.1 dX1_find_34 rfl (lv_at hl 0 rfl) ?_
          refine gX1 F hK hP rfl 4 (by decide) q182 rfl (v := .ref (q 4)) rfl dX1_find_35 ?_
          refine lv_iload F.1 F.2.1 dX1_find_38 (lv_at hl 4 rfl) ?_
          refine wq_iald F hK hP 4 3 rfl rfl (by omega) (by decide) dX1_find_40 ?_
          refine lv_iload_n F.1 F.2.1 dX1_find_41 rfl (lv_at hl 3 rfl) ?_
          refine wr_icmp_ne (tgt := 48) F (nI_toInt (by omega)) (rfl) dX1_find_42 (by decide) (fun c42 => ?_) (fun c42 => ?_)
          · refine lv_iinc (v := nI (i + 1)) (lv' := [(4, .int (nI (i + 1))), (0, .ref (q 0)), (1, .int a), (2, .int b), (3, .int j)]) F.1 F.2.1 dX1_find_48 hl (k := 4) rfl (wq_inc1 _) (by decide) rfl (fun ls hl => ?_)
            refine lv_goto (tgt := 3) F.1 F.2.1 dX1_find_51 (by decide) ?_
            exact ihlp1 (i + 1) (by omega) (by rw [← hx, mY_find, if_neg (by omega)]) _ _ _ hP hD hS (lv_sub hl [1, 2, 3, 4, 0] rfl)
          · refine lv_iload F.1 F.2.1 dX1_find_45 (lv_at hl 4 rfl) ?_
            exact wq_iret F hr hlk (by rw [← hx, mY_find, if_pos (by omega)]) hK hP hD hS dX1_find_47
  exact lp1 sz 0 (by omega) rfl _ _ _ hP hD hS (lv_sub hl [1, 2, 3, 4, 0] rfl)

set_option maxHeartbeats 4000000 in
set_option maxRecDepth 100000 in
/-- join: no edge -/
theorem cY_join_no (l : Launch) (D : va_G) (q : Nat → Nat) (d : Nat → ClassId) (sz sp st : Nat) (ma bg en lb ki : Nat → Nat) (nm : Nat → Int32) (nw th : Nat → Nat) (a b j : Int32) (h : wq_isE a b j = 0) : CtI l D vwCl (tY d) yX1_join cX1_join 4 .boolean rmX1_join [.ref (q 0), .int a, .int b, .int j] (wY q d sz sp st ma bg en lb ki nm nw th) (nI 0) (wY q d sz sp st ma bg en lb ki nm nw th) := by
  refine CtI.of RX1 rfl (by decide +kernel) (Nat.le_of_ble_eq_true rfl) ?_
  intro p e s m below meth c A ls F hr hlk hK hA hP hD hS hl
  have hl : lv_has ls 4 [(0, .ref (q 0)), (1, .int a), (2, .int b), (3, .int j)] := hl
  refine lv_iload_n F.1 F.2.1 dX1_join_0 rfl (lv_at hl 1 rfl) ?_
  refine lv_iload_n F.1 F.2.1 dX1_join_1 rfl (lv_at hl 2 rfl) ?_
  refine wr_icmp_eq (tgt := 49) F (rfl) (rfl) dX1_join_2 (by decide) (fun c2 => ?_) (fun c2 => ?_)
  · refine wq_iconst F 0 dX1_join_49 (by decide) ?_
    exact wq_zret F hr hlk rfl (rfl) hK hP hD hS dX1_join_50
  · refine lv_aload_n F.1 F.2.1 dX1_join_5 rfl (lv_at hl 0 rfl) ?_
    refine lv_iload_n F.1 F.2.1 dX1_join_6 rfl (lv_at hl 1 rfl) ?_
    refine wq_callIv F (rest := []) (ci := 1) rfl rfl (cY_vertex l D q d sz sp st ma bg en lb ki nm nw th (a)) (cwV 1 F.2.2.2.2 (lw_V q216 q218 qs10 q19 q219) rfl rfl rfl (by decide +kernel) ⟨Nat.le_of_ble_eq_true rfl, Nat.le_of_ble_eq_true rfl⟩) rfl hK hP hD hS hA hl.1 rfl (Nat.le_of_ble_eq_true rfl) dX1_join_7 ⟨Nat.zero_le _, Nat.zero_le _⟩ (fun H locs hP hD hS => ?_)
    refine wq_if_eq (tgt := 49) F (wq_isV_lt _) dX1_join_10 (by decide) (fun c10 => ?_) (fun c10 => ?_)
    · refine wq_iconst F 0 dX1_join_49 (by decide) ?_
      exact wq_zret F hr hlk rfl (rfl) hK hP hD hS dX1_join_50
    · refine lv_aload_n F.1 F.2.1 dX1_join_13 rfl (lv_at hl 0 rfl) ?_
      refine lv_iload_n F.1 F.2.1 dX1_join_14 rfl (lv_at hl 2 rfl) ?_
      refine wq_callIv F (rest := []) (ci := 1) rfl rfl (cY_vertex l D q d sz sp st ma bg en lb ki nm nw th (b)) (cwV 1 F.2.2.2.2 (lw_V q216 q218 qs10 q19 q219) rfl rfl rfl (by decide +kernel) ⟨Nat.le_of_ble_eq_true rfl, Nat.le_of_ble_eq_true rfl⟩) rfl hK hP hD hS hA hl.1 rfl (Nat.le_of_ble_eq_true rfl) dX1_join_15 ⟨Nat.zero_le _, Nat.zero_le _⟩ (fun H locs hP hD hS => ?_)
      refine wq_if_eq (tgt := 49) F (wq_isV_lt _) dX1_join_18 (by decide) (fun c18 => ?_) (fun c18 => ?_)
      · refine wq_iconst F 0 dX1_join_49 (by decide) ?_
        exact wq_zret F hr hlk rfl (rfl) hK hP hD hS dX1_join_50
      · refine lv_iload_n F.1 F.2.1 dX1_join_21 rfl (lv_at hl 3 rfl) ?_
        refine wr_if_lt (tgt := 49) F dX1_join_22 (by decide) (fun c22 => ?_) (fun c22 => ?_)
        · refine wq_iconst F 0 dX1_join_49 (by decide) ?_
          exact wq_zret F hr hlk rfl (rfl) hK hP hD hS dX1_join_50
        · refine lv_iload_n F.1 F.2.1 dX1_join_25 rfl (lv_at hl 3 rfl) ?_
          refine wq_iconst F 1 dX1_join_26 (by decide) ?_
          refine wr_icmp_gt (tgt := 49) F (rfl) (show (nI 1).toInt = (1 : Int) by decide) dX1_join_27 (by decide) (fun c27 => ?_) (fun c27 => ?_)
          · refine wq_iconst F 0 dX1_join_49 (by decide) ?_
            exact wq_zret F hr hlk rfl (rfl) hK hP hD hS dX1_join_50
          · exact absurd h (wq_isE_nz c10 c18 c2 (by omega))

set_option maxHeartbeats 4000000 in
set_option maxRecDepth 100000 in
/-- join: the edge is there, or there is no place -/
theorem cY_join_there (l : Launch) (D : va_G) (q : Nat → Nat) (d : Nat → ClassId) (sz sp st : Nat) (ma bg en lb ki : Nat → Nat) (nm : Nat → Int32) (nw th : Nat → Nat) (a b j : Nat) (hsz : sz ≤ 10) (hbg : ∀ k, bg k < 8) (hen : ∀ k, en k < 8) (hlb : ∀ k, lb k < 2) (ha : a < 8) (hb : b < 8) (hab : ¬ a = b) (hj : j < 2) (h : 0 ≤ (mY_find bg en lb (nI a) (nI b) (nI j) sz 0).toInt ∨ 10 ≤ sz) : CtI l D vwCl (tY d) yX1_join cX1_join 4 .boolean rmX1_join [.ref (q 0), .int (nI a), .int (nI b), .int (nI j)] (wY q d sz sp st ma bg en lb ki nm nw th) (nI 0) (wY q d sz sp st ma bg en lb ki nm nw th) := by
  refine CtI.of RX1 rfl (by decide +kernel) (Nat.le_of_ble_eq_true rfl) ?_
  intro p e s m below meth c A ls F hr hlk hK hA hP hD hS hl
  have hl : lv_has ls 4 [(0, .ref (q 0)), (1, .int (nI a)), (2, .int (nI b)), (3, .int (nI j))] := hl
  refine lv_iload_n F.1 F.2.1 dX1_join_0 rfl (lv_at hl 1 rfl) ?_
  refine lv_iload_n F.1 F.2.1 dX1_join_1 rfl (lv_at hl 2 rfl) ?_
  refine wq_icmp_eq (tgt := 49) F (by omega) (by omega) dX1_join_2 (by decide) (fun c2 => False.elim (by omega)) (fun c2 => ?_)
  refine lv_aload_n F.1 F.2.1 dX1_join_5 rfl (lv_at hl 0 rfl) ?_
  refine lv_iload_n F.1 F.2.1 dX1_join_6 rfl (lv_at hl 1 rfl) ?_
  refine wq_callIv F (rest := []) (ci := 1) rfl rfl (cY_vertex l D q d sz sp st ma bg en lb ki nm nw th ((nI a))) (cwV 1 F.2.2.2.2 (lw_V q216 q218 qs10 q19 q219) rfl rfl rfl (by decide +kernel) ⟨Nat.le_of_ble_eq_true rfl, Nat.le_of_ble_eq_true rfl⟩) rfl hK hP hD hS hA hl.1 rfl (Nat.le_of_ble_eq_true rfl) dX1_join_7 ⟨Nat.zero_le _, Nat.zero_le _⟩ (fun H locs hP hD hS => ?_)
  have he1 := wq_isV_n ha
  refine wq_if_eq (tgt := 49) F (wq_isV_lt _) dX1_join_10 (by decide) (fun c10 => False.elim (by omega)) (fun c10 => ?_)
  refine lv_aload_n F.1 F.2.1 dX1_join_13 rfl (lv_at hl 0 rfl) ?_
  refine lv_iload_n F.1 F.2.1 dX1_join_14 rfl (lv_at hl 2 rfl) ?_
  refine wq_callIv F (rest := []) (ci := 1) rfl rfl (cY_vertex l D q d sz sp st ma bg en lb ki nm nw th ((nI b))) (cwV 1 F.2.2.2.2 (lw_V q216 q218 qs10 q19 q219) rfl rfl rfl (by decide +kernel) ⟨Nat.le_of_ble_eq_true rfl, Nat.le_of_ble_eq_true rfl⟩) rfl hK hP hD hS hA hl.1 rfl (Nat.le_of_ble_eq_true rfl) dX1_join_15 ⟨Nat.zero_le _, Nat.zero_le _⟩ (fun H locs hP hD hS => ?_)
  have he2 := wq_isV_n hb
  refine wq_if_eq (tgt := 49) F (wq_isV_lt _) dX1_join_18 (by decide) (fun c18 => False.elim (by omega)) (fun c18 => ?_)
  refine lv_iload_n F.1 F.2.1 dX1_join_21 rfl (lv_at hl 3 rfl) ?_
  refine wq_if_lt (tgt := 49) F (by omega) dX1_join_22 (by decide) (fun c22 => False.elim (c22)) (fun c22 => ?_)
  refine lv_iload_n F.1 F.2.1 dX1_join_25 rfl (lv_at hl 3 rfl) ?_
  refine wq_iconst F 1 dX1_join_26 (by decide) ?_
  refine wq_icmp_gt (tgt := 49) F (by omega) (by omega) dX1_join_27 (by decide) (fun c27 => False.elim (by omega)) (fun c27 => ?_)
  refine lv_aload_n F.1 F.2.1 dX1_join_30 rfl (lv_at hl 0 rfl) ?_
  refine lv_iload_n F.1 F.2.1 dX1_join_31 rfl (lv_at hl 1 rfl) ?_
  refine lv_iload_n F.1 F.2.1 dX1_join_32 rfl (lv_at hl 2 rfl) ?_
  refine lv_iload_n F.1 F.2.1 dX1_join_33 rfl (lv_at hl 3 rfl) ?_
  refine wq_callIv F (rest := []) (ci := 1) rfl rfl (cY_find l D q d sz sp st ma bg en lb ki nm nw th ((nI a)) ((nI b)) ((nI j)) hsz hbg hen hlb) (cwV 3 F.2.2.2.2 (lw_V q224 q226 qs11 q19 q227) rfl rfl rfl (by decide +kernel) ⟨Nat.le_of_ble_eq_true rfl, Nat.le_of_ble_eq_true rfl⟩) rfl hK hP hD hS hA hl.1 rfl (Nat.le_of_ble_eq_true rfl) dX1_join_34 ⟨Nat.zero_le _, Nat.zero_le _⟩ (fun H locs hP hD hS => ?_)
  refine wr_if_ge (tgt := 49) F dX1_join_37 (by decide) (fun c37 => ?_) (fun c37 => ?_)
  · refine wq_iconst F 0 dX1_join_49 (by decide) ?_
    exact wq_zret F hr hlk rfl (rfl) hK hP hD hS dX1_join_50
  · refine lv_aload_n F.1 F.2.1 dX1_join_40 rfl (lv_at hl 0 rfl) ?_
    refine gX1 F hK hP rfl 1 (by decide) q179 rfl (v := .int (nI sz)) rfl dX1_join_41 ?_
    refine wq_bipush F 10 dX1_join_44 (by decide) ?_
    refine wq_icmp_lt (tgt := 51) F (by omega) (by omega) dX1_join_46 (by decide) (fun c46 => False.elim (by omega)) (fun c46 => ?_)
    refine wq_iconst F 0 dX1_join_49 (by decide) ?_
    exact wq_zret F hr hlk rfl (rfl) hK hP hD hS dX1_join_50

set_option maxHeartbeats 4000000 in
set_option maxRecDepth 100000 in
/-- join: a new edge -/
theorem cY_join_ok (l : Launch) (D : va_G) (q : Nat → Nat) (d : Nat → ClassId) (sz sp st : Nat) (ma bg en lb ki : Nat → Nat) (nm : Nat → Int32) (nw th : Nat → Nat) (a b j : Nat) (hsz : sz ≤ 10) (hbg : ∀ k, bg k < 8) (hen : ∀ k, en k < 8) (hlb : ∀ k, lb k < 2) (ha : a < 8) (hb : b < 8) (hab : ¬ a = b) (hj : j < 2) (h : (mY_find bg en lb (nI a) (nI b) (nI j) sz 0).toInt < 0) (h10 : sz < 10) : CtI l D vwCl (tY d) yX1_join cX1_join 4 .boolean rmX1_join [.ref (q 0), .int (nI a), .int (nI b), .int (nI j)] (wY q d sz sp st ma bg en lb ki nm nw th) (nI 1) (wY q d (sz + 1) sp st ma (wq_up bg sz a) (wq_up en sz b) (wq_up lb sz j) ki nm nw th) := by
  refine CtI.of RX1 rfl (by decide +kernel) (Nat.le_of_ble_eq_true rfl) ?_
  intro p e s m below meth c A ls F hr hlk hK hA hP hD hS hl
  have hl : lv_has ls 4 [(0, .ref (q 0)), (1, .int (nI a)), (2, .int (nI b)), (3, .int (nI j))] := hl
  refine lv_iload_n F.1 F.2.1 dX1_join_0 rfl (lv_at hl 1 rfl) ?_
  refine lv_iload_n F.1 F.2.1 dX1_join_1 rfl (lv_at hl 2 rfl) ?_
  refine wq_icmp_eq (tgt := 49) F (by omega) (by omega) dX1_join_2 (by decide) (fun c2 => False.elim (by omega)) (fun c2 => ?_)
  refine lv_aload_n F.1 F.2.1 dX1_join_5 rfl (lv_at hl 0 rfl) ?_
  refine lv_iload_n F.1 F.2.1 dX1_join_6 rfl (lv_at hl 1 rfl) ?_
  refine wq_callIv F (rest := []) (ci := 1) rfl rfl (cY_vertex l D q d sz sp st ma bg en lb ki nm nw th ((nI a))) (cwV 1 F.2.2.2.2 (lw_V q216 q218 qs10 q19 q219) rfl rfl rfl (by decide +kernel) ⟨Nat.le_of_ble_eq_true rfl, Nat.le_of_ble_eq_true rfl⟩) rfl hK hP hD hS hA hl.1 rfl (Nat.le_of_ble_eq_true rfl) dX1_join_7 ⟨Nat.zero_le _, Nat.zero_le _⟩ (fun H locs hP hD hS => ?_)
  have he1 := wq_isV_n ha
  refine wq_if_eq (tgt := 49) F (wq_isV_lt _) dX1_join_10 (by decide) (fun c10 => False.elim (by omega)) (fun c10 => ?_)
  refine lv_aload_n F.1 F.2.1 dX1_join_13 rfl (lv_at hl 0 rfl) ?_
  refine lv_iload_n F.1 F.2.1 dX1_join_14 rfl (lv_at hl 2 rfl) ?_
  refine wq_callIv F (rest := []) (ci := 1) rfl rfl (cY_vertex l D q d sz sp st ma bg en lb ki nm nw th ((nI b))) (cwV 1 F.2.2.2.2 (lw_V q216 q218 qs10 q19 q219) rfl rfl rfl (by decide +kernel) ⟨Nat.le_of_ble_eq_true rfl, Nat.le_of_ble_eq_true rfl⟩) rfl hK hP hD hS hA hl.1 rfl (Nat.le_of_ble_eq_true rfl) dX1_join_15 ⟨Nat.zero_le _, Nat.zero_le _⟩ (fun H locs hP hD hS => ?_)
  have he2 := wq_isV_n hb
  refine wq_if_eq (tgt := 49) F (wq_isV_lt _) dX1_join_18 (by decide) (fun c18 => False.elim (by omega)) (fun c18 => ?_)
  refine lv_iload_n F.1 F.2.1 dX1_join_21 rfl (lv_at hl 3 rfl) ?_
  refine wq_if_lt (tgt := 49) F (by omega) dX1_join_22 (by decide) (fun c22 => False.elim (c22)) (fun c22 => ?_)
  refine lv_iload_n F.1 F.2.1 dX1_join_25 rfl (lv_at hl 3 rfl) ?_
  refine wq_iconst F 1 dX1_join_26 (by decide) ?_
  refine wq_icmp_gt (tgt := 49) F (by omega) (by omega) dX1_join_27 (by decide) (fun c27 => False.elim (by omega)) (fun c27 => ?_)
  refine lv_aload_n F.1 F.2.1 dX1_join_30 rfl (lv_at hl 0 rfl) ?_
  refine lv_iload_n F.1 F.2.1 dX1_join_31 rfl (lv_at hl 1 rfl) ?_
  refine lv_iload_n F.1 F.2.1 dX1_join_32 rfl (lv_at hl 2 rfl) ?_
  refine lv_iload_n F.1 F.2.1 dX1_join_33 rfl (lv_at hl 3 rfl) ?_
  refine wq_callIv F (rest := []) (ci := 1) rfl rfl (cY_find l D q d sz sp st ma bg en lb ki nm nw th ((nI a)) ((nI b)) ((nI j)) hsz hbg hen hlb) (cwV 3 F.2.2.2.2 (lw_V q224 q226 qs11 q19 q227) rfl rfl rfl (by decide +kernel) ⟨Nat.le_of_ble_eq_true rfl, Nat.le_of_ble_eq_true rfl⟩) rfl hK hP hD hS hA hl.1 rfl (Nat.le_of_ble_eq_true rfl) dX1_join_34 ⟨Nat.zero_le _, Nat.zero_le _⟩ (fun H locs hP hD hS => ?_)
  refine wr_if_ge (tgt := 49) F dX1_join_37 (by decide) (fun c37 => False.elim (by omega)) (fun c37 => ?_)
  refine lv_aload_n F.1 F.2.1 dX1_join_40 rfl (lv_at hl 0 rfl) ?_
  refine gX1 F hK hP rfl 1 (by decide) q179 rfl (v := .int (nI sz)) rfl dX1_join_41 ?_
  refine wq_bipush F 10 dX1_join_44 (by decide) ?_
  refine wq_icmp_lt (tgt := 51) F (by omega) (by omega) dX1_join_46 (by decide) (fun c46 => ?_) (fun c46 => False.elim (by omega))
  refine lv_aload_n F.1 F.2.1 dX1_join_51 rfl (lv_at hl 0 rfl) ?_
  refine gX1 F hK hP rfl 2 (by decide) q180 rfl (v := .ref (q 2)) rfl dX1_join_52 ?_
  refine lv_aload_n F.1 F.2.1 dX1_join_55 rfl (lv_at hl 0 rfl) ?_
  refine gX1 F hK hP rfl 1 (by decide) q179 rfl (v := .int (nI sz)) rfl dX1_join_56 ?_
  refine lv_iload_n F.1 F.2.1 dX1_join_59 rfl (lv_at hl 1 rfl) ?_
  refine wq_iast F hK hP hD hS 2 1 rfl rfl (by omega) (by decide) dX1_join_60 (ws' := wY q d sz sp st ma (wq_up bg sz a) en lb ki nm nw th) rfl (fun H locs hP hD hS => ?_)
  refine lv_aload_n F.1 F.2.1 dX1_join_61 rfl (lv_at hl 0 rfl) ?_
  refine gX1 F hK hP rfl 3 (by decide) q181 rfl (v := .ref (q 3)) rfl dX1_join_62 ?_
  refine lv_aload_n F.1 F.2.1 dX1_join_65 rfl (lv_at hl 0 rfl) ?_
  refine gX1 F hK hP rfl 1 (by decide) q179 rfl (v := .int (nI sz)) rfl dX1_join_66 ?_
  refine lv_iload_n F.1 F.2.1 dX1_join_69 rfl (lv_at hl 2 rfl) ?_
  refine wq_iast F hK hP hD hS 3 2 rfl rfl (by omega) (by decide) dX1_join_70 (ws' := wY q d sz sp st ma (wq_up bg sz a) (wq_up en sz b) lb ki nm nw th) rfl (fun H locs hP hD hS => ?_)
  refine lv_aload_n F.1 F.2.1 dX1_join_71 rfl (lv_at hl 0 rfl) ?_
  refine gX1 F hK hP rfl 4 (by decide) q182 rfl (v := .ref (q 4)) rfl dX1_join_72 ?_
  refine lv_aload_n F.1 F.2.1 dX1_join_75 rfl (lv_at hl 0 rfl) ?_
  refine gX1 F hK hP rfl 1 (by decide) q179 rfl (v := .int (nI sz)) rfl dX1_join_76 ?_
  refine lv_iload_n F.1 F.2.1 dX1_join_79 rfl (lv_at hl 3 rfl) ?_
  refine wq_iast F hK hP hD hS 4 3 rfl rfl (by omega) (by decide) dX1_join_80 (ws' := wY q d sz sp st ma (wq_up bg sz a) (wq_up en sz b) (wq_up lb sz j) ki nm nw th) rfl (fun H locs hP hD hS => ?_)
  refine lv_aload_n F.1 F.2.1 dX1_join_81 rfl (lv_at hl 0 rfl) ?_
  refine lv_dup F.1 F.2.1 dX1_join_82 rfl ?_
  refine gX1 F hK hP rfl 1 (by decide) q179 rfl (v := .int (nI sz)) rfl dX1_join_83 ?_
  refine wq_iconst F 1 dX1_join_86 (by decide) ?_
  refine wq_iadd F dX1_join_87 ?_
  refine pX1 F hK hP hD hS rfl 1 (by decide) q179 rfl rfl (ty := .int) (by decide +kernel) rfl rfl (Nat.le_of_ble_eq_true rfl) dX1_join_88 (ws' := wY q d (sz + 1) sp st ma (wq_up bg sz a) (wq_up en sz b) (wq_up lb sz j) ki nm nw th) rfl (fun H locs hP hD hS => ?_)
  refine wq_iconst F 1 dX1_join_91 (by decide) ?_
  exact wq_zret F hr hlk rfl (rfl) hK hP hD hS dX1_join_92

set_option maxHeartbeats 4000000 in
set_option maxRecDepth 100000 in
/-- cut: no edge -/
theorem cY_cut_no (l : Launch) (D : va_G) (q : Nat → Nat) (d : Nat → ClassId) (sz sp st : Nat) (ma bg en lb ki : Nat → Nat) (nm : Nat → Int32) (nw th : Nat → Nat) (a b j : Int32) (hsz : sz ≤ 10) (hbg : ∀ k, bg k < 8) (hen : ∀ k, en k < 8) (hlb : ∀ k, lb k < 2) (h : (mY_find bg en lb a b j sz 0).toInt < 0) : CtI l D vwCl (tY d) yX1_cut cX1_cut 5 .boolean rmX1_cut [.ref (q 0), .int a, .int b, .int j] (wY q d sz sp st ma bg en lb ki nm nw th) (nI 0) (wY q d sz sp st ma bg en lb ki nm nw th) := by
  refine CtI.of RX1 rfl (by decide +kernel) (Nat.le_of_ble_eq_true rfl) ?_
  intro p e s m below meth c A ls F hr hlk hK hA hP hD hS hl
  have hl : lv_has ls 5 [(0, .ref (q 0)), (1, .int a), (2, .int b), (3, .int j)] := hl
  refine lv_aload_n F.1 F.2.1 dX1_cut_0 rfl (lv_at hl 0 rfl) ?_
  refine lv_iload_n F.1 F.2.1 dX1_cut_1 rfl (lv_at hl 1 rfl) ?_
  refine lv_iload_n F.1 F.2.1 dX1_cut_2 rfl (lv_at hl 2 rfl) ?_
  refine lv_iload_n F.1 F.2.1 dX1_cut_3 rfl (lv_at hl 3 rfl) ?_
  refine wq_callIv F (rest := []) (ci := 1) rfl rfl (cY_find l D q d sz sp st ma bg en lb ki nm nw th a b j hsz hbg hen hlb) (cwV 3 F.2.2.2.2 (lw_V q224 q226 qs11 q19 q227) rfl rfl rfl (by decide +kernel) ⟨Nat.le_of_ble_eq_true rfl, Nat.le_of_ble_eq_true rfl⟩) rfl hK hP hD hS hA hl.1 rfl (Nat.le_of_ble_eq_true rfl) dX1_cut_4 ⟨Nat.zero_le _, Nat.zero_le _⟩ (fun H locs hP hD hS => ?_)
  refine lv_istore (lv' := [(4, .int (mY_find bg en lb a b j sz 0)), (0, .ref (q 0)), (1, .int a), (2, .int b), (3, .int j)]) F.1 F.2.1 dX1_cut_7 hl (by decide) rfl (fun ls hl => ?_)
  refine lv_iload F.1 F.2.1 dX1_cut_9 (lv_at hl 0 rfl) ?_
  refine wr_if_ge (tgt := 16) F dX1_cut_11 (by decide) (fun c11 => False.elim (by omega)) (fun c11 => ?_)
  refine wq_iconst F 0 dX1_cut_14 (by decide) ?_
  exact wq_zret F hr hlk rfl (rfl) hK hP hD hS dX1_cut_15

set_option maxHeartbeats 4000000 in
set_option maxRecDepth 100000 in
/-- cut: an edge goes -/
theorem cY_cut_ok (l : Launch) (D : va_G) (q : Nat → Nat) (d : Nat → ClassId) (sz sp st : Nat) (ma bg en lb ki : Nat → Nat) (nm : Nat → Int32) (nw th : Nat → Nat) (a b j : Int32) (x : Nat) (hsz : sz ≤ 10) (hbg : ∀ k, bg k < 8) (hen : ∀ k, en k < 8) (hlb : ∀ k, lb k < 2) (h : mY_find bg en lb a b j sz 0 = nI x) (hx : x < sz) : CtI l D vwCl (tY d) yX1_cut cX1_cut 5 .boolean rmX1_cut [.ref (q 0), .int a, .int b, .int j] (wY q d sz sp st ma bg en lb ki nm nw th) (nI 1) (wY q d (sz - 1) sp st ma (wq_up bg x (bg (sz - 1))) (wq_up en x (en (sz - 1))) (wq_up lb x (lb (sz - 1))) ki nm nw th) := by
  refine CtI.of RX1 rfl (by decide +kernel) (Nat.le_of_ble_eq_true rfl) ?_
  intro p e s m below meth c A ls F hr hlk hK hA hP hD hS hl
  have hl : lv_has ls 5 [(0, .ref (q 0)), (1, .int a), (2, .int b), (3, .int j)] := hl
  refine lv_aload_n F.1 F.2.1 dX1_cut_0 rfl (lv_at hl 0 rfl) ?_
  refine lv_iload_n F.1 F.2.1 dX1_cut_1 rfl (lv_at hl 1 rfl) ?_
  refine lv_iload_n F.1 F.2.1 dX1_cut_2 rfl (lv_at hl 2 rfl) ?_
  refine lv_iload_n F.1 F.2.1 dX1_cut_3 rfl (lv_at hl 3 rfl) ?_
  refine wq_callIv F (rest := []) (ci := 1) rfl rfl (cY_find l D q d sz sp st ma bg en lb ki nm nw th a b j hsz hbg hen hlb) (cwV 3 F.2.2.2.2 (lw_V q224 q226 qs11 q19 q227) rfl rfl rfl (by decide +kernel) ⟨Nat.le_of_ble_eq_true rfl, Nat.le_of_ble_eq_true rfl⟩) rfl hK hP hD hS hA hl.1 rfl (Nat.le_of_ble_eq_true rfl) dX1_cut_4 ⟨Nat.zero_le _, Nat.zero_le _⟩ (fun H locs hP hD hS => ?_)
  refine wq_top h ?_
  refine lv_istore (lv' := [(4, .int (nI x)), (0, .ref (q 0)), (1, .int a), (2, .int b), (3, .int j)]) F.1 F.2.1 dX1_cut_7 hl (by decide) rfl (fun ls hl => ?_)
  refine lv_iload F.1 F.2.1 dX1_cut_9 (lv_at hl 0 rfl) ?_
  refine wq_if_ge (tgt := 16) F (by omega) dX1_cut_11 (by decide) (fun c11 => ?_) (fun c11 => False.elim (c11))
  refine lv_aload_n F.1 F.2.1 dX1_cut_16 rfl (lv_at hl 1 rfl) ?_
  refine lv_dup F.1 F.2.1 dX1_cut_17 rfl ?_
  refine gX1 F hK hP rfl 1 (by decide) q179 rfl (v := .int (nI sz)) rfl dX1_cut_18 ?_
  refine wq_iconst F 1 dX1_cut_21 (by decide) ?_
  refine wq_isub F (by omega) dX1_cut_22 ?_
  refine pX1 F hK hP hD hS rfl 1 (by decide) q179 rfl rfl (ty := .int) (by decide +kernel) rfl rfl (Nat.le_of_ble_eq_true rfl) dX1_cut_23 (ws' := wY q d (sz - 1) sp st ma bg en lb ki nm nw th) rfl (fun H locs hP hD hS => ?_)
  refine lv_aload_n F.1 F.2.1 dX1_cut_26 rfl (lv_at hl 1 rfl) ?_
  refine gX1 F hK hP rfl 2 (by decide) q180 rfl (v := .ref (q 2)) rfl dX1_cut_27 ?_
  refine lv_iload F.1 F.2.1 dX1_cut_30 (lv_at hl 0 rfl) ?_
  refine lv_aload_n F.1 F.2.1 dX1_cut_32 rfl (lv_at hl 1 rfl) ?_
  refine gX1 F hK hP rfl 2 (by decide) q180 rfl (v := .ref (q 2)) rfl dX1_cut_33 ?_
  refine lv_aload_n F.1 F.2.1 dX1_cut_36 rfl (lv_at hl 1 rfl) ?_
  refine gX1 F hK hP rfl 1 (by decide) q179 rfl (v := .int (nI (sz - 1))) rfl dX1_cut_37 ?_
  refine wq_iald F hK hP 2 1 rfl rfl (by omega) (by decide) dX1_cut_40 ?_
  refine wq_iast F hK hP hD hS 2 1 rfl rfl (by omega) (by decide) dX1_cut_41 (ws' := wY q d (sz - 1) sp st ma (wq_up bg x (bg (sz - 1))) en lb ki nm nw th) rfl (fun H locs hP hD hS => ?_)
  refine lv_aload_n F.1 F.2.1 dX1_cut_42 rfl (lv_at hl 1 rfl) ?_
  refine gX1 F hK hP rfl 3 (by decide) q181 rfl (v := .ref (q 3)) rfl dX1_cut_43 ?_
  refine lv_iload F.1 F.2.1 dX1_cut_46 (lv_at hl 0 rfl) ?_
  refine lv_aload_n F.1 F.2.1 dX1_cut_48 rfl (lv_at hl 1 rfl) ?_
  refine gX1 F hK hP rfl 3 (by decide) q181 rfl (v := .ref (q 3)) rfl dX1_cut_49 ?_
  refine lv_aload_n F.1 F.2.1 dX1_cut_52 rfl (lv_at hl 1 rfl) ?_
  refine gX1 F hK hP rfl 1 (by decide) q179 rfl (v := .int (nI (sz - 1))) rfl dX1_cut_53 ?_
  refine wq_iald F hK hP 3 2 rfl rfl (by omega) (by decide) dX1_cut_56 ?_
  refine wq_iast F hK hP hD hS 3 2 rfl rfl (by omega) (by decide) dX1_cut_57 (ws' := wY q d (sz - 1) sp st ma (wq_up bg x (bg (sz - 1))) (wq_up en x (en (sz - 1))) lb ki nm nw th) rfl (fun H locs hP hD hS => ?_)
  refine lv_aload_n F.1 F.2.1 dX1_cut_58 rfl (lv_at hl 1 rfl) ?_
  refine gX1 F hK hP rfl 4 (by decide) q182 rfl (v := .ref (q 4)) rfl dX1_cut_59 ?_
  refine lv_iload F.1 F.2.1 dX1_cut_62 (lv_at hl 0 rfl) ?_
  refine lv_aload_n F.1 F.2.1 dX1_cut_64 rfl (lv_at hl 1 rfl) ?_
  refine gX1 F hK hP rfl 4 (by decide) q182 rfl (v := .ref (q 4)) rfl dX1_cut_65 ?_
  refine lv_aload_n F.1 F.2.1 dX1_cut_68 rfl (lv_at hl 1 rfl) ?_
  refine gX1 F hK hP rfl 1 (by decide) q179 rfl (v := .int (nI (sz - 1))) rfl dX1_cut_69 ?_
  refine wq_iald F hK hP 4 3 rfl rfl (by omega) (by decide) dX1_cut_72 ?_
  refine wq_iast F hK hP hD hS 4 3 rfl rfl (by omega) (by decide) dX1_cut_73 (ws' := wY q d (sz - 1) sp st ma (wq_up bg x (bg (sz - 1))) (wq_up en x (en (sz - 1))) (wq_up lb x (lb (sz - 1))) ki nm nw th) rfl (fun H locs hP hD hS => ?_)
  refine wq_iconst F 1 dX1_cut_74 (by decide) ?_
  exact wq_zret F hr hlk rfl (rfl) hK hP hD hS dX1_cut_75

set_option maxHeartbeats 4000000 in
set_option maxRecDepth 100000 in
/-- add: no -/
theorem cY_add_no (l : Launch) (D : va_G) (q : Nat → Nat) (d : Nat → ClassId) (sz sp st : Nat) (ma bg en lb ki : Nat → Nat) (nm : Nat → Int32) (nw th : Nat → Nat) (k x : Int32) (h : ¬ ((0 ≤ k.toInt ∧ k.toInt ≤ 7) ∧ (k.toInt ≤ 3 → 0 ≤ x.toInt ∧ x.toInt ≤ 2) ∧ (k.toInt = 4 → 0 ≤ x.toInt ∧ x.toInt ≤ 9))) : CtI l D vwCl (tY d) yX1_add cX1_add 3 .int rmX1_add [.ref (q 0), .int k, .int x] (wY q d sz sp st ma bg en lb ki nm nw th) (-1) (wY q d sz sp st ma bg en lb ki nm nw th) := by
  refine CtI.of RX1 rfl (by decide +kernel) (Nat.le_of_ble_eq_true rfl) ?_
  intro p e s m below meth c A ls F hr hlk hK hA hP hD hS hl
  have hl : lv_has ls 3 [(0, .ref (q 0)), (1, .int k), (2, .int x)] := hl
  refine lv_iload_n F.1 F.2.1 dX1_add_0 rfl (lv_at hl 1 rfl) ?_
  refine wr_if_lt (tgt := 39) F dX1_add_1 (by decide) (fun c1 => ?_) (fun c1 => ?_)
  · refine lv_iconst (v := -1) F.1 F.2.1 dX1_add_39 (by decide) ?_
    exact wq_iret F hr hlk (rfl) hK hP hD hS dX1_add_40
  · refine lv_iload_n F.1 F.2.1 dX1_add_4 rfl (lv_at hl 1 rfl) ?_
    refine wq_bipush F 7 dX1_add_5 (by decide) ?_
    refine wr_icmp_gt (tgt := 39) F (rfl) (show (nI 7).toInt = (7 : Int) by decide) dX1_add_7 (by decide) (fun c7 => ?_) (fun c7 => ?_)
    · refine lv_iconst (v := -1) F.1 F.2.1 dX1_add_39 (by decide) ?_
      exact wq_iret F hr hlk (rfl) hK hP hD hS dX1_add_40
    · refine lv_iload_n F.1 F.2.1 dX1_add_10 rfl (lv_at hl 1 rfl) ?_
      refine wq_iconst F 3 dX1_add_11 (by decide) ?_
      refine wr_icmp_gt (tgt := 24) F (rfl) (show (nI 3).toInt = (3 : Int) by decide) dX1_add_12 (by decide) (fun c12 => ?_) (fun c12 => ?_)
      · refine lv_iload_n F.1 F.2.1 dX1_add_24 rfl (lv_at hl 1 rfl) ?_
        refine wq_iconst F 4 dX1_add_25 (by decide) ?_
        refine wr_icmp_ne (tgt := 41) F (rfl) (show (nI 4).toInt = (4 : Int) by decide) dX1_add_26 (by decide) (fun c26 => ?_) (fun c26 => ?_)
        · exfalso
          omega
        · refine lv_iload_n F.1 F.2.1 dX1_add_29 rfl (lv_at hl 2 rfl) ?_
          refine wr_if_lt (tgt := 39) F dX1_add_30 (by decide) (fun c30 => ?_) (fun c30 => ?_)
          · refine lv_iconst (v := -1) F.1 F.2.1 dX1_add_39 (by decide) ?_
            exact wq_iret F hr hlk (rfl) hK hP hD hS dX1_add_40
          · refine lv_iload_n F.1 F.2.1 dX1_add_33 rfl (lv_at hl 2 rfl) ?_
            refine wq_bipush F 9 dX1_add_34 (by decide) ?_
            refine wr_icmp_le (tgt := 41) F (rfl) (show (nI 9).toInt = (9 : Int) by decide) dX1_add_36 (by decide) (fun c36 => ?_) (fun c36 => ?_)
            · exfalso
              omega
            · refine lv_iconst (v := -1) F.1 F.2.1 dX1_add_39 (by decide) ?_
              exact wq_iret F hr hlk (rfl) hK hP hD hS dX1_add_40
      · refine lv_iload_n F.1 F.2.1 dX1_add_15 rfl (lv_at hl 2 rfl) ?_
        refine wr_if_lt (tgt := 39) F dX1_add_16 (by decide) (fun c16 => ?_) (fun c16 => ?_)
        · refine lv_iconst (v := -1) F.1 F.2.1 dX1_add_39 (by decide) ?_
          exact wq_iret F hr hlk (rfl) hK hP hD hS dX1_add_40
        · refine lv_iload_n F.1 F.2.1 dX1_add_19 rfl (lv_at hl 2 rfl) ?_
          refine wq_iconst F 2 dX1_add_20 (by decide) ?_
          refine wr_icmp_gt (tgt := 39) F (rfl) (show (nI 2).toInt = (2 : Int) by decide) dX1_add_21 (by decide) (fun c21 => ?_) (fun c21 => ?_)
          · refine lv_iconst (v := -1) F.1 F.2.1 dX1_add_39 (by decide) ?_
            exact wq_iret F hr hlk (rfl) hK hP hD hS dX1_add_40
          · refine lv_iload_n F.1 F.2.1 dX1_add_24 rfl (lv_at hl 1 rfl) ?_
            refine wq_iconst F 4 dX1_add_25 (by decide) ?_
            refine wr_icmp_ne (tgt := 41) F (rfl) (show (nI 4).toInt = (4 : Int) by decide) dX1_add_26 (by decide) (fun c26 => ?_) (fun c26 => ?_)
            · exfalso
              omega
            · refine lv_iload_n F.1 F.2.1 dX1_add_29 rfl (lv_at hl 2 rfl) ?_
              refine wr_if_lt (tgt := 39) F dX1_add_30 (by decide) (fun c30 => ?_) (fun c30 => ?_)
              · refine lv_iconst (v := -1) F.1 F.2.1 dX1_add_39 (by decide) ?_
                exact wq_iret F hr hlk (rfl) hK hP hD hS dX1_add_40
              · refine lv_iload_n F.1 F.2.1 dX1_add_33 rfl (lv_at hl 2 rfl) ?_
                refine wq_bipush F 9 dX1_add_34 (by decide) ?_
                refine wr_icmp_le (tgt := 41) F (rfl) (show (nI 9).toInt = (9 : Int) by decide) dX1_add_36 (by decide) (fun c36 => ?_) (fun c36 => ?_)
                · exfalso
                  omega
                · refine lv_iconst (v := -1) F.1 F.2.1 dX1_add_39 (by decide) ?_
                  exact wq_iret F hr hlk (rfl) hK hP hD hS dX1_add_40

set_option maxHeartbeats 4000000 in
set_option maxRecDepth 100000 in
/-- add: full -/
theorem cY_add_full (l : Launch) (D : va_G) (q : Nat → Nat) (d : Nat → ClassId) (sz sp st : Nat) (ma bg en lb ki : Nat → Nat) (nm : Nat → Int32) (nw th : Nat → Nat) (k x : Int32) (hs : 6 ≤ sp) (hs2 : sp < 2 ^ 31) (h : (0 ≤ k.toInt ∧ k.toInt ≤ 7) ∧ (k.toInt ≤ 3 → 0 ≤ x.toInt ∧ x.toInt ≤ 2) ∧ (k.toInt = 4 → 0 ≤ x.toInt ∧ x.toInt ≤ 9)) : CtI l D vwCl (tY d) yX1_add cX1_add 3 .int rmX1_add [.ref (q 0), .int k, .int x] (wY q d sz sp st ma bg en lb ki nm nw th) (-2) (wY q d sz sp st ma bg en lb ki nm nw th) := by
  refine CtI.of RX1 rfl (by decide +kernel) (Nat.le_of_ble_eq_true rfl) ?_
  intro p e s m below meth c A ls F hr hlk hK hA hP hD hS hl
  have hl : lv_has ls 3 [(0, .ref (q 0)), (1, .int k), (2, .int x)] := hl
  refine lv_iload_n F.1 F.2.1 dX1_add_0 rfl (lv_at hl 1 rfl) ?_
  refine wr_if_lt (tgt := 39) F dX1_add_1 (by decide) (fun c1 => ?_) (fun c1 => ?_)
  · exfalso
    omega
  · refine lv_iload_n F.1 F.2.1 dX1_add_4 rfl (lv_at hl 1 rfl) ?_
    refine wq_bipush F 7 dX1_add_5 (by decide) ?_
    refine wr_icmp_gt (tgt := 39) F (rfl) (show (nI 7).toInt = (7 : Int) by decide) dX1_add_7 (by decide) (fun c7 => ?_) (fun c7 => ?_)
    · exfalso
      omega
    · refine lv_iload_n F.1 F.2.1 dX1_add_10 rfl (lv_at hl 1 rfl) ?_
      refine wq_iconst F 3 dX1_add_11 (by decide) ?_
      refine wr_icmp_gt (tgt := 24) F (rfl) (show (nI 3).toInt = (3 : Int) by decide) dX1_add_12 (by decide) (fun c12 => ?_) (fun c12 => ?_)
      · refine lv_iload_n F.1 F.2.1 dX1_add_24 rfl (lv_at hl 1 rfl) ?_
        refine wq_iconst F 4 dX1_add_25 (by decide) ?_
        refine wr_icmp_ne (tgt := 41) F (rfl) (show (nI 4).toInt = (4 : Int) by decide) dX1_add_26 (by decide) (fun c26 => ?_) (fun c26 => ?_)
        · refine lv_aload_n F.1 F.2.1 dX1_add_41 rfl (lv_at hl 0 rfl) ?_
          refine gX1 F hK hP rfl 5 (by decide) q183 rfl (v := .int (nI sp)) rfl dX1_add_42 ?_
          refine wq_bipush F 6 dX1_add_45 (by decide) ?_
          refine wq_icmp_lt (tgt := 53) F (by omega) (by omega) dX1_add_47 (by decide) (fun c47 => False.elim (by omega)) (fun c47 => ?_)
          refine lv_bipush (v := -2) F.1 F.2.1 dX1_add_50 (by decide) ?_
          exact wq_iret F hr hlk (rfl) hK hP hD hS dX1_add_52
        · refine lv_iload_n F.1 F.2.1 dX1_add_29 rfl (lv_at hl 2 rfl) ?_
          refine wr_if_lt (tgt := 39) F dX1_add_30 (by decide) (fun c30 => ?_) (fun c30 => ?_)
          · exfalso
            omega
          · refine lv_iload_n F.1 F.2.1 dX1_add_33 rfl (lv_at hl 2 rfl) ?_
            refine wq_bipush F 9 dX1_add_34 (by decide) ?_
            refine wr_icmp_le (tgt := 41) F (rfl) (show (nI 9).toInt = (9 : Int) by decide) dX1_add_36 (by decide) (fun c36 => ?_) (fun c36 => ?_)
            · refine lv_aload_n F.1 F.2.1 dX1_add_41 rfl (lv_at hl 0 rfl) ?_
              refine gX1 F hK hP rfl 5 (by decide) q183 rfl (v := .int (nI sp)) rfl dX1_add_42 ?_
              refine wq_bipush F 6 dX1_add_45 (by decide) ?_
              refine wq_icmp_lt (tgt := 53) F (by omega) (by omega) dX1_add_47 (by decide) (fun c47 => False.elim (by omega)) (fun c47 => ?_)
              refine lv_bipush (v := -2) F.1 F.2.1 dX1_add_50 (by decide) ?_
              exact wq_iret F hr hlk (rfl) hK hP hD hS dX1_add_52
            · exfalso
              omega
      · refine lv_iload_n F.1 F.2.1 dX1_add_15 rfl (lv_at hl 2 rfl) ?_
        refine wr_if_lt (tgt := 39) F dX1_add_16 (by decide) (fun c16 => ?_) (fun c16 => ?_)
        · exfalso
          omega
        · refine lv_iload_n F.1 F.2.1 dX1_add_19 rfl (lv_at hl 2 rfl) ?_
          refine wq_iconst F 2 dX1_add_20 (by decide) ?_
          refine wr_icmp_gt (tgt := 39) F (rfl) (show (nI 2).toInt = (2 : Int) by decide) dX1_add_21 (by decide) (fun c21 => ?_) (fun c21 => ?_)
          · exfalso
            omega
          · refine lv_iload_n F.1 F.2.1 dX1_add_24 rfl (lv_at hl 1 rfl) ?_
            refine wq_iconst F 4 dX1_add_25 (by decide) ?_
            refine wr_icmp_ne (tgt := 41) F (rfl) (show (nI 4).toInt = (4 : Int) by decide) dX1_add_26 (by decide) (fun c26 => ?_) (fun c26 => ?_)
            · refine lv_aload_n F.1 F.2.1 dX1_add_41 rfl (lv_at hl 0 rfl) ?_
              refine gX1 F hK hP rfl 5 (by decide) q183 rfl (v := .int (nI sp)) rfl dX1_add_42 ?_
              refine wq_bipush F 6 dX1_add_45 (by decide) ?_
              refine wq_icmp_lt (tgt := 53) F (by omega) (by omega) dX1_add_47 (by decide) (fun c47 => False.elim (by omega)) (fun c47 => ?_)
              refine lv_bipush (v := -2) F.1 F.2.1 dX1_add_50 (by decide) ?_
              exact wq_iret F hr hlk (rfl) hK hP hD hS dX1_add_52
            · refine lv_iload_n F.1 F.2.1 dX1_add_29 rfl (lv_at hl 2 rfl) ?_
              refine wr_if_lt (tgt := 39) F dX1_add_30 (by decide) (fun c30 => ?_) (fun c30 => ?_)
              · exfalso
                omega
              · refine lv_iload_n F.1 F.2.1 dX1_add_33 rfl (lv_at hl 2 rfl) ?_
                refine wq_bipush F 9 dX1_add_34 (by decide) ?_
                refine wr_icmp_le (tgt := 41) F (rfl) (show (nI 9).toInt = (9 : Int) by decide) dX1_add_36 (by decide) (fun c36 => ?_) (fun c36 => ?_)
                · refine lv_aload_n F.1 F.2.1 dX1_add_41 rfl (lv_at hl 0 rfl) ?_
                  refine gX1 F hK hP rfl 5 (by decide) q183 rfl (v := .int (nI sp)) rfl dX1_add_42 ?_
                  refine wq_bipush F 6 dX1_add_45 (by decide) ?_
                  refine wq_icmp_lt (tgt := 53) F (by omega) (by omega) dX1_add_47 (by decide) (fun c47 => False.elim (by omega)) (fun c47 => ?_)
                  refine lv_bipush (v := -2) F.1 F.2.1 dX1_add_50 (by decide) ?_
                  exact wq_iret F hr hlk (rfl) hK hP hD hS dX1_add_52
                · exfalso
                  omega

set_option maxHeartbeats 4000000 in
set_option maxRecDepth 100000 in
/-- add: a step -/
theorem cY_add_ok (l : Launch) (D : va_G) (q : Nat → Nat) (d : Nat → ClassId) (sz sp st : Nat) (ma bg en lb ki : Nat → Nat) (nm : Nat → Int32) (nw th : Nat → Nat) (k : Nat) (x : Int32) (hs : sp < 6) (hk : k ≤ 7) (h3 : k ≤ 3 → 0 ≤ x.toInt ∧ x.toInt ≤ 2) (h4 : k = 4 → 0 ≤ x.toInt ∧ x.toInt ≤ 9) : CtI l D vwCl (tY d) yX1_add cX1_add 3 .int rmX1_add [.ref (q 0), .int (nI k), .int x] (wY q d sz sp st ma bg en lb ki nm nw th) (nI (sp + 1)) (wY q d sz (sp + 1) st ma bg en lb (wq_up ki sp k) (upd nm sp x) nw th) := by
  refine CtI.of RX1 rfl (by decide +kernel) (Nat.le_of_ble_eq_true rfl) ?_
  intro p e s m below meth c A ls F hr hlk hK hA hP hD hS hl
  have hl : lv_has ls 3 [(0, .ref (q 0)), (1, .int (nI k)), (2, .int x)] := hl
  refine lv_iload_n F.1 F.2.1 dX1_add_0 rfl (lv_at hl 1 rfl) ?_
  refine wq_if_lt (tgt := 39) F (by omega) dX1_add_1 (by decide) (fun c1 => False.elim (c1)) (fun c1 => ?_)
  refine lv_iload_n F.1 F.2.1 dX1_add_4 rfl (lv_at hl 1 rfl) ?_
  refine wq_bipush F 7 dX1_add_5 (by decide) ?_
  refine wq_icmp_gt (tgt := 39) F (by omega) (by omega) dX1_add_7 (by decide) (fun c7 => ?_) (fun c7 => ?_)
  · exfalso
    omega
  · refine lv_iload_n F.1 F.2.1 dX1_add_10 rfl (lv_at hl 1 rfl) ?_
    refine wq_iconst F 3 dX1_add_11 (by decide) ?_
    refine wq_icmp_gt (tgt := 24) F (by omega) (by omega) dX1_add_12 (by decide) (fun c12 => ?_) (fun c12 => ?_)
    · refine lv_iload_n F.1 F.2.1 dX1_add_24 rfl (lv_at hl 1 rfl) ?_
      refine wq_iconst F 4 dX1_add_25 (by decide) ?_
      refine wq_icmp_ne (tgt := 41) F (by omega) (by omega) dX1_add_26 (by decide) (fun c26 => ?_) (fun c26 => ?_)
      · refine lv_aload_n F.1 F.2.1 dX1_add_41 rfl (lv_at hl 0 rfl) ?_
        refine gX1 F hK hP rfl 5 (by decide) q183 rfl (v := .int (nI sp)) rfl dX1_add_42 ?_
        refine wq_bipush F 6 dX1_add_45 (by decide) ?_
        refine wq_icmp_lt (tgt := 53) F (by omega) (by omega) dX1_add_47 (by decide) (fun c47 => ?_) (fun c47 => False.elim (by omega))
        refine lv_aload_n F.1 F.2.1 dX1_add_53 rfl (lv_at hl 0 rfl) ?_
        refine gX1 F hK hP rfl 6 (by decide) q184 rfl (v := .ref (q 5)) rfl dX1_add_54 ?_
        refine lv_aload_n F.1 F.2.1 dX1_add_57 rfl (lv_at hl 0 rfl) ?_
        refine gX1 F hK hP rfl 5 (by decide) q183 rfl (v := .int (nI sp)) rfl dX1_add_58 ?_
        refine lv_iload_n F.1 F.2.1 dX1_add_61 rfl (lv_at hl 1 rfl) ?_
        refine wq_iast F hK hP hD hS 5 4 rfl rfl (by omega) (by decide) dX1_add_62 (ws' := wY q d sz sp st ma bg en lb (wq_up ki sp k) nm nw th) rfl (fun H locs hP hD hS => ?_)
        refine lv_aload_n F.1 F.2.1 dX1_add_63 rfl (lv_at hl 0 rfl) ?_
        refine gX1 F hK hP rfl 7 (by decide) q185 rfl (v := .ref (q 6)) rfl dX1_add_64 ?_
        refine lv_aload_n F.1 F.2.1 dX1_add_67 rfl (lv_at hl 0 rfl) ?_
        refine gX1 F hK hP rfl 5 (by decide) q183 rfl (v := .int (nI sp)) rfl dX1_add_68 ?_
        refine lv_iload_n F.1 F.2.1 dX1_add_71 rfl (lv_at hl 2 rfl) ?_
        refine wr_iast F hK hP hD hS 6 5 rfl rfl (by omega) (by decide) dX1_add_72 (ws' := wY q d sz sp st ma bg en lb (wq_up ki sp k) (upd nm sp x) nw th) rfl (fun H locs hP hD hS => ?_)
        refine lv_aload_n F.1 F.2.1 dX1_add_73 rfl (lv_at hl 0 rfl) ?_
        refine lv_dup F.1 F.2.1 dX1_add_74 rfl ?_
        refine gX1 F hK hP rfl 5 (by decide) q183 rfl (v := .int (nI sp)) rfl dX1_add_75 ?_
        refine wq_iconst F 1 dX1_add_78 (by decide) ?_
        refine wq_iadd F dX1_add_79 ?_
        refine pX1 F hK hP hD hS rfl 5 (by decide) q183 rfl rfl (ty := .int) (by decide +kernel) rfl rfl (Nat.le_of_ble_eq_true rfl) dX1_add_80 (ws' := wY q d sz (sp + 1) st ma bg en lb (wq_up ki sp k) (upd nm sp x) nw th) rfl (fun H locs hP hD hS => ?_)
        refine lv_aload_n F.1 F.2.1 dX1_add_83 rfl (lv_at hl 0 rfl) ?_
        refine gX1 F hK hP rfl 5 (by decide) q183 rfl (v := .int (nI (sp + 1))) rfl dX1_add_84 ?_
        exact wq_iret F hr hlk (rfl) hK hP hD hS dX1_add_87
      · refine lv_iload_n F.1 F.2.1 dX1_add_29 rfl (lv_at hl 2 rfl) ?_
        refine wr_if_lt (tgt := 39) F dX1_add_30 (by decide) (fun c30 => ?_) (fun c30 => ?_)
        · exfalso
          omega
        · refine lv_iload_n F.1 F.2.1 dX1_add_33 rfl (lv_at hl 2 rfl) ?_
          refine wq_bipush F 9 dX1_add_34 (by decide) ?_
          refine wr_icmp_le (tgt := 41) F (rfl) (show (nI 9).toInt = (9 : Int) by decide) dX1_add_36 (by decide) (fun c36 => ?_) (fun c36 => ?_)
          · refine lv_aload_n F.1 F.2.1 dX1_add_41 rfl (lv_at hl 0 rfl) ?_
            refine gX1 F hK hP rfl 5 (by decide) q183 rfl (v := .int (nI sp)) rfl dX1_add_42 ?_
            refine wq_bipush F 6 dX1_add_45 (by decide) ?_
            refine wq_icmp_lt (tgt := 53) F (by omega) (by omega) dX1_add_47 (by decide) (fun c47 => ?_) (fun c47 => False.elim (by omega))
            refine lv_aload_n F.1 F.2.1 dX1_add_53 rfl (lv_at hl 0 rfl) ?_
            refine gX1 F hK hP rfl 6 (by decide) q184 rfl (v := .ref (q 5)) rfl dX1_add_54 ?_
            refine lv_aload_n F.1 F.2.1 dX1_add_57 rfl (lv_at hl 0 rfl) ?_
            refine gX1 F hK hP rfl 5 (by decide) q183 rfl (v := .int (nI sp)) rfl dX1_add_58 ?_
            refine lv_iload_n F.1 F.2.1 dX1_add_61 rfl (lv_at hl 1 rfl) ?_
            refine wq_iast F hK hP hD hS 5 4 rfl rfl (by omega) (by decide) dX1_add_62 (ws' := wY q d sz sp st ma bg en lb (wq_up ki sp k) nm nw th) rfl (fun H locs hP hD hS => ?_)
            refine lv_aload_n F.1 F.2.1 dX1_add_63 rfl (lv_at hl 0 rfl) ?_
            refine gX1 F hK hP rfl 7 (by decide) q185 rfl (v := .ref (q 6)) rfl dX1_add_64 ?_
            refine lv_aload_n F.1 F.2.1 dX1_add_67 rfl (lv_at hl 0 rfl) ?_
            refine gX1 F hK hP rfl 5 (by decide) q183 rfl (v := .int (nI sp)) rfl dX1_add_68 ?_
            refine lv_iload_n F.1 F.2.1 dX1_add_71 rfl (lv_at hl 2 rfl) ?_
            refine wr_iast F hK hP hD hS 6 5 rfl rfl (by omega) (by decide) dX1_add_72 (ws' := wY q d sz sp st ma bg en lb (wq_up ki sp k) (upd nm sp x) nw th) rfl (fun H locs hP hD hS => ?_)
            refine lv_aload_n F.1 F.2.1 dX1_add_73 rfl (lv_at hl 0 rfl) ?_
            refine lv_dup F.1 F.2.1 dX1_add_74 rfl ?_
            refine gX1 F hK hP rfl 5 (by decide) q183 rfl (v := .int (nI sp)) rfl dX1_add_75 ?_
            refine wq_iconst F 1 dX1_add_78 (by decide) ?_
            refine wq_iadd F dX1_add_79 ?_
            refine pX1 F hK hP hD hS rfl 5 (by decide) q183 rfl rfl (ty := .int) (by decide +kernel) rfl rfl (Nat.le_of_ble_eq_true rfl) dX1_add_80 (ws' := wY q d sz (sp + 1) st ma bg en lb (wq_up ki sp k) (upd nm sp x) nw th) rfl (fun H locs hP hD hS => ?_)
            refine lv_aload_n F.1 F.2.1 dX1_add_83 rfl (lv_at hl 0 rfl) ?_
            refine gX1 F hK hP rfl 5 (by decide) q183 rfl (v := .int (nI (sp + 1))) rfl dX1_add_84 ?_
            exact wq_iret F hr hlk (rfl) hK hP hD hS dX1_add_87
          · exfalso
            omega
    · refine lv_iload_n F.1 F.2.1 dX1_add_15 rfl (lv_at hl 2 rfl) ?_
      refine wr_if_lt (tgt := 39) F dX1_add_16 (by decide) (fun c16 => ?_) (fun c16 => ?_)
      · exfalso
        omega
      · refine lv_iload_n F.1 F.2.1 dX1_add_19 rfl (lv_at hl 2 rfl) ?_
        refine wq_iconst F 2 dX1_add_20 (by decide) ?_
        refine wr_icmp_gt (tgt := 39) F (rfl) (show (nI 2).toInt = (2 : Int) by decide) dX1_add_21 (by decide) (fun c21 => ?_) (fun c21 => ?_)
        · exfalso
          omega
        · refine lv_iload_n F.1 F.2.1 dX1_add_24 rfl (lv_at hl 1 rfl) ?_
          refine wq_iconst F 4 dX1_add_25 (by decide) ?_
          refine wq_icmp_ne (tgt := 41) F (by omega) (by omega) dX1_add_26 (by decide) (fun c26 => ?_) (fun c26 => ?_)
          · refine lv_aload_n F.1 F.2.1 dX1_add_41 rfl (lv_at hl 0 rfl) ?_
            refine gX1 F hK hP rfl 5 (by decide) q183 rfl (v := .int (nI sp)) rfl dX1_add_42 ?_
            refine wq_bipush F 6 dX1_add_45 (by decide) ?_
            refine wq_icmp_lt (tgt := 53) F (by omega) (by omega) dX1_add_47 (by decide) (fun c47 => ?_) (fun c47 => False.elim (by omega))
            refine lv_aload_n F.1 F.2.1 dX1_add_53 rfl (lv_at hl 0 rfl) ?_
            refine gX1 F hK hP rfl 6 (by decide) q184 rfl (v := .ref (q 5)) rfl dX1_add_54 ?_
            refine lv_aload_n F.1 F.2.1 dX1_add_57 rfl (lv_at hl 0 rfl) ?_
            refine gX1 F hK hP rfl 5 (by decide) q183 rfl (v := .int (nI sp)) rfl dX1_add_58 ?_
            refine lv_iload_n F.1 F.2.1 dX1_add_61 rfl (lv_at hl 1 rfl) ?_
            refine wq_iast F hK hP hD hS 5 4 rfl rfl (by omega) (by decide) dX1_add_62 (ws' := wY q d sz sp st ma bg en lb (wq_up ki sp k) nm nw th) rfl (fun H locs hP hD hS => ?_)
            refine lv_aload_n F.1 F.2.1 dX1_add_63 rfl (lv_at hl 0 rfl) ?_
            refine gX1 F hK hP rfl 7 (by decide) q185 rfl (v := .ref (q 6)) rfl dX1_add_64 ?_
            refine lv_aload_n F.1 F.2.1 dX1_add_67 rfl (lv_at hl 0 rfl) ?_
            refine gX1 F hK hP rfl 5 (by decide) q183 rfl (v := .int (nI sp)) rfl dX1_add_68 ?_
            refine lv_iload_n F.1 F.2.1 dX1_add_71 rfl (lv_at hl 2 rfl) ?_
            refine wr_iast F hK hP hD hS 6 5 rfl rfl (by omega) (by decide) dX1_add_72 (ws' := wY q d sz sp st ma bg en lb (wq_up ki sp k) (upd nm sp x) nw th) rfl (fun H locs hP hD hS => ?_)
            refine lv_aload_n F.1 F.2.1 dX1_add_73 rfl (lv_at hl 0 rfl) ?_
            refine lv_dup F.1 F.2.1 dX1_add_74 rfl ?_
            refine gX1 F hK hP rfl 5 (by decide) q183 rfl (v := .int (nI sp)) rfl dX1_add_75 ?_
            refine wq_iconst F 1 dX1_add_78 (by decide) ?_
            refine wq_iadd F dX1_add_79 ?_
            refine pX1 F hK hP hD hS rfl 5 (by decide) q183 rfl rfl (ty := .int) (by decide +kernel) rfl rfl (Nat.le_of_ble_eq_true rfl) dX1_add_80 (ws' := wY q d sz (sp + 1) st ma bg en lb (wq_up ki sp k) (upd nm sp x) nw th) rfl (fun H locs hP hD hS => ?_)
            refine lv_aload_n F.1 F.2.1 dX1_add_83 rfl (lv_at hl 0 rfl) ?_
            refine gX1 F hK hP rfl 5 (by decide) q183 rfl (v := .int (nI (sp + 1))) rfl dX1_add_84 ?_
            exact wq_iret F hr hlk (rfl) hK hP hD hS dX1_add_87
          · refine lv_iload_n F.1 F.2.1 dX1_add_29 rfl (lv_at hl 2 rfl) ?_
            refine wr_if_lt (tgt := 39) F dX1_add_30 (by decide) (fun c30 => ?_) (fun c30 => ?_)
            · exfalso
              omega
            · refine lv_iload_n F.1 F.2.1 dX1_add_33 rfl (lv_at hl 2 rfl) ?_
              refine wq_bipush F 9 dX1_add_34 (by decide) ?_
              refine wr_icmp_le (tgt := 41) F (rfl) (show (nI 9).toInt = (9 : Int) by decide) dX1_add_36 (by decide) (fun c36 => ?_) (fun c36 => ?_)
              · refine lv_aload_n F.1 F.2.1 dX1_add_41 rfl (lv_at hl 0 rfl) ?_
                refine gX1 F hK hP rfl 5 (by decide) q183 rfl (v := .int (nI sp)) rfl dX1_add_42 ?_
                refine wq_bipush F 6 dX1_add_45 (by decide) ?_
                refine wq_icmp_lt (tgt := 53) F (by omega) (by omega) dX1_add_47 (by decide) (fun c47 => ?_) (fun c47 => False.elim (by omega))
                refine lv_aload_n F.1 F.2.1 dX1_add_53 rfl (lv_at hl 0 rfl) ?_
                refine gX1 F hK hP rfl 6 (by decide) q184 rfl (v := .ref (q 5)) rfl dX1_add_54 ?_
                refine lv_aload_n F.1 F.2.1 dX1_add_57 rfl (lv_at hl 0 rfl) ?_
                refine gX1 F hK hP rfl 5 (by decide) q183 rfl (v := .int (nI sp)) rfl dX1_add_58 ?_
                refine lv_iload_n F.1 F.2.1 dX1_add_61 rfl (lv_at hl 1 rfl) ?_
                refine wq_iast F hK hP hD hS 5 4 rfl rfl (by omega) (by decide) dX1_add_62 (ws' := wY q d sz sp st ma bg en lb (wq_up ki sp k) nm nw th) rfl (fun H locs hP hD hS => ?_)
                refine lv_aload_n F.1 F.2.1 dX1_add_63 rfl (lv_at hl 0 rfl) ?_
                refine gX1 F hK hP rfl 7 (by decide) q185 rfl (v := .ref (q 6)) rfl dX1_add_64 ?_
                refine lv_aload_n F.1 F.2.1 dX1_add_67 rfl (lv_at hl 0 rfl) ?_
                refine gX1 F hK hP rfl 5 (by decide) q183 rfl (v := .int (nI sp)) rfl dX1_add_68 ?_
                refine lv_iload_n F.1 F.2.1 dX1_add_71 rfl (lv_at hl 2 rfl) ?_
                refine wr_iast F hK hP hD hS 6 5 rfl rfl (by omega) (by decide) dX1_add_72 (ws' := wY q d sz sp st ma bg en lb (wq_up ki sp k) (upd nm sp x) nw th) rfl (fun H locs hP hD hS => ?_)
                refine lv_aload_n F.1 F.2.1 dX1_add_73 rfl (lv_at hl 0 rfl) ?_
                refine lv_dup F.1 F.2.1 dX1_add_74 rfl ?_
                refine gX1 F hK hP rfl 5 (by decide) q183 rfl (v := .int (nI sp)) rfl dX1_add_75 ?_
                refine wq_iconst F 1 dX1_add_78 (by decide) ?_
                refine wq_iadd F dX1_add_79 ?_
                refine pX1 F hK hP hD hS rfl 5 (by decide) q183 rfl rfl (ty := .int) (by decide +kernel) rfl rfl (Nat.le_of_ble_eq_true rfl) dX1_add_80 (ws' := wY q d sz (sp + 1) st ma bg en lb (wq_up ki sp k) (upd nm sp x) nw th) rfl (fun H locs hP hD hS => ?_)
                refine lv_aload_n F.1 F.2.1 dX1_add_83 rfl (lv_at hl 0 rfl) ?_
                refine gX1 F hK hP rfl 5 (by decide) q183 rfl (v := .int (nI (sp + 1))) rfl dX1_add_84 ?_
                exact wq_iret F hr hlk (rfl) hK hP hD hS dX1_add_87
              · exfalso
                omega

set_option maxHeartbeats 4000000 in
set_option maxRecDepth 100000 in
/-- drop: no -/
theorem cY_drop_no (l : Launch) (D : va_G) (q : Nat → Nat) (d : Nat → ClassId) (sz sp st : Nat) (ma bg en lb ki : Nat → Nat) (nm : Nat → Int32) (nw th : Nat → Nat) (h : sp = 0) : CtI l D vwCl (tY d) yX1_drop cX1_drop 1 .int rmX1_drop [.ref (q 0)] (wY q d sz sp st ma bg en lb ki nm nw th) (-1) (wY q d sz sp st ma bg en lb ki nm nw th) := by
  refine CtI.of RX1 rfl (by decide +kernel) (Nat.le_of_ble_eq_true rfl) ?_
  intro p e s m below meth c A ls F hr hlk hK hA hP hD hS hl
  have hl : lv_has ls 1 [(0, .ref (q 0))] := hl
  refine lv_aload_n F.1 F.2.1 dX1_drop_0 rfl (lv_at hl 0 rfl) ?_
  refine gX1 F hK hP rfl 5 (by decide) q183 rfl (v := .int (nI sp)) rfl dX1_drop_1 ?_
  refine wq_if_ne (tgt := 9) F (by omega) dX1_drop_4 (by decide) (fun c4 => False.elim (by omega)) (fun c4 => ?_)
  refine lv_iconst (v := -1) F.1 F.2.1 dX1_drop_7 (by decide) ?_
  exact wq_iret F hr hlk (rfl) hK hP hD hS dX1_drop_8

set_option maxHeartbeats 4000000 in
set_option maxRecDepth 100000 in
/-- drop: done -/
theorem cY_drop_ok (l : Launch) (D : va_G) (q : Nat → Nat) (d : Nat → ClassId) (sz sp st : Nat) (ma bg en lb ki : Nat → Nat) (nm : Nat → Int32) (nw th : Nat → Nat) (h : 0 < sp) (h6 : sp ≤ 6) : CtI l D vwCl (tY d) yX1_drop cX1_drop 1 .int rmX1_drop [.ref (q 0)] (wY q d sz sp st ma bg en lb ki nm nw th) (nI (sp - 1)) (wY q d sz (sp - 1) st ma bg en lb ki nm nw th) := by
  refine CtI.of RX1 rfl (by decide +kernel) (Nat.le_of_ble_eq_true rfl) ?_
  intro p e s m below meth c A ls F hr hlk hK hA hP hD hS hl
  have hl : lv_has ls 1 [(0, .ref (q 0))] := hl
  refine lv_aload_n F.1 F.2.1 dX1_drop_0 rfl (lv_at hl 0 rfl) ?_
  refine gX1 F hK hP rfl 5 (by decide) q183 rfl (v := .int (nI sp)) rfl dX1_drop_1 ?_
  refine wq_if_ne (tgt := 9) F (by omega) dX1_drop_4 (by decide) (fun c4 => ?_) (fun c4 => False.elim (by omega))
  refine lv_aload_n F.1 F.2.1 dX1_drop_9 rfl (lv_at hl 0 rfl) ?_
  refine lv_dup F.1 F.2.1 dX1_drop_10 rfl ?_
  refine gX1 F hK hP rfl 5 (by decide) q183 rfl (v := .int (nI sp)) rfl dX1_drop_11 ?_
  refine wq_iconst F 1 dX1_drop_14 (by decide) ?_
  refine wq_isub F (by omega) dX1_drop_15 ?_
  refine pX1 F hK hP hD hS rfl 5 (by decide) q183 rfl rfl (ty := .int) (by decide +kernel) rfl rfl (Nat.le_of_ble_eq_true rfl) dX1_drop_16 (ws' := wY q d sz (sp - 1) st ma bg en lb ki nm nw th) rfl (fun H locs hP hD hS => ?_)
  refine lv_aload_n F.1 F.2.1 dX1_drop_19 rfl (lv_at hl 0 rfl) ?_
  refine gX1 F hK hP rfl 5 (by decide) q183 rfl (v := .int (nI (sp - 1))) rfl dX1_drop_20 ?_
  exact wq_iret F hr hlk (rfl) hK hP hD hS dX1_drop_23

set_option maxHeartbeats 4000000 in
set_option maxRecDepth 100000 in
/-- from: no -/
theorem cY_from_no (l : Launch) (D : va_G) (q : Nat → Nat) (d : Nat → ClassId) (sz sp st : Nat) (ma bg en lb ki : Nat → Nat) (nm : Nat → Int32) (nw th : Nat → Nat) (x : Int32) (h : x.toInt < 0 ∨ 255 < x.toInt) : CtI l D vwCl (tY d) yX1_from cX1_from 2 .boolean rmX1_from [.ref (q 0), .int x] (wY q d sz sp st ma bg en lb ki nm nw th) (nI 0) (wY q d sz sp st ma bg en lb ki nm nw th) := by
  refine CtI.of RX1 rfl (by decide +kernel) (Nat.le_of_ble_eq_true rfl) ?_
  intro p e s m below meth c A ls F hr hlk hK hA hP hD hS hl
  have hl : lv_has ls 2 [(0, .ref (q 0)), (1, .int x)] := hl
  refine lv_iload_n F.1 F.2.1 dX1_from_0 rfl (lv_at hl 1 rfl) ?_
  refine wr_if_lt (tgt := 11) F dX1_from_1 (by decide) (fun c1 => ?_) (fun c1 => ?_)
  · refine wq_iconst F 0 dX1_from_11 (by decide) ?_
    exact wq_zret F hr hlk rfl (rfl) hK hP hD hS dX1_from_12
  · refine lv_iload_n F.1 F.2.1 dX1_from_4 rfl (lv_at hl 1 rfl) ?_
    refine wq_sipush F 255 dX1_from_5 (by decide) ?_
    refine wr_icmp_le (tgt := 13) F (rfl) (show (nI 255).toInt = (255 : Int) by decide) dX1_from_8 (by decide) (fun c8 => False.elim (by omega)) (fun c8 => ?_)
    refine wq_iconst F 0 dX1_from_11 (by decide) ?_
    exact wq_zret F hr hlk rfl (rfl) hK hP hD hS dX1_from_12

set_option maxHeartbeats 4000000 in
set_option maxRecDepth 100000 in
/-- from: done -/
theorem cY_from_ok (l : Launch) (D : va_G) (q : Nat → Nat) (d : Nat → ClassId) (sz sp st : Nat) (ma bg en lb ki : Nat → Nat) (nm : Nat → Int32) (nw th : Nat → Nat) (x : Nat) (h : x ≤ 255) : CtI l D vwCl (tY d) yX1_from cX1_from 2 .boolean rmX1_from [.ref (q 0), .int (nI x)] (wY q d sz sp st ma bg en lb ki nm nw th) (nI 1) (wY q d sz sp x ma bg en lb ki nm nw th) := by
  refine CtI.of RX1 rfl (by decide +kernel) (Nat.le_of_ble_eq_true rfl) ?_
  intro p e s m below meth c A ls F hr hlk hK hA hP hD hS hl
  have hl : lv_has ls 2 [(0, .ref (q 0)), (1, .int (nI x))] := hl
  refine lv_iload_n F.1 F.2.1 dX1_from_0 rfl (lv_at hl 1 rfl) ?_
  refine wq_if_lt (tgt := 11) F (by omega) dX1_from_1 (by decide) (fun c1 => False.elim (c1)) (fun c1 => ?_)
  refine lv_iload_n F.1 F.2.1 dX1_from_4 rfl (lv_at hl 1 rfl) ?_
  refine wq_sipush F 255 dX1_from_5 (by decide) ?_
  refine wq_icmp_le (tgt := 13) F (by omega) (by omega) dX1_from_8 (by decide) (fun c8 => ?_) (fun c8 => False.elim (by omega))
  refine lv_aload_n F.1 F.2.1 dX1_from_13 rfl (lv_at hl 0 rfl) ?_
  refine lv_iload_n F.1 F.2.1 dX1_from_14 rfl (lv_at hl 1 rfl) ?_
  refine pX1 F hK hP hD hS rfl 8 (by decide) q186 rfl rfl (ty := .int) (by decide +kernel) rfl rfl (Nat.le_of_ble_eq_true rfl) dX1_from_15 (ws' := wY q d sz sp x ma bg en lb ki nm nw th) rfl (fun H locs hP hD hS => ?_)
  refine wq_iconst F 1 dX1_from_18 (by decide) ?_
  exact wq_zret F hr hlk rfl (rfl) hK hP hD hS dX1_from_19

set_option maxHeartbeats 4000000 in
set_option maxRecDepth 100000 in
/-- edges() -/
theorem cY_edges (l : Launch) (D : va_G) (q : Nat → Nat) (d : Nat → ClassId) (sz sp st : Nat) (ma bg en lb ki : Nat → Nat) (nm : Nat → Int32) (nw th : Nat → Nat)  : CtI l D vwCl (tY d) yX1_edges cX1_edges 1 .int rmX1_edges [.ref (q 0)] (wY q d sz sp st ma bg en lb ki nm nw th) (nI sz) (wY q d sz sp st ma bg en lb ki nm nw th) := by
  refine CtI.of RX1 rfl (by decide +kernel) (Nat.le_of_ble_eq_true rfl) ?_
  intro p e s m below meth c A ls F hr hlk hK hA hP hD hS hl
  have hl : lv_has ls 1 [(0, .ref (q 0))] := hl
  refine lv_aload_n F.1 F.2.1 dX1_edges_0 rfl (lv_at hl 0 rfl) ?_
  refine gX1 F hK hP rfl 1 (by decide) q179 rfl (v := .int (nI sz)) rfl dX1_edges_1 ?_
  exact wq_iret F hr hlk (rfl) hK hP hD hS dX1_edges_4

set_option maxHeartbeats 4000000 in
set_option maxRecDepth 100000 in
/-- send(u, v, j, o, ii) -/
theorem cY_send (l : Launch) (D : va_G) (q : Nat → Nat) (d : Nat → ClassId) (sz sp st : Nat) (ma bg en lb ki : Nat → Nat) (nm : Nat → Int32) (nw th : Nat → Nat) (u v : Nat) (j : Int32) (o ii : Nat) (hsz : sz ≤ 10) (hbg : ∀ k, bg k < 8) (hen : ∀ k, en k < 8) (hlb : ∀ k, lb k < 2) (hu : u < 8) (hv : v < 8) (ho : o ≤ 1) (hii : ii ≤ 1) : CtI l D vwCl (tY d) yX1_send cX1_send 9 .int rmX1_send [.ref (q 0), .int (nI u), .int (nI v), .int j, .int (nI o), .int (nI ii)] (wY q d sz sp st ma bg en lb ki nm nw th) (nI (mY_send bg en lb nw u v j o ii sz (0, th)).1) (wY q d sz sp st ma bg en lb ki nm nw ((mY_send bg en lb nw u v j o ii sz (0, th)).2)) := by
  refine CtI.of RX1 rfl (by decide +kernel) (Nat.le_of_ble_eq_true rfl) ?_
  intro p e s m below meth c A ls F hr hlk hK hA hP hD hS hl
  have hl : lv_has ls 9 [(0, .ref (q 0)), (1, .int (nI u)), (2, .int (nI v)), (3, .int j), (4, .int (nI o)), (5, .int (nI ii))] := hl
  refine wq_iconst F 0 dX1_send_0 (by decide) ?_
  refine lv_istore (lv' := [(6, .int (nI 0)), (0, .ref (q 0)), (1, .int (nI u)), (2, .int (nI v)), (3, .int j), (4, .int (nI o)), (5, .int (nI ii))]) F.1 F.2.1 dX1_send_1 hl (by decide) rfl (fun ls hl => ?_)
  refine wq_iconst F 0 dX1_send_3 (by decide) ?_
  refine lv_istore (lv' := [(7, .int (nI 0)), (6, .int (nI 0)), (0, .ref (q 0)), (1, .int (nI u)), (2, .int (nI v)), (3, .int j), (4, .int (nI o)), (5, .int (nI ii))]) F.1 F.2.1 dX1_send_4 hl (by decide) rfl (fun ls hl => ?_)
  have lp1 : ∀ (n i : Nat), i + n = sz → ∀ (H : Heap) (locs : List Loc) (ls : Array Slot), va_P D vwCl (wY q d sz sp st ma bg en lb ki nm nw ((mY_send bg en lb nw u v j o ii i (0, th)).2)) H → va_D A (wY q d sz sp st ma bg en lb ki nm nw ((mY_send bg en lb nw u v j o ii i (0, th)).2)) → va_S A s.heap H locs → lv_has ls 9 [(0, .ref (q 0)), (1, .int (nI u)), (2, .int (nI v)), (3, .int j), (4, .int (nI o)), (5, .int (nI ii)), (6, .int (nI ((mY_send bg en lb nw u v j o ii i (0, th)).1))), (7, .int (nI i))] → W p l e rmX1_send s m [.ref (q 0), .int (nI u), .int (nI v), .int j, .int (nI o), .int (nI ii)].toArray below meth c H locs 0 0 (MQ below (wq_QI D vwCl (tY d) A (nI (mY_send bg en lb nw u v j o ii sz (0, th)).1) (wY q d sz sp st ma bg en lb ki nm nw ((mY_send bg en lb nw u v j o ii sz (0, th)).2))) [.ref (q 0), .int (nI u), .int (nI v), .int j, .int (nI o), .int (nI ii)].toArray s 0 0 A) (F0 m 6 ls []) := by
    intro n
    induction n with
    | zero =>
      intro i hi H locs ls hP hD hS hl
      have ei : sz = i := by omega
      subst ei
      refine lv_iload F.1 F.2.1 dX1_send_6 (lv_at hl 7 rfl) ?_
      refine lv_aload_n F.1 F.2.1 dX1_send_8 rfl (lv_at hl 0 rfl) ?_
      refine gX1 F hK hP rfl 1 (by decide) q179 rfl (v := .int (nI sz)) rfl dX1_send_9 ?_
      refine wq_icmp_ge (tgt := 154) F (by omega) (by omega) dX1_send_12 (by decide) (fun c12 => ?_) (fun c12 => False.elim (by omega))
      refine lv_iload F.1 F.2.1 dX1_send_154 (lv_at hl 6 rfl) ?_
      exact wq_iret F hr hlk (rfl) hK hP hD hS dX1_send_156
    | succ n ihlp1 =>
      intro i hi H locs ls hP hD hS hl
      refine lv_iload F.1 F.2.1 dX1_send_6 (lv_at hl 7 rfl) ?_
      refine lv_aload_n F.1 F.2.1 dX1_send_8 rfl (lv_at hl 0 rfl) ?_
      refine gX1 F hK hP rfl 1 (by decide) q179 rfl (v := .int (nI sz)) rfl dX1_send_9 ?_
      refine wq_icmp_ge (tgt := 154) F (by omega) (by omega) dX1_send_12 (by decide) (fun c12 => False.elim (by omega)) (fun c12 => ?_)
      have h1 := hbg i
      have h2 := hen i
      have h3 := hlb i
      have K36 : ∀ (x0 : Nat), x0 = (mY_fits lb j i) → ∀ (H : Heap) (locs : List Loc) (ls : Array Slot), va_P D vwCl (wY q d sz sp st ma bg en lb ki nm nw ((mY_send bg en lb nw u v j o ii i (0, th)).2)) H → va_D A (wY q d sz sp st ma bg en lb ki nm nw ((mY_send bg en lb nw u v j o ii i (0, th)).2)) → va_S A s.heap H locs → lv_has ls 9 [(0, .ref (q 0)), (1, .int (nI u)), (2, .int (nI v)), (3, .int j), (4, .int (nI o)), (5, .int (nI ii)), (6, .int (nI ((mY_send bg en lb nw u v j o ii i (0, th)).1))), (7, .int (nI i))] → W p l e rmX1_send s m [.ref (q 0), .int (nI u), .int (nI v), .int j, .int (nI o), .int (nI ii)].toArray below meth c H locs 0 0 (MQ below (wq_QI D vwCl (tY d) A (nI (mY_send bg en lb nw u v j o ii sz (0, th)).1) (wY q d sz sp st ma bg en lb ki nm nw ((mY_send bg en lb nw u v j o ii sz (0, th)).2))) [.ref (q 0), .int (nI u), .int (nI v), .int j, .int (nI o), .int (nI ii)].toArray s 0 0 A) (F0 m 36 ls [.int (nI x0)]) := by
        intro x0 ex0 H locs ls hP hD hS hl
        subst ex0
        refine lv_istore (lv' := [(8, .int (nI (mY_fits lb j i))), (0, .ref (q 0)), (1, .int (nI u)), (2, .int (nI v)), (3, .int j), (4, .int (nI o)), (5, .int (nI ii)), (6, .int (nI ((mY_send bg en lb nw u v j o ii i (0, th)).1))), (7, .int (nI i))]) F.1 F.2.1 dX1_send_36 hl (by decide) rfl (fun ls hl => ?_)
        have K93 : ∀ (y1 : Nat × (Nat → Nat)), y1 = ((mY_s1 (mY_fits lb j i) o (bg i) v (8 * u + en i) (nw (8 * u + v)) (mY_send bg en lb nw u v j o ii i (0, th)))) → ∀ (H : Heap) (locs : List Loc) (ls : Array Slot), va_P D vwCl (wY q d sz sp st ma bg en lb ki nm nw y1.2) H → va_D A (wY q d sz sp st ma bg en lb ki nm nw y1.2) → va_S A s.heap H locs → lv_has ls 9 [(8, .int (nI (mY_fits lb j i))), (0, .ref (q 0)), (1, .int (nI u)), (2, .int (nI v)), (3, .int j), (4, .int (nI o)), (5, .int (nI ii)), (6, .int (nI y1.1)), (7, .int (nI i))] → W p l e rmX1_send s m [.ref (q 0), .int (nI u), .int (nI v), .int j, .int (nI o), .int (nI ii)].toArray below meth c H locs 0 0 (MQ below (wq_QI D vwCl (tY d) A (nI (mY_send bg en lb nw u v j o ii sz (0, th)).1) (wY q d sz sp st ma bg en lb ki nm nw ((mY_send bg en lb nw u v j o ii sz (0, th)).2))) [.ref (q 0), .int (nI u), .int (nI v), .int j, .int (nI o), .int (nI ii)].toArray s 0 0 A) (F0 m 93 ls []) := by
          intro y1 ey1 H locs ls hP hD hS hl
          subst ey1
          refine lv_iload F.1 F.2.1 dX1_send_93 (lv_at hl 0 rfl) ?_
          have K148 : ∀ (y2 : Nat × (Nat → Nat)), y2 = ((mY_s1 (mY_fits lb j i) ii (en i) v (8 * u + bg i) (nw (8 * u + v)) (mY_s1 (mY_fits lb j i) o (bg i) v (8 * u + en i) (nw (8 * u + v)) (mY_send bg en lb nw u v j o ii i (0, th))))) → ∀ (H : Heap) (locs : List Loc) (ls : Array Slot), va_P D vwCl (wY q d sz sp st ma bg en lb ki nm nw y2.2) H → va_D A (wY q d sz sp st ma bg en lb ki nm nw y2.2) → va_S A s.heap H locs → lv_has ls 9 [(0, .ref (q 0)), (1, .int (nI u)), (2, .int (nI v)), (3, .int j), (4, .int (nI o)), (5, .int (nI ii)), (6, .int (nI y2.1)), (7, .int (nI i))] → W p l e rmX1_send s m [.ref (q 0), .int (nI u), .int (nI v), .int j, .int (nI o), .int (nI ii)].toArray below meth c H locs 0 0 (MQ below (wq_QI D vwCl (tY d) A (nI (mY_send bg en lb nw u v j o ii sz (0, th)).1) (wY q d sz sp st ma bg en lb ki nm nw ((mY_send bg en lb nw u v j o ii sz (0, th)).2))) [.ref (q 0), .int (nI u), .int (nI v), .int j, .int (nI o), .int (nI ii)].toArray s 0 0 A) (F0 m 148 ls []) := by
            intro y2 ey2 H locs ls hP hD hS hl
            subst ey2
            refine lv_iinc (v := nI (i + 1)) (lv' := [(7, .int (nI (i + 1))), (0, .ref (q 0)), (1, .int (nI u)), (2, .int (nI v)), (3, .int j), (4, .int (nI o)), (5, .int (nI ii)), (6, .int (nI ((mY_s1 (mY_fits lb j i) ii (en i) v (8 * u + bg i) (nw (8 * u + v)) (mY_s1 (mY_fits lb j i) o (bg i) v (8 * u + en i) (nw (8 * u + v)) (mY_send bg en lb nw u v j o ii i (0, th)))).1)))]) F.1 F.2.1 dX1_send_148 hl (k := 7) rfl (wq_inc1 _) (by decide) rfl (fun ls hl => ?_)
            refine lv_goto (tgt := 6) F.1 F.2.1 dX1_send_151 (by decide) ?_
            exact ihlp1 (i + 1) (by omega) _ _ _ hP hD hS (lv_sub hl [1, 2, 3, 4, 5, 6, 7, 0] rfl)
          refine wq_if_eq (tgt := 148) F (mY_fits_lt) dX1_send_95 (by decide) (fun c95 => ?_) (fun c95 => ?_)
          · exact K148 ((mY_s1 (mY_fits lb j i) o (bg i) v (8 * u + en i) (nw (8 * u + v)) (mY_send bg en lb nw u v j o ii i (0, th)))) (mY_s1_z (by omega)) _ _ _ hP hD hS (lv_sub hl [1, 2, 3, 4, 5, 6, 7, 8] rfl)
          · refine lv_iload F.1 F.2.1 dX1_send_98 (lv_at hl 6 rfl) ?_
            refine wq_if_eq (tgt := 148) F (by omega) dX1_send_100 (by decide) (fun c100 => ?_) (fun c100 => ?_)
            · exact K148 ((mY_s1 (mY_fits lb j i) o (bg i) v (8 * u + en i) (nw (8 * u + v)) (mY_send bg en lb nw u v j o ii i (0, th)))) (mY_s1_z (by omega)) _ _ _ hP hD hS (lv_sub hl [1, 2, 3, 4, 5, 6, 7, 8] rfl)
            · refine lv_aload_n F.1 F.2.1 dX1_send_103 rfl (lv_at hl 1 rfl) ?_
              refine gX1 F hK hP rfl 3 (by decide) q181 rfl (v := .ref (q 3)) rfl dX1_send_104 ?_
              refine lv_iload F.1 F.2.1 dX1_send_107 (lv_at hl 8 rfl) ?_
              refine wq_iald F hK hP 3 2 rfl rfl (by omega) (by decide) dX1_send_109 ?_
              refine lv_iload_n F.1 F.2.1 dX1_send_110 rfl (lv_at hl 3 rfl) ?_
              refine wq_icmp_ne (tgt := 148) F (by omega) (by omega) dX1_send_111 (by decide) (fun c111 => ?_) (fun c111 => ?_)
              · exact K148 ((mY_s1 (mY_fits lb j i) o (bg i) v (8 * u + en i) (nw (8 * u + v)) (mY_send bg en lb nw u v j o ii i (0, th)))) (mY_s1_z (by omega)) _ _ _ hP hD hS (lv_sub hl [1, 2, 3, 4, 5, 6, 7, 8] rfl)
              · refine lv_aload_n F.1 F.2.1 dX1_send_114 rfl (lv_at hl 1 rfl) ?_
                refine gX1 F hK hP rfl 10 (by decide) q188 rfl (v := .ref (q 8)) rfl dX1_send_115 ?_
                refine wq_bipush F 8 dX1_send_118 (by decide) ?_
                refine lv_iload_n F.1 F.2.1 dX1_send_120 rfl (lv_at hl 2 rfl) ?_
                refine wq_imul F dX1_send_121 ?_
                refine lv_aload_n F.1 F.2.1 dX1_send_122 rfl (lv_at hl 1 rfl) ?_
                refine gX1 F hK hP rfl 2 (by decide) q180 rfl (v := .ref (q 2)) rfl dX1_send_123 ?_
                refine lv_iload F.1 F.2.1 dX1_send_126 (lv_at hl 8 rfl) ?_
                refine wq_iald F hK hP 2 1 rfl rfl (by omega) (by decide) dX1_send_128 ?_
                refine wq_iadd F dX1_send_129 ?_
                refine lv_dup2_11 F.1 F.2.1 dX1_send_130 rfl rfl ?_
                refine wq_iald F hK hP 8 7 rfl rfl (by omega) (by decide) dX1_send_131 ?_
                refine lv_aload_n F.1 F.2.1 dX1_send_132 rfl (lv_at hl 1 rfl) ?_
                refine gX1 F hK hP rfl 9 (by decide) q187 rfl (v := .ref (q 7)) rfl dX1_send_133 ?_
                refine wq_bipush F 8 dX1_send_136 (by decide) ?_
                refine lv_iload_n F.1 F.2.1 dX1_send_138 rfl (lv_at hl 2 rfl) ?_
                refine wq_imul F dX1_send_139 ?_
                refine lv_iload_n F.1 F.2.1 dX1_send_140 rfl (lv_at hl 3 rfl) ?_
                refine wq_iadd F dX1_send_141 ?_
                refine wq_iald F hK hP 7 6 rfl rfl (by omega) (by decide) dX1_send_142 ?_
                refine wq_iadd F dX1_send_143 ?_
                refine wq_iast F hK hP hD hS 8 7 rfl rfl (by omega) (by decide) dX1_send_144 (ws' := wY q d sz sp st ma bg en lb ki nm nw (wq_up ((mY_s1 (mY_fits lb j i) o (bg i) v (8 * u + en i) (nw (8 * u + v)) (mY_send bg en lb nw u v j o ii i (0, th))).2) ((8 * u) + (bg i)) ((((mY_s1 (mY_fits lb j i) o (bg i) v (8 * u + en i) (nw (8 * u + v)) (mY_send bg en lb nw u v j o ii i (0, th))).2) ((8 * u) + (bg i))) + (nw ((8 * u) + v))))) rfl (fun H locs hP hD hS => ?_)
                refine lv_iinc (v := nI (((mY_s1 (mY_fits lb j i) o (bg i) v (8 * u + en i) (nw (8 * u + v)) (mY_send bg en lb nw u v j o ii i (0, th))).1) + 1)) (lv' := [(6, .int (nI (((mY_s1 (mY_fits lb j i) o (bg i) v (8 * u + en i) (nw (8 * u + v)) (mY_send bg en lb nw u v j o ii i (0, th))).1) + 1))), (8, .int (nI (mY_fits lb j i))), (0, .ref (q 0)), (1, .int (nI u)), (2, .int (nI v)), (3, .int j), (4, .int (nI o)), (5, .int (nI ii)), (7, .int (nI i))]) F.1 F.2.1 dX1_send_145 hl (k := 7) rfl (wq_inc1 _) (by decide) rfl (fun ls hl => ?_)
                exact K148 (((mY_s1 (mY_fits lb j i) o (bg i) v (8 * u + en i) (nw (8 * u + v)) (mY_send bg en lb nw u v j o ii i (0, th))).1 + 1, wq_up (mY_s1 (mY_fits lb j i) o (bg i) v (8 * u + en i) (nw (8 * u + v)) (mY_send bg en lb nw u v j o ii i (0, th))).2 (8 * u + bg i) ((mY_s1 (mY_fits lb j i) o (bg i) v (8 * u + en i) (nw (8 * u + v)) (mY_send bg en lb nw u v j o ii i (0, th))).2 (8 * u + bg i) + nw (8 * u + v)))) (mY_s1_o (by omega)) _ _ _ hP hD hS (lv_sub hl [2, 3, 4, 5, 6, 7, 0, 8] rfl)
        refine lv_iload F.1 F.2.1 dX1_send_38 (lv_at hl 0 rfl) ?_
        refine wq_if_eq (tgt := 93) F (mY_fits_lt) dX1_send_40 (by decide) (fun c40 => ?_) (fun c40 => ?_)
        · exact K93 ((mY_send bg en lb nw u v j o ii i (0, th))) (mY_s1_z (by omega)) _ _ _ hP hD hS (lv_sub hl [0, 1, 2, 3, 4, 5, 6, 7, 8] rfl)
        · refine lv_iload F.1 F.2.1 dX1_send_43 (lv_at hl 5 rfl) ?_
          refine wq_if_eq (tgt := 93) F (by omega) dX1_send_45 (by decide) (fun c45 => ?_) (fun c45 => ?_)
          · exact K93 ((mY_send bg en lb nw u v j o ii i (0, th))) (mY_s1_z (by omega)) _ _ _ hP hD hS (lv_sub hl [0, 1, 2, 3, 4, 5, 6, 7, 8] rfl)
          · refine lv_aload_n F.1 F.2.1 dX1_send_48 rfl (lv_at hl 1 rfl) ?_
            refine gX1 F hK hP rfl 2 (by decide) q180 rfl (v := .ref (q 2)) rfl dX1_send_49 ?_
            refine lv_iload F.1 F.2.1 dX1_send_52 (lv_at hl 8 rfl) ?_
            refine wq_iald F hK hP 2 1 rfl rfl (by omega) (by decide) dX1_send_54 ?_
            refine lv_iload_n F.1 F.2.1 dX1_send_55 rfl (lv_at hl 3 rfl) ?_
            refine wq_icmp_ne (tgt := 93) F (by omega) (by omega) dX1_send_56 (by decide) (fun c56 => ?_) (fun c56 => ?_)
            · exact K93 ((mY_send bg en lb nw u v j o ii i (0, th))) (mY_s1_z (by omega)) _ _ _ hP hD hS (lv_sub hl [0, 1, 2, 3, 4, 5, 6, 7, 8] rfl)
            · refine lv_aload_n F.1 F.2.1 dX1_send_59 rfl (lv_at hl 1 rfl) ?_
              refine gX1 F hK hP rfl 10 (by decide) q188 rfl (v := .ref (q 8)) rfl dX1_send_60 ?_
              refine wq_bipush F 8 dX1_send_63 (by decide) ?_
              refine lv_iload_n F.1 F.2.1 dX1_send_65 rfl (lv_at hl 2 rfl) ?_
              refine wq_imul F dX1_send_66 ?_
              refine lv_aload_n F.1 F.2.1 dX1_send_67 rfl (lv_at hl 1 rfl) ?_
              refine gX1 F hK hP rfl 3 (by decide) q181 rfl (v := .ref (q 3)) rfl dX1_send_68 ?_
              refine lv_iload F.1 F.2.1 dX1_send_71 (lv_at hl 8 rfl) ?_
              refine wq_iald F hK hP 3 2 rfl rfl (by omega) (by decide) dX1_send_73 ?_
              refine wq_iadd F dX1_send_74 ?_
              refine lv_dup2_11 F.1 F.2.1 dX1_send_75 rfl rfl ?_
              refine wq_iald F hK hP 8 7 rfl rfl (by omega) (by decide) dX1_send_76 ?_
              refine lv_aload_n F.1 F.2.1 dX1_send_77 rfl (lv_at hl 1 rfl) ?_
              refine gX1 F hK hP rfl 9 (by decide) q187 rfl (v := .ref (q 7)) rfl dX1_send_78 ?_
              refine wq_bipush F 8 dX1_send_81 (by decide) ?_
              refine lv_iload_n F.1 F.2.1 dX1_send_83 rfl (lv_at hl 2 rfl) ?_
              refine wq_imul F dX1_send_84 ?_
              refine lv_iload_n F.1 F.2.1 dX1_send_85 rfl (lv_at hl 3 rfl) ?_
              refine wq_iadd F dX1_send_86 ?_
              refine wq_iald F hK hP 7 6 rfl rfl (by omega) (by decide) dX1_send_87 ?_
              refine wq_iadd F dX1_send_88 ?_
              refine wq_iast F hK hP hD hS 8 7 rfl rfl (by omega) (by decide) dX1_send_89 (ws' := wY q d sz sp st ma bg en lb ki nm nw (wq_up ((mY_send bg en lb nw u v j o ii i (0, th)).2) ((8 * u) + (en i)) ((((mY_send bg en lb nw u v j o ii i (0, th)).2) ((8 * u) + (en i))) + (nw ((8 * u) + v))))) rfl (fun H locs hP hD hS => ?_)
              refine lv_iinc (v := nI (((mY_send bg en lb nw u v j o ii i (0, th)).1) + 1)) (lv' := [(6, .int (nI (((mY_send bg en lb nw u v j o ii i (0, th)).1) + 1))), (8, .int (nI (mY_fits lb j i))), (0, .ref (q 0)), (1, .int (nI u)), (2, .int (nI v)), (3, .int j), (4, .int (nI o)), (5, .int (nI ii)), (7, .int (nI i))]) F.1 F.2.1 dX1_send_90 hl (k := 7) rfl (wq_inc1 _) (by decide) rfl (fun ls hl => ?_)
              exact K93 (((mY_send bg en lb nw u v j o ii i (0, th)).1 + 1, wq_up (mY_send bg en lb nw u v j o ii i (0, th)).2 (8 * u + en i) ((mY_send bg en lb nw u v j o ii i (0, th)).2 (8 * u + en i) + nw (8 * u + v)))) (mY_s1_o (by omega)) _ _ _ hP hD hS (lv_sub hl [1, 2, 3, 4, 5, 6, 7, 0, 8] rfl)
      refine lv_iload_n F.1 F.2.1 dX1_send_15 rfl (lv_at hl 3 rfl) ?_
      refine wq_iconst F 2 dX1_send_16 (by decide) ?_
      refine wr_icmp_eq (tgt := 31) F (rfl) (show (nI 2).toInt = (2 : Int) by decide) dX1_send_17 (by decide) (fun c17 => ?_) (fun c17 => ?_)
      · refine wq_iconst F 1 dX1_send_31 (by decide) ?_
        refine lv_goto (tgt := 36) F.1 F.2.1 dX1_send_32 (by decide) ?_
        exact K36 (1) (by unfold mY_fits; rw [if_pos (by omega)]) _ _ _ hP hD hS (lv_sub hl [0, 1, 2, 3, 4, 5, 6, 7] rfl)
      · refine lv_aload_n F.1 F.2.1 dX1_send_20 rfl (lv_at hl 0 rfl) ?_
        refine gX1 F hK hP rfl 4 (by decide) q182 rfl (v := .ref (q 4)) rfl dX1_send_21 ?_
        refine lv_iload F.1 F.2.1 dX1_send_24 (lv_at hl 7 rfl) ?_
        refine wq_iald F hK hP 4 3 rfl rfl (by omega) (by decide) dX1_send_26 ?_
        refine lv_iload_n F.1 F.2.1 dX1_send_27 rfl (lv_at hl 3 rfl) ?_
        refine wr_icmp_ne (tgt := 35) F (nI_toInt (by omega)) (rfl) dX1_send_28 (by decide) (fun c28 => ?_) (fun c28 => ?_)
        · refine wq_iconst F 0 dX1_send_35 (by decide) ?_
          exact K36 (0) (by unfold mY_fits; rw [if_neg (by omega)]) _ _ _ hP hD hS (lv_sub hl [0, 1, 2, 3, 4, 5, 6, 7] rfl)
        · refine wq_iconst F 1 dX1_send_31 (by decide) ?_
          refine lv_goto (tgt := 36) F.1 F.2.1 dX1_send_32 (by decide) ?_
          exact K36 (1) (by unfold mY_fits; rw [if_pos (by omega)]) _ _ _ hP hD hS (lv_sub hl [0, 1, 2, 3, 4, 5, 6, 7] rfl)
  exact lp1 sz 0 (by omega) _ _ _ hP hD hS (lv_sub hl [2, 3, 4, 5, 6, 7, 1, 0] rfl)

set_option maxHeartbeats 4000000 in
set_option maxRecDepth 100000 in
/-- lesser(u, v) -/
theorem cY_lesser (l : Launch) (D : va_G) (q : Nat → Nat) (d : Nat → ClassId) (sz sp st : Nat) (ma bg en lb ki : Nat → Nat) (nm : Nat → Int32) (nw th : Nat → Nat) (u v : Nat) (hu : u < 8) (hv : v < 8) (hnw : ∀ j, j < 64 → nw j < 2 ^ 31) : CtI l D vwCl (tY d) yX1_lesser cX1_lesser 5 .boolean rmX1_lesser [.ref (q 0), .int (nI u), .int (nI v)] (wY q d sz sp st ma bg en lb ki nm nw th) (nI (mY_lesser nw u v)) (wY q d sz sp st ma bg en lb ki nm nw th) := by
  refine CtI.of RX1 rfl (by decide +kernel) (Nat.le_of_ble_eq_true rfl) ?_
  intro p e s m below meth c A ls F hr hlk hK hA hP hD hS hl
  have hl : lv_has ls 5 [(0, .ref (q 0)), (1, .int (nI u)), (2, .int (nI v))] := hl
  refine wq_iconst F 0 dX1_lesser_0 (by decide) ?_
  refine lv_istore_n (lv' := [(3, .int (nI 0)), (0, .ref (q 0)), (1, .int (nI u)), (2, .int (nI v))]) F.1 F.2.1 dX1_lesser_1 rfl hl (by decide) rfl (fun ls hl => ?_)
  refine wq_iconst F 0 dX1_lesser_2 (by decide) ?_
  refine lv_istore (lv' := [(4, .int (nI 0)), (3, .int (nI 0)), (0, .ref (q 0)), (1, .int (nI u)), (2, .int (nI v))]) F.1 F.2.1 dX1_lesser_3 hl (by decide) rfl (fun ls hl => ?_)
  have lp1 : ∀ (n i : Nat), i + n = u → ∀ (H : Heap) (locs : List Loc) (ls : Array Slot), va_P D vwCl (wY q d sz sp st ma bg en lb ki nm nw th) H → va_D A (wY q d sz sp st ma bg en lb ki nm nw th) → va_S A s.heap H locs → lv_has ls 5 [(0, .ref (q 0)), (1, .int (nI u)), (2, .int (nI v)), (3, .int (nI (wq_it (fun r f => if f = 0 ∧ nw (8 * r + v) = 0 then 0 else 1) i 0))), (4, .int (nI i))] → W p l e rmX1_lesser s m [.ref (q 0), .int (nI u), .int (nI v)].toArray below meth c H locs 0 0 (MQ below (wq_QI D vwCl (tY d) A (nI (mY_lesser nw u v)) (wY q d sz sp st ma bg en lb ki nm nw th)) [.ref (q 0), .int (nI u), .int (nI v)].toArray s 0 0 A) (F0 m 5 ls []) := by
    intro n
    induction n with
    | zero =>
      intro i hi H locs ls hP hD hS hl
      have ei : u = i := by omega
      subst ei
      refine lv_iload F.1 F.2.1 dX1_lesser_5 (lv_at hl 4 rfl) ?_
      refine lv_iload_n F.1 F.2.1 dX1_lesser_7 rfl (lv_at hl 1 rfl) ?_
      refine wq_icmp_ge (tgt := 42) F (by omega) (by omega) dX1_lesser_8 (by decide) (fun c8 => ?_) (fun c8 => False.elim (by omega))
      refine lv_iload_n F.1 F.2.1 dX1_lesser_42 rfl (lv_at hl 3 rfl) ?_
      exact wq_zret F hr hlk (wq_narz (mY_les_le nw v _)) (rfl) hK hP hD hS dX1_lesser_43
    | succ n ihlp1 =>
      intro i hi H locs ls hP hD hS hl
      refine lv_iload F.1 F.2.1 dX1_lesser_5 (lv_at hl 4 rfl) ?_
      refine lv_iload_n F.1 F.2.1 dX1_lesser_7 rfl (lv_at hl 1 rfl) ?_
      refine wq_icmp_ge (tgt := 42) F (by omega) (by omega) dX1_lesser_8 (by decide) (fun c8 => False.elim (by omega)) (fun c8 => ?_)
      have h1 := mY_les_le nw v i
      have h2 := hnw (8 * i + v) (by omega)
      have K35 : ∀ (x0 : Nat), x0 = (if wq_it (fun r f => if f = 0 ∧ nw (8 * r + v) = 0 then 0 else 1) i 0 = 0 ∧ nw (8 * i + v) = 0 then 0 else 1) → ∀ (H : Heap) (locs : List Loc) (ls : Array Slot), va_P D vwCl (wY q d sz sp st ma bg en lb ki nm nw th) H → va_D A (wY q d sz sp st ma bg en lb ki nm nw th) → va_S A s.heap H locs → lv_has ls 5 [(0, .ref (q 0)), (1, .int (nI u)), (2, .int (nI v)), (3, .int (nI (wq_it (fun r f => if f = 0 ∧ nw (8 * r + v) = 0 then 0 else 1) i 0))), (4, .int (nI i))] → W p l e rmX1_lesser s m [.ref (q 0), .int (nI u), .int (nI v)].toArray below meth c H locs 0 0 (MQ below (wq_QI D vwCl (tY d) A (nI (mY_lesser nw u v)) (wY q d sz sp st ma bg en lb ki nm nw th)) [.ref (q 0), .int (nI u), .int (nI v)].toArray s 0 0 A) (F0 m 35 ls [.int (nI x0)]) := by
        intro x0 ex0 H locs ls hP hD hS hl
        subst ex0
        refine lv_istore_n (lv' := [(3, .int (nI (if wq_it (fun r f => if f = 0 ∧ nw (8 * r + v) = 0 then 0 else 1) i 0 = 0 ∧ nw (8 * i + v) = 0 then 0 else 1))), (0, .ref (q 0)), (1, .int (nI u)), (2, .int (nI v)), (4, .int (nI i))]) F.1 F.2.1 dX1_lesser_35 rfl hl (by decide) rfl (fun ls hl => ?_)
        refine lv_iinc (v := nI (i + 1)) (lv' := [(4, .int (nI (i + 1))), (3, .int (nI (if wq_it (fun r f => if f = 0 ∧ nw (8 * r + v) = 0 then 0 else 1) i 0 = 0 ∧ nw (8 * i + v) = 0 then 0 else 1))), (0, .ref (q 0)), (1, .int (nI u)), (2, .int (nI v))]) F.1 F.2.1 dX1_lesser_36 hl (k := 4) rfl (wq_inc1 _) (by decide) rfl (fun ls hl => ?_)
        refine lv_goto (tgt := 5) F.1 F.2.1 dX1_lesser_39 (by decide) ?_
        exact ihlp1 (i + 1) (by omega) _ _ _ hP hD hS (lv_sub hl [2, 3, 4, 1, 0] rfl)
      refine lv_iload_n F.1 F.2.1 dX1_lesser_11 rfl (lv_at hl 3 rfl) ?_
      refine wq_if_ne (tgt := 30) F (by omega) dX1_lesser_12 (by decide) (fun c12 => ?_) (fun c12 => ?_)
      · refine wq_iconst F 1 dX1_lesser_30 (by decide) ?_
        refine lv_goto (tgt := 35) F.1 F.2.1 dX1_lesser_31 (by decide) ?_
        exact K35 (1) ((if_neg (by omega)).symm) _ _ _ hP hD hS (lv_sub hl [0, 1, 2, 3, 4] rfl)
      · refine lv_aload_n F.1 F.2.1 dX1_lesser_15 rfl (lv_at hl 0 rfl) ?_
        refine gX1 F hK hP rfl 9 (by decide) q187 rfl (v := .ref (q 7)) rfl dX1_lesser_16 ?_
        refine wq_bipush F 8 dX1_lesser_19 (by decide) ?_
        refine lv_iload F.1 F.2.1 dX1_lesser_21 (lv_at hl 4 rfl) ?_
        refine wq_imul F dX1_lesser_23 ?_
        refine lv_iload_n F.1 F.2.1 dX1_lesser_24 rfl (lv_at hl 2 rfl) ?_
        refine wq_iadd F dX1_lesser_25 ?_
        refine wq_iald F hK hP 7 6 rfl rfl (by omega) (by decide) dX1_lesser_26 ?_
        refine wq_if_le (tgt := 34) F (by omega) dX1_lesser_27 (by decide) (fun c27 => ?_) (fun c27 => ?_)
        · refine wq_iconst F 0 dX1_lesser_34 (by decide) ?_
          exact K35 (0) ((if_pos (by omega)).symm) _ _ _ hP hD hS (lv_sub hl [0, 1, 2, 3, 4] rfl)
        · refine wq_iconst F 1 dX1_lesser_30 (by decide) ?_
          refine lv_goto (tgt := 35) F.1 F.2.1 dX1_lesser_31 (by decide) ?_
          exact K35 (1) ((if_neg (by omega)).symm) _ _ _ hP hD hS (lv_sub hl [0, 1, 2, 3, 4] rfl)
  exact lp1 u 0 (by omega) _ _ _ hP hD hS (lv_sub hl [2, 3, 4, 1, 0] rfl)

set_option maxHeartbeats 4000000 in
set_option maxRecDepth 100000 in
/-- step(kind, x, u, v) -/
theorem cY_step (l : Launch) (D : va_G) (q : Nat → Nat) (d : Nat → ClassId) (sz sp st : Nat) (ma bg en lb ki : Nat → Nat) (nm : Nat → Int32) (nw th : Nat → Nat) (kind : Nat) (x : Int32) (u v : Nat) (hsz : sz ≤ 10) (hbg : ∀ k, bg k < 8) (hen : ∀ k, en k < 8) (hlb : ∀ k, lb k < 2) (hma : ∀ k, ma k < 128) (hk : kind ≤ 7) (hnw : ∀ j, j < 64 → nw j < 2 ^ 31) (hu : u < 8) (hv : v < 8) : CtV l D vwCl (tY d) yX1_step cX1_step 7 rmX1_step [.ref (q 0), .int (nI kind), .int x, .int (nI u), .int (nI v)] (wY q d sz sp st ma bg en lb ki nm nw th) (wY q d sz sp st ma bg en lb ki nm nw (mY_step ma bg en lb nw sz kind x u v th)) := by
  refine CtV.of RX1 rfl (by decide +kernel) (Nat.le_of_ble_eq_true rfl) ?_
  intro p e s m below meth c A ls F hr hlk hK hA hP hD hS hl
  have hl : lv_has ls 7 [(0, .ref (q 0)), (1, .int (nI kind)), (2, .int x), (3, .int (nI u)), (4, .int (nI v))] := hl
  refine wq_bipush F 8 dX1_step_0 (by decide) ?_
  refine lv_iload_n F.1 F.2.1 dX1_step_2 rfl (lv_at hl 3 rfl) ?_
  refine wq_imul F dX1_step_3 ?_
  refine lv_iload F.1 F.2.1 dX1_step_4 (lv_at hl 4 rfl) ?_
  refine wq_iadd F dX1_step_6 ?_
  refine lv_istore (lv' := [(5, .int (nI ((8 * u) + v))), (0, .ref (q 0)), (1, .int (nI kind)), (2, .int x), (3, .int (nI u)), (4, .int (nI v))]) F.1 F.2.1 dX1_step_7 hl (by decide) rfl (fun ls hl => ?_)
  have hn1 := hnw (8 * u + v) (by omega)
  have hm1 := hma v
  have K173 : ∀ (t1 : Nat → Nat), t1 = (mY_step ma bg en lb nw sz kind x u v th) → ∀ (H : Heap) (locs : List Loc) (ls : Array Slot), va_P D vwCl (wY q d sz sp st ma bg en lb ki nm nw t1) H → va_D A (wY q d sz sp st ma bg en lb ki nm nw t1) → va_S A s.heap H locs → lv_has ls 7 [(0, .ref (q 0))] → W p l e rmX1_step s m [.ref (q 0), .int (nI kind), .int x, .int (nI u), .int (nI v)].toArray below meth c H locs 0 0 (MQ below (wq_QV D vwCl (tY d) A (wY q d sz sp st ma bg en lb ki nm nw (mY_step ma bg en lb nw sz kind x u v th))) [.ref (q 0), .int (nI kind), .int x, .int (nI u), .int (nI v)].toArray s 0 0 A) (F0 m 173 ls []) := by
    intro t1 et1 H locs ls hP hD hS hl
    subst et1
    exact wq_vret F hr hlk hK hP hD hS dX1_step_173
  refine lv_iload_n F.1 F.2.1 dX1_step_9 rfl (lv_at hl 2 rfl) ?_
  refine wq_iconst F 3 dX1_step_10 (by decide) ?_
  refine wq_icmp_gt (tgt := 79) F (by omega) (by omega) dX1_step_11 (by decide) (fun c11 => ?_) (fun c11 => ?_)
  · refine lv_iload_n F.1 F.2.1 dX1_step_79 rfl (lv_at hl 2 rfl) ?_
    refine wq_bipush F 7 dX1_step_80 (by decide) ?_
    refine wq_icmp_ne (tgt := 120) F (by omega) (by omega) dX1_step_82 (by decide) (fun c82 => ?_) (fun c82 => ?_)
    · refine lv_iload_n F.1 F.2.1 dX1_step_120 rfl (lv_at hl 2 rfl) ?_
      refine wq_iconst F 4 dX1_step_121 (by decide) ?_
      refine wq_icmp_ne (tgt := 139) F (by omega) (by omega) dX1_step_122 (by decide) (fun c122 => ?_) (fun c122 => ?_)
      · refine lv_iload_n F.1 F.2.1 dX1_step_139 rfl (lv_at hl 2 rfl) ?_
        refine wq_iconst F 5 dX1_step_140 (by decide) ?_
        refine wq_icmp_ne (tgt := 153) F (by omega) (by omega) dX1_step_141 (by decide) (fun c141 => ?_) (fun c141 => ?_)
        · refine lv_iload_n F.1 F.2.1 dX1_step_153 rfl (lv_at hl 4 rfl) ?_
          refine lv_iload F.1 F.2.1 dX1_step_154 (lv_at hl 5 rfl) ?_
          refine wq_icmp_ne (tgt := 173) F (by omega) (by omega) dX1_step_156 (by decide) (fun c156 => ?_) (fun c156 => ?_)
          · exact K173 (th) (mY_step_n c11 c82 (by omega)) _ _ _ hP hD hS (lv_sub hl [1] rfl)
          · refine lv_aload_n F.1 F.2.1 dX1_step_159 rfl (lv_at hl 1 rfl) ?_
            refine gX1 F hK hP rfl 10 (by decide) q188 rfl (v := .ref (q 8)) rfl dX1_step_160 ?_
            refine lv_iload F.1 F.2.1 dX1_step_163 (lv_at hl 0 rfl) ?_
            refine lv_aload_n F.1 F.2.1 dX1_step_165 rfl (lv_at hl 1 rfl) ?_
            refine gX1 F hK hP rfl 9 (by decide) q187 rfl (v := .ref (q 7)) rfl dX1_step_166 ?_
            refine lv_iload F.1 F.2.1 dX1_step_169 (lv_at hl 0 rfl) ?_
            refine wq_iald F hK hP 7 6 rfl rfl (by omega) (by decide) dX1_step_171 ?_
            refine wq_iast F hK hP hD hS 8 7 rfl rfl (by omega) (by decide) dX1_step_172 (ws' := wY q d sz sp st ma bg en lb ki nm nw (wq_up th ((8 * u) + v) (nw ((8 * u) + v)))) rfl (fun H locs hP hD hS => ?_)
            exact K173 (wq_up th ((8 * u) + v) (nw ((8 * u) + v))) (mY_step_y c11 c82 (by omega)) _ _ _ hP hD hS (lv_sub hl [1] rfl)
        · refine lv_iload_n F.1 F.2.1 dX1_step_144 rfl (lv_at hl 4 rfl) ?_
          refine lv_iload F.1 F.2.1 dX1_step_145 (lv_at hl 5 rfl) ?_
          refine wq_icmp_eq (tgt := 173) F (by omega) (by omega) dX1_step_147 (by decide) (fun c147 => ?_) (fun c147 => ?_)
          · exact K173 (th) (mY_step_n c11 c82 (by omega)) _ _ _ hP hD hS (lv_sub hl [1] rfl)
          · refine lv_goto (tgt := 159) F.1 F.2.1 dX1_step_150 (by decide) ?_
            refine lv_aload_n F.1 F.2.1 dX1_step_159 rfl (lv_at hl 1 rfl) ?_
            refine gX1 F hK hP rfl 10 (by decide) q188 rfl (v := .ref (q 8)) rfl dX1_step_160 ?_
            refine lv_iload F.1 F.2.1 dX1_step_163 (lv_at hl 0 rfl) ?_
            refine lv_aload_n F.1 F.2.1 dX1_step_165 rfl (lv_at hl 1 rfl) ?_
            refine gX1 F hK hP rfl 9 (by decide) q187 rfl (v := .ref (q 7)) rfl dX1_step_166 ?_
            refine lv_iload F.1 F.2.1 dX1_step_169 (lv_at hl 0 rfl) ?_
            refine wq_iald F hK hP 7 6 rfl rfl (by omega) (by decide) dX1_step_171 ?_
            refine wq_iast F hK hP hD hS 8 7 rfl rfl (by omega) (by decide) dX1_step_172 (ws' := wY q d sz sp st ma bg en lb ki nm nw (wq_up th ((8 * u) + v) (nw ((8 * u) + v)))) rfl (fun H locs hP hD hS => ?_)
            exact K173 (wq_up th ((8 * u) + v) (nw ((8 * u) + v))) (mY_step_y c11 c82 (by omega)) _ _ _ hP hD hS (lv_sub hl [1] rfl)
      · refine lv_aload_n F.1 F.2.1 dX1_step_125 rfl (lv_at hl 1 rfl) ?_
        refine gX1 F hK hP rfl 0 (by decide) q178 rfl (v := .ref (q 1)) rfl dX1_step_126 ?_
        refine lv_iload F.1 F.2.1 dX1_step_129 (lv_at hl 5 rfl) ?_
        refine wq_iald F hK hP 1 0 rfl rfl (by omega) (by decide) dX1_step_131 ?_
        refine lv_iload_n F.1 F.2.1 dX1_step_132 rfl (lv_at hl 3 rfl) ?_
        refine wr_icmp_lt (tgt := 173) F (nI_toInt (by omega)) (rfl) dX1_step_133 (by decide) (fun c133 => ?_) (fun c133 => ?_)
        · exact K173 (th) (mY_step_n c11 c82 (by omega)) _ _ _ hP hD hS (lv_sub hl [1] rfl)
        · refine lv_goto (tgt := 159) F.1 F.2.1 dX1_step_136 (by decide) ?_
          refine lv_aload_n F.1 F.2.1 dX1_step_159 rfl (lv_at hl 1 rfl) ?_
          refine gX1 F hK hP rfl 10 (by decide) q188 rfl (v := .ref (q 8)) rfl dX1_step_160 ?_
          refine lv_iload F.1 F.2.1 dX1_step_163 (lv_at hl 0 rfl) ?_
          refine lv_aload_n F.1 F.2.1 dX1_step_165 rfl (lv_at hl 1 rfl) ?_
          refine gX1 F hK hP rfl 9 (by decide) q187 rfl (v := .ref (q 7)) rfl dX1_step_166 ?_
          refine lv_iload F.1 F.2.1 dX1_step_169 (lv_at hl 0 rfl) ?_
          refine wq_iald F hK hP 7 6 rfl rfl (by omega) (by decide) dX1_step_171 ?_
          refine wq_iast F hK hP hD hS 8 7 rfl rfl (by omega) (by decide) dX1_step_172 (ws' := wY q d sz sp st ma bg en lb ki nm nw (wq_up th ((8 * u) + v) (nw ((8 * u) + v)))) rfl (fun H locs hP hD hS => ?_)
          exact K173 (wq_up th ((8 * u) + v) (nw ((8 * u) + v))) (mY_step_y c11 c82 (by omega)) _ _ _ hP hD hS (lv_sub hl [1] rfl)
    · have K116 : ∀ (x0 : Nat), x0 = (if 0 < nw (8 * u + v) ∧ mY_lesser nw u v = 0 then 1 else 0) → ∀ (H : Heap) (locs : List Loc) (ls : Array Slot), va_P D vwCl (wY q d sz sp st ma bg en lb ki nm nw th) H → va_D A (wY q d sz sp st ma bg en lb ki nm nw th) → va_S A s.heap H locs → lv_has ls 7 [(5, .int (nI ((8 * u) + v))), (0, .ref (q 0)), (1, .int (nI kind)), (2, .int x), (3, .int (nI u)), (4, .int (nI v))] → W p l e rmX1_step s m [.ref (q 0), .int (nI kind), .int x, .int (nI u), .int (nI v)].toArray below meth c H locs 0 0 (MQ below (wq_QV D vwCl (tY d) A (wY q d sz sp st ma bg en lb ki nm nw (mY_step ma bg en lb nw sz kind x u v th))) [.ref (q 0), .int (nI kind), .int x, .int (nI u), .int (nI v)].toArray s 0 0 A) (F0 m 116 ls [.int (nI x0), .int (nI (8 * u + v)), .ref (q 8)]) := by
        intro x0 ex0 H locs ls hP hD hS hl
        subst ex0
        refine wq_iast F hK hP hD hS 8 7 rfl rfl (by omega) (by decide) dX1_step_116 (ws' := wY q d sz sp st ma bg en lb ki nm nw (wq_up th (8 * u + v) (if 0 < nw (8 * u + v) ∧ mY_lesser nw u v = 0 then 1 else 0))) rfl (fun H locs hP hD hS => ?_)
        refine lv_goto (tgt := 173) F.1 F.2.1 dX1_step_117 (by decide) ?_
        exact K173 (wq_up th (8 * u + v) (if 0 < nw (8 * u + v) ∧ mY_lesser nw u v = 0 then 1 else 0)) (mY_step_7 c82) _ _ _ hP hD hS (lv_sub hl [1] rfl)
      refine lv_aload_n F.1 F.2.1 dX1_step_85 rfl (lv_at hl 1 rfl) ?_
      refine gX1 F hK hP rfl 10 (by decide) q188 rfl (v := .ref (q 8)) rfl dX1_step_86 ?_
      refine lv_iload F.1 F.2.1 dX1_step_89 (lv_at hl 0 rfl) ?_
      refine lv_aload_n F.1 F.2.1 dX1_step_91 rfl (lv_at hl 1 rfl) ?_
      refine gX1 F hK hP rfl 9 (by decide) q187 rfl (v := .ref (q 7)) rfl dX1_step_92 ?_
      refine lv_iload F.1 F.2.1 dX1_step_95 (lv_at hl 0 rfl) ?_
      refine wq_iald F hK hP 7 6 rfl rfl (by omega) (by decide) dX1_step_97 ?_
      refine wq_if_le (tgt := 115) F (by omega) dX1_step_98 (by decide) (fun c98 => ?_) (fun c98 => ?_)
      · refine wq_iconst F 0 dX1_step_115 (by decide) ?_
        exact K116 (0) ((if_neg (by omega)).symm) _ _ _ hP hD hS (lv_sub hl [0, 1, 2, 3, 4, 5] rfl)
      · refine lv_aload_n F.1 F.2.1 dX1_step_101 rfl (lv_at hl 1 rfl) ?_
        refine lv_iload_n F.1 F.2.1 dX1_step_102 rfl (lv_at hl 4 rfl) ?_
        refine lv_iload F.1 F.2.1 dX1_step_103 (lv_at hl 5 rfl) ?_
        refine wq_callIv F (rest := [.int (nI ((8 * u) + v)), .ref (q 8)]) (ci := 1) rfl rfl (cY_lesser l D q d sz sp st ma bg en lb ki nm nw th u v hu hv hnw) (cwV 2 F.2.2.2.2 (lw_V q264 q266 qs16 q19 q267) rfl rfl rfl (by decide +kernel) ⟨Nat.le_of_ble_eq_true rfl, Nat.le_of_ble_eq_true rfl⟩) rfl hK hP hD hS hA hl.1 rfl (Nat.le_of_ble_eq_true rfl) dX1_step_105 ⟨Nat.zero_le _, Nat.zero_le _⟩ (fun H locs hP hD hS => ?_)
        refine wq_if_ne (tgt := 115) F (Nat.lt_of_le_of_lt (mY_les_le nw v u) (by decide)) dX1_step_108 (by decide) (fun c108 => ?_) (fun c108 => ?_)
        · refine wq_iconst F 0 dX1_step_115 (by decide) ?_
          exact K116 (0) ((if_neg (by omega)).symm) _ _ _ hP hD hS (lv_sub hl [0, 1, 2, 3, 4, 5] rfl)
        · refine wq_iconst F 1 dX1_step_111 (by decide) ?_
          refine lv_goto (tgt := 116) F.1 F.2.1 dX1_step_112 (by decide) ?_
          exact K116 (1) ((if_pos ⟨c98, c108⟩).symm) _ _ _ hP hD hS (lv_sub hl [0, 1, 2, 3, 4, 5] rfl)
  · refine lv_aload_n F.1 F.2.1 dX1_step_14 rfl (lv_at hl 1 rfl) ?_
    refine lv_iload_n F.1 F.2.1 dX1_step_15 rfl (lv_at hl 4 rfl) ?_
    refine lv_iload F.1 F.2.1 dX1_step_16 (lv_at hl 5 rfl) ?_
    refine lv_iload_n F.1 F.2.1 dX1_step_18 rfl (lv_at hl 3 rfl) ?_
    have K29 : ∀ (x0 : Nat), x0 = (mY_out kind) → ∀ (H : Heap) (locs : List Loc) (ls : Array Slot), va_P D vwCl (wY q d sz sp st ma bg en lb ki nm nw th) H → va_D A (wY q d sz sp st ma bg en lb ki nm nw th) → va_S A s.heap H locs → lv_has ls 7 [(5, .int (nI ((8 * u) + v))), (0, .ref (q 0)), (1, .int (nI kind)), (2, .int x), (3, .int (nI u)), (4, .int (nI v))] → W p l e rmX1_step s m [.ref (q 0), .int (nI kind), .int x, .int (nI u), .int (nI v)].toArray below meth c H locs 0 0 (MQ below (wq_QV D vwCl (tY d) A (wY q d sz sp st ma bg en lb ki nm nw (mY_step ma bg en lb nw sz kind x u v th))) [.ref (q 0), .int (nI kind), .int x, .int (nI u), .int (nI v)].toArray s 0 0 A) (F0 m 29 ls [.int (nI x0), .int x, .int (nI v), .int (nI u), .ref (q 0)]) := by
      intro x0 ex0 H locs ls hP hD hS hl
      subst ex0
      refine lv_iload_n F.1 F.2.1 dX1_step_29 rfl (lv_at hl 2 rfl) ?_
      have K44 : ∀ (x1 : Nat), x1 = (mY_in kind) → ∀ (H : Heap) (locs : List Loc) (ls : Array Slot), va_P D vwCl (wY q d sz sp st ma bg en lb ki nm nw th) H → va_D A (wY q d sz sp st ma bg en lb ki nm nw th) → va_S A s.heap H locs → lv_has ls 7 [(5, .int (nI ((8 * u) + v))), (0, .ref (q 0)), (1, .int (nI kind)), (2, .int x), (3, .int (nI u)), (4, .int (nI v))] → W p l e rmX1_step s m [.ref (q 0), .int (nI kind), .int x, .int (nI u), .int (nI v)].toArray below meth c H locs 0 0 (MQ below (wq_QV D vwCl (tY d) A (wY q d sz sp st ma bg en lb ki nm nw (mY_step ma bg en lb nw sz kind x u v th))) [.ref (q 0), .int (nI kind), .int x, .int (nI u), .int (nI v)].toArray s 0 0 A) (F0 m 44 ls [.int (nI x1), .int (nI (mY_out kind)), .int x, .int (nI v), .int (nI u), .ref (q 0)]) := by
        intro x1 ex1 H locs ls hP hD hS hl
        subst ex1
        refine wq_callIv F (rest := []) (ci := 1) rfl rfl (cY_send l D q d sz sp st ma bg en lb ki nm nw th u v x (mY_out kind) (mY_in kind) hsz hbg hen hlb hu hv mY_out_le mY_in_le) (cwV 5 F.2.2.2.2 (lw_V q260 q262 qs15 q19 q263) rfl rfl rfl (by decide +kernel) ⟨Nat.le_of_ble_eq_true rfl, Nat.le_of_ble_eq_true rfl⟩) rfl hK hP hD hS hA hl.1 rfl (Nat.le_of_ble_eq_true rfl) dX1_step_44 ⟨Nat.zero_le _, Nat.zero_le _⟩ (fun H locs hP hD hS => ?_)
        refine lv_istore (lv' := [(6, .int (nI ((mY_send bg en lb nw u v x (mY_out kind) (mY_in kind) sz (0, th)).1))), (5, .int (nI ((8 * u) + v))), (0, .ref (q 0)), (1, .int (nI kind)), (2, .int x), (3, .int (nI u)), (4, .int (nI v))]) F.1 F.2.1 dX1_step_47 hl (by decide) rfl (fun ls hl => ?_)
        refine lv_iload_n F.1 F.2.1 dX1_step_49 rfl (lv_at hl 3 rfl) ?_
        refine wq_iconst F 3 dX1_step_50 (by decide) ?_
        refine wq_icmp_ne (tgt := 76) F (by omega) (by omega) dX1_step_51 (by decide) (fun c51 => ?_) (fun c51 => ?_)
        · refine lv_goto (tgt := 173) F.1 F.2.1 dX1_step_76 (by decide) ?_
          exact K173 ((mY_send bg en lb nw u v x (mY_out kind) (mY_in kind) sz (0, th)).2) (mY_step_mz c11 (by omega)) _ _ _ hP hD hS (lv_sub hl [2] rfl)
        · refine lv_iload F.1 F.2.1 dX1_step_54 (lv_at hl 0 rfl) ?_
          have hs1 := mY_send_le bg en lb nw u v x (mY_out kind) (mY_in kind) th sz
          refine wq_if_ne (tgt := 76) F (by omega) dX1_step_56 (by decide) (fun c56 => ?_) (fun c56 => ?_)
          · refine lv_goto (tgt := 173) F.1 F.2.1 dX1_step_76 (by decide) ?_
            exact K173 ((mY_send bg en lb nw u v x (mY_out kind) (mY_in kind) sz (0, th)).2) (mY_step_mz c11 (by omega)) _ _ _ hP hD hS (lv_sub hl [2] rfl)
          · refine lv_aload_n F.1 F.2.1 dX1_step_59 rfl (lv_at hl 2 rfl) ?_
            refine gX1 F hK hP rfl 10 (by decide) q188 rfl (v := .ref (q 8)) rfl dX1_step_60 ?_
            refine lv_iload F.1 F.2.1 dX1_step_63 (lv_at hl 1 rfl) ?_
            refine lv_dup2_11 F.1 F.2.1 dX1_step_65 rfl rfl ?_
            refine wq_iald F hK hP 8 7 rfl rfl (by omega) (by decide) dX1_step_66 ?_
            refine lv_aload_n F.1 F.2.1 dX1_step_67 rfl (lv_at hl 2 rfl) ?_
            refine gX1 F hK hP rfl 9 (by decide) q187 rfl (v := .ref (q 7)) rfl dX1_step_68 ?_
            refine lv_iload F.1 F.2.1 dX1_step_71 (lv_at hl 1 rfl) ?_
            refine wq_iald F hK hP 7 6 rfl rfl (by omega) (by decide) dX1_step_73 ?_
            refine wq_iadd F dX1_step_74 ?_
            refine wq_iast F hK hP hD hS 8 7 rfl rfl (by omega) (by decide) dX1_step_75 (ws' := wY q d sz sp st ma bg en lb ki nm nw (wq_up ((mY_send bg en lb nw u v x (mY_out kind) (mY_in kind) sz (0, th)).2) ((8 * u) + v) ((((mY_send bg en lb nw u v x (mY_out kind) (mY_in kind) sz (0, th)).2) ((8 * u) + v)) + (nw ((8 * u) + v))))) rfl (fun H locs hP hD hS => ?_)
            refine lv_goto (tgt := 173) F.1 F.2.1 dX1_step_76 (by decide) ?_
            exact K173 (wq_up ((mY_send bg en lb nw u v x (mY_out kind) (mY_in kind) sz (0, th)).2) ((8 * u) + v) ((((mY_send bg en lb nw u v x (mY_out kind) (mY_in kind) sz (0, th)).2) ((8 * u) + v)) + (nw ((8 * u) + v)))) (mY_step_mo c11 ⟨c51, c56⟩) _ _ _ hP hD hS (lv_sub hl [2] rfl)
      refine wq_iconst F 1 dX1_step_30 (by decide) ?_
      refine wq_icmp_eq (tgt := 39) F (by omega) (by omega) dX1_step_31 (by decide) (fun c31 => ?_) (fun c31 => ?_)
      · refine wq_iconst F 1 dX1_step_39 (by decide) ?_
        refine lv_goto (tgt := 44) F.1 F.2.1 dX1_step_40 (by decide) ?_
        exact K44 (1) (by unfold mY_in; rw [if_pos (by omega)]) _ _ _ hP hD hS (lv_sub hl [0, 1, 2, 3, 4, 5] rfl)
      · refine lv_iload_n F.1 F.2.1 dX1_step_34 rfl (lv_at hl 2 rfl) ?_
        refine wq_iconst F 2 dX1_step_35 (by decide) ?_
        refine wq_icmp_ne (tgt := 43) F (by omega) (by omega) dX1_step_36 (by decide) (fun c36 => ?_) (fun c36 => ?_)
        · refine wq_iconst F 0 dX1_step_43 (by decide) ?_
          exact K44 (0) (by unfold mY_in; rw [if_neg (by omega)]) _ _ _ hP hD hS (lv_sub hl [0, 1, 2, 3, 4, 5] rfl)
        · refine wq_iconst F 1 dX1_step_39 (by decide) ?_
          refine lv_goto (tgt := 44) F.1 F.2.1 dX1_step_40 (by decide) ?_
          exact K44 (1) (by unfold mY_in; rw [if_pos (by omega)]) _ _ _ hP hD hS (lv_sub hl [0, 1, 2, 3, 4, 5] rfl)
    refine lv_iload_n F.1 F.2.1 dX1_step_19 rfl (lv_at hl 2 rfl) ?_
    refine wq_iconst F 1 dX1_step_20 (by decide) ?_
    refine wq_icmp_eq (tgt := 28) F (by omega) (by omega) dX1_step_21 (by decide) (fun c21 => ?_) (fun c21 => ?_)
    · refine wq_iconst F 0 dX1_step_28 (by decide) ?_
      exact K29 (0) (by unfold mY_out; rw [if_pos c21]) _ _ _ hP hD hS (lv_sub hl [0, 1, 2, 3, 4, 5] rfl)
    · refine wq_iconst F 1 dX1_step_24 (by decide) ?_
      refine lv_goto (tgt := 29) F.1 F.2.1 dX1_step_25 (by decide) ?_
      exact K29 (1) (by unfold mY_out; rw [if_neg c21]) _ _ _ hP hD hS (lv_sub hl [0, 1, 2, 3, 4, 5] rfl)

set_option maxHeartbeats 4000000 in
set_option maxRecDepth 100000 in
/-- once(kind, x) -/
theorem cY_once (l : Launch) (D : va_G) (q : Nat → Nat) (d : Nat → ClassId) (sz sp st : Nat) (ma bg en lb ki : Nat → Nat) (nm : Nat → Int32) (nw th : Nat → Nat) (kind : Nat) (x : Int32) (hsz : sz ≤ 10) (hbg : ∀ k, bg k < 8) (hen : ∀ k, en k < 8) (hlb : ∀ k, lb k < 2) (hma : ∀ k, ma k < 128) (hk : kind ≤ 7) (hnw : ∀ j, j < 64 → nw j < 2 ^ 31) : CtV l D vwCl (tY d) yX1_once cX1_once 4 rmX1_once [.ref (q 0), .int (nI kind), .int x] (wY q d sz sp st ma bg en lb ki nm nw th) (wY q d sz sp st ma bg en lb ki nm ((mY_once ma bg en lb sz kind x (nw, th)).1) ((mY_once ma bg en lb sz kind x (nw, th)).2)) := by
  refine CtV.of RX1 rfl (by decide +kernel) (Nat.le_of_ble_eq_true rfl) ?_
  intro p e s m below meth c A ls F hr hlk hK hA hP hD hS hl
  have hl : lv_has ls 4 [(0, .ref (q 0)), (1, .int (nI kind)), (2, .int x)] := hl
  refine wq_iconst F 0 dX1_once_0 (by decide) ?_
  refine lv_istore_n (lv' := [(3, .int (nI 0)), (0, .ref (q 0)), (1, .int (nI kind)), (2, .int x)]) F.1 F.2.1 dX1_once_1 rfl hl (by decide) rfl (fun ls hl => ?_)
  have lp1 : ∀ (n i : Nat), i + n = 64 → ∀ (H : Heap) (locs : List Loc) (ls : Array Slot), va_P D vwCl (wY q d sz sp st ma bg en lb ki nm nw (wq_it (fun c t => wq_up t c 0) i th)) H → va_D A (wY q d sz sp st ma bg en lb ki nm nw (wq_it (fun c t => wq_up t c 0) i th)) → va_S A s.heap H locs → lv_has ls 4 [(0, .ref (q 0)), (1, .int (nI kind)), (2, .int x), (3, .int (nI i))] → W p l e rmX1_once s m [.ref (q 0), .int (nI kind), .int x].toArray below meth c H locs 0 0 (MQ below (wq_QV D vwCl (tY d) A (wY q d sz sp st ma bg en lb ki nm ((mY_once ma bg en lb sz kind x (nw, th)).1) ((mY_once ma bg en lb sz kind x (nw, th)).2))) [.ref (q 0), .int (nI kind), .int x].toArray s 0 0 A) (F0 m 2 ls []) := by
    intro n
    induction n with
    | zero =>
      intro i hi H locs ls hP hD hS hl
      have ei : 64 = i := by omega
      subst ei
      refine lv_iload_n F.1 F.2.1 dX1_once_2 rfl (lv_at hl 3 rfl) ?_
      refine wq_bipush F 64 dX1_once_3 (by decide) ?_
      refine wq_icmp_ge (tgt := 21) F (by omega) (by omega) dX1_once_5 (by decide) (fun c5 => ?_) (fun c5 => False.elim (by omega))
      refine wq_iconst F 0 dX1_once_21 (by decide) ?_
      refine lv_istore_n (lv' := [(3, .int (nI 0)), (0, .ref (q 0)), (1, .int (nI kind)), (2, .int x)]) F.1 F.2.1 dX1_once_22 rfl hl (by decide) rfl (fun ls hl => ?_)
      have lp2 : ∀ (n i : Nat), i + n = 64 → ∀ (H : Heap) (locs : List Loc) (ls : Array Slot), va_P D vwCl (wY q d sz sp st ma bg en lb ki nm nw (wq_it (fun c t => if nw c = 0 then t else mY_step ma bg en lb nw sz kind x (c / 8) (c % 8) t) i (wq_it (fun c t => wq_up t c 0) 64 th))) H → va_D A (wY q d sz sp st ma bg en lb ki nm nw (wq_it (fun c t => if nw c = 0 then t else mY_step ma bg en lb nw sz kind x (c / 8) (c % 8) t) i (wq_it (fun c t => wq_up t c 0) 64 th))) → va_S A s.heap H locs → lv_has ls 4 [(0, .ref (q 0)), (1, .int (nI kind)), (2, .int x), (3, .int (nI i))] → W p l e rmX1_once s m [.ref (q 0), .int (nI kind), .int x].toArray below meth c H locs 0 0 (MQ below (wq_QV D vwCl (tY d) A (wY q d sz sp st ma bg en lb ki nm ((mY_once ma bg en lb sz kind x (nw, th)).1) ((mY_once ma bg en lb sz kind x (nw, th)).2))) [.ref (q 0), .int (nI kind), .int x].toArray s 0 0 A) (F0 m 23 ls []) := by
        intro n
        induction n with
        | zero =>
          intro i hi H locs ls hP hD hS hl
          have ei : 64 = i := by omega
          subst ei
          refine lv_iload_n F.1 F.2.1 dX1_once_23 rfl (lv_at hl 3 rfl) ?_
          refine wq_bipush F 64 dX1_once_24 (by decide) ?_
          refine wq_icmp_ge (tgt := 58) F (by omega) (by omega) dX1_once_26 (by decide) (fun c26 => ?_) (fun c26 => False.elim (by omega))
          refine wq_iconst F 0 dX1_once_58 (by decide) ?_
          refine lv_istore_n (lv' := [(3, .int (nI 0)), (0, .ref (q 0)), (1, .int (nI kind)), (2, .int x)]) F.1 F.2.1 dX1_once_59 rfl hl (by decide) rfl (fun ls hl => ?_)
          have lp3 : ∀ (n i : Nat), i + n = 64 → ∀ (H : Heap) (locs : List Loc) (ls : Array Slot), va_P D vwCl (wY q d sz sp st ma bg en lb ki nm (wq_it (fun c y => wq_up y c (mY_o1 ma bg en lb nw sz kind x th c)) i nw) (mY_o1 ma bg en lb nw sz kind x th)) H → va_D A (wY q d sz sp st ma bg en lb ki nm (wq_it (fun c y => wq_up y c (mY_o1 ma bg en lb nw sz kind x th c)) i nw) (mY_o1 ma bg en lb nw sz kind x th)) → va_S A s.heap H locs → lv_has ls 4 [(0, .ref (q 0)), (1, .int (nI kind)), (2, .int x), (3, .int (nI i))] → W p l e rmX1_once s m [.ref (q 0), .int (nI kind), .int x].toArray below meth c H locs 0 0 (MQ below (wq_QV D vwCl (tY d) A (wY q d sz sp st ma bg en lb ki nm ((mY_once ma bg en lb sz kind x (nw, th)).1) ((mY_once ma bg en lb sz kind x (nw, th)).2))) [.ref (q 0), .int (nI kind), .int x].toArray s 0 0 A) (F0 m 60 ls []) := by
            intro n
            induction n with
            | zero =>
              intro i hi H locs ls hP hD hS hl
              have ei : 64 = i := by omega
              subst ei
              refine lv_iload_n F.1 F.2.1 dX1_once_60 rfl (lv_at hl 3 rfl) ?_
              refine wq_bipush F 64 dX1_once_61 (by decide) ?_
              refine wq_icmp_ge (tgt := 84) F (by omega) (by omega) dX1_once_63 (by decide) (fun c63 => ?_) (fun c63 => False.elim (by omega))
              exact wq_vret F hr hlk hK hP hD hS dX1_once_84
            | succ n ihlp3 =>
              intro i hi H locs ls hP hD hS hl
              refine lv_iload_n F.1 F.2.1 dX1_once_60 rfl (lv_at hl 3 rfl) ?_
              refine wq_bipush F 64 dX1_once_61 (by decide) ?_
              refine wq_icmp_ge (tgt := 84) F (by omega) (by omega) dX1_once_63 (by decide) (fun c63 => False.elim (by omega)) (fun c63 => ?_)
              refine lv_aload_n F.1 F.2.1 dX1_once_66 rfl (lv_at hl 0 rfl) ?_
              refine gX1 F hK hP rfl 9 (by decide) q187 rfl (v := .ref (q 7)) rfl dX1_once_67 ?_
              refine lv_iload_n F.1 F.2.1 dX1_once_70 rfl (lv_at hl 3 rfl) ?_
              refine lv_aload_n F.1 F.2.1 dX1_once_71 rfl (lv_at hl 0 rfl) ?_
              refine gX1 F hK hP rfl 10 (by decide) q188 rfl (v := .ref (q 8)) rfl dX1_once_72 ?_
              refine lv_iload_n F.1 F.2.1 dX1_once_75 rfl (lv_at hl 3 rfl) ?_
              refine wq_iald F hK hP 8 7 rfl rfl (by omega) (by decide) dX1_once_76 ?_
              refine wq_iast F hK hP hD hS 7 6 rfl rfl (by omega) (by decide) dX1_once_77 (ws' := wY q d sz sp st ma bg en lb ki nm (wq_up (wq_it (fun c y => wq_up y c (mY_o1 ma bg en lb nw sz kind x th c)) i nw) i ((mY_o1 ma bg en lb nw sz kind x th) i)) (mY_o1 ma bg en lb nw sz kind x th)) rfl (fun H locs hP hD hS => ?_)
              refine lv_iinc (v := nI (i + 1)) (lv' := [(3, .int (nI (i + 1))), (0, .ref (q 0)), (1, .int (nI kind)), (2, .int x)]) F.1 F.2.1 dX1_once_78 hl (k := 3) rfl (wq_inc1 _) (by decide) rfl (fun ls hl => ?_)
              refine lv_goto (tgt := 60) F.1 F.2.1 dX1_once_81 (by decide) ?_
              exact ihlp3 (i + 1) (by omega) _ _ _ hP hD hS (lv_sub hl [1, 2, 3, 0] rfl)
          exact lp3 64 0 (by omega) _ _ _ hP hD hS (lv_sub hl [1, 2, 3, 0] rfl)
        | succ n ihlp2 =>
          intro i hi H locs ls hP hD hS hl
          refine lv_iload_n F.1 F.2.1 dX1_once_23 rfl (lv_at hl 3 rfl) ?_
          refine wq_bipush F 64 dX1_once_24 (by decide) ?_
          refine wq_icmp_ge (tgt := 58) F (by omega) (by omega) dX1_once_26 (by decide) (fun c26 => False.elim (by omega)) (fun c26 => ?_)
          have hn1 := hnw i (by omega)
          have K52 : ∀ (t1 : Nat → Nat), t1 = (if nw i = 0 then wq_it (fun c t => if nw c = 0 then t else mY_step ma bg en lb nw sz kind x (c / 8) (c % 8) t) i (wq_it (fun c t => wq_up t c 0) 64 th) else mY_step ma bg en lb nw sz kind x (i / 8) (i % 8) (wq_it (fun c t => if nw c = 0 then t else mY_step ma bg en lb nw sz kind x (c / 8) (c % 8) t) i (wq_it (fun c t => wq_up t c 0) 64 th))) → ∀ (H : Heap) (locs : List Loc) (ls : Array Slot), va_P D vwCl (wY q d sz sp st ma bg en lb ki nm nw t1) H → va_D A (wY q d sz sp st ma bg en lb ki nm nw t1) → va_S A s.heap H locs → lv_has ls 4 [(0, .ref (q 0)), (1, .int (nI kind)), (2, .int x), (3, .int (nI i))] → W p l e rmX1_once s m [.ref (q 0), .int (nI kind), .int x].toArray below meth c H locs 0 0 (MQ below (wq_QV D vwCl (tY d) A (wY q d sz sp st ma bg en lb ki nm ((mY_once ma bg en lb sz kind x (nw, th)).1) ((mY_once ma bg en lb sz kind x (nw, th)).2))) [.ref (q 0), .int (nI kind), .int x].toArray s 0 0 A) (F0 m 52 ls []) := by
            intro t1 et1 H locs ls hP hD hS hl
            subst et1
            refine lv_iinc (v := nI (i + 1)) (lv' := [(3, .int (nI (i + 1))), (0, .ref (q 0)), (1, .int (nI kind)), (2, .int x)]) F.1 F.2.1 dX1_once_52 hl (k := 3) rfl (wq_inc1 _) (by decide) rfl (fun ls hl => ?_)
            refine lv_goto (tgt := 23) F.1 F.2.1 dX1_once_55 (by decide) ?_
            exact ihlp2 (i + 1) (by omega) _ _ _ hP hD hS (lv_sub hl [1, 2, 3, 0] rfl)
          refine lv_aload_n F.1 F.2.1 dX1_once_29 rfl (lv_at hl 0 rfl) ?_
          refine gX1 F hK hP rfl 9 (by decide) q187 rfl (v := .ref (q 7)) rfl dX1_once_30 ?_
          refine lv_iload_n F.1 F.2.1 dX1_once_33 rfl (lv_at hl 3 rfl) ?_
          refine wq_iald F hK hP 7 6 rfl rfl (by omega) (by decide) dX1_once_34 ?_
          refine wq_if_le (tgt := 52) F (by omega) dX1_once_35 (by decide) (fun c35 => ?_) (fun c35 => ?_)
          · exact K52 (wq_it (fun c t => if nw c = 0 then t else mY_step ma bg en lb nw sz kind x (c / 8) (c % 8) t) i (wq_it (fun c t => wq_up t c 0) 64 th)) ((if_pos c35).symm) _ _ _ hP hD hS (lv_sub hl [0, 1, 2, 3] rfl)
          · refine lv_aload_n F.1 F.2.1 dX1_once_38 rfl (lv_at hl 0 rfl) ?_
            refine lv_iload_n F.1 F.2.1 dX1_once_39 rfl (lv_at hl 1 rfl) ?_
            refine lv_iload_n F.1 F.2.1 dX1_once_40 rfl (lv_at hl 2 rfl) ?_
            refine lv_iload_n F.1 F.2.1 dX1_once_41 rfl (lv_at hl 3 rfl) ?_
            refine wq_bipush F 8 dX1_once_42 (by decide) ?_
            refine wq_idiv F (by omega) (by decide) (by decide) dX1_once_44 ?_
            refine lv_iload_n F.1 F.2.1 dX1_once_45 rfl (lv_at hl 3 rfl) ?_
            refine wq_bipush F 8 dX1_once_46 (by decide) ?_
            refine wq_irem F (by omega) (by decide) (by decide) dX1_once_48 ?_
            refine wq_callVv F (rest := []) (ci := 1) rfl rfl (cY_step l D q d sz sp st ma bg en lb ki nm nw (wq_it (fun c t => if nw c = 0 then t else mY_step ma bg en lb nw sz kind x (c / 8) (c % 8) t) i (wq_it (fun c t => wq_up t c 0) 64 th)) kind x (i / 8) (i % 8) hsz hbg hen hlb hma hk hnw (by omega) (by omega)) (cwV 4 F.2.2.2.2 (lw_V q256 q258 qs14 q19 q259) rfl rfl rfl (by decide +kernel) ⟨Nat.le_of_ble_eq_true rfl, Nat.le_of_ble_eq_true rfl⟩) rfl hK hP hD hS hA hl.1 rfl (Nat.le_of_ble_eq_true rfl) dX1_once_49 ⟨Nat.zero_le _, Nat.zero_le _⟩ (fun H locs hP hD hS => ?_)
            exact K52 (mY_step ma bg en lb nw sz kind x (i / 8) (i % 8) (wq_it (fun c t => if nw c = 0 then t else mY_step ma bg en lb nw sz kind x (c / 8) (c % 8) t) i (wq_it (fun c t => wq_up t c 0) 64 th))) ((if_neg (Nat.ne_of_gt c35)).symm) _ _ _ hP hD hS (lv_sub hl [0, 1, 2, 3] rfl)
      exact lp2 64 0 (by omega) _ _ _ hP hD hS (lv_sub hl [1, 2, 3, 0] rfl)
    | succ n ihlp1 =>
      intro i hi H locs ls hP hD hS hl
      refine lv_iload_n F.1 F.2.1 dX1_once_2 rfl (lv_at hl 3 rfl) ?_
      refine wq_bipush F 64 dX1_once_3 (by decide) ?_
      refine wq_icmp_ge (tgt := 21) F (by omega) (by omega) dX1_once_5 (by decide) (fun c5 => False.elim (by omega)) (fun c5 => ?_)
      refine lv_aload_n F.1 F.2.1 dX1_once_8 rfl (lv_at hl 0 rfl) ?_
      refine gX1 F hK hP rfl 10 (by decide) q188 rfl (v := .ref (q 8)) rfl dX1_once_9 ?_
      refine lv_iload_n F.1 F.2.1 dX1_once_12 rfl (lv_at hl 3 rfl) ?_
      refine wq_iconst F 0 dX1_once_13 (by decide) ?_
      refine wq_iast F hK hP hD hS 8 7 rfl rfl (by omega) (by decide) dX1_once_14 (ws' := wY q d sz sp st ma bg en lb ki nm nw (wq_up (wq_it (fun c t => wq_up t c 0) i th) i 0)) rfl (fun H locs hP hD hS => ?_)
      refine lv_iinc (v := nI (i + 1)) (lv' := [(3, .int (nI (i + 1))), (0, .ref (q 0)), (1, .int (nI kind)), (2, .int x)]) F.1 F.2.1 dX1_once_15 hl (k := 3) rfl (wq_inc1 _) (by decide) rfl (fun ls hl => ?_)
      refine lv_goto (tgt := 2) F.1 F.2.1 dX1_once_18 (by decide) ?_
      exact ihlp1 (i + 1) (by omega) _ _ _ hP hD hS (lv_sub hl [1, 2, 3, 0] rfl)
  exact lp1 64 0 (by omega) _ _ _ hP hD hS (lv_sub hl [1, 2, 3, 0] rfl)

set_option maxHeartbeats 4000000 in
set_option maxRecDepth 100000 in
/-- walk(k) -/
theorem cY_walk (l : Launch) (D : va_G) (q : Nat → Nat) (d : Nat → ClassId) (sz sp st : Nat) (ma bg en lb ki : Nat → Nat) (nm : Nat → Int32) (nw th : Nat → Nat) (k : Nat) (ok : okY sz sp st ma bg en lb ki nm) (hk : k ≤ sp) : CtV l D vwCl (tY d) yX1_walk cX1_walk 3 rmX1_walk [.ref (q 0), .int (nI k)] (wY q d sz sp st ma bg en lb ki nm nw th) (wY q d sz sp st ma bg en lb ki nm ((mY_walk ma bg en lb ki nm sz st k (nw, th)).1) ((mY_walk ma bg en lb ki nm sz st k (nw, th)).2)) := by
  refine CtV.of RX1 rfl (by decide +kernel) (Nat.le_of_ble_eq_true rfl) ?_
  intro p e s m below meth c A ls F hr hlk hK hA hP hD hS hl
  have hl : lv_has ls 3 [(0, .ref (q 0)), (1, .int (nI k))] := hl
  obtain ⟨hsz, hsp, hst, hma, hbg, hen, hlb, hki, hB, hT⟩ := id ok
  refine wq_iconst F 0 dX1_walk_0 (by decide) ?_
  refine lv_istore_n (lv' := [(2, .int (nI 0)), (0, .ref (q 0)), (1, .int (nI k))]) F.1 F.2.1 dX1_walk_1 rfl hl (by decide) rfl (fun ls hl => ?_)
  have lp1 : ∀ (n i : Nat), i + n = 64 → ∀ (H : Heap) (locs : List Loc) (ls : Array Slot), va_P D vwCl (wY q d sz sp st ma bg en lb ki nm (wq_it (fun c x => wq_up x c (mY_b0 st c)) i nw) th) H → va_D A (wY q d sz sp st ma bg en lb ki nm (wq_it (fun c x => wq_up x c (mY_b0 st c)) i nw) th) → va_S A s.heap H locs → lv_has ls 3 [(0, .ref (q 0)), (1, .int (nI k)), (2, .int (nI i))] → W p l e rmX1_walk s m [.ref (q 0), .int (nI k)].toArray below meth c H locs 0 0 (MQ below (wq_QV D vwCl (tY d) A (wY q d sz sp st ma bg en lb ki nm ((mY_walk ma bg en lb ki nm sz st k (nw, th)).1) ((mY_walk ma bg en lb ki nm sz st k (nw, th)).2))) [.ref (q 0), .int (nI k)].toArray s 0 0 A) (F0 m 2 ls []) := by
    intro n
    induction n with
    | zero =>
      intro i hi H locs ls hP hD hS hl
      have ei : 64 = i := by omega
      subst ei
      refine lv_iload_n F.1 F.2.1 dX1_walk_2 rfl (lv_at hl 2 rfl) ?_
      refine wq_bipush F 64 dX1_walk_3 (by decide) ?_
      refine wq_icmp_ge (tgt := 51) F (by omega) (by omega) dX1_walk_5 (by decide) (fun c5 => ?_) (fun c5 => False.elim (by omega))
      refine wq_iconst F 0 dX1_walk_51 (by decide) ?_
      refine lv_istore_n (lv' := [(2, .int (nI 0)), (0, .ref (q 0)), (1, .int (nI k))]) F.1 F.2.1 dX1_walk_52 rfl hl (by decide) rfl (fun ls hl => ?_)
      have lp2 : ∀ (n i : Nat), i + n = k → ∀ (H : Heap) (locs : List Loc) (ls : Array Slot), va_P D vwCl (wY q d sz sp st ma bg en lb ki nm ((mY_walk ma bg en lb ki nm sz st i (nw, th)).1) ((mY_walk ma bg en lb ki nm sz st i (nw, th)).2)) H → va_D A (wY q d sz sp st ma bg en lb ki nm ((mY_walk ma bg en lb ki nm sz st i (nw, th)).1) ((mY_walk ma bg en lb ki nm sz st i (nw, th)).2)) → va_S A s.heap H locs → lv_has ls 3 [(0, .ref (q 0)), (1, .int (nI k)), (2, .int (nI i))] → W p l e rmX1_walk s m [.ref (q 0), .int (nI k)].toArray below meth c H locs 0 0 (MQ below (wq_QV D vwCl (tY d) A (wY q d sz sp st ma bg en lb ki nm ((mY_walk ma bg en lb ki nm sz st k (nw, th)).1) ((mY_walk ma bg en lb ki nm sz st k (nw, th)).2))) [.ref (q 0), .int (nI k)].toArray s 0 0 A) (F0 m 53 ls []) := by
        intro n
        induction n with
        | zero =>
          intro i hi H locs ls hP hD hS hl
          have ei : k = i := by omega
          subst ei
          refine lv_iload_n F.1 F.2.1 dX1_walk_53 rfl (lv_at hl 2 rfl) ?_
          refine lv_iload_n F.1 F.2.1 dX1_walk_54 rfl (lv_at hl 1 rfl) ?_
          refine wq_icmp_ge (tgt := 80) F (by omega) (by omega) dX1_walk_55 (by decide) (fun c55 => ?_) (fun c55 => False.elim (by omega))
          exact wq_vret F hr hlk hK hP hD hS dX1_walk_80
        | succ n ihlp2 =>
          intro i hi H locs ls hP hD hS hl
          refine lv_iload_n F.1 F.2.1 dX1_walk_53 rfl (lv_at hl 2 rfl) ?_
          refine lv_iload_n F.1 F.2.1 dX1_walk_54 rfl (lv_at hl 1 rfl) ?_
          refine wq_icmp_ge (tgt := 80) F (by omega) (by omega) dX1_walk_55 (by decide) (fun c55 => False.elim (by omega)) (fun c55 => ?_)
          refine lv_aload_n F.1 F.2.1 dX1_walk_58 rfl (lv_at hl 0 rfl) ?_
          refine lv_aload_n F.1 F.2.1 dX1_walk_59 rfl (lv_at hl 0 rfl) ?_
          refine gX1 F hK hP rfl 6 (by decide) q184 rfl (v := .ref (q 5)) rfl dX1_walk_60 ?_
          refine lv_iload_n F.1 F.2.1 dX1_walk_63 rfl (lv_at hl 2 rfl) ?_
          refine wq_iald F hK hP 5 4 rfl rfl (by omega) (by decide) dX1_walk_64 ?_
          refine lv_aload_n F.1 F.2.1 dX1_walk_65 rfl (lv_at hl 0 rfl) ?_
          refine gX1 F hK hP rfl 7 (by decide) q185 rfl (v := .ref (q 6)) rfl dX1_walk_66 ?_
          refine lv_iload_n F.1 F.2.1 dX1_walk_69 rfl (lv_at hl 2 rfl) ?_
          refine wr_iald F hK hP 6 5 rfl rfl (by omega) (by decide) dX1_walk_70 ?_
          refine wq_callVv F (rest := []) (ci := 1) rfl rfl (cY_once l D q d sz sp st ma bg en lb ki nm ((mY_walk ma bg en lb ki nm sz st i (nw, th)).1) ((mY_walk ma bg en lb ki nm sz st i (nw, th)).2) (ki i) (nm i) hsz hbg hen hlb hma (hki i) (hB (nw, th) i (by omega))) (cwV 2 F.2.2.2.2 (lw_V q252 q254 qs13 q19 q255) rfl rfl rfl (by decide +kernel) ⟨Nat.le_of_ble_eq_true rfl, Nat.le_of_ble_eq_true rfl⟩) rfl hK hP hD hS hA hl.1 rfl (Nat.le_of_ble_eq_true rfl) dX1_walk_71 ⟨Nat.zero_le _, Nat.zero_le _⟩ (fun H locs hP hD hS => ?_)
          refine lv_iinc (v := nI (i + 1)) (lv' := [(2, .int (nI (i + 1))), (0, .ref (q 0)), (1, .int (nI k))]) F.1 F.2.1 dX1_walk_74 hl (k := 2) rfl (wq_inc1 _) (by decide) rfl (fun ls hl => ?_)
          refine lv_goto (tgt := 53) F.1 F.2.1 dX1_walk_77 (by decide) ?_
          exact ihlp2 (i + 1) (by omega) _ _ _ hP hD hS (lv_sub hl [1, 2, 0] rfl)
      exact lp2 k 0 (by omega) _ _ _ hP hD hS (lv_sub hl [1, 2, 0] rfl)
    | succ n ihlp1 =>
      intro i hi H locs ls hP hD hS hl
      refine lv_iload_n F.1 F.2.1 dX1_walk_2 rfl (lv_at hl 2 rfl) ?_
      refine wq_bipush F 64 dX1_walk_3 (by decide) ?_
      refine wq_icmp_ge (tgt := 51) F (by omega) (by omega) dX1_walk_5 (by decide) (fun c5 => False.elim (by omega)) (fun c5 => ?_)
      have K44 : ∀ (x0 : Nat), x0 = (mY_b0 st i) → ∀ (H : Heap) (locs : List Loc) (ls : Array Slot), va_P D vwCl (wY q d sz sp st ma bg en lb ki nm (wq_it (fun c x => wq_up x c (mY_b0 st c)) i nw) th) H → va_D A (wY q d sz sp st ma bg en lb ki nm (wq_it (fun c x => wq_up x c (mY_b0 st c)) i nw) th) → va_S A s.heap H locs → lv_has ls 3 [(0, .ref (q 0)), (1, .int (nI k)), (2, .int (nI i))] → W p l e rmX1_walk s m [.ref (q 0), .int (nI k)].toArray below meth c H locs 0 0 (MQ below (wq_QV D vwCl (tY d) A (wY q d sz sp st ma bg en lb ki nm ((mY_walk ma bg en lb ki nm sz st k (nw, th)).1) ((mY_walk ma bg en lb ki nm sz st k (nw, th)).2))) [.ref (q 0), .int (nI k)].toArray s 0 0 A) (F0 m 44 ls [.int (nI x0), .int (nI i), .ref (q 7)]) := by
        intro x0 ex0 H locs ls hP hD hS hl
        subst ex0
        refine wq_iast F hK hP hD hS 7 6 rfl rfl (by omega) (by decide) dX1_walk_44 (ws' := wY q d sz sp st ma bg en lb ki nm (wq_up (wq_it (fun c x => wq_up x c (mY_b0 st c)) i nw) i (mY_b0 st i)) th) rfl (fun H locs hP hD hS => ?_)
        refine lv_iinc (v := nI (i + 1)) (lv' := [(2, .int (nI (i + 1))), (0, .ref (q 0)), (1, .int (nI k))]) F.1 F.2.1 dX1_walk_45 hl (k := 2) rfl (wq_inc1 _) (by decide) rfl (fun ls hl => ?_)
        refine lv_goto (tgt := 2) F.1 F.2.1 dX1_walk_48 (by decide) ?_
        exact ihlp1 (i + 1) (by omega) _ _ _ hP hD hS (lv_sub hl [1, 2, 0] rfl)
      refine lv_aload_n F.1 F.2.1 dX1_walk_8 rfl (lv_at hl 0 rfl) ?_
      refine gX1 F hK hP rfl 9 (by decide) q187 rfl (v := .ref (q 7)) rfl dX1_walk_9 ?_
      refine lv_iload_n F.1 F.2.1 dX1_walk_12 rfl (lv_at hl 2 rfl) ?_
      refine lv_iload_n F.1 F.2.1 dX1_walk_13 rfl (lv_at hl 2 rfl) ?_
      refine wq_bipush F 8 dX1_walk_14 (by decide) ?_
      refine wq_idiv F (by omega) (by decide) (by decide) dX1_walk_16 ?_
      refine lv_iload_n F.1 F.2.1 dX1_walk_17 rfl (lv_at hl 2 rfl) ?_
      refine wq_bipush F 8 dX1_walk_18 (by decide) ?_
      refine wq_irem F (by omega) (by decide) (by decide) dX1_walk_20 ?_
      refine wq_icmp_ne (tgt := 43) F (by omega) (by omega) dX1_walk_21 (by decide) (fun c21 => ?_) (fun c21 => ?_)
      · refine wq_iconst F 0 dX1_walk_43 (by decide) ?_
        exact K44 (0) (mY_b0_z (by omega)) _ _ _ hP hD hS (lv_sub hl [0, 1, 2] rfl)
      · refine lv_aload_n F.1 F.2.1 dX1_walk_24 rfl (lv_at hl 0 rfl) ?_
        refine gX1 F hK hP rfl 8 (by decide) q186 rfl (v := .int (nI st)) rfl dX1_walk_25 ?_
        refine lv_iload_n F.1 F.2.1 dX1_walk_28 rfl (lv_at hl 2 rfl) ?_
        refine wq_bipush F 8 dX1_walk_29 (by decide) ?_
        refine wq_idiv F (by omega) (by decide) (by decide) dX1_walk_31 ?_
        refine wq_ishr F (by omega) (by omega) dX1_walk_32 ?_
        refine wq_iconst F 1 dX1_walk_33 (by decide) ?_
        refine wq_iand1 F (Nat.lt_of_le_of_lt (Nat.div_le_self _ _) (by omega)) dX1_walk_34 ?_
        refine wq_iconst F 1 dX1_walk_35 (by decide) ?_
        refine wq_icmp_ne (tgt := 43) F (by omega) (by omega) dX1_walk_36 (by decide) (fun c36 => ?_) (fun c36 => ?_)
        · refine wq_iconst F 0 dX1_walk_43 (by decide) ?_
          exact K44 (0) (mY_b0_z (by omega)) _ _ _ hP hD hS (lv_sub hl [0, 1, 2] rfl)
        · refine wq_iconst F 1 dX1_walk_39 (by decide) ?_
          refine lv_goto (tgt := 44) F.1 F.2.1 dX1_walk_40 (by decide) ?_
          exact K44 (1) (mY_b0_o c21 c36) _ _ _ hP hD hS (lv_sub hl [0, 1, 2] rfl)
  exact lp1 64 0 (by omega) _ _ _ hP hD hS (lv_sub hl [1, 2, 0] rfl)

set_option maxHeartbeats 4000000 in
set_option maxRecDepth 100000 in
/-- at: no vertex -/
theorem cY_at_no (l : Launch) (D : va_G) (q : Nat → Nat) (d : Nat → ClassId) (sz sp st : Nat) (ma bg en lb ki : Nat → Nat) (nm : Nat → Int32) (nw th : Nat → Nat) (v : Int32) (ok : okY sz sp st ma bg en lb ki nm) (h : wq_isV v = 0) : CtI l D vwCl (tY d) yX1_at cX1_at 4 .int rmX1_at [.ref (q 0), .int v] (wY q d sz sp st ma bg en lb ki nm nw th) (nI 0) (wY q d sz sp st ma bg en lb ki nm ((mY_walk ma bg en lb ki nm sz st sp (nw, th)).1) ((mY_walk ma bg en lb ki nm sz st sp (nw, th)).2)) := by
  refine CtI.of RX1 rfl (by decide +kernel) (Nat.le_of_ble_eq_true rfl) ?_
  intro p e s m below meth c A ls F hr hlk hK hA hP hD hS hl
  have hl : lv_has ls 4 [(0, .ref (q 0)), (1, .int v)] := hl
  obtain ⟨hsz, hsp, hst, hma, hbg, hen, hlb, hki, hB, hT⟩ := id ok
  refine lv_aload_n F.1 F.2.1 dX1_at_0 rfl (lv_at hl 0 rfl) ?_
  refine lv_aload_n F.1 F.2.1 dX1_at_1 rfl (lv_at hl 0 rfl) ?_
  refine gX1 F hK hP rfl 5 (by decide) q183 rfl (v := .int (nI sp)) rfl dX1_at_2 ?_
  refine wq_callVv F (rest := []) (ci := 1) rfl rfl (cY_walk l D q d sz sp st ma bg en lb ki nm nw th sp ok (by omega)) (cwV 1 F.2.2.2.2 (lw_V q248 q250 qs12 q19 q251) rfl rfl rfl (by decide +kernel) ⟨Nat.le_of_ble_eq_true rfl, Nat.le_of_ble_eq_true rfl⟩) rfl hK hP hD hS hA hl.1 rfl (Nat.le_of_ble_eq_true rfl) dX1_at_5 ⟨Nat.zero_le _, Nat.zero_le _⟩ (fun H locs hP hD hS => ?_)
  refine wq_iconst F 0 dX1_at_8 (by decide) ?_
  refine lv_istore_n (lv' := [(2, .int (nI 0)), (0, .ref (q 0)), (1, .int v)]) F.1 F.2.1 dX1_at_9 rfl hl (by decide) rfl (fun ls hl => ?_)
  refine wq_iconst F 0 dX1_at_10 (by decide) ?_
  refine lv_istore_n (lv' := [(3, .int (nI 0)), (2, .int (nI 0)), (0, .ref (q 0)), (1, .int v)]) F.1 F.2.1 dX1_at_11 rfl hl (by decide) rfl (fun ls hl => ?_)
  refine lv_iload_n F.1 F.2.1 dX1_at_12 rfl (lv_at hl 0 rfl) ?_
  refine wq_bipush F 8 dX1_at_13 (by decide) ?_
  refine wq_icmp_ge (tgt := 46) F (by omega) (by omega) dX1_at_15 (by decide) (fun c15 => False.elim (by omega)) (fun c15 => ?_)
  refine lv_aload_n F.1 F.2.1 dX1_at_18 rfl (lv_at hl 2 rfl) ?_
  refine lv_iload_n F.1 F.2.1 dX1_at_19 rfl (lv_at hl 3 rfl) ?_
  refine wq_callIv F (rest := []) (ci := 1) rfl rfl (cY_vertex l D q d sz sp st ma bg en lb ki nm ((mY_walk ma bg en lb ki nm sz st sp (nw, th)).1) ((mY_walk ma bg en lb ki nm sz st sp (nw, th)).2) (v)) (cwV 1 F.2.2.2.2 (lw_V q216 q218 qs10 q19 q219) rfl rfl rfl (by decide +kernel) ⟨Nat.le_of_ble_eq_true rfl, Nat.le_of_ble_eq_true rfl⟩) rfl hK hP hD hS hA hl.1 rfl (Nat.le_of_ble_eq_true rfl) dX1_at_20 ⟨Nat.zero_le _, Nat.zero_le _⟩ (fun H locs hP hD hS => ?_)
  refine wq_if_eq (tgt := 46) F (wq_isV_lt _) dX1_at_23 (by decide) (fun c23 => ?_) (fun c23 => False.elim (by omega))
  refine lv_iload_n F.1 F.2.1 dX1_at_46 rfl (lv_at hl 1 rfl) ?_
  exact wq_iret F hr hlk (rfl) hK hP hD hS dX1_at_47

set_option maxHeartbeats 4000000 in
set_option maxRecDepth 100000 in
/-- at(v) -/
theorem cY_at_ok (l : Launch) (D : va_G) (q : Nat → Nat) (d : Nat → ClassId) (sz sp st : Nat) (ma bg en lb ki : Nat → Nat) (nm : Nat → Int32) (nw th : Nat → Nat) (v : Nat) (ok : okY sz sp st ma bg en lb ki nm) (hv : v < 8) : CtI l D vwCl (tY d) yX1_at cX1_at 4 .int rmX1_at [.ref (q 0), .int (nI v)] (wY q d sz sp st ma bg en lb ki nm nw th) (nI (mY_row (mY_walk ma bg en lb ki nm sz st sp (nw, th)).1 v)) (wY q d sz sp st ma bg en lb ki nm ((mY_walk ma bg en lb ki nm sz st sp (nw, th)).1) ((mY_walk ma bg en lb ki nm sz st sp (nw, th)).2)) := by
  refine CtI.of RX1 rfl (by decide +kernel) (Nat.le_of_ble_eq_true rfl) ?_
  intro p e s m below meth c A ls F hr hlk hK hA hP hD hS hl
  have hl : lv_has ls 4 [(0, .ref (q 0)), (1, .int (nI v))] := hl
  obtain ⟨hsz, hsp, hst, hma, hbg, hen, hlb, hki, hB, hT⟩ := id ok
  refine lv_aload_n F.1 F.2.1 dX1_at_0 rfl (lv_at hl 0 rfl) ?_
  refine lv_aload_n F.1 F.2.1 dX1_at_1 rfl (lv_at hl 0 rfl) ?_
  refine gX1 F hK hP rfl 5 (by decide) q183 rfl (v := .int (nI sp)) rfl dX1_at_2 ?_
  refine wq_callVv F (rest := []) (ci := 1) rfl rfl (cY_walk l D q d sz sp st ma bg en lb ki nm nw th sp ok (by omega)) (cwV 1 F.2.2.2.2 (lw_V q248 q250 qs12 q19 q251) rfl rfl rfl (by decide +kernel) ⟨Nat.le_of_ble_eq_true rfl, Nat.le_of_ble_eq_true rfl⟩) rfl hK hP hD hS hA hl.1 rfl (Nat.le_of_ble_eq_true rfl) dX1_at_5 ⟨Nat.zero_le _, Nat.zero_le _⟩ (fun H locs hP hD hS => ?_)
  refine wq_iconst F 0 dX1_at_8 (by decide) ?_
  refine lv_istore_n (lv' := [(2, .int (nI 0)), (0, .ref (q 0)), (1, .int (nI v))]) F.1 F.2.1 dX1_at_9 rfl hl (by decide) rfl (fun ls hl => ?_)
  refine wq_iconst F 0 dX1_at_10 (by decide) ?_
  refine lv_istore_n (lv' := [(3, .int (nI 0)), (2, .int (nI 0)), (0, .ref (q 0)), (1, .int (nI v))]) F.1 F.2.1 dX1_at_11 rfl hl (by decide) rfl (fun ls hl => ?_)
  have lp1 : ∀ (n i : Nat), i + n = 8 → ∀ (H : Heap) (locs : List Loc) (ls : Array Slot), va_P D vwCl (wY q d sz sp st ma bg en lb ki nm ((mY_walk ma bg en lb ki nm sz st sp (nw, th)).1) ((mY_walk ma bg en lb ki nm sz st sp (nw, th)).2)) H → va_D A (wY q d sz sp st ma bg en lb ki nm ((mY_walk ma bg en lb ki nm sz st sp (nw, th)).1) ((mY_walk ma bg en lb ki nm sz st sp (nw, th)).2)) → va_S A s.heap H locs → lv_has ls 4 [(0, .ref (q 0)), (1, .int (nI v)), (2, .int (nI (wq_it (fun s a => a + (mY_walk ma bg en lb ki nm sz st sp (nw, th)).1 (8 * s + v)) i 0))), (3, .int (nI i))] → W p l e rmX1_at s m [.ref (q 0), .int (nI v)].toArray below meth c H locs 0 0 (MQ below (wq_QI D vwCl (tY d) A (nI (mY_row (mY_walk ma bg en lb ki nm sz st sp (nw, th)).1 v)) (wY q d sz sp st ma bg en lb ki nm ((mY_walk ma bg en lb ki nm sz st sp (nw, th)).1) ((mY_walk ma bg en lb ki nm sz st sp (nw, th)).2))) [.ref (q 0), .int (nI v)].toArray s 0 0 A) (F0 m 12 ls []) := by
    intro n
    induction n with
    | zero =>
      intro i hi H locs ls hP hD hS hl
      have ei : 8 = i := by omega
      subst ei
      refine lv_iload_n F.1 F.2.1 dX1_at_12 rfl (lv_at hl 3 rfl) ?_
      refine wq_bipush F 8 dX1_at_13 (by decide) ?_
      refine wq_icmp_ge (tgt := 46) F (by omega) (by omega) dX1_at_15 (by decide) (fun c15 => ?_) (fun c15 => False.elim (by omega))
      refine lv_iload_n F.1 F.2.1 dX1_at_46 rfl (lv_at hl 2 rfl) ?_
      exact wq_iret F hr hlk (rfl) hK hP hD hS dX1_at_47
    | succ n ihlp1 =>
      intro i hi H locs ls hP hD hS hl
      refine lv_iload_n F.1 F.2.1 dX1_at_12 rfl (lv_at hl 3 rfl) ?_
      refine wq_bipush F 8 dX1_at_13 (by decide) ?_
      refine wq_icmp_ge (tgt := 46) F (by omega) (by omega) dX1_at_15 (by decide) (fun c15 => False.elim (by omega)) (fun c15 => ?_)
      refine lv_aload_n F.1 F.2.1 dX1_at_18 rfl (lv_at hl 0 rfl) ?_
      refine lv_iload_n F.1 F.2.1 dX1_at_19 rfl (lv_at hl 1 rfl) ?_
      refine wq_callIv F (rest := []) (ci := 1) rfl rfl (cY_vertex l D q d sz sp st ma bg en lb ki nm ((mY_walk ma bg en lb ki nm sz st sp (nw, th)).1) ((mY_walk ma bg en lb ki nm sz st sp (nw, th)).2) ((nI v))) (cwV 1 F.2.2.2.2 (lw_V q216 q218 qs10 q19 q219) rfl rfl rfl (by decide +kernel) ⟨Nat.le_of_ble_eq_true rfl, Nat.le_of_ble_eq_true rfl⟩) rfl hK hP hD hS hA hl.1 rfl (Nat.le_of_ble_eq_true rfl) dX1_at_20 ⟨Nat.zero_le _, Nat.zero_le _⟩ (fun H locs hP hD hS => ?_)
      have he1 := wq_isV_n hv
      refine wq_if_eq (tgt := 46) F (wq_isV_lt _) dX1_at_23 (by decide) (fun c23 => False.elim (by omega)) (fun c23 => ?_)
      refine lv_iload_n F.1 F.2.1 dX1_at_26 rfl (lv_at hl 2 rfl) ?_
      refine lv_aload_n F.1 F.2.1 dX1_at_27 rfl (lv_at hl 0 rfl) ?_
      refine gX1 F hK hP rfl 9 (by decide) q187 rfl (v := .ref (q 7)) rfl dX1_at_28 ?_
      refine wq_bipush F 8 dX1_at_31 (by decide) ?_
      refine lv_iload_n F.1 F.2.1 dX1_at_33 rfl (lv_at hl 3 rfl) ?_
      refine wq_imul F dX1_at_34 ?_
      refine lv_iload_n F.1 F.2.1 dX1_at_35 rfl (lv_at hl 1 rfl) ?_
      refine wq_iadd F dX1_at_36 ?_
      refine wq_iald F hK hP 7 6 rfl rfl (by omega) (by decide) dX1_at_37 ?_
      refine wq_iadd F dX1_at_38 ?_
      refine lv_istore_n (lv' := [(2, .int (nI ((wq_it (fun s a => a + (mY_walk ma bg en lb ki nm sz st sp (nw, th)).1 (8 * s + v)) i 0) + (((mY_walk ma bg en lb ki nm sz st sp (nw, th)).1) ((8 * i) + v))))), (0, .ref (q 0)), (1, .int (nI v)), (3, .int (nI i))]) F.1 F.2.1 dX1_at_39 rfl hl (by decide) rfl (fun ls hl => ?_)
      refine lv_iinc (v := nI (i + 1)) (lv' := [(3, .int (nI (i + 1))), (2, .int (nI ((wq_it (fun s a => a + (mY_walk ma bg en lb ki nm sz st sp (nw, th)).1 (8 * s + v)) i 0) + (((mY_walk ma bg en lb ki nm sz st sp (nw, th)).1) ((8 * i) + v))))), (0, .ref (q 0)), (1, .int (nI v))]) F.1 F.2.1 dX1_at_40 hl (k := 3) rfl (wq_inc1 _) (by decide) rfl (fun ls hl => ?_)
      refine lv_goto (tgt := 12) F.1 F.2.1 dX1_at_43 (by decide) ?_
      exact ihlp1 (i + 1) (by omega) _ _ _ hP hD hS (lv_sub hl [2, 3, 1, 0] rfl)
  exact lp1 8 0 (by omega) _ _ _ hP hD hS (lv_sub hl [2, 3, 1, 0] rfl)

set_option maxHeartbeats 4000000 in
set_option maxRecDepth 100000 in
/-- after: no step -/
theorem cY_after_no (l : Launch) (D : va_G) (q : Nat → Nat) (d : Nat → ClassId) (sz sp st : Nat) (ma bg en lb ki : Nat → Nat) (nm : Nat → Int32) (nw th : Nat → Nat) (k : Int32) (hs : sp < 2 ^ 31) (h : k.toInt < 0 ∨ (sp : Int) < k.toInt) : CtI l D vwCl (tY d) yX1_after cX1_after 4 .int rmX1_after [.ref (q 0), .int k] (wY q d sz sp st ma bg en lb ki nm nw th) (-1) (wY q d sz sp st ma bg en lb ki nm nw th) := by
  refine CtI.of RX1 rfl (by decide +kernel) (Nat.le_of_ble_eq_true rfl) ?_
  intro p e s m below meth c A ls F hr hlk hK hA hP hD hS hl
  have hl : lv_has ls 4 [(0, .ref (q 0)), (1, .int k)] := hl
  refine lv_iload_n F.1 F.2.1 dX1_after_0 rfl (lv_at hl 1 rfl) ?_
  refine wr_if_lt (tgt := 12) F dX1_after_1 (by decide) (fun c1 => ?_) (fun c1 => ?_)
  · refine lv_iconst (v := -1) F.1 F.2.1 dX1_after_12 (by decide) ?_
    exact wq_iret F hr hlk (rfl) hK hP hD hS dX1_after_13
  · refine lv_iload_n F.1 F.2.1 dX1_after_4 rfl (lv_at hl 1 rfl) ?_
    refine lv_aload_n F.1 F.2.1 dX1_after_5 rfl (lv_at hl 0 rfl) ?_
    refine gX1 F hK hP rfl 5 (by decide) q183 rfl (v := .int (nI sp)) rfl dX1_after_6 ?_
    refine wr_icmp_le (tgt := 14) F (rfl) (nI_toInt (by omega)) dX1_after_9 (by decide) (fun c9 => False.elim (by omega)) (fun c9 => ?_)
    refine lv_iconst (v := -1) F.1 F.2.1 dX1_after_12 (by decide) ?_
    exact wq_iret F hr hlk (rfl) hK hP hD hS dX1_after_13

set_option maxHeartbeats 4000000 in
set_option maxRecDepth 100000 in
/-- after(k) -/
theorem cY_after_ok (l : Launch) (D : va_G) (q : Nat → Nat) (d : Nat → ClassId) (sz sp st : Nat) (ma bg en lb ki : Nat → Nat) (nm : Nat → Int32) (nw th : Nat → Nat) (k : Nat) (ok : okY sz sp st ma bg en lb ki nm) (hk : k ≤ sp) : CtI l D vwCl (tY d) yX1_after cX1_after 4 .int rmX1_after [.ref (q 0), .int (nI k)] (wY q d sz sp st ma bg en lb ki nm nw th) (nI (mY_total (mY_walk ma bg en lb ki nm sz st k (nw, th)).1)) (wY q d sz sp st ma bg en lb ki nm ((mY_walk ma bg en lb ki nm sz st k (nw, th)).1) ((mY_walk ma bg en lb ki nm sz st k (nw, th)).2)) := by
  refine CtI.of RX1 rfl (by decide +kernel) (Nat.le_of_ble_eq_true rfl) ?_
  intro p e s m below meth c A ls F hr hlk hK hA hP hD hS hl
  have hl : lv_has ls 4 [(0, .ref (q 0)), (1, .int (nI k))] := hl
  obtain ⟨hsz, hsp, hst, hma, hbg, hen, hlb, hki, hB, hT⟩ := id ok
  refine lv_iload_n F.1 F.2.1 dX1_after_0 rfl (lv_at hl 1 rfl) ?_
  refine wq_if_lt (tgt := 12) F (by omega) dX1_after_1 (by decide) (fun c1 => False.elim (c1)) (fun c1 => ?_)
  refine lv_iload_n F.1 F.2.1 dX1_after_4 rfl (lv_at hl 1 rfl) ?_
  refine lv_aload_n F.1 F.2.1 dX1_after_5 rfl (lv_at hl 0 rfl) ?_
  refine gX1 F hK hP rfl 5 (by decide) q183 rfl (v := .int (nI sp)) rfl dX1_after_6 ?_
  refine wq_icmp_le (tgt := 14) F (by omega) (by omega) dX1_after_9 (by decide) (fun c9 => ?_) (fun c9 => False.elim (by omega))
  refine lv_aload_n F.1 F.2.1 dX1_after_14 rfl (lv_at hl 0 rfl) ?_
  refine lv_iload_n F.1 F.2.1 dX1_after_15 rfl (lv_at hl 1 rfl) ?_
  refine wq_callVv F (rest := []) (ci := 1) rfl rfl (cY_walk l D q d sz sp st ma bg en lb ki nm nw th k ok (by omega)) (cwV 1 F.2.2.2.2 (lw_V q248 q250 qs12 q19 q251) rfl rfl rfl (by decide +kernel) ⟨Nat.le_of_ble_eq_true rfl, Nat.le_of_ble_eq_true rfl⟩) rfl hK hP hD hS hA hl.1 rfl (Nat.le_of_ble_eq_true rfl) dX1_after_16 ⟨Nat.zero_le _, Nat.zero_le _⟩ (fun H locs hP hD hS => ?_)
  refine wq_iconst F 0 dX1_after_19 (by decide) ?_
  refine lv_istore_n (lv' := [(2, .int (nI 0)), (0, .ref (q 0)), (1, .int (nI k))]) F.1 F.2.1 dX1_after_20 rfl hl (by decide) rfl (fun ls hl => ?_)
  refine wq_iconst F 0 dX1_after_21 (by decide) ?_
  refine lv_istore_n (lv' := [(3, .int (nI 0)), (2, .int (nI 0)), (0, .ref (q 0)), (1, .int (nI k))]) F.1 F.2.1 dX1_after_22 rfl hl (by decide) rfl (fun ls hl => ?_)
  have lp1 : ∀ (n i : Nat), i + n = 64 → ∀ (H : Heap) (locs : List Loc) (ls : Array Slot), va_P D vwCl (wY q d sz sp st ma bg en lb ki nm ((mY_walk ma bg en lb ki nm sz st k (nw, th)).1) ((mY_walk ma bg en lb ki nm sz st k (nw, th)).2)) H → va_D A (wY q d sz sp st ma bg en lb ki nm ((mY_walk ma bg en lb ki nm sz st k (nw, th)).1) ((mY_walk ma bg en lb ki nm sz st k (nw, th)).2)) → va_S A s.heap H locs → lv_has ls 4 [(0, .ref (q 0)), (2, .int (nI (wq_it (fun c a => a + (mY_walk ma bg en lb ki nm sz st k (nw, th)).1 c) i 0))), (3, .int (nI i))] → W p l e rmX1_after s m [.ref (q 0), .int (nI k)].toArray below meth c H locs 0 0 (MQ below (wq_QI D vwCl (tY d) A (nI (mY_total (mY_walk ma bg en lb ki nm sz st k (nw, th)).1)) (wY q d sz sp st ma bg en lb ki nm ((mY_walk ma bg en lb ki nm sz st k (nw, th)).1) ((mY_walk ma bg en lb ki nm sz st k (nw, th)).2))) [.ref (q 0), .int (nI k)].toArray s 0 0 A) (F0 m 23 ls []) := by
    intro n
    induction n with
    | zero =>
      intro i hi H locs ls hP hD hS hl
      have ei : 64 = i := by omega
      subst ei
      refine lv_iload_n F.1 F.2.1 dX1_after_23 rfl (lv_at hl 2 rfl) ?_
      refine wq_bipush F 64 dX1_after_24 (by decide) ?_
      refine wq_icmp_ge (tgt := 44) F (by omega) (by omega) dX1_after_26 (by decide) (fun c26 => ?_) (fun c26 => False.elim (by omega))
      refine lv_iload_n F.1 F.2.1 dX1_after_44 rfl (lv_at hl 1 rfl) ?_
      exact wq_iret F hr hlk (rfl) hK hP hD hS dX1_after_45
    | succ n ihlp1 =>
      intro i hi H locs ls hP hD hS hl
      refine lv_iload_n F.1 F.2.1 dX1_after_23 rfl (lv_at hl 2 rfl) ?_
      refine wq_bipush F 64 dX1_after_24 (by decide) ?_
      refine wq_icmp_ge (tgt := 44) F (by omega) (by omega) dX1_after_26 (by decide) (fun c26 => False.elim (by omega)) (fun c26 => ?_)
      refine lv_iload_n F.1 F.2.1 dX1_after_29 rfl (lv_at hl 1 rfl) ?_
      refine lv_aload_n F.1 F.2.1 dX1_after_30 rfl (lv_at hl 0 rfl) ?_
      refine gX1 F hK hP rfl 9 (by decide) q187 rfl (v := .ref (q 7)) rfl dX1_after_31 ?_
      refine lv_iload_n F.1 F.2.1 dX1_after_34 rfl (lv_at hl 2 rfl) ?_
      refine wq_iald F hK hP 7 6 rfl rfl (by omega) (by decide) dX1_after_35 ?_
      refine wq_iadd F dX1_after_36 ?_
      refine lv_istore_n (lv' := [(2, .int (nI ((wq_it (fun c a => a + (mY_walk ma bg en lb ki nm sz st k (nw, th)).1 c) i 0) + (((mY_walk ma bg en lb ki nm sz st k (nw, th)).1) i)))), (0, .ref (q 0)), (3, .int (nI i))]) F.1 F.2.1 dX1_after_37 rfl hl (by decide) rfl (fun ls hl => ?_)
      refine lv_iinc (v := nI (i + 1)) (lv' := [(3, .int (nI (i + 1))), (2, .int (nI ((wq_it (fun c a => a + (mY_walk ma bg en lb ki nm sz st k (nw, th)).1 c) i 0) + (((mY_walk ma bg en lb ki nm sz st k (nw, th)).1) i)))), (0, .ref (q 0))]) F.1 F.2.1 dX1_after_38 hl (k := 2) rfl (wq_inc1 _) (by decide) rfl (fun ls hl => ?_)
      refine lv_goto (tgt := 23) F.1 F.2.1 dX1_after_41 (by decide) ?_
      exact ihlp1 (i + 1) (by omega) _ _ _ hP hD hS (lv_sub hl [2, 1, 0] rfl)
  exact lp1 64 0 (by omega) _ _ _ hP hD hS (lv_sub hl [2, 1, 0] rfl)

set_option maxHeartbeats 4000000 in
set_option maxRecDepth 100000 in
/-- walkers() -/
theorem cY_walkers (l : Launch) (D : va_G) (q : Nat → Nat) (d : Nat → ClassId) (sz sp st : Nat) (ma bg en lb ki : Nat → Nat) (nm : Nat → Int32) (nw th : Nat → Nat) (ok : okY sz sp st ma bg en lb ki nm) : CtI l D vwCl (tY d) yX1_walkers cX1_walkers 1 .int rmX1_walkers [.ref (q 0)] (wY q d sz sp st ma bg en lb ki nm nw th) (nI (mY_total (mY_walk ma bg en lb ki nm sz st sp (nw, th)).1)) (wY q d sz sp st ma bg en lb ki nm ((mY_walk ma bg en lb ki nm sz st sp (nw, th)).1) ((mY_walk ma bg en lb ki nm sz st sp (nw, th)).2)) := by
  refine CtI.of RX1 rfl (by decide +kernel) (Nat.le_of_ble_eq_true rfl) ?_
  intro p e s m below meth c A ls F hr hlk hK hA hP hD hS hl
  have hl : lv_has ls 1 [(0, .ref (q 0))] := hl
  refine lv_aload_n F.1 F.2.1 dX1_walkers_0 rfl (lv_at hl 0 rfl) ?_
  refine lv_aload_n F.1 F.2.1 dX1_walkers_1 rfl (lv_at hl 0 rfl) ?_
  refine gX1 F hK hP rfl 5 (by decide) q183 rfl (v := .int (nI sp)) rfl dX1_walkers_2 ?_
  refine wq_callIv F (rest := []) (ci := 1) rfl rfl (cY_after_ok l D q d sz sp st ma bg en lb ki nm nw th sp ok (Nat.le_refl _)) (cwV 1 F.2.2.2.2 (lw_V q272 q273 q274 q19 q275) rfl rfl rfl (by decide +kernel) ⟨Nat.le_of_ble_eq_true rfl, Nat.le_of_ble_eq_true rfl⟩) rfl hK hP hD hS hA hl.1 rfl (Nat.le_of_ble_eq_true rfl) dX1_walkers_5 ⟨Nat.zero_le _, Nat.zero_le _⟩ (fun H locs hP hD hS => ?_)
  exact wq_iret F hr hlk (rfl) hK hP hD hS dX1_walkers_8

set_option maxHeartbeats 4000000 in
set_option maxRecDepth 100000 in
/-- between: no vertex -/
theorem cY_between_no (l : Launch) (D : va_G) (q : Nat → Nat) (d : Nat → ClassId) (sz sp st : Nat) (ma bg en lb ki : Nat → Nat) (nm : Nat → Int32) (nw th : Nat → Nat) (u v : Int32) (ok : okY sz sp st ma bg en lb ki nm) (h : wq_isV u = 0 ∨ wq_isV v = 0) : CtI l D vwCl (tY d) yX1_between cX1_between 3 .int rmX1_between [.ref (q 0), .int u, .int v] (wY q d sz sp st ma bg en lb ki nm nw th) (nI 0) (wY q d sz sp st ma bg en lb ki nm ((mY_walk ma bg en lb ki nm sz st sp (nw, th)).1) ((mY_walk ma bg en lb ki nm sz st sp (nw, th)).2)) := by
  refine CtI.of RX1 rfl (by decide +kernel) (Nat.le_of_ble_eq_true rfl) ?_
  intro p e s m below meth c A ls F hr hlk hK hA hP hD hS hl
  have hl : lv_has ls 3 [(0, .ref (q 0)), (1, .int u), (2, .int v)] := hl
  obtain ⟨hsz, hsp, hst, hma, hbg, hen, hlb, hki, hB, hT⟩ := id ok
  refine lv_aload_n F.1 F.2.1 dX1_between_0 rfl (lv_at hl 0 rfl) ?_
  refine lv_aload_n F.1 F.2.1 dX1_between_1 rfl (lv_at hl 0 rfl) ?_
  refine gX1 F hK hP rfl 5 (by decide) q183 rfl (v := .int (nI sp)) rfl dX1_between_2 ?_
  refine wq_callVv F (rest := []) (ci := 1) rfl rfl (cY_walk l D q d sz sp st ma bg en lb ki nm nw th sp ok (by omega)) (cwV 1 F.2.2.2.2 (lw_V q248 q250 qs12 q19 q251) rfl rfl rfl (by decide +kernel) ⟨Nat.le_of_ble_eq_true rfl, Nat.le_of_ble_eq_true rfl⟩) rfl hK hP hD hS hA hl.1 rfl (Nat.le_of_ble_eq_true rfl) dX1_between_5 ⟨Nat.zero_le _, Nat.zero_le _⟩ (fun H locs hP hD hS => ?_)
  refine lv_aload_n F.1 F.2.1 dX1_between_8 rfl (lv_at hl 0 rfl) ?_
  refine lv_iload_n F.1 F.2.1 dX1_between_9 rfl (lv_at hl 1 rfl) ?_
  refine wq_callIv F (rest := []) (ci := 1) rfl rfl (cY_vertex l D q d sz sp st ma bg en lb ki nm ((mY_walk ma bg en lb ki nm sz st sp (nw, th)).1) ((mY_walk ma bg en lb ki nm sz st sp (nw, th)).2) (u)) (cwV 1 F.2.2.2.2 (lw_V q216 q218 qs10 q19 q219) rfl rfl rfl (by decide +kernel) ⟨Nat.le_of_ble_eq_true rfl, Nat.le_of_ble_eq_true rfl⟩) rfl hK hP hD hS hA hl.1 rfl (Nat.le_of_ble_eq_true rfl) dX1_between_10 ⟨Nat.zero_le _, Nat.zero_le _⟩ (fun H locs hP hD hS => ?_)
  refine wq_if_eq (tgt := 38) F (wq_isV_lt _) dX1_between_13 (by decide) (fun c13 => ?_) (fun c13 => ?_)
  · refine wq_iconst F 0 dX1_between_38 (by decide) ?_
    exact wq_iret F hr hlk (rfl) hK hP hD hS dX1_between_39
  · refine lv_aload_n F.1 F.2.1 dX1_between_16 rfl (lv_at hl 0 rfl) ?_
    refine lv_iload_n F.1 F.2.1 dX1_between_17 rfl (lv_at hl 2 rfl) ?_
    refine wq_callIv F (rest := []) (ci := 1) rfl rfl (cY_vertex l D q d sz sp st ma bg en lb ki nm ((mY_walk ma bg en lb ki nm sz st sp (nw, th)).1) ((mY_walk ma bg en lb ki nm sz st sp (nw, th)).2) (v)) (cwV 1 F.2.2.2.2 (lw_V q216 q218 qs10 q19 q219) rfl rfl rfl (by decide +kernel) ⟨Nat.le_of_ble_eq_true rfl, Nat.le_of_ble_eq_true rfl⟩) rfl hK hP hD hS hA hl.1 rfl (Nat.le_of_ble_eq_true rfl) dX1_between_18 ⟨Nat.zero_le _, Nat.zero_le _⟩ (fun H locs hP hD hS => ?_)
    refine wq_if_eq (tgt := 38) F (wq_isV_lt _) dX1_between_21 (by decide) (fun c21 => ?_) (fun c21 => False.elim (by omega))
    refine wq_iconst F 0 dX1_between_38 (by decide) ?_
    exact wq_iret F hr hlk (rfl) hK hP hD hS dX1_between_39

set_option maxHeartbeats 4000000 in
set_option maxRecDepth 100000 in
/-- between(u, v) -/
theorem cY_between_ok (l : Launch) (D : va_G) (q : Nat → Nat) (d : Nat → ClassId) (sz sp st : Nat) (ma bg en lb ki : Nat → Nat) (nm : Nat → Int32) (nw th : Nat → Nat) (u v : Nat) (ok : okY sz sp st ma bg en lb ki nm) (hu : u < 8) (hv : v < 8) : CtI l D vwCl (tY d) yX1_between cX1_between 3 .int rmX1_between [.ref (q 0), .int (nI u), .int (nI v)] (wY q d sz sp st ma bg en lb ki nm nw th) (nI ((mY_walk ma bg en lb ki nm sz st sp (nw, th)).1 (8 * u + v))) (wY q d sz sp st ma bg en lb ki nm ((mY_walk ma bg en lb ki nm sz st sp (nw, th)).1) ((mY_walk ma bg en lb ki nm sz st sp (nw, th)).2)) := by
  refine CtI.of RX1 rfl (by decide +kernel) (Nat.le_of_ble_eq_true rfl) ?_
  intro p e s m below meth c A ls F hr hlk hK hA hP hD hS hl
  have hl : lv_has ls 3 [(0, .ref (q 0)), (1, .int (nI u)), (2, .int (nI v))] := hl
  obtain ⟨hsz, hsp, hst, hma, hbg, hen, hlb, hki, hB, hT⟩ := id ok
  refine lv_aload_n F.1 F.2.1 dX1_between_0 rfl (lv_at hl 0 rfl) ?_
  refine lv_aload_n F.1 F.2.1 dX1_between_1 rfl (lv_at hl 0 rfl) ?_
  refine gX1 F hK hP rfl 5 (by decide) q183 rfl (v := .int (nI sp)) rfl dX1_between_2 ?_
  refine wq_callVv F (rest := []) (ci := 1) rfl rfl (cY_walk l D q d sz sp st ma bg en lb ki nm nw th sp ok (by omega)) (cwV 1 F.2.2.2.2 (lw_V q248 q250 qs12 q19 q251) rfl rfl rfl (by decide +kernel) ⟨Nat.le_of_ble_eq_true rfl, Nat.le_of_ble_eq_true rfl⟩) rfl hK hP hD hS hA hl.1 rfl (Nat.le_of_ble_eq_true rfl) dX1_between_5 ⟨Nat.zero_le _, Nat.zero_le _⟩ (fun H locs hP hD hS => ?_)
  refine lv_aload_n F.1 F.2.1 dX1_between_8 rfl (lv_at hl 0 rfl) ?_
  refine lv_iload_n F.1 F.2.1 dX1_between_9 rfl (lv_at hl 1 rfl) ?_
  refine wq_callIv F (rest := []) (ci := 1) rfl rfl (cY_vertex l D q d sz sp st ma bg en lb ki nm ((mY_walk ma bg en lb ki nm sz st sp (nw, th)).1) ((mY_walk ma bg en lb ki nm sz st sp (nw, th)).2) ((nI u))) (cwV 1 F.2.2.2.2 (lw_V q216 q218 qs10 q19 q219) rfl rfl rfl (by decide +kernel) ⟨Nat.le_of_ble_eq_true rfl, Nat.le_of_ble_eq_true rfl⟩) rfl hK hP hD hS hA hl.1 rfl (Nat.le_of_ble_eq_true rfl) dX1_between_10 ⟨Nat.zero_le _, Nat.zero_le _⟩ (fun H locs hP hD hS => ?_)
  have he1 := wq_isV_n hu
  refine wq_if_eq (tgt := 38) F (wq_isV_lt _) dX1_between_13 (by decide) (fun c13 => False.elim (by omega)) (fun c13 => ?_)
  refine lv_aload_n F.1 F.2.1 dX1_between_16 rfl (lv_at hl 0 rfl) ?_
  refine lv_iload_n F.1 F.2.1 dX1_between_17 rfl (lv_at hl 2 rfl) ?_
  refine wq_callIv F (rest := []) (ci := 1) rfl rfl (cY_vertex l D q d sz sp st ma bg en lb ki nm ((mY_walk ma bg en lb ki nm sz st sp (nw, th)).1) ((mY_walk ma bg en lb ki nm sz st sp (nw, th)).2) ((nI v))) (cwV 1 F.2.2.2.2 (lw_V q216 q218 qs10 q19 q219) rfl rfl rfl (by decide +kernel) ⟨Nat.le_of_ble_eq_true rfl, Nat.le_of_ble_eq_true rfl⟩) rfl hK hP hD hS hA hl.1 rfl (Nat.le_of_ble_eq_true rfl) dX1_between_18 ⟨Nat.zero_le _, Nat.zero_le _⟩ (fun H locs hP hD hS => ?_)
  have he2 := wq_isV_n hv
  refine wq_if_eq (tgt := 38) F (wq_isV_lt _) dX1_between_21 (by decide) (fun c21 => False.elim (by omega)) (fun c21 => ?_)
  refine lv_aload_n F.1 F.2.1 dX1_between_24 rfl (lv_at hl 0 rfl) ?_
  refine gX1 F hK hP rfl 9 (by decide) q187 rfl (v := .ref (q 7)) rfl dX1_between_25 ?_
  refine wq_bipush F 8 dX1_between_28 (by decide) ?_
  refine lv_iload_n F.1 F.2.1 dX1_between_30 rfl (lv_at hl 1 rfl) ?_
  refine wq_imul F dX1_between_31 ?_
  refine lv_iload_n F.1 F.2.1 dX1_between_32 rfl (lv_at hl 2 rfl) ?_
  refine wq_iadd F dX1_between_33 ?_
  refine wq_iald F hK hP 7 6 rfl rfl (by omega) (by decide) dX1_between_34 ?_
  refine lv_goto (tgt := 39) F.1 F.2.1 dX1_between_35 (by decide) ?_
  exact wq_iret F hr hlk (rfl) hK hP hD hS dX1_between_39

set_option maxHeartbeats 4000000 in
set_option maxRecDepth 100000 in
/-- reached() -/
theorem cY_reached (l : Launch) (D : va_G) (q : Nat → Nat) (d : Nat → ClassId) (sz sp st : Nat) (ma bg en lb ki : Nat → Nat) (nm : Nat → Int32) (nw th : Nat → Nat) (ok : okY sz sp st ma bg en lb ki nm) : CtI l D vwCl (tY d) yX1_reached cX1_reached 3 .int rmX1_reached [.ref (q 0)] (wY q d sz sp st ma bg en lb ki nm nw th) (nI (mY_reached (mY_walk ma bg en lb ki nm sz st sp (nw, th)).1 64)) (wY q d sz sp st ma bg en lb ki nm ((mY_walk ma bg en lb ki nm sz st sp (nw, th)).1) ((mY_walk ma bg en lb ki nm sz st sp (nw, th)).2)) := by
  refine CtI.of RX1 rfl (by decide +kernel) (Nat.le_of_ble_eq_true rfl) ?_
  intro p e s m below meth c A ls F hr hlk hK hA hP hD hS hl
  have hl : lv_has ls 3 [(0, .ref (q 0))] := hl
  obtain ⟨hsz, hsp, hst, hma, hbg, hen, hlb, hki, hB, hT⟩ := id ok
  refine lv_aload_n F.1 F.2.1 dX1_reached_0 rfl (lv_at hl 0 rfl) ?_
  refine lv_aload_n F.1 F.2.1 dX1_reached_1 rfl (lv_at hl 0 rfl) ?_
  refine gX1 F hK hP rfl 5 (by decide) q183 rfl (v := .int (nI sp)) rfl dX1_reached_2 ?_
  refine wq_callVv F (rest := []) (ci := 1) rfl rfl (cY_walk l D q d sz sp st ma bg en lb ki nm nw th sp ok (by omega)) (cwV 1 F.2.2.2.2 (lw_V q248 q250 qs12 q19 q251) rfl rfl rfl (by decide +kernel) ⟨Nat.le_of_ble_eq_true rfl, Nat.le_of_ble_eq_true rfl⟩) rfl hK hP hD hS hA hl.1 rfl (Nat.le_of_ble_eq_true rfl) dX1_reached_5 ⟨Nat.zero_le _, Nat.zero_le _⟩ (fun H locs hP hD hS => ?_)
  refine wq_iconst F 0 dX1_reached_8 (by decide) ?_
  refine lv_istore_n (lv' := [(1, .int (nI 0)), (0, .ref (q 0))]) F.1 F.2.1 dX1_reached_9 rfl hl (by decide) rfl (fun ls hl => ?_)
  refine wq_iconst F 0 dX1_reached_10 (by decide) ?_
  refine lv_istore_n (lv' := [(2, .int (nI 0)), (1, .int (nI 0)), (0, .ref (q 0))]) F.1 F.2.1 dX1_reached_11 rfl hl (by decide) rfl (fun ls hl => ?_)
  have lp1 : ∀ (n i : Nat), i + n = 64 → ∀ (H : Heap) (locs : List Loc) (ls : Array Slot), va_P D vwCl (wY q d sz sp st ma bg en lb ki nm ((mY_walk ma bg en lb ki nm sz st sp (nw, th)).1) ((mY_walk ma bg en lb ki nm sz st sp (nw, th)).2)) H → va_D A (wY q d sz sp st ma bg en lb ki nm ((mY_walk ma bg en lb ki nm sz st sp (nw, th)).1) ((mY_walk ma bg en lb ki nm sz st sp (nw, th)).2)) → va_S A s.heap H locs → lv_has ls 3 [(0, .ref (q 0)), (1, .int (nI (mY_reached (mY_walk ma bg en lb ki nm sz st sp (nw, th)).1 i))), (2, .int (nI i))] → W p l e rmX1_reached s m [.ref (q 0)].toArray below meth c H locs 0 0 (MQ below (wq_QI D vwCl (tY d) A (nI (mY_reached (mY_walk ma bg en lb ki nm sz st sp (nw, th)).1 64)) (wY q d sz sp st ma bg en lb ki nm ((mY_walk ma bg en lb ki nm sz st sp (nw, th)).1) ((mY_walk ma bg en lb ki nm sz st sp (nw, th)).2))) [.ref (q 0)].toArray s 0 0 A) (F0 m 12 ls []) := by
    intro n
    induction n with
    | zero =>
      intro i hi H locs ls hP hD hS hl
      have ei : 64 = i := by omega
      subst ei
      refine lv_iload_n F.1 F.2.1 dX1_reached_12 rfl (lv_at hl 2 rfl) ?_
      refine wq_bipush F 64 dX1_reached_13 (by decide) ?_
      refine wq_icmp_ge (tgt := 46) F (by omega) (by omega) dX1_reached_15 (by decide) (fun c15 => ?_) (fun c15 => False.elim (by omega))
      refine lv_iload_n F.1 F.2.1 dX1_reached_46 rfl (lv_at hl 1 rfl) ?_
      exact wq_iret F hr hlk (rfl) hK hP hD hS dX1_reached_47
    | succ n ihlp1 =>
      intro i hi H locs ls hP hD hS hl
      refine lv_iload_n F.1 F.2.1 dX1_reached_12 rfl (lv_at hl 2 rfl) ?_
      refine wq_bipush F 64 dX1_reached_13 (by decide) ?_
      refine wq_icmp_ge (tgt := 46) F (by omega) (by omega) dX1_reached_15 (by decide) (fun c15 => False.elim (by omega)) (fun c15 => ?_)
      have hn1 := hB (nw, th) sp (Nat.le_refl _) i (by omega)
      have K39 : ∀ (x0 : Nat), x0 = (if (mY_walk ma bg en lb ki nm sz st sp (nw, th)).1 i = 0 then mY_reached (mY_walk ma bg en lb ki nm sz st sp (nw, th)).1 i else mY_reached (mY_walk ma bg en lb ki nm sz st sp (nw, th)).1 i ||| 2 ^ (i % 8)) → ∀ (H : Heap) (locs : List Loc) (ls : Array Slot), va_P D vwCl (wY q d sz sp st ma bg en lb ki nm ((mY_walk ma bg en lb ki nm sz st sp (nw, th)).1) ((mY_walk ma bg en lb ki nm sz st sp (nw, th)).2)) H → va_D A (wY q d sz sp st ma bg en lb ki nm ((mY_walk ma bg en lb ki nm sz st sp (nw, th)).1) ((mY_walk ma bg en lb ki nm sz st sp (nw, th)).2)) → va_S A s.heap H locs → lv_has ls 3 [(0, .ref (q 0)), (1, .int (nI (mY_reached (mY_walk ma bg en lb ki nm sz st sp (nw, th)).1 i))), (2, .int (nI i))] → W p l e rmX1_reached s m [.ref (q 0)].toArray below meth c H locs 0 0 (MQ below (wq_QI D vwCl (tY d) A (nI (mY_reached (mY_walk ma bg en lb ki nm sz st sp (nw, th)).1 64)) (wY q d sz sp st ma bg en lb ki nm ((mY_walk ma bg en lb ki nm sz st sp (nw, th)).1) ((mY_walk ma bg en lb ki nm sz st sp (nw, th)).2))) [.ref (q 0)].toArray s 0 0 A) (F0 m 39 ls [.int (nI x0)]) := by
        intro x0 ex0 H locs ls hP hD hS hl
        subst ex0
        refine lv_istore_n (lv' := [(1, .int (nI (if (mY_walk ma bg en lb ki nm sz st sp (nw, th)).1 i = 0 then mY_reached (mY_walk ma bg en lb ki nm sz st sp (nw, th)).1 i else mY_reached (mY_walk ma bg en lb ki nm sz st sp (nw, th)).1 i ||| 2 ^ (i % 8)))), (0, .ref (q 0)), (2, .int (nI i))]) F.1 F.2.1 dX1_reached_39 rfl hl (by decide) rfl (fun ls hl => ?_)
        refine lv_iinc (v := nI (i + 1)) (lv' := [(2, .int (nI (i + 1))), (1, .int (nI (if (mY_walk ma bg en lb ki nm sz st sp (nw, th)).1 i = 0 then mY_reached (mY_walk ma bg en lb ki nm sz st sp (nw, th)).1 i else mY_reached (mY_walk ma bg en lb ki nm sz st sp (nw, th)).1 i ||| 2 ^ (i % 8)))), (0, .ref (q 0))]) F.1 F.2.1 dX1_reached_40 hl (k := 2) rfl (wq_inc1 _) (by decide) rfl (fun ls hl => ?_)
        refine lv_goto (tgt := 12) F.1 F.2.1 dX1_reached_43 (by decide) ?_
        exact ihlp1 (i + 1) (by omega) _ _ _ hP hD hS (lv_sub hl [2, 1, 0] rfl)
      refine lv_aload_n F.1 F.2.1 dX1_reached_18 rfl (lv_at hl 0 rfl) ?_
      refine gX1 F hK hP rfl 9 (by decide) q187 rfl (v := .ref (q 7)) rfl dX1_reached_19 ?_
      refine lv_iload_n F.1 F.2.1 dX1_reached_22 rfl (lv_at hl 2 rfl) ?_
      refine wq_iald F hK hP 7 6 rfl rfl (by omega) (by decide) dX1_reached_23 ?_
      refine wq_if_le (tgt := 38) F (by omega) dX1_reached_24 (by decide) (fun c24 => ?_) (fun c24 => ?_)
      · refine lv_iload_n F.1 F.2.1 dX1_reached_38 rfl (lv_at hl 1 rfl) ?_
        exact K39 (mY_reached (mY_walk ma bg en lb ki nm sz st sp (nw, th)).1 i) ((if_pos c24).symm) _ _ _ hP hD hS (lv_sub hl [0, 1, 2] rfl)
      · refine lv_iload_n F.1 F.2.1 dX1_reached_27 rfl (lv_at hl 1 rfl) ?_
        refine wq_iconst F 1 dX1_reached_28 (by decide) ?_
        refine lv_iload_n F.1 F.2.1 dX1_reached_29 rfl (lv_at hl 2 rfl) ?_
        refine wq_bipush F 8 dX1_reached_30 (by decide) ?_
        refine wq_irem F (by omega) (by decide) (by decide) dX1_reached_32 ?_
        refine wq_ishl1 F (by omega) dX1_reached_33 ?_
        refine wq_ior F dX1_reached_34 ?_
        refine lv_goto (tgt := 39) F.1 F.2.1 dX1_reached_35 (by decide) ?_
        exact K39 ((mY_reached (mY_walk ma bg en lb ki nm sz st sp (nw, th)).1 i) ||| (2 ^ (i % 8))) ((if_neg (Nat.ne_of_gt c24)).symm) _ _ _ hP hD hS (lv_sub hl [0, 1, 2] rfl)
  exact lp1 64 0 (by omega) _ _ _ hP hD hS (lv_sub hl [2, 1, 0] rfl)

set_option maxHeartbeats 4000000 in
set_option maxRecDepth 100000 in
/-- startsAt: no vertex -/
theorem cY_startsAt_no (l : Launch) (D : va_G) (q : Nat → Nat) (d : Nat → ClassId) (sz sp st : Nat) (ma bg en lb ki : Nat → Nat) (nm : Nat → Int32) (nw th : Nat → Nat) (v : Int32) (ok : okY sz sp st ma bg en lb ki nm) (h : wq_isV v = 0) : CtI l D vwCl (tY d) yX1_startsAt cX1_startsAt 4 .int rmX1_startsAt [.ref (q 0), .int v] (wY q d sz sp st ma bg en lb ki nm nw th) (nI 0) (wY q d sz sp st ma bg en lb ki nm ((mY_walk ma bg en lb ki nm sz st sp (nw, th)).1) ((mY_walk ma bg en lb ki nm sz st sp (nw, th)).2)) := by
  refine CtI.of RX1 rfl (by decide +kernel) (Nat.le_of_ble_eq_true rfl) ?_
  intro p e s m below meth c A ls F hr hlk hK hA hP hD hS hl
  have hl : lv_has ls 4 [(0, .ref (q 0)), (1, .int v)] := hl
  obtain ⟨hsz, hsp, hst, hma, hbg, hen, hlb, hki, hB, hT⟩ := id ok
  refine lv_aload_n F.1 F.2.1 dX1_startsAt_0 rfl (lv_at hl 0 rfl) ?_
  refine lv_aload_n F.1 F.2.1 dX1_startsAt_1 rfl (lv_at hl 0 rfl) ?_
  refine gX1 F hK hP rfl 5 (by decide) q183 rfl (v := .int (nI sp)) rfl dX1_startsAt_2 ?_
  refine wq_callVv F (rest := []) (ci := 1) rfl rfl (cY_walk l D q d sz sp st ma bg en lb ki nm nw th sp ok (by omega)) (cwV 1 F.2.2.2.2 (lw_V q248 q250 qs12 q19 q251) rfl rfl rfl (by decide +kernel) ⟨Nat.le_of_ble_eq_true rfl, Nat.le_of_ble_eq_true rfl⟩) rfl hK hP hD hS hA hl.1 rfl (Nat.le_of_ble_eq_true rfl) dX1_startsAt_5 ⟨Nat.zero_le _, Nat.zero_le _⟩ (fun H locs hP hD hS => ?_)
  refine wq_iconst F 0 dX1_startsAt_8 (by decide) ?_
  refine lv_istore_n (lv' := [(2, .int (nI 0)), (0, .ref (q 0)), (1, .int v)]) F.1 F.2.1 dX1_startsAt_9 rfl hl (by decide) rfl (fun ls hl => ?_)
  refine wq_iconst F 0 dX1_startsAt_10 (by decide) ?_
  refine lv_istore_n (lv' := [(3, .int (nI 0)), (2, .int (nI 0)), (0, .ref (q 0)), (1, .int v)]) F.1 F.2.1 dX1_startsAt_11 rfl hl (by decide) rfl (fun ls hl => ?_)
  refine lv_iload_n F.1 F.2.1 dX1_startsAt_12 rfl (lv_at hl 0 rfl) ?_
  refine wq_bipush F 8 dX1_startsAt_13 (by decide) ?_
  refine wq_icmp_ge (tgt := 56) F (by omega) (by omega) dX1_startsAt_15 (by decide) (fun c15 => False.elim (by omega)) (fun c15 => ?_)
  refine lv_aload_n F.1 F.2.1 dX1_startsAt_18 rfl (lv_at hl 2 rfl) ?_
  refine lv_iload_n F.1 F.2.1 dX1_startsAt_19 rfl (lv_at hl 3 rfl) ?_
  refine wq_callIv F (rest := []) (ci := 1) rfl rfl (cY_vertex l D q d sz sp st ma bg en lb ki nm ((mY_walk ma bg en lb ki nm sz st sp (nw, th)).1) ((mY_walk ma bg en lb ki nm sz st sp (nw, th)).2) (v)) (cwV 1 F.2.2.2.2 (lw_V q216 q218 qs10 q19 q219) rfl rfl rfl (by decide +kernel) ⟨Nat.le_of_ble_eq_true rfl, Nat.le_of_ble_eq_true rfl⟩) rfl hK hP hD hS hA hl.1 rfl (Nat.le_of_ble_eq_true rfl) dX1_startsAt_20 ⟨Nat.zero_le _, Nat.zero_le _⟩ (fun H locs hP hD hS => ?_)
  refine wq_if_eq (tgt := 56) F (wq_isV_lt _) dX1_startsAt_23 (by decide) (fun c23 => ?_) (fun c23 => False.elim (by omega))
  refine lv_iload_n F.1 F.2.1 dX1_startsAt_56 rfl (lv_at hl 1 rfl) ?_
  exact wq_iret F hr hlk (rfl) hK hP hD hS dX1_startsAt_57

set_option maxHeartbeats 4000000 in
set_option maxRecDepth 100000 in
/-- startsAt(v) -/
theorem cY_startsAt_ok (l : Launch) (D : va_G) (q : Nat → Nat) (d : Nat → ClassId) (sz sp st : Nat) (ma bg en lb ki : Nat → Nat) (nm : Nat → Int32) (nw th : Nat → Nat) (v : Nat) (ok : okY sz sp st ma bg en lb ki nm) (hv : v < 8) : CtI l D vwCl (tY d) yX1_startsAt cX1_startsAt 4 .int rmX1_startsAt [.ref (q 0), .int (nI v)] (wY q d sz sp st ma bg en lb ki nm nw th) (nI (mY_startsAt (mY_walk ma bg en lb ki nm sz st sp (nw, th)).1 v 8)) (wY q d sz sp st ma bg en lb ki nm ((mY_walk ma bg en lb ki nm sz st sp (nw, th)).1) ((mY_walk ma bg en lb ki nm sz st sp (nw, th)).2)) := by
  refine CtI.of RX1 rfl (by decide +kernel) (Nat.le_of_ble_eq_true rfl) ?_
  intro p e s m below meth c A ls F hr hlk hK hA hP hD hS hl
  have hl : lv_has ls 4 [(0, .ref (q 0)), (1, .int (nI v))] := hl
  obtain ⟨hsz, hsp, hst, hma, hbg, hen, hlb, hki, hB, hT⟩ := id ok
  refine lv_aload_n F.1 F.2.1 dX1_startsAt_0 rfl (lv_at hl 0 rfl) ?_
  refine lv_aload_n F.1 F.2.1 dX1_startsAt_1 rfl (lv_at hl 0 rfl) ?_
  refine gX1 F hK hP rfl 5 (by decide) q183 rfl (v := .int (nI sp)) rfl dX1_startsAt_2 ?_
  refine wq_callVv F (rest := []) (ci := 1) rfl rfl (cY_walk l D q d sz sp st ma bg en lb ki nm nw th sp ok (by omega)) (cwV 1 F.2.2.2.2 (lw_V q248 q250 qs12 q19 q251) rfl rfl rfl (by decide +kernel) ⟨Nat.le_of_ble_eq_true rfl, Nat.le_of_ble_eq_true rfl⟩) rfl hK hP hD hS hA hl.1 rfl (Nat.le_of_ble_eq_true rfl) dX1_startsAt_5 ⟨Nat.zero_le _, Nat.zero_le _⟩ (fun H locs hP hD hS => ?_)
  refine wq_iconst F 0 dX1_startsAt_8 (by decide) ?_
  refine lv_istore_n (lv' := [(2, .int (nI 0)), (0, .ref (q 0)), (1, .int (nI v))]) F.1 F.2.1 dX1_startsAt_9 rfl hl (by decide) rfl (fun ls hl => ?_)
  refine wq_iconst F 0 dX1_startsAt_10 (by decide) ?_
  refine lv_istore_n (lv' := [(3, .int (nI 0)), (2, .int (nI 0)), (0, .ref (q 0)), (1, .int (nI v))]) F.1 F.2.1 dX1_startsAt_11 rfl hl (by decide) rfl (fun ls hl => ?_)
  have lp1 : ∀ (n i : Nat), i + n = 8 → ∀ (H : Heap) (locs : List Loc) (ls : Array Slot), va_P D vwCl (wY q d sz sp st ma bg en lb ki nm ((mY_walk ma bg en lb ki nm sz st sp (nw, th)).1) ((mY_walk ma bg en lb ki nm sz st sp (nw, th)).2)) H → va_D A (wY q d sz sp st ma bg en lb ki nm ((mY_walk ma bg en lb ki nm sz st sp (nw, th)).1) ((mY_walk ma bg en lb ki nm sz st sp (nw, th)).2)) → va_S A s.heap H locs → lv_has ls 4 [(0, .ref (q 0)), (1, .int (nI v)), (2, .int (nI (mY_startsAt (mY_walk ma bg en lb ki nm sz st sp (nw, th)).1 v i))), (3, .int (nI i))] → W p l e rmX1_startsAt s m [.ref (q 0), .int (nI v)].toArray below meth c H locs 0 0 (MQ below (wq_QI D vwCl (tY d) A (nI (mY_startsAt (mY_walk ma bg en lb ki nm sz st sp (nw, th)).1 v 8)) (wY q d sz sp st ma bg en lb ki nm ((mY_walk ma bg en lb ki nm sz st sp (nw, th)).1) ((mY_walk ma bg en lb ki nm sz st sp (nw, th)).2))) [.ref (q 0), .int (nI v)].toArray s 0 0 A) (F0 m 12 ls []) := by
    intro n
    induction n with
    | zero =>
      intro i hi H locs ls hP hD hS hl
      have ei : 8 = i := by omega
      subst ei
      refine lv_iload_n F.1 F.2.1 dX1_startsAt_12 rfl (lv_at hl 3 rfl) ?_
      refine wq_bipush F 8 dX1_startsAt_13 (by decide) ?_
      refine wq_icmp_ge (tgt := 56) F (by omega) (by omega) dX1_startsAt_15 (by decide) (fun c15 => ?_) (fun c15 => False.elim (by omega))
      refine lv_iload_n F.1 F.2.1 dX1_startsAt_56 rfl (lv_at hl 2 rfl) ?_
      exact wq_iret F hr hlk (rfl) hK hP hD hS dX1_startsAt_57
    | succ n ihlp1 =>
      intro i hi H locs ls hP hD hS hl
      refine lv_iload_n F.1 F.2.1 dX1_startsAt_12 rfl (lv_at hl 3 rfl) ?_
      refine wq_bipush F 8 dX1_startsAt_13 (by decide) ?_
      refine wq_icmp_ge (tgt := 56) F (by omega) (by omega) dX1_startsAt_15 (by decide) (fun c15 => False.elim (by omega)) (fun c15 => ?_)
      refine lv_aload_n F.1 F.2.1 dX1_startsAt_18 rfl (lv_at hl 0 rfl) ?_
      refine lv_iload_n F.1 F.2.1 dX1_startsAt_19 rfl (lv_at hl 1 rfl) ?_
      refine wq_callIv F (rest := []) (ci := 1) rfl rfl (cY_vertex l D q d sz sp st ma bg en lb ki nm ((mY_walk ma bg en lb ki nm sz st sp (nw, th)).1) ((mY_walk ma bg en lb ki nm sz st sp (nw, th)).2) ((nI v))) (cwV 1 F.2.2.2.2 (lw_V q216 q218 qs10 q19 q219) rfl rfl rfl (by decide +kernel) ⟨Nat.le_of_ble_eq_true rfl, Nat.le_of_ble_eq_true rfl⟩) rfl hK hP hD hS hA hl.1 rfl (Nat.le_of_ble_eq_true rfl) dX1_startsAt_20 ⟨Nat.zero_le _, Nat.zero_le _⟩ (fun H locs hP hD hS => ?_)
      have he1 := wq_isV_n hv
      refine wq_if_eq (tgt := 56) F (wq_isV_lt _) dX1_startsAt_23 (by decide) (fun c23 => False.elim (by omega)) (fun c23 => ?_)
      have hn1 := hB (nw, th) sp (Nat.le_refl _) (8 * i + v) (by omega)
      have K49 : ∀ (x0 : Nat), x0 = (if (mY_walk ma bg en lb ki nm sz st sp (nw, th)).1 (8 * i + v) = 0 then mY_startsAt (mY_walk ma bg en lb ki nm sz st sp (nw, th)).1 v i else mY_startsAt (mY_walk ma bg en lb ki nm sz st sp (nw, th)).1 v i ||| 2 ^ i) → ∀ (H : Heap) (locs : List Loc) (ls : Array Slot), va_P D vwCl (wY q d sz sp st ma bg en lb ki nm ((mY_walk ma bg en lb ki nm sz st sp (nw, th)).1) ((mY_walk ma bg en lb ki nm sz st sp (nw, th)).2)) H → va_D A (wY q d sz sp st ma bg en lb ki nm ((mY_walk ma bg en lb ki nm sz st sp (nw, th)).1) ((mY_walk ma bg en lb ki nm sz st sp (nw, th)).2)) → va_S A s.heap H locs → lv_has ls 4 [(0, .ref (q 0)), (1, .int (nI v)), (2, .int (nI (mY_startsAt (mY_walk ma bg en lb ki nm sz st sp (nw, th)).1 v i))), (3, .int (nI i))] → W p l e rmX1_startsAt s m [.ref (q 0), .int (nI v)].toArray below meth c H locs 0 0 (MQ below (wq_QI D vwCl (tY d) A (nI (mY_startsAt (mY_walk ma bg en lb ki nm sz st sp (nw, th)).1 v 8)) (wY q d sz sp st ma bg en lb ki nm ((mY_walk ma bg en lb ki nm sz st sp (nw, th)).1) ((mY_walk ma bg en lb ki nm sz st sp (nw, th)).2))) [.ref (q 0), .int (nI v)].toArray s 0 0 A) (F0 m 49 ls [.int (nI x0)]) := by
        intro x0 ex0 H locs ls hP hD hS hl
        subst ex0
        refine lv_istore_n (lv' := [(2, .int (nI (if (mY_walk ma bg en lb ki nm sz st sp (nw, th)).1 (8 * i + v) = 0 then mY_startsAt (mY_walk ma bg en lb ki nm sz st sp (nw, th)).1 v i else mY_startsAt (mY_walk ma bg en lb ki nm sz st sp (nw, th)).1 v i ||| 2 ^ i))), (0, .ref (q 0)), (1, .int (nI v)), (3, .int (nI i))]) F.1 F.2.1 dX1_startsAt_49 rfl hl (by decide) rfl (fun ls hl => ?_)
        refine lv_iinc (v := nI (i + 1)) (lv' := [(3, .int (nI (i + 1))), (2, .int (nI (if (mY_walk ma bg en lb ki nm sz st sp (nw, th)).1 (8 * i + v) = 0 then mY_startsAt (mY_walk ma bg en lb ki nm sz st sp (nw, th)).1 v i else mY_startsAt (mY_walk ma bg en lb ki nm sz st sp (nw, th)).1 v i ||| 2 ^ i))), (0, .ref (q 0)), (1, .int (nI v))]) F.1 F.2.1 dX1_startsAt_50 hl (k := 3) rfl (wq_inc1 _) (by decide) rfl (fun ls hl => ?_)
        refine lv_goto (tgt := 12) F.1 F.2.1 dX1_startsAt_53 (by decide) ?_
        exact ihlp1 (i + 1) (by omega) _ _ _ hP hD hS (lv_sub hl [2, 3, 1, 0] rfl)
      refine lv_aload_n F.1 F.2.1 dX1_startsAt_26 rfl (lv_at hl 0 rfl) ?_
      refine gX1 F hK hP rfl 9 (by decide) q187 rfl (v := .ref (q 7)) rfl dX1_startsAt_27 ?_
      refine wq_bipush F 8 dX1_startsAt_30 (by decide) ?_
      refine lv_iload_n F.1 F.2.1 dX1_startsAt_32 rfl (lv_at hl 3 rfl) ?_
      refine wq_imul F dX1_startsAt_33 ?_
      refine lv_iload_n F.1 F.2.1 dX1_startsAt_34 rfl (lv_at hl 1 rfl) ?_
      refine wq_iadd F dX1_startsAt_35 ?_
      refine wq_iald F hK hP 7 6 rfl rfl (by omega) (by decide) dX1_startsAt_36 ?_
      refine wq_if_le (tgt := 48) F (by omega) dX1_startsAt_37 (by decide) (fun c37 => ?_) (fun c37 => ?_)
      · refine lv_iload_n F.1 F.2.1 dX1_startsAt_48 rfl (lv_at hl 2 rfl) ?_
        exact K49 (mY_startsAt (mY_walk ma bg en lb ki nm sz st sp (nw, th)).1 v i) ((if_pos c37).symm) _ _ _ hP hD hS (lv_sub hl [0, 1, 2, 3] rfl)
      · refine lv_iload_n F.1 F.2.1 dX1_startsAt_40 rfl (lv_at hl 2 rfl) ?_
        refine wq_iconst F 1 dX1_startsAt_41 (by decide) ?_
        refine lv_iload_n F.1 F.2.1 dX1_startsAt_42 rfl (lv_at hl 3 rfl) ?_
        refine wq_ishl1 F (by omega) dX1_startsAt_43 ?_
        refine wq_ior F dX1_startsAt_44 ?_
        refine lv_goto (tgt := 49) F.1 F.2.1 dX1_startsAt_45 (by decide) ?_
        exact K49 ((mY_startsAt (mY_walk ma bg en lb ki nm sz st sp (nw, th)).1 v i) ||| (2 ^ i)) ((if_neg (Nat.ne_of_gt c37)).symm) _ _ _ hP hD hS (lv_sub hl [0, 1, 2, 3] rfl)
  exact lp1 8 0 (by omega) _ _ _ hP hD hS (lv_sub hl [2, 3, 1, 0] rfl)

set_option maxHeartbeats 4000000 in
set_option maxRecDepth 100000 in
/-- diesAfter() -/
theorem cY_diesAfter (l : Launch) (D : va_G) (q : Nat → Nat) (d : Nat → ClassId) (sz sp st : Nat) (ma bg en lb ki : Nat → Nat) (nm : Nat → Int32) (nw th : Nat → Nat) (ok : okY sz sp st ma bg en lb ki nm) : CtI l D vwCl (tY d) yX1_diesAfter cX1_diesAfter 2 .int rmX1_diesAfter [.ref (q 0)] (wY q d sz sp st ma bg en lb ki nm nw th) ((mY_dies ma bg en lb ki nm sz st (sp + 1) 0 (nw, th)).1) (wY q d sz sp st ma bg en lb ki nm ((mY_dies ma bg en lb ki nm sz st (sp + 1) 0 (nw, th)).2.1) ((mY_dies ma bg en lb ki nm sz st (sp + 1) 0 (nw, th)).2.2)) := by
  refine CtI.of RX1 rfl (by decide +kernel) (Nat.le_of_ble_eq_true rfl) ?_
  intro p e s m below meth c A ls F hr hlk hK hA hP hD hS hl
  have hl : lv_has ls 2 [(0, .ref (q 0))] := hl
  obtain ⟨hsz, hsp, hst, hma, hbg, hen, hlb, hki, hB, hT⟩ := id ok
  refine wq_iconst F 0 dX1_diesAfter_0 (by decide) ?_
  refine lv_istore_n (lv' := [(1, .int (nI 0)), (0, .ref (q 0))]) F.1 F.2.1 dX1_diesAfter_1 rfl hl (by decide) rfl (fun ls hl => ?_)
  have lp1 : ∀ (n i : Nat) (x : (Nat → Nat) × (Nat → Nat)), i + n = sp + 1 → mY_dies ma bg en lb ki nm sz st n i x = mY_dies ma bg en lb ki nm sz st (sp + 1) 0 (nw, th) → ∀ (H : Heap) (locs : List Loc) (ls : Array Slot), va_P D vwCl (wY q d sz sp st ma bg en lb ki nm x.1 x.2) H → va_D A (wY q d sz sp st ma bg en lb ki nm x.1 x.2) → va_S A s.heap H locs → lv_has ls 2 [(0, .ref (q 0)), (1, .int (nI i))] → W p l e rmX1_diesAfter s m [.ref (q 0)].toArray below meth c H locs 0 0 (MQ below (wq_QI D vwCl (tY d) A ((mY_dies ma bg en lb ki nm sz st (sp + 1) 0 (nw, th)).1) (wY q d sz sp st ma bg en lb ki nm ((mY_dies ma bg en lb ki nm sz st (sp + 1) 0 (nw, th)).2.1) ((mY_dies ma bg en lb ki nm sz st (sp + 1) 0 (nw, th)).2.2))) [.ref (q 0)].toArray s 0 0 A) (F0 m 2 ls []) := by
    intro n
    induction n with
    | zero =>
      intro i x hi hx H locs ls hP hD hS hl
      have ei : sp + 1 = i := by omega
      subst ei
      refine lv_iload_n F.1 F.2.1 dX1_diesAfter_2 rfl (lv_at hl 1 rfl) ?_
      refine lv_aload_n F.1 F.2.1 dX1_diesAfter_3 rfl (lv_at hl 0 rfl) ?_
      refine gX1 F hK hP rfl 5 (by decide) q183 rfl (v := .int (nI sp)) rfl dX1_diesAfter_4 ?_
      refine wq_icmp_gt (tgt := 26) F (by omega) (by omega) dX1_diesAfter_7 (by decide) (fun c7 => ?_) (fun c7 => False.elim (by omega))
      have hx : ((-1 : Int32), x) = mY_dies ma bg en lb ki nm sz st (sp + 1) 0 (nw, th) := hx
      refine lv_iconst (v := -1) F.1 F.2.1 dX1_diesAfter_26 (by decide) ?_
      exact wq_iret F hr hlk (by rw [← hx]) hK (by rw [← hx]; exact hP) (by rw [← hx]; exact hD) hS dX1_diesAfter_27
    | succ n ihlp1 =>
      intro i x hi hx H locs ls hP hD hS hl
      refine lv_iload_n F.1 F.2.1 dX1_diesAfter_2 rfl (lv_at hl 1 rfl) ?_
      refine lv_aload_n F.1 F.2.1 dX1_diesAfter_3 rfl (lv_at hl 0 rfl) ?_
      refine gX1 F hK hP rfl 5 (by decide) q183 rfl (v := .int (nI sp)) rfl dX1_diesAfter_4 ?_
      refine wq_icmp_gt (tgt := 26) F (by omega) (by omega) dX1_diesAfter_7 (by decide) (fun c7 => False.elim (by omega)) (fun c7 => ?_)
      refine lv_aload_n F.1 F.2.1 dX1_diesAfter_10 rfl (lv_at hl 0 rfl) ?_
      refine lv_iload_n F.1 F.2.1 dX1_diesAfter_11 rfl (lv_at hl 1 rfl) ?_
      refine wq_callIv F (rest := []) (ci := 1) rfl rfl (cY_after_ok l D q d sz sp st ma bg en lb ki nm x.1 x.2 i ok (by omega)) (cwV 1 F.2.2.2.2 (lw_V q272 q273 q274 q19 q275) rfl rfl rfl (by decide +kernel) ⟨Nat.le_of_ble_eq_true rfl, Nat.le_of_ble_eq_true rfl⟩) rfl hK hP hD hS hA hl.1 rfl (Nat.le_of_ble_eq_true rfl) dX1_diesAfter_12 ⟨Nat.zero_le _, Nat.zero_le _⟩ (fun H locs hP hD hS => ?_)
      refine wq_if_ne (tgt := 20) F (hT (x.1, x.2) i (by omega)) dX1_diesAfter_15 (by decide) (fun c15 => ?_) (fun c15 => ?_)
      · have c15 : ¬ mY_total (mY_walk ma bg en lb ki nm sz st i x).1 = 0 := c15
        refine lv_iinc (v := nI (i + 1)) (lv' := [(1, .int (nI (i + 1))), (0, .ref (q 0))]) F.1 F.2.1 dX1_diesAfter_20 hl (k := 1) rfl (wq_inc1 _) (by decide) rfl (fun ls hl => ?_)
        refine lv_goto (tgt := 2) F.1 F.2.1 dX1_diesAfter_23 (by decide) ?_
        exact ihlp1 (i + 1) (mY_walk ma bg en lb ki nm sz st i x) (by omega) (by rw [← hx, mY_dies, if_neg c15]) _ _ _ hP hD hS (lv_sub hl [1, 0] rfl)
      · have c15 : mY_total (mY_walk ma bg en lb ki nm sz st i x).1 = 0 := c15
        have hx : (nI i, (mY_walk ma bg en lb ki nm sz st i x)) = mY_dies ma bg en lb ki nm sz st (sp + 1) 0 (nw, th) := by rw [← hx, mY_dies, if_pos c15]
        refine lv_iload_n F.1 F.2.1 dX1_diesAfter_18 rfl (lv_at hl 1 rfl) ?_
        exact wq_iret F hr hlk (by rw [← hx]) hK (by rw [← hx]; exact hP) (by rw [← hx]; exact hD) hS dX1_diesAfter_19
  exact lp1 (sp + 1) 0 (nw, th) (by omega) rfl _ _ _ hP hD hS (lv_sub hl [1, 0] rfl)
end
section
/-! the plain law, first part: sums, iterations, the closed forms of the mirrors -/
set_option maxRecDepth 100000
def sm (n : Nat) (f : Nat → Nat) : Nat := wq_it (fun i a => a + f i) n 0
theorem sm_0 (f : Nat → Nat) : sm 0 f = 0 := rfl
theorem sm_s (n : Nat) (f : Nat → Nat) : sm (n + 1) f = sm n f + f n := rfl
theorem sm_congr {f g : Nat → Nat} : ∀ {n : Nat}, (∀ i, i < n → f i = g i) → sm n f = sm n g
  | 0, _ => rfl
  | n + 1, h => by rw [sm_s, sm_s, sm_congr (fun i hi => h i (by omega)), h n (by omega)]
theorem sm_add (f g : Nat → Nat) : ∀ n, sm n (fun i => f i + g i) = sm n f + sm n g
  | 0 => rfl
  | n + 1 => by rw [sm_s, sm_s, sm_s, sm_add f g n]; omega
theorem sm_mul (c : Nat) (f : Nat → Nat) : ∀ n, sm n (fun i => c * f i) = c * sm n f
  | 0 => rfl
  | n + 1 => by rw [sm_s, sm_s, sm_mul c f n, Nat.mul_add]
theorem sm_mulr (c : Nat) (f : Nat → Nat) : ∀ n, sm n (fun i => f i * c) = sm n f * c
  | 0 => (Nat.zero_mul c).symm
  | n + 1 => by rw [sm_s, sm_s, sm_mulr c f n, Nat.add_mul]
theorem sm_zero {f : Nat → Nat} : ∀ {n : Nat}, (∀ i, i < n → f i = 0) → sm n f = 0
  | 0, _ => rfl
  | n + 1, h => by rw [sm_s, sm_zero (fun i hi => h i (by omega)), h n (by omega)]
theorem sm_of_zero {f : Nat → Nat} : ∀ {n : Nat}, sm n f = 0 → ∀ i, i < n → f i = 0
  | 0, _, i, hi => by omega
  | n + 1, h, i, hi => by
    rw [sm_s] at h
    by_cases e : i = n
    · subst e; omega
    · exact sm_of_zero (n := n) (by omega) i (by omega)
theorem sm_swap (f : Nat → Nat → Nat) (m : Nat) : ∀ n, sm n (fun i => sm m (fun j => f i j)) = sm m (fun j => sm n (fun i => f i j))
  | 0 => (sm_zero (fun _ _ => rfl)).symm
  | n + 1 => by
    rw [sm_s, sm_swap f m n, ← sm_add]
    rfl
theorem sm_one {f : Nat → Nat} : ∀ {n k : Nat}, k < n → (∀ i, i < n → ¬ i = k → f i = 0) → sm n f = f k
  | 0, k, hk, _ => by omega
  | n + 1, k, hk, h => by
    rw [sm_s]
    by_cases e : k = n
    · subst e
      rw [sm_zero (fun i hi => h i (by omega) (by omega)), Nat.zero_add]
    · rw [sm_one (n := n) (k := k) (by omega) (fun i hi hn => h i (by omega) hn), h n (by omega) (by omega), Nat.add_zero]
theorem sm_le {f g : Nat → Nat} : ∀ {n : Nat}, (∀ i, i < n → f i ≤ g i) → sm n f ≤ sm n g
  | 0, _ => Nat.le_refl _
  | n + 1, h => by
    rw [sm_s, sm_s]
    exact Nat.add_le_add (sm_le (fun i hi => h i (by omega))) (h n (by omega))
theorem sm_term {f : Nat → Nat} : ∀ {n k : Nat}, k < n → f k ≤ sm n f
  | 0, k, hk => by omega
  | n + 1, k, hk => by
    rw [sm_s]
    by_cases e : k = n
    · subst e; omega
    · exact Nat.le_trans (sm_term (n := n) (by omega)) (Nat.le_add_right _ _)
theorem sm_plus (f : Nat → Nat) (n : Nat) : ∀ m, sm (n + m) f = sm n f + sm m (fun s => f (n + s))
  | 0 => rfl
  | m + 1 => by
    rw [← Nat.add_assoc, sm_s, sm_s, sm_plus f n m]
    omega
theorem sm_flat (m : Nat) (f : Nat → Nat) : ∀ n, sm (n * m) f = sm n (fun v => sm m (fun s => f (v * m + s)))
  | 0 => by rw [Nat.zero_mul]; rfl
  | n + 1 => by rw [Nat.succ_mul, sm_plus, sm_flat m f n, sm_s]
theorem sm_64 (f : Nat → Nat) : sm 64 f = sm 8 (fun v => sm 8 (fun s => f (v * 8 + s))) := sm_flat 8 f 8
theorem sm_128 (f : Nat → Nat) : sm 128 f = sm 2 (fun l => sm 64 (fun r => f (l * 64 + r))) := sm_flat 64 f 2
/-- a sum changed at one place -/
theorem sm_put {f g : Nat → Nat} {d : Nat} : ∀ {n k : Nat}, k < n → (∀ i, i < n → ¬ i = k → g i = f i) → g k = f k + d → sm n g = sm n f + d
  | 0, k, hk, _, _ => by omega
  | n + 1, k, hk, h, hd => by
    rw [sm_s, sm_s]
    by_cases e : k = n
    · subst e
      rw [sm_congr (fun i hi => h i (by omega) (by omega)), hd, Nat.add_assoc]
    · rw [sm_put (n := n) (k := k) (by omega) (fun i hi hn => h i (by omega) hn) hd, h n (by omega) (by omega)]
      omega
/-- the k-th left out, the last one in its place -/
theorem sm_cut {f g : Nat → Nat} {n k : Nat} (hk : k < n + 1) (h : ∀ i, i < n → g i = if i = k then f n else f i) : sm n g + f k = sm (n + 1) f := by
  rw [sm_s]
  by_cases e : k = n
  · subst e
    rw [sm_congr (g := f) (fun i hi => by rw [h i hi, if_neg (by omega)])]
  · have h1 : sm n (fun i => if i = k then f n else f i) + f k = sm n f + f n := by
      have a1 := sm_put (f := fun i => if i = k then 0 else f i) (g := f) (d := f k) (n := n) (k := k) (by omega) (fun i _ hi => (if_neg hi).symm) (by simp)
      have a2 := sm_put (f := fun i => if i = k then 0 else f i) (g := fun i => if i = k then f n else f i) (d := f n) (n := n) (k := k) (by omega) (fun i _ hi => by simp [hi]) (by simp)
      omega
    rw [sm_congr h, h1]
theorem it_acc {F : Nat → (Nat → Nat) → Nat → Nat} {g : Nat → Nat → Nat} (j : Nat) (h0 : Nat → Nat) : ∀ {n : Nat}, (∀ i x, i < n → F i x j = x j + g i j) → wq_it F n h0 j = h0 j + sm n (fun i => g i j)
  | 0, _ => rfl
  | n + 1, h => by
    show F n (wq_it F n h0) j = _
    rw [h n _ (by omega), it_acc j h0 (fun i x hi => h i x (by omega)), sm_s, Nat.add_assoc]
theorem it_up (f : Nat → Nat) (h0 : Nat → Nat) (j : Nat) : ∀ n, wq_it (fun i h => wq_up h i (f i)) n h0 j = if j < n then f j else h0 j
  | 0 => rfl
  | n + 1 => by
    show wq_up (wq_it (fun i h => wq_up h i (f i)) n h0) n (f n) j = _
    unfold wq_up
    by_cases e : j = n
    · subst e
      rw [if_pos rfl, if_pos (by omega)]
    · rw [if_neg e]
      have := it_up f h0 j n
      unfold wq_up at this
      rw [this]
      by_cases h : j < n
      · rw [if_pos h, if_pos (by omega)]
      · rw [if_neg h, if_neg (by omega)]
/-! abstract counts -/
def aB (st s v : Nat) : Nat := if s = v ∧ ¬ st / 2 ^ s % 2 = 0 then 1 else 0
def aN (ou iw : Nat → Nat) (kind u v l : Nat) : Nat := (if kind = 1 then 0 else ou (l * 8 + u) / 2 ^ v % 2) + (if kind = 1 ∨ kind = 2 then iw (l * 8 + u) / 2 ^ v % 2 else 0)
def aM (ou iw : Nat → Nat) (kind x u v : Nat) : Nat := sm 2 (fun l => if x = 2 ∨ x = l then aN ou iw kind u v l else 0) + (if (kind = 3 ∧ mX_moves ou u x = 0) ∧ u = v then 1 else 0)
def aS (nu ou iw : Nat → Nat) (kind x : Nat) (a : Nat → Nat → Nat) (s v : Nat) : Nat :=
  if kind ≤ 3 then sm 8 (fun u => aM ou iw kind x u v * a s u)
  else if kind = 7 then (if 0 < a s v ∧ sm s (fun r => a r v) = 0 then 1 else 0)
  else if kind = 4 then (if x ≤ nu v then a s v else 0)
  else if kind = 5 then (if s = v then 0 else a s v)
  else (if s = v then a s v else 0)
def aK (nu ou iw ki la : Nat → Nat) (st : Nat) : Nat → Nat → Nat → Nat
  | 0, s, v => aB st s v
  | k + 1, s, v => aS nu ou iw (ki k) (la k) (aK nu ou iw ki la st k) s v
def aT (nu ou iw ki la : Nat → Nat) (st k : Nat) : Nat := sm 8 (fun s => sm 8 (fun v => aK nu ou iw ki la st k s v))
theorem aS_congr {nu ou iw : Nat → Nat} {kind x s v : Nat} {a b : Nat → Nat → Nat} (hs : s < 8) (hv : v < 8) (h : ∀ s v, s < 8 → v < 8 → a s v = b s v) : aS nu ou iw kind x a s v = aS nu ou iw kind x b s v := by
  unfold aS
  rw [sm_congr (f := fun u => aM ou iw kind x u v * a s u) (g := fun u => aM ou iw kind x u v * b s u) (fun u hu => by rw [h s u hs hu]), sm_congr (f := fun r => a r v) (g := fun r => b r v) (fun r hr => h r v (by omega) hv), h s v hs hv]
/-! WalkerPlan's mirrors in closed form -/
theorem mX_carry_at (be : Nat → Nat) (v w : Nat) (he : Nat → Nat) (j : Nat) : mX_carry be v w he j = he j + (if j / 8 = w then be (v * 8 + j % 8) else 0) := by
  unfold mX_carry
  rw [it_acc (g := fun s j => if j = w * 8 + s then be (v * 8 + s) else 0) j he]
  · congr 1
    by_cases h : j / 8 = w
    · rw [if_pos h, sm_one (k := j % 8) (by omega) (fun i hi hn => if_neg (by omega)), if_pos (by omega)]
    · rw [if_neg h]
      exact sm_zero (fun i hi => if_neg (by omega))
  · intro s x hs
    show wq_up x (w * 8 + s) (x (w * 8 + s) + be (v * 8 + s)) j = x j + if j = w * 8 + s then be (v * 8 + s) else 0
    unfold wq_up
    by_cases h : j = w * 8 + s
    · rw [if_pos h, if_pos h, h]
    · rw [if_neg h, if_neg h, Nat.add_zero]
theorem mX_c1_at (be : Nat → Nat) (v b w : Nat) (h : Nat → Nat) (j : Nat) : mX_c1 be v b w h j = h j + (if j / 8 = w then b / 2 ^ w % 2 * be (v * 8 + j % 8) else 0) := by
  unfold mX_c1
  by_cases c : b / 2 ^ w % 2 = 0
  · rw [if_pos c, c, Nat.zero_mul, ite_self, Nat.add_zero]
  · have c1 : b / 2 ^ w % 2 = 1 := by omega
    rw [if_neg c, c1, Nat.one_mul, mX_carry_at]
theorem mX_sp_at (be : Nat → Nat) (v fo ba : Nat) (he : Nat → Nat) {j : Nat} (hj : j < 64) : mX_sp be v fo ba he j = he j + (fo / 2 ^ (j / 8) % 2 + ba / 2 ^ (j / 8) % 2) * be (v * 8 + j % 8) := by
  unfold mX_sp
  rw [it_acc (g := fun w j => if j / 8 = w then (fo / 2 ^ (j / 8) % 2 + ba / 2 ^ (j / 8) % 2) * be (v * 8 + j % 8) else 0) j he]
  · rw [sm_one (k := j / 8) (by omega) (fun i hi hn => if_neg (by omega)), if_pos rfl]
  · intro w x hw
    show mX_c1 be v ba w (mX_c1 be v fo w x) j = _
    rw [mX_c1_at, mX_c1_at]
    by_cases h : j / 8 = w
    · rw [if_pos h, if_pos h, if_pos h, h, Nat.add_mul, Nat.add_assoc]
    · rw [if_neg h, if_neg h, if_neg h]
theorem mX_spread_at (ou iw be : Nat → Nat) (kind v l : Nat) (he : Nat → Nat) {j : Nat} (hj : j < 64) : mX_spread ou iw be kind v l he j = he j + aN ou iw kind v (j / 8) l * be (v * 8 + j % 8) := by
  unfold mX_spread
  rw [mX_sp_at be v _ _ he hj]
  have e1 : mX_fo ou kind v l / 2 ^ (j / 8) % 2 + mX_ba iw kind v l / 2 ^ (j / 8) % 2 = aN ou iw kind v (j / 8) l := by
    unfold mX_fo mX_ba aN
    split <;> split <;> simp
  rw [e1]
theorem mX_ml_at (ou iw be : Nat → Nat) (kind x v : Nat) (h : Nat → Nat) {j : Nat} (hj : j < 64) : mX_ml ou iw be kind x v h j = h j + sm 2 (fun l => if x = 2 ∨ x = l then aN ou iw kind v (j / 8) l else 0) * be (v * 8 + j % 8) := by
  unfold mX_ml
  rw [it_acc (g := fun l j => (if x = 2 ∨ x = l then aN ou iw kind v (j / 8) l else 0) * be (v * 8 + j % 8)) j h, sm_mulr]
  intro l y hl
  show (if x = 2 ∨ x = l then mX_spread ou iw be kind v l y else y) j = _
  by_cases c : x = 2 ∨ x = l
  · rw [if_pos c, if_pos c, mX_spread_at _ _ _ _ _ _ _ hj]
  · rw [if_neg c, if_neg c, Nat.zero_mul, Nat.add_zero]
theorem mX_mv_at (ou iw be : Nat → Nat) (kind x v : Nat) (h : Nat → Nat) {j : Nat} (hj : j < 64) : mX_mv ou iw be kind x v h j = h j + aM ou iw kind x v (j / 8) * be (v * 8 + j % 8) := by
  unfold mX_mv aM
  by_cases c : kind = 3 ∧ mX_moves ou v x = 0
  · rw [if_pos c, mX_carry_at, mX_ml_at _ _ _ _ _ _ _ hj]
    by_cases c2 : v = j / 8
    · rw [if_pos c2.symm, if_pos ⟨c, c2⟩, Nat.add_mul, Nat.one_mul, Nat.add_assoc]
    · rw [if_neg (fun q => c2 q.symm), if_neg (fun q => c2 q.2), Nat.add_zero, Nat.add_zero]
  · rw [if_neg c, if_neg (fun q => c q.1), mX_ml_at _ _ _ _ _ _ _ hj, Nat.add_zero]
theorem mX_cp_at (be he : Nat → Nat) (j : Nat) : ∀ n, (wq_it (fun i (x : (Nat → Nat) × (Nat → Nat)) => (wq_up x.1 i (x.2 i), wq_up x.2 i 0)) n (be, he)).1 j = (if j < n then he j else be j) ∧ (wq_it (fun i (x : (Nat → Nat) × (Nat → Nat)) => (wq_up x.1 i (x.2 i), wq_up x.2 i 0)) n (be, he)).2 j = (if j < n then 0 else he j)
  | 0 => ⟨rfl, rfl⟩
  | n + 1 => by
    obtain ⟨h1, h2⟩ := mX_cp_at be he j n
    obtain ⟨k1, k2⟩ := mX_cp_at be he n n
    generalize hX : wq_it (fun i (x : (Nat → Nat) × (Nat → Nat)) => (wq_up x.1 i (x.2 i), wq_up x.2 i 0)) n (be, he) = X at h1 h2 k1 k2
    have e : wq_it (fun i (x : (Nat → Nat) × (Nat → Nat)) => (wq_up x.1 i (x.2 i), wq_up x.2 i 0)) (n + 1) (be, he) = (wq_up X.1 n (X.2 n), wq_up X.2 n 0) := by
      show (wq_up (wq_it (fun i (x : (Nat → Nat) × (Nat → Nat)) => (wq_up x.1 i (x.2 i), wq_up x.2 i 0)) n (be, he)).1 n ((wq_it (fun i (x : (Nat → Nat) × (Nat → Nat)) => (wq_up x.1 i (x.2 i), wq_up x.2 i 0)) n (be, he)).2 n), _) = _
      rw [hX]
    rw [e]
    rw [if_neg (by omega)] at k2
    unfold wq_up
    by_cases c : j = n
    · subst c
      refine ⟨?_, ?_⟩
      · show (if j = j then X.2 j else X.1 j) = _
        rw [if_pos rfl, if_pos (by omega), k2]
      · show (if j = j then 0 else X.2 j) = _
        rw [if_pos rfl, if_pos (by omega)]
    · refine ⟨?_, ?_⟩
      · show (if j = n then X.2 n else X.1 j) = _
        rw [if_neg c, h1]
        by_cases h : j < n
        · rw [if_pos h, if_pos (by omega)]
        · rw [if_neg h, if_neg (by omega)]
      · show (if j = n then 0 else X.2 j) = _
        rw [if_neg c, h2]
        by_cases h : j < n
        · rw [if_pos h, if_pos (by omega)]
        · rw [if_neg h, if_neg (by omega)]
theorem mX_move_at (ou iw : Nat → Nat) (kind x : Nat) (he be : Nat → Nat) {j : Nat} (hj : j < 64) : (mX_move ou iw kind x he be).1 j = sm 8 (fun u => aM ou iw kind x u (j / 8) * he (u * 8 + j % 8)) := by
  show wq_it (fun v h => mX_mv ou iw (mX_cp (be, he)).1 kind x v h) 8 (mX_cp (be, he)).2 j = _
  rw [it_acc (g := fun u j => aM ou iw kind x u (j / 8) * (mX_cp (be, he)).1 (u * 8 + j % 8)) j]
  · rw [show (mX_cp (be, he)).2 j = 0 from ((mX_cp_at be he j 64).2).trans (if_pos hj), Nat.zero_add]
    exact sm_congr (fun u hu => by rw [show (mX_cp (be, he)).1 (u * 8 + j % 8) = he (u * 8 + j % 8) from ((mX_cp_at be he _ 64).1).trans (if_pos (by omega))])
  · intro u y hu
    exact mX_mv_at _ _ _ _ _ _ _ hj
theorem mX_filter_at (nu : Nat → Nat) (kind x : Nat) (he : Nat → Nat) (j : Nat) : ∀ n, wq_it (fun i h => if mX_stay nu kind x (i / 8) (i % 8) = 0 then wq_up h i 0 else h) n he j = if j < n ∧ mX_stay nu kind x (j / 8) (j % 8) = 0 then 0 else he j
  | 0 => by rw [if_neg (by omega)]; rfl
  | n + 1 => by
    have ih := mX_filter_at nu kind x he j n
    show (if mX_stay nu kind x (n / 8) (n % 8) = 0 then wq_up (wq_it (fun i h => if mX_stay nu kind x (i / 8) (i % 8) = 0 then wq_up h i 0 else h) n he) n 0 else wq_it (fun i h => if mX_stay nu kind x (i / 8) (i % 8) = 0 then wq_up h i 0 else h) n he) j = _
    generalize wq_it (fun i h => if mX_stay nu kind x (i / 8) (i % 8) = 0 then wq_up h i 0 else h) n he = y at ih
    by_cases c : mX_stay nu kind x (n / 8) (n % 8) = 0
    · rw [if_pos c]
      unfold wq_up
      by_cases e : j = n
      · subst e
        rw [if_pos rfl, if_pos ⟨by omega, c⟩]
      · rw [if_neg e, ih]
        by_cases h : j < n ∧ mX_stay nu kind x (j / 8) (j % 8) = 0
        · rw [if_pos h, if_pos ⟨by omega, h.2⟩]
        · rw [if_neg h, if_neg (fun q => h ⟨by omega, q.2⟩)]
    · rw [if_neg c, ih]
      by_cases e : j = n
      · subst e
        rw [if_neg (by omega), if_neg (fun q => c q.2)]
      · by_cases h : j < n ∧ mX_stay nu kind x (j / 8) (j % 8) = 0
        · rw [if_pos h, if_pos ⟨by omega, h.2⟩]
        · rw [if_neg h, if_neg (fun q => h ⟨by omega, q.2⟩)]
/-- the first start with walkers -/
def aF (h : Nat → Nat) (v s : Nat) : Nat := if 0 < h (v * 8 + s) ∧ sm s (fun r => h (v * 8 + r)) = 0 then 1 else 0
theorem mX_k1_at (v : Nat) (h : Nat → Nat) : ∀ n, (mX_k1 v n (0, h)).1 = (if sm n (fun r => h (v * 8 + r)) = 0 then 0 else 1) ∧ ∀ j, (mX_k1 v n (0, h)).2 j = if v * 8 ≤ j ∧ j < v * 8 + n then aF h v (j - v * 8) else h j
  | 0 => ⟨rfl, fun j => by rw [if_neg (by omega)]; rfl⟩
  | n + 1 => by
    obtain ⟨h1, h2⟩ := mX_k1_at v h n
    have e : mX_k1 v (n + 1) (0, h) = ((mX_k1 v n (0, h)).1 ||| mX_first (mX_k1 v n (0, h)).1 ((mX_k1 v n (0, h)).2 (v * 8 + n)), wq_up (mX_k1 v n (0, h)).2 (v * 8 + n) (mX_first (mX_k1 v n (0, h)).1 ((mX_k1 v n (0, h)).2 (v * 8 + n)))) := rfl
    have h3 : (mX_k1 v n (0, h)).2 (v * 8 + n) = h (v * 8 + n) := by rw [h2, if_neg (by omega)]
    have h4 : mX_first (mX_k1 v n (0, h)).1 ((mX_k1 v n (0, h)).2 (v * 8 + n)) = aF h v n := by
      rw [h3, h1]
      unfold mX_first aF
      by_cases c : sm n (fun r => h (v * 8 + r)) = 0
      · simp [c]
      · simp [c]
    rw [e, h4]
    refine ⟨?_, fun j => ?_⟩
    · show (mX_k1 v n (0, h)).1 ||| aF h v n = _
      rw [h1, sm_s]
      unfold aF
      by_cases c : sm n (fun r => h (v * 8 + r)) = 0
      · by_cases c2 : 0 < h (v * 8 + n)
        · rw [if_pos c, if_pos ⟨c2, c⟩, if_neg (by omega)]
          rfl
        · rw [if_pos c, if_neg (fun q => c2 q.1), if_pos (by omega)]
          rfl
      · rw [if_neg c, if_neg (fun q => c q.2), if_neg (by omega)]
        rfl
    · show wq_up (mX_k1 v n (0, h)).2 (v * 8 + n) (aF h v n) j = _
      unfold wq_up
      by_cases c : j = v * 8 + n
      · subst c
        rw [if_pos rfl, if_pos (by omega), Nat.add_sub_cancel_left]
      · rw [if_neg c, h2]
        by_cases q : v * 8 ≤ j ∧ j < v * 8 + n
        · rw [if_pos q, if_pos (by omega)]
        · rw [if_neg q, if_neg (by omega)]
theorem mX_keep_at (he : Nat → Nat) : ∀ n j, wq_it (fun v h => (mX_k1 v 8 (0, h)).2) n he j = if j < n * 8 then aF he (j / 8) (j % 8) else he j
  | 0, j => by rw [if_neg (by omega)]; rfl
  | n + 1, j => by
    have ih := mX_keep_at he n
    show (mX_k1 n 8 (0, wq_it (fun v h => (mX_k1 v 8 (0, h)).2) n he)).2 j = _
    generalize wq_it (fun v h => (mX_k1 v 8 (0, h)).2) n he = y at ih
    rw [(mX_k1_at n y 8).2 j]
    by_cases c : n * 8 ≤ j ∧ j < n * 8 + 8
    · have e1 : ∀ r, r < 8 → y (n * 8 + r) = he (n * 8 + r) := fun r hr => by rw [ih, if_neg (by omega)]
      rw [if_pos c, if_pos (by omega), show j / 8 = n by omega, show j % 8 = j - n * 8 by omega]
      unfold aF
      rw [e1 _ (by omega), sm_congr (fun r hr => e1 r (by omega))]
    · rw [if_neg c, ih]
      by_cases q : j < n * 8
      · rw [if_pos q, if_pos (by omega)]
      · rw [if_neg q, if_neg (by omega)]
end
section
/-! the plain law, second part: WalkerPlan's walk gives the counts; the edges -/
set_option maxRecDepth 100000
theorem mX_step_at {nu ou iw he be : Nat → Nat} {kind x : Nat} {a : Nat → Nat → Nat} (hk : kind ≤ 7) (h : ∀ s v, s < 8 → v < 8 → he (v * 8 + s) = a s v) {s v : Nat} (hs : s < 8) (hv : v < 8) : (mX_step nu ou iw kind x he be).1 (v * 8 + s) = aS nu ou iw kind x a s v := by
  unfold mX_step aS
  by_cases c3 : kind ≤ 3
  · rw [if_pos c3, if_pos c3, mX_move_at _ _ _ _ _ _ (by omega)]
    exact sm_congr (fun u hu => by rw [show (v * 8 + s) / 8 = v by omega, show (v * 8 + s) % 8 = s by omega, h s u hs hu])
  · rw [if_neg c3, if_neg c3]
    by_cases c7 : kind = 7
    · rw [if_pos c7, if_pos c7]
      show mX_keepOne he (v * 8 + s) = _
      unfold mX_keepOne
      rw [mX_keep_at, if_pos (by omega), show (v * 8 + s) / 8 = v by omega, show (v * 8 + s) % 8 = s by omega]
      unfold aF
      rw [h s v hs hv, sm_congr (fun r hr => h r v (by omega) hv)]
    · rw [if_neg c7, if_neg c7]
      show mX_filter nu kind x he (v * 8 + s) = _
      unfold mX_filter
      rw [mX_filter_at, show (v * 8 + s) / 8 = v by omega, show (v * 8 + s) % 8 = s by omega, h s v hs hv]
      unfold mX_stay
      by_cases c4 : kind = 4
      · rw [if_pos c4, if_pos c4]
        by_cases c : x ≤ nu v
        · rw [if_pos c, if_pos c, if_neg (by omega)]
        · rw [if_neg c, if_neg c, if_pos ⟨by omega, rfl⟩]
      · rw [if_neg c4, if_neg c4]
        have hj : v * 8 + s < 64 := by omega
        by_cases c5 : kind = 5
        · rw [if_pos c5, if_neg (show ¬ kind = 6 by omega)]
          by_cases c : s = v
          · subst c
            simp [hj]
          · have c' : ¬ v = s := fun q => c q.symm
            simp [c, c']
        · rw [if_neg c5, if_pos (show kind = 6 by omega)]
          by_cases c : s = v
          · subst c
            simp
          · have c' : ¬ v = s := fun q => c q.symm
            simp [c, c', hj]
theorem mX_wi_at {nu ou iw ki la : Nat → Nat} {st : Nat} {he be to : Nat → Nat} (hk : ∀ k, ki k ≤ 7) : ∀ (k s v : Nat), s < 8 → v < 8 → (mX_wi nu ou iw ki la st k he be to).1 (v * 8 + s) = aK nu ou iw ki la st k s v
  | 0, s, v, hs, hv => by
    show mX_init st he (v * 8 + s) = aB st s v
    unfold mX_init
    rw [it_up, if_pos (by omega)]
    unfold mX_b0 aB
    rw [show (v * 8 + s) / 8 = v by omega, show (v * 8 + s) % 8 = s by omega]
    by_cases c : s = v
    · rw [c]
    · rw [if_neg (fun q => c q.1.symm), if_neg (fun q => c q.1)]
  | k + 1, s, v, hs, hv => by
    show (mX_step nu ou iw (ki k) (la k) (mX_wi nu ou iw ki la st k he be to).1 (mX_wi nu ou iw ki la st k he be to).2.1).1 (v * 8 + s) = aS nu ou iw (ki k) (la k) (aK nu ou iw ki la st k) s v
    exact mX_step_at (hk k) (fun s v hs hv => mX_wi_at hk k s v hs hv) hs hv
theorem mX_wi_to {nu ou iw ki la : Nat → Nat} {st : Nat} {he be to : Nat → Nat} : ∀ (n k : Nat), k ≤ n → (mX_wi nu ou iw ki la st n he be to).2.2 k = mX_total (mX_wi nu ou iw ki la st k he be to).1
  | 0, k, h => by
    have : k = 0 := by omega
    subst this
    show wq_up to 0 (mX_total (mX_init st he)) 0 = _
    unfold wq_up
    rw [if_pos rfl]
    rfl
  | n + 1, k, h => by
    show wq_up (mX_wi nu ou iw ki la st n he be to).2.2 (n + 1) (mX_total (mX_wi nu ou iw ki la st (n + 1) he be to).1) k = _
    unfold wq_up
    by_cases c : k = n + 1
    · rw [if_pos c, c]
    · rw [if_neg c]
      exact mX_wi_to n k (by omega)
theorem mX_total_at {he : Nat → Nat} {a : Nat → Nat → Nat} (h : ∀ s v, s < 8 → v < 8 → he (v * 8 + s) = a s v) : mX_total he = sm 8 (fun s => sm 8 (fun v => a s v)) := by
  show sm 64 he = _
  rw [sm_64, sm_swap]
  exact sm_congr (fun s hs => sm_congr (fun v hv => h s v hs hv))
/-! bits -/
theorem bt_xor (x c b : Nat) : (x ^^^ 2 ^ c) / 2 ^ b % 2 = if b = c then 1 - x / 2 ^ b % 2 else x / 2 ^ b % 2 := by
  rw [← Nat.toNat_testBit, ← Nat.toNat_testBit, Nat.testBit_xor, Nat.testBit_two_pow]
  by_cases h : b = c
  · subst h
    rw [if_pos rfl]
    cases x.testBit b <;> simp
  · rw [if_neg h]
    have : ¬ c = b := fun q => h q.symm
    simp [this]
theorem bt_zero {x : Nat} (hx : x < 256) (h : ∀ b, b < 8 → x / 2 ^ b % 2 = 0) : x = 0 := by
  have h0 := h 0 (by decide)
  have h1 := h 1 (by decide)
  have h2 := h 2 (by decide)
  have h3 := h 3 (by decide)
  have h4 := h 4 (by decide)
  have h5 := h 5 (by decide)
  have h6 := h 6 (by decide)
  have h7 := h 7 (by decide)
  omega
/-! edges: the list of the reference against the bits of the class -/
def EdS (ec : Nat) (bg en lb ou : Nat → Nat) : Prop := ∀ f : Nat → Nat → Nat → Nat, sm ec (fun i => f (bg i) (en i) (lb i)) = sm 128 (fun t => ou (t / 8) / 2 ^ (t % 8) % 2 * f (t / 8 % 8) (t % 8) (t / 64))
def Ed (ec : Nat) (bg en lb ou iw : Nat → Nat) : Prop := EdS ec bg en lb ou ∧ (∀ l a b, l < 2 → a < 8 → b < 8 → iw (l * 8 + b) / 2 ^ a % 2 = ou (l * 8 + a) / 2 ^ b % 2) ∧ (∀ i, i < ec → ¬ bg i = en i) ∧ ec ≤ 10 ∧ (∀ k, bg k < 8) ∧ (∀ k, en k < 8) ∧ (∀ k, lb k < 2) ∧ (∀ k, ou k < 256) ∧ (∀ k, iw k < 256)
theorem EdS.three {ec : Nat} {bg en lb ou : Nat → Nat} (h : EdS ec bg en lb ou) (f : Nat → Nat → Nat → Nat) : sm ec (fun i => f (bg i) (en i) (lb i)) = sm 2 (fun l => sm 8 (fun a => sm 8 (fun b => ou (l * 8 + a) / 2 ^ b % 2 * f a b l))) := by
  rw [h f, sm_128]
  refine sm_congr (fun l hl => ?_)
  rw [sm_64]
  refine sm_congr (fun a ha => sm_congr (fun b hb => ?_))
  rw [show (l * 64 + (a * 8 + b)) / 8 = l * 8 + a by omega, show (l * 64 + (a * 8 + b)) % 8 = b by omega, show (l * 64 + (a * 8 + b)) / 64 = l by omega, show (l * 8 + a) % 8 = a by omega]
/-- how many edges go from v to w with a label that fits -/
theorem EdS.from {ec : Nat} {bg en lb ou : Nat → Nat} (h : EdS ec bg en lb ou) {P : Nat → Prop} [DecidablePred P] {v w : Nat} (hv : v < 8) (hw : w < 8) : sm ec (fun i => if P (lb i) ∧ bg i = v ∧ en i = w then 1 else 0) = sm 2 (fun l => if P l then ou (l * 8 + v) / 2 ^ w % 2 else 0) := by
  rw [h.three (fun a b l => if P l ∧ a = v ∧ b = w then 1 else 0)]
  refine sm_congr (fun l hl => ?_)
  rw [sm_one (k := v) hv, sm_one (k := w) hw]
  · by_cases c : P l
    · rw [if_pos ⟨c, rfl, rfl⟩, if_pos c, Nat.mul_one]
    · rw [if_neg (fun q => c q.1), if_neg c, Nat.mul_zero]
  · intro b hb hn
    rw [if_neg (fun q => hn q.2.2), Nat.mul_zero]
  · intro a ha hn
    exact sm_zero (fun b hb => by rw [if_neg (fun q => hn q.2.1), Nat.mul_zero])
theorem EdS.to {ec : Nat} {bg en lb ou : Nat → Nat} (h : EdS ec bg en lb ou) {P : Nat → Prop} [DecidablePred P] {v w : Nat} (hv : v < 8) (hw : w < 8) : sm ec (fun i => if P (lb i) ∧ en i = v ∧ bg i = w then 1 else 0) = sm 2 (fun l => if P l then ou (l * 8 + w) / 2 ^ v % 2 else 0) := by
  rw [← h.from (P := P) hw hv]
  refine sm_congr (fun i hi => ?_)
  by_cases c : P (lb i) ∧ en i = v ∧ bg i = w
  · rw [if_pos c, if_pos ⟨c.1, c.2.2, c.2.1⟩]
  · rw [if_neg c, if_neg (fun q => c ⟨q.1, q.2.2, q.2.1⟩)]
/-- how many edges begin at v with a label that fits -/
theorem EdS.out {ec : Nat} {bg en lb ou : Nat → Nat} (h : EdS ec bg en lb ou) {P : Nat → Prop} [DecidablePred P] {v : Nat} (hv : v < 8) : sm ec (fun i => if P (lb i) ∧ bg i = v then 1 else 0) = sm 2 (fun l => if P l then sm 8 (fun b => ou (l * 8 + v) / 2 ^ b % 2) else 0) := by
  rw [h.three (fun a b l => if P l ∧ a = v then 1 else 0)]
  refine sm_congr (fun l hl => ?_)
  rw [sm_one (k := v) hv]
  · by_cases c : P l
    · rw [if_pos c]
      exact sm_congr (fun b hb => by rw [if_pos ⟨c, rfl⟩, Nat.mul_one])
    · rw [if_neg c]
      exact sm_zero (fun b hb => by rw [if_neg (fun q => c q.1), Nat.mul_zero])
  · intro a ha hn
    exact sm_zero (fun b hb => by rw [if_neg (fun q => hn q.2), Nat.mul_zero])
theorem EdS.into {ec : Nat} {bg en lb ou : Nat → Nat} (h : EdS ec bg en lb ou) {v : Nat} (hv : v < 8) : sm ec (fun i => if en i = v then 1 else 0) = sm 2 (fun l => sm 8 (fun a => ou (l * 8 + a) / 2 ^ v % 2)) := by
  rw [h.three (fun a b l => if b = v then 1 else 0)]
  refine sm_congr (fun l hl => sm_congr (fun a ha => ?_))
  rw [sm_one (k := v) hv]
  · rw [if_pos rfl, Nat.mul_one]
  · intro b hb hn
    rw [if_neg hn, Nat.mul_zero]
theorem sm_ones {P : Nat → Prop} [DecidablePred P] : ∀ n, sm n (fun i => if P i then 1 else 0) ≤ n
  | 0 => Nat.le_refl _
  | n + 1 => by
    rw [sm_s]
    have := sm_ones (P := P) n
    split <;> omega
/-- an edge comes -/
theorem Ed.join {ec : Nat} {bg en lb ou iw : Nat → Nat} (h : Ed ec bg en lb ou iw) {a b j : Nat} (ha : a < 8) (hb : b < 8) (hab : ¬ a = b) (hj : j < 2) (hec : ec < 10) (h0 : ou (j * 8 + a) / 2 ^ b % 2 = 0) : Ed (ec + 1) (wq_up bg ec a) (wq_up en ec b) (wq_up lb ec j) (wq_up ou (j * 8 + a) (ou (j * 8 + a) ^^^ 2 ^ b)) (wq_up iw (j * 8 + b) (iw (j * 8 + b) ^^^ 2 ^ a)) := by
  obtain ⟨e1, e2, e3, e4, e5, e6, e7, e8, e9⟩ := h
  have ups : ∀ (f : Nat → Nat) (x i : Nat), i < ec → wq_up f ec x i = f i := fun f x i hi => if_neg (by omega)
  have upe : ∀ (f : Nat → Nat) (x : Nat), wq_up f ec x ec = x := fun f x => if_pos rfl
  refine ⟨?_, ?_, ?_, by omega, ?_, ?_, ?_, ?_, ?_⟩
  · intro f
    rw [sm_s, upe, upe, upe, sm_congr (g := fun i => f (bg i) (en i) (lb i)) (fun i hi => by rw [ups _ _ i hi, ups _ _ i hi, ups _ _ i hi]), e1 f]
    refine (sm_put (k := (j * 8 + a) * 8 + b) (by omega) ?_ ?_).symm
    · intro t ht hn
      congr 1
      unfold wq_up
      by_cases c : t / 8 = j * 8 + a
      · rw [if_pos c, bt_xor, if_neg (by omega), c]
      · rw [if_neg c]
    · unfold wq_up
      rw [show ((j * 8 + a) * 8 + b) / 8 = j * 8 + a by omega, show ((j * 8 + a) * 8 + b) % 8 = b by omega, show ((j * 8 + a) * 8 + b) / 64 = j by omega, show (j * 8 + a) % 8 = a by omega, if_pos rfl, bt_xor, if_pos rfl, h0]
      omega
  · intro l a' b' hl ha' hb'
    unfold wq_up
    have hc := e2 l a' b' hl ha' hb'
    by_cases c1 : l * 8 + b' = j * 8 + b
    · rw [if_pos c1, bt_xor]
      by_cases c2 : a' = a
      · rw [if_pos c2, if_pos (by omega), bt_xor, if_pos (by omega), ← c1, show j * 8 + a = l * 8 + a' by omega, hc]
      · rw [if_neg c2, if_neg (by omega), ← c1, hc]
    · rw [if_neg c1]
      by_cases c2 : l * 8 + a' = j * 8 + a
      · rw [if_pos c2, bt_xor, if_neg (by omega), ← c2, hc]
      · rw [if_neg c2, hc]
  · intro i hi
    by_cases c : i = ec
    · subst c
      rw [upe, upe]
      exact hab
    · rw [ups _ _ i (by omega), ups _ _ i (by omega)]
      exact e3 i (by omega)
  · intro k
    unfold wq_up
    split
    · exact ha
    · exact e5 k
  · intro k
    unfold wq_up
    split
    · exact hb
    · exact e6 k
  · intro k
    unfold wq_up
    split
    · exact hj
    · exact e7 k
  · intro k
    unfold wq_up
    split
    · exact wq_x8 (e8 _) hb
    · exact e8 k
  · intro k
    unfold wq_up
    split
    · exact wq_x8 (e9 _) ha
    · exact e9 k
/-- an edge goes -/
theorem Ed.cut {m x : Nat} {bg en lb ou iw : Nat → Nat} (h : Ed (m + 1) bg en lb ou iw) (hx : x < m + 1) : Ed m (wq_up bg x (bg m)) (wq_up en x (en m)) (wq_up lb x (lb m)) (wq_up ou (lb x * 8 + bg x) (ou (lb x * 8 + bg x) ^^^ 2 ^ en x)) (wq_up iw (lb x * 8 + en x) (iw (lb x * 8 + en x) ^^^ 2 ^ bg x)) := by
  obtain ⟨e1, e2, e3, e4, e5, e6, e7, e8, e9⟩ := h
  have ha := e5 x
  have hb := e6 x
  have hj := e7 x
  have h0 : ou (lb x * 8 + bg x) / 2 ^ en x % 2 = 1 := by
    have q := EdS.from e1 (P := fun l => l = lb x) (v := bg x) (w := en x) ha hb
    have q2 : sm 2 (fun l => if l = lb x then ou (l * 8 + bg x) / 2 ^ en x % 2 else 0) = ou (lb x * 8 + bg x) / 2 ^ en x % 2 := by
      rw [sm_one (k := lb x) hj (fun i hi hn => if_neg hn), if_pos rfl]
    have q3 := sm_term (f := fun i => if lb i = lb x ∧ bg i = bg x ∧ en i = en x then 1 else 0) hx
    rw [q, q2] at q3
    have q4 : (if lb x = lb x ∧ bg x = bg x ∧ en x = en x then 1 else 0 : Nat) = 1 := if_pos ⟨rfl, rfl, rfl⟩
    have q5 : 1 ≤ ou (lb x * 8 + bg x) / 2 ^ en x % 2 := by
      rw [← q4]
      exact q3
    omega
  generalize hav : bg x = a at *
  generalize hbv : en x = b at *
  generalize hjv : lb x = j at *
  refine ⟨?_, ?_, ?_, by omega, ?_, ?_, ?_, ?_, ?_⟩
  · intro f
    have q1 := sm_cut (f := fun i => f (bg i) (en i) (lb i)) (g := fun i => f (wq_up bg x (bg m) i) (wq_up en x (en m) i) (wq_up lb x (lb m) i)) hx (fun i hi => by
      unfold wq_up
      by_cases c : i = x
      · simp only [if_pos c]
      · simp only [if_neg c])
    have q2 : sm 128 (fun t => ou (t / 8) / 2 ^ (t % 8) % 2 * f (t / 8 % 8) (t % 8) (t / 64)) = sm 128 (fun t => wq_up ou (j * 8 + a) (ou (j * 8 + a) ^^^ 2 ^ b) (t / 8) / 2 ^ (t % 8) % 2 * f (t / 8 % 8) (t % 8) (t / 64)) + f a b j := by
      refine sm_put (k := (j * 8 + a) * 8 + b) (by omega) ?_ ?_
      · intro t ht hn
        congr 1
        unfold wq_up
        by_cases c : t / 8 = j * 8 + a
        · rw [if_pos c, bt_xor, if_neg (by omega), c]
        · rw [if_neg c]
      · unfold wq_up
        rw [show ((j * 8 + a) * 8 + b) / 8 = j * 8 + a by omega, show ((j * 8 + a) * 8 + b) % 8 = b by omega, show ((j * 8 + a) * 8 + b) / 64 = j by omega, show (j * 8 + a) % 8 = a by omega, if_pos rfl, bt_xor, if_pos rfl, h0]
        omega
    have q3 := e1 f
    have q4 : f (bg x) (en x) (lb x) = f a b j := by
      rw [hav, hbv, hjv]
    rw [q4, q3, q2] at q1
    exact Nat.add_right_cancel q1
  · intro l a' b' hl ha' hb'
    unfold wq_up
    have hc := e2 l a' b' hl ha' hb'
    by_cases c1 : l * 8 + b' = j * 8 + b
    · rw [if_pos c1, bt_xor]
      by_cases c2 : a' = a
      · rw [if_pos c2, if_pos (by omega), bt_xor, if_pos (by omega), ← c1, show j * 8 + a = l * 8 + a' by omega, hc]
      · rw [if_neg c2, if_neg (by omega), ← c1, hc]
    · rw [if_neg c1]
      by_cases c2 : l * 8 + a' = j * 8 + a
      · rw [if_pos c2, bt_xor, if_neg (by omega), ← c2, hc]
      · rw [if_neg c2, hc]
  · intro i hi
    unfold wq_up
    by_cases c : i = x
    · rw [if_pos c, if_pos c]
      exact e3 m (by omega)
    · rw [if_neg c, if_neg c]
      exact e3 i (by omega)
  · intro k
    unfold wq_up
    split
    · exact e5 m
    · exact e5 k
  · intro k
    unfold wq_up
    split
    · exact e6 m
    · exact e6 k
  · intro k
    unfold wq_up
    split
    · exact e7 m
    · exact e7 k
  · intro k
    unfold wq_up
    split
    · exact wq_x8 (e8 _) hb
    · exact e8 k
  · intro k
    unfold wq_up
    split
    · exact wq_x8 (e9 _) ha
    · exact e9 k
end
section
/-! the plain law, third part: WalkerPlanModel's walk gives the counts; bounds -/
set_option maxRecDepth 100000
theorem mY_s1_at2 (f o a v k x : Nat) (y : Nat × (Nat → Nat)) (j : Nat) : (mY_s1 f o a v k x y).2 j = y.2 j + (if ((¬ f = 0 ∧ ¬ o = 0) ∧ a = v) ∧ j = k then x else 0) := by
  unfold mY_s1
  by_cases c : (¬ f = 0 ∧ ¬ o = 0) ∧ a = v
  · rw [if_pos c]
    show wq_up y.2 k (y.2 k + x) j = _
    unfold wq_up
    by_cases e : j = k
    · rw [if_pos e, if_pos ⟨c, e⟩, e]
    · rw [if_neg e, if_neg (fun q => e q.2), Nat.add_zero]
  · rw [if_neg c, if_neg (fun q => c q.1), Nat.add_zero]
theorem mY_s1_at1 (f o a v k x : Nat) (y : Nat × (Nat → Nat)) : (mY_s1 f o a v k x y).1 = y.1 + (if (¬ f = 0 ∧ ¬ o = 0) ∧ a = v then 1 else 0) := by
  unfold mY_s1
  by_cases c : (¬ f = 0 ∧ ¬ o = 0) ∧ a = v
  · rw [if_pos c, if_pos c]
  · rw [if_neg c, if_neg c, Nat.add_zero]
theorem mY_send_at2 (bg en lb nw : Nat → Nat) (s v : Nat) (l : Int32) (o i : Nat) (th : Nat → Nat) (j : Nat) : ∀ n, (mY_send bg en lb nw s v l o i n (0, th)).2 j = th j + (sm n (fun e => if ((¬ mY_fits lb l e = 0 ∧ ¬ o = 0) ∧ bg e = v) ∧ j = 8 * s + en e then nw (8 * s + v) else 0) + sm n (fun e => if ((¬ mY_fits lb l e = 0 ∧ ¬ i = 0) ∧ en e = v) ∧ j = 8 * s + bg e then nw (8 * s + v) else 0))
  | 0 => rfl
  | n + 1 => by
    have ih := mY_send_at2 bg en lb nw s v l o i th j n
    show (mY_s1 (mY_fits lb l n) i (en n) v (8 * s + bg n) (nw (8 * s + v)) (mY_s1 (mY_fits lb l n) o (bg n) v (8 * s + en n) (nw (8 * s + v)) (mY_send bg en lb nw s v l o i n (0, th)))).2 j = _
    rw [mY_s1_at2, mY_s1_at2, ih, sm_s, sm_s]
    omega
theorem mY_send_at1 (bg en lb nw : Nat → Nat) (s v : Nat) (l : Int32) (o i : Nat) (th : Nat → Nat) : ∀ n, (mY_send bg en lb nw s v l o i n (0, th)).1 = sm n (fun e => if (¬ mY_fits lb l e = 0 ∧ ¬ o = 0) ∧ bg e = v then 1 else 0) + sm n (fun e => if (¬ mY_fits lb l e = 0 ∧ ¬ i = 0) ∧ en e = v then 1 else 0)
  | 0 => rfl
  | n + 1 => by
    have ih := mY_send_at1 bg en lb nw s v l o i th n
    show (mY_s1 (mY_fits lb l n) i (en n) v (8 * s + bg n) (nw (8 * s + v)) (mY_s1 (mY_fits lb l n) o (bg n) v (8 * s + en n) (nw (8 * s + v)) (mY_send bg en lb nw s v l o i n (0, th)))).1 = _
    rw [mY_s1_at1, mY_s1_at1, ih, sm_s, sm_s]
    omega
theorem mY_fits_n {lb : Nat → Nat} {x e : Nat} (hx : x ≤ 9) : ¬ mY_fits lb (nI x) e = 0 ↔ (x = 2 ∨ x = lb e) := by
  unfold mY_fits
  rw [nI_toInt (by omega)]
  by_cases c : x = 2 ∨ x = lb e
  · rw [if_pos (by omega)]
    simp [c]
  · rw [if_neg (by omega)]
    simp [c]
theorem mY_out_n {kind : Nat} : ¬ mY_out kind = 0 ↔ ¬ kind = 1 := by
  unfold mY_out
  split <;> simp_all
theorem mY_in_n {kind : Nat} : ¬ mY_in kind = 0 ↔ (kind = 1 ∨ kind = 2) := by
  unfold mY_in
  split <;> simp_all
theorem mY_send_to {ec : Nat} {bg en lb ou iw nw th : Nat → Nat} (hE : Ed ec bg en lb ou iw) {kind x s v t w : Nat} (hx : x ≤ 9) (hs : s < 8) (hv : v < 8) (ht : t < 8) (hw : w < 8) : (mY_send bg en lb nw s v (nI x) (mY_out kind) (mY_in kind) ec (0, th)).2 (8 * t + w) = th (8 * t + w) + (if t = s then sm 2 (fun l => if x = 2 ∨ x = l then aN ou iw kind v w l else 0) * nw (8 * s + v) else 0) := by
  obtain ⟨e1, e2, e3, e4, e5, e6, e7, e8, e9⟩ := hE
  rw [mY_send_at2]
  congr 1
  by_cases c : t = s
  · subst c
    rw [if_pos rfl]
    have h1 : sm ec (fun e => if ((¬ mY_fits lb (nI x) e = 0 ∧ ¬ mY_out kind = 0) ∧ bg e = v) ∧ 8 * t + w = 8 * t + en e then nw (8 * t + v) else 0) = (if kind = 1 then 0 else sm 2 (fun l => if x = 2 ∨ x = l then ou (l * 8 + v) / 2 ^ w % 2 else 0)) * nw (8 * t + v) := by
      by_cases c1 : kind = 1
      · rw [if_pos c1, Nat.zero_mul]
        refine sm_zero (fun e he => if_neg ?_)
        rw [mY_out_n]
        exact fun q => q.1.1.2 c1
      · rw [if_neg c1, ← EdS.from e1 (P := fun l => x = 2 ∨ x = l) hv hw, ← sm_mulr]
        refine sm_congr (fun e he => ?_)
        by_cases c2 : (x = 2 ∨ x = lb e) ∧ bg e = v ∧ en e = w
        · rw [if_pos c2, if_pos (by rw [mY_fits_n hx, mY_out_n]; exact ⟨⟨⟨c2.1, c1⟩, c2.2.1⟩, by omega⟩), Nat.one_mul]
        · rw [if_neg c2, if_neg (by rw [mY_fits_n hx, mY_out_n]; exact fun q => c2 ⟨q.1.1.1, q.1.2, by omega⟩), Nat.zero_mul]
    have h2 : sm ec (fun e => if ((¬ mY_fits lb (nI x) e = 0 ∧ ¬ mY_in kind = 0) ∧ en e = v) ∧ 8 * t + w = 8 * t + bg e then nw (8 * t + v) else 0) = (if kind = 1 ∨ kind = 2 then sm 2 (fun l => if x = 2 ∨ x = l then iw (l * 8 + v) / 2 ^ w % 2 else 0) else 0) * nw (8 * t + v) := by
      by_cases c1 : kind = 1 ∨ kind = 2
      · rw [if_pos c1, sm_congr (n := 2) (f := fun l => if x = 2 ∨ x = l then iw (l * 8 + v) / 2 ^ w % 2 else 0) (g := fun l => if x = 2 ∨ x = l then ou (l * 8 + w) / 2 ^ v % 2 else 0) (fun l hl => by rw [e2 l w v hl hw hv]), ← EdS.to e1 (P := fun l => x = 2 ∨ x = l) hv hw, ← sm_mulr]
        refine sm_congr (fun e he => ?_)
        by_cases c2 : (x = 2 ∨ x = lb e) ∧ en e = v ∧ bg e = w
        · rw [if_pos c2, if_pos (by rw [mY_fits_n hx, mY_in_n]; exact ⟨⟨⟨c2.1, c1⟩, c2.2.1⟩, by omega⟩), Nat.one_mul]
        · rw [if_neg c2, if_neg (by rw [mY_fits_n hx, mY_in_n]; exact fun q => c2 ⟨q.1.1.1, q.1.2, by omega⟩), Nat.zero_mul]
      · rw [if_neg c1, Nat.zero_mul]
        refine sm_zero (fun e he => if_neg ?_)
        rw [mY_in_n]
        exact fun q => c1 q.1.1.2
    rw [h1, h2, ← Nat.add_mul]
    congr 1
    unfold aN
    by_cases c1 : kind = 1
    · simp only [c1, if_true, true_or, Nat.zero_add]
    · by_cases c2 : kind = 1 ∨ kind = 2
      · simp only [if_neg c1, if_pos c2]
        rw [← sm_add]
        refine sm_congr (fun l hl => ?_)
        by_cases c3 : x = 2 ∨ x = l
        · simp only [if_pos c3]
        · simp only [if_neg c3]
      · simp only [if_neg c1, if_neg c2, Nat.add_zero]
  · rw [if_neg c]
    rw [sm_zero (fun e he => if_neg (fun q => c (by have := e6 e; omega))), sm_zero (fun e he => if_neg (fun q => c (by have := e5 e; omega)))]
theorem mY_many {ec : Nat} {bg en lb ou iw nw th : Nat → Nat} (hE : Ed ec bg en lb ou iw) {x s v : Nat} (hx : x ≤ 2) (hv : v < 8) : (mY_send bg en lb nw s v (nI x) (mY_out 3) (mY_in 3) ec (0, th)).1 = 0 ↔ mX_moves ou v x = 0 := by
  obtain ⟨e1, e2, e3, e4, e5, e6, e7, e8, e9⟩ := hE
  rw [mY_send_at1, sm_zero (f := fun e => if (¬ mY_fits lb (nI x) e = 0 ∧ ¬ mY_in 3 = 0) ∧ en e = v then 1 else 0) (fun e he => if_neg (by rw [mY_in_n]; omega)), Nat.add_zero, sm_congr (g := fun e => if (x = 2 ∨ x = lb e) ∧ bg e = v then 1 else 0) (fun e he => by
    by_cases c2 : (x = 2 ∨ x = lb e) ∧ bg e = v
    · rw [if_pos c2, if_pos (by rw [mY_fits_n (by omega), mY_out_n]; exact ⟨⟨c2.1, by decide⟩, c2.2⟩)]
    · rw [if_neg c2, if_neg (by rw [mY_fits_n (by omega), mY_out_n]; exact fun q => c2 ⟨q.1.1, q.2⟩)]), EdS.out e1 (P := fun l => x = 2 ∨ x = l) hv]
  unfold mX_moves
  constructor
  · intro h
    have z0 := sm_of_zero h 0 (by decide)
    have z1 := sm_of_zero h 1 (by decide)
    rw [if_neg]
    intro q
    rcases q with ⟨q1, q2⟩ | ⟨q1, q2⟩
    · rw [if_pos (by omega)] at z0
      exact q2 (bt_zero (e8 v) (fun b hb => by have := sm_of_zero z0 b hb; simpa using this))
    · rw [if_pos (by omega)] at z1
      exact q2 (bt_zero (e8 (8 + v)) (fun b hb => by have := sm_of_zero z1 b hb; simpa using this))
  · intro h
    have h' : ¬ ((¬ x = 1 ∧ ¬ ou v = 0) ∨ (¬ x = 0 ∧ ¬ ou (8 + v) = 0)) := fun q => by rw [if_pos q] at h; cases h
    refine sm_zero (fun l hl => ?_)
    have hl2 : l = 0 ∨ l = 1 := by omega
    rcases hl2 with rfl | rfl
    · by_cases c : x = 2 ∨ x = 0
      · rw [if_pos c]
        have z : ou (0 * 8 + v) = 0 := by rw [Nat.zero_mul, Nat.zero_add]; omega
        exact sm_zero (fun b hb => by rw [z, Nat.zero_div])
      · rw [if_neg c]
    · by_cases c : x = 2 ∨ x = 1
      · rw [if_pos c]
        have z : ou (1 * 8 + v) = 0 := by rw [Nat.one_mul]; omega
        exact sm_zero (fun b hb => by rw [z, Nat.zero_div])
      · rw [if_neg c]
theorem mY_mv_at {ec : Nat} {bg en lb ou iw nw th : Nat → Nat} (hE : Ed ec bg en lb ou iw) {kind x s v t w : Nat} (hx : x ≤ 2) (hs : s < 8) (hv : v < 8) (ht : t < 8) (hw : w < 8) : mY_mv bg en lb nw ec kind (nI x) s v th (8 * t + w) = th (8 * t + w) + (if t = s then aM ou iw kind x v w * nw (8 * s + v) else 0) := by
  have h1 := mY_send_to (nw := nw) (th := th) hE (kind := kind) (x := x) (by omega) hs hv ht hw
  have h0 := mY_send_to (nw := nw) (th := th) hE (kind := kind) (x := x) (by omega) hs hv hs hv
  unfold mY_mv aM
  have hm : (kind = 3 ∧ (mY_send bg en lb nw s v (nI x) (mY_out kind) (mY_in kind) ec (0, th)).1 = 0) ↔ (kind = 3 ∧ mX_moves ou v x = 0) := by
    constructor
    · rintro ⟨rfl, q⟩
      exact ⟨rfl, (mY_many hE hx hv).mp q⟩
    · rintro ⟨rfl, q⟩
      exact ⟨rfl, (mY_many hE hx hv).mpr q⟩
  by_cases c : kind = 3 ∧ mX_moves ou v x = 0
  · rw [if_pos (hm.mpr c)]
    unfold wq_up
    by_cases c2 : 8 * t + w = 8 * s + v
    · have et : t = s := by omega
      have ew : w = v := by omega
      subst et
      subst ew
      rw [if_pos rfl, if_pos rfl, if_pos ⟨c, rfl⟩, h1, if_pos rfl, Nat.add_mul, Nat.one_mul, Nat.add_assoc]
    · rw [if_neg c2, h1]
      by_cases c3 : t = s
      · rw [if_pos c3, if_pos c3, if_neg (fun q => c2 (by omega)), Nat.add_zero]
      · rw [if_neg c3, if_neg c3]
  · rw [if_neg (fun q => c (hm.mp q)), h1]
    by_cases c3 : t = s
    · rw [if_pos c3, if_pos c3, if_neg (fun q => c q.1), Nat.add_zero]
    · rw [if_neg c3, if_neg c3]
theorem it_loc {F : Nat → (Nat → Nat) → Nat → Nat} {G h0 : Nat → Nat} : ∀ {n : Nat}, (∀ c x j, c < n → ¬ j = c → F c x j = x j) → (∀ c x, c < n → x c = h0 c → F c x c = G c) → ∀ j, wq_it F n h0 j = if j < n then G j else h0 j
  | 0, _, _, j => by rw [if_neg (by omega)]; rfl
  | n + 1, h1, h2, j => by
    have ih := it_loc (n := n) (fun c x j hc => h1 c x j (by omega)) (fun c x hc => h2 c x (by omega))
    show F n (wq_it F n h0) j = _
    by_cases e : j = n
    · subst e
      rw [if_pos (by omega), h2 j _ (by omega)]
      rw [ih, if_neg (by omega)]
    · rw [h1 n _ j (by omega) e, ih]
      by_cases c : j < n
      · rw [if_pos c, if_pos (by omega)]
      · rw [if_neg c, if_neg (by omega)]
theorem mY_les_at (nw : Nat → Nat) (v : Nat) : ∀ n, wq_it (fun r f => if f = 0 ∧ nw (8 * r + v) = 0 then 0 else 1) n 0 = if sm n (fun r => nw (8 * r + v)) = 0 then 0 else 1
  | 0 => rfl
  | n + 1 => by
    show (if wq_it (fun r f => if f = 0 ∧ nw (8 * r + v) = 0 then 0 else 1) n 0 = 0 ∧ nw (8 * n + v) = 0 then 0 else 1) = _
    rw [mY_les_at nw v n, sm_s]
    by_cases c : sm n (fun r => nw (8 * r + v)) = 0
    · rw [if_pos c]
      by_cases c2 : nw (8 * n + v) = 0
      · rw [if_pos ⟨rfl, c2⟩, if_pos (by omega)]
      · rw [if_neg (fun q => c2 q.2), if_neg (by omega)]
    · rw [if_neg c, if_neg (by omega), if_neg (by omega)]
theorem mY_o1_at {nu : Nat → Nat} {ec : Nat} {bg en lb ou iw nw th : Nat → Nat} (hE : Ed ec bg en lb ou iw) {kind x : Nat} {k : Int32} (hk : kind ≤ 7) (h4 : kind ≤ 4 → k = nI x) (h3 : kind ≤ 3 → x ≤ 2) (hx : x ≤ 9) {t w : Nat} (ht : t < 8) (hw : w < 8) : mY_o1 nu bg en lb nw ec kind k th (8 * t + w) = aS nu ou iw kind x (fun s v => nw (8 * s + v)) t w := by
  have hz : ∀ j, j < 64 → wq_it (fun c t => wq_up t c 0) 64 th j = 0 := fun j hj => by rw [it_up (fun _ => 0), if_pos hj]
  unfold mY_o1 aS
  by_cases c3 : kind ≤ 3
  · have hk3 := h4 (by omega)
    subst hk3
    rw [if_pos c3, it_acc (g := fun c j => if t = c / 8 then aM ou iw kind x (c % 8) w * nw c else 0) (8 * t + w), hz _ (by omega), Nat.zero_add, sm_64, sm_one (k := t) ht]
    · refine sm_congr (fun v hv => ?_)
      rw [if_pos (by omega), show (t * 8 + v) % 8 = v by omega, show t * 8 + v = 8 * t + v by omega]
    · intro s hs hn
      exact sm_zero (fun v hv => if_neg (by omega))
    · intro c y hc
      show (if nw c = 0 then y else mY_step nu bg en lb nw ec kind (nI x) (c / 8) (c % 8) y) (8 * t + w) = y (8 * t + w) + if t = c / 8 then aM ou iw kind x (c % 8) w * nw c else 0
      by_cases c0 : nw c = 0
      · rw [if_pos c0, c0, Nat.mul_zero, ite_self, Nat.add_zero]
      · rw [if_neg c0]
        unfold mY_step
        rw [if_pos c3, mY_mv_at hE (h3 c3) (by omega) (by omega) ht hw, show 8 * (c / 8) + c % 8 = c by omega]
  · rw [if_neg c3]
    have hcell : ∀ c : Nat, 8 * (c / 8) + c % 8 = c := fun c => by omega
    rw [it_loc (G := fun c => if nw c = 0 then 0 else if kind = 7 then (if 0 < nw c ∧ mY_lesser nw (c / 8) (c % 8) = 0 then 1 else 0) else if (kind = 4 ∧ k.toInt ≤ (nu (c % 8) : Int)) ∨ (¬ kind = 4 ∧ ((kind = 5 ∧ ¬ c / 8 = c % 8) ∨ (¬ kind = 5 ∧ c / 8 = c % 8))) then nw c else 0)]
    · rw [if_pos (show 8 * t + w < 64 by omega)]
      rw [show (8 * t + w) / 8 = t by omega, show (8 * t + w) % 8 = w by omega]
      dsimp only
      by_cases c0 : nw (8 * t + w) = 0
      · rw [if_pos c0]
        simp [c0]
      · rw [if_neg c0]
        by_cases c7 : kind = 7
        · rw [if_pos c7, if_pos c7]
          unfold mY_lesser
          rw [mY_les_at]
          by_cases q : sm t (fun r => nw (8 * r + w)) = 0
          · simp [q]
          · simp [q]
        · rw [if_neg c7, if_neg c7]
          by_cases c4 : kind = 4
          · rw [if_pos c4, h4 (by omega), nI_toInt (by omega)]
            by_cases q : x ≤ nu w
            · rw [if_pos q, if_pos (by omega)]
            · rw [if_neg q, if_neg (by omega)]
          · rw [if_neg c4]
            by_cases c5 : kind = 5
            · rw [if_pos c5]
              by_cases q : t = w
              · rw [if_pos q, if_neg (by omega)]
              · rw [if_neg q, if_pos (by omega)]
            · rw [if_neg c5]
              by_cases q : t = w
              · rw [if_pos q, if_pos (by omega)]
              · rw [if_neg q, if_neg (by omega)]
    · intro c y j hc hj
      show (if nw c = 0 then y else mY_step nu bg en lb nw ec kind k (c / 8) (c % 8) y) j = y j
      split
      · rfl
      · unfold mY_step wq_up
        rw [if_neg c3, hcell c]
        split
        · exact if_neg hj
        · split
          · exact if_neg hj
          · rfl
    · intro c y hc hy
      rw [hz c hc] at hy
      show (if nw c = 0 then y else mY_step nu bg en lb nw ec kind k (c / 8) (c % 8) y) c = _
      by_cases c0 : nw c = 0
      · rw [if_pos c0, if_pos c0, hy]
      · rw [if_neg c0, if_neg c0]
        unfold mY_step wq_up
        rw [if_neg c3, hcell c]
        by_cases c7 : kind = 7
        · rw [if_pos c7, if_pos c7]
          exact if_pos rfl
        · rw [if_neg c7, if_neg c7]
          by_cases q : (kind = 4 ∧ k.toInt ≤ (nu (c % 8) : Int)) ∨ (¬ kind = 4 ∧ ((kind = 5 ∧ ¬ c / 8 = c % 8) ∨ (¬ kind = 5 ∧ c / 8 = c % 8)))
          · rw [if_pos q, if_pos q]
            exact if_pos rfl
          · rw [if_neg q, if_neg q, hy]
/-- the plan, its numbers -/
def Pl (sz : Nat) (ki la : Nat → Nat) (nm : Nat → Int32) : Prop := sz ≤ 6 ∧ (∀ k, ki k ≤ 7) ∧ (∀ k, la k ≤ 9) ∧ (∀ k, k < sz → ki k ≤ 4 → nm k = nI (la k)) ∧ (∀ k, k < sz → ki k ≤ 3 → la k ≤ 2)
theorem mY_walk_at {nu : Nat → Nat} {ec sz st : Nat} {bg en lb ou iw ki la : Nat → Nat} {nm : Nat → Int32} (hE : Ed ec bg en lb ou iw) (hP : Pl sz ki la nm) (y : (Nat → Nat) × (Nat → Nat)) : ∀ k, k ≤ sz → ∀ s v, s < 8 → v < 8 → (mY_walk nu bg en lb ki nm ec st k y).1 (8 * s + v) = aK nu ou iw ki la st k s v
  | 0, _, s, v, hs, hv => by
    show mY_init st y.1 (8 * s + v) = aB st s v
    unfold mY_init
    rw [it_up, if_pos (by omega)]
    unfold mY_b0 aB
    rw [show (8 * s + v) / 8 = s by omega, show (8 * s + v) % 8 = v by omega]
    by_cases c : s = v ∧ st / 2 ^ s % 2 = 1
    · rw [if_pos c, if_pos ⟨c.1, by omega⟩]
    · rw [if_neg c, if_neg (fun q => c ⟨q.1, by omega⟩)]
  | k + 1, hk, s, v, hs, hv => by
    have ih := mY_walk_at (nu := nu) (st := st) hE hP y k (by omega)
    obtain ⟨p1, p2, p3, p4, p5⟩ := hP
    show (mY_once nu bg en lb ec (ki k) (nm k) (mY_walk nu bg en lb ki nm ec st k y)).1 (8 * s + v) = aS nu ou iw (ki k) (la k) (aK nu ou iw ki la st k) s v
    unfold mY_once
    show wq_it (fun c z => wq_up z c (mY_o1 nu bg en lb (mY_walk nu bg en lb ki nm ec st k y).1 ec (ki k) (nm k) (mY_walk nu bg en lb ki nm ec st k y).2 c)) 64 (mY_walk nu bg en lb ki nm ec st k y).1 (8 * s + v) = _
    rw [it_up, if_pos (by omega), mY_o1_at hE (p2 k) (fun h => p4 k (by omega) h) (fun h => p5 k (by omega) h) (p3 k) hs hv]
    exact aS_congr hs hv ih
theorem mY_total_at {nw : Nat → Nat} {a : Nat → Nat → Nat} (h : ∀ s v, s < 8 → v < 8 → nw (8 * s + v) = a s v) : mY_total nw = sm 8 (fun s => sm 8 (fun v => a s v)) := by
  show sm 64 nw = _
  rw [sm_64]
  exact sm_congr (fun s hs => sm_congr (fun v hv => by rw [show s * 8 + v = 8 * s + v by omega]; exact h s v hs hv))
/-! bounds -/
theorem aM_sum {ec : Nat} {bg en lb ou iw : Nat → Nat} (hE : Ed ec bg en lb ou iw) {kind x u : Nat} (hu : u < 8) : sm 8 (fun v => aM ou iw kind x u v) ≤ 21 := by
  obtain ⟨e1, e2, e3, e4, e5, e6, e7, e8, e9⟩ := hE
  have h1 : sm 8 (fun v => sm 2 (fun l => if x = 2 ∨ x = l then aN ou iw kind u v l else 0)) ≤ 20 := by
    have q1 : sm 8 (fun v => sm 2 (fun l => if x = 2 ∨ x = l then aN ou iw kind u v l else 0)) ≤ sm 8 (fun v => sm 2 (fun l => ou (l * 8 + u) / 2 ^ v % 2 + ou (l * 8 + v) / 2 ^ u % 2)) := by
      refine sm_le (fun v hv => sm_le (fun l hl => ?_))
      have := e2 l v u hl hv hu
      unfold aN
      split
      · refine Nat.add_le_add ?_ ?_
        · split <;> omega
        · split <;> omega
      · omega
    have q2 : sm 8 (fun v => sm 2 (fun l => ou (l * 8 + u) / 2 ^ v % 2 + ou (l * 8 + v) / 2 ^ u % 2)) = sm 2 (fun l => sm 8 (fun v => ou (l * 8 + u) / 2 ^ v % 2)) + sm 2 (fun l => sm 8 (fun v => ou (l * 8 + v) / 2 ^ u % 2)) := by
      rw [sm_swap, ← sm_add]
      exact sm_congr (fun l hl => sm_add _ _ 8)
    have q3 := EdS.out e1 (P := fun _ => True) hu
    have q4 := sm_ones (P := fun i => True ∧ bg i = u) ec
    have q5 := EdS.into e1 hu
    have q6 := sm_ones (P := fun i => en i = u) ec
    simp only [if_true] at q3
    omega
  have h2 : sm 8 (fun v => if (kind = 3 ∧ mX_moves ou u x = 0) ∧ u = v then 1 else 0) ≤ 1 := by
    rw [sm_one (k := u) hu (fun i hi hn => if_neg (fun q => hn q.2.symm))]
    split <;> omega
  have h3 : sm 8 (fun v => aM ou iw kind x u v) = sm 8 (fun v => sm 2 (fun l => if x = 2 ∨ x = l then aN ou iw kind u v l else 0)) + sm 8 (fun v => if (kind = 3 ∧ mX_moves ou u x = 0) ∧ u = v then 1 else 0) := sm_add _ _ 8
  omega
theorem aS_sum {nu : Nat → Nat} {ec : Nat} {bg en lb ou iw : Nat → Nat} (hE : Ed ec bg en lb ou iw) {kind x : Nat} (a : Nat → Nat → Nat) : sm 8 (fun s => sm 8 (fun v => aS nu ou iw kind x a s v)) ≤ 21 * sm 8 (fun s => sm 8 (fun v => a s v)) := by
  by_cases c3 : kind ≤ 3
  · rw [← sm_mul]
    refine sm_le (fun s hs => ?_)
    have q1 : sm 8 (fun v => aS nu ou iw kind x a s v) = sm 8 (fun u => sm 8 (fun v => aM ou iw kind x u v) * a s u) := by
      rw [sm_congr (g := fun v => sm 8 (fun u => aM ou iw kind x u v * a s u)) (fun v hv => by unfold aS; rw [if_pos c3]), sm_swap]
      exact sm_congr (fun u hu => sm_mulr _ _ 8)
    rw [q1, ← sm_mul]
    exact sm_le (fun u hu => Nat.mul_le_mul_right _ (aM_sum hE hu))
  · refine Nat.le_trans (sm_le (g := fun s => sm 8 (fun v => a s v)) (fun s hs => sm_le (fun v hv => ?_))) (by omega)
    unfold aS
    rw [if_neg c3]
    split
    · split
      · omega
      · omega
    · split
      · split <;> omega
      · split
        · split <;> omega
        · split <;> omega
theorem aT_0 {nu ou iw ki la : Nat → Nat} {st : Nat} : aT nu ou iw ki la st 0 ≤ 8 := by
  have h : aT nu ou iw ki la st 0 ≤ sm 8 (fun _ => 1) := by
    refine sm_le (fun s hs => ?_)
    rw [sm_one (k := s) hs (fun i hi hn => by show aB st s i = 0; unfold aB; rw [if_neg (fun q => hn q.1.symm)])]
    show aB st s s ≤ 1
    unfold aB
    split <;> omega
  exact h
theorem aT_le {nu : Nat → Nat} {ec st : Nat} {bg en lb ou iw ki la : Nat → Nat} (hE : Ed ec bg en lb ou iw) : ∀ k, aT nu ou iw ki la st k ≤ 8 * 21 ^ k
  | 0 => aT_0
  | k + 1 => by
    have h1 := aT_le (nu := nu) (st := st) (ki := ki) (la := la) hE k
    have h2 := aS_sum (nu := nu) hE (kind := ki k) (x := la k) (aK nu ou iw ki la st k)
    have h3 : aT nu ou iw ki la st (k + 1) ≤ 21 * aT nu ou iw ki la st k := h2
    rw [Nat.pow_succ]
    omega
theorem aT_bd {nu : Nat → Nat} {ec st : Nat} {bg en lb ou iw ki la : Nat → Nat} (hE : Ed ec bg en lb ou iw) {k : Nat} (hk : k ≤ 6) : aT nu ou iw ki la st k < 2 ^ 30 := by
  have h1 := aT_le (nu := nu) (st := st) (ki := ki) (la := la) hE k
  have h2 : 21 ^ k ≤ 21 ^ 6 := Nat.pow_le_pow_right (by decide) hk
  omega
theorem aK_le {nu ou iw ki la : Nat → Nat} {st k s v : Nat} (hs : s < 8) (hv : v < 8) : aK nu ou iw ki la st k s v ≤ aT nu ou iw ki la st k :=
  Nat.le_trans (sm_term (f := fun v => aK nu ou iw ki la st k s v) hv) (sm_term (f := fun s => sm 8 (fun v => aK nu ou iw ki la st k s v)) hs)
end
section
/-! the relation of the two objects, kept by every call -/
set_option maxRecDepth 100000
abbrev FN : Type := Nat → Nat
abbrev SX : Type := Nat × Nat × Nat × Nat × FN × FN × FN × FN × FN × FN × FN × FN
abbrev SY : Type := Nat × Nat × Nat × FN × FN × FN × FN × FN × (Nat → Int32) × FN × FN
def WX (q : Nat → Nat) (d : Nat → ClassId) (x : SX) : va_W := wX q d x.1 x.2.1 x.2.2.1 x.2.2.2.1 x.2.2.2.2.1 x.2.2.2.2.2.1 x.2.2.2.2.2.2.1 x.2.2.2.2.2.2.2.1 x.2.2.2.2.2.2.2.2.1 x.2.2.2.2.2.2.2.2.2.1 x.2.2.2.2.2.2.2.2.2.2.1 x.2.2.2.2.2.2.2.2.2.2.2
def WY (q : Nat → Nat) (d : Nat → ClassId) (y : SY) : va_W := wY q d y.1 y.2.1 y.2.2.1 y.2.2.2.1 y.2.2.2.2.1 y.2.2.2.2.2.1 y.2.2.2.2.2.2.1 y.2.2.2.2.2.2.2.1 y.2.2.2.2.2.2.2.2.1 y.2.2.2.2.2.2.2.2.2.1 y.2.2.2.2.2.2.2.2.2.2
def Rl (ec sz st kn : Nat) (nu ou iw ki la he to bg en lb : Nat → Nat) (nm : Nat → Int32) : Prop := Ed ec bg en lb ou iw ∧ Pl sz ki la nm ∧ (∀ k, nu k ≤ 9) ∧ st < 256 ∧ kn ≤ 1 ∧ (kn = 1 → (∀ s v, s < 8 → v < 8 → he (v * 8 + s) = aK nu ou iw ki la st sz s v) ∧ ∀ k, k ≤ sz → to k = aT nu ou iw ki la st k)
def Rel (x : SX) (y : SY) : Prop := ∃ (ec sz st kn : Nat) (nu ou iw ki la he be to bg en lb : Nat → Nat) (nm : Nat → Int32) (nw th : Nat → Nat), x = (ec, sz, st, kn, nu, ou, iw, ki, la, he, be, to) ∧ y = (ec, sz, st, nu, bg, en, lb, ki, nm, nw, th) ∧ Rl ec sz st kn nu ou iw ki la he to bg en lb nm
/-- both objects answer alike, and are alike behind it -/
def Both (l : Launch) (D : va_G) (q : Nat → Nat) (d : Nat → ClassId) (q2 : Nat → Nat) (d2 : Nat → ClassId) (yA : MethodName) (cA : ByteArray) (nA : Nat) (rA : Room) (yB : MethodName) (cB : ByteArray) (nB : Nat) (rB : Room) (ty : FieldType) (As : List Value) (x : SX) (y : SY) : Prop := ∃ (r : Int32) (x' : SX) (y' : SY), CtI l D vwCl (tX d) yA cA nA ty rA (.ref (q 0) :: As) (WX q d x) r (WX q d x') ∧ CtI l D vwCl (tY d2) yB cB nB ty rB (.ref (q2 0) :: As) (WY q2 d2 y) r (WY q2 d2 y') ∧ Rel x' y'
theorem wq_nat {x : Int32} {n : Nat} (hn : n < 2 ^ 31) (h0 : 0 ≤ x.toInt) (h : x.toInt < n) : ∃ j : Nat, j < n ∧ x = nI j := vp_in_of (vp_in_iff.mpr ⟨h0, h⟩) hn
theorem wq_isV_nat {x : Int32} (h : ¬ wq_isV x = 0) : ∃ j : Nat, j < 8 ∧ x = nI j := by
  rw [wq_isV_0] at h
  exact wq_nat (n := 8) (by decide) (by omega) (by omega)
theorem wq_isE_0 {a b j : Int32} : wq_isE a b j = 0 ↔ ¬ (((0 ≤ a.toInt ∧ a.toInt < 8) ∧ (0 ≤ b.toInt ∧ b.toInt < 8)) ∧ ¬ a.toInt = b.toInt ∧ (j.toInt = 0 ∨ j.toInt = 1)) := by
  unfold wq_isE
  split <;> simp_all
theorem wq_isE_nat {a b j : Int32} (h : ¬ wq_isE a b j = 0) : ∃ u v w : Nat, u < 8 ∧ v < 8 ∧ ¬ u = v ∧ w < 2 ∧ a = nI u ∧ b = nI v ∧ j = nI w := by
  rw [wq_isE_0] at h
  obtain ⟨u, hu, eu⟩ := wq_nat (x := a) (n := 8) (by decide) (by omega) (by omega)
  obtain ⟨v, hv, ev⟩ := wq_nat (x := b) (n := 8) (by decide) (by omega) (by omega)
  obtain ⟨w, hw, ew⟩ := wq_nat (x := j) (n := 2) (by decide) (by omega) (by omega)
  refine ⟨u, v, w, hu, hv, ?_, hw, eu, ev, ew⟩
  intro e
  subst e
  rw [eu, ev] at h
  omega
theorem wq_up_le {f : Nat → Nat} {k x n : Nat} (h : ∀ k, f k ≤ n) (hx : x ≤ n) : ∀ j, wq_up f k x j ≤ n := by
  intro j
  unfold wq_up
  split
  · exact hx
  · exact h j
/-! find -/
theorem mY_find_spec (bg en lb : Nat → Nat) (a b j : Int32) : ∀ n i, (∃ e, i ≤ e ∧ e < i + n ∧ ((bg e : Int) = a.toInt ∧ (en e : Int) = b.toInt ∧ (lb e : Int) = j.toInt) ∧ mY_find bg en lb a b j n i = nI e) ∨ (mY_find bg en lb a b j n i = -1 ∧ ∀ e, i ≤ e → e < i + n → ¬ ((bg e : Int) = a.toInt ∧ (en e : Int) = b.toInt ∧ (lb e : Int) = j.toInt))
  | 0, i => Or.inr ⟨rfl, fun e h1 h2 => by omega⟩
  | n + 1, i => by
    rw [mY_find]
    by_cases c : (bg i : Int) = a.toInt ∧ (en i : Int) = b.toInt ∧ (lb i : Int) = j.toInt
    · rw [if_pos c]
      exact Or.inl ⟨i, Nat.le_refl _, by omega, c, rfl⟩
    · rw [if_neg c]
      rcases mY_find_spec bg en lb a b j n (i + 1) with ⟨e, h1, h2, h3, h4⟩ | ⟨h1, h2⟩
      · exact Or.inl ⟨e, by omega, by omega, h3, h4⟩
      · refine Or.inr ⟨h1, fun e h3 h4 => ?_⟩
        by_cases e1 : e = i
        · rw [e1]
          exact c
        · exact h2 e (by omega) (by omega)
theorem Ed.bit {ec : Nat} {bg en lb ou iw : Nat → Nat} (hE : Ed ec bg en lb ou iw) {a b j : Nat} (ha : a < 8) (hb : b < 8) (hj : j < 2) : sm ec (fun i => if lb i = j ∧ bg i = a ∧ en i = b then 1 else 0) = ou (j * 8 + a) / 2 ^ b % 2 := by
  rw [EdS.from hE.1 (P := fun l => l = j) ha hb, sm_one (k := j) hj (fun i hi hn => if_neg hn), if_pos rfl]
/-- find's answer by the bit -/
theorem Ed.find {ec : Nat} {bg en lb ou iw : Nat → Nat} (hE : Ed ec bg en lb ou iw) {a b j : Nat} (ha : a < 8) (hb : b < 8) (hj : j < 2) : (∃ e, e < ec ∧ bg e = a ∧ en e = b ∧ lb e = j ∧ mY_find bg en lb (nI a) (nI b) (nI j) ec 0 = nI e ∧ ou (j * 8 + a) / 2 ^ b % 2 = 1) ∨ ((mY_find bg en lb (nI a) (nI b) (nI j) ec 0).toInt < 0 ∧ ou (j * 8 + a) / 2 ^ b % 2 = 0) := by
  have hbit := hE.bit ha hb hj
  have ta := nI_toInt (n := a) (by omega)
  have tb := nI_toInt (n := b) (by omega)
  have tj := nI_toInt (n := j) (by omega)
  rcases mY_find_spec bg en lb (nI a) (nI b) (nI j) ec 0 with ⟨e, h1, h2, h3, h4⟩ | ⟨h1, h2⟩
  · left
    rw [ta, tb, tj] at h3
    have e1 : bg e = a := by omega
    have e2 : en e = b := by omega
    have e3 : lb e = j := by omega
    refine ⟨e, by omega, e1, e2, e3, h4, ?_⟩
    have q := sm_term (f := fun i => if lb i = j ∧ bg i = a ∧ en i = b then 1 else 0) (n := ec) (k := e) (by omega)
    rw [hbit] at q
    have q2 : (if lb e = j ∧ bg e = a ∧ en e = b then 1 else 0 : Nat) = 1 := if_pos ⟨e3, e1, e2⟩
    have q3 : 1 ≤ ou (j * 8 + a) / 2 ^ b % 2 := by
      rw [← q2]
      exact q
    omega
  · right
    refine ⟨by rw [h1]; decide, ?_⟩
    rw [← hbit]
    refine sm_zero (fun i hi => if_neg (fun q => h2 i (Nat.zero_le _) (by omega) ?_))
    rw [ta, tb, tj]
    omega
theorem Ed.find_no {ec : Nat} {bg en lb ou iw : Nat → Nat} (hE : Ed ec bg en lb ou iw) {a b j : Int32} (h : wq_isE a b j = 0) : (mY_find bg en lb a b j ec 0).toInt < 0 := by
  obtain ⟨e1, e2, e3, e4, e5, e6, e7, e8, e9⟩ := hE
  rcases mY_find_spec bg en lb a b j ec 0 with ⟨e, h1, h2, h3, h4⟩ | ⟨h1, h2⟩
  · exfalso
    rw [wq_isE_0] at h
    have q5 := e5 e
    have q6 := e6 e
    have q7 := e7 e
    have q3 := e3 e (by omega)
    omega
  · rw [h1]
    decide
/-! what the relation gives for walks -/
section
variable {ec sz st kn : Nat} {nu ou iw ki la he be to bg en lb : Nat → Nat} {nm : Nat → Int32}
theorem Rl.okX (h : Rl ec sz st kn nu ou iw ki la he to bg en lb nm) : okX sz st kn nu ou iw ki la he be to := by
  obtain ⟨hE, hP, h3, h4, h5, h6⟩ := h
  obtain ⟨p1, p2, p3, p4, p5⟩ := id hP
  obtain ⟨e1, e2, e3, e4, e5, e6, e7, e8, e9⟩ := id hE
  refine ⟨h5, p1, h4, fun k => by have := h3 k; omega, e8, e9, p2, p3, fun _ k hk j hj => ?_⟩
  have q := mX_wi_at (nu := nu) (ou := ou) (iw := iw) (la := la) (st := st) (he := he) (be := be) (to := to) p2 k (j % 8) (j / 8) (by omega) (by omega)
  rw [show j / 8 * 8 + j % 8 = j by omega] at q
  rw [q]
  have q1 := aK_le (nu := nu) (ou := ou) (iw := iw) (ki := ki) (la := la) (st := st) (k := k) (s := j % 8) (v := j / 8) (by omega) (by omega)
  have q2 := aT_bd (nu := nu) (st := st) (ki := ki) (la := la) hE (k := k) (by omega)
  omega
theorem Rl.okY (h : Rl ec sz st kn nu ou iw ki la he to bg en lb nm) : okY ec sz st nu bg en lb ki nm := by
  obtain ⟨hE, hP, h3, h4, h5, h6⟩ := h
  obtain ⟨p1, p2, p3, p4, p5⟩ := id hP
  obtain ⟨e1, e2, e3, e4, e5, e6, e7, e8, e9⟩ := id hE
  refine ⟨e4, p1, h4, fun k => by have := h3 k; omega, e5, e6, e7, p2, fun y i hi j hj => ?_, fun y i hi => ?_⟩
  · have q := mY_walk_at (nu := nu) (st := st) hE hP y i hi (j / 8) (j % 8) (by omega) (by omega)
    rw [show 8 * (j / 8) + j % 8 = j by omega] at q
    rw [q]
    have q1 := aK_le (nu := nu) (ou := ou) (iw := iw) (ki := ki) (la := la) (st := st) (k := i) (s := j / 8) (v := j % 8) (by omega) (by omega)
    have q2 := aT_bd (nu := nu) (st := st) (ki := ki) (la := la) hE (k := i) (by omega)
    omega
  · have q := mY_total_at (mY_walk_at (nu := nu) (st := st) hE hP y i hi)
    have q2 := aT_bd (nu := nu) (st := st) (ki := ki) (la := la) hE (k := i) (by omega)
    unfold aT at q2
    omega
theorem Rl.known (h : Rl ec sz st kn nu ou iw ki la he to bg en lb nm) : (mX_walk nu ou iw ki la sz st (kn, he, be, to)).1 = 1 ∧ (∀ s v, s < 8 → v < 8 → (mX_walk nu ou iw ki la sz st (kn, he, be, to)).2.1 (v * 8 + s) = aK nu ou iw ki la st sz s v) ∧ ∀ k, k ≤ sz → (mX_walk nu ou iw ki la sz st (kn, he, be, to)).2.2.2 k = aT nu ou iw ki la st k := by
  obtain ⟨hE, hP, h3, h4, h5, h6⟩ := h
  obtain ⟨p1, p2, p3, p4, p5⟩ := id hP
  by_cases c : kn = 0
  · rw [mX_walk_0 c]
    refine ⟨rfl, fun s v hs hv => mX_wi_at p2 sz s v hs hv, fun k hk => ?_⟩
    show (mX_wi nu ou iw ki la st sz he be to).2.2 k = _
    rw [mX_wi_to sz k hk]
    exact mX_total_at (fun s v hs hv => mX_wi_at p2 k s v hs hv)
  · rw [mX_walk_1 c]
    obtain ⟨g1, g2⟩ := h6 (by omega)
    exact ⟨show kn = 1 by omega, g1, g2⟩
theorem Rl.walk (h : Rl ec sz st kn nu ou iw ki la he to bg en lb nm) : Rl ec sz st (mX_walk nu ou iw ki la sz st (kn, he, be, to)).1 nu ou iw ki la (mX_walk nu ou iw ki la sz st (kn, he, be, to)).2.1 (mX_walk nu ou iw ki la sz st (kn, he, be, to)).2.2.2 bg en lb nm := by
  obtain ⟨k1, k2, k3⟩ := h.known (be := be)
  obtain ⟨hE, hP, h3, h4, h5, h6⟩ := h
  exact ⟨hE, hP, h3, h4, by omega, fun _ => ⟨k2, k3⟩⟩
theorem Rl.unknown (h : Rl ec sz st kn nu ou iw ki la he to bg en lb nm) : Rl ec sz st 0 nu ou iw ki la he to bg en lb nm := by
  obtain ⟨hE, hP, h3, h4, h5, h6⟩ := h
  exact ⟨hE, hP, h3, h4, by omega, fun q => by cases q⟩
theorem Rl.row (h : Rl ec sz st kn nu ou iw ki la he to bg en lb nm) {v : Nat} (hv : v < 8) : mX_row (mX_walk nu ou iw ki la sz st (kn, he, be, to)).2.1 v = sm 8 (fun s => aK nu ou iw ki la st sz s v) := by
  obtain ⟨k1, k2, k3⟩ := h.known (be := be)
  show sm 8 (fun s => (mX_walk nu ou iw ki la sz st (kn, he, be, to)).2.1 (v * 8 + s)) = _
  exact sm_congr (fun s hs => k2 s v hs hv)
theorem Rl.rowY (h : Rl ec sz st kn nu ou iw ki la he to bg en lb nm) (y : (Nat → Nat) × (Nat → Nat)) {v : Nat} (hv : v < 8) : mY_row (mY_walk nu bg en lb ki nm ec st sz y).1 v = sm 8 (fun s => aK nu ou iw ki la st sz s v) := by
  show sm 8 (fun s => (mY_walk nu bg en lb ki nm ec st sz y).1 (8 * s + v)) = _
  exact sm_congr (fun s hs => mY_walk_at h.1 h.2.1 y sz (Nat.le_refl _) s v hs hv)
theorem Rl.row_bd (h : Rl ec sz st kn nu ou iw ki la he to bg en lb nm) {v : Nat} (hv : v < 8) : mX_row (mX_walk nu ou iw ki la sz st (kn, he, be, to)).2.1 v < 2 ^ 31 := by
  rw [h.row hv]
  have q2 := aT_bd (nu := nu) (st := st) (ki := ki) (la := la) h.1 (k := sz) h.2.1.1
  have q1 : sm 8 (fun s => aK nu ou iw ki la st sz s v) ≤ aT nu ou iw ki la st sz := sm_le (fun s hs => sm_term (f := fun v => aK nu ou iw ki la st sz s v) hv)
  omega
theorem Rl.cell_bd (h : Rl ec sz st kn nu ou iw ki la he to bg en lb nm) : ∀ j, j < 64 → (mX_walk nu ou iw ki la sz st (kn, he, be, to)).2.1 j < 2 ^ 31 := by
  intro j hj
  obtain ⟨k1, k2, k3⟩ := h.known (be := be)
  have q := k2 (j % 8) (j / 8) (by omega) (by omega)
  rw [show j / 8 * 8 + j % 8 = j by omega] at q
  rw [q]
  have q1 := aK_le (nu := nu) (ou := ou) (iw := iw) (ki := ki) (la := la) (st := st) (k := sz) (s := j % 8) (v := j / 8) (by omega) (by omega)
  have q2 := aT_bd (nu := nu) (st := st) (ki := ki) (la := la) h.1 (k := sz) h.2.1.1
  omega
theorem Rl.tot_bd (h : Rl ec sz st kn nu ou iw ki la he to bg en lb nm) : ∀ k, k ≤ sz → (mX_walk nu ou iw ki la sz st (kn, he, be, to)).2.2.2 k < 2 ^ 31 := by
  intro k hk
  rw [(h.known (be := be)).2.2 k hk]
  have := h.2.1.1
  have q2 := aT_bd (nu := nu) (st := st) (ki := ki) (la := la) h.1 (k := k) (by omega)
  omega
end
/-! sets as bits -/
theorem or_bit {p : Nat → Prop} [DecidablePred p] {g : Nat → Nat} {b : Nat} : ∀ n, (wq_it (fun i a => if p i then a else a ||| 2 ^ g i) n 0).testBit b = true ↔ ∃ i, i < n ∧ ¬ p i ∧ g i = b
  | 0 => by
    constructor
    · intro h
      have h : (0 : Nat).testBit b = true := h
      rw [Nat.zero_testBit] at h
      cases h
    · rintro ⟨i, h, _⟩
      omega
  | n + 1 => by
    have ih := or_bit (p := p) (g := g) (b := b) n
    have e : wq_it (fun i a => if p i then a else a ||| 2 ^ g i) (n + 1) 0 = if p n then wq_it (fun i a => if p i then a else a ||| 2 ^ g i) n 0 else wq_it (fun i a => if p i then a else a ||| 2 ^ g i) n 0 ||| 2 ^ g n := rfl
    rw [e]
    by_cases c : p n
    · rw [if_pos c, ih]
      constructor
      · rintro ⟨i, h1, h2, h3⟩
        exact ⟨i, by omega, h2, h3⟩
      · rintro ⟨i, h1, h2, h3⟩
        refine ⟨i, ?_, h2, h3⟩
        have : ¬ i = n := fun q => h2 (q ▸ c)
        omega
    · rw [if_neg c, Nat.testBit_or, Nat.testBit_two_pow, Bool.or_eq_true, ih, decide_eq_true_eq]
      constructor
      · rintro (⟨i, h1, h2, h3⟩ | h)
        · exact ⟨i, by omega, h2, h3⟩
        · exact ⟨n, by omega, c, h⟩
      · rintro ⟨i, h1, h2, h3⟩
        by_cases q : i = n
        · right
          rw [← q]
          exact h3
        · left
          exact ⟨i, by omega, h2, h3⟩
theorem or_form {p : Nat → Prop} [DecidablePred p] {g : Nat → Nat} (a i : Nat) : a ||| (if p i then 0 else 2 ^ g i) = if p i then a else a ||| 2 ^ g i := by
  by_cases c : p i
  · rw [if_pos c, if_pos c, Nat.or_zero]
  · rw [if_neg c, if_neg c]
theorem mX_reached_v {nu ou iw ki la : Nat → Nat} {sz st : Nat} {x : Nat × (Nat → Nat) × (Nat → Nat) × (Nat → Nat)} (h : x.1 ≤ 1) : ∀ n, (mX_reached nu ou iw ki la sz st n (0, x)).1 = wq_it (fun v a => if mX_row (mX_walk nu ou iw ki la sz st x).2.1 v = 0 then a else a ||| 2 ^ v) n 0
  | 0 => rfl
  | n + 1 => by
    have ih := mX_reached_v (nu := nu) (ou := ou) (iw := iw) (ki := ki) (la := la) (sz := sz) (st := st) h n
    show (mX_reached nu ou iw ki la sz st n (0, x)).1 ||| (if mX_row (mX_walk nu ou iw ki la sz st (mX_reached nu ou iw ki la sz st n (0, x)).2).2.1 n = 0 then 0 else 2 ^ n) = _
    rw [mX_reached_w (x := (0, x)) h n, ih]
    exact or_form (p := fun v => mX_row (mX_walk nu ou iw ki la sz st x).2.1 v = 0) (g := fun v => v) _ n
theorem mX_startsAt_v {nu ou iw ki la : Nat → Nat} {sz st v : Nat} {x : Nat × (Nat → Nat) × (Nat → Nat) × (Nat → Nat)} (h : x.1 ≤ 1) : ∀ n, (mX_startsAt nu ou iw ki la sz st v n (0, x)).1 = wq_it (fun s a => if (mX_walk nu ou iw ki la sz st x).2.1 (v * 8 + s) = 0 then a else a ||| 2 ^ s) n 0
  | 0 => rfl
  | n + 1 => by
    have ih := mX_startsAt_v (nu := nu) (ou := ou) (iw := iw) (ki := ki) (la := la) (sz := sz) (st := st) (v := v) h n
    show (mX_startsAt nu ou iw ki la sz st v n (0, x)).1 ||| (if (mX_walk nu ou iw ki la sz st (mX_startsAt nu ou iw ki la sz st v n (0, x)).2).2.1 (v * 8 + n) = 0 then 0 else 2 ^ n) = _
    rw [mX_startsAt_w (x := (0, x)) h n, ih]
    exact or_form (p := fun s => (mX_walk nu ou iw ki la sz st x).2.1 (v * 8 + s) = 0) (g := fun s => s) _ n
theorem it_congr {α : Type} {f g : Nat → α → α} {x : α} : ∀ {n : Nat}, (∀ i y, i < n → f i y = g i y) → wq_it f n x = wq_it g n x
  | 0, _ => rfl
  | n + 1, h => by
    show f n (wq_it f n x) = g n (wq_it g n x)
    rw [it_congr (fun i y hi => h i y (by omega)), h n _ (by omega)]
section
variable {ec sz st kn : Nat} {nu ou iw ki la he be to bg en lb : Nat → Nat} {nm : Nat → Int32}
theorem Rl.reached (h : Rl ec sz st kn nu ou iw ki la he to bg en lb nm) (y : (Nat → Nat) × (Nat → Nat)) : (mX_reached nu ou iw ki la sz st 8 (0, kn, he, be, to)).1 = mY_reached (mY_walk nu bg en lb ki nm ec st sz y).1 64 := by
  rw [mX_reached_v (x := (kn, he, be, to)) h.2.2.2.2.1]
  unfold mY_reached
  refine Nat.eq_of_testBit_eq (fun b => ?_)
  rw [Bool.eq_iff_iff, or_bit (p := fun v => mX_row (mX_walk nu ou iw ki la sz st (kn, he, be, to)).2.1 v = 0) (g := fun v => v), or_bit (p := fun c => (mY_walk nu bg en lb ki nm ec st sz y).1 c = 0) (g := fun c => c % 8)]
  constructor
  · rintro ⟨v, hv, h1, rfl⟩
    rw [h.row hv] at h1
    have : ∃ s, s < 8 ∧ ¬ aK nu ou iw ki la st sz s v = 0 := by
      refine Classical.byContradiction (fun q => h1 (sm_zero (fun s hs => ?_)))
      exact Classical.byContradiction (fun q2 => q ⟨s, hs, q2⟩)
    obtain ⟨s, hs, h2⟩ := this
    refine ⟨8 * s + v, by omega, ?_, by omega⟩
    rw [mY_walk_at h.1 h.2.1 y sz (Nat.le_refl _) s v hs hv]
    exact h2
  · rintro ⟨c, hc, h1, h2⟩
    refine ⟨c % 8, by omega, ?_, h2⟩
    rw [h.row (by omega)]
    intro q
    have q2 := sm_of_zero q (c / 8) (by omega)
    apply h1
    have q3 := mY_walk_at (nu := nu) (st := st) h.1 h.2.1 y sz (Nat.le_refl _) (c / 8) (c % 8) (by omega) (by omega)
    rw [show 8 * (c / 8) + c % 8 = c by omega] at q3
    rw [q3]
    exact q2
theorem Rl.startsAt (h : Rl ec sz st kn nu ou iw ki la he to bg en lb nm) (y : (Nat → Nat) × (Nat → Nat)) {v : Nat} (hv : v < 8) : (mX_startsAt nu ou iw ki la sz st v 8 (0, kn, he, be, to)).1 = mY_startsAt (mY_walk nu bg en lb ki nm ec st sz y).1 v 8 := by
  rw [mX_startsAt_v (x := (kn, he, be, to)) h.2.2.2.2.1]
  unfold mY_startsAt
  refine it_congr (fun s a hs => ?_)
  rw [(h.known (be := be)).2.1 s v hs hv, mY_walk_at h.1 h.2.1 y sz (Nat.le_refl _) s v hs hv]
theorem Rl.dies (h : Rl ec sz st kn nu ou iw ki la he to bg en lb nm) : ∀ (n i : Nat) (y : (Nat → Nat) × (Nat → Nat)), i + n = sz + 1 → mX_dies (mX_walk nu ou iw ki la sz st (kn, he, be, to)).2.2.2 n i = (mY_dies nu bg en lb ki nm ec st n i y).1
  | 0, i, y, _ => rfl
  | n + 1, i, y, hi => by
    have e1 := (h.known (be := be)).2.2 i (by omega)
    have e2 : mY_total (mY_walk nu bg en lb ki nm ec st i y).1 = aT nu ou iw ki la st i := mY_total_at (mY_walk_at h.1 h.2.1 y i (by omega))
    rw [mX_dies, mY_dies, e1, e2]
    by_cases c : aT nu ou iw ki la st i = 0
    · rw [if_pos c, if_pos c]
    · rw [if_neg c, if_neg c]
      exact h.dies n (i + 1) _ (by omega)
end
end
section
/-! every call of the law: both answer alike, and the relation is kept -/
set_option maxRecDepth 100000
set_option maxHeartbeats 1000000 in
theorem st_mark (l : Launch) (D : va_G) (q : Nat → Nat) (d : Nat → ClassId) (q2 : Nat → Nat) (d2 : Nat → ClassId) {x : SX} {y : SY} (h : Rel x y) (v k : Int32) : Both l D q d q2 d2 yX0_mark cX0_mark 3 rmX0_mark yX1_mark cX1_mark 3 rmX1_mark .boolean [.int v, .int k] x y := by
  obtain ⟨ec, sz, st, kn, nu, ou, iw, ki, la, he, be, to, bg, en, lb, nm, nw, th, rfl, rfl, R⟩ := h
  obtain ⟨hE, hP, hn, hs, hk, hw⟩ := id R
  obtain ⟨p1, p2, p3, p4, p5⟩ := id hP
  obtain ⟨e1, e2, e3, e4, e5, e6, e7, e8, e9⟩ := id hE
  by_cases c : wq_isV v = 0 ∨ k.toInt < 0 ∨ 9 < k.toInt
  · exact ⟨nI 0, (ec, sz, st, kn, nu, ou, iw, ki, la, he, be, to), (ec, sz, st, nu, bg, en, lb, ki, nm, nw, th), cX_mark_no l D q d ec sz st kn nu ou iw ki la he be to v k c, cY_mark_no l D q2 d2 ec sz st nu bg en lb ki nm nw th v k c, ⟨ec, sz, st, kn, nu, ou, iw, ki, la, he, be, to, bg, en, lb, nm, nw, th, rfl, rfl, R⟩⟩
  · obtain ⟨i, hi, rfl⟩ := wq_isV_nat (x := v) (by omega)
    obtain ⟨j, hj, rfl⟩ := wq_nat (x := k) (n := 10) (by decide) (by omega) (by omega)
    exact ⟨nI 1, (ec, sz, st, 0, wq_up nu i j, ou, iw, ki, la, he, be, to), (ec, sz, st, wq_up nu i j, bg, en, lb, ki, nm, nw, th), cX_mark_ok l D q d ec sz st kn nu ou iw ki la he be to i j hi (by omega), cY_mark_ok l D q2 d2 ec sz st nu bg en lb ki nm nw th i j hi (by omega), ⟨ec, sz, st, 0, wq_up nu i j, ou, iw, ki, la, he, be, to, bg, en, lb, nm, nw, th, rfl, rfl, ⟨hE, hP, wq_up_le hn (by omega), hs, Nat.zero_le _, fun z => by cases z⟩⟩⟩
set_option maxHeartbeats 1000000 in
theorem st_join (l : Launch) (D : va_G) (q : Nat → Nat) (d : Nat → ClassId) (q2 : Nat → Nat) (d2 : Nat → ClassId) {x : SX} {y : SY} (h : Rel x y) (a b j : Int32) : Both l D q d q2 d2 yX0_join cX0_join 4 rmX0_join yX1_join cX1_join 4 rmX1_join .boolean [.int a, .int b, .int j] x y := by
  obtain ⟨ec, sz, st, kn, nu, ou, iw, ki, la, he, be, to, bg, en, lb, nm, nw, th, rfl, rfl, R⟩ := h
  obtain ⟨hE, hP, hn, hs, hk, hw⟩ := id R
  obtain ⟨p1, p2, p3, p4, p5⟩ := id hP
  obtain ⟨e1, e2, e3, e4, e5, e6, e7, e8, e9⟩ := id hE
  by_cases c : wq_isE a b j = 0
  · exact ⟨nI 0, (ec, sz, st, kn, nu, ou, iw, ki, la, he, be, to), (ec, sz, st, nu, bg, en, lb, ki, nm, nw, th), cX_join_no l D q d ec sz st kn nu ou iw ki la he be to a b j c, cY_join_no l D q2 d2 ec sz st nu bg en lb ki nm nw th a b j c, ⟨ec, sz, st, kn, nu, ou, iw, ki, la, he, be, to, bg, en, lb, nm, nw, th, rfl, rfl, R⟩⟩
  · obtain ⟨u, v, w, hu, hv, huv, hw2, rfl, rfl, rfl⟩ := wq_isE_nat c
    rcases hE.find hu hv hw2 with ⟨i, hi, f1, f2, f3, f4, f5⟩ | ⟨f4, f5⟩
    · exact ⟨nI 0, (ec, sz, st, kn, nu, ou, iw, ki, la, he, be, to), (ec, sz, st, nu, bg, en, lb, ki, nm, nw, th), cX_join_there l D q d ec sz st kn nu ou iw ki la he be to u v w hu hv huv hw2 e8 (by omega) (Or.inl (by omega)), cY_join_there l D q2 d2 ec sz st nu bg en lb ki nm nw th u v w e4 e5 e6 e7 hu hv huv hw2 (Or.inl (by rw [f4, nI_toInt (by omega)]; omega)), ⟨ec, sz, st, kn, nu, ou, iw, ki, la, he, be, to, bg, en, lb, nm, nw, th, rfl, rfl, R⟩⟩
    · by_cases c10 : 10 ≤ ec
      · exact ⟨nI 0, (ec, sz, st, kn, nu, ou, iw, ki, la, he, be, to), (ec, sz, st, nu, bg, en, lb, ki, nm, nw, th), cX_join_there l D q d ec sz st kn nu ou iw ki la he be to u v w hu hv huv hw2 e8 (by omega) (Or.inr c10), cY_join_there l D q2 d2 ec sz st nu bg en lb ki nm nw th u v w e4 e5 e6 e7 hu hv huv hw2 (Or.inr c10), ⟨ec, sz, st, kn, nu, ou, iw, ki, la, he, be, to, bg, en, lb, nm, nw, th, rfl, rfl, R⟩⟩
      · exact ⟨nI 1, (ec + 1, sz, st, 0, nu, wq_up ou (w * 8 + u) (ou (w * 8 + u) ^^^ 2 ^ v), wq_up iw (w * 8 + v) (iw (w * 8 + v) ^^^ 2 ^ u), ki, la, he, be, to), (ec + 1, sz, st, nu, wq_up bg ec u, wq_up en ec v, wq_up lb ec w, ki, nm, nw, th), cX_join_ok l D q d ec sz st kn nu ou iw ki la he be to u v w hu hv huv hw2 e8 e9 (by omega) f5, cY_join_ok l D q2 d2 ec sz st nu bg en lb ki nm nw th u v w e4 e5 e6 e7 hu hv huv hw2 f4 (by omega), ⟨ec + 1, sz, st, 0, nu, wq_up ou (w * 8 + u) (ou (w * 8 + u) ^^^ 2 ^ v), wq_up iw (w * 8 + v) (iw (w * 8 + v) ^^^ 2 ^ u), ki, la, he, be, to, wq_up bg ec u, wq_up en ec v, wq_up lb ec w, nm, nw, th, rfl, rfl, ⟨hE.join hu hv huv hw2 (by omega) f5, hP, hn, hs, Nat.zero_le _, fun z => by cases z⟩⟩⟩
set_option maxHeartbeats 1000000 in
theorem st_cut (l : Launch) (D : va_G) (q : Nat → Nat) (d : Nat → ClassId) (q2 : Nat → Nat) (d2 : Nat → ClassId) {x : SX} {y : SY} (h : Rel x y) (a b j : Int32) : Both l D q d q2 d2 yX0_cut cX0_cut 4 rmX0_cut yX1_cut cX1_cut 5 rmX1_cut .boolean [.int a, .int b, .int j] x y := by
  obtain ⟨ec, sz, st, kn, nu, ou, iw, ki, la, he, be, to, bg, en, lb, nm, nw, th, rfl, rfl, R⟩ := h
  obtain ⟨hE, hP, hn, hs, hk, hw⟩ := id R
  obtain ⟨p1, p2, p3, p4, p5⟩ := id hP
  obtain ⟨e1, e2, e3, e4, e5, e6, e7, e8, e9⟩ := id hE
  by_cases c : wq_isE a b j = 0
  · exact ⟨nI 0, (ec, sz, st, kn, nu, ou, iw, ki, la, he, be, to), (ec, sz, st, nu, bg, en, lb, ki, nm, nw, th), cX_cut_no l D q d ec sz st kn nu ou iw ki la he be to a b j c, cY_cut_no l D q2 d2 ec sz st nu bg en lb ki nm nw th a b j e4 e5 e6 e7 (hE.find_no c), ⟨ec, sz, st, kn, nu, ou, iw, ki, la, he, be, to, bg, en, lb, nm, nw, th, rfl, rfl, R⟩⟩
  · obtain ⟨u, v, w, hu, hv, huv, hw2, rfl, rfl, rfl⟩ := wq_isE_nat c
    rcases hE.find hu hv hw2 with ⟨i, hi, rfl, rfl, rfl, f4, f5⟩ | ⟨f4, f5⟩
    · obtain ⟨m, rfl⟩ : ∃ m, ec = m + 1 := ⟨ec - 1, by omega⟩
      exact ⟨nI 1, (m, sz, st, 0, nu, wq_up ou (lb i * 8 + bg i) (ou (lb i * 8 + bg i) ^^^ 2 ^ en i), wq_up iw (lb i * 8 + en i) (iw (lb i * 8 + en i) ^^^ 2 ^ bg i), ki, la, he, be, to), (m, sz, st, nu, wq_up bg i (bg m), wq_up en i (en m), wq_up lb i (lb m), ki, nm, nw, th), cX_cut_ok l D q d (m + 1) sz st kn nu ou iw ki la he be to (bg i) (en i) (lb i) hu hv huv hw2 e8 e9 (by omega) (by omega), cY_cut_ok l D q2 d2 (m + 1) sz st nu bg en lb ki nm nw th (nI (bg i)) (nI (en i)) (nI (lb i)) i e4 e5 e6 e7 f4 hi, ⟨m, sz, st, 0, nu, wq_up ou (lb i * 8 + bg i) (ou (lb i * 8 + bg i) ^^^ 2 ^ en i), wq_up iw (lb i * 8 + en i) (iw (lb i * 8 + en i) ^^^ 2 ^ bg i), ki, la, he, be, to, wq_up bg i (bg m), wq_up en i (en m), wq_up lb i (lb m), nm, nw, th, rfl, rfl, ⟨hE.cut hi, hP, hn, hs, Nat.zero_le _, fun z => by cases z⟩⟩⟩
    · exact ⟨nI 0, (ec, sz, st, kn, nu, ou, iw, ki, la, he, be, to), (ec, sz, st, nu, bg, en, lb, ki, nm, nw, th), cX_cut_not l D q d ec sz st kn nu ou iw ki la he be to u v w hu hv huv hw2 e8 f5, cY_cut_no l D q2 d2 ec sz st nu bg en lb ki nm nw th (nI u) (nI v) (nI w) e4 e5 e6 e7 f4, ⟨ec, sz, st, kn, nu, ou, iw, ki, la, he, be, to, bg, en, lb, nm, nw, th, rfl, rfl, R⟩⟩
theorem Pl.add {sz : Nat} {ki la : Nat → Nat} {nm : Nat → Int32} (h : Pl sz ki la nm) {k x : Nat} {z : Int32} (hsz : sz < 6) (hk : k ≤ 7) (hx : x ≤ 9) (h4 : k ≤ 4 → z = nI x) (h3 : k ≤ 3 → x ≤ 2) : Pl (sz + 1) (wq_up ki sz k) (wq_up la sz x) (upd nm sz z) := by
  obtain ⟨p1, p2, p3, p4, p5⟩ := h
  refine ⟨by omega, wq_up_le p2 hk, wq_up_le p3 hx, ?_, ?_⟩
  · intro i hi h
    unfold wq_up at h ⊢
    unfold upd
    by_cases c : i = sz
    · rw [if_pos c] at h ⊢
      rw [if_pos c]
      exact h4 h
    · rw [if_neg c] at h ⊢
      rw [if_neg c]
      exact p4 i (by omega) h
  · intro i hi h
    unfold wq_up at h ⊢
    by_cases c : i = sz
    · rw [if_pos c] at h ⊢
      exact h3 h
    · rw [if_neg c] at h ⊢
      exact p5 i (by omega) h
theorem Pl.drop {sz : Nat} {ki la : Nat → Nat} {nm : Nat → Int32} (h : Pl sz ki la nm) : Pl (sz - 1) ki la nm := by
  obtain ⟨p1, p2, p3, p4, p5⟩ := h
  exact ⟨by omega, p2, p3, fun k hk => p4 k (by omega), fun k hk => p5 k (by omega)⟩
set_option maxHeartbeats 1000000 in
theorem st_add (l : Launch) (D : va_G) (q : Nat → Nat) (d : Nat → ClassId) (q2 : Nat → Nat) (d2 : Nat → ClassId) {x : SX} {y : SY} (h : Rel x y) (k z : Int32) : Both l D q d q2 d2 yX0_add cX0_add 4 rmX0_add yX1_add cX1_add 3 rmX1_add .int [.int k, .int z] x y := by
  obtain ⟨ec, sz, st, kn, nu, ou, iw, ki, la, he, be, to, bg, en, lb, nm, nw, th, rfl, rfl, R⟩ := h
  obtain ⟨hE, hP, hn, hs, hk, hw⟩ := id R
  obtain ⟨p1, p2, p3, p4, p5⟩ := id hP
  obtain ⟨e1, e2, e3, e4, e5, e6, e7, e8, e9⟩ := id hE
  by_cases c : (0 ≤ k.toInt ∧ k.toInt ≤ 7) ∧ (k.toInt ≤ 3 → 0 ≤ z.toInt ∧ z.toInt ≤ 2) ∧ (k.toInt = 4 → 0 ≤ z.toInt ∧ z.toInt ≤ 9)
  · by_cases c6 : 6 ≤ sz
    · exact ⟨(-2), (ec, sz, st, kn, nu, ou, iw, ki, la, he, be, to), (ec, sz, st, nu, bg, en, lb, ki, nm, nw, th), cX_add_full l D q d ec sz st kn nu ou iw ki la he be to k z c6 (by omega) c, cY_add_full l D q2 d2 ec sz st nu bg en lb ki nm nw th k z c6 (by omega) c, ⟨ec, sz, st, kn, nu, ou, iw, ki, la, he, be, to, bg, en, lb, nm, nw, th, rfl, rfl, R⟩⟩
    · obtain ⟨k, hk8, rfl⟩ := wq_nat (x := k) (n := 8) (by decide) (by omega) (by omega)
      rw [nI_toInt (by omega)] at c
      by_cases c4 : k ≤ 4
      · obtain ⟨z, hz, rfl⟩ := wq_nat (x := z) (n := 10) (by decide) (by omega) (by omega)
        have tz := nI_toInt (n := z) (by omega)
        exact ⟨nI (sz + 1), (ec, sz + 1, st, 0, nu, ou, iw, wq_up ki sz k, wq_up la sz z, he, be, to), (ec, sz + 1, st, nu, bg, en, lb, wq_up ki sz k, upd nm sz (nI z), nw, th), cX_add_ok l D q d ec sz st kn nu ou iw ki la he be to k z (by omega) c4 (by omega) (by omega), cY_add_ok l D q2 d2 ec sz st nu bg en lb ki nm nw th k (nI z) (by omega) (by omega) (by omega) (by omega), ⟨ec, sz + 1, st, 0, nu, ou, iw, wq_up ki sz k, wq_up la sz z, he, be, to, bg, en, lb, upd nm sz (nI z), nw, th, rfl, rfl, ⟨hE, hP.add (by omega) (by omega) (by omega) (fun _ => rfl) (by omega), hn, hs, Nat.zero_le _, fun z => by cases z⟩⟩⟩
      · exact ⟨nI (sz + 1), (ec, sz + 1, st, 0, nu, ou, iw, wq_up ki sz k, wq_up la sz 0, he, be, to), (ec, sz + 1, st, nu, bg, en, lb, wq_up ki sz k, upd nm sz z, nw, th), cX_add_ok2 l D q d ec sz st kn nu ou iw ki la he be to k z (by omega) (by omega) (by omega), cY_add_ok l D q2 d2 ec sz st nu bg en lb ki nm nw th k z (by omega) (by omega) (by omega) (by omega), ⟨ec, sz + 1, st, 0, nu, ou, iw, wq_up ki sz k, wq_up la sz 0, he, be, to, bg, en, lb, upd nm sz z, nw, th, rfl, rfl, ⟨hE, hP.add (x := 0) (by omega) (by omega) (by omega) (fun q => absurd q c4) (by omega), hn, hs, Nat.zero_le _, fun z => by cases z⟩⟩⟩
  · exact ⟨(-1), (ec, sz, st, kn, nu, ou, iw, ki, la, he, be, to), (ec, sz, st, nu, bg, en, lb, ki, nm, nw, th), cX_add_no l D q d ec sz st kn nu ou iw ki la he be to k z c, cY_add_no l D q2 d2 ec sz st nu bg en lb ki nm nw th k z c, ⟨ec, sz, st, kn, nu, ou, iw, ki, la, he, be, to, bg, en, lb, nm, nw, th, rfl, rfl, R⟩⟩
set_option maxHeartbeats 1000000 in
theorem st_drop (l : Launch) (D : va_G) (q : Nat → Nat) (d : Nat → ClassId) (q2 : Nat → Nat) (d2 : Nat → ClassId) {x : SX} {y : SY} (h : Rel x y) : Both l D q d q2 d2 yX0_drop cX0_drop 1 rmX0_drop yX1_drop cX1_drop 1 rmX1_drop .int [] x y := by
  obtain ⟨ec, sz, st, kn, nu, ou, iw, ki, la, he, be, to, bg, en, lb, nm, nw, th, rfl, rfl, R⟩ := h
  obtain ⟨hE, hP, hn, hs, hk, hw⟩ := id R
  obtain ⟨p1, p2, p3, p4, p5⟩ := id hP
  obtain ⟨e1, e2, e3, e4, e5, e6, e7, e8, e9⟩ := id hE
  by_cases c : sz = 0
  · exact ⟨(-1), (ec, sz, st, kn, nu, ou, iw, ki, la, he, be, to), (ec, sz, st, nu, bg, en, lb, ki, nm, nw, th), cX_drop_no l D q d ec sz st kn nu ou iw ki la he be to c, cY_drop_no l D q2 d2 ec sz st nu bg en lb ki nm nw th c, ⟨ec, sz, st, kn, nu, ou, iw, ki, la, he, be, to, bg, en, lb, nm, nw, th, rfl, rfl, R⟩⟩
  · exact ⟨nI (sz - 1), (ec, sz - 1, st, 0, nu, ou, iw, ki, la, he, be, to), (ec, sz - 1, st, nu, bg, en, lb, ki, nm, nw, th), cX_drop_ok l D q d ec sz st kn nu ou iw ki la he be to (by omega) p1, cY_drop_ok l D q2 d2 ec sz st nu bg en lb ki nm nw th (by omega) p1, ⟨ec, sz - 1, st, 0, nu, ou, iw, ki, la, he, be, to, bg, en, lb, nm, nw, th, rfl, rfl, ⟨hE, hP.drop, hn, hs, Nat.zero_le _, fun z => by cases z⟩⟩⟩
set_option maxHeartbeats 1000000 in
theorem st_from (l : Launch) (D : va_G) (q : Nat → Nat) (d : Nat → ClassId) (q2 : Nat → Nat) (d2 : Nat → ClassId) {x : SX} {y : SY} (h : Rel x y) (z : Int32) : Both l D q d q2 d2 yX0_from cX0_from 2 rmX0_from yX1_from cX1_from 2 rmX1_from .boolean [.int z] x y := by
  obtain ⟨ec, sz, st, kn, nu, ou, iw, ki, la, he, be, to, bg, en, lb, nm, nw, th, rfl, rfl, R⟩ := h
  obtain ⟨hE, hP, hn, hs, hk, hw⟩ := id R
  obtain ⟨p1, p2, p3, p4, p5⟩ := id hP
  obtain ⟨e1, e2, e3, e4, e5, e6, e7, e8, e9⟩ := id hE
  by_cases c : z.toInt < 0 ∨ 255 < z.toInt
  · exact ⟨nI 0, (ec, sz, st, kn, nu, ou, iw, ki, la, he, be, to), (ec, sz, st, nu, bg, en, lb, ki, nm, nw, th), cX_from_no l D q d ec sz st kn nu ou iw ki la he be to z c, cY_from_no l D q2 d2 ec sz st nu bg en lb ki nm nw th z c, ⟨ec, sz, st, kn, nu, ou, iw, ki, la, he, be, to, bg, en, lb, nm, nw, th, rfl, rfl, R⟩⟩
  · obtain ⟨i, hi, rfl⟩ := wq_nat (x := z) (n := 256) (by decide) (by omega) (by omega)
    exact ⟨nI 1, (ec, sz, i, 0, nu, ou, iw, ki, la, he, be, to), (ec, sz, i, nu, bg, en, lb, ki, nm, nw, th), cX_from_ok l D q d ec sz st kn nu ou iw ki la he be to i (by omega), cY_from_ok l D q2 d2 ec sz st nu bg en lb ki nm nw th i (by omega), ⟨ec, sz, i, 0, nu, ou, iw, ki, la, he, be, to, bg, en, lb, nm, nw, th, rfl, rfl, ⟨hE, hP, hn, hi, Nat.zero_le _, fun z => by cases z⟩⟩⟩
set_option maxHeartbeats 1000000 in
theorem st_edges (l : Launch) (D : va_G) (q : Nat → Nat) (d : Nat → ClassId) (q2 : Nat → Nat) (d2 : Nat → ClassId) {x : SX} {y : SY} (h : Rel x y) : Both l D q d q2 d2 yX0_edges cX0_edges 1 rmX0_edges yX1_edges cX1_edges 1 rmX1_edges .int [] x y := by
  obtain ⟨ec, sz, st, kn, nu, ou, iw, ki, la, he, be, to, bg, en, lb, nm, nw, th, rfl, rfl, R⟩ := h
  obtain ⟨hE, hP, hn, hs, hk, hw⟩ := id R
  obtain ⟨p1, p2, p3, p4, p5⟩ := id hP
  obtain ⟨e1, e2, e3, e4, e5, e6, e7, e8, e9⟩ := id hE
  exact ⟨nI ec, (ec, sz, st, kn, nu, ou, iw, ki, la, he, be, to), (ec, sz, st, nu, bg, en, lb, ki, nm, nw, th), cX_edges l D q d ec sz st kn nu ou iw ki la he be to, cY_edges l D q2 d2 ec sz st nu bg en lb ki nm nw th, ⟨ec, sz, st, kn, nu, ou, iw, ki, la, he, be, to, bg, en, lb, nm, nw, th, rfl, rfl, R⟩⟩
set_option maxHeartbeats 1000000 in
theorem st_at (l : Launch) (D : va_G) (q : Nat → Nat) (d : Nat → ClassId) (q2 : Nat → Nat) (d2 : Nat → ClassId) {x : SX} {y : SY} (h : Rel x y) (v : Int32) : Both l D q d q2 d2 yX0_at cX0_at 4 rmX0_at yX1_at cX1_at 4 rmX1_at .int [.int v] x y := by
  obtain ⟨ec, sz, st, kn, nu, ou, iw, ki, la, he, be, to, bg, en, lb, nm, nw, th, rfl, rfl, R⟩ := h
  obtain ⟨hE, hP, hn, hs, hk, hw⟩ := id R
  obtain ⟨p1, p2, p3, p4, p5⟩ := id hP
  obtain ⟨e1, e2, e3, e4, e5, e6, e7, e8, e9⟩ := id hE
  by_cases c : wq_isV v = 0
  · exact ⟨nI 0, (ec, sz, st, kn, nu, ou, iw, ki, la, he, be, to), (ec, sz, st, nu, bg, en, lb, ki, nm, (mY_walk nu bg en lb ki nm ec st sz (nw, th)).1, (mY_walk nu bg en lb ki nm ec st sz (nw, th)).2), cX_at_no l D q d ec sz st kn nu ou iw ki la he be to v c, cY_at_no l D q2 d2 ec sz st nu bg en lb ki nm nw th v R.okY c, ⟨ec, sz, st, kn, nu, ou, iw, ki, la, he, be, to, bg, en, lb, nm, (mY_walk nu bg en lb ki nm ec st sz (nw, th)).1, (mY_walk nu bg en lb ki nm ec st sz (nw, th)).2, rfl, rfl, R⟩⟩
  · obtain ⟨i, hi, rfl⟩ := wq_isV_nat c
    exact ⟨nI (mX_row (mX_walk nu ou iw ki la sz st (kn, he, be, to)).2.1 i), (ec, sz, st, (mX_walk nu ou iw ki la sz st (kn, he, be, to)).1, nu, ou, iw, ki, la, (mX_walk nu ou iw ki la sz st (kn, he, be, to)).2.1, (mX_walk nu ou iw ki la sz st (kn, he, be, to)).2.2.1, (mX_walk nu ou iw ki la sz st (kn, he, be, to)).2.2.2), (ec, sz, st, nu, bg, en, lb, ki, nm, (mY_walk nu bg en lb ki nm ec st sz (nw, th)).1, (mY_walk nu bg en lb ki nm ec st sz (nw, th)).2), cX_at_ok l D q d ec sz st kn nu ou iw ki la he be to i R.okX hi, by rw [R.row hi, ← R.rowY (nw, th) hi]; exact cY_at_ok l D q2 d2 ec sz st nu bg en lb ki nm nw th i R.okY hi, ⟨ec, sz, st, (mX_walk nu ou iw ki la sz st (kn, he, be, to)).1, nu, ou, iw, ki, la, (mX_walk nu ou iw ki la sz st (kn, he, be, to)).2.1, (mX_walk nu ou iw ki la sz st (kn, he, be, to)).2.2.1, (mX_walk nu ou iw ki la sz st (kn, he, be, to)).2.2.2, bg, en, lb, nm, (mY_walk nu bg en lb ki nm ec st sz (nw, th)).1, (mY_walk nu bg en lb ki nm ec st sz (nw, th)).2, rfl, rfl, R.walk⟩⟩
set_option maxHeartbeats 1000000 in
theorem st_walkers (l : Launch) (D : va_G) (q : Nat → Nat) (d : Nat → ClassId) (q2 : Nat → Nat) (d2 : Nat → ClassId) {x : SX} {y : SY} (h : Rel x y) : Both l D q d q2 d2 yX0_walkers cX0_walkers 1 rmX0_walkers yX1_walkers cX1_walkers 1 rmX1_walkers .int [] x y := by
  obtain ⟨ec, sz, st, kn, nu, ou, iw, ki, la, he, be, to, bg, en, lb, nm, nw, th, rfl, rfl, R⟩ := h
  obtain ⟨hE, hP, hn, hs, hk, hw⟩ := id R
  obtain ⟨p1, p2, p3, p4, p5⟩ := id hP
  obtain ⟨e1, e2, e3, e4, e5, e6, e7, e8, e9⟩ := id hE
  exact ⟨nI ((mX_walk nu ou iw ki la sz st (kn, he, be, to)).2.2.2 sz), (ec, sz, st, (mX_walk nu ou iw ki la sz st (kn, he, be, to)).1, nu, ou, iw, ki, la, (mX_walk nu ou iw ki la sz st (kn, he, be, to)).2.1, (mX_walk nu ou iw ki la sz st (kn, he, be, to)).2.2.1, (mX_walk nu ou iw ki la sz st (kn, he, be, to)).2.2.2), (ec, sz, st, nu, bg, en, lb, ki, nm, (mY_walk nu bg en lb ki nm ec st sz (nw, th)).1, (mY_walk nu bg en lb ki nm ec st sz (nw, th)).2), cX_walkers l D q d ec sz st kn nu ou iw ki la he be to R.okX, by rw [(R.known (be := be)).2.2 sz (Nat.le_refl _), show aT nu ou iw ki la st sz = mY_total (mY_walk nu bg en lb ki nm ec st sz (nw, th)).1 from (mY_total_at (mY_walk_at hE hP (nw, th) sz (Nat.le_refl _))).symm]; exact cY_walkers l D q2 d2 ec sz st nu bg en lb ki nm nw th R.okY, ⟨ec, sz, st, (mX_walk nu ou iw ki la sz st (kn, he, be, to)).1, nu, ou, iw, ki, la, (mX_walk nu ou iw ki la sz st (kn, he, be, to)).2.1, (mX_walk nu ou iw ki la sz st (kn, he, be, to)).2.2.1, (mX_walk nu ou iw ki la sz st (kn, he, be, to)).2.2.2, bg, en, lb, nm, (mY_walk nu bg en lb ki nm ec st sz (nw, th)).1, (mY_walk nu bg en lb ki nm ec st sz (nw, th)).2, rfl, rfl, R.walk⟩⟩
set_option maxHeartbeats 1000000 in
theorem st_after (l : Launch) (D : va_G) (q : Nat → Nat) (d : Nat → ClassId) (q2 : Nat → Nat) (d2 : Nat → ClassId) {x : SX} {y : SY} (h : Rel x y) (k : Int32) : Both l D q d q2 d2 yX0_after cX0_after 2 rmX0_after yX1_after cX1_after 4 rmX1_after .int [.int k] x y := by
  obtain ⟨ec, sz, st, kn, nu, ou, iw, ki, la, he, be, to, bg, en, lb, nm, nw, th, rfl, rfl, R⟩ := h
  obtain ⟨hE, hP, hn, hs, hk, hw⟩ := id R
  obtain ⟨p1, p2, p3, p4, p5⟩ := id hP
  obtain ⟨e1, e2, e3, e4, e5, e6, e7, e8, e9⟩ := id hE
  by_cases c : k.toInt < 0 ∨ (sz : Int) < k.toInt
  · exact ⟨(-1), (ec, sz, st, kn, nu, ou, iw, ki, la, he, be, to), (ec, sz, st, nu, bg, en, lb, ki, nm, nw, th), cX_after_no l D q d ec sz st kn nu ou iw ki la he be to k (by omega) c, cY_after_no l D q2 d2 ec sz st nu bg en lb ki nm nw th k (by omega) c, ⟨ec, sz, st, kn, nu, ou, iw, ki, la, he, be, to, bg, en, lb, nm, nw, th, rfl, rfl, R⟩⟩
  · obtain ⟨i, hi, rfl⟩ := wq_nat (x := k) (n := sz + 1) (by omega) (by omega) (by omega)
    exact ⟨nI ((mX_walk nu ou iw ki la sz st (kn, he, be, to)).2.2.2 i), (ec, sz, st, (mX_walk nu ou iw ki la sz st (kn, he, be, to)).1, nu, ou, iw, ki, la, (mX_walk nu ou iw ki la sz st (kn, he, be, to)).2.1, (mX_walk nu ou iw ki la sz st (kn, he, be, to)).2.2.1, (mX_walk nu ou iw ki la sz st (kn, he, be, to)).2.2.2), (ec, sz, st, nu, bg, en, lb, ki, nm, (mY_walk nu bg en lb ki nm ec st i (nw, th)).1, (mY_walk nu bg en lb ki nm ec st i (nw, th)).2), cX_after_ok l D q d ec sz st kn nu ou iw ki la he be to i R.okX (by omega), by rw [(R.known (be := be)).2.2 i (by omega), show aT nu ou iw ki la st i = mY_total (mY_walk nu bg en lb ki nm ec st i (nw, th)).1 from (mY_total_at (mY_walk_at hE hP (nw, th) i (by omega))).symm]; exact cY_after_ok l D q2 d2 ec sz st nu bg en lb ki nm nw th i R.okY (by omega), ⟨ec, sz, st, (mX_walk nu ou iw ki la sz st (kn, he, be, to)).1, nu, ou, iw, ki, la, (mX_walk nu ou iw ki la sz st (kn, he, be, to)).2.1, (mX_walk nu ou iw ki la sz st (kn, he, be, to)).2.2.1, (mX_walk nu ou iw ki la sz st (kn, he, be, to)).2.2.2, bg, en, lb, nm, (mY_walk nu bg en lb ki nm ec st i (nw, th)).1, (mY_walk nu bg en lb ki nm ec st i (nw, th)).2, rfl, rfl, R.walk⟩⟩
set_option maxHeartbeats 1000000 in
theorem st_between (l : Launch) (D : va_G) (q : Nat → Nat) (d : Nat → ClassId) (q2 : Nat → Nat) (d2 : Nat → ClassId) {x : SX} {y : SY} (h : Rel x y) (u v : Int32) : Both l D q d q2 d2 yX0_between cX0_between 3 rmX0_between yX1_between cX1_between 3 rmX1_between .int [.int u, .int v] x y := by
  obtain ⟨ec, sz, st, kn, nu, ou, iw, ki, la, he, be, to, bg, en, lb, nm, nw, th, rfl, rfl, R⟩ := h
  obtain ⟨hE, hP, hn, hs, hk, hw⟩ := id R
  obtain ⟨p1, p2, p3, p4, p5⟩ := id hP
  obtain ⟨e1, e2, e3, e4, e5, e6, e7, e8, e9⟩ := id hE
  by_cases c : wq_isV u = 0 ∨ wq_isV v = 0
  · exact ⟨nI 0, (ec, sz, st, kn, nu, ou, iw, ki, la, he, be, to), (ec, sz, st, nu, bg, en, lb, ki, nm, (mY_walk nu bg en lb ki nm ec st sz (nw, th)).1, (mY_walk nu bg en lb ki nm ec st sz (nw, th)).2), cX_between_no l D q d ec sz st kn nu ou iw ki la he be to u v c, cY_between_no l D q2 d2 ec sz st nu bg en lb ki nm nw th u v R.okY c, ⟨ec, sz, st, kn, nu, ou, iw, ki, la, he, be, to, bg, en, lb, nm, (mY_walk nu bg en lb ki nm ec st sz (nw, th)).1, (mY_walk nu bg en lb ki nm ec st sz (nw, th)).2, rfl, rfl, R⟩⟩
  · obtain ⟨i, hi, rfl⟩ := wq_isV_nat (x := u) (by omega)
    obtain ⟨j, hj, rfl⟩ := wq_isV_nat (x := v) (by omega)
    exact ⟨nI ((mX_walk nu ou iw ki la sz st (kn, he, be, to)).2.1 (j * 8 + i)), (ec, sz, st, (mX_walk nu ou iw ki la sz st (kn, he, be, to)).1, nu, ou, iw, ki, la, (mX_walk nu ou iw ki la sz st (kn, he, be, to)).2.1, (mX_walk nu ou iw ki la sz st (kn, he, be, to)).2.2.1, (mX_walk nu ou iw ki la sz st (kn, he, be, to)).2.2.2), (ec, sz, st, nu, bg, en, lb, ki, nm, (mY_walk nu bg en lb ki nm ec st sz (nw, th)).1, (mY_walk nu bg en lb ki nm ec st sz (nw, th)).2), cX_between_ok l D q d ec sz st kn nu ou iw ki la he be to i j R.okX hi hj, by rw [(R.known (be := be)).2.1 i j hi hj, ← mY_walk_at hE hP (nw, th) sz (Nat.le_refl _) i j hi hj]; exact cY_between_ok l D q2 d2 ec sz st nu bg en lb ki nm nw th i j R.okY hi hj, ⟨ec, sz, st, (mX_walk nu ou iw ki la sz st (kn, he, be, to)).1, nu, ou, iw, ki, la, (mX_walk nu ou iw ki la sz st (kn, he, be, to)).2.1, (mX_walk nu ou iw ki la sz st (kn, he, be, to)).2.2.1, (mX_walk nu ou iw ki la sz st (kn, he, be, to)).2.2.2, bg, en, lb, nm, (mY_walk nu bg en lb ki nm ec st sz (nw, th)).1, (mY_walk nu bg en lb ki nm ec st sz (nw, th)).2, rfl, rfl, R.walk⟩⟩
section
variable {ec sz st kn : Nat} {nu ou iw ki la he be to bg en lb : Nat → Nat} {nm : Nat → Int32}
theorem Rl.walk2 (h : Rl ec sz st kn nu ou iw ki la he to bg en lb nm) {x : Nat × (Nat → Nat) × (Nat → Nat) × (Nat → Nat)} (e : x = mX_walk nu ou iw ki la sz st (kn, he, be, to)) : Rl ec sz st x.1 nu ou iw ki la x.2.1 x.2.2.2 bg en lb nm := by
  subst e
  exact h.walk
end
set_option maxHeartbeats 1000000 in
theorem st_reached (l : Launch) (D : va_G) (q : Nat → Nat) (d : Nat → ClassId) (q2 : Nat → Nat) (d2 : Nat → ClassId) {x : SX} {y : SY} (h : Rel x y) : Both l D q d q2 d2 yX0_reached cX0_reached 3 rmX0_reached yX1_reached cX1_reached 3 rmX1_reached .int [] x y := by
  obtain ⟨ec, sz, st, kn, nu, ou, iw, ki, la, he, be, to, bg, en, lb, nm, nw, th, rfl, rfl, R⟩ := h
  obtain ⟨hE, hP, hn, hs, hk, hw⟩ := id R
  obtain ⟨p1, p2, p3, p4, p5⟩ := id hP
  obtain ⟨e1, e2, e3, e4, e5, e6, e7, e8, e9⟩ := id hE
  exact ⟨nI (mX_reached nu ou iw ki la sz st 8 (0, kn, he, be, to)).1, (ec, sz, st, (mX_reached nu ou iw ki la sz st 8 (0, kn, he, be, to)).2.1, nu, ou, iw, ki, la, (mX_reached nu ou iw ki la sz st 8 (0, kn, he, be, to)).2.2.1, (mX_reached nu ou iw ki la sz st 8 (0, kn, he, be, to)).2.2.2.1, (mX_reached nu ou iw ki la sz st 8 (0, kn, he, be, to)).2.2.2.2), (ec, sz, st, nu, bg, en, lb, ki, nm, (mY_walk nu bg en lb ki nm ec st sz (nw, th)).1, (mY_walk nu bg en lb ki nm ec st sz (nw, th)).2), cX_reached l D q d ec sz st kn nu ou iw ki la he be to R.okX (fun v hv => R.row_bd hv), by rw [R.reached (nw, th)]; exact cY_reached l D q2 d2 ec sz st nu bg en lb ki nm nw th R.okY, ⟨ec, sz, st, (mX_reached nu ou iw ki la sz st 8 (0, kn, he, be, to)).2.1, nu, ou, iw, ki, la, (mX_reached nu ou iw ki la sz st 8 (0, kn, he, be, to)).2.2.1, (mX_reached nu ou iw ki la sz st 8 (0, kn, he, be, to)).2.2.2.1, (mX_reached nu ou iw ki la sz st 8 (0, kn, he, be, to)).2.2.2.2, bg, en, lb, nm, (mY_walk nu bg en lb ki nm ec st sz (nw, th)).1, (mY_walk nu bg en lb ki nm ec st sz (nw, th)).2, rfl, rfl, R.walk2 (be := be) (x := (mX_reached nu ou iw ki la sz st 8 (0, kn, he, be, to)).2) (mX_reached_w (x := (0, kn, he, be, to)) hk 7)⟩⟩
set_option maxHeartbeats 1000000 in
theorem st_startsAt (l : Launch) (D : va_G) (q : Nat → Nat) (d : Nat → ClassId) (q2 : Nat → Nat) (d2 : Nat → ClassId) {x : SX} {y : SY} (h : Rel x y) (v : Int32) : Both l D q d q2 d2 yX0_startsAt cX0_startsAt 4 rmX0_startsAt yX1_startsAt cX1_startsAt 4 rmX1_startsAt .int [.int v] x y := by
  obtain ⟨ec, sz, st, kn, nu, ou, iw, ki, la, he, be, to, bg, en, lb, nm, nw, th, rfl, rfl, R⟩ := h
  obtain ⟨hE, hP, hn, hs, hk, hw⟩ := id R
  obtain ⟨p1, p2, p3, p4, p5⟩ := id hP
  obtain ⟨e1, e2, e3, e4, e5, e6, e7, e8, e9⟩ := id hE
  by_cases c : wq_isV v = 0
  · exact ⟨nI 0, (ec, sz, st, kn, nu, ou, iw, ki, la, he, be, to), (ec, sz, st, nu, bg, en, lb, ki, nm, (mY_walk nu bg en lb ki nm ec st sz (nw, th)).1, (mY_walk nu bg en lb ki nm ec st sz (nw, th)).2), cX_startsAt_no l D q d ec sz st kn nu ou iw ki la he be to v c, cY_startsAt_no l D q2 d2 ec sz st nu bg en lb ki nm nw th v R.okY c, ⟨ec, sz, st, kn, nu, ou, iw, ki, la, he, be, to, bg, en, lb, nm, (mY_walk nu bg en lb ki nm ec st sz (nw, th)).1, (mY_walk nu bg en lb ki nm ec st sz (nw, th)).2, rfl, rfl, R⟩⟩
  · obtain ⟨i, hi, rfl⟩ := wq_isV_nat c
    exact ⟨nI (mX_startsAt nu ou iw ki la sz st i 8 (0, kn, he, be, to)).1, (ec, sz, st, (mX_startsAt nu ou iw ki la sz st i 8 (0, kn, he, be, to)).2.1, nu, ou, iw, ki, la, (mX_startsAt nu ou iw ki la sz st i 8 (0, kn, he, be, to)).2.2.1, (mX_startsAt nu ou iw ki la sz st i 8 (0, kn, he, be, to)).2.2.2.1, (mX_startsAt nu ou iw ki la sz st i 8 (0, kn, he, be, to)).2.2.2.2), (ec, sz, st, nu, bg, en, lb, ki, nm, (mY_walk nu bg en lb ki nm ec st sz (nw, th)).1, (mY_walk nu bg en lb ki nm ec st sz (nw, th)).2), cX_startsAt_ok l D q d ec sz st kn nu ou iw ki la he be to i R.okX hi R.cell_bd, by rw [R.startsAt (nw, th) hi]; exact cY_startsAt_ok l D q2 d2 ec sz st nu bg en lb ki nm nw th i R.okY hi, ⟨ec, sz, st, (mX_startsAt nu ou iw ki la sz st i 8 (0, kn, he, be, to)).2.1, nu, ou, iw, ki, la, (mX_startsAt nu ou iw ki la sz st i 8 (0, kn, he, be, to)).2.2.1, (mX_startsAt nu ou iw ki la sz st i 8 (0, kn, he, be, to)).2.2.2.1, (mX_startsAt nu ou iw ki la sz st i 8 (0, kn, he, be, to)).2.2.2.2, bg, en, lb, nm, (mY_walk nu bg en lb ki nm ec st sz (nw, th)).1, (mY_walk nu bg en lb ki nm ec st sz (nw, th)).2, rfl, rfl, R.walk2 (be := be) (x := (mX_startsAt nu ou iw ki la sz st i 8 (0, kn, he, be, to)).2) (mX_startsAt_w (x := (0, kn, he, be, to)) hk 7)⟩⟩
set_option maxHeartbeats 1000000 in
theorem st_diesAfter (l : Launch) (D : va_G) (q : Nat → Nat) (d : Nat → ClassId) (q2 : Nat → Nat) (d2 : Nat → ClassId) {x : SX} {y : SY} (h : Rel x y) : Both l D q d q2 d2 yX0_diesAfter cX0_diesAfter 2 rmX0_diesAfter yX1_diesAfter cX1_diesAfter 2 rmX1_diesAfter .int [] x y := by
  obtain ⟨ec, sz, st, kn, nu, ou, iw, ki, la, he, be, to, bg, en, lb, nm, nw, th, rfl, rfl, R⟩ := h
  obtain ⟨hE, hP, hn, hs, hk, hw⟩ := id R
  obtain ⟨p1, p2, p3, p4, p5⟩ := id hP
  obtain ⟨e1, e2, e3, e4, e5, e6, e7, e8, e9⟩ := id hE
  exact ⟨mX_dies (mX_walk nu ou iw ki la sz st (kn, he, be, to)).2.2.2 (sz + 1) 0, (ec, sz, st, (mX_walk nu ou iw ki la sz st (kn, he, be, to)).1, nu, ou, iw, ki, la, (mX_walk nu ou iw ki la sz st (kn, he, be, to)).2.1, (mX_walk nu ou iw ki la sz st (kn, he, be, to)).2.2.1, (mX_walk nu ou iw ki la sz st (kn, he, be, to)).2.2.2), (ec, sz, st, nu, bg, en, lb, ki, nm, (mY_dies nu bg en lb ki nm ec st (sz + 1) 0 (nw, th)).2.1, (mY_dies nu bg en lb ki nm ec st (sz + 1) 0 (nw, th)).2.2), cX_diesAfter l D q d ec sz st kn nu ou iw ki la he be to R.okX R.tot_bd, by rw [R.dies (be := be) (sz + 1) 0 (nw, th) (by omega)]; exact cY_diesAfter l D q2 d2 ec sz st nu bg en lb ki nm nw th R.okY, ⟨ec, sz, st, (mX_walk nu ou iw ki la sz st (kn, he, be, to)).1, nu, ou, iw, ki, la, (mX_walk nu ou iw ki la sz st (kn, he, be, to)).2.1, (mX_walk nu ou iw ki la sz st (kn, he, be, to)).2.2.1, (mX_walk nu ou iw ki la sz st (kn, he, be, to)).2.2.2, bg, en, lb, nm, (mY_dies nu bg en lb ki nm ec st (sz + 1) 0 (nw, th)).2.1, (mY_dies nu bg en lb ki nm ec st (sz + 1) 0 (nw, th)).2.2, rfl, rfl, R.walk⟩⟩
end
section
/-! the constructors -/
set_option maxRecDepth 100000
def zN : Nat → Nat := fun _ => 0
def zI : Nat → Int32 := fun _ => 0
abbrev rmX0_init : Room := { frames := 1, cells := 8, slots := 187, locals := 12 }
abbrev w0X0 (h0 : Nat) : va_W := [(h0, .inr (0, [.null, .int (nI 0), .null, .null, .null, .null, .int (nI 0), .int (nI 0), .int (nI 0), .null, .null, .null]))]
set_option maxHeartbeats 4000000 in
set_option maxRecDepth 100000 in
theorem cX_init (l : Launch) (D : va_G) (h0 sz : Nat) : Met l yX0_init (ws_ yX0_init cX0_init 1 none) rmX0_init (wq_Pc D vwCl [] [.ref h0] (w0X0 h0) sz) (va_Qv (fun _ : Unit => True) (fun _ t => ∃ (q : Nat → Nat) (d : Nat → ClassId), q 0 = h0 ∧ wq_B D vwCl (tX d) (va_A (w0X0 h0) sz) (wX q d 0 0 0 0 zN zN zN zN zN zN zN zN) t) (va_A (w0X0 h0) sz)) 8 187 (va_A (w0X0 h0) sz) := by
  refine Met.ofW (cc := cX0_init) (maxL := 1) (ret := none) (by decide +kernel) rfl ?_
  intro p e s m args below meth c s₁ B hml hv
  obtain ⟨rfl, hsz, hP, hK, hD0⟩ := hv
  have hx := B.exec
  have hb := B.bytes
  have hr := B.returns
  have hts0 := atoms_spec (ws := ws_ yX0_init cX0_init 1 none) B.pre
  have hts : ∀ w ∈ lw_all, w.before _ s = true := fun w h => hts0 w (List.mem_cons_of_mem _ h)
  have hown : s.vm.findClass RX0 = some m.cls := findClass_of_methodNamed B.named
  have hlocks := B.notSynchronized
  have hin : meth.name = "<init>" := (name_of_methodNamed B.named B.method).1
  subst hsz
  have hD := hD0.self (sz := s.heap.size)
  generalize hAe : va_A (w0X0 h0) s.heap.size = A at hD ⊢
  have hA : ∀ q : Nat, s.heap.size ≤ q → A q := fun q h => by rw [← hAe]; exact Or.inr h
  have hS : va_S A s.heap s.heap [] := va_S.rf
  have hl := lv_entry ([.ref h0]) (n := 1) (Nat.le_of_ble_eq_true rfl)
  rw [lg_entry_eq]
  generalize (lg_sl ([.ref h0]) ++ List.replicate (1 - (lg_sl ([.ref h0])).length) Slot.unset).toArray = ls at hl ⊢
  have hl : lv_has ls 1 [(0, .ref h0)] := hl
  have F : CallFix p m c cX0_init 1 s ([.ref h0] : List Value).toArray lw_all RX0 := ⟨hx, hb, hml, hown, hts⟩
  refine lv_aload_n hx hb dX0_init_0 rfl (lv_at hl 0 rfl) ?_
  refine W.objInit hx hb hown (hts _ q25) (hts _ q26) (hts _ q27) rfl (by rw [hml]; exact hl.1) rfl dX0_init_1 (Nat.le_of_ble_eq_true rfl) (Nat.le_of_ble_eq_true rfl) ?_
  refine W.eq (g2 := F0 m 4 ls []) rfl ?_
  refine lv_aload_n hx hb dX0_init_4 rfl (lv_at hl 0 rfl) ?_
  refine wq_bipush F 8 dX0_init_5 (by decide) ?_
  refine va_newa (D := D) (cl := vwCl) (atype := .byte) (ty := .byte) (N' := 8) (a0 := (8, .inl (wq_A zN))) hx hb (hts _ q65) rfl hK hP hD hS hA (fun _ => rfl) (by decide) (by decide) (by decide) (Nat.le_of_ble_eq_true rfl) (Nat.le_of_ble_eq_true rfl) dX0_init_7 (fun a1 b1 H hK hP hD hS => ?_)
  have hP : va_P D vwCl [(h0, .inr (0, [.null, .int (nI 0), .null, .null, .null, .null, .int (nI 0), .int (nI 0), .int (nI 0), .null, .null, .null])), (a1, .inl (b1, 8, .inl (wq_A zN)))] H := hP
  have hD : va_D A [(h0, .inr (0, [.null, .int (nI 0), .null, .null, .null, .null, .int (nI 0), .int (nI 0), .int (nI 0), .null, .null, .null])), (a1, .inl (b1, 8, .inl (wq_A zN)))] := hD
  have hK : va_K D vwCl [(b1, .byte)] s := hK
  refine W.widen (k := 1) (n := 8) (Nat.le_of_ble_eq_true rfl) (Nat.le_of_ble_eq_true rfl) ?_
  refine va_putF (D := D) (cl := vwCl) (ci := 0) (v := .ref a1) (ty := .array .byte) (C := RX0) (T := TX0) (N := 12) hx hb hts in_X0 tyX0 tyX0_ok nmX0 hown hK hP hD hS 0 rfl rfl 0 (by decide) (hts _ q28) (fun _ h9 => h9) rfl hin rfl (by decide +kernel) rfl rfl (Nat.le_of_ble_eq_true rfl) dX0_init_9 (fun H locs hP hD hS => ?_)
  have hP : va_P D vwCl [(h0, .inr (0, [.ref a1, .int (nI 0), .null, .null, .null, .null, .int (nI 0), .int (nI 0), .int (nI 0), .null, .null, .null])), (a1, .inl (b1, 8, .inl (wq_A zN)))] H := hP
  have hD : va_D A [(h0, .inr (0, [.ref a1, .int (nI 0), .null, .null, .null, .null, .int (nI 0), .int (nI 0), .int (nI 0), .null, .null, .null])), (a1, .inl (b1, 8, .inl (wq_A zN)))] := hD
  refine lv_aload_n hx hb dX0_init_12 rfl (lv_at hl 0 rfl) ?_
  refine wq_bipush F 16 dX0_init_13 (by decide) ?_
  refine va_newa (D := D) (cl := vwCl) (atype := .short) (ty := .short) (N' := 16) (a0 := (16, .inl (wq_A zN))) hx hb (hts _ q66) rfl hK hP hD hS hA (fun _ => rfl) (by decide) (by decide) (by decide) (Nat.le_of_ble_eq_true rfl) (Nat.le_of_ble_eq_true rfl) dX0_init_15 (fun a2 b2 H hK hP hD hS => ?_)
  have hP : va_P D vwCl [(h0, .inr (0, [.ref a1, .int (nI 0), .null, .null, .null, .null, .int (nI 0), .int (nI 0), .int (nI 0), .null, .null, .null])), (a1, .inl (b1, 8, .inl (wq_A zN))), (a2, .inl (b2, 16, .inl (wq_A zN)))] H := hP
  have hD : va_D A [(h0, .inr (0, [.ref a1, .int (nI 0), .null, .null, .null, .null, .int (nI 0), .int (nI 0), .int (nI 0), .null, .null, .null])), (a1, .inl (b1, 8, .inl (wq_A zN))), (a2, .inl (b2, 16, .inl (wq_A zN)))] := hD
  have hK : va_K D vwCl [(b1, .byte), (b2, .short)] s := hK
  refine W.widen (k := 2) (n := 24) (Nat.le_of_ble_eq_true rfl) (Nat.le_of_ble_eq_true rfl) ?_
  refine va_putF (D := D) (cl := vwCl) (ci := 0) (v := .ref a2) (ty := .array .short) (C := RX0) (T := TX0) (N := 12) hx hb hts in_X0 tyX0 tyX0_ok nmX0 hown hK hP hD hS 0 rfl rfl 2 (by decide) (hts _ q30) (fun _ h9 => h9) rfl hin rfl (by decide +kernel) rfl rfl (Nat.le_of_ble_eq_true rfl) dX0_init_17 (fun H locs hP hD hS => ?_)
  have hP : va_P D vwCl [(h0, .inr (0, [.ref a1, .int (nI 0), .ref a2, .null, .null, .null, .int (nI 0), .int (nI 0), .int (nI 0), .null, .null, .null])), (a1, .inl (b1, 8, .inl (wq_A zN))), (a2, .inl (b2, 16, .inl (wq_A zN)))] H := hP
  have hD : va_D A [(h0, .inr (0, [.ref a1, .int (nI 0), .ref a2, .null, .null, .null, .int (nI 0), .int (nI 0), .int (nI 0), .null, .null, .null])), (a1, .inl (b1, 8, .inl (wq_A zN))), (a2, .inl (b2, 16, .inl (wq_A zN)))] := hD
  refine lv_aload_n hx hb dX0_init_20 rfl (lv_at hl 0 rfl) ?_
  refine wq_bipush F 16 dX0_init_21 (by decide) ?_
  refine va_newa (D := D) (cl := vwCl) (atype := .short) (ty := .short) (N' := 16) (a0 := (16, .inl (wq_A zN))) hx hb (hts _ q66) rfl hK hP hD hS hA (fun _ => rfl) (by decide) (by decide) (by decide) (Nat.le_of_ble_eq_true rfl) (Nat.le_of_ble_eq_true rfl) dX0_init_23 (fun a3 b3 H hK hP hD hS => ?_)
  have hP : va_P D vwCl [(h0, .inr (0, [.ref a1, .int (nI 0), .ref a2, .null, .null, .null, .int (nI 0), .int (nI 0), .int (nI 0), .null, .null, .null])), (a1, .inl (b1, 8, .inl (wq_A zN))), (a2, .inl (b2, 16, .inl (wq_A zN))), (a3, .inl (b3, 16, .inl (wq_A zN)))] H := hP
  have hD : va_D A [(h0, .inr (0, [.ref a1, .int (nI 0), .ref a2, .null, .null, .null, .int (nI 0), .int (nI 0), .int (nI 0), .null, .null, .null])), (a1, .inl (b1, 8, .inl (wq_A zN))), (a2, .inl (b2, 16, .inl (wq_A zN))), (a3, .inl (b3, 16, .inl (wq_A zN)))] := hD
  have hK : va_K D vwCl [(b1, .byte), (b2, .short), (b3, .short)] s := hK
  refine W.widen (k := 3) (n := 40) (Nat.le_of_ble_eq_true rfl) (Nat.le_of_ble_eq_true rfl) ?_
  refine va_putF (D := D) (cl := vwCl) (ci := 0) (v := .ref a3) (ty := .array .short) (C := RX0) (T := TX0) (N := 12) hx hb hts in_X0 tyX0 tyX0_ok nmX0 hown hK hP hD hS 0 rfl rfl 3 (by decide) (hts _ q31) (fun _ h9 => h9) rfl hin rfl (by decide +kernel) rfl rfl (Nat.le_of_ble_eq_true rfl) dX0_init_25 (fun H locs hP hD hS => ?_)
  have hP : va_P D vwCl [(h0, .inr (0, [.ref a1, .int (nI 0), .ref a2, .ref a3, .null, .null, .int (nI 0), .int (nI 0), .int (nI 0), .null, .null, .null])), (a1, .inl (b1, 8, .inl (wq_A zN))), (a2, .inl (b2, 16, .inl (wq_A zN))), (a3, .inl (b3, 16, .inl (wq_A zN)))] H := hP
  have hD : va_D A [(h0, .inr (0, [.ref a1, .int (nI 0), .ref a2, .ref a3, .null, .null, .int (nI 0), .int (nI 0), .int (nI 0), .null, .null, .null])), (a1, .inl (b1, 8, .inl (wq_A zN))), (a2, .inl (b2, 16, .inl (wq_A zN))), (a3, .inl (b3, 16, .inl (wq_A zN)))] := hD
  refine lv_aload_n hx hb dX0_init_28 rfl (lv_at hl 0 rfl) ?_
  refine wq_bipush F 6 dX0_init_29 (by decide) ?_
  refine va_newa (D := D) (cl := vwCl) (atype := .byte) (ty := .byte) (N' := 6) (a0 := (6, .inl (wq_A zN))) hx hb (hts _ q65) rfl hK hP hD hS hA (fun _ => rfl) (by decide) (by decide) (by decide) (Nat.le_of_ble_eq_true rfl) (Nat.le_of_ble_eq_true rfl) dX0_init_31 (fun a4 b4 H hK hP hD hS => ?_)
  have hP : va_P D vwCl [(h0, .inr (0, [.ref a1, .int (nI 0), .ref a2, .ref a3, .null, .null, .int (nI 0), .int (nI 0), .int (nI 0), .null, .null, .null])), (a1, .inl (b1, 8, .inl (wq_A zN))), (a2, .inl (b2, 16, .inl (wq_A zN))), (a3, .inl (b3, 16, .inl (wq_A zN))), (a4, .inl (b4, 6, .inl (wq_A zN)))] H := hP
  have hD : va_D A [(h0, .inr (0, [.ref a1, .int (nI 0), .ref a2, .ref a3, .null, .null, .int (nI 0), .int (nI 0), .int (nI 0), .null, .null, .null])), (a1, .inl (b1, 8, .inl (wq_A zN))), (a2, .inl (b2, 16, .inl (wq_A zN))), (a3, .inl (b3, 16, .inl (wq_A zN))), (a4, .inl (b4, 6, .inl (wq_A zN)))] := hD
  have hK : va_K D vwCl [(b1, .byte), (b2, .short), (b3, .short), (b4, .byte)] s := hK
  refine W.widen (k := 4) (n := 46) (Nat.le_of_ble_eq_true rfl) (Nat.le_of_ble_eq_true rfl) ?_
  refine va_putF (D := D) (cl := vwCl) (ci := 0) (v := .ref a4) (ty := .array .byte) (C := RX0) (T := TX0) (N := 12) hx hb hts in_X0 tyX0 tyX0_ok nmX0 hown hK hP hD hS 0 rfl rfl 4 (by decide) (hts _ q32) (fun _ h9 => h9) rfl hin rfl (by decide +kernel) rfl rfl (Nat.le_of_ble_eq_true rfl) dX0_init_33 (fun H locs hP hD hS => ?_)
  have hP : va_P D vwCl [(h0, .inr (0, [.ref a1, .int (nI 0), .ref a2, .ref a3, .ref a4, .null, .int (nI 0), .int (nI 0), .int (nI 0), .null, .null, .null])), (a1, .inl (b1, 8, .inl (wq_A zN))), (a2, .inl (b2, 16, .inl (wq_A zN))), (a3, .inl (b3, 16, .inl (wq_A zN))), (a4, .inl (b4, 6, .inl (wq_A zN)))] H := hP
  have hD : va_D A [(h0, .inr (0, [.ref a1, .int (nI 0), .ref a2, .ref a3, .ref a4, .null, .int (nI 0), .int (nI 0), .int (nI 0), .null, .null, .null])), (a1, .inl (b1, 8, .inl (wq_A zN))), (a2, .inl (b2, 16, .inl (wq_A zN))), (a3, .inl (b3, 16, .inl (wq_A zN))), (a4, .inl (b4, 6, .inl (wq_A zN)))] := hD
  refine lv_aload_n hx hb dX0_init_36 rfl (lv_at hl 0 rfl) ?_
  refine wq_bipush F 6 dX0_init_37 (by decide) ?_
  refine va_newa (D := D) (cl := vwCl) (atype := .byte) (ty := .byte) (N' := 6) (a0 := (6, .inl (wq_A zN))) hx hb (hts _ q65) rfl hK hP hD hS hA (fun _ => rfl) (by decide) (by decide) (by decide) (Nat.le_of_ble_eq_true rfl) (Nat.le_of_ble_eq_true rfl) dX0_init_39 (fun a5 b5 H hK hP hD hS => ?_)
  have hP : va_P D vwCl [(h0, .inr (0, [.ref a1, .int (nI 0), .ref a2, .ref a3, .ref a4, .null, .int (nI 0), .int (nI 0), .int (nI 0), .null, .null, .null])), (a1, .inl (b1, 8, .inl (wq_A zN))), (a2, .inl (b2, 16, .inl (wq_A zN))), (a3, .inl (b3, 16, .inl (wq_A zN))), (a4, .inl (b4, 6, .inl (wq_A zN))), (a5, .inl (b5, 6, .inl (wq_A zN)))] H := hP
  have hD : va_D A [(h0, .inr (0, [.ref a1, .int (nI 0), .ref a2, .ref a3, .ref a4, .null, .int (nI 0), .int (nI 0), .int (nI 0), .null, .null, .null])), (a1, .inl (b1, 8, .inl (wq_A zN))), (a2, .inl (b2, 16, .inl (wq_A zN))), (a3, .inl (b3, 16, .inl (wq_A zN))), (a4, .inl (b4, 6, .inl (wq_A zN))), (a5, .inl (b5, 6, .inl (wq_A zN)))] := hD
  have hK : va_K D vwCl [(b1, .byte), (b2, .short), (b3, .short), (b4, .byte), (b5, .byte)] s := hK
  refine W.widen (k := 5) (n := 52) (Nat.le_of_ble_eq_true rfl) (Nat.le_of_ble_eq_true rfl) ?_
  refine va_putF (D := D) (cl := vwCl) (ci := 0) (v := .ref a5) (ty := .array .byte) (C := RX0) (T := TX0) (N := 12) hx hb hts in_X0 tyX0 tyX0_ok nmX0 hown hK hP hD hS 0 rfl rfl 5 (by decide) (hts _ q33) (fun _ h9 => h9) rfl hin rfl (by decide +kernel) rfl rfl (Nat.le_of_ble_eq_true rfl) dX0_init_41 (fun H locs hP hD hS => ?_)
  have hP : va_P D vwCl [(h0, .inr (0, [.ref a1, .int (nI 0), .ref a2, .ref a3, .ref a4, .ref a5, .int (nI 0), .int (nI 0), .int (nI 0), .null, .null, .null])), (a1, .inl (b1, 8, .inl (wq_A zN))), (a2, .inl (b2, 16, .inl (wq_A zN))), (a3, .inl (b3, 16, .inl (wq_A zN))), (a4, .inl (b4, 6, .inl (wq_A zN))), (a5, .inl (b5, 6, .inl (wq_A zN)))] H := hP
  have hD : va_D A [(h0, .inr (0, [.ref a1, .int (nI 0), .ref a2, .ref a3, .ref a4, .ref a5, .int (nI 0), .int (nI 0), .int (nI 0), .null, .null, .null])), (a1, .inl (b1, 8, .inl (wq_A zN))), (a2, .inl (b2, 16, .inl (wq_A zN))), (a3, .inl (b3, 16, .inl (wq_A zN))), (a4, .inl (b4, 6, .inl (wq_A zN))), (a5, .inl (b5, 6, .inl (wq_A zN)))] := hD
  refine lv_aload_n hx hb dX0_init_44 rfl (lv_at hl 0 rfl) ?_
  refine wq_bipush F 64 dX0_init_45 (by decide) ?_
  refine va_newa (D := D) (cl := vwCl) (atype := .int) (ty := .int) (N' := 64) (a0 := (64, .inl (wq_A zN))) hx hb (hts _ q67) rfl hK hP hD hS hA (fun _ => rfl) (by decide) (by decide) (by decide) (Nat.le_of_ble_eq_true rfl) (Nat.le_of_ble_eq_true rfl) dX0_init_47 (fun a6 b6 H hK hP hD hS => ?_)
  have hP : va_P D vwCl [(h0, .inr (0, [.ref a1, .int (nI 0), .ref a2, .ref a3, .ref a4, .ref a5, .int (nI 0), .int (nI 0), .int (nI 0), .null, .null, .null])), (a1, .inl (b1, 8, .inl (wq_A zN))), (a2, .inl (b2, 16, .inl (wq_A zN))), (a3, .inl (b3, 16, .inl (wq_A zN))), (a4, .inl (b4, 6, .inl (wq_A zN))), (a5, .inl (b5, 6, .inl (wq_A zN))), (a6, .inl (b6, 64, .inl (wq_A zN)))] H := hP
  have hD : va_D A [(h0, .inr (0, [.ref a1, .int (nI 0), .ref a2, .ref a3, .ref a4, .ref a5, .int (nI 0), .int (nI 0), .int (nI 0), .null, .null, .null])), (a1, .inl (b1, 8, .inl (wq_A zN))), (a2, .inl (b2, 16, .inl (wq_A zN))), (a3, .inl (b3, 16, .inl (wq_A zN))), (a4, .inl (b4, 6, .inl (wq_A zN))), (a5, .inl (b5, 6, .inl (wq_A zN))), (a6, .inl (b6, 64, .inl (wq_A zN)))] := hD
  have hK : va_K D vwCl [(b1, .byte), (b2, .short), (b3, .short), (b4, .byte), (b5, .byte), (b6, .int)] s := hK
  refine W.widen (k := 6) (n := 116) (Nat.le_of_ble_eq_true rfl) (Nat.le_of_ble_eq_true rfl) ?_
  refine va_putF (D := D) (cl := vwCl) (ci := 0) (v := .ref a6) (ty := .array .int) (C := RX0) (T := TX0) (N := 12) hx hb hts in_X0 tyX0 tyX0_ok nmX0 hown hK hP hD hS 0 rfl rfl 9 (by decide) (hts _ q37) (fun _ h9 => h9) rfl hin rfl (by decide +kernel) rfl rfl (Nat.le_of_ble_eq_true rfl) dX0_init_49 (fun H locs hP hD hS => ?_)
  have hP : va_P D vwCl [(h0, .inr (0, [.ref a1, .int (nI 0), .ref a2, .ref a3, .ref a4, .ref a5, .int (nI 0), .int (nI 0), .int (nI 0), .ref a6, .null, .null])), (a1, .inl (b1, 8, .inl (wq_A zN))), (a2, .inl (b2, 16, .inl (wq_A zN))), (a3, .inl (b3, 16, .inl (wq_A zN))), (a4, .inl (b4, 6, .inl (wq_A zN))), (a5, .inl (b5, 6, .inl (wq_A zN))), (a6, .inl (b6, 64, .inl (wq_A zN)))] H := hP
  have hD : va_D A [(h0, .inr (0, [.ref a1, .int (nI 0), .ref a2, .ref a3, .ref a4, .ref a5, .int (nI 0), .int (nI 0), .int (nI 0), .ref a6, .null, .null])), (a1, .inl (b1, 8, .inl (wq_A zN))), (a2, .inl (b2, 16, .inl (wq_A zN))), (a3, .inl (b3, 16, .inl (wq_A zN))), (a4, .inl (b4, 6, .inl (wq_A zN))), (a5, .inl (b5, 6, .inl (wq_A zN))), (a6, .inl (b6, 64, .inl (wq_A zN)))] := hD
  refine lv_aload_n hx hb dX0_init_52 rfl (lv_at hl 0 rfl) ?_
  refine wq_bipush F 64 dX0_init_53 (by decide) ?_
  refine va_newa (D := D) (cl := vwCl) (atype := .int) (ty := .int) (N' := 64) (a0 := (64, .inl (wq_A zN))) hx hb (hts _ q67) rfl hK hP hD hS hA (fun _ => rfl) (by decide) (by decide) (by decide) (Nat.le_of_ble_eq_true rfl) (Nat.le_of_ble_eq_true rfl) dX0_init_55 (fun a7 b7 H hK hP hD hS => ?_)
  have hP : va_P D vwCl [(h0, .inr (0, [.ref a1, .int (nI 0), .ref a2, .ref a3, .ref a4, .ref a5, .int (nI 0), .int (nI 0), .int (nI 0), .ref a6, .null, .null])), (a1, .inl (b1, 8, .inl (wq_A zN))), (a2, .inl (b2, 16, .inl (wq_A zN))), (a3, .inl (b3, 16, .inl (wq_A zN))), (a4, .inl (b4, 6, .inl (wq_A zN))), (a5, .inl (b5, 6, .inl (wq_A zN))), (a6, .inl (b6, 64, .inl (wq_A zN))), (a7, .inl (b7, 64, .inl (wq_A zN)))] H := hP
  have hD : va_D A [(h0, .inr (0, [.ref a1, .int (nI 0), .ref a2, .ref a3, .ref a4, .ref a5, .int (nI 0), .int (nI 0), .int (nI 0), .ref a6, .null, .null])), (a1, .inl (b1, 8, .inl (wq_A zN))), (a2, .inl (b2, 16, .inl (wq_A zN))), (a3, .inl (b3, 16, .inl (wq_A zN))), (a4, .inl (b4, 6, .inl (wq_A zN))), (a5, .inl (b5, 6, .inl (wq_A zN))), (a6, .inl (b6, 64, .inl (wq_A zN))), (a7, .inl (b7, 64, .inl (wq_A zN)))] := hD
  have hK : va_K D vwCl [(b1, .byte), (b2, .short), (b3, .short), (b4, .byte), (b5, .byte), (b6, .int), (b7, .int)] s := hK
  refine W.widen (k := 7) (n := 180) (Nat.le_of_ble_eq_true rfl) (Nat.le_of_ble_eq_true rfl) ?_
  refine va_putF (D := D) (cl := vwCl) (ci := 0) (v := .ref a7) (ty := .array .int) (C := RX0) (T := TX0) (N := 12) hx hb hts in_X0 tyX0 tyX0_ok nmX0 hown hK hP hD hS 0 rfl rfl 10 (by decide) (hts _ q38) (fun _ h9 => h9) rfl hin rfl (by decide +kernel) rfl rfl (Nat.le_of_ble_eq_true rfl) dX0_init_57 (fun H locs hP hD hS => ?_)
  have hP : va_P D vwCl [(h0, .inr (0, [.ref a1, .int (nI 0), .ref a2, .ref a3, .ref a4, .ref a5, .int (nI 0), .int (nI 0), .int (nI 0), .ref a6, .ref a7, .null])), (a1, .inl (b1, 8, .inl (wq_A zN))), (a2, .inl (b2, 16, .inl (wq_A zN))), (a3, .inl (b3, 16, .inl (wq_A zN))), (a4, .inl (b4, 6, .inl (wq_A zN))), (a5, .inl (b5, 6, .inl (wq_A zN))), (a6, .inl (b6, 64, .inl (wq_A zN))), (a7, .inl (b7, 64, .inl (wq_A zN)))] H := hP
  have hD : va_D A [(h0, .inr (0, [.ref a1, .int (nI 0), .ref a2, .ref a3, .ref a4, .ref a5, .int (nI 0), .int (nI 0), .int (nI 0), .ref a6, .ref a7, .null])), (a1, .inl (b1, 8, .inl (wq_A zN))), (a2, .inl (b2, 16, .inl (wq_A zN))), (a3, .inl (b3, 16, .inl (wq_A zN))), (a4, .inl (b4, 6, .inl (wq_A zN))), (a5, .inl (b5, 6, .inl (wq_A zN))), (a6, .inl (b6, 64, .inl (wq_A zN))), (a7, .inl (b7, 64, .inl (wq_A zN)))] := hD
  refine lv_aload_n hx hb dX0_init_60 rfl (lv_at hl 0 rfl) ?_
  refine wq_bipush F 7 dX0_init_61 (by decide) ?_
  refine va_newa (D := D) (cl := vwCl) (atype := .int) (ty := .int) (N' := 7) (a0 := (7, .inl (wq_A zN))) hx hb (hts _ q67) rfl hK hP hD hS hA (fun _ => rfl) (by decide) (by decide) (by decide) (Nat.le_of_ble_eq_true rfl) (Nat.le_of_ble_eq_true rfl) dX0_init_63 (fun a8 b8 H hK hP hD hS => ?_)
  have hP : va_P D vwCl [(h0, .inr (0, [.ref a1, .int (nI 0), .ref a2, .ref a3, .ref a4, .ref a5, .int (nI 0), .int (nI 0), .int (nI 0), .ref a6, .ref a7, .null])), (a1, .inl (b1, 8, .inl (wq_A zN))), (a2, .inl (b2, 16, .inl (wq_A zN))), (a3, .inl (b3, 16, .inl (wq_A zN))), (a4, .inl (b4, 6, .inl (wq_A zN))), (a5, .inl (b5, 6, .inl (wq_A zN))), (a6, .inl (b6, 64, .inl (wq_A zN))), (a7, .inl (b7, 64, .inl (wq_A zN))), (a8, .inl (b8, 7, .inl (wq_A zN)))] H := hP
  have hD : va_D A [(h0, .inr (0, [.ref a1, .int (nI 0), .ref a2, .ref a3, .ref a4, .ref a5, .int (nI 0), .int (nI 0), .int (nI 0), .ref a6, .ref a7, .null])), (a1, .inl (b1, 8, .inl (wq_A zN))), (a2, .inl (b2, 16, .inl (wq_A zN))), (a3, .inl (b3, 16, .inl (wq_A zN))), (a4, .inl (b4, 6, .inl (wq_A zN))), (a5, .inl (b5, 6, .inl (wq_A zN))), (a6, .inl (b6, 64, .inl (wq_A zN))), (a7, .inl (b7, 64, .inl (wq_A zN))), (a8, .inl (b8, 7, .inl (wq_A zN)))] := hD
  have hK : va_K D vwCl [(b1, .byte), (b2, .short), (b3, .short), (b4, .byte), (b5, .byte), (b6, .int), (b7, .int), (b8, .int)] s := hK
  refine W.widen (k := 8) (n := 187) (Nat.le_of_ble_eq_true rfl) (Nat.le_of_ble_eq_true rfl) ?_
  refine va_putF (D := D) (cl := vwCl) (ci := 0) (v := .ref a8) (ty := .array .int) (C := RX0) (T := TX0) (N := 12) hx hb hts in_X0 tyX0 tyX0_ok nmX0 hown hK hP hD hS 0 rfl rfl 11 (by decide) (hts _ q39) (fun _ h9 => h9) rfl hin rfl (by decide +kernel) rfl rfl (Nat.le_of_ble_eq_true rfl) dX0_init_65 (fun H locs hP hD hS => ?_)
  have hP : va_P D vwCl [(h0, .inr (0, [.ref a1, .int (nI 0), .ref a2, .ref a3, .ref a4, .ref a5, .int (nI 0), .int (nI 0), .int (nI 0), .ref a6, .ref a7, .ref a8])), (a1, .inl (b1, 8, .inl (wq_A zN))), (a2, .inl (b2, 16, .inl (wq_A zN))), (a3, .inl (b3, 16, .inl (wq_A zN))), (a4, .inl (b4, 6, .inl (wq_A zN))), (a5, .inl (b5, 6, .inl (wq_A zN))), (a6, .inl (b6, 64, .inl (wq_A zN))), (a7, .inl (b7, 64, .inl (wq_A zN))), (a8, .inl (b8, 7, .inl (wq_A zN)))] H := hP
  have hD : va_D A [(h0, .inr (0, [.ref a1, .int (nI 0), .ref a2, .ref a3, .ref a4, .ref a5, .int (nI 0), .int (nI 0), .int (nI 0), .ref a6, .ref a7, .ref a8])), (a1, .inl (b1, 8, .inl (wq_A zN))), (a2, .inl (b2, 16, .inl (wq_A zN))), (a3, .inl (b3, 16, .inl (wq_A zN))), (a4, .inl (b4, 6, .inl (wq_A zN))), (a5, .inl (b5, 6, .inl (wq_A zN))), (a6, .inl (b6, 64, .inl (wq_A zN))), (a7, .inl (b7, 64, .inl (wq_A zN))), (a8, .inl (b8, 7, .inl (wq_A zN)))] := hD
  exact W.vret hx hb hr (fun t ht hW => ⟨⟨(), rfl, trivial, (fun k => match k with | 0 => h0 | 1 => a1 | 2 => a2 | 3 => a3 | 4 => a4 | 5 => a5 | 6 => a6 | 7 => a7 | _ => a8), (fun k => match k with | 1 => b1 | 2 => b2 | 3 => b3 | 4 => b4 | 5 => b5 | 6 => b6 | 7 => b7 | _ => b8), rfl, by rw [ht]; exact hP, va_K.moved hW.alike hK, hD⟩, hS.F ht⟩) hS.2.2 dX0_init_68
abbrev rmX1_init : Room := { frames := 1, cells := 8, slots := 178, locals := 12 }
abbrev w0X1 (h0 : Nat) : va_W := [(h0, .inr (1, [.null, .int (nI 0), .null, .null, .null, .int (nI 0), .null, .null, .int (nI 0), .null, .null]))]
set_option maxHeartbeats 4000000 in
set_option maxRecDepth 100000 in
theorem cY_init (l : Launch) (D : va_G) (h0 sz : Nat) : Met l yX1_init (ws_ yX1_init cX1_init 1 none) rmX1_init (wq_Pc D vwCl [] [.ref h0] (w0X1 h0) sz) (va_Qv (fun _ : Unit => True) (fun _ t => ∃ (q : Nat → Nat) (d : Nat → ClassId), q 0 = h0 ∧ wq_B D vwCl (tY d) (va_A (w0X1 h0) sz) (wY q d 0 0 0 zN zN zN zN zN zI zN zN) t) (va_A (w0X1 h0) sz)) 8 178 (va_A (w0X1 h0) sz) := by
  refine Met.ofW (cc := cX1_init) (maxL := 1) (ret := none) (by decide +kernel) rfl ?_
  intro p e s m args below meth c s₁ B hml hv
  obtain ⟨rfl, hsz, hP, hK, hD0⟩ := hv
  have hx := B.exec
  have hb := B.bytes
  have hr := B.returns
  have hts0 := atoms_spec (ws := ws_ yX1_init cX1_init 1 none) B.pre
  have hts : ∀ w ∈ lw_all, w.before _ s = true := fun w h => hts0 w (List.mem_cons_of_mem _ h)
  have hown : s.vm.findClass RX1 = some m.cls := findClass_of_methodNamed B.named
  have hlocks := B.notSynchronized
  have hin : meth.name = "<init>" := (name_of_methodNamed B.named B.method).1
  subst hsz
  have hD := hD0.self (sz := s.heap.size)
  generalize hAe : va_A (w0X1 h0) s.heap.size = A at hD ⊢
  have hA : ∀ q : Nat, s.heap.size ≤ q → A q := fun q h => by rw [← hAe]; exact Or.inr h
  have hS : va_S A s.heap s.heap [] := va_S.rf
  have hl := lv_entry ([.ref h0]) (n := 1) (Nat.le_of_ble_eq_true rfl)
  rw [lg_entry_eq]
  generalize (lg_sl ([.ref h0]) ++ List.replicate (1 - (lg_sl ([.ref h0])).length) Slot.unset).toArray = ls at hl ⊢
  have hl : lv_has ls 1 [(0, .ref h0)] := hl
  have F : CallFix p m c cX1_init 1 s ([.ref h0] : List Value).toArray lw_all RX1 := ⟨hx, hb, hml, hown, hts⟩
  refine lv_aload_n hx hb dX1_init_0 rfl (lv_at hl 0 rfl) ?_
  refine W.objInit hx hb hown (hts _ q177) (hts _ q26) (hts _ q27) rfl (by rw [hml]; exact hl.1) rfl dX1_init_1 (Nat.le_of_ble_eq_true rfl) (Nat.le_of_ble_eq_true rfl) ?_
  refine W.eq (g2 := F0 m 4 ls []) rfl ?_
  refine lv_aload_n hx hb dX1_init_4 rfl (lv_at hl 0 rfl) ?_
  refine wq_bipush F 8 dX1_init_5 (by decide) ?_
  refine va_newa (D := D) (cl := vwCl) (atype := .int) (ty := .int) (N' := 8) (a0 := (8, .inl (wq_A zN))) hx hb (hts _ q67) rfl hK hP hD hS hA (fun _ => rfl) (by decide) (by decide) (by decide) (Nat.le_of_ble_eq_true rfl) (Nat.le_of_ble_eq_true rfl) dX1_init_7 (fun a1 b1 H hK hP hD hS => ?_)
  have hP : va_P D vwCl [(h0, .inr (1, [.null, .int (nI 0), .null, .null, .null, .int (nI 0), .null, .null, .int (nI 0), .null, .null])), (a1, .inl (b1, 8, .inl (wq_A zN)))] H := hP
  have hD : va_D A [(h0, .inr (1, [.null, .int (nI 0), .null, .null, .null, .int (nI 0), .null, .null, .int (nI 0), .null, .null])), (a1, .inl (b1, 8, .inl (wq_A zN)))] := hD
  have hK : va_K D vwCl [(b1, .int)] s := hK
  refine W.widen (k := 1) (n := 8) (Nat.le_of_ble_eq_true rfl) (Nat.le_of_ble_eq_true rfl) ?_
  refine va_put (D := D) (cl := vwCl) (ci := 1) (v := .ref a1) (ty := .array .int) (C := RX1) (T := TX1) (N := 11) hx hb hts in_X1 tyX1 tyX1_ok nmX1 hown hK hP hD hS 0 rfl rfl 0 (by decide) (hts _ q178) (fun _ h9 => h9) rfl (by decide +kernel) rfl rfl (Nat.le_of_ble_eq_true rfl) dX1_init_9 (fun H locs hP hD hS => ?_)
  have hP : va_P D vwCl [(h0, .inr (1, [.ref a1, .int (nI 0), .null, .null, .null, .int (nI 0), .null, .null, .int (nI 0), .null, .null])), (a1, .inl (b1, 8, .inl (wq_A zN)))] H := hP
  have hD : va_D A [(h0, .inr (1, [.ref a1, .int (nI 0), .null, .null, .null, .int (nI 0), .null, .null, .int (nI 0), .null, .null])), (a1, .inl (b1, 8, .inl (wq_A zN)))] := hD
  refine lv_aload_n hx hb dX1_init_12 rfl (lv_at hl 0 rfl) ?_
  refine wq_bipush F 10 dX1_init_13 (by decide) ?_
  refine va_newa (D := D) (cl := vwCl) (atype := .int) (ty := .int) (N' := 10) (a0 := (10, .inl (wq_A zN))) hx hb (hts _ q67) rfl hK hP hD hS hA (fun _ => rfl) (by decide) (by decide) (by decide) (Nat.le_of_ble_eq_true rfl) (Nat.le_of_ble_eq_true rfl) dX1_init_15 (fun a2 b2 H hK hP hD hS => ?_)
  have hP : va_P D vwCl [(h0, .inr (1, [.ref a1, .int (nI 0), .null, .null, .null, .int (nI 0), .null, .null, .int (nI 0), .null, .null])), (a1, .inl (b1, 8, .inl (wq_A zN))), (a2, .inl (b2, 10, .inl (wq_A zN)))] H := hP
  have hD : va_D A [(h0, .inr (1, [.ref a1, .int (nI 0), .null, .null, .null, .int (nI 0), .null, .null, .int (nI 0), .null, .null])), (a1, .inl (b1, 8, .inl (wq_A zN))), (a2, .inl (b2, 10, .inl (wq_A zN)))] := hD
  have hK : va_K D vwCl [(b1, .int), (b2, .int)] s := hK
  refine W.widen (k := 2) (n := 18) (Nat.le_of_ble_eq_true rfl) (Nat.le_of_ble_eq_true rfl) ?_
  refine va_put (D := D) (cl := vwCl) (ci := 1) (v := .ref a2) (ty := .array .int) (C := RX1) (T := TX1) (N := 11) hx hb hts in_X1 tyX1 tyX1_ok nmX1 hown hK hP hD hS 0 rfl rfl 2 (by decide) (hts _ q180) (fun _ h9 => h9) rfl (by decide +kernel) rfl rfl (Nat.le_of_ble_eq_true rfl) dX1_init_17 (fun H locs hP hD hS => ?_)
  have hP : va_P D vwCl [(h0, .inr (1, [.ref a1, .int (nI 0), .ref a2, .null, .null, .int (nI 0), .null, .null, .int (nI 0), .null, .null])), (a1, .inl (b1, 8, .inl (wq_A zN))), (a2, .inl (b2, 10, .inl (wq_A zN)))] H := hP
  have hD : va_D A [(h0, .inr (1, [.ref a1, .int (nI 0), .ref a2, .null, .null, .int (nI 0), .null, .null, .int (nI 0), .null, .null])), (a1, .inl (b1, 8, .inl (wq_A zN))), (a2, .inl (b2, 10, .inl (wq_A zN)))] := hD
  refine lv_aload_n hx hb dX1_init_20 rfl (lv_at hl 0 rfl) ?_
  refine wq_bipush F 10 dX1_init_21 (by decide) ?_
  refine va_newa (D := D) (cl := vwCl) (atype := .int) (ty := .int) (N' := 10) (a0 := (10, .inl (wq_A zN))) hx hb (hts _ q67) rfl hK hP hD hS hA (fun _ => rfl) (by decide) (by decide) (by decide) (Nat.le_of_ble_eq_true rfl) (Nat.le_of_ble_eq_true rfl) dX1_init_23 (fun a3 b3 H hK hP hD hS => ?_)
  have hP : va_P D vwCl [(h0, .inr (1, [.ref a1, .int (nI 0), .ref a2, .null, .null, .int (nI 0), .null, .null, .int (nI 0), .null, .null])), (a1, .inl (b1, 8, .inl (wq_A zN))), (a2, .inl (b2, 10, .inl (wq_A zN))), (a3, .inl (b3, 10, .inl (wq_A zN)))] H := hP
  have hD : va_D A [(h0, .inr (1, [.ref a1, .int (nI 0), .ref a2, .null, .null, .int (nI 0), .null, .null, .int (nI 0), .null, .null])), (a1, .inl (b1, 8, .inl (wq_A zN))), (a2, .inl (b2, 10, .inl (wq_A zN))), (a3, .inl (b3, 10, .inl (wq_A zN)))] := hD
  have hK : va_K D vwCl [(b1, .int), (b2, .int), (b3, .int)] s := hK
  refine W.widen (k := 3) (n := 28) (Nat.le_of_ble_eq_true rfl) (Nat.le_of_ble_eq_true rfl) ?_
  refine va_put (D := D) (cl := vwCl) (ci := 1) (v := .ref a3) (ty := .array .int) (C := RX1) (T := TX1) (N := 11) hx hb hts in_X1 tyX1 tyX1_ok nmX1 hown hK hP hD hS 0 rfl rfl 3 (by decide) (hts _ q181) (fun _ h9 => h9) rfl (by decide +kernel) rfl rfl (Nat.le_of_ble_eq_true rfl) dX1_init_25 (fun H locs hP hD hS => ?_)
  have hP : va_P D vwCl [(h0, .inr (1, [.ref a1, .int (nI 0), .ref a2, .ref a3, .null, .int (nI 0), .null, .null, .int (nI 0), .null, .null])), (a1, .inl (b1, 8, .inl (wq_A zN))), (a2, .inl (b2, 10, .inl (wq_A zN))), (a3, .inl (b3, 10, .inl (wq_A zN)))] H := hP
  have hD : va_D A [(h0, .inr (1, [.ref a1, .int (nI 0), .ref a2, .ref a3, .null, .int (nI 0), .null, .null, .int (nI 0), .null, .null])), (a1, .inl (b1, 8, .inl (wq_A zN))), (a2, .inl (b2, 10, .inl (wq_A zN))), (a3, .inl (b3, 10, .inl (wq_A zN)))] := hD
  refine lv_aload_n hx hb dX1_init_28 rfl (lv_at hl 0 rfl) ?_
  refine wq_bipush F 10 dX1_init_29 (by decide) ?_
  refine va_newa (D := D) (cl := vwCl) (atype := .int) (ty := .int) (N' := 10) (a0 := (10, .inl (wq_A zN))) hx hb (hts _ q67) rfl hK hP hD hS hA (fun _ => rfl) (by decide) (by decide) (by decide) (Nat.le_of_ble_eq_true rfl) (Nat.le_of_ble_eq_true rfl) dX1_init_31 (fun a4 b4 H hK hP hD hS => ?_)
  have hP : va_P D vwCl [(h0, .inr (1, [.ref a1, .int (nI 0), .ref a2, .ref a3, .null, .int (nI 0), .null, .null, .int (nI 0), .null, .null])), (a1, .inl (b1, 8, .inl (wq_A zN))), (a2, .inl (b2, 10, .inl (wq_A zN))), (a3, .inl (b3, 10, .inl (wq_A zN))), (a4, .inl (b4, 10, .inl (wq_A zN)))] H := hP
  have hD : va_D A [(h0, .inr (1, [.ref a1, .int (nI 0), .ref a2, .ref a3, .null, .int (nI 0), .null, .null, .int (nI 0), .null, .null])), (a1, .inl (b1, 8, .inl (wq_A zN))), (a2, .inl (b2, 10, .inl (wq_A zN))), (a3, .inl (b3, 10, .inl (wq_A zN))), (a4, .inl (b4, 10, .inl (wq_A zN)))] := hD
  have hK : va_K D vwCl [(b1, .int), (b2, .int), (b3, .int), (b4, .int)] s := hK
  refine W.widen (k := 4) (n := 38) (Nat.le_of_ble_eq_true rfl) (Nat.le_of_ble_eq_true rfl) ?_
  refine va_put (D := D) (cl := vwCl) (ci := 1) (v := .ref a4) (ty := .array .int) (C := RX1) (T := TX1) (N := 11) hx hb hts in_X1 tyX1 tyX1_ok nmX1 hown hK hP hD hS 0 rfl rfl 4 (by decide) (hts _ q182) (fun _ h9 => h9) rfl (by decide +kernel) rfl rfl (Nat.le_of_ble_eq_true rfl) dX1_init_33 (fun H locs hP hD hS => ?_)
  have hP : va_P D vwCl [(h0, .inr (1, [.ref a1, .int (nI 0), .ref a2, .ref a3, .ref a4, .int (nI 0), .null, .null, .int (nI 0), .null, .null])), (a1, .inl (b1, 8, .inl (wq_A zN))), (a2, .inl (b2, 10, .inl (wq_A zN))), (a3, .inl (b3, 10, .inl (wq_A zN))), (a4, .inl (b4, 10, .inl (wq_A zN)))] H := hP
  have hD : va_D A [(h0, .inr (1, [.ref a1, .int (nI 0), .ref a2, .ref a3, .ref a4, .int (nI 0), .null, .null, .int (nI 0), .null, .null])), (a1, .inl (b1, 8, .inl (wq_A zN))), (a2, .inl (b2, 10, .inl (wq_A zN))), (a3, .inl (b3, 10, .inl (wq_A zN))), (a4, .inl (b4, 10, .inl (wq_A zN)))] := hD
  refine lv_aload_n hx hb dX1_init_36 rfl (lv_at hl 0 rfl) ?_
  refine wq_bipush F 6 dX1_init_37 (by decide) ?_
  refine va_newa (D := D) (cl := vwCl) (atype := .int) (ty := .int) (N' := 6) (a0 := (6, .inl (wq_A zN))) hx hb (hts _ q67) rfl hK hP hD hS hA (fun _ => rfl) (by decide) (by decide) (by decide) (Nat.le_of_ble_eq_true rfl) (Nat.le_of_ble_eq_true rfl) dX1_init_39 (fun a5 b5 H hK hP hD hS => ?_)
  have hP : va_P D vwCl [(h0, .inr (1, [.ref a1, .int (nI 0), .ref a2, .ref a3, .ref a4, .int (nI 0), .null, .null, .int (nI 0), .null, .null])), (a1, .inl (b1, 8, .inl (wq_A zN))), (a2, .inl (b2, 10, .inl (wq_A zN))), (a3, .inl (b3, 10, .inl (wq_A zN))), (a4, .inl (b4, 10, .inl (wq_A zN))), (a5, .inl (b5, 6, .inl (wq_A zN)))] H := hP
  have hD : va_D A [(h0, .inr (1, [.ref a1, .int (nI 0), .ref a2, .ref a3, .ref a4, .int (nI 0), .null, .null, .int (nI 0), .null, .null])), (a1, .inl (b1, 8, .inl (wq_A zN))), (a2, .inl (b2, 10, .inl (wq_A zN))), (a3, .inl (b3, 10, .inl (wq_A zN))), (a4, .inl (b4, 10, .inl (wq_A zN))), (a5, .inl (b5, 6, .inl (wq_A zN)))] := hD
  have hK : va_K D vwCl [(b1, .int), (b2, .int), (b3, .int), (b4, .int), (b5, .int)] s := hK
  refine W.widen (k := 5) (n := 44) (Nat.le_of_ble_eq_true rfl) (Nat.le_of_ble_eq_true rfl) ?_
  refine va_put (D := D) (cl := vwCl) (ci := 1) (v := .ref a5) (ty := .array .int) (C := RX1) (T := TX1) (N := 11) hx hb hts in_X1 tyX1 tyX1_ok nmX1 hown hK hP hD hS 0 rfl rfl 6 (by decide) (hts _ q184) (fun _ h9 => h9) rfl (by decide +kernel) rfl rfl (Nat.le_of_ble_eq_true rfl) dX1_init_41 (fun H locs hP hD hS => ?_)
  have hP : va_P D vwCl [(h0, .inr (1, [.ref a1, .int (nI 0), .ref a2, .ref a3, .ref a4, .int (nI 0), .ref a5, .null, .int (nI 0), .null, .null])), (a1, .inl (b1, 8, .inl (wq_A zN))), (a2, .inl (b2, 10, .inl (wq_A zN))), (a3, .inl (b3, 10, .inl (wq_A zN))), (a4, .inl (b4, 10, .inl (wq_A zN))), (a5, .inl (b5, 6, .inl (wq_A zN)))] H := hP
  have hD : va_D A [(h0, .inr (1, [.ref a1, .int (nI 0), .ref a2, .ref a3, .ref a4, .int (nI 0), .ref a5, .null, .int (nI 0), .null, .null])), (a1, .inl (b1, 8, .inl (wq_A zN))), (a2, .inl (b2, 10, .inl (wq_A zN))), (a3, .inl (b3, 10, .inl (wq_A zN))), (a4, .inl (b4, 10, .inl (wq_A zN))), (a5, .inl (b5, 6, .inl (wq_A zN)))] := hD
  refine lv_aload_n hx hb dX1_init_44 rfl (lv_at hl 0 rfl) ?_
  refine wq_bipush F 6 dX1_init_45 (by decide) ?_
  refine va_newa (D := D) (cl := vwCl) (atype := .int) (ty := .int) (N' := 6) (a0 := (6, .inl zI)) hx hb (hts _ q67) rfl hK hP hD hS hA (fun _ => rfl) (by decide) (by decide) (by decide) (Nat.le_of_ble_eq_true rfl) (Nat.le_of_ble_eq_true rfl) dX1_init_47 (fun a6 b6 H hK hP hD hS => ?_)
  have hP : va_P D vwCl [(h0, .inr (1, [.ref a1, .int (nI 0), .ref a2, .ref a3, .ref a4, .int (nI 0), .ref a5, .null, .int (nI 0), .null, .null])), (a1, .inl (b1, 8, .inl (wq_A zN))), (a2, .inl (b2, 10, .inl (wq_A zN))), (a3, .inl (b3, 10, .inl (wq_A zN))), (a4, .inl (b4, 10, .inl (wq_A zN))), (a5, .inl (b5, 6, .inl (wq_A zN))), (a6, .inl (b6, 6, .inl zI))] H := hP
  have hD : va_D A [(h0, .inr (1, [.ref a1, .int (nI 0), .ref a2, .ref a3, .ref a4, .int (nI 0), .ref a5, .null, .int (nI 0), .null, .null])), (a1, .inl (b1, 8, .inl (wq_A zN))), (a2, .inl (b2, 10, .inl (wq_A zN))), (a3, .inl (b3, 10, .inl (wq_A zN))), (a4, .inl (b4, 10, .inl (wq_A zN))), (a5, .inl (b5, 6, .inl (wq_A zN))), (a6, .inl (b6, 6, .inl zI))] := hD
  have hK : va_K D vwCl [(b1, .int), (b2, .int), (b3, .int), (b4, .int), (b5, .int), (b6, .int)] s := hK
  refine W.widen (k := 6) (n := 50) (Nat.le_of_ble_eq_true rfl) (Nat.le_of_ble_eq_true rfl) ?_
  refine va_put (D := D) (cl := vwCl) (ci := 1) (v := .ref a6) (ty := .array .int) (C := RX1) (T := TX1) (N := 11) hx hb hts in_X1 tyX1 tyX1_ok nmX1 hown hK hP hD hS 0 rfl rfl 7 (by decide) (hts _ q185) (fun _ h9 => h9) rfl (by decide +kernel) rfl rfl (Nat.le_of_ble_eq_true rfl) dX1_init_49 (fun H locs hP hD hS => ?_)
  have hP : va_P D vwCl [(h0, .inr (1, [.ref a1, .int (nI 0), .ref a2, .ref a3, .ref a4, .int (nI 0), .ref a5, .ref a6, .int (nI 0), .null, .null])), (a1, .inl (b1, 8, .inl (wq_A zN))), (a2, .inl (b2, 10, .inl (wq_A zN))), (a3, .inl (b3, 10, .inl (wq_A zN))), (a4, .inl (b4, 10, .inl (wq_A zN))), (a5, .inl (b5, 6, .inl (wq_A zN))), (a6, .inl (b6, 6, .inl zI))] H := hP
  have hD : va_D A [(h0, .inr (1, [.ref a1, .int (nI 0), .ref a2, .ref a3, .ref a4, .int (nI 0), .ref a5, .ref a6, .int (nI 0), .null, .null])), (a1, .inl (b1, 8, .inl (wq_A zN))), (a2, .inl (b2, 10, .inl (wq_A zN))), (a3, .inl (b3, 10, .inl (wq_A zN))), (a4, .inl (b4, 10, .inl (wq_A zN))), (a5, .inl (b5, 6, .inl (wq_A zN))), (a6, .inl (b6, 6, .inl zI))] := hD
  refine lv_aload_n hx hb dX1_init_52 rfl (lv_at hl 0 rfl) ?_
  refine wq_bipush F 64 dX1_init_53 (by decide) ?_
  refine va_newa (D := D) (cl := vwCl) (atype := .int) (ty := .int) (N' := 64) (a0 := (64, .inl (wq_A zN))) hx hb (hts _ q67) rfl hK hP hD hS hA (fun _ => rfl) (by decide) (by decide) (by decide) (Nat.le_of_ble_eq_true rfl) (Nat.le_of_ble_eq_true rfl) dX1_init_55 (fun a7 b7 H hK hP hD hS => ?_)
  have hP : va_P D vwCl [(h0, .inr (1, [.ref a1, .int (nI 0), .ref a2, .ref a3, .ref a4, .int (nI 0), .ref a5, .ref a6, .int (nI 0), .null, .null])), (a1, .inl (b1, 8, .inl (wq_A zN))), (a2, .inl (b2, 10, .inl (wq_A zN))), (a3, .inl (b3, 10, .inl (wq_A zN))), (a4, .inl (b4, 10, .inl (wq_A zN))), (a5, .inl (b5, 6, .inl (wq_A zN))), (a6, .inl (b6, 6, .inl zI)), (a7, .inl (b7, 64, .inl (wq_A zN)))] H := hP
  have hD : va_D A [(h0, .inr (1, [.ref a1, .int (nI 0), .ref a2, .ref a3, .ref a4, .int (nI 0), .ref a5, .ref a6, .int (nI 0), .null, .null])), (a1, .inl (b1, 8, .inl (wq_A zN))), (a2, .inl (b2, 10, .inl (wq_A zN))), (a3, .inl (b3, 10, .inl (wq_A zN))), (a4, .inl (b4, 10, .inl (wq_A zN))), (a5, .inl (b5, 6, .inl (wq_A zN))), (a6, .inl (b6, 6, .inl zI)), (a7, .inl (b7, 64, .inl (wq_A zN)))] := hD
  have hK : va_K D vwCl [(b1, .int), (b2, .int), (b3, .int), (b4, .int), (b5, .int), (b6, .int), (b7, .int)] s := hK
  refine W.widen (k := 7) (n := 114) (Nat.le_of_ble_eq_true rfl) (Nat.le_of_ble_eq_true rfl) ?_
  refine va_put (D := D) (cl := vwCl) (ci := 1) (v := .ref a7) (ty := .array .int) (C := RX1) (T := TX1) (N := 11) hx hb hts in_X1 tyX1 tyX1_ok nmX1 hown hK hP hD hS 0 rfl rfl 9 (by decide) (hts _ q187) (fun _ h9 => h9) rfl (by decide +kernel) rfl rfl (Nat.le_of_ble_eq_true rfl) dX1_init_57 (fun H locs hP hD hS => ?_)
  have hP : va_P D vwCl [(h0, .inr (1, [.ref a1, .int (nI 0), .ref a2, .ref a3, .ref a4, .int (nI 0), .ref a5, .ref a6, .int (nI 0), .ref a7, .null])), (a1, .inl (b1, 8, .inl (wq_A zN))), (a2, .inl (b2, 10, .inl (wq_A zN))), (a3, .inl (b3, 10, .inl (wq_A zN))), (a4, .inl (b4, 10, .inl (wq_A zN))), (a5, .inl (b5, 6, .inl (wq_A zN))), (a6, .inl (b6, 6, .inl zI)), (a7, .inl (b7, 64, .inl (wq_A zN)))] H := hP
  have hD : va_D A [(h0, .inr (1, [.ref a1, .int (nI 0), .ref a2, .ref a3, .ref a4, .int (nI 0), .ref a5, .ref a6, .int (nI 0), .ref a7, .null])), (a1, .inl (b1, 8, .inl (wq_A zN))), (a2, .inl (b2, 10, .inl (wq_A zN))), (a3, .inl (b3, 10, .inl (wq_A zN))), (a4, .inl (b4, 10, .inl (wq_A zN))), (a5, .inl (b5, 6, .inl (wq_A zN))), (a6, .inl (b6, 6, .inl zI)), (a7, .inl (b7, 64, .inl (wq_A zN)))] := hD
  refine lv_aload_n hx hb dX1_init_60 rfl (lv_at hl 0 rfl) ?_
  refine wq_bipush F 64 dX1_init_61 (by decide) ?_
  refine va_newa (D := D) (cl := vwCl) (atype := .int) (ty := .int) (N' := 64) (a0 := (64, .inl (wq_A zN))) hx hb (hts _ q67) rfl hK hP hD hS hA (fun _ => rfl) (by decide) (by decide) (by decide) (Nat.le_of_ble_eq_true rfl) (Nat.le_of_ble_eq_true rfl) dX1_init_63 (fun a8 b8 H hK hP hD hS => ?_)
  have hP : va_P D vwCl [(h0, .inr (1, [.ref a1, .int (nI 0), .ref a2, .ref a3, .ref a4, .int (nI 0), .ref a5, .ref a6, .int (nI 0), .ref a7, .null])), (a1, .inl (b1, 8, .inl (wq_A zN))), (a2, .inl (b2, 10, .inl (wq_A zN))), (a3, .inl (b3, 10, .inl (wq_A zN))), (a4, .inl (b4, 10, .inl (wq_A zN))), (a5, .inl (b5, 6, .inl (wq_A zN))), (a6, .inl (b6, 6, .inl zI)), (a7, .inl (b7, 64, .inl (wq_A zN))), (a8, .inl (b8, 64, .inl (wq_A zN)))] H := hP
  have hD : va_D A [(h0, .inr (1, [.ref a1, .int (nI 0), .ref a2, .ref a3, .ref a4, .int (nI 0), .ref a5, .ref a6, .int (nI 0), .ref a7, .null])), (a1, .inl (b1, 8, .inl (wq_A zN))), (a2, .inl (b2, 10, .inl (wq_A zN))), (a3, .inl (b3, 10, .inl (wq_A zN))), (a4, .inl (b4, 10, .inl (wq_A zN))), (a5, .inl (b5, 6, .inl (wq_A zN))), (a6, .inl (b6, 6, .inl zI)), (a7, .inl (b7, 64, .inl (wq_A zN))), (a8, .inl (b8, 64, .inl (wq_A zN)))] := hD
  have hK : va_K D vwCl [(b1, .int), (b2, .int), (b3, .int), (b4, .int), (b5, .int), (b6, .int), (b7, .int), (b8, .int)] s := hK
  refine W.widen (k := 8) (n := 178) (Nat.le_of_ble_eq_true rfl) (Nat.le_of_ble_eq_true rfl) ?_
  refine va_put (D := D) (cl := vwCl) (ci := 1) (v := .ref a8) (ty := .array .int) (C := RX1) (T := TX1) (N := 11) hx hb hts in_X1 tyX1 tyX1_ok nmX1 hown hK hP hD hS 0 rfl rfl 10 (by decide) (hts _ q188) (fun _ h9 => h9) rfl (by decide +kernel) rfl rfl (Nat.le_of_ble_eq_true rfl) dX1_init_65 (fun H locs hP hD hS => ?_)
  have hP : va_P D vwCl [(h0, .inr (1, [.ref a1, .int (nI 0), .ref a2, .ref a3, .ref a4, .int (nI 0), .ref a5, .ref a6, .int (nI 0), .ref a7, .ref a8])), (a1, .inl (b1, 8, .inl (wq_A zN))), (a2, .inl (b2, 10, .inl (wq_A zN))), (a3, .inl (b3, 10, .inl (wq_A zN))), (a4, .inl (b4, 10, .inl (wq_A zN))), (a5, .inl (b5, 6, .inl (wq_A zN))), (a6, .inl (b6, 6, .inl zI)), (a7, .inl (b7, 64, .inl (wq_A zN))), (a8, .inl (b8, 64, .inl (wq_A zN)))] H := hP
  have hD : va_D A [(h0, .inr (1, [.ref a1, .int (nI 0), .ref a2, .ref a3, .ref a4, .int (nI 0), .ref a5, .ref a6, .int (nI 0), .ref a7, .ref a8])), (a1, .inl (b1, 8, .inl (wq_A zN))), (a2, .inl (b2, 10, .inl (wq_A zN))), (a3, .inl (b3, 10, .inl (wq_A zN))), (a4, .inl (b4, 10, .inl (wq_A zN))), (a5, .inl (b5, 6, .inl (wq_A zN))), (a6, .inl (b6, 6, .inl zI)), (a7, .inl (b7, 64, .inl (wq_A zN))), (a8, .inl (b8, 64, .inl (wq_A zN)))] := hD
  exact W.vret hx hb hr (fun t ht hW => ⟨⟨(), rfl, trivial, (fun k => match k with | 0 => h0 | 1 => a1 | 2 => a2 | 3 => a3 | 4 => a4 | 5 => a5 | 6 => a6 | 7 => a7 | _ => a8), (fun k => match k with | 1 => b1 | 2 => b2 | 3 => b3 | 4 => b4 | 5 => b5 | 6 => b6 | 7 => b7 | _ => b8), rfl, by rw [ht]; exact hP, va_K.moved hW.alike hK, hD⟩, hS.F ht⟩) hS.2.2 dX1_init_68
end
section
/-! the law's loop -/
set_option maxRecDepth 100000
/-! THE CLAIM OUT OF ONE WALK OF THE LAW'S BODY. Your part is whole_start (and what it stands on); all else here is the same for every law, but numbers. -/
def R_law : String := "WalkerPlanLaw"
def lw_P (b : Addr) (xs : List Int32) (args : Array Value) (s : State) : Prop := args = #[.ref b] ∧ s.IntsAt b xs ∧ xs.length ≤ 256 ∧ (Jvm.Cond.and given_1 narrow_1).before args s = true
def lw_Q (_ : Array Value) (s : State) (o : Outcome) (t : State) : Prop := o = .returned (some (.int 1)) ∧ Framed s o t [] 600000 7290000
def lw_Z (below : List Frame) (a : Array Value) (s : State) : State → Prop := fun t => ∃ o, t.status = .running ∧ Ended t below o ∧ lw_Q a s o t
/-- the law's own end, with 1 on the stack, nothing written that was there before, its room as the claim has it -/
theorem lw_ret {p : Program} {l : Launch} {e : Env} {s : State} {m : MethodId} {below : List Frame} {meth : Method} {c : Code} {b : Nat} (hx : p.tables.exec = Jvm.exec) (hb : c.code = code) (hr : meth.sig.returnType = ret) (hlocks : meth.locks = false) {pc : Nat} {H : Heap} {ls : Array Slot} (hdg : decode code pc = .ok (.ireturn, 1)) : W p l e room_1 s m #[Value.ref b] below meth c H [] 600000 7290000 (lw_Z below #[Value.ref b] s) (F0 m pc ls [.int 1]) := by
  intro T hT X
  obtain ⟨fs, hret, hrun, hended, hW, hframe⟩ := X.leave (v := some (.int 1)) (hlocks := hlocks) (fun h => by rw [hr] at h; cases h)
  have hmeth' : T.vm.method? m = some meth := X.method'
  refine ⟨T.setFrames fs, ?_, .returned (some (.int 1)), hrun, hended, rfl, ⟨_, rfl⟩, hW, hframe⟩
  jvm_step X.here [X.here.top, hx, hb, hdg, hmeth', hr, ret, narrow_b1]
  (try refine ⟨rfl, ?_⟩); (try refine ⟨rfl, ?_⟩)
  first | (intro acts; rw [hret _ acts rfl rfl rfl]) | rw [hret _ _ rfl rfl rfl]
  exact Steps.refl _
/-- what holds at the law's entry: the machine, the code, the tables' words (any of lw_tbl by 'hts w (by decide +kernel)'), the script of L ints xs at the cell b, what the Statement gives of the start (any of its parts by flat_of_before) -/
def lw_At (p : Program) (s : State) (m : MethodId) (meth : Method) (c : Code) (b L : Nat) (xs : Nat → Int32) : Prop :=
  p.tables.exec = Jvm.exec ∧ c.code = code ∧ meth.sig.returnType = ret ∧ c.maxLocals = 4 ∧ s.vm.findClass R_law = some m.cls ∧ (∀ w ∈ lw_tbl, w.before #[Value.ref b] s = true) ∧ va_X b L xs s s.heap ∧ b < s.heap.size ∧ meth.locks = false ∧ (Jvm.Cond.and given_1 narrow_1).before #[Value.ref b] s = true
section
variable {p : Program} {l : Launch} {e : Env} {R : Room} {s : State} {m : MethodId} {args : Array Value} {below : List Frame} {meth : Method} {c : Code} {H : Heap} {locs : List Loc} {cells slots : Nat} {Q : State → Prop}
variable {cc : ByteArray} {pc nL : Nat} {ls : Array Slot} {rest : List Value} {Ts : List Cond} {own : String} {A : Nat → Prop} {H0 : Heap}
theorem wq_sld (F : CallFix p m c cc nL s args Ts own) {b L : Nat} {xs : Nat → Int32} (hX : va_X b L xs s H0) (hbl : b < H0.size) (hbA : ¬ A b) (hS : va_S A H0 H locs) {i : Nat} (hi : i < L) (hL : L < 1000) (hdg : decode cc pc = .ok (.iaload, 1)) (kk : W p l e R s m args below meth c H locs cells slots Q (F0 m (pc + 1) ls (.int (xs i) :: rest))) : W p l e R s m args below meth c H locs cells slots Q (F0 m pc ls (.int (nI i) :: .ref b :: rest)) :=
  va_sld F.1 F.2.1 hX hbl hbA hS (vp_in_nI hi (by omega)) hdg (by rw [nI_clamp (show i < 2 ^ 31 by omega)]; exact kk)
end
set_option maxHeartbeats 4000000 in
set_option maxRecDepth 100000 in
theorem law_loop {p : Program} {e : Env} {s : State} {m : MethodId} {below : List Frame} {meth : Method} {c : Code} (l : Launch) {b L : Nat} {xs : Nat → Int32} (hL : L ≤ 256) (C0 : lw_At p s m meth c b L xs) {D : va_G} {q q2 : Nat → Nat} {d d2 : Nat → ClassId} (hK : va_K D vwCl (tX d ++ tY d2) s) : ∀ (n i : Nat), L + 4 ≤ i + 4 * n → i ≤ L → ∀ (x : SX) (y : SY), Rel x y → ∀ (H : Heap) (locs : List Loc) (ls : Array Slot), va_P D vwCl (WX q d x ++ WY q2 d2 y) H → va_D (fun q : Nat => s.heap.size ≤ q) (WX q d x ++ WY q2 d2 y) → va_S (fun q : Nat => s.heap.size ≤ q) s.heap H locs → lv_has ls 4 [(0, .ref b), (1, .ref (q 0)), (2, .ref (q2 0)), (3, .int (nI i))] → W p l e room_1 s m #[Value.ref b] below meth c H locs 18 388 (lw_Z below #[Value.ref b] s) (F0 m 18 ls []) := by
  obtain ⟨hx, hb, hr, hml, hown, hts0, hX, hbl, hlocks, hgv⟩ := id C0
  have hts : ∀ w ∈ lw_all, w.before #[Value.ref b] s = true := fun w h => hts0 w (lw_all_tbl h)
  have F : CallFix p m c cL_law 4 s #[Value.ref b] lw_all R_law := ⟨hx, hb, hml, hown, hts⟩
  have hA : ∀ q : Nat, s.heap.size ≤ q → (fun q : Nat => s.heap.size ≤ q) q := fun _ h => h
  have hbA : ¬ (fun q : Nat => s.heap.size ≤ q) b := Nat.not_le.mpr hbl
  intro n
  induction n with
  | zero =>
    intro i h1 h2
    exfalso
    omega
  | succ n ih =>
    intro i h1 h2 x y hR H locs ls hP hD hS hl
    refine lv_iload_n F.1 F.2.1 dL_law_18 rfl (lv_at hl 3 rfl) ?_
    refine lv_aload_n F.1 F.2.1 dL_law_19 rfl (lv_at hl 0 rfl) ?_
    refine va_slen F.1 F.2.1 hX hbl hbA hS dL_law_20 ?_
    refine wq_top (show Int32.ofNat L = nI L from rfl) ?_
    refine wq_iconst F 4 dL_law_21 (by decide) ?_
    refine lv_isub F.1 F.2.1 dL_law_22 ?_
    refine wr_icmp_gt (tgt := 452) F (nI_toInt (by omega)) (pk_sub_toInt (a := L) (b := 4) (by omega) (by decide)) dL_law_23 (by decide) (fun c23 => ?_) (fun c23 => ?_)
    · refine lv_iconst (v := 1) F.1 F.2.1 dL_law_452 (by decide) ?_
      refine va_forget (fun q hq => hS.2.2 q hq) ?_
      refine W.widen (k := 600000) (n := 7290000) (Nat.le_of_ble_eq_true rfl) (Nat.le_of_ble_eq_true rfl) ?_
      exact lw_ret hx hb hr hlocks dL_law_453
    have K446 : ∀ (x : SX) (y : SY), Rel x y → ∀ (H : Heap) (locs : List Loc) (ls : Array Slot), va_P D vwCl (WX q d x ++ WY q2 d2 y) H → va_D (fun q : Nat => s.heap.size ≤ q) (WX q d x ++ WY q2 d2 y) → va_S (fun q : Nat => s.heap.size ≤ q) s.heap H locs → lv_has ls 4 [(0, .ref b), (1, .ref (q 0)), (2, .ref (q2 0)), (3, .int (nI i))] → W p l e room_1 s m #[Value.ref b] below meth c H locs 18 388 (lw_Z below #[Value.ref b] s) (F0 m 446 ls []) := by
      intro x y hR H locs ls hP hD hS hl
      refine lv_iinc (v := nI (i + 4)) (lv' := [(3, .int (nI (i + 4))), (0, .ref b), (1, .ref (q 0)), (2, .ref (q2 0))]) F.1 F.2.1 dL_law_446 hl (k := 3) rfl (wq_inc4 _) (by decide) rfl (fun ls hl => ?_)
      refine lv_goto (tgt := 18) F.1 F.2.1 dL_law_449 (by decide) ?_
      exact ih (i + 4) (by omega) (by omega) x y hR _ _ _ hP hD hS (lv_sub hl [1, 2, 3, 0] rfl)
    refine lv_aload_n F.1 F.2.1 dL_law_26 rfl (lv_at hl 0 rfl) ?_
    refine lv_iload_n F.1 F.2.1 dL_law_27 rfl (lv_at hl 3 rfl) ?_
    refine wq_sld F hX hbl hbA hS (by omega) (by omega) dL_law_28 ?_
    refine wq_bipush F 15 dL_law_29 (by decide) ?_
    refine lv_iand F.1 F.2.1 dL_law_31 ?_
    obtain ⟨j, hj, ej⟩ := pk_andE (xs i) (m := nI 15) 4 (by decide)
    refine wq_top ej ?_
    have hjs : j = 0 ∨ j = 1 ∨ j = 2 ∨ j = 3 ∨ j = 4 ∨ j = 5 ∨ j = 6 ∨ j = 7 ∨ j = 8 ∨ j = 9 ∨ j = 10 ∨ j = 11 ∨ j = 12 ∨ j = 13 ∨ j = 14 ∨ j = 15 := by omega
    rcases hjs with rfl | rfl | rfl | rfl | rfl | rfl | rfl | rfl | rfl | rfl | rfl | rfl | rfl | rfl | rfl | rfl
    · refine lv_tableIn (off := 72) (tgt := 104) F.1 F.2.1 dL_law_32 (by decide) (by decide) (by decide +kernel) (by decide) ?_
      refine lv_aload_n F.1 F.2.1 dL_law_104 rfl (lv_at hl 1 rfl) ?_
      refine lv_aload_n F.1 F.2.1 dL_law_105 rfl (lv_at hl 0 rfl) ?_
      refine lv_iload_n F.1 F.2.1 dL_law_106 rfl (lv_at hl 3 rfl) ?_
      refine wq_iconst F 1 dL_law_107 (by decide) ?_
      refine wq_iadd F dL_law_108 ?_
      refine wq_sld F hX hbl hbA hS (by omega) (by omega) dL_law_109 ?_
      refine lv_aload_n F.1 F.2.1 dL_law_110 rfl (lv_at hl 0 rfl) ?_
      refine lv_iload_n F.1 F.2.1 dL_law_111 rfl (lv_at hl 3 rfl) ?_
      refine wq_iconst F 2 dL_law_112 (by decide) ?_
      refine wq_iadd F dL_law_113 ?_
      refine wq_sld F hX hbl hbA hS (by omega) (by omega) dL_law_114 ?_
      obtain ⟨r, x2, y2, hc1, hc2, hR⟩ := st_mark l D q d q2 d2 hR (xs (i + 1)) (xs (i + 2))
      refine wq_partI F (rest := []) (ci := 0) (wc := WX q d x) (w1 := WX q d x2) (wr := WY q2 d2 y) rfl rfl hc1 (cwV 2 F.2.2.2.2 (lw_V q68 q69 q70 q18 q71) rfl rfl rfl (by decide +kernel) ⟨Nat.le_of_ble_eq_true rfl, Nat.le_of_ble_eq_true rfl⟩) rfl hK [0, 1, 2, 3, 4, 5, 6, 7] rfl hP hD [0, 1, 2, 3, 4, 5, 6, 7, 8] [9, 10, 11, 12, 13, 14, 15, 16, 17] rfl rfl (by decide) rfl (by decide) (by decide) hS hA hl.1 rfl (Nat.le_of_ble_eq_true rfl) dL_law_115 ⟨Nat.le_of_ble_eq_true rfl, Nat.le_of_ble_eq_true rfl⟩ (fun H locs hP hD hS => ?_)
      refine lv_aload_n F.1 F.2.1 dL_law_118 rfl (lv_at hl 2 rfl) ?_
      refine lv_aload_n F.1 F.2.1 dL_law_119 rfl (lv_at hl 0 rfl) ?_
      refine lv_iload_n F.1 F.2.1 dL_law_120 rfl (lv_at hl 3 rfl) ?_
      refine wq_iconst F 1 dL_law_121 (by decide) ?_
      refine wq_iadd F dL_law_122 ?_
      refine wq_sld F hX hbl hbA hS (by omega) (by omega) dL_law_123 ?_
      refine lv_aload_n F.1 F.2.1 dL_law_124 rfl (lv_at hl 0 rfl) ?_
      refine lv_iload_n F.1 F.2.1 dL_law_125 rfl (lv_at hl 3 rfl) ?_
      refine wq_iconst F 2 dL_law_126 (by decide) ?_
      refine wq_iadd F dL_law_127 ?_
      refine wq_sld F hX hbl hbA hS (by omega) (by omega) dL_law_128 ?_
      refine wq_partI F (rest := [.int r]) (ci := 1) (wc := WY q2 d2 y) (w1 := WY q2 d2 y2) (wr := WX q d x2) rfl rfl hc2 (cwV 2 F.2.2.2.2 (lw_V q212 q213 q214 q19 q215) rfl rfl rfl (by decide +kernel) ⟨Nat.le_of_ble_eq_true rfl, Nat.le_of_ble_eq_true rfl⟩) rfl hK [8, 9, 10, 11, 12, 13, 14, 15] rfl hP hD [0, 1, 2, 3, 4, 5, 6, 7, 8] [9, 10, 11, 12, 13, 14, 15, 16, 17] rfl rfl (by decide) rfl (by decide) (by decide) hS hA hl.1 rfl (Nat.le_of_ble_eq_true rfl) dL_law_129 ⟨Nat.le_of_ble_eq_true rfl, Nat.le_of_ble_eq_true rfl⟩ (fun H locs hP hD hS => ?_)
      refine lv_icmp_eq (tgt := 446) F.1 F.2.1 dL_law_132 (by decide) (fun _ => ?_) (fun h => absurd rfl h)
      exact K446 x2 y2 hR _ _ _ hP hD hS hl
    · refine lv_tableIn (off := 105) (tgt := 137) F.1 F.2.1 dL_law_32 (by decide) (by decide) (by decide +kernel) (by decide) ?_
      refine lv_aload_n F.1 F.2.1 dL_law_137 rfl (lv_at hl 1 rfl) ?_
      refine lv_aload_n F.1 F.2.1 dL_law_138 rfl (lv_at hl 0 rfl) ?_
      refine lv_iload_n F.1 F.2.1 dL_law_139 rfl (lv_at hl 3 rfl) ?_
      refine wq_iconst F 1 dL_law_140 (by decide) ?_
      refine wq_iadd F dL_law_141 ?_
      refine wq_sld F hX hbl hbA hS (by omega) (by omega) dL_law_142 ?_
      refine lv_aload_n F.1 F.2.1 dL_law_143 rfl (lv_at hl 0 rfl) ?_
      refine lv_iload_n F.1 F.2.1 dL_law_144 rfl (lv_at hl 3 rfl) ?_
      refine wq_iconst F 2 dL_law_145 (by decide) ?_
      refine wq_iadd F dL_law_146 ?_
      refine wq_sld F hX hbl hbA hS (by omega) (by omega) dL_law_147 ?_
      refine lv_aload_n F.1 F.2.1 dL_law_148 rfl (lv_at hl 0 rfl) ?_
      refine lv_iload_n F.1 F.2.1 dL_law_149 rfl (lv_at hl 3 rfl) ?_
      refine wq_iconst F 3 dL_law_150 (by decide) ?_
      refine wq_iadd F dL_law_151 ?_
      refine wq_sld F hX hbl hbA hS (by omega) (by omega) dL_law_152 ?_
      obtain ⟨r, x2, y2, hc1, hc2, hR⟩ := st_join l D q d q2 d2 hR (xs (i + 1)) (xs (i + 2)) (xs (i + 3))
      refine wq_partI F (rest := []) (ci := 0) (wc := WX q d x) (w1 := WX q d x2) (wr := WY q2 d2 y) rfl rfl hc1 (cwV 3 F.2.2.2.2 (lw_V q75 q76 q77 q18 q78) rfl rfl rfl (by decide +kernel) ⟨Nat.le_of_ble_eq_true rfl, Nat.le_of_ble_eq_true rfl⟩) rfl hK [0, 1, 2, 3, 4, 5, 6, 7] rfl hP hD [0, 1, 2, 3, 4, 5, 6, 7, 8] [9, 10, 11, 12, 13, 14, 15, 16, 17] rfl rfl (by decide) rfl (by decide) (by decide) hS hA hl.1 rfl (Nat.le_of_ble_eq_true rfl) dL_law_153 ⟨Nat.le_of_ble_eq_true rfl, Nat.le_of_ble_eq_true rfl⟩ (fun H locs hP hD hS => ?_)
      refine lv_aload_n F.1 F.2.1 dL_law_156 rfl (lv_at hl 2 rfl) ?_
      refine lv_aload_n F.1 F.2.1 dL_law_157 rfl (lv_at hl 0 rfl) ?_
      refine lv_iload_n F.1 F.2.1 dL_law_158 rfl (lv_at hl 3 rfl) ?_
      refine wq_iconst F 1 dL_law_159 (by decide) ?_
      refine wq_iadd F dL_law_160 ?_
      refine wq_sld F hX hbl hbA hS (by omega) (by omega) dL_law_161 ?_
      refine lv_aload_n F.1 F.2.1 dL_law_162 rfl (lv_at hl 0 rfl) ?_
      refine lv_iload_n F.1 F.2.1 dL_law_163 rfl (lv_at hl 3 rfl) ?_
      refine wq_iconst F 2 dL_law_164 (by decide) ?_
      refine wq_iadd F dL_law_165 ?_
      refine wq_sld F hX hbl hbA hS (by omega) (by omega) dL_law_166 ?_
      refine lv_aload_n F.1 F.2.1 dL_law_167 rfl (lv_at hl 0 rfl) ?_
      refine lv_iload_n F.1 F.2.1 dL_law_168 rfl (lv_at hl 3 rfl) ?_
      refine wq_iconst F 3 dL_law_169 (by decide) ?_
      refine wq_iadd F dL_law_170 ?_
      refine wq_sld F hX hbl hbA hS (by omega) (by omega) dL_law_171 ?_
      refine wq_partI F (rest := [.int r]) (ci := 1) (wc := WY q2 d2 y) (w1 := WY q2 d2 y2) (wr := WX q d x2) rfl rfl hc2 (cwV 3 F.2.2.2.2 (lw_V q220 q221 q222 q19 q223) rfl rfl rfl (by decide +kernel) ⟨Nat.le_of_ble_eq_true rfl, Nat.le_of_ble_eq_true rfl⟩) rfl hK [8, 9, 10, 11, 12, 13, 14, 15] rfl hP hD [0, 1, 2, 3, 4, 5, 6, 7, 8] [9, 10, 11, 12, 13, 14, 15, 16, 17] rfl rfl (by decide) rfl (by decide) (by decide) hS hA hl.1 rfl (Nat.le_of_ble_eq_true rfl) dL_law_172 ⟨Nat.le_of_ble_eq_true rfl, Nat.le_of_ble_eq_true rfl⟩ (fun H locs hP hD hS => ?_)
      refine lv_icmp_eq (tgt := 446) F.1 F.2.1 dL_law_175 (by decide) (fun _ => ?_) (fun h => absurd rfl h)
      exact K446 x2 y2 hR _ _ _ hP hD hS hl
    · refine lv_tableIn (off := 148) (tgt := 180) F.1 F.2.1 dL_law_32 (by decide) (by decide) (by decide +kernel) (by decide) ?_
      refine lv_aload_n F.1 F.2.1 dL_law_180 rfl (lv_at hl 1 rfl) ?_
      refine lv_aload_n F.1 F.2.1 dL_law_181 rfl (lv_at hl 0 rfl) ?_
      refine lv_iload_n F.1 F.2.1 dL_law_182 rfl (lv_at hl 3 rfl) ?_
      refine wq_iconst F 1 dL_law_183 (by decide) ?_
      refine wq_iadd F dL_law_184 ?_
      refine wq_sld F hX hbl hbA hS (by omega) (by omega) dL_law_185 ?_
      refine lv_aload_n F.1 F.2.1 dL_law_186 rfl (lv_at hl 0 rfl) ?_
      refine lv_iload_n F.1 F.2.1 dL_law_187 rfl (lv_at hl 3 rfl) ?_
      refine wq_iconst F 2 dL_law_188 (by decide) ?_
      refine wq_iadd F dL_law_189 ?_
      refine wq_sld F hX hbl hbA hS (by omega) (by omega) dL_law_190 ?_
      refine lv_aload_n F.1 F.2.1 dL_law_191 rfl (lv_at hl 0 rfl) ?_
      refine lv_iload_n F.1 F.2.1 dL_law_192 rfl (lv_at hl 3 rfl) ?_
      refine wq_iconst F 3 dL_law_193 (by decide) ?_
      refine wq_iadd F dL_law_194 ?_
      refine wq_sld F hX hbl hbA hS (by omega) (by omega) dL_law_195 ?_
      obtain ⟨r, x2, y2, hc1, hc2, hR⟩ := st_cut l D q d q2 d2 hR (xs (i + 1)) (xs (i + 2)) (xs (i + 3))
      refine wq_partI F (rest := []) (ci := 0) (wc := WX q d x) (w1 := WX q d x2) (wr := WY q2 d2 y) rfl rfl hc1 (cwV 3 F.2.2.2.2 (lw_V q90 q91 q92 q18 q93) rfl rfl rfl (by decide +kernel) ⟨Nat.le_of_ble_eq_true rfl, Nat.le_of_ble_eq_true rfl⟩) rfl hK [0, 1, 2, 3, 4, 5, 6, 7] rfl hP hD [0, 1, 2, 3, 4, 5, 6, 7, 8] [9, 10, 11, 12, 13, 14, 15, 16, 17] rfl rfl (by decide) rfl (by decide) (by decide) hS hA hl.1 rfl (Nat.le_of_ble_eq_true rfl) dL_law_196 ⟨Nat.le_of_ble_eq_true rfl, Nat.le_of_ble_eq_true rfl⟩ (fun H locs hP hD hS => ?_)
      refine lv_aload_n F.1 F.2.1 dL_law_199 rfl (lv_at hl 2 rfl) ?_
      refine lv_aload_n F.1 F.2.1 dL_law_200 rfl (lv_at hl 0 rfl) ?_
      refine lv_iload_n F.1 F.2.1 dL_law_201 rfl (lv_at hl 3 rfl) ?_
      refine wq_iconst F 1 dL_law_202 (by decide) ?_
      refine wq_iadd F dL_law_203 ?_
      refine wq_sld F hX hbl hbA hS (by omega) (by omega) dL_law_204 ?_
      refine lv_aload_n F.1 F.2.1 dL_law_205 rfl (lv_at hl 0 rfl) ?_
      refine lv_iload_n F.1 F.2.1 dL_law_206 rfl (lv_at hl 3 rfl) ?_
      refine wq_iconst F 2 dL_law_207 (by decide) ?_
      refine wq_iadd F dL_law_208 ?_
      refine wq_sld F hX hbl hbA hS (by omega) (by omega) dL_law_209 ?_
      refine lv_aload_n F.1 F.2.1 dL_law_210 rfl (lv_at hl 0 rfl) ?_
      refine lv_iload_n F.1 F.2.1 dL_law_211 rfl (lv_at hl 3 rfl) ?_
      refine wq_iconst F 3 dL_law_212 (by decide) ?_
      refine wq_iadd F dL_law_213 ?_
      refine wq_sld F hX hbl hbA hS (by omega) (by omega) dL_law_214 ?_
      refine wq_partI F (rest := [.int r]) (ci := 1) (wc := WY q2 d2 y) (w1 := WY q2 d2 y2) (wr := WX q d x2) rfl rfl hc2 (cwV 3 F.2.2.2.2 (lw_V q228 q229 q230 q19 q231) rfl rfl rfl (by decide +kernel) ⟨Nat.le_of_ble_eq_true rfl, Nat.le_of_ble_eq_true rfl⟩) rfl hK [8, 9, 10, 11, 12, 13, 14, 15] rfl hP hD [0, 1, 2, 3, 4, 5, 6, 7, 8] [9, 10, 11, 12, 13, 14, 15, 16, 17] rfl rfl (by decide) rfl (by decide) (by decide) hS hA hl.1 rfl (Nat.le_of_ble_eq_true rfl) dL_law_215 ⟨Nat.le_of_ble_eq_true rfl, Nat.le_of_ble_eq_true rfl⟩ (fun H locs hP hD hS => ?_)
      refine lv_icmp_eq (tgt := 446) F.1 F.2.1 dL_law_218 (by decide) (fun _ => ?_) (fun h => absurd rfl h)
      exact K446 x2 y2 hR _ _ _ hP hD hS hl
    · refine lv_tableIn (off := 191) (tgt := 223) F.1 F.2.1 dL_law_32 (by decide) (by decide) (by decide +kernel) (by decide) ?_
      refine lv_aload_n F.1 F.2.1 dL_law_223 rfl (lv_at hl 1 rfl) ?_
      refine lv_aload_n F.1 F.2.1 dL_law_224 rfl (lv_at hl 0 rfl) ?_
      refine lv_iload_n F.1 F.2.1 dL_law_225 rfl (lv_at hl 3 rfl) ?_
      refine wq_iconst F 1 dL_law_226 (by decide) ?_
      refine wq_iadd F dL_law_227 ?_
      refine wq_sld F hX hbl hbA hS (by omega) (by omega) dL_law_228 ?_
      refine lv_aload_n F.1 F.2.1 dL_law_229 rfl (lv_at hl 0 rfl) ?_
      refine lv_iload_n F.1 F.2.1 dL_law_230 rfl (lv_at hl 3 rfl) ?_
      refine wq_iconst F 2 dL_law_231 (by decide) ?_
      refine wq_iadd F dL_law_232 ?_
      refine wq_sld F hX hbl hbA hS (by omega) (by omega) dL_law_233 ?_
      obtain ⟨r, x2, y2, hc1, hc2, hR⟩ := st_add l D q d q2 d2 hR (xs (i + 1)) (xs (i + 2))
      refine wq_partI F (rest := []) (ci := 0) (wc := WX q d x) (w1 := WX q d x2) (wr := WY q2 d2 y) rfl rfl hc1 (cwV 2 F.2.2.2.2 (lw_V q94 q95 q96 q18 q97) rfl rfl rfl (by decide +kernel) ⟨Nat.le_of_ble_eq_true rfl, Nat.le_of_ble_eq_true rfl⟩) rfl hK [0, 1, 2, 3, 4, 5, 6, 7] rfl hP hD [0, 1, 2, 3, 4, 5, 6, 7, 8] [9, 10, 11, 12, 13, 14, 15, 16, 17] rfl rfl (by decide) rfl (by decide) (by decide) hS hA hl.1 rfl (Nat.le_of_ble_eq_true rfl) dL_law_234 ⟨Nat.le_of_ble_eq_true rfl, Nat.le_of_ble_eq_true rfl⟩ (fun H locs hP hD hS => ?_)
      refine lv_aload_n F.1 F.2.1 dL_law_237 rfl (lv_at hl 2 rfl) ?_
      refine lv_aload_n F.1 F.2.1 dL_law_238 rfl (lv_at hl 0 rfl) ?_
      refine lv_iload_n F.1 F.2.1 dL_law_239 rfl (lv_at hl 3 rfl) ?_
      refine wq_iconst F 1 dL_law_240 (by decide) ?_
      refine wq_iadd F dL_law_241 ?_
      refine wq_sld F hX hbl hbA hS (by omega) (by omega) dL_law_242 ?_
      refine lv_aload_n F.1 F.2.1 dL_law_243 rfl (lv_at hl 0 rfl) ?_
      refine lv_iload_n F.1 F.2.1 dL_law_244 rfl (lv_at hl 3 rfl) ?_
      refine wq_iconst F 2 dL_law_245 (by decide) ?_
      refine wq_iadd F dL_law_246 ?_
      refine wq_sld F hX hbl hbA hS (by omega) (by omega) dL_law_247 ?_
      refine wq_partI F (rest := [.int r]) (ci := 1) (wc := WY q2 d2 y) (w1 := WY q2 d2 y2) (wr := WX q d x2) rfl rfl hc2 (cwV 2 F.2.2.2.2 (lw_V q232 q233 q234 q19 q235) rfl rfl rfl (by decide +kernel) ⟨Nat.le_of_ble_eq_true rfl, Nat.le_of_ble_eq_true rfl⟩) rfl hK [8, 9, 10, 11, 12, 13, 14, 15] rfl hP hD [0, 1, 2, 3, 4, 5, 6, 7, 8] [9, 10, 11, 12, 13, 14, 15, 16, 17] rfl rfl (by decide) rfl (by decide) (by decide) hS hA hl.1 rfl (Nat.le_of_ble_eq_true rfl) dL_law_248 ⟨Nat.le_of_ble_eq_true rfl, Nat.le_of_ble_eq_true rfl⟩ (fun H locs hP hD hS => ?_)
      refine lv_icmp_eq (tgt := 446) F.1 F.2.1 dL_law_251 (by decide) (fun _ => ?_) (fun h => absurd rfl h)
      exact K446 x2 y2 hR _ _ _ hP hD hS hl
    · refine lv_tableIn (off := 224) (tgt := 256) F.1 F.2.1 dL_law_32 (by decide) (by decide) (by decide +kernel) (by decide) ?_
      refine lv_aload_n F.1 F.2.1 dL_law_256 rfl (lv_at hl 1 rfl) ?_
      obtain ⟨r, x2, y2, hc1, hc2, hR⟩ := st_drop l D q d q2 d2 hR 
      refine wq_partI F (rest := []) (ci := 0) (wc := WX q d x) (w1 := WX q d x2) (wr := WY q2 d2 y) rfl rfl hc1 (cwV 0 F.2.2.2.2 (lw_V q98 q99 q100 q18 q101) rfl rfl rfl (by decide +kernel) ⟨Nat.le_of_ble_eq_true rfl, Nat.le_of_ble_eq_true rfl⟩) rfl hK [0, 1, 2, 3, 4, 5, 6, 7] rfl hP hD [0, 1, 2, 3, 4, 5, 6, 7, 8] [9, 10, 11, 12, 13, 14, 15, 16, 17] rfl rfl (by decide) rfl (by decide) (by decide) hS hA hl.1 rfl (Nat.le_of_ble_eq_true rfl) dL_law_257 ⟨Nat.le_of_ble_eq_true rfl, Nat.le_of_ble_eq_true rfl⟩ (fun H locs hP hD hS => ?_)
      refine lv_aload_n F.1 F.2.1 dL_law_260 rfl (lv_at hl 2 rfl) ?_
      refine wq_partI F (rest := [.int r]) (ci := 1) (wc := WY q2 d2 y) (w1 := WY q2 d2 y2) (wr := WX q d x2) rfl rfl hc2 (cwV 0 F.2.2.2.2 (lw_V q236 q237 q238 q19 q239) rfl rfl rfl (by decide +kernel) ⟨Nat.le_of_ble_eq_true rfl, Nat.le_of_ble_eq_true rfl⟩) rfl hK [8, 9, 10, 11, 12, 13, 14, 15] rfl hP hD [0, 1, 2, 3, 4, 5, 6, 7, 8] [9, 10, 11, 12, 13, 14, 15, 16, 17] rfl rfl (by decide) rfl (by decide) (by decide) hS hA hl.1 rfl (Nat.le_of_ble_eq_true rfl) dL_law_261 ⟨Nat.le_of_ble_eq_true rfl, Nat.le_of_ble_eq_true rfl⟩ (fun H locs hP hD hS => ?_)
      refine lv_icmp_eq (tgt := 446) F.1 F.2.1 dL_law_264 (by decide) (fun _ => ?_) (fun h => absurd rfl h)
      exact K446 x2 y2 hR _ _ _ hP hD hS hl
    · refine lv_tableIn (off := 237) (tgt := 269) F.1 F.2.1 dL_law_32 (by decide) (by decide) (by decide +kernel) (by decide) ?_
      refine lv_aload_n F.1 F.2.1 dL_law_269 rfl (lv_at hl 1 rfl) ?_
      refine lv_aload_n F.1 F.2.1 dL_law_270 rfl (lv_at hl 0 rfl) ?_
      refine lv_iload_n F.1 F.2.1 dL_law_271 rfl (lv_at hl 3 rfl) ?_
      refine wq_iconst F 1 dL_law_272 (by decide) ?_
      refine wq_iadd F dL_law_273 ?_
      refine wq_sld F hX hbl hbA hS (by omega) (by omega) dL_law_274 ?_
      obtain ⟨r, x2, y2, hc1, hc2, hR⟩ := st_from l D q d q2 d2 hR (xs (i + 1))
      refine wq_partI F (rest := []) (ci := 0) (wc := WX q d x) (w1 := WX q d x2) (wr := WY q2 d2 y) rfl rfl hc1 (cwV 1 F.2.2.2.2 (lw_V q102 q103 q104 q18 q105) rfl rfl rfl (by decide +kernel) ⟨Nat.le_of_ble_eq_true rfl, Nat.le_of_ble_eq_true rfl⟩) rfl hK [0, 1, 2, 3, 4, 5, 6, 7] rfl hP hD [0, 1, 2, 3, 4, 5, 6, 7, 8] [9, 10, 11, 12, 13, 14, 15, 16, 17] rfl rfl (by decide) rfl (by decide) (by decide) hS hA hl.1 rfl (Nat.le_of_ble_eq_true rfl) dL_law_275 ⟨Nat.le_of_ble_eq_true rfl, Nat.le_of_ble_eq_true rfl⟩ (fun H locs hP hD hS => ?_)
      refine lv_aload_n F.1 F.2.1 dL_law_278 rfl (lv_at hl 2 rfl) ?_
      refine lv_aload_n F.1 F.2.1 dL_law_279 rfl (lv_at hl 0 rfl) ?_
      refine lv_iload_n F.1 F.2.1 dL_law_280 rfl (lv_at hl 3 rfl) ?_
      refine wq_iconst F 1 dL_law_281 (by decide) ?_
      refine wq_iadd F dL_law_282 ?_
      refine wq_sld F hX hbl hbA hS (by omega) (by omega) dL_law_283 ?_
      refine wq_partI F (rest := [.int r]) (ci := 1) (wc := WY q2 d2 y) (w1 := WY q2 d2 y2) (wr := WX q d x2) rfl rfl hc2 (cwV 1 F.2.2.2.2 (lw_V q240 q241 q242 q19 q243) rfl rfl rfl (by decide +kernel) ⟨Nat.le_of_ble_eq_true rfl, Nat.le_of_ble_eq_true rfl⟩) rfl hK [8, 9, 10, 11, 12, 13, 14, 15] rfl hP hD [0, 1, 2, 3, 4, 5, 6, 7, 8] [9, 10, 11, 12, 13, 14, 15, 16, 17] rfl rfl (by decide) rfl (by decide) (by decide) hS hA hl.1 rfl (Nat.le_of_ble_eq_true rfl) dL_law_284 ⟨Nat.le_of_ble_eq_true rfl, Nat.le_of_ble_eq_true rfl⟩ (fun H locs hP hD hS => ?_)
      refine lv_icmp_eq (tgt := 446) F.1 F.2.1 dL_law_287 (by decide) (fun _ => ?_) (fun h => absurd rfl h)
      exact K446 x2 y2 hR _ _ _ hP hD hS hl
    · refine lv_tableIn (off := 260) (tgt := 292) F.1 F.2.1 dL_law_32 (by decide) (by decide) (by decide +kernel) (by decide) ?_
      refine lv_aload_n F.1 F.2.1 dL_law_292 rfl (lv_at hl 1 rfl) ?_
      refine lv_aload_n F.1 F.2.1 dL_law_293 rfl (lv_at hl 0 rfl) ?_
      refine lv_iload_n F.1 F.2.1 dL_law_294 rfl (lv_at hl 3 rfl) ?_
      refine wq_iconst F 1 dL_law_295 (by decide) ?_
      refine wq_iadd F dL_law_296 ?_
      refine wq_sld F hX hbl hbA hS (by omega) (by omega) dL_law_297 ?_
      obtain ⟨r, x2, y2, hc1, hc2, hR⟩ := st_at l D q d q2 d2 hR (xs (i + 1))
      refine wq_partI F (rest := []) (ci := 0) (wc := WX q d x) (w1 := WX q d x2) (wr := WY q2 d2 y) rfl rfl hc1 (cwV 1 F.2.2.2.2 (lw_V q106 q107 q108 q18 q109) rfl rfl rfl (by decide +kernel) ⟨Nat.le_of_ble_eq_true rfl, Nat.le_of_ble_eq_true rfl⟩) rfl hK [0, 1, 2, 3, 4, 5, 6, 7] rfl hP hD [0, 1, 2, 3, 4, 5, 6, 7, 8] [9, 10, 11, 12, 13, 14, 15, 16, 17] rfl rfl (by decide) rfl (by decide) (by decide) hS hA hl.1 rfl (Nat.le_of_ble_eq_true rfl) dL_law_298 ⟨Nat.le_of_ble_eq_true rfl, Nat.le_of_ble_eq_true rfl⟩ (fun H locs hP hD hS => ?_)
      refine lv_aload_n F.1 F.2.1 dL_law_301 rfl (lv_at hl 2 rfl) ?_
      refine lv_aload_n F.1 F.2.1 dL_law_302 rfl (lv_at hl 0 rfl) ?_
      refine lv_iload_n F.1 F.2.1 dL_law_303 rfl (lv_at hl 3 rfl) ?_
      refine wq_iconst F 1 dL_law_304 (by decide) ?_
      refine wq_iadd F dL_law_305 ?_
      refine wq_sld F hX hbl hbA hS (by omega) (by omega) dL_law_306 ?_
      refine wq_partI F (rest := [.int r]) (ci := 1) (wc := WY q2 d2 y) (w1 := WY q2 d2 y2) (wr := WX q d x2) rfl rfl hc2 (cwV 1 F.2.2.2.2 (lw_V q244 q245 q246 q19 q247) rfl rfl rfl (by decide +kernel) ⟨Nat.le_of_ble_eq_true rfl, Nat.le_of_ble_eq_true rfl⟩) rfl hK [8, 9, 10, 11, 12, 13, 14, 15] rfl hP hD [0, 1, 2, 3, 4, 5, 6, 7, 8] [9, 10, 11, 12, 13, 14, 15, 16, 17] rfl rfl (by decide) rfl (by decide) (by decide) hS hA hl.1 rfl (Nat.le_of_ble_eq_true rfl) dL_law_307 ⟨Nat.le_of_ble_eq_true rfl, Nat.le_of_ble_eq_true rfl⟩ (fun H locs hP hD hS => ?_)
      refine lv_icmp_eq (tgt := 446) F.1 F.2.1 dL_law_310 (by decide) (fun _ => ?_) (fun h => absurd rfl h)
      exact K446 x2 y2 hR _ _ _ hP hD hS hl
    · refine lv_tableIn (off := 283) (tgt := 315) F.1 F.2.1 dL_law_32 (by decide) (by decide) (by decide +kernel) (by decide) ?_
      refine lv_aload_n F.1 F.2.1 dL_law_315 rfl (lv_at hl 1 rfl) ?_
      obtain ⟨r, x2, y2, hc1, hc2, hR⟩ := st_walkers l D q d q2 d2 hR 
      refine wq_partI F (rest := []) (ci := 0) (wc := WX q d x) (w1 := WX q d x2) (wr := WY q2 d2 y) rfl rfl hc1 (cwV 0 F.2.2.2.2 (lw_V q142 q143 q144 q18 q145) rfl rfl rfl (by decide +kernel) ⟨Nat.le_of_ble_eq_true rfl, Nat.le_of_ble_eq_true rfl⟩) rfl hK [0, 1, 2, 3, 4, 5, 6, 7] rfl hP hD [0, 1, 2, 3, 4, 5, 6, 7, 8] [9, 10, 11, 12, 13, 14, 15, 16, 17] rfl rfl (by decide) rfl (by decide) (by decide) hS hA hl.1 rfl (Nat.le_of_ble_eq_true rfl) dL_law_316 ⟨Nat.le_of_ble_eq_true rfl, Nat.le_of_ble_eq_true rfl⟩ (fun H locs hP hD hS => ?_)
      refine lv_aload_n F.1 F.2.1 dL_law_319 rfl (lv_at hl 2 rfl) ?_
      refine wq_partI F (rest := [.int r]) (ci := 1) (wc := WY q2 d2 y) (w1 := WY q2 d2 y2) (wr := WX q d x2) rfl rfl hc2 (cwV 0 F.2.2.2.2 (lw_V q268 q269 q270 q19 q271) rfl rfl rfl (by decide +kernel) ⟨Nat.le_of_ble_eq_true rfl, Nat.le_of_ble_eq_true rfl⟩) rfl hK [8, 9, 10, 11, 12, 13, 14, 15] rfl hP hD [0, 1, 2, 3, 4, 5, 6, 7, 8] [9, 10, 11, 12, 13, 14, 15, 16, 17] rfl rfl (by decide) rfl (by decide) (by decide) hS hA hl.1 rfl (Nat.le_of_ble_eq_true rfl) dL_law_320 ⟨Nat.le_of_ble_eq_true rfl, Nat.le_of_ble_eq_true rfl⟩ (fun H locs hP hD hS => ?_)
      refine lv_icmp_eq (tgt := 446) F.1 F.2.1 dL_law_323 (by decide) (fun _ => ?_) (fun h => absurd rfl h)
      exact K446 x2 y2 hR _ _ _ hP hD hS hl
    · refine lv_tableIn (off := 296) (tgt := 328) F.1 F.2.1 dL_law_32 (by decide) (by decide) (by decide +kernel) (by decide) ?_
      refine lv_aload_n F.1 F.2.1 dL_law_328 rfl (lv_at hl 1 rfl) ?_
      refine lv_aload_n F.1 F.2.1 dL_law_329 rfl (lv_at hl 0 rfl) ?_
      refine lv_iload_n F.1 F.2.1 dL_law_330 rfl (lv_at hl 3 rfl) ?_
      refine wq_iconst F 1 dL_law_331 (by decide) ?_
      refine wq_iadd F dL_law_332 ?_
      refine wq_sld F hX hbl hbA hS (by omega) (by omega) dL_law_333 ?_
      obtain ⟨r, x2, y2, hc1, hc2, hR⟩ := st_after l D q d q2 d2 hR (xs (i + 1))
      refine wq_partI F (rest := []) (ci := 0) (wc := WX q d x) (w1 := WX q d x2) (wr := WY q2 d2 y) rfl rfl hc1 (cwV 1 F.2.2.2.2 (lw_V q146 q147 q148 q18 q149) rfl rfl rfl (by decide +kernel) ⟨Nat.le_of_ble_eq_true rfl, Nat.le_of_ble_eq_true rfl⟩) rfl hK [0, 1, 2, 3, 4, 5, 6, 7] rfl hP hD [0, 1, 2, 3, 4, 5, 6, 7, 8] [9, 10, 11, 12, 13, 14, 15, 16, 17] rfl rfl (by decide) rfl (by decide) (by decide) hS hA hl.1 rfl (Nat.le_of_ble_eq_true rfl) dL_law_334 ⟨Nat.le_of_ble_eq_true rfl, Nat.le_of_ble_eq_true rfl⟩ (fun H locs hP hD hS => ?_)
      refine lv_aload_n F.1 F.2.1 dL_law_337 rfl (lv_at hl 2 rfl) ?_
      refine lv_aload_n F.1 F.2.1 dL_law_338 rfl (lv_at hl 0 rfl) ?_
      refine lv_iload_n F.1 F.2.1 dL_law_339 rfl (lv_at hl 3 rfl) ?_
      refine wq_iconst F 1 dL_law_340 (by decide) ?_
      refine wq_iadd F dL_law_341 ?_
      refine wq_sld F hX hbl hbA hS (by omega) (by omega) dL_law_342 ?_
      refine wq_partI F (rest := [.int r]) (ci := 1) (wc := WY q2 d2 y) (w1 := WY q2 d2 y2) (wr := WX q d x2) rfl rfl hc2 (cwV 1 F.2.2.2.2 (lw_V q276 q273 q274 q19 q275) rfl rfl rfl (by decide +kernel) ⟨Nat.le_of_ble_eq_true rfl, Nat.le_of_ble_eq_true rfl⟩) rfl hK [8, 9, 10, 11, 12, 13, 14, 15] rfl hP hD [0, 1, 2, 3, 4, 5, 6, 7, 8] [9, 10, 11, 12, 13, 14, 15, 16, 17] rfl rfl (by decide) rfl (by decide) (by decide) hS hA hl.1 rfl (Nat.le_of_ble_eq_true rfl) dL_law_343 ⟨Nat.le_of_ble_eq_true rfl, Nat.le_of_ble_eq_true rfl⟩ (fun H locs hP hD hS => ?_)
      refine lv_icmp_eq (tgt := 446) F.1 F.2.1 dL_law_346 (by decide) (fun _ => ?_) (fun h => absurd rfl h)
      exact K446 x2 y2 hR _ _ _ hP hD hS hl
    · refine lv_tableIn (off := 319) (tgt := 351) F.1 F.2.1 dL_law_32 (by decide) (by decide) (by decide +kernel) (by decide) ?_
      refine lv_aload_n F.1 F.2.1 dL_law_351 rfl (lv_at hl 1 rfl) ?_
      refine lv_aload_n F.1 F.2.1 dL_law_352 rfl (lv_at hl 0 rfl) ?_
      refine lv_iload_n F.1 F.2.1 dL_law_353 rfl (lv_at hl 3 rfl) ?_
      refine wq_iconst F 1 dL_law_354 (by decide) ?_
      refine wq_iadd F dL_law_355 ?_
      refine wq_sld F hX hbl hbA hS (by omega) (by omega) dL_law_356 ?_
      refine lv_aload_n F.1 F.2.1 dL_law_357 rfl (lv_at hl 0 rfl) ?_
      refine lv_iload_n F.1 F.2.1 dL_law_358 rfl (lv_at hl 3 rfl) ?_
      refine wq_iconst F 2 dL_law_359 (by decide) ?_
      refine wq_iadd F dL_law_360 ?_
      refine wq_sld F hX hbl hbA hS (by omega) (by omega) dL_law_361 ?_
      obtain ⟨r, x2, y2, hc1, hc2, hR⟩ := st_between l D q d q2 d2 hR (xs (i + 1)) (xs (i + 2))
      refine wq_partI F (rest := []) (ci := 0) (wc := WX q d x) (w1 := WX q d x2) (wr := WY q2 d2 y) rfl rfl hc1 (cwV 2 F.2.2.2.2 (lw_V q150 q151 q152 q18 q153) rfl rfl rfl (by decide +kernel) ⟨Nat.le_of_ble_eq_true rfl, Nat.le_of_ble_eq_true rfl⟩) rfl hK [0, 1, 2, 3, 4, 5, 6, 7] rfl hP hD [0, 1, 2, 3, 4, 5, 6, 7, 8] [9, 10, 11, 12, 13, 14, 15, 16, 17] rfl rfl (by decide) rfl (by decide) (by decide) hS hA hl.1 rfl (Nat.le_of_ble_eq_true rfl) dL_law_362 ⟨Nat.le_of_ble_eq_true rfl, Nat.le_of_ble_eq_true rfl⟩ (fun H locs hP hD hS => ?_)
      refine lv_aload_n F.1 F.2.1 dL_law_365 rfl (lv_at hl 2 rfl) ?_
      refine lv_aload_n F.1 F.2.1 dL_law_366 rfl (lv_at hl 0 rfl) ?_
      refine lv_iload_n F.1 F.2.1 dL_law_367 rfl (lv_at hl 3 rfl) ?_
      refine wq_iconst F 1 dL_law_368 (by decide) ?_
      refine wq_iadd F dL_law_369 ?_
      refine wq_sld F hX hbl hbA hS (by omega) (by omega) dL_law_370 ?_
      refine lv_aload_n F.1 F.2.1 dL_law_371 rfl (lv_at hl 0 rfl) ?_
      refine lv_iload_n F.1 F.2.1 dL_law_372 rfl (lv_at hl 3 rfl) ?_
      refine wq_iconst F 2 dL_law_373 (by decide) ?_
      refine wq_iadd F dL_law_374 ?_
      refine wq_sld F hX hbl hbA hS (by omega) (by omega) dL_law_375 ?_
      refine wq_partI F (rest := [.int r]) (ci := 1) (wc := WY q2 d2 y) (w1 := WY q2 d2 y2) (wr := WX q d x2) rfl rfl hc2 (cwV 2 F.2.2.2.2 (lw_V q277 q278 q279 q19 q280) rfl rfl rfl (by decide +kernel) ⟨Nat.le_of_ble_eq_true rfl, Nat.le_of_ble_eq_true rfl⟩) rfl hK [8, 9, 10, 11, 12, 13, 14, 15] rfl hP hD [0, 1, 2, 3, 4, 5, 6, 7, 8] [9, 10, 11, 12, 13, 14, 15, 16, 17] rfl rfl (by decide) rfl (by decide) (by decide) hS hA hl.1 rfl (Nat.le_of_ble_eq_true rfl) dL_law_376 ⟨Nat.le_of_ble_eq_true rfl, Nat.le_of_ble_eq_true rfl⟩ (fun H locs hP hD hS => ?_)
      refine lv_icmp_eq (tgt := 446) F.1 F.2.1 dL_law_379 (by decide) (fun _ => ?_) (fun h => absurd rfl h)
      exact K446 x2 y2 hR _ _ _ hP hD hS hl
    · refine lv_tableIn (off := 352) (tgt := 384) F.1 F.2.1 dL_law_32 (by decide) (by decide) (by decide +kernel) (by decide) ?_
      refine lv_aload_n F.1 F.2.1 dL_law_384 rfl (lv_at hl 1 rfl) ?_
      obtain ⟨r, x2, y2, hc1, hc2, hR⟩ := st_reached l D q d q2 d2 hR 
      refine wq_partI F (rest := []) (ci := 0) (wc := WX q d x) (w1 := WX q d x2) (wr := WY q2 d2 y) rfl rfl hc1 (cwV 0 F.2.2.2.2 (lw_V q154 q155 q156 q18 q157) rfl rfl rfl (by decide +kernel) ⟨Nat.le_of_ble_eq_true rfl, Nat.le_of_ble_eq_true rfl⟩) rfl hK [0, 1, 2, 3, 4, 5, 6, 7] rfl hP hD [0, 1, 2, 3, 4, 5, 6, 7, 8] [9, 10, 11, 12, 13, 14, 15, 16, 17] rfl rfl (by decide) rfl (by decide) (by decide) hS hA hl.1 rfl (Nat.le_of_ble_eq_true rfl) dL_law_385 ⟨Nat.le_of_ble_eq_true rfl, Nat.le_of_ble_eq_true rfl⟩ (fun H locs hP hD hS => ?_)
      refine lv_aload_n F.1 F.2.1 dL_law_388 rfl (lv_at hl 2 rfl) ?_
      refine wq_partI F (rest := [.int r]) (ci := 1) (wc := WY q2 d2 y) (w1 := WY q2 d2 y2) (wr := WX q d x2) rfl rfl hc2 (cwV 0 F.2.2.2.2 (lw_V q281 q282 q283 q19 q284) rfl rfl rfl (by decide +kernel) ⟨Nat.le_of_ble_eq_true rfl, Nat.le_of_ble_eq_true rfl⟩) rfl hK [8, 9, 10, 11, 12, 13, 14, 15] rfl hP hD [0, 1, 2, 3, 4, 5, 6, 7, 8] [9, 10, 11, 12, 13, 14, 15, 16, 17] rfl rfl (by decide) rfl (by decide) (by decide) hS hA hl.1 rfl (Nat.le_of_ble_eq_true rfl) dL_law_389 ⟨Nat.le_of_ble_eq_true rfl, Nat.le_of_ble_eq_true rfl⟩ (fun H locs hP hD hS => ?_)
      refine lv_icmp_eq (tgt := 446) F.1 F.2.1 dL_law_392 (by decide) (fun _ => ?_) (fun h => absurd rfl h)
      exact K446 x2 y2 hR _ _ _ hP hD hS hl
    · refine lv_tableIn (off := 365) (tgt := 397) F.1 F.2.1 dL_law_32 (by decide) (by decide) (by decide +kernel) (by decide) ?_
      refine lv_aload_n F.1 F.2.1 dL_law_397 rfl (lv_at hl 1 rfl) ?_
      refine lv_aload_n F.1 F.2.1 dL_law_398 rfl (lv_at hl 0 rfl) ?_
      refine lv_iload_n F.1 F.2.1 dL_law_399 rfl (lv_at hl 3 rfl) ?_
      refine wq_iconst F 1 dL_law_400 (by decide) ?_
      refine wq_iadd F dL_law_401 ?_
      refine wq_sld F hX hbl hbA hS (by omega) (by omega) dL_law_402 ?_
      obtain ⟨r, x2, y2, hc1, hc2, hR⟩ := st_startsAt l D q d q2 d2 hR (xs (i + 1))
      refine wq_partI F (rest := []) (ci := 0) (wc := WX q d x) (w1 := WX q d x2) (wr := WY q2 d2 y) rfl rfl hc1 (cwV 1 F.2.2.2.2 (lw_V q159 q160 q161 q18 q162) rfl rfl rfl (by decide +kernel) ⟨Nat.le_of_ble_eq_true rfl, Nat.le_of_ble_eq_true rfl⟩) rfl hK [0, 1, 2, 3, 4, 5, 6, 7] rfl hP hD [0, 1, 2, 3, 4, 5, 6, 7, 8] [9, 10, 11, 12, 13, 14, 15, 16, 17] rfl rfl (by decide) rfl (by decide) (by decide) hS hA hl.1 rfl (Nat.le_of_ble_eq_true rfl) dL_law_403 ⟨Nat.le_of_ble_eq_true rfl, Nat.le_of_ble_eq_true rfl⟩ (fun H locs hP hD hS => ?_)
      refine lv_aload_n F.1 F.2.1 dL_law_406 rfl (lv_at hl 2 rfl) ?_
      refine lv_aload_n F.1 F.2.1 dL_law_407 rfl (lv_at hl 0 rfl) ?_
      refine lv_iload_n F.1 F.2.1 dL_law_408 rfl (lv_at hl 3 rfl) ?_
      refine wq_iconst F 1 dL_law_409 (by decide) ?_
      refine wq_iadd F dL_law_410 ?_
      refine wq_sld F hX hbl hbA hS (by omega) (by omega) dL_law_411 ?_
      refine wq_partI F (rest := [.int r]) (ci := 1) (wc := WY q2 d2 y) (w1 := WY q2 d2 y2) (wr := WX q d x2) rfl rfl hc2 (cwV 1 F.2.2.2.2 (lw_V q285 q286 q287 q19 q288) rfl rfl rfl (by decide +kernel) ⟨Nat.le_of_ble_eq_true rfl, Nat.le_of_ble_eq_true rfl⟩) rfl hK [8, 9, 10, 11, 12, 13, 14, 15] rfl hP hD [0, 1, 2, 3, 4, 5, 6, 7, 8] [9, 10, 11, 12, 13, 14, 15, 16, 17] rfl rfl (by decide) rfl (by decide) (by decide) hS hA hl.1 rfl (Nat.le_of_ble_eq_true rfl) dL_law_412 ⟨Nat.le_of_ble_eq_true rfl, Nat.le_of_ble_eq_true rfl⟩ (fun H locs hP hD hS => ?_)
      refine lv_icmp_eq (tgt := 446) F.1 F.2.1 dL_law_415 (by decide) (fun _ => ?_) (fun h => absurd rfl h)
      exact K446 x2 y2 hR _ _ _ hP hD hS hl
    · refine lv_tableIn (off := 388) (tgt := 420) F.1 F.2.1 dL_law_32 (by decide) (by decide) (by decide +kernel) (by decide) ?_
      refine lv_aload_n F.1 F.2.1 dL_law_420 rfl (lv_at hl 1 rfl) ?_
      obtain ⟨r, x2, y2, hc1, hc2, hR⟩ := st_diesAfter l D q d q2 d2 hR 
      refine wq_partI F (rest := []) (ci := 0) (wc := WX q d x) (w1 := WX q d x2) (wr := WY q2 d2 y) rfl rfl hc1 (cwV 0 F.2.2.2.2 (lw_V q164 q165 q166 q18 q167) rfl rfl rfl (by decide +kernel) ⟨Nat.le_of_ble_eq_true rfl, Nat.le_of_ble_eq_true rfl⟩) rfl hK [0, 1, 2, 3, 4, 5, 6, 7] rfl hP hD [0, 1, 2, 3, 4, 5, 6, 7, 8] [9, 10, 11, 12, 13, 14, 15, 16, 17] rfl rfl (by decide) rfl (by decide) (by decide) hS hA hl.1 rfl (Nat.le_of_ble_eq_true rfl) dL_law_421 ⟨Nat.le_of_ble_eq_true rfl, Nat.le_of_ble_eq_true rfl⟩ (fun H locs hP hD hS => ?_)
      refine lv_aload_n F.1 F.2.1 dL_law_424 rfl (lv_at hl 2 rfl) ?_
      refine wq_partI F (rest := [.int r]) (ci := 1) (wc := WY q2 d2 y) (w1 := WY q2 d2 y2) (wr := WX q d x2) rfl rfl hc2 (cwV 0 F.2.2.2.2 (lw_V q289 q290 q291 q19 q292) rfl rfl rfl (by decide +kernel) ⟨Nat.le_of_ble_eq_true rfl, Nat.le_of_ble_eq_true rfl⟩) rfl hK [8, 9, 10, 11, 12, 13, 14, 15] rfl hP hD [0, 1, 2, 3, 4, 5, 6, 7, 8] [9, 10, 11, 12, 13, 14, 15, 16, 17] rfl rfl (by decide) rfl (by decide) (by decide) hS hA hl.1 rfl (Nat.le_of_ble_eq_true rfl) dL_law_425 ⟨Nat.le_of_ble_eq_true rfl, Nat.le_of_ble_eq_true rfl⟩ (fun H locs hP hD hS => ?_)
      refine lv_icmp_eq (tgt := 446) F.1 F.2.1 dL_law_428 (by decide) (fun _ => ?_) (fun h => absurd rfl h)
      exact K446 x2 y2 hR _ _ _ hP hD hS hl
    · refine lv_tableIn (off := 401) (tgt := 433) F.1 F.2.1 dL_law_32 (by decide) (by decide) (by decide +kernel) (by decide) ?_
      refine lv_aload_n F.1 F.2.1 dL_law_433 rfl (lv_at hl 1 rfl) ?_
      obtain ⟨r, x2, y2, hc1, hc2, hR⟩ := st_edges l D q d q2 d2 hR 
      refine wq_partI F (rest := []) (ci := 0) (wc := WX q d x) (w1 := WX q d x2) (wr := WY q2 d2 y) rfl rfl hc1 (cwV 0 F.2.2.2.2 (lw_V q168 q169 q170 q18 q171) rfl rfl rfl (by decide +kernel) ⟨Nat.le_of_ble_eq_true rfl, Nat.le_of_ble_eq_true rfl⟩) rfl hK [0, 1, 2, 3, 4, 5, 6, 7] rfl hP hD [0, 1, 2, 3, 4, 5, 6, 7, 8] [9, 10, 11, 12, 13, 14, 15, 16, 17] rfl rfl (by decide) rfl (by decide) (by decide) hS hA hl.1 rfl (Nat.le_of_ble_eq_true rfl) dL_law_434 ⟨Nat.le_of_ble_eq_true rfl, Nat.le_of_ble_eq_true rfl⟩ (fun H locs hP hD hS => ?_)
      refine lv_aload_n F.1 F.2.1 dL_law_437 rfl (lv_at hl 2 rfl) ?_
      refine wq_partI F (rest := [.int r]) (ci := 1) (wc := WY q2 d2 y) (w1 := WY q2 d2 y2) (wr := WX q d x2) rfl rfl hc2 (cwV 0 F.2.2.2.2 (lw_V q293 q294 q295 q19 q296) rfl rfl rfl (by decide +kernel) ⟨Nat.le_of_ble_eq_true rfl, Nat.le_of_ble_eq_true rfl⟩) rfl hK [8, 9, 10, 11, 12, 13, 14, 15] rfl hP hD [0, 1, 2, 3, 4, 5, 6, 7, 8] [9, 10, 11, 12, 13, 14, 15, 16, 17] rfl rfl (by decide) rfl (by decide) (by decide) hS hA hl.1 rfl (Nat.le_of_ble_eq_true rfl) dL_law_438 ⟨Nat.le_of_ble_eq_true rfl, Nat.le_of_ble_eq_true rfl⟩ (fun H locs hP hD hS => ?_)
      refine lv_icmp_eq (tgt := 446) F.1 F.2.1 dL_law_441 (by decide) (fun _ => ?_) (fun h => absurd rfl h)
      exact K446 x2 y2 hR _ _ _ hP hD hS hl
    · refine lv_tableOut (tgt := 446) F.1 F.2.1 dL_law_32 (Or.inr (by decide)) (by decide) ?_
      exact K446 x y hR _ _ _ hP hD hS hl
    · refine lv_tableOut (tgt := 446) F.1 F.2.1 dL_law_32 (Or.inr (by decide)) (by decide) ?_
      exact K446 x y hR _ _ _ hP hD hS hl
end
section
/-! the claim -/
set_option maxRecDepth 100000
theorem Ed_0 : Ed 0 zN zN zN zN zN := by
  refine ⟨fun f => ?_, fun l a b _ _ _ => by show 0 / 2 ^ a % 2 = 0 / 2 ^ b % 2; rw [Nat.zero_div, Nat.zero_div], fun i hi => by omega, by decide, fun k => by unfold zN; decide, fun k => by unfold zN; decide, fun k => by unfold zN; decide, fun k => by unfold zN; decide, fun k => by unfold zN; decide⟩
  refine (sm_zero (fun t ht => ?_)).symm
  show 0 / 2 ^ (t % 8) % 2 * f (t / 8 % 8) (t % 8) (t / 64) = 0
  rw [Nat.zero_div, Nat.zero_mod, Nat.zero_mul]
theorem Rel_0 : Rel (0, 0, 0, 0, zN, zN, zN, zN, zN, zN, zN, zN) (0, 0, 0, zN, zN, zN, zN, zN, zI, zN, zN) :=
  ⟨0, 0, 0, 0, zN, zN, zN, zN, zN, zN, zN, zN, zN, zN, zN, zI, zN, zN, rfl, rfl, Ed_0, ⟨by decide, fun _ => by unfold zN; decide, fun _ => by unfold zN; decide, fun k hk => by omega, fun k hk => by omega⟩, fun _ => by unfold zN; decide, by decide, by decide, fun z => by cases z⟩
set_option maxHeartbeats 4000000 in
set_option maxRecDepth 100000 in
theorem whole_start {p : Program} {e : Env} {s : State} {m : MethodId} {below : List Frame} {meth : Method} {c : Code} (l : Launch) {b L : Nat} {xs : Nat → Int32} (hL : L ≤ 256) (C0 : lw_At p s m meth c b L xs) : W p l e room_1 s m #[Value.ref b] below meth c s.heap [] 0 0 (lw_Z below #[Value.ref b] s) (entryFrame m ([Value.ref b] : List Value).toArray 4) := by
  obtain ⟨hx, hb, hr, hml, hown, hts0, hX, hbl, hlocks, hgv⟩ := id C0
  have hts : ∀ w ∈ lw_all, w.before #[Value.ref b] s = true := fun w h => hts0 w (lw_all_tbl h)
  have F : CallFix p m c cL_law 4 s #[Value.ref b] lw_all R_law := ⟨hx, hb, hml, hown, hts⟩
  have hA : ∀ q : Nat, s.heap.size ≤ q → (fun q : Nat => s.heap.size ≤ q) q := fun _ h => h
  obtain ⟨c0, iS0, hKn0⟩ := u_known (C := RX0) (T := TX0) (N := 12) (n := 12) hts in_X0 (hts _ q21)
  obtain ⟨c1, iS1, hKn1⟩ := u_known (C := RX1) (T := TX1) (N := 11) (n := 11) hts in_X1 (hts _ q173)
  obtain ⟨D, hKc⟩ : ∃ D : va_G, ∀ (k : Nat) (q : vw_C), vwCl[k]? = some q → u_Kn s q.1 q.2.1 q.2.2 (D.1 k) (D.2 k) := by
    refine ⟨(fun k => if k = 0 then c0 else c1, fun k => if k = 0 then iS0 else iS1), ?_⟩
    intro k q hq
    match k, hq with
    | 0, hq => cases hq; exact hKn0
    | 1, hq => cases hq; exact hKn1
    | k + 2, hq => simp [vwCl] at hq
  have hS : va_S (fun q : Nat => s.heap.size ≤ q) s.heap s.heap [] := va_S.rf
  have hK : va_K D vwCl [] s := ⟨hKc, fun k q h => by simp at h⟩
  have hP : va_P D vwCl [] s.heap := fun k q h => by simp at h
  have hD : va_D (fun q : Nat => s.heap.size ≤ q) [] := ⟨fun i j p q h => by simp at h, fun k q h => by simp at h⟩
  have hl := lv_entry ([.ref b]) (n := 4) (Nat.le_of_ble_eq_true rfl)
  rw [lg_entry_eq]
  generalize (lg_sl ([.ref b]) ++ List.replicate (4 - (lg_sl ([.ref b])).length) Slot.unset).toArray = ls at hl ⊢
  have hl : lv_has ls 4 [(0, .ref b)] := hl
  refine va_new (D := D) (cl := vwCl) (ci := 0) (fs := [.null, .int (nI 0), .null, .null, .null, .null, .int (nI 0), .int (nI 0), .int (nI 0), .null, .null, .null]) (C := RX0) (T := TX0) (N := 12) hx hb hts in_X0 tyX0 tyX0_ok hown (hts _ q20) (hts _ q21) (hts _ q18) hK hP hD hS hA rfl (fun j hj => by rcases (show j = 0 ∨ j = 1 ∨ j = 2 ∨ j = 3 ∨ j = 4 ∨ j = 5 ∨ j = 6 ∨ j = 7 ∨ j = 8 ∨ j = 9 ∨ j = 10 ∨ j = 11 by omega) with rfl | rfl | rfl | rfl | rfl | rfl | rfl | rfl | rfl | rfl | rfl | rfl <;> rfl) (Nat.le_of_ble_eq_true rfl) (Nat.le_of_ble_eq_true rfl) dL_law_0 (fun a0 H hP hD hS => ?_)
  have hP : va_P D vwCl (w0X0 a0) H := hP
  have hD : va_D (fun q : Nat => s.heap.size ≤ q) (w0X0 a0) := hD
  refine W.widen (k := 1) (n := 12) (Nat.le_of_ble_eq_true rfl) (Nat.le_of_ble_eq_true rfl) ?_
  refine lv_dup hx hb dL_law_3 rfl ?_
  have hFc := wq_free (H := H) hD hS hA
  refine va_callv (va_runI (As := []) (rest := [.ref a0]) F (cX_init l D a0 H.size) (cwI 0 hts (lw_meth q24) rfl rfl rfl (hts _ q18) (hts _ q22) (hts _ q23) rfl (by decide +kernel) ⟨Nat.le_of_ble_eq_true rfl, Nat.le_of_ble_eq_true rfl⟩) ⟨wq_blind, fun U hU hW => ⟨rfl, by rw [hU], by rw [hU]; exact hP, va_K.moved hW.alike hK, hD.weaken (fun _ _ _ _ => trivial)⟩⟩ rfl rfl hl.1 rfl (lv_room (Nat.le_of_ble_eq_true rfl)) dL_law_4 ⟨Nat.le_of_ble_eq_true rfl, Nat.le_of_ble_eq_true rfl⟩) hS (fun q _ h => hFc q h) hFc (fun u t H1 locs ht hvm hw hB hz1 hk1 hS => ?_)
  obtain ⟨q, d, hq0, hP1, hK1, hD1⟩ := hB
  rw [ht] at hP1
  have hK5 := va_K.moved hvm.symm hK1
  have hD5 := hD1.weaken (B := (fun q : Nat => s.heap.size ≤ q)) (fun k q _ h => hFc q.1 h)
  clear hP hD hK
  subst hq0
  refine W.widen (k := 9) (n := 199) (Nat.le_of_ble_eq_true rfl) (Nat.le_of_ble_eq_true rfl) ?_
  have hP : va_P D vwCl (WX q d (0, 0, 0, 0, zN, zN, zN, zN, zN, zN, zN, zN)) H1 := hP1
  have hD : va_D (fun q : Nat => s.heap.size ≤ q) (WX q d (0, 0, 0, 0, zN, zN, zN, zN, zN, zN, zN, zN)) := hD5
  have hK := hK5
  refine lv_astore_n (lv' := [(1, .ref (q 0)), (0, .ref b)]) hx hb dL_law_7 rfl hl (by decide) rfl (fun ls hl => ?_)
  refine va_new (D := D) (cl := vwCl) (ci := 1) (fs := [.null, .int (nI 0), .null, .null, .null, .int (nI 0), .null, .null, .int (nI 0), .null, .null]) (C := RX1) (T := TX1) (N := 11) hx hb hts in_X1 tyX1 tyX1_ok hown (hts _ q172) (hts _ q173) (hts _ q19) hK hP hD hS hA rfl (fun j hj => by rcases (show j = 0 ∨ j = 1 ∨ j = 2 ∨ j = 3 ∨ j = 4 ∨ j = 5 ∨ j = 6 ∨ j = 7 ∨ j = 8 ∨ j = 9 ∨ j = 10 by omega) with rfl | rfl | rfl | rfl | rfl | rfl | rfl | rfl | rfl | rfl | rfl <;> rfl) (Nat.le_of_ble_eq_true rfl) (Nat.le_of_ble_eq_true rfl) dL_law_8 (fun a1 H hP hD hS => ?_)
  refine W.widen (k := 10) (n := 210) (Nat.le_of_ble_eq_true rfl) (Nat.le_of_ble_eq_true rfl) ?_
  refine lv_dup hx hb dL_law_11 rfl ?_
  have hPc := hP.sub (ws' := w0X1 a1) [9] rfl
  have hDc := hD.sub (ws' := w0X1 a1) [9] (by decide) rfl
  have hKc2 := hK.sub (tys' := []) [] rfl
  have hFc := va_free (wc := w0X1 a1) hD hS hA [9] rfl
  refine va_callv (va_runI (As := []) (rest := [.ref a1]) F (cY_init l D a1 H.size) (cwI 0 hts (lw_meth q176) rfl rfl rfl (hts _ q19) (hts _ q174) (hts _ q175) rfl (by decide +kernel) ⟨Nat.le_of_ble_eq_true rfl, Nat.le_of_ble_eq_true rfl⟩) ⟨wq_blind, fun U hU hW => ⟨rfl, by rw [hU], by rw [hU]; exact hPc, va_K.moved hW.alike hKc2, hDc.weaken (fun _ _ _ _ => trivial)⟩⟩ rfl rfl hl.1 rfl (lv_room (Nat.le_of_ble_eq_true rfl)) dL_law_12 ⟨Nat.le_of_ble_eq_true rfl, Nat.le_of_ble_eq_true rfl⟩) hS (fun q _ h => hFc q h) hFc (fun u t H1 locs ht hvm hw hB hz1 hk1 hS => ?_)
  obtain ⟨q2, d2, hq0, hP1, hK1, hD1⟩ := hB
  rw [ht] at hP1
  have hK1 := va_K.moved hvm.symm hK1
  obtain ⟨hP6, hD6⟩ := va_join (wr := WX q d (0, 0, 0, 0, zN, zN, zN, zN, zN, zN, zN, zN)) (w1 := WY q2 d2 (0, 0, 0, zN, zN, zN, zN, zN, zI, zN, zN)) hP hD [9] [0, 1, 2, 3, 4, 5, 6, 7, 8] rfl rfl (by decide) (by decide) hk1 hFc hP1 hD1
  have hK := hK.app hK1
  clear hFc hk1 hPc hDc hD1 hP1
  subst hq0
  refine W.widen (k := 18) (n := 388) (Nat.le_of_ble_eq_true rfl) (Nat.le_of_ble_eq_true rfl) ?_
  refine lv_astore_n (lv' := [(2, .ref (q2 0)), (1, .ref (q 0)), (0, .ref b)]) hx hb dL_law_15 rfl hl (by decide) rfl (fun ls hl => ?_)
  refine wq_iconst F 0 dL_law_16 (by decide) ?_
  refine lv_istore_n (lv' := [(3, .int (nI 0)), (2, .ref (q2 0)), (1, .ref (q 0)), (0, .ref b)]) hx hb dL_law_17 rfl hl (by decide) rfl (fun ls hl => ?_)
  exact law_loop l hL C0 hK (L + 1) 0 (by omega) (Nat.zero_le _) _ _ Rel_0 _ _ _ hP6 hD6 hS (lv_sub hl [3, 2, 1, 0] rfl)
set_option maxHeartbeats 4000000 in
theorem lw_walk (l : Launch) (b : Addr) (xs : List Int32) : MetFree l x (headSpec (Jvm.Cond.code x code maxLocals ret :: tables_1) room_1) (lw_P b xs) (fun _ _ _ _ _ => True) lw_Q := by
  refine MetFree.of_bodyS (code := code) (maxLocals := maxLocals) (ret := ret) (by decide) ?_ ?_
  · intro args s m h hn
    obtain ⟨meth, c, h1, h2, h3, h4, h5, h6, -, -⟩ := Cond.code_spec hn (atoms_spec (ws := Jvm.Cond.code x code maxLocals ret :: tables_1) h _ List.mem_cons_self)
    exact ⟨meth, c, h1, h2, h3, h4, h5, h6⟩
  · intro p e s m args below meth c s₁ B hml0 hP _
    obtain ⟨rfl, hx, hbd, hgv⟩ := hP
    obtain ⟨scr, harrAt, hlist, hof, hsmall⟩ := hx
    obtain ⟨hcb, hkn, -, -⟩ := State.arrayAt?_spec harrAt
    have hown : s.vm.findClass R_law = some m.cls := findClass_of_methodNamed B.named
    have hts0 : ∀ c ∈ (Jvm.Cond.code x code maxLocals ret :: tables_1), c.before #[Value.ref b] s = true := atoms_spec (ws := Jvm.Cond.code x code maxLocals ret :: tables_1) B.pre
    have hts : ∀ w ∈ lw_tbl, w.before #[Value.ref b] s = true := k2_hts_sels lw_privs (fun w hw => hts0 w (List.mem_cons_of_mem _ hw)) lw_privs_ok
    have hml : c.maxLocals = 4 := B.maxLocals_eq (hts0 _ List.mem_cons_self)
    have X₀ : Stand p l e room_1 s m #[Value.ref b] below meth c s₁ [] 0 0 := Stand.of_body B
    have hh0 : s₁.heap = s.heap := by rw [B.state]; rfl
    have hsz : scr.slots.size = xs.length := by rw [← Array.length_toList, hlist, List.length_map]
    have hval : ∀ j : Nat, j < xs.length → scr.slots[j]? = some (.int (xs.getD j 0)) := fun j hj => by
      rw [← Array.getElem?_toList, hlist]
      simp [hj]
    have hbl : b < s.heap.size := (Array.getElem?_eq_some_iff.mp hcb).1
    have hX : va_X b xs.length (fun j => xs.getD j 0) s s.heap := ⟨scr, hcb, hof, hkn, hsz, hval⟩
    have K : W p l e room_1 s m #[Value.ref b] below meth c s₁.heap [] 0 0 (lw_Z below #[Value.ref b] s) (entryFrame m ([Value.ref b] : List Value).toArray 4) := by
      rw [hh0]
      exact whole_start l hbd ⟨B.exec, B.bytes, B.returns, hml, hown, hts, hX, hbl, B.notSynchronized, hgv⟩
    obtain ⟨t, a1, o, b1, b2, b3⟩ := K s₁ rfl X₀
    exact ⟨t, o, a1, b1, b2, b3⟩
theorem lw_pre_spec {args : Array Value} {s : State} (h : (Jvm.Cond.and given_1 narrow_1).before args s = true) (hr : rest_1_c.before args s = true) : ∃ (b : Addr) (xs : List Int32), lw_P b xs args s := by
  have hs := flat_of_before _ h
  have hq := flat_of_before _ hr
  have hc : (Cond.count 1).before args s = true := hs _ (by decide +kernel)
  have harr : (Cond.arrayOf (.arg 0) .int).before args s = true := hs _ (by decide +kernel)
  have hle : (Cond.le (.length (.arg 0)) (.int 256)).before args s = true := hs _ (by decide +kernel)
  have hlen : (Cond.isInt (.length (.arg 0))).before args s = true := hq _ (by decide +kernel)
  have hall : (Cond.all (.arg 0) (.isInt (.elem (.arg 0) (.index 0)))).before args s = true := hq _ (by decide +kernel)
  obtain ⟨b, xs, hb, hx⟩ := State.ints_of_pre rfl harr hlen hall
  have hsm : xs.length < 2 ^ 31 := hx.choose_spec.2.2.2
  have hev : (Term.length (.arg 0)).eval args s none [] s = some (.int xs.length.toInt32) := hx.length_eval hb
  have hv := Cond.le_ints hev (show (Term.int 256).eval args s none [] s = some (.int 256) from rfl)
  have hd : xs.length.toInt32 ≤ 256 := by
    simpa [Cond.before, Cond.holds, hv] using hle
  have hN : xs.length ≤ 256 := (Int32.ofNat_le_ofNat hsm (by decide)).mp (show Int32.ofNat xs.length ≤ Int32.ofNat 256 from hd)
  exact ⟨b, xs, Cond.one_arg hc (show args[0]? = some (.ref b) from hb), hx, hN, h⟩
theorem lw_comes (l : Launch) : Comes l x (Jvm.Cond.code x code maxLocals ret :: tables_1) room_1 (fun tb e args s => Calls_1 tb e args s ∧ rest_1 tb e args s ∧ Pre_1 tb e args s)
    (fun _ _ args s o t => lw_Q args s o t) := by
  intro p e ha hc hk s m args below hf hfit hheap happ hpre
  obtain ⟨b, xs, hP⟩ := lw_pre_spec hpre.2.2 hpre.2.1
  obtain ⟨k, o, h1, h2, h3, hQ⟩ := lw_walk l b xs p e ha hc hk s m args below hf ((Spec.applies_iff_loose hf).mp happ).1 hP trivial
  exact ⟨k, o, h1, h2, h3, hQ⟩
theorem lw_frame {s t : State} {o : Outcome} {args : Array Value} (h : Framed s o t [] 600000 7290000) :
    Framed s o t (fieldLocs frame_1_writes args s ++ arrayLocs frame_1_arrays args s ++ staticLocs frame_1_statics s) 600000 7290000 := h
theorem lw_limb (L : Cond) (hL : ∀ (args : Array Value) (s t : State), L.after args s (.returned (some (.int 1))) t = true) :
    ArmFor flags0 classFile x code maxLocals ret World_1 tables_1 room_1 Calls_1 rest_1 Pre_1
      (fun tb e a s o t => postC L tb e a s o t ∧ Framed s o t (fieldLocs frame_1_writes a s ++ arrayLocs frame_1_arrays a s ++ staticLocs frame_1_statics s) 600000 7290000) := by
  intro l _ _ _ p e ha hc hk s m args below hf hfit hheap happ hpre
  obtain ⟨k, o, h1, h2, h3, rfl, hF⟩ := lw_comes l p e ha hc hk s m args below hf hfit hheap happ hpre
  exact ⟨k, _, h1, h2, h3, hL args s _, lw_frame hF⟩
theorem i_vc : Claimed_1_1 ∧ Claimed_1_2 := ⟨lw_limb limb_1_1 (fun args s t => by simp [limb_1_1, Cond.after, Cond.holds, Cond.value]), lw_limb limb_1_2 (fun args s t => Cond.after_iff.mpr (by
  first | (rw [show limb_1_2 = Cond.eq .result (.int 1) from rfl, Cond.eq_ints (x := 1) (y := 1) rfl rfl]; simp; done) | (simp [limb_1_2, Cond.value, Term.eval]; done)))⟩
end
