section
-- ===== PART A: goes FIRST, ahead of the names: the tables' words, and 'selects' of the private methods out of them =====
/-- a private method of a class that the tables say can be made, by its rows of tables_1 -/
def lw_okq (q : MethodName × Nat) : Prop := (q.1.cls ≠ "java/lang/invoke/MethodHandle" ∧ q.1.cls ≠ "java/lang/invoke/VarHandle") ∧ Cond.instantiable q.1.cls q.2 ∈ tables_1 ∧ Cond.privateMethod q.1 ∈ tables_1 ∧ Cond.instanceMethod q.1 ∈ tables_1
set_option maxRecDepth 100000
theorem lw_t1 {w : Cond} (h : w ∈ tables_1_1) : w ∈ tables_1 := List.mem_append_left _ h
theorem lw_t2 {w : Cond} (h : w ∈ tables_1_2) : w ∈ tables_1 := List.mem_append_right _ h
theorem lw_p0 : lw_okq (⟨"ActionPlanner", "isGiven", "(I)Z"⟩, 24) := ⟨⟨by decide +kernel, by decide +kernel⟩, lw_t1 (List.mem_of_getElem? (i := 4) rfl), lw_t1 (List.mem_of_getElem? (i := 95) rfl), lw_t1 (List.mem_of_getElem? (i := 96) rfl)⟩
theorem lw_p1 : lw_okq (⟨"ActionPlanner", "makePlan", "()V"⟩, 24) := ⟨⟨by decide +kernel, by decide +kernel⟩, lw_t1 (List.mem_of_getElem? (i := 4) rfl), lw_t1 (List.mem_of_getElem? (i := 119) rfl), lw_t1 (List.mem_of_getElem? (i := 120) rfl)⟩
theorem lw_p2 : lw_okq (⟨"ActionPlanner", "findCheapest", "()V"⟩, 24) := ⟨⟨by decide +kernel, by decide +kernel⟩, lw_t1 (List.mem_of_getElem? (i := 4) rfl), lw_t1 (List.mem_of_getElem? (i := 123) rfl), lw_t1 (List.mem_of_getElem? (i := 124) rfl)⟩
theorem lw_p3 : lw_okq (⟨"ActionPlanner", "searchForward", "()I"⟩, 24) := ⟨⟨by decide +kernel, by decide +kernel⟩, lw_t1 (List.mem_of_getElem? (i := 4) rfl), lw_t1 (List.mem_of_getElem? (i := 128) rfl), lw_t1 (List.mem_of_getElem? (i := 129) rfl)⟩
theorem lw_p4 : lw_okq (⟨"ActionPlanner", "reach", "(II)V"⟩, 24) := ⟨⟨by decide +kernel, by decide +kernel⟩, lw_t1 (List.mem_of_getElem? (i := 4) rfl), lw_t1 (List.mem_of_getElem? (i := 132) rfl), lw_t1 (List.mem_of_getElem? (i := 133) rfl)⟩
theorem lw_p5 : lw_okq (⟨"ActionPlanner", "rise", "(I)V"⟩, 24) := ⟨⟨by decide +kernel, by decide +kernel⟩, lw_t1 (List.mem_of_getElem? (i := 4) rfl), lw_t1 (List.mem_of_getElem? (i := 136) rfl), lw_t1 (List.mem_of_getElem? (i := 137) rfl)⟩
theorem lw_p6 : lw_okq (⟨"ActionPlanner", "keyOf", "(I)I"⟩, 24) := ⟨⟨by decide +kernel, by decide +kernel⟩, lw_t1 (List.mem_of_getElem? (i := 4) rfl), lw_t1 (List.mem_of_getElem? (i := 140) rfl), lw_t1 (List.mem_of_getElem? (i := 141) rfl)⟩
theorem lw_p7 : lw_okq (⟨"ActionPlanner", "bound", "(I)I"⟩, 24) := ⟨⟨by decide +kernel, by decide +kernel⟩, lw_t1 (List.mem_of_getElem? (i := 4) rfl), lw_t1 (List.mem_of_getElem? (i := 144) rfl), lw_t1 (List.mem_of_getElem? (i := 145) rfl)⟩
theorem lw_p8 : lw_okq (⟨"ActionPlanner", "setHeap", "(II)V"⟩, 24) := ⟨⟨by decide +kernel, by decide +kernel⟩, lw_t1 (List.mem_of_getElem? (i := 4) rfl), lw_t1 (List.mem_of_getElem? (i := 148) rfl), lw_t1 (List.mem_of_getElem? (i := 149) rfl)⟩
theorem lw_p9 : lw_okq (⟨"ActionPlanner", "takeLeast", "()I"⟩, 24) := ⟨⟨by decide +kernel, by decide +kernel⟩, lw_t1 (List.mem_of_getElem? (i := 4) rfl), lw_t1 (List.mem_of_getElem? (i := 152) rfl), lw_t1 (List.mem_of_getElem? (i := 153) rfl)⟩
theorem lw_p10 : lw_okq (⟨"ActionPlanner", "sink", "(I)V"⟩, 24) := ⟨⟨by decide +kernel, by decide +kernel⟩, lw_t1 (List.mem_of_getElem? (i := 4) rfl), lw_t1 (List.mem_of_getElem? (i := 156) rfl), lw_t1 (List.mem_of_getElem? (i := 157) rfl)⟩
theorem lw_p11 : lw_okq (⟨"ActionPlanner", "lesserChild", "(I)I"⟩, 24) := ⟨⟨by decide +kernel, by decide +kernel⟩, lw_t1 (List.mem_of_getElem? (i := 4) rfl), lw_t1 (List.mem_of_getElem? (i := 160) rfl), lw_t1 (List.mem_of_getElem? (i := 161) rfl)⟩
theorem lw_p12 : lw_okq (⟨"ActionPlanner", "isGoal", "(I)Z"⟩, 24) := ⟨⟨by decide +kernel, by decide +kernel⟩, lw_t1 (List.mem_of_getElem? (i := 4) rfl), lw_t1 (List.mem_of_getElem? (i := 164) rfl), lw_t1 (List.mem_of_getElem? (i := 165) rfl)⟩
theorem lw_p13 : lw_okq (⟨"ActionPlanner", "spread", "(I)V"⟩, 24) := ⟨⟨by decide +kernel, by decide +kernel⟩, lw_t1 (List.mem_of_getElem? (i := 4) rfl), lw_t1 (List.mem_of_getElem? (i := 168) rfl), lw_t1 (List.mem_of_getElem? (i := 169) rfl)⟩
theorem lw_p14 : lw_okq (⟨"ActionPlanner", "canDo", "(II)Z"⟩, 24) := ⟨⟨by decide +kernel, by decide +kernel⟩, lw_t1 (List.mem_of_getElem? (i := 4) rfl), lw_t1 (List.mem_of_getElem? (i := 172) rfl), lw_t1 (List.mem_of_getElem? (i := 173) rfl)⟩
theorem lw_p15 : lw_okq (⟨"ActionPlanner", "after", "(II)I"⟩, 24) := ⟨⟨by decide +kernel, by decide +kernel⟩, lw_t1 (List.mem_of_getElem? (i := 4) rfl), lw_t1 (List.mem_of_getElem? (i := 176) rfl), lw_t1 (List.mem_of_getElem? (i := 177) rfl)⟩
def lw_privs_1 : List (MethodName × Nat) := [(⟨"ActionPlanner", "isGiven", "(I)Z"⟩, 24), (⟨"ActionPlanner", "makePlan", "()V"⟩, 24), (⟨"ActionPlanner", "findCheapest", "()V"⟩, 24), (⟨"ActionPlanner", "searchForward", "()I"⟩, 24), (⟨"ActionPlanner", "reach", "(II)V"⟩, 24), (⟨"ActionPlanner", "rise", "(I)V"⟩, 24), (⟨"ActionPlanner", "keyOf", "(I)I"⟩, 24), (⟨"ActionPlanner", "bound", "(I)I"⟩, 24), (⟨"ActionPlanner", "setHeap", "(II)V"⟩, 24), (⟨"ActionPlanner", "takeLeast", "()I"⟩, 24), (⟨"ActionPlanner", "sink", "(I)V"⟩, 24), (⟨"ActionPlanner", "lesserChild", "(I)I"⟩, 24), (⟨"ActionPlanner", "isGoal", "(I)Z"⟩, 24), (⟨"ActionPlanner", "spread", "(I)V"⟩, 24), (⟨"ActionPlanner", "canDo", "(II)Z"⟩, 24), (⟨"ActionPlanner", "after", "(II)I"⟩, 24)]
theorem lw_r1 : ∀ q ∈ lw_privs_1, lw_okq q := List.forall_mem_cons.mpr ⟨lw_p0, List.forall_mem_cons.mpr ⟨lw_p1, List.forall_mem_cons.mpr ⟨lw_p2, List.forall_mem_cons.mpr ⟨lw_p3, List.forall_mem_cons.mpr ⟨lw_p4, List.forall_mem_cons.mpr ⟨lw_p5, List.forall_mem_cons.mpr ⟨lw_p6, List.forall_mem_cons.mpr ⟨lw_p7, List.forall_mem_cons.mpr ⟨lw_p8, List.forall_mem_cons.mpr ⟨lw_p9, List.forall_mem_cons.mpr ⟨lw_p10, List.forall_mem_cons.mpr ⟨lw_p11, List.forall_mem_cons.mpr ⟨lw_p12, List.forall_mem_cons.mpr ⟨lw_p13, List.forall_mem_cons.mpr ⟨lw_p14, List.forall_mem_cons.mpr ⟨lw_p15, fun _ h => absurd h List.not_mem_nil⟩⟩⟩⟩⟩⟩⟩⟩⟩⟩⟩⟩⟩⟩⟩⟩
theorem lw_p16 : lw_okq (⟨"ActionPlanner", "markBest", "(I)V"⟩, 24) := ⟨⟨by decide +kernel, by decide +kernel⟩, lw_t1 (List.mem_of_getElem? (i := 4) rfl), lw_t1 (List.mem_of_getElem? (i := 180) rfl), lw_t1 (List.mem_of_getElem? (i := 181) rfl)⟩
theorem lw_p17 : lw_okq (⟨"ActionPlanner", "bestAction", "(I)I"⟩, 24) := ⟨⟨by decide +kernel, by decide +kernel⟩, lw_t1 (List.mem_of_getElem? (i := 4) rfl), lw_t1 (List.mem_of_getElem? (i := 184) rfl), lw_t1 (List.mem_of_getElem? (i := 185) rfl)⟩
theorem lw_p18 : lw_okq (⟨"ActionPlanner", "choosePlan", "(I)V"⟩, 24) := ⟨⟨by decide +kernel, by decide +kernel⟩, lw_t1 (List.mem_of_getElem? (i := 4) rfl), lw_t1 (List.mem_of_getElem? (i := 188) rfl), lw_t1 (List.mem_of_getElem? (i := 189) rfl)⟩
theorem lw_p19 : lw_okq (⟨"ActionPlanner", "followPlan", "()V"⟩, 24) := ⟨⟨by decide +kernel, by decide +kernel⟩, lw_t1 (List.mem_of_getElem? (i := 4) rfl), lw_t1 (List.mem_of_getElem? (i := 204) rfl), lw_t1 (List.mem_of_getElem? (i := 205) rfl)⟩
theorem lw_p20 : lw_okq (⟨"ActionPlannerModel", "work", "()V"⟩, 11) := ⟨⟨by decide +kernel, by decide +kernel⟩, lw_t1 (List.mem_of_getElem? (i := 216) rfl), lw_t2 (List.mem_of_getElem? (i := 47) rfl), lw_t2 (List.mem_of_getElem? (i := 48) rfl)⟩
theorem lw_p21 : lw_okq (⟨"ActionPlannerModel", "wanted", "(I)Z"⟩, 11) := ⟨⟨by decide +kernel, by decide +kernel⟩, lw_t1 (List.mem_of_getElem? (i := 216) rfl), lw_t2 (List.mem_of_getElem? (i := 51) rfl), lw_t2 (List.mem_of_getElem? (i := 52) rfl)⟩
theorem lw_p22 : lw_okq (⟨"ActionPlannerModel", "lower", "(I)Z"⟩, 11) := ⟨⟨by decide +kernel, by decide +kernel⟩, lw_t1 (List.mem_of_getElem? (i := 216) rfl), lw_t2 (List.mem_of_getElem? (i := 56) rfl), lw_t2 (List.mem_of_getElem? (i := 57) rfl)⟩
theorem lw_p23 : lw_okq (⟨"ActionPlannerModel", "after", "(II)I"⟩, 11) := ⟨⟨by decide +kernel, by decide +kernel⟩, lw_t1 (List.mem_of_getElem? (i := 216) rfl), lw_t2 (List.mem_of_getElem? (i := 60) rfl), lw_t2 (List.mem_of_getElem? (i := 61) rfl)⟩
theorem lw_p24 : lw_okq (⟨"ActionPlannerModel", "canDo", "(II)Z"⟩, 11) := ⟨⟨by decide +kernel, by decide +kernel⟩, lw_t1 (List.mem_of_getElem? (i := 216) rfl), lw_t2 (List.mem_of_getElem? (i := 64) rfl), lw_t2 (List.mem_of_getElem? (i := 65) rfl)⟩
theorem lw_p25 : lw_okq (⟨"ActionPlannerModel", "first", "(I)I"⟩, 11) := ⟨⟨by decide +kernel, by decide +kernel⟩, lw_t1 (List.mem_of_getElem? (i := 216) rfl), lw_t2 (List.mem_of_getElem? (i := 72) rfl), lw_t2 (List.mem_of_getElem? (i := 73) rfl)⟩
theorem lw_p26 : lw_okq (⟨"ActionPlannerModel", "spread", "(I)Z"⟩, 11) := ⟨⟨by decide +kernel, by decide +kernel⟩, lw_t1 (List.mem_of_getElem? (i := 216) rfl), lw_t2 (List.mem_of_getElem? (i := 92) rfl), lw_t2 (List.mem_of_getElem? (i := 93) rfl)⟩
def lw_privs_2 : List (MethodName × Nat) := [(⟨"ActionPlanner", "markBest", "(I)V"⟩, 24), (⟨"ActionPlanner", "bestAction", "(I)I"⟩, 24), (⟨"ActionPlanner", "choosePlan", "(I)V"⟩, 24), (⟨"ActionPlanner", "followPlan", "()V"⟩, 24), (⟨"ActionPlannerModel", "work", "()V"⟩, 11), (⟨"ActionPlannerModel", "wanted", "(I)Z"⟩, 11), (⟨"ActionPlannerModel", "lower", "(I)Z"⟩, 11), (⟨"ActionPlannerModel", "after", "(II)I"⟩, 11), (⟨"ActionPlannerModel", "canDo", "(II)Z"⟩, 11), (⟨"ActionPlannerModel", "first", "(I)I"⟩, 11), (⟨"ActionPlannerModel", "spread", "(I)Z"⟩, 11)]
theorem lw_r2 : ∀ q ∈ lw_privs_2, lw_okq q := List.forall_mem_cons.mpr ⟨lw_p16, List.forall_mem_cons.mpr ⟨lw_p17, List.forall_mem_cons.mpr ⟨lw_p18, List.forall_mem_cons.mpr ⟨lw_p19, List.forall_mem_cons.mpr ⟨lw_p20, List.forall_mem_cons.mpr ⟨lw_p21, List.forall_mem_cons.mpr ⟨lw_p22, List.forall_mem_cons.mpr ⟨lw_p23, List.forall_mem_cons.mpr ⟨lw_p24, List.forall_mem_cons.mpr ⟨lw_p25, List.forall_mem_cons.mpr ⟨lw_p26, fun _ h => absurd h List.not_mem_nil⟩⟩⟩⟩⟩⟩⟩⟩⟩⟩⟩
def lw_privs : List (MethodName × Nat) := lw_privs_1 ++ (lw_privs_2)
def lw_tbl : List Cond := k2_sels lw_privs ++ tables_1
theorem lw_privs_ok : ∀ q ∈ lw_privs, lw_okq q := by
  show ∀ q ∈ lw_privs_1 ++ (lw_privs_2), lw_okq q
  exact List.forall_mem_append.mpr ⟨lw_r1, lw_r2⟩
-- ===== ONE list of words for every method: the tables' words that hold all through a run =====
def lw_all : List Cond := lw_tbl.filter goodWord
/-- a word of the tables by its place: claim/WORDS.tsv -/
theorem lw_w {w : Cond} (i : Nat) (h : lw_tbl[i]? = some w) (g : goodWord w = true) : w ∈ lw_all := List.mem_filter.mpr ⟨List.mem_of_getElem? h, g⟩
theorem lw_all_tbl {w : Cond} (h : w ∈ lw_all) : w ∈ lw_tbl := (List.mem_filter.mp h).1
theorem lw_self : GoodIn lw_all lw_all := fun w h => ⟨h, good_of_word (List.mem_filter.mp h).2⟩
/-- a class's field words, by their places -/
theorem lw_in (ws : List Cond) (ps : List Nat) (hp : ws = ps.filterMap (fun i => lw_tbl[i]?)) (hg : ws.all goodWord = true) : ∀ w ∈ ws, w ∈ lw_all := by
  intro w h
  have h1 := List.all_eq_true.mp hg w h
  rw [hp] at h
  obtain ⟨i, -, hi⟩ := List.mem_filterMap.mp h
  exact lw_w i hi h1
/-- the words of a contract for the method y with code b, L locals, answer r -/
abbrev ws_ (y : MethodName) (b : ByteArray) (L : Nat) (r : Option FieldType) : List Cond := Cond.code y b L r :: lw_all
theorem lw_meth {y : MethodName} {b : ByteArray} {L : Nat} {r : Option FieldType} (h : Cond.code y b L r ∈ lw_all) : GoodIn lw_all (ws_ y b L r) := by
  intro w hw
  rcases List.mem_cons.mp hw with e | e
  · rw [e]
    exact lw_self _ h
  · exact lw_self _ e
theorem lw_app {a c : List Cond} (ha : ∀ w ∈ a, w ∈ lw_all) (hc : GoodIn lw_all c) : GoodIn lw_all (a ++ c) := by
  intro w hw
  rcases List.mem_append.mp hw with e | e
  · exact lw_self w (ha w e)
  · exact hc w e
/-- what a call through an object asks: cwV n hts (lw_V ..) -/
theorem lw_V {own : String} {idx : Nat} {C : String} {y : MethodName} {b : ByteArray} {L : Nat} {r : Option FieldType} (h1 : Cond.methodLink own idx y ∈ lw_all) (h2 : Cond.instanceMethod y ∈ lw_all) (h3 : Cond.selects C y y ∈ lw_all) (h4 : Cond.initialized C ∈ lw_all) (h5 : Cond.code y b L r ∈ lw_all) : GoodIn lw_all (wsV own idx C y (ws_ y b L r)) := by
  refine lw_app ?_ (lw_meth h5)
  intro w hw
  simp only [List.mem_cons, List.not_mem_nil, or_false] at hw
  rcases hw with e | e | e | e
  · rw [e]; exact h1
  · rw [e]; exact h2
  · rw [e]; exact h3
  · rw [e]; exact h4
/-- what a static call asks: va_cwS n hts (lw_S ..) -/
theorem lw_S {own : String} {idx : Nat} {y : MethodName} {b : ByteArray} {L : Nat} {r : Option FieldType} (h1 : Cond.methodLink own idx y ∈ lw_all) (h2 : Cond.static y ∈ lw_all) (h3 : Cond.initialized y.cls ∈ lw_all) (h4 : Cond.code y b L r ∈ lw_all) : GoodIn lw_all (va_wsS own idx y (ws_ y b L r)) := by
  refine lw_app ?_ (lw_meth h4)
  intro w hw
  simp only [List.mem_cons, List.not_mem_nil, or_false] at hw
  rcases hw with e | e | e
  · rw [e]; exact h1
  · rw [e]; exact h2
  · rw [e]; exact h3
/-- the words of a contract for a method WITH HANDLERS (hh: its table) -/
abbrev wsW_ (y : MethodName) (b : ByteArray) (L : Nat) (r : Option FieldType) (hh : List (Nat × Nat × Nat × Nat)) : List Cond := Cond.codeWith y b L r hh :: lw_all
theorem lw_methW {y : MethodName} {b : ByteArray} {L : Nat} {r : Option FieldType} {hh : List (Nat × Nat × Nat × Nat)} (h : Cond.codeWith y b L r hh ∈ lw_all) : GoodIn lw_all (wsW_ y b L r hh) := by
  intro w hw
  rcases List.mem_cons.mp hw with e | e
  · rw [e]
    exact lw_self _ h
  · exact lw_self _ e
/-- any list of words by their places (lw_in), good -/
theorem lw_good {ws : List Cond} (h : ∀ w ∈ ws, w ∈ lw_all) : GoodIn lw_all ws := fun w hw => lw_self w (h w hw)
/-- what a call of a method with handlers asks: vx_cwVW n hts (lw_VW ..), vx_cwSW n hts (lw_SW ..) -/
theorem lw_VW {own : String} {idx : Nat} {C : String} {y : MethodName} {b : ByteArray} {L : Nat} {r : Option FieldType} {hh : List (Nat × Nat × Nat × Nat)} (h1 : Cond.methodLink own idx y ∈ lw_all) (h2 : Cond.instanceMethod y ∈ lw_all) (h3 : Cond.selects C y y ∈ lw_all) (h4 : Cond.initialized C ∈ lw_all) (h5 : Cond.codeWith y b L r hh ∈ lw_all) : GoodIn lw_all (wsV own idx C y (wsW_ y b L r hh)) := by
  refine lw_app ?_ (lw_methW h5)
  intro w hw
  simp only [List.mem_cons, List.not_mem_nil, or_false] at hw
  rcases hw with e | e | e | e
  · rw [e]; exact h1
  · rw [e]; exact h2
  · rw [e]; exact h3
  · rw [e]; exact h4
theorem lw_SW {own : String} {idx : Nat} {y : MethodName} {b : ByteArray} {L : Nat} {r : Option FieldType} {hh : List (Nat × Nat × Nat × Nat)} (h1 : Cond.methodLink own idx y ∈ lw_all) (h2 : Cond.static y ∈ lw_all) (h3 : Cond.initialized y.cls ∈ lw_all) (h4 : Cond.codeWith y b L r hh ∈ lw_all) : GoodIn lw_all (va_wsS own idx y (wsW_ y b L r hh)) := by
  refine lw_app ?_ (lw_methW h4)
  intro w hw
  simp only [List.mem_cons, List.not_mem_nil, or_false] at hw
  rcases hw with e | e | e
  · rw [e]; exact h1
  · rw [e]; exact h2
  · rw [e]; exact h3
/-- a word by its place in its run of the tables -/
theorem lw_at {r : List Cond} (hr : ∀ w ∈ r, w ∈ lw_tbl) {w : Cond} (i : Nat) (h : r[i]? = some w) : w ∈ lw_tbl := hr w (List.mem_of_getElem? h)
theorem lw_g {w : Cond} (h : w ∈ lw_tbl) (g : goodWord w = true) : w ∈ lw_all := List.mem_filter.mpr ⟨h, g⟩
theorem lw_ms : ∀ w ∈ k2_sels lw_privs, w ∈ lw_tbl := fun w h => show w ∈ k2_sels lw_privs ++ tables_1 from List.mem_append_left _ h
theorem lw_m1 : ∀ w ∈ tables_1_1, w ∈ lw_tbl := fun w h => show w ∈ k2_sels lw_privs ++ tables_1 from List.mem_append_right (k2_sels lw_privs) (show w ∈ tables_1 from List.mem_append_left _ h)
theorem lw_m2 : ∀ w ∈ tables_1_2, w ∈ lw_tbl := fun w h => show w ∈ k2_sels lw_privs ++ tables_1 from List.mem_append_right (k2_sels lw_privs) (show w ∈ tables_1 from List.mem_append_right _ h)
theorem qs0 : (Cond.selects "ActionPlanner" ⟨"ActionPlanner", "isGiven", "(I)Z"⟩ ⟨"ActionPlanner", "isGiven", "(I)Z"⟩) ∈ lw_all := lw_g (lw_at lw_ms 0 rfl) rfl
theorem qs1 : (Cond.selects "ActionPlanner" ⟨"ActionPlanner", "makePlan", "()V"⟩ ⟨"ActionPlanner", "makePlan", "()V"⟩) ∈ lw_all := lw_g (lw_at lw_ms 1 rfl) rfl
theorem qs2 : (Cond.selects "ActionPlanner" ⟨"ActionPlanner", "findCheapest", "()V"⟩ ⟨"ActionPlanner", "findCheapest", "()V"⟩) ∈ lw_all := lw_g (lw_at lw_ms 2 rfl) rfl
theorem qs3 : (Cond.selects "ActionPlanner" ⟨"ActionPlanner", "searchForward", "()I"⟩ ⟨"ActionPlanner", "searchForward", "()I"⟩) ∈ lw_all := lw_g (lw_at lw_ms 3 rfl) rfl
theorem qs4 : (Cond.selects "ActionPlanner" ⟨"ActionPlanner", "reach", "(II)V"⟩ ⟨"ActionPlanner", "reach", "(II)V"⟩) ∈ lw_all := lw_g (lw_at lw_ms 4 rfl) rfl
theorem qs5 : (Cond.selects "ActionPlanner" ⟨"ActionPlanner", "rise", "(I)V"⟩ ⟨"ActionPlanner", "rise", "(I)V"⟩) ∈ lw_all := lw_g (lw_at lw_ms 5 rfl) rfl
theorem qs6 : (Cond.selects "ActionPlanner" ⟨"ActionPlanner", "keyOf", "(I)I"⟩ ⟨"ActionPlanner", "keyOf", "(I)I"⟩) ∈ lw_all := lw_g (lw_at lw_ms 6 rfl) rfl
theorem qs7 : (Cond.selects "ActionPlanner" ⟨"ActionPlanner", "bound", "(I)I"⟩ ⟨"ActionPlanner", "bound", "(I)I"⟩) ∈ lw_all := lw_g (lw_at lw_ms 7 rfl) rfl
theorem qs8 : (Cond.selects "ActionPlanner" ⟨"ActionPlanner", "setHeap", "(II)V"⟩ ⟨"ActionPlanner", "setHeap", "(II)V"⟩) ∈ lw_all := lw_g (lw_at lw_ms 8 rfl) rfl
theorem qs9 : (Cond.selects "ActionPlanner" ⟨"ActionPlanner", "takeLeast", "()I"⟩ ⟨"ActionPlanner", "takeLeast", "()I"⟩) ∈ lw_all := lw_g (lw_at lw_ms 9 rfl) rfl
theorem qs10 : (Cond.selects "ActionPlanner" ⟨"ActionPlanner", "sink", "(I)V"⟩ ⟨"ActionPlanner", "sink", "(I)V"⟩) ∈ lw_all := lw_g (lw_at lw_ms 10 rfl) rfl
theorem qs11 : (Cond.selects "ActionPlanner" ⟨"ActionPlanner", "lesserChild", "(I)I"⟩ ⟨"ActionPlanner", "lesserChild", "(I)I"⟩) ∈ lw_all := lw_g (lw_at lw_ms 11 rfl) rfl
theorem qs12 : (Cond.selects "ActionPlanner" ⟨"ActionPlanner", "isGoal", "(I)Z"⟩ ⟨"ActionPlanner", "isGoal", "(I)Z"⟩) ∈ lw_all := lw_g (lw_at lw_ms 12 rfl) rfl
theorem qs13 : (Cond.selects "ActionPlanner" ⟨"ActionPlanner", "spread", "(I)V"⟩ ⟨"ActionPlanner", "spread", "(I)V"⟩) ∈ lw_all := lw_g (lw_at lw_ms 13 rfl) rfl
theorem qs14 : (Cond.selects "ActionPlanner" ⟨"ActionPlanner", "canDo", "(II)Z"⟩ ⟨"ActionPlanner", "canDo", "(II)Z"⟩) ∈ lw_all := lw_g (lw_at lw_ms 14 rfl) rfl
theorem qs15 : (Cond.selects "ActionPlanner" ⟨"ActionPlanner", "after", "(II)I"⟩ ⟨"ActionPlanner", "after", "(II)I"⟩) ∈ lw_all := lw_g (lw_at lw_ms 15 rfl) rfl
theorem qs16 : (Cond.selects "ActionPlanner" ⟨"ActionPlanner", "markBest", "(I)V"⟩ ⟨"ActionPlanner", "markBest", "(I)V"⟩) ∈ lw_all := lw_g (lw_at lw_ms 16 rfl) rfl
theorem qs17 : (Cond.selects "ActionPlanner" ⟨"ActionPlanner", "bestAction", "(I)I"⟩ ⟨"ActionPlanner", "bestAction", "(I)I"⟩) ∈ lw_all := lw_g (lw_at lw_ms 17 rfl) rfl
theorem qs18 : (Cond.selects "ActionPlanner" ⟨"ActionPlanner", "choosePlan", "(I)V"⟩ ⟨"ActionPlanner", "choosePlan", "(I)V"⟩) ∈ lw_all := lw_g (lw_at lw_ms 18 rfl) rfl
theorem qs19 : (Cond.selects "ActionPlanner" ⟨"ActionPlanner", "followPlan", "()V"⟩ ⟨"ActionPlanner", "followPlan", "()V"⟩) ∈ lw_all := lw_g (lw_at lw_ms 19 rfl) rfl
theorem qs20 : (Cond.selects "ActionPlannerModel" ⟨"ActionPlannerModel", "work", "()V"⟩ ⟨"ActionPlannerModel", "work", "()V"⟩) ∈ lw_all := lw_g (lw_at lw_ms 20 rfl) rfl
theorem qs21 : (Cond.selects "ActionPlannerModel" ⟨"ActionPlannerModel", "wanted", "(I)Z"⟩ ⟨"ActionPlannerModel", "wanted", "(I)Z"⟩) ∈ lw_all := lw_g (lw_at lw_ms 21 rfl) rfl
theorem qs22 : (Cond.selects "ActionPlannerModel" ⟨"ActionPlannerModel", "lower", "(I)Z"⟩ ⟨"ActionPlannerModel", "lower", "(I)Z"⟩) ∈ lw_all := lw_g (lw_at lw_ms 22 rfl) rfl
theorem qs23 : (Cond.selects "ActionPlannerModel" ⟨"ActionPlannerModel", "after", "(II)I"⟩ ⟨"ActionPlannerModel", "after", "(II)I"⟩) ∈ lw_all := lw_g (lw_at lw_ms 23 rfl) rfl
theorem qs24 : (Cond.selects "ActionPlannerModel" ⟨"ActionPlannerModel", "canDo", "(II)Z"⟩ ⟨"ActionPlannerModel", "canDo", "(II)Z"⟩) ∈ lw_all := lw_g (lw_at lw_ms 24 rfl) rfl
theorem qs25 : (Cond.selects "ActionPlannerModel" ⟨"ActionPlannerModel", "first", "(I)I"⟩ ⟨"ActionPlannerModel", "first", "(I)I"⟩) ∈ lw_all := lw_g (lw_at lw_ms 25 rfl) rfl
theorem qs26 : (Cond.selects "ActionPlannerModel" ⟨"ActionPlannerModel", "spread", "(I)Z"⟩ ⟨"ActionPlannerModel", "spread", "(I)Z"⟩) ∈ lw_all := lw_g (lw_at lw_ms 26 rfl) rfl
end
section
/-! ActionPlanner -/
set_option maxRecDepth 100000
def RX0 : String := "ActionPlanner"
def TX0 : u_T := fun k => match k with
  | 0 => ("ActionPlanner", "given", "[Z", true)
  | 1 => ("ActionPlanner", "needs", "[I", true)
  | 2 => ("ActionPlanner", "bars", "[I", true)
  | 3 => ("ActionPlanner", "adds", "[I", true)
  | 4 => ("ActionPlanner", "drops", "[I", true)
  | 5 => ("ActionPlanner", "priceOf", "[I", true)
  | 6 => ("ActionPlanner", "wantedTrue", "I", false)
  | 7 => ("ActionPlanner", "wantedFalse", "I", false)
  | 8 => ("ActionPlanner", "nowState", "I", false)
  | 9 => ("ActionPlanner", "planned", "Z", false)
  | 10 => ("ActionPlanner", "hasPlan", "Z", false)
  | 11 => ("ActionPlanner", "planLength", "I", false)
  | 12 => ("ActionPlanner", "planAt", "I", false)
  | 13 => ("ActionPlanner", "rest", "I", false)
  | 14 => ("ActionPlanner", "plan", "[I", true)
  | 15 => ("ActionPlanner", "cost", "[I", true)
  | 16 => ("ActionPlanner", "place", "[I", true)
  | 17 => ("ActionPlanner", "heap", "[I", true)
  | 18 => ("ActionPlanner", "heapSize", "I", false)
  | 19 => ("ActionPlanner", "left", "[I", true)
  | 20 => ("ActionPlanner", "leftCount", "I", false)
  | 21 => ("ActionPlanner", "onBest", "[Z", true)
  | 22 => ("ActionPlanner", "raise", "[I", true)
  | _ => ("ActionPlanner", "lower", "[I", true)
def tyX0 : Nat → FieldType := fun k => match k with
  | 0 => .array .boolean
  | 1 => .array .int
  | 2 => .array .int
  | 3 => .array .int
  | 4 => .array .int
  | 5 => .array .int
  | 6 => .int
  | 7 => .int
  | 8 => .int
  | 9 => .boolean
  | 10 => .boolean
  | 11 => .int
  | 12 => .int
  | 13 => .int
  | 14 => .array .int
  | 15 => .array .int
  | 16 => .array .int
  | 17 => .array .int
  | 18 => .int
  | 19 => .array .int
  | 20 => .int
  | 21 => .array .boolean
  | 22 => .array .int
  | _ => .array .int
abbrev wsX00 : List Cond := u_ws RX0 TX0 24
set_option maxRecDepth 100000 in
theorem nmX0 : ∀ a, a < 24 → ∀ b, b < 24 → a ≠ b → (TX0 a).2.1 ≠ (TX0 b).2.1 := by decide +kernel
set_option maxRecDepth 100000 in
theorem tyX0_ok : ∀ k, k < 24 → parseFieldDescriptor (TX0 k).2.2.1 = some (tyX0 k) := by decide +kernel
abbrev cX0_init : ByteArray := prog_1_method_1_code
def yX0_init : MethodName := ⟨RX0, "<init>", "()V"⟩
abbrev cX0_require : ByteArray := prog_1_method_2_code
def yX0_require : MethodName := ⟨RX0, "require", "(III)I"⟩
abbrev cX0_effect : ByteArray := prog_1_method_3_code
def yX0_effect : MethodName := ⟨RX0, "effect", "(IIII)I"⟩
abbrev cX0_isGiven : ByteArray := prog_1_method_14_code
def yX0_isGiven : MethodName := ⟨RX0, "isGiven", "(I)Z"⟩
abbrev cX0_forget : ByteArray := prog_1_method_4_code
def yX0_forget : MethodName := ⟨RX0, "forget", "(I)I"⟩
abbrev cX0_want : ByteArray := prog_1_method_5_code
def yX0_want : MethodName := ⟨RX0, "want", "(II)V"⟩
abbrev cX0_observe : ByteArray := prog_1_method_6_code
def yX0_observe : MethodName := ⟨RX0, "observe", "(I)V"⟩
abbrev cX0_now : ByteArray := prog_1_method_7_code
def yX0_now : MethodName := ⟨RX0, "now", "()I"⟩
abbrev cX0_price : ByteArray := prog_1_method_8_code
def yX0_price : MethodName := ⟨RX0, "price", "()I"⟩
abbrev cX0_makePlan : ByteArray := prog_1_method_19_code
def yX0_makePlan : MethodName := ⟨RX0, "makePlan", "()V"⟩
abbrev cX0_findCheapest : ByteArray := prog_1_method_20_code
def yX0_findCheapest : MethodName := ⟨RX0, "findCheapest", "()V"⟩
abbrev cX0_searchForward : ByteArray := prog_1_method_22_code
def yX0_searchForward : MethodName := ⟨RX0, "searchForward", "()I"⟩
abbrev cX0_reach : ByteArray := prog_1_method_25_code
def yX0_reach : MethodName := ⟨RX0, "reach", "(II)V"⟩
abbrev cX0_rise : ByteArray := prog_1_method_26_code
def yX0_rise : MethodName := ⟨RX0, "rise", "(I)V"⟩
abbrev cX0_keyOf : ByteArray := prog_1_method_24_code
def yX0_keyOf : MethodName := ⟨RX0, "keyOf", "(I)I"⟩
abbrev cX0_bound : ByteArray := prog_1_method_21_code
def yX0_bound : MethodName := ⟨RX0, "bound", "(I)I"⟩
abbrev cX0_setHeap : ByteArray := prog_1_method_27_code
def yX0_setHeap : MethodName := ⟨RX0, "setHeap", "(II)V"⟩
abbrev cX0_takeLeast : ByteArray := prog_1_method_28_code
def yX0_takeLeast : MethodName := ⟨RX0, "takeLeast", "()I"⟩
abbrev cX0_sink : ByteArray := prog_1_method_29_code
def yX0_sink : MethodName := ⟨RX0, "sink", "(I)V"⟩
abbrev cX0_lesserChild : ByteArray := prog_1_method_30_code
def yX0_lesserChild : MethodName := ⟨RX0, "lesserChild", "(I)I"⟩
abbrev cX0_isGoal : ByteArray := prog_1_method_17_code
def yX0_isGoal : MethodName := ⟨RX0, "isGoal", "(I)Z"⟩
abbrev cX0_spread : ByteArray := prog_1_method_23_code
def yX0_spread : MethodName := ⟨RX0, "spread", "(I)V"⟩
abbrev cX0_canDo : ByteArray := prog_1_method_15_code
def yX0_canDo : MethodName := ⟨RX0, "canDo", "(II)Z"⟩
abbrev cX0_after : ByteArray := prog_1_method_16_code
def yX0_after : MethodName := ⟨RX0, "after", "(II)I"⟩
abbrev cX0_markBest : ByteArray := prog_1_method_31_code
def yX0_markBest : MethodName := ⟨RX0, "markBest", "(I)V"⟩
abbrev cX0_bestAction : ByteArray := prog_1_method_32_code
def yX0_bestAction : MethodName := ⟨RX0, "bestAction", "(I)I"⟩
abbrev cX0_choosePlan : ByteArray := prog_1_method_33_code
def yX0_choosePlan : MethodName := ⟨RX0, "choosePlan", "(I)V"⟩
abbrev cX0_steps : ByteArray := prog_1_method_9_code
def yX0_steps : MethodName := ⟨RX0, "steps", "()I"⟩
abbrev cX0_planned : ByteArray := prog_1_method_10_code
def yX0_planned : MethodName := ⟨RX0, "planned", "(I)I"⟩
abbrev cX0_advance : ByteArray := prog_1_method_11_code
def yX0_advance : MethodName := ⟨RX0, "advance", "()I"⟩
abbrev cX0_followPlan : ByteArray := prog_1_method_18_code
def yX0_followPlan : MethodName := ⟨RX0, "followPlan", "()V"⟩
abbrev cX0_act : ByteArray := prog_1_method_12_code
def yX0_act : MethodName := ⟨RX0, "act", "(I)I"⟩
abbrev cX0_reachable : ByteArray := prog_1_method_13_code
def yX0_reachable : MethodName := ⟨RX0, "reachable", "()I"⟩
theorem q28 : (Jvm.Cond.initialized "ActionPlanner") ∈ lw_all := lw_g (lw_at lw_m1 1 rfl) rfl
theorem q31 : (Jvm.Cond.instantiable "ActionPlanner" (24 : Nat)) ∈ lw_all := lw_g (lw_at lw_m1 4 rfl) rfl
theorem q33 : (Jvm.Cond.instanceMethod ({ cls := "ActionPlanner", name := "<init>", desc := "()V" } : Jvm.MethodName)) ∈ lw_all := lw_g (lw_at lw_m1 6 rfl) rfl
theorem q34 : (Jvm.Cond.code ({ cls := "ActionPlanner", name := "<init>", desc := "()V" } : Jvm.MethodName) prog_1_method_1_code (1 : Nat) (Option.none : Option Jvm.ClassFile.FieldType)) ∈ lw_all := lw_g (lw_at lw_m1 7 rfl) rfl
theorem q35 : (Jvm.Cond.methodLink "ActionPlanner" (1 : Nat) ({ cls := "java/lang/Object", name := "<init>", desc := "()V" } : Jvm.MethodName)) ∈ lw_all := lw_g (lw_at lw_m1 8 rfl) rfl
theorem q38 : (Jvm.Cond.fieldLink "ActionPlanner" (7 : Nat) "ActionPlanner" "given" "[Z") ∈ lw_all := lw_g (lw_at lw_m1 11 rfl) rfl
theorem q39 : (Jvm.Cond.fieldLink "ActionPlanner" (13 : Nat) "ActionPlanner" "needs" "[I") ∈ lw_all := lw_g (lw_at lw_m1 12 rfl) rfl
theorem q40 : (Jvm.Cond.fieldLink "ActionPlanner" (17 : Nat) "ActionPlanner" "bars" "[I") ∈ lw_all := lw_g (lw_at lw_m1 13 rfl) rfl
theorem q41 : (Jvm.Cond.fieldLink "ActionPlanner" (20 : Nat) "ActionPlanner" "adds" "[I") ∈ lw_all := lw_g (lw_at lw_m1 14 rfl) rfl
theorem q42 : (Jvm.Cond.fieldLink "ActionPlanner" (23 : Nat) "ActionPlanner" "drops" "[I") ∈ lw_all := lw_g (lw_at lw_m1 15 rfl) rfl
theorem q43 : (Jvm.Cond.fieldLink "ActionPlanner" (26 : Nat) "ActionPlanner" "priceOf" "[I") ∈ lw_all := lw_g (lw_at lw_m1 16 rfl) rfl
theorem q44 : (Jvm.Cond.fieldLink "ActionPlanner" (61 : Nat) "ActionPlanner" "wantedTrue" "I") ∈ lw_all := lw_g (lw_at lw_m1 17 rfl) rfl
theorem q45 : (Jvm.Cond.fieldLink "ActionPlanner" (65 : Nat) "ActionPlanner" "wantedFalse" "I") ∈ lw_all := lw_g (lw_at lw_m1 18 rfl) rfl
theorem q46 : (Jvm.Cond.fieldLink "ActionPlanner" (68 : Nat) "ActionPlanner" "nowState" "I") ∈ lw_all := lw_g (lw_at lw_m1 19 rfl) rfl
theorem q47 : (Jvm.Cond.fieldLink "ActionPlanner" (53 : Nat) "ActionPlanner" "planned" "Z") ∈ lw_all := lw_g (lw_at lw_m1 20 rfl) rfl
theorem q48 : (Jvm.Cond.fieldLink "ActionPlanner" (74 : Nat) "ActionPlanner" "hasPlan" "Z") ∈ lw_all := lw_g (lw_at lw_m1 21 rfl) rfl
theorem q49 : (Jvm.Cond.fieldLink "ActionPlanner" (80 : Nat) "ActionPlanner" "planLength" "I") ∈ lw_all := lw_g (lw_at lw_m1 22 rfl) rfl
theorem q50 : (Jvm.Cond.fieldLink "ActionPlanner" (83 : Nat) "ActionPlanner" "planAt" "I") ∈ lw_all := lw_g (lw_at lw_m1 23 rfl) rfl
theorem q51 : (Jvm.Cond.fieldLink "ActionPlanner" (77 : Nat) "ActionPlanner" "rest" "I") ∈ lw_all := lw_g (lw_at lw_m1 24 rfl) rfl
theorem q52 : (Jvm.Cond.fieldLink "ActionPlanner" (29 : Nat) "ActionPlanner" "plan" "[I") ∈ lw_all := lw_g (lw_at lw_m1 25 rfl) rfl
theorem q53 : (Jvm.Cond.fieldLink "ActionPlanner" (32 : Nat) "ActionPlanner" "cost" "[I") ∈ lw_all := lw_g (lw_at lw_m1 26 rfl) rfl
theorem q54 : (Jvm.Cond.fieldLink "ActionPlanner" (35 : Nat) "ActionPlanner" "place" "[I") ∈ lw_all := lw_g (lw_at lw_m1 27 rfl) rfl
theorem q55 : (Jvm.Cond.fieldLink "ActionPlanner" (38 : Nat) "ActionPlanner" "heap" "[I") ∈ lw_all := lw_g (lw_at lw_m1 28 rfl) rfl
theorem q56 : (Jvm.Cond.fieldLink "ActionPlanner" (112 : Nat) "ActionPlanner" "heapSize" "I") ∈ lw_all := lw_g (lw_at lw_m1 29 rfl) rfl
theorem q57 : (Jvm.Cond.fieldLink "ActionPlanner" (41 : Nat) "ActionPlanner" "left" "[I") ∈ lw_all := lw_g (lw_at lw_m1 30 rfl) rfl
theorem q58 : (Jvm.Cond.fieldLink "ActionPlanner" (115 : Nat) "ActionPlanner" "leftCount" "I") ∈ lw_all := lw_g (lw_at lw_m1 31 rfl) rfl
theorem q59 : (Jvm.Cond.fieldLink "ActionPlanner" (44 : Nat) "ActionPlanner" "onBest" "[Z") ∈ lw_all := lw_g (lw_at lw_m1 32 rfl) rfl
theorem q60 : (Jvm.Cond.fieldLink "ActionPlanner" (47 : Nat) "ActionPlanner" "raise" "[I") ∈ lw_all := lw_g (lw_at lw_m1 33 rfl) rfl
theorem q61 : (Jvm.Cond.fieldLink "ActionPlanner" (50 : Nat) "ActionPlanner" "lower" "[I") ∈ lw_all := lw_g (lw_at lw_m1 34 rfl) rfl
theorem q62 : (Jvm.Cond.laysFinal "ActionPlanner" "ActionPlanner" "given" "[Z") ∈ lw_all := lw_g (lw_at lw_m1 35 rfl) rfl
theorem q63 : (Jvm.Cond.soleField "ActionPlanner" "given") ∈ lw_all := lw_g (lw_at lw_m1 36 rfl) rfl
theorem q64 : (Jvm.Cond.laysFinal "ActionPlanner" "ActionPlanner" "needs" "[I") ∈ lw_all := lw_g (lw_at lw_m1 37 rfl) rfl
theorem q65 : (Jvm.Cond.soleField "ActionPlanner" "needs") ∈ lw_all := lw_g (lw_at lw_m1 38 rfl) rfl
theorem q66 : (Jvm.Cond.laysFinal "ActionPlanner" "ActionPlanner" "bars" "[I") ∈ lw_all := lw_g (lw_at lw_m1 39 rfl) rfl
theorem q67 : (Jvm.Cond.soleField "ActionPlanner" "bars") ∈ lw_all := lw_g (lw_at lw_m1 40 rfl) rfl
theorem q68 : (Jvm.Cond.laysFinal "ActionPlanner" "ActionPlanner" "adds" "[I") ∈ lw_all := lw_g (lw_at lw_m1 41 rfl) rfl
theorem q69 : (Jvm.Cond.soleField "ActionPlanner" "adds") ∈ lw_all := lw_g (lw_at lw_m1 42 rfl) rfl
theorem q70 : (Jvm.Cond.laysFinal "ActionPlanner" "ActionPlanner" "drops" "[I") ∈ lw_all := lw_g (lw_at lw_m1 43 rfl) rfl
theorem q71 : (Jvm.Cond.soleField "ActionPlanner" "drops") ∈ lw_all := lw_g (lw_at lw_m1 44 rfl) rfl
theorem q72 : (Jvm.Cond.laysFinal "ActionPlanner" "ActionPlanner" "priceOf" "[I") ∈ lw_all := lw_g (lw_at lw_m1 45 rfl) rfl
theorem q73 : (Jvm.Cond.soleField "ActionPlanner" "priceOf") ∈ lw_all := lw_g (lw_at lw_m1 46 rfl) rfl
theorem q74 : (Jvm.Cond.lays "ActionPlanner" "ActionPlanner" "wantedTrue" "I") ∈ lw_all := lw_g (lw_at lw_m1 47 rfl) rfl
theorem q75 : (Jvm.Cond.soleField "ActionPlanner" "wantedTrue") ∈ lw_all := lw_g (lw_at lw_m1 48 rfl) rfl
theorem q76 : (Jvm.Cond.lays "ActionPlanner" "ActionPlanner" "wantedFalse" "I") ∈ lw_all := lw_g (lw_at lw_m1 49 rfl) rfl
theorem q77 : (Jvm.Cond.soleField "ActionPlanner" "wantedFalse") ∈ lw_all := lw_g (lw_at lw_m1 50 rfl) rfl
theorem q78 : (Jvm.Cond.lays "ActionPlanner" "ActionPlanner" "nowState" "I") ∈ lw_all := lw_g (lw_at lw_m1 51 rfl) rfl
theorem q79 : (Jvm.Cond.soleField "ActionPlanner" "nowState") ∈ lw_all := lw_g (lw_at lw_m1 52 rfl) rfl
theorem q80 : (Jvm.Cond.lays "ActionPlanner" "ActionPlanner" "planned" "Z") ∈ lw_all := lw_g (lw_at lw_m1 53 rfl) rfl
theorem q81 : (Jvm.Cond.soleField "ActionPlanner" "planned") ∈ lw_all := lw_g (lw_at lw_m1 54 rfl) rfl
theorem q82 : (Jvm.Cond.lays "ActionPlanner" "ActionPlanner" "hasPlan" "Z") ∈ lw_all := lw_g (lw_at lw_m1 55 rfl) rfl
theorem q83 : (Jvm.Cond.soleField "ActionPlanner" "hasPlan") ∈ lw_all := lw_g (lw_at lw_m1 56 rfl) rfl
theorem q84 : (Jvm.Cond.lays "ActionPlanner" "ActionPlanner" "planLength" "I") ∈ lw_all := lw_g (lw_at lw_m1 57 rfl) rfl
theorem q85 : (Jvm.Cond.soleField "ActionPlanner" "planLength") ∈ lw_all := lw_g (lw_at lw_m1 58 rfl) rfl
theorem q86 : (Jvm.Cond.lays "ActionPlanner" "ActionPlanner" "planAt" "I") ∈ lw_all := lw_g (lw_at lw_m1 59 rfl) rfl
theorem q87 : (Jvm.Cond.soleField "ActionPlanner" "planAt") ∈ lw_all := lw_g (lw_at lw_m1 60 rfl) rfl
theorem q88 : (Jvm.Cond.lays "ActionPlanner" "ActionPlanner" "rest" "I") ∈ lw_all := lw_g (lw_at lw_m1 61 rfl) rfl
theorem q89 : (Jvm.Cond.soleField "ActionPlanner" "rest") ∈ lw_all := lw_g (lw_at lw_m1 62 rfl) rfl
theorem q90 : (Jvm.Cond.laysFinal "ActionPlanner" "ActionPlanner" "plan" "[I") ∈ lw_all := lw_g (lw_at lw_m1 63 rfl) rfl
theorem q91 : (Jvm.Cond.soleField "ActionPlanner" "plan") ∈ lw_all := lw_g (lw_at lw_m1 64 rfl) rfl
theorem q92 : (Jvm.Cond.laysFinal "ActionPlanner" "ActionPlanner" "cost" "[I") ∈ lw_all := lw_g (lw_at lw_m1 65 rfl) rfl
theorem q93 : (Jvm.Cond.soleField "ActionPlanner" "cost") ∈ lw_all := lw_g (lw_at lw_m1 66 rfl) rfl
theorem q94 : (Jvm.Cond.laysFinal "ActionPlanner" "ActionPlanner" "place" "[I") ∈ lw_all := lw_g (lw_at lw_m1 67 rfl) rfl
theorem q95 : (Jvm.Cond.soleField "ActionPlanner" "place") ∈ lw_all := lw_g (lw_at lw_m1 68 rfl) rfl
theorem q96 : (Jvm.Cond.laysFinal "ActionPlanner" "ActionPlanner" "heap" "[I") ∈ lw_all := lw_g (lw_at lw_m1 69 rfl) rfl
theorem q97 : (Jvm.Cond.soleField "ActionPlanner" "heap") ∈ lw_all := lw_g (lw_at lw_m1 70 rfl) rfl
theorem q98 : (Jvm.Cond.lays "ActionPlanner" "ActionPlanner" "heapSize" "I") ∈ lw_all := lw_g (lw_at lw_m1 71 rfl) rfl
theorem q99 : (Jvm.Cond.soleField "ActionPlanner" "heapSize") ∈ lw_all := lw_g (lw_at lw_m1 72 rfl) rfl
theorem q100 : (Jvm.Cond.laysFinal "ActionPlanner" "ActionPlanner" "left" "[I") ∈ lw_all := lw_g (lw_at lw_m1 73 rfl) rfl
theorem q101 : (Jvm.Cond.soleField "ActionPlanner" "left") ∈ lw_all := lw_g (lw_at lw_m1 74 rfl) rfl
theorem q102 : (Jvm.Cond.lays "ActionPlanner" "ActionPlanner" "leftCount" "I") ∈ lw_all := lw_g (lw_at lw_m1 75 rfl) rfl
theorem q103 : (Jvm.Cond.soleField "ActionPlanner" "leftCount") ∈ lw_all := lw_g (lw_at lw_m1 76 rfl) rfl
theorem q104 : (Jvm.Cond.laysFinal "ActionPlanner" "ActionPlanner" "onBest" "[Z") ∈ lw_all := lw_g (lw_at lw_m1 77 rfl) rfl
theorem q105 : (Jvm.Cond.soleField "ActionPlanner" "onBest") ∈ lw_all := lw_g (lw_at lw_m1 78 rfl) rfl
theorem q106 : (Jvm.Cond.laysFinal "ActionPlanner" "ActionPlanner" "raise" "[I") ∈ lw_all := lw_g (lw_at lw_m1 79 rfl) rfl
theorem q107 : (Jvm.Cond.soleField "ActionPlanner" "raise") ∈ lw_all := lw_g (lw_at lw_m1 80 rfl) rfl
theorem q108 : (Jvm.Cond.laysFinal "ActionPlanner" "ActionPlanner" "lower" "[I") ∈ lw_all := lw_g (lw_at lw_m1 81 rfl) rfl
theorem q109 : (Jvm.Cond.soleField "ActionPlanner" "lower") ∈ lw_all := lw_g (lw_at lw_m1 82 rfl) rfl
theorem q110 : (Jvm.Cond.superclass "ActionPlanner" "java/lang/Object") ∈ lw_all := lw_g (lw_at lw_m1 83 rfl) rfl
theorem q114 : (Jvm.Cond.instanceMethod ({ cls := "ActionPlanner", name := "require", desc := "(III)I" } : Jvm.MethodName)) ∈ lw_all := lw_g (lw_at lw_m1 87 rfl) rfl
theorem q115 : (Jvm.Cond.selects "ActionPlanner" ({ cls := "ActionPlanner", name := "require", desc := "(III)I" } : Jvm.MethodName) ({ cls := "ActionPlanner", name := "require", desc := "(III)I" } : Jvm.MethodName)) ∈ lw_all := lw_g (lw_at lw_m1 88 rfl) rfl
theorem q116 : (Jvm.Cond.code ({ cls := "ActionPlanner", name := "require", desc := "(III)I" } : Jvm.MethodName) prog_1_method_2_code (4 : Nat) (Option.some Jvm.ClassFile.FieldType.int)) ∈ lw_all := lw_g (lw_at lw_m1 89 rfl) rfl
theorem q118 : (Jvm.Cond.instanceMethod ({ cls := "ActionPlanner", name := "effect", desc := "(IIII)I" } : Jvm.MethodName)) ∈ lw_all := lw_g (lw_at lw_m1 91 rfl) rfl
theorem q119 : (Jvm.Cond.selects "ActionPlanner" ({ cls := "ActionPlanner", name := "effect", desc := "(IIII)I" } : Jvm.MethodName) ({ cls := "ActionPlanner", name := "effect", desc := "(IIII)I" } : Jvm.MethodName)) ∈ lw_all := lw_g (lw_at lw_m1 92 rfl) rfl
theorem q120 : (Jvm.Cond.code ({ cls := "ActionPlanner", name := "effect", desc := "(IIII)I" } : Jvm.MethodName) prog_1_method_3_code (5 : Nat) (Option.some Jvm.ClassFile.FieldType.int)) ∈ lw_all := lw_g (lw_at lw_m1 93 rfl) rfl
theorem q121 : (Jvm.Cond.methodLink "ActionPlanner" (57 : Nat) ({ cls := "ActionPlanner", name := "isGiven", desc := "(I)Z" } : Jvm.MethodName)) ∈ lw_all := lw_g (lw_at lw_m1 94 rfl) rfl
theorem q122 : (Jvm.Cond.privateMethod ({ cls := "ActionPlanner", name := "isGiven", desc := "(I)Z" } : Jvm.MethodName)) ∈ lw_tbl := lw_at lw_m1 95 rfl
theorem q123 : (Jvm.Cond.instanceMethod ({ cls := "ActionPlanner", name := "isGiven", desc := "(I)Z" } : Jvm.MethodName)) ∈ lw_all := lw_g (lw_at lw_m1 96 rfl) rfl
theorem q124 : (Jvm.Cond.code ({ cls := "ActionPlanner", name := "isGiven", desc := "(I)Z" } : Jvm.MethodName) prog_1_method_14_code (2 : Nat) (Option.some Jvm.ClassFile.FieldType.boolean)) ∈ lw_all := lw_g (lw_at lw_m1 97 rfl) rfl
theorem q126 : (Jvm.Cond.instanceMethod ({ cls := "ActionPlanner", name := "forget", desc := "(I)I" } : Jvm.MethodName)) ∈ lw_all := lw_g (lw_at lw_m1 99 rfl) rfl
theorem q127 : (Jvm.Cond.selects "ActionPlanner" ({ cls := "ActionPlanner", name := "forget", desc := "(I)I" } : Jvm.MethodName) ({ cls := "ActionPlanner", name := "forget", desc := "(I)I" } : Jvm.MethodName)) ∈ lw_all := lw_g (lw_at lw_m1 100 rfl) rfl
theorem q128 : (Jvm.Cond.code ({ cls := "ActionPlanner", name := "forget", desc := "(I)I" } : Jvm.MethodName) prog_1_method_4_code (2 : Nat) (Option.some Jvm.ClassFile.FieldType.int)) ∈ lw_all := lw_g (lw_at lw_m1 101 rfl) rfl
theorem q130 : (Jvm.Cond.instanceMethod ({ cls := "ActionPlanner", name := "want", desc := "(II)V" } : Jvm.MethodName)) ∈ lw_all := lw_g (lw_at lw_m1 103 rfl) rfl
theorem q131 : (Jvm.Cond.selects "ActionPlanner" ({ cls := "ActionPlanner", name := "want", desc := "(II)V" } : Jvm.MethodName) ({ cls := "ActionPlanner", name := "want", desc := "(II)V" } : Jvm.MethodName)) ∈ lw_all := lw_g (lw_at lw_m1 104 rfl) rfl
theorem q132 : (Jvm.Cond.code ({ cls := "ActionPlanner", name := "want", desc := "(II)V" } : Jvm.MethodName) prog_1_method_5_code (3 : Nat) (Option.none : Option Jvm.ClassFile.FieldType)) ∈ lw_all := lw_g (lw_at lw_m1 105 rfl) rfl
theorem q134 : (Jvm.Cond.instanceMethod ({ cls := "ActionPlanner", name := "observe", desc := "(I)V" } : Jvm.MethodName)) ∈ lw_all := lw_g (lw_at lw_m1 107 rfl) rfl
theorem q135 : (Jvm.Cond.selects "ActionPlanner" ({ cls := "ActionPlanner", name := "observe", desc := "(I)V" } : Jvm.MethodName) ({ cls := "ActionPlanner", name := "observe", desc := "(I)V" } : Jvm.MethodName)) ∈ lw_all := lw_g (lw_at lw_m1 108 rfl) rfl
theorem q136 : (Jvm.Cond.code ({ cls := "ActionPlanner", name := "observe", desc := "(I)V" } : Jvm.MethodName) prog_1_method_6_code (3 : Nat) (Option.none : Option Jvm.ClassFile.FieldType)) ∈ lw_all := lw_g (lw_at lw_m1 109 rfl) rfl
theorem q138 : (Jvm.Cond.instanceMethod ({ cls := "ActionPlanner", name := "now", desc := "()I" } : Jvm.MethodName)) ∈ lw_all := lw_g (lw_at lw_m1 111 rfl) rfl
theorem q139 : (Jvm.Cond.selects "ActionPlanner" ({ cls := "ActionPlanner", name := "now", desc := "()I" } : Jvm.MethodName) ({ cls := "ActionPlanner", name := "now", desc := "()I" } : Jvm.MethodName)) ∈ lw_all := lw_g (lw_at lw_m1 112 rfl) rfl
theorem q140 : (Jvm.Cond.code ({ cls := "ActionPlanner", name := "now", desc := "()I" } : Jvm.MethodName) prog_1_method_7_code (1 : Nat) (Option.some Jvm.ClassFile.FieldType.int)) ∈ lw_all := lw_g (lw_at lw_m1 113 rfl) rfl
theorem q142 : (Jvm.Cond.instanceMethod ({ cls := "ActionPlanner", name := "price", desc := "()I" } : Jvm.MethodName)) ∈ lw_all := lw_g (lw_at lw_m1 115 rfl) rfl
theorem q143 : (Jvm.Cond.selects "ActionPlanner" ({ cls := "ActionPlanner", name := "price", desc := "()I" } : Jvm.MethodName) ({ cls := "ActionPlanner", name := "price", desc := "()I" } : Jvm.MethodName)) ∈ lw_all := lw_g (lw_at lw_m1 116 rfl) rfl
theorem q144 : (Jvm.Cond.code ({ cls := "ActionPlanner", name := "price", desc := "()I" } : Jvm.MethodName) prog_1_method_8_code (1 : Nat) (Option.some Jvm.ClassFile.FieldType.int)) ∈ lw_all := lw_g (lw_at lw_m1 117 rfl) rfl
theorem q145 : (Jvm.Cond.methodLink "ActionPlanner" (71 : Nat) ({ cls := "ActionPlanner", name := "makePlan", desc := "()V" } : Jvm.MethodName)) ∈ lw_all := lw_g (lw_at lw_m1 118 rfl) rfl
theorem q146 : (Jvm.Cond.privateMethod ({ cls := "ActionPlanner", name := "makePlan", desc := "()V" } : Jvm.MethodName)) ∈ lw_tbl := lw_at lw_m1 119 rfl
theorem q147 : (Jvm.Cond.instanceMethod ({ cls := "ActionPlanner", name := "makePlan", desc := "()V" } : Jvm.MethodName)) ∈ lw_all := lw_g (lw_at lw_m1 120 rfl) rfl
theorem q148 : (Jvm.Cond.code ({ cls := "ActionPlanner", name := "makePlan", desc := "()V" } : Jvm.MethodName) prog_1_method_19_code (2 : Nat) (Option.none : Option Jvm.ClassFile.FieldType)) ∈ lw_all := lw_g (lw_at lw_m1 121 rfl) rfl
theorem q149 : (Jvm.Cond.methodLink "ActionPlanner" (97 : Nat) ({ cls := "ActionPlanner", name := "findCheapest", desc := "()V" } : Jvm.MethodName)) ∈ lw_all := lw_g (lw_at lw_m1 122 rfl) rfl
theorem q150 : (Jvm.Cond.privateMethod ({ cls := "ActionPlanner", name := "findCheapest", desc := "()V" } : Jvm.MethodName)) ∈ lw_tbl := lw_at lw_m1 123 rfl
theorem q151 : (Jvm.Cond.instanceMethod ({ cls := "ActionPlanner", name := "findCheapest", desc := "()V" } : Jvm.MethodName)) ∈ lw_all := lw_g (lw_at lw_m1 124 rfl) rfl
theorem q152 : (Jvm.Cond.code ({ cls := "ActionPlanner", name := "findCheapest", desc := "()V" } : Jvm.MethodName) prog_1_method_20_code (5 : Nat) (Option.none : Option Jvm.ClassFile.FieldType)) ∈ lw_all := lw_g (lw_at lw_m1 125 rfl) rfl
theorem q153 : (Jvm.Cond.constant "ActionPlanner" (104 : Nat) (1000000 : Int32)) ∈ lw_all := lw_g (lw_at lw_m1 126 rfl) rfl
theorem q154 : (Jvm.Cond.methodLink "ActionPlanner" (100 : Nat) ({ cls := "ActionPlanner", name := "searchForward", desc := "()I" } : Jvm.MethodName)) ∈ lw_all := lw_g (lw_at lw_m1 127 rfl) rfl
theorem q155 : (Jvm.Cond.privateMethod ({ cls := "ActionPlanner", name := "searchForward", desc := "()I" } : Jvm.MethodName)) ∈ lw_tbl := lw_at lw_m1 128 rfl
theorem q156 : (Jvm.Cond.instanceMethod ({ cls := "ActionPlanner", name := "searchForward", desc := "()I" } : Jvm.MethodName)) ∈ lw_all := lw_g (lw_at lw_m1 129 rfl) rfl
theorem q157 : (Jvm.Cond.code ({ cls := "ActionPlanner", name := "searchForward", desc := "()I" } : Jvm.MethodName) prog_1_method_22_code (5 : Nat) (Option.some Jvm.ClassFile.FieldType.int)) ∈ lw_all := lw_g (lw_at lw_m1 130 rfl) rfl
theorem q158 : (Jvm.Cond.methodLink "ActionPlanner" (118 : Nat) ({ cls := "ActionPlanner", name := "reach", desc := "(II)V" } : Jvm.MethodName)) ∈ lw_all := lw_g (lw_at lw_m1 131 rfl) rfl
theorem q159 : (Jvm.Cond.privateMethod ({ cls := "ActionPlanner", name := "reach", desc := "(II)V" } : Jvm.MethodName)) ∈ lw_tbl := lw_at lw_m1 132 rfl
theorem q160 : (Jvm.Cond.instanceMethod ({ cls := "ActionPlanner", name := "reach", desc := "(II)V" } : Jvm.MethodName)) ∈ lw_all := lw_g (lw_at lw_m1 133 rfl) rfl
theorem q161 : (Jvm.Cond.code ({ cls := "ActionPlanner", name := "reach", desc := "(II)V" } : Jvm.MethodName) prog_1_method_25_code (3 : Nat) (Option.none : Option Jvm.ClassFile.FieldType)) ∈ lw_all := lw_g (lw_at lw_m1 134 rfl) rfl
theorem q162 : (Jvm.Cond.methodLink "ActionPlanner" (135 : Nat) ({ cls := "ActionPlanner", name := "rise", desc := "(I)V" } : Jvm.MethodName)) ∈ lw_all := lw_g (lw_at lw_m1 135 rfl) rfl
theorem q163 : (Jvm.Cond.privateMethod ({ cls := "ActionPlanner", name := "rise", desc := "(I)V" } : Jvm.MethodName)) ∈ lw_tbl := lw_at lw_m1 136 rfl
theorem q164 : (Jvm.Cond.instanceMethod ({ cls := "ActionPlanner", name := "rise", desc := "(I)V" } : Jvm.MethodName)) ∈ lw_all := lw_g (lw_at lw_m1 137 rfl) rfl
theorem q165 : (Jvm.Cond.code ({ cls := "ActionPlanner", name := "rise", desc := "(I)V" } : Jvm.MethodName) prog_1_method_26_code (9 : Nat) (Option.none : Option Jvm.ClassFile.FieldType)) ∈ lw_all := lw_g (lw_at lw_m1 138 rfl) rfl
theorem q166 : (Jvm.Cond.methodLink "ActionPlanner" (138 : Nat) ({ cls := "ActionPlanner", name := "keyOf", desc := "(I)I" } : Jvm.MethodName)) ∈ lw_all := lw_g (lw_at lw_m1 139 rfl) rfl
theorem q167 : (Jvm.Cond.privateMethod ({ cls := "ActionPlanner", name := "keyOf", desc := "(I)I" } : Jvm.MethodName)) ∈ lw_tbl := lw_at lw_m1 140 rfl
theorem q168 : (Jvm.Cond.instanceMethod ({ cls := "ActionPlanner", name := "keyOf", desc := "(I)I" } : Jvm.MethodName)) ∈ lw_all := lw_g (lw_at lw_m1 141 rfl) rfl
theorem q169 : (Jvm.Cond.code ({ cls := "ActionPlanner", name := "keyOf", desc := "(I)I" } : Jvm.MethodName) prog_1_method_24_code (2 : Nat) (Option.some Jvm.ClassFile.FieldType.int)) ∈ lw_all := lw_g (lw_at lw_m1 142 rfl) rfl
theorem q170 : (Jvm.Cond.methodLink "ActionPlanner" (125 : Nat) ({ cls := "ActionPlanner", name := "bound", desc := "(I)I" } : Jvm.MethodName)) ∈ lw_all := lw_g (lw_at lw_m1 143 rfl) rfl
theorem q171 : (Jvm.Cond.privateMethod ({ cls := "ActionPlanner", name := "bound", desc := "(I)I" } : Jvm.MethodName)) ∈ lw_tbl := lw_at lw_m1 144 rfl
theorem q172 : (Jvm.Cond.instanceMethod ({ cls := "ActionPlanner", name := "bound", desc := "(I)I" } : Jvm.MethodName)) ∈ lw_all := lw_g (lw_at lw_m1 145 rfl) rfl
theorem q173 : (Jvm.Cond.code ({ cls := "ActionPlanner", name := "bound", desc := "(I)I" } : Jvm.MethodName) prog_1_method_21_code (5 : Nat) (Option.some Jvm.ClassFile.FieldType.int)) ∈ lw_all := lw_g (lw_at lw_m1 146 rfl) rfl
theorem q174 : (Jvm.Cond.methodLink "ActionPlanner" (141 : Nat) ({ cls := "ActionPlanner", name := "setHeap", desc := "(II)V" } : Jvm.MethodName)) ∈ lw_all := lw_g (lw_at lw_m1 147 rfl) rfl
theorem q175 : (Jvm.Cond.privateMethod ({ cls := "ActionPlanner", name := "setHeap", desc := "(II)V" } : Jvm.MethodName)) ∈ lw_tbl := lw_at lw_m1 148 rfl
theorem q176 : (Jvm.Cond.instanceMethod ({ cls := "ActionPlanner", name := "setHeap", desc := "(II)V" } : Jvm.MethodName)) ∈ lw_all := lw_g (lw_at lw_m1 149 rfl) rfl
theorem q177 : (Jvm.Cond.code ({ cls := "ActionPlanner", name := "setHeap", desc := "(II)V" } : Jvm.MethodName) prog_1_method_27_code (3 : Nat) (Option.none : Option Jvm.ClassFile.FieldType)) ∈ lw_all := lw_g (lw_at lw_m1 150 rfl) rfl
theorem q178 : (Jvm.Cond.methodLink "ActionPlanner" (122 : Nat) ({ cls := "ActionPlanner", name := "takeLeast", desc := "()I" } : Jvm.MethodName)) ∈ lw_all := lw_g (lw_at lw_m1 151 rfl) rfl
theorem q179 : (Jvm.Cond.privateMethod ({ cls := "ActionPlanner", name := "takeLeast", desc := "()I" } : Jvm.MethodName)) ∈ lw_tbl := lw_at lw_m1 152 rfl
theorem q180 : (Jvm.Cond.instanceMethod ({ cls := "ActionPlanner", name := "takeLeast", desc := "()I" } : Jvm.MethodName)) ∈ lw_all := lw_g (lw_at lw_m1 153 rfl) rfl
theorem q181 : (Jvm.Cond.code ({ cls := "ActionPlanner", name := "takeLeast", desc := "()I" } : Jvm.MethodName) prog_1_method_28_code (2 : Nat) (Option.some Jvm.ClassFile.FieldType.int)) ∈ lw_all := lw_g (lw_at lw_m1 154 rfl) rfl
theorem q182 : (Jvm.Cond.methodLink "ActionPlanner" (144 : Nat) ({ cls := "ActionPlanner", name := "sink", desc := "(I)V" } : Jvm.MethodName)) ∈ lw_all := lw_g (lw_at lw_m1 155 rfl) rfl
theorem q183 : (Jvm.Cond.privateMethod ({ cls := "ActionPlanner", name := "sink", desc := "(I)V" } : Jvm.MethodName)) ∈ lw_tbl := lw_at lw_m1 156 rfl
theorem q184 : (Jvm.Cond.instanceMethod ({ cls := "ActionPlanner", name := "sink", desc := "(I)V" } : Jvm.MethodName)) ∈ lw_all := lw_g (lw_at lw_m1 157 rfl) rfl
theorem q185 : (Jvm.Cond.code ({ cls := "ActionPlanner", name := "sink", desc := "(I)V" } : Jvm.MethodName) prog_1_method_29_code (8 : Nat) (Option.none : Option Jvm.ClassFile.FieldType)) ∈ lw_all := lw_g (lw_at lw_m1 158 rfl) rfl
theorem q186 : (Jvm.Cond.methodLink "ActionPlanner" (147 : Nat) ({ cls := "ActionPlanner", name := "lesserChild", desc := "(I)I" } : Jvm.MethodName)) ∈ lw_all := lw_g (lw_at lw_m1 159 rfl) rfl
theorem q187 : (Jvm.Cond.privateMethod ({ cls := "ActionPlanner", name := "lesserChild", desc := "(I)I" } : Jvm.MethodName)) ∈ lw_tbl := lw_at lw_m1 160 rfl
theorem q188 : (Jvm.Cond.instanceMethod ({ cls := "ActionPlanner", name := "lesserChild", desc := "(I)I" } : Jvm.MethodName)) ∈ lw_all := lw_g (lw_at lw_m1 161 rfl) rfl
theorem q189 : (Jvm.Cond.code ({ cls := "ActionPlanner", name := "lesserChild", desc := "(I)I" } : Jvm.MethodName) prog_1_method_30_code (6 : Nat) (Option.some Jvm.ClassFile.FieldType.int)) ∈ lw_all := lw_g (lw_at lw_m1 162 rfl) rfl
theorem q190 : (Jvm.Cond.methodLink "ActionPlanner" (129 : Nat) ({ cls := "ActionPlanner", name := "isGoal", desc := "(I)Z" } : Jvm.MethodName)) ∈ lw_all := lw_g (lw_at lw_m1 163 rfl) rfl
theorem q191 : (Jvm.Cond.privateMethod ({ cls := "ActionPlanner", name := "isGoal", desc := "(I)Z" } : Jvm.MethodName)) ∈ lw_tbl := lw_at lw_m1 164 rfl
theorem q192 : (Jvm.Cond.instanceMethod ({ cls := "ActionPlanner", name := "isGoal", desc := "(I)Z" } : Jvm.MethodName)) ∈ lw_all := lw_g (lw_at lw_m1 165 rfl) rfl
theorem q193 : (Jvm.Cond.code ({ cls := "ActionPlanner", name := "isGoal", desc := "(I)Z" } : Jvm.MethodName) prog_1_method_17_code (2 : Nat) (Option.some Jvm.ClassFile.FieldType.boolean)) ∈ lw_all := lw_g (lw_at lw_m1 166 rfl) rfl
theorem q194 : (Jvm.Cond.methodLink "ActionPlanner" (132 : Nat) ({ cls := "ActionPlanner", name := "spread", desc := "(I)V" } : Jvm.MethodName)) ∈ lw_all := lw_g (lw_at lw_m1 167 rfl) rfl
theorem q195 : (Jvm.Cond.privateMethod ({ cls := "ActionPlanner", name := "spread", desc := "(I)V" } : Jvm.MethodName)) ∈ lw_tbl := lw_at lw_m1 168 rfl
theorem q196 : (Jvm.Cond.instanceMethod ({ cls := "ActionPlanner", name := "spread", desc := "(I)V" } : Jvm.MethodName)) ∈ lw_all := lw_g (lw_at lw_m1 169 rfl) rfl
theorem q197 : (Jvm.Cond.code ({ cls := "ActionPlanner", name := "spread", desc := "(I)V" } : Jvm.MethodName) prog_1_method_23_code (4 : Nat) (Option.none : Option Jvm.ClassFile.FieldType)) ∈ lw_all := lw_g (lw_at lw_m1 170 rfl) rfl
theorem q198 : (Jvm.Cond.methodLink "ActionPlanner" (89 : Nat) ({ cls := "ActionPlanner", name := "canDo", desc := "(II)Z" } : Jvm.MethodName)) ∈ lw_all := lw_g (lw_at lw_m1 171 rfl) rfl
theorem q199 : (Jvm.Cond.privateMethod ({ cls := "ActionPlanner", name := "canDo", desc := "(II)Z" } : Jvm.MethodName)) ∈ lw_tbl := lw_at lw_m1 172 rfl
theorem q200 : (Jvm.Cond.instanceMethod ({ cls := "ActionPlanner", name := "canDo", desc := "(II)Z" } : Jvm.MethodName)) ∈ lw_all := lw_g (lw_at lw_m1 173 rfl) rfl
theorem q201 : (Jvm.Cond.code ({ cls := "ActionPlanner", name := "canDo", desc := "(II)Z" } : Jvm.MethodName) prog_1_method_15_code (3 : Nat) (Option.some Jvm.ClassFile.FieldType.boolean)) ∈ lw_all := lw_g (lw_at lw_m1 174 rfl) rfl
theorem q202 : (Jvm.Cond.methodLink "ActionPlanner" (93 : Nat) ({ cls := "ActionPlanner", name := "after", desc := "(II)I" } : Jvm.MethodName)) ∈ lw_all := lw_g (lw_at lw_m1 175 rfl) rfl
theorem q203 : (Jvm.Cond.privateMethod ({ cls := "ActionPlanner", name := "after", desc := "(II)I" } : Jvm.MethodName)) ∈ lw_tbl := lw_at lw_m1 176 rfl
theorem q204 : (Jvm.Cond.instanceMethod ({ cls := "ActionPlanner", name := "after", desc := "(II)I" } : Jvm.MethodName)) ∈ lw_all := lw_g (lw_at lw_m1 177 rfl) rfl
theorem q205 : (Jvm.Cond.code ({ cls := "ActionPlanner", name := "after", desc := "(II)I" } : Jvm.MethodName) prog_1_method_16_code (3 : Nat) (Option.some Jvm.ClassFile.FieldType.int)) ∈ lw_all := lw_g (lw_at lw_m1 178 rfl) rfl
theorem q206 : (Jvm.Cond.methodLink "ActionPlanner" (105 : Nat) ({ cls := "ActionPlanner", name := "markBest", desc := "(I)V" } : Jvm.MethodName)) ∈ lw_all := lw_g (lw_at lw_m1 179 rfl) rfl
theorem q207 : (Jvm.Cond.privateMethod ({ cls := "ActionPlanner", name := "markBest", desc := "(I)V" } : Jvm.MethodName)) ∈ lw_tbl := lw_at lw_m1 180 rfl
theorem q208 : (Jvm.Cond.instanceMethod ({ cls := "ActionPlanner", name := "markBest", desc := "(I)V" } : Jvm.MethodName)) ∈ lw_all := lw_g (lw_at lw_m1 181 rfl) rfl
theorem q209 : (Jvm.Cond.code ({ cls := "ActionPlanner", name := "markBest", desc := "(I)V" } : Jvm.MethodName) prog_1_method_31_code (6 : Nat) (Option.none : Option Jvm.ClassFile.FieldType)) ∈ lw_all := lw_g (lw_at lw_m1 182 rfl) rfl
theorem q210 : (Jvm.Cond.methodLink "ActionPlanner" (150 : Nat) ({ cls := "ActionPlanner", name := "bestAction", desc := "(I)I" } : Jvm.MethodName)) ∈ lw_all := lw_g (lw_at lw_m1 183 rfl) rfl
theorem q211 : (Jvm.Cond.privateMethod ({ cls := "ActionPlanner", name := "bestAction", desc := "(I)I" } : Jvm.MethodName)) ∈ lw_tbl := lw_at lw_m1 184 rfl
theorem q212 : (Jvm.Cond.instanceMethod ({ cls := "ActionPlanner", name := "bestAction", desc := "(I)I" } : Jvm.MethodName)) ∈ lw_all := lw_g (lw_at lw_m1 185 rfl) rfl
theorem q213 : (Jvm.Cond.code ({ cls := "ActionPlanner", name := "bestAction", desc := "(I)I" } : Jvm.MethodName) prog_1_method_32_code (4 : Nat) (Option.some Jvm.ClassFile.FieldType.int)) ∈ lw_all := lw_g (lw_at lw_m1 186 rfl) rfl
theorem q214 : (Jvm.Cond.methodLink "ActionPlanner" (109 : Nat) ({ cls := "ActionPlanner", name := "choosePlan", desc := "(I)V" } : Jvm.MethodName)) ∈ lw_all := lw_g (lw_at lw_m1 187 rfl) rfl
theorem q215 : (Jvm.Cond.privateMethod ({ cls := "ActionPlanner", name := "choosePlan", desc := "(I)V" } : Jvm.MethodName)) ∈ lw_tbl := lw_at lw_m1 188 rfl
theorem q216 : (Jvm.Cond.instanceMethod ({ cls := "ActionPlanner", name := "choosePlan", desc := "(I)V" } : Jvm.MethodName)) ∈ lw_all := lw_g (lw_at lw_m1 189 rfl) rfl
theorem q217 : (Jvm.Cond.code ({ cls := "ActionPlanner", name := "choosePlan", desc := "(I)V" } : Jvm.MethodName) prog_1_method_33_code (5 : Nat) (Option.none : Option Jvm.ClassFile.FieldType)) ∈ lw_all := lw_g (lw_at lw_m1 190 rfl) rfl
theorem q219 : (Jvm.Cond.instanceMethod ({ cls := "ActionPlanner", name := "steps", desc := "()I" } : Jvm.MethodName)) ∈ lw_all := lw_g (lw_at lw_m1 192 rfl) rfl
theorem q220 : (Jvm.Cond.selects "ActionPlanner" ({ cls := "ActionPlanner", name := "steps", desc := "()I" } : Jvm.MethodName) ({ cls := "ActionPlanner", name := "steps", desc := "()I" } : Jvm.MethodName)) ∈ lw_all := lw_g (lw_at lw_m1 193 rfl) rfl
theorem q221 : (Jvm.Cond.code ({ cls := "ActionPlanner", name := "steps", desc := "()I" } : Jvm.MethodName) prog_1_method_9_code (1 : Nat) (Option.some Jvm.ClassFile.FieldType.int)) ∈ lw_all := lw_g (lw_at lw_m1 194 rfl) rfl
theorem q223 : (Jvm.Cond.instanceMethod ({ cls := "ActionPlanner", name := "planned", desc := "(I)I" } : Jvm.MethodName)) ∈ lw_all := lw_g (lw_at lw_m1 196 rfl) rfl
theorem q224 : (Jvm.Cond.selects "ActionPlanner" ({ cls := "ActionPlanner", name := "planned", desc := "(I)I" } : Jvm.MethodName) ({ cls := "ActionPlanner", name := "planned", desc := "(I)I" } : Jvm.MethodName)) ∈ lw_all := lw_g (lw_at lw_m1 197 rfl) rfl
theorem q225 : (Jvm.Cond.code ({ cls := "ActionPlanner", name := "planned", desc := "(I)I" } : Jvm.MethodName) prog_1_method_10_code (2 : Nat) (Option.some Jvm.ClassFile.FieldType.int)) ∈ lw_all := lw_g (lw_at lw_m1 198 rfl) rfl
theorem q227 : (Jvm.Cond.instanceMethod ({ cls := "ActionPlanner", name := "advance", desc := "()I" } : Jvm.MethodName)) ∈ lw_all := lw_g (lw_at lw_m1 200 rfl) rfl
theorem q228 : (Jvm.Cond.selects "ActionPlanner" ({ cls := "ActionPlanner", name := "advance", desc := "()I" } : Jvm.MethodName) ({ cls := "ActionPlanner", name := "advance", desc := "()I" } : Jvm.MethodName)) ∈ lw_all := lw_g (lw_at lw_m1 201 rfl) rfl
theorem q229 : (Jvm.Cond.code ({ cls := "ActionPlanner", name := "advance", desc := "()I" } : Jvm.MethodName) prog_1_method_11_code (2 : Nat) (Option.some Jvm.ClassFile.FieldType.int)) ∈ lw_all := lw_g (lw_at lw_m1 202 rfl) rfl
theorem q230 : (Jvm.Cond.methodLink "ActionPlanner" (86 : Nat) ({ cls := "ActionPlanner", name := "followPlan", desc := "()V" } : Jvm.MethodName)) ∈ lw_all := lw_g (lw_at lw_m1 203 rfl) rfl
theorem q231 : (Jvm.Cond.privateMethod ({ cls := "ActionPlanner", name := "followPlan", desc := "()V" } : Jvm.MethodName)) ∈ lw_tbl := lw_at lw_m1 204 rfl
theorem q232 : (Jvm.Cond.instanceMethod ({ cls := "ActionPlanner", name := "followPlan", desc := "()V" } : Jvm.MethodName)) ∈ lw_all := lw_g (lw_at lw_m1 205 rfl) rfl
theorem q233 : (Jvm.Cond.code ({ cls := "ActionPlanner", name := "followPlan", desc := "()V" } : Jvm.MethodName) prog_1_method_18_code (2 : Nat) (Option.none : Option Jvm.ClassFile.FieldType)) ∈ lw_all := lw_g (lw_at lw_m1 206 rfl) rfl
theorem q235 : (Jvm.Cond.instanceMethod ({ cls := "ActionPlanner", name := "act", desc := "(I)I" } : Jvm.MethodName)) ∈ lw_all := lw_g (lw_at lw_m1 208 rfl) rfl
theorem q236 : (Jvm.Cond.selects "ActionPlanner" ({ cls := "ActionPlanner", name := "act", desc := "(I)I" } : Jvm.MethodName) ({ cls := "ActionPlanner", name := "act", desc := "(I)I" } : Jvm.MethodName)) ∈ lw_all := lw_g (lw_at lw_m1 209 rfl) rfl
theorem q237 : (Jvm.Cond.code ({ cls := "ActionPlanner", name := "act", desc := "(I)I" } : Jvm.MethodName) prog_1_method_12_code (3 : Nat) (Option.some Jvm.ClassFile.FieldType.int)) ∈ lw_all := lw_g (lw_at lw_m1 210 rfl) rfl
theorem q239 : (Jvm.Cond.instanceMethod ({ cls := "ActionPlanner", name := "reachable", desc := "()I" } : Jvm.MethodName)) ∈ lw_all := lw_g (lw_at lw_m1 212 rfl) rfl
theorem q240 : (Jvm.Cond.selects "ActionPlanner" ({ cls := "ActionPlanner", name := "reachable", desc := "()I" } : Jvm.MethodName) ({ cls := "ActionPlanner", name := "reachable", desc := "()I" } : Jvm.MethodName)) ∈ lw_all := lw_g (lw_at lw_m1 213 rfl) rfl
theorem q241 : (Jvm.Cond.code ({ cls := "ActionPlanner", name := "reachable", desc := "()I" } : Jvm.MethodName) prog_1_method_13_code (5 : Nat) (Option.some Jvm.ClassFile.FieldType.int)) ∈ lw_all := lw_g (lw_at lw_m1 214 rfl) rfl
theorem in_X0 : ∀ w ∈ wsX00, w ∈ lw_all := lw_in wsX00 [62, 64, 66, 68, 70, 72, 74, 76, 78, 80, 82, 84, 86, 88, 90, 92, 94, 96, 98, 100, 102, 104, 106, 108] (by decide +kernel) (by decide +kernel)

/-! ActionPlannerModel -/
set_option maxRecDepth 100000
def RX1 : String := "ActionPlannerModel"
def TX1 : u_T := fun k => match k with
  | 0 => ("ActionPlannerModel", "now", "I", false)
  | 1 => ("ActionPlannerModel", "wantTrue", "I", false)
  | 2 => ("ActionPlannerModel", "wantFalse", "I", false)
  | 3 => ("ActionPlannerModel", "given", "[Z", true)
  | 4 => ("ActionPlannerModel", "needs", "[I", true)
  | 5 => ("ActionPlannerModel", "bars", "[I", true)
  | 6 => ("ActionPlannerModel", "adds", "[I", true)
  | 7 => ("ActionPlannerModel", "drops", "[I", true)
  | 8 => ("ActionPlannerModel", "cost", "[I", true)
  | 9 => ("ActionPlannerModel", "least", "[I", true)
  | _ => ("ActionPlannerModel", "reached", "[Z", true)
def tyX1 : Nat → FieldType := fun k => match k with
  | 0 => .int
  | 1 => .int
  | 2 => .int
  | 3 => .array .boolean
  | 4 => .array .int
  | 5 => .array .int
  | 6 => .array .int
  | 7 => .array .int
  | 8 => .array .int
  | 9 => .array .int
  | _ => .array .boolean
abbrev wsX10 : List Cond := u_ws RX1 TX1 11
theorem nmX1 : ∀ a, a < 11 → ∀ b, b < 11 → a ≠ b → (TX1 a).2.1 ≠ (TX1 b).2.1 := by decide +kernel
theorem tyX1_ok : ∀ k, k < 11 → parseFieldDescriptor (TX1 k).2.2.1 = some (tyX1 k) := by decide +kernel
abbrev cX1_init : ByteArray := prog_3_method_1_code
def yX1_init : MethodName := ⟨RX1, "<init>", "()V"⟩
abbrev cX1_require : ByteArray := prog_3_method_3_code
def yX1_require : MethodName := ⟨RX1, "require", "(III)I"⟩
abbrev cX1_bad : ByteArray := prog_3_method_2_code
def yX1_bad : MethodName := ⟨RX1, "bad", "(I)Z"⟩
abbrev cX1_effect : ByteArray := prog_3_method_4_code
def yX1_effect : MethodName := ⟨RX1, "effect", "(IIII)I"⟩
abbrev cX1_forget : ByteArray := prog_3_method_5_code
def yX1_forget : MethodName := ⟨RX1, "forget", "(I)I"⟩
abbrev cX1_want : ByteArray := prog_3_method_6_code
def yX1_want : MethodName := ⟨RX1, "want", "(II)V"⟩
abbrev cX1_observe : ByteArray := prog_3_method_7_code
def yX1_observe : MethodName := ⟨RX1, "observe", "(I)V"⟩
abbrev cX1_now : ByteArray := prog_3_method_8_code
def yX1_now : MethodName := ⟨RX1, "now", "()I"⟩
abbrev cX1_price : ByteArray := prog_3_method_14_code
def yX1_price : MethodName := ⟨RX1, "price", "()I"⟩
abbrev cX1_work : ByteArray := prog_3_method_13_code
def yX1_work : MethodName := ⟨RX1, "work", "()V"⟩
abbrev cX1_wanted : ByteArray := prog_3_method_9_code
def yX1_wanted : MethodName := ⟨RX1, "wanted", "(I)Z"⟩
abbrev cX1_lower : ByteArray := prog_3_method_12_code
def yX1_lower : MethodName := ⟨RX1, "lower", "(I)Z"⟩
abbrev cX1_after : ByteArray := prog_3_method_11_code
def yX1_after : MethodName := ⟨RX1, "after", "(II)I"⟩
abbrev cX1_canDo : ByteArray := prog_3_method_10_code
def yX1_canDo : MethodName := ⟨RX1, "canDo", "(II)Z"⟩
abbrev cX1_steps : ByteArray := prog_3_method_16_code
def yX1_steps : MethodName := ⟨RX1, "steps", "()I"⟩
abbrev cX1_first : ByteArray := prog_3_method_15_code
def yX1_first : MethodName := ⟨RX1, "first", "(I)I"⟩
abbrev cX1_planned : ByteArray := prog_3_method_17_code
def yX1_planned : MethodName := ⟨RX1, "planned", "(I)I"⟩
abbrev cX1_advance : ByteArray := prog_3_method_18_code
def yX1_advance : MethodName := ⟨RX1, "advance", "()I"⟩
abbrev cX1_act : ByteArray := prog_3_method_19_code
def yX1_act : MethodName := ⟨RX1, "act", "(I)I"⟩
abbrev cX1_reachable : ByteArray := prog_3_method_21_code
def yX1_reachable : MethodName := ⟨RX1, "reachable", "()I"⟩
abbrev cX1_spread : ByteArray := prog_3_method_20_code
def yX1_spread : MethodName := ⟨RX1, "spread", "(I)Z"⟩
theorem q29 : (Jvm.Cond.initialized "ActionPlannerModel") ∈ lw_all := lw_g (lw_at lw_m1 2 rfl) rfl
theorem q243 : (Jvm.Cond.instantiable "ActionPlannerModel" (11 : Nat)) ∈ lw_all := lw_g (lw_at lw_m1 216 rfl) rfl
theorem q245 : (Jvm.Cond.instanceMethod ({ cls := "ActionPlannerModel", name := "<init>", desc := "()V" } : Jvm.MethodName)) ∈ lw_all := lw_g (lw_at lw_m1 218 rfl) rfl
theorem q246 : (Jvm.Cond.code ({ cls := "ActionPlannerModel", name := "<init>", desc := "()V" } : Jvm.MethodName) prog_3_method_1_code (1 : Nat) (Option.none : Option Jvm.ClassFile.FieldType)) ∈ lw_all := lw_g (lw_at lw_m1 219 rfl) rfl
theorem q247 : (Jvm.Cond.methodLink "ActionPlannerModel" (1 : Nat) ({ cls := "java/lang/Object", name := "<init>", desc := "()V" } : Jvm.MethodName)) ∈ lw_all := lw_g (lw_at lw_m1 220 rfl) rfl
theorem q248 : (Jvm.Cond.fieldLink "ActionPlannerModel" (46 : Nat) "ActionPlannerModel" "now" "I") ∈ lw_all := lw_g (lw_at lw_m1 221 rfl) rfl
theorem q249 : (Jvm.Cond.fieldLink "ActionPlannerModel" (39 : Nat) "ActionPlannerModel" "wantTrue" "I") ∈ lw_all := lw_g (lw_at lw_m1 222 rfl) rfl
theorem q250 : (Jvm.Cond.fieldLink "ActionPlannerModel" (43 : Nat) "ActionPlannerModel" "wantFalse" "I") ∈ lw_all := lw_g (lw_at lw_m1 223 rfl) rfl
theorem q251 : (Jvm.Cond.fieldLink "ActionPlannerModel" (7 : Nat) "ActionPlannerModel" "given" "[Z") ∈ lw_all := lw_g (lw_at lw_m1 224 rfl) rfl
theorem q252 : (Jvm.Cond.fieldLink "ActionPlannerModel" (13 : Nat) "ActionPlannerModel" "needs" "[I") ∈ lw_all := lw_g (lw_at lw_m1 225 rfl) rfl
theorem q253 : (Jvm.Cond.fieldLink "ActionPlannerModel" (17 : Nat) "ActionPlannerModel" "bars" "[I") ∈ lw_all := lw_g (lw_at lw_m1 226 rfl) rfl
theorem q254 : (Jvm.Cond.fieldLink "ActionPlannerModel" (20 : Nat) "ActionPlannerModel" "adds" "[I") ∈ lw_all := lw_g (lw_at lw_m1 227 rfl) rfl
theorem q255 : (Jvm.Cond.fieldLink "ActionPlannerModel" (23 : Nat) "ActionPlannerModel" "drops" "[I") ∈ lw_all := lw_g (lw_at lw_m1 228 rfl) rfl
theorem q256 : (Jvm.Cond.fieldLink "ActionPlannerModel" (26 : Nat) "ActionPlannerModel" "cost" "[I") ∈ lw_all := lw_g (lw_at lw_m1 229 rfl) rfl
theorem q257 : (Jvm.Cond.fieldLink "ActionPlannerModel" (29 : Nat) "ActionPlannerModel" "least" "[I") ∈ lw_all := lw_g (lw_at lw_m1 230 rfl) rfl
theorem q258 : (Jvm.Cond.fieldLink "ActionPlannerModel" (32 : Nat) "ActionPlannerModel" "reached" "[Z") ∈ lw_all := lw_g (lw_at lw_m1 231 rfl) rfl
theorem q259 : (Jvm.Cond.lays "ActionPlannerModel" "ActionPlannerModel" "now" "I") ∈ lw_all := lw_g (lw_at lw_m1 232 rfl) rfl
theorem q260 : (Jvm.Cond.soleField "ActionPlannerModel" "now") ∈ lw_all := lw_g (lw_at lw_m1 233 rfl) rfl
theorem q261 : (Jvm.Cond.lays "ActionPlannerModel" "ActionPlannerModel" "wantTrue" "I") ∈ lw_all := lw_g (lw_at lw_m1 234 rfl) rfl
theorem q262 : (Jvm.Cond.soleField "ActionPlannerModel" "wantTrue") ∈ lw_all := lw_g (lw_at lw_m1 235 rfl) rfl
theorem q263 : (Jvm.Cond.lays "ActionPlannerModel" "ActionPlannerModel" "wantFalse" "I") ∈ lw_all := lw_g (lw_at lw_m1 236 rfl) rfl
theorem q264 : (Jvm.Cond.soleField "ActionPlannerModel" "wantFalse") ∈ lw_all := lw_g (lw_at lw_m1 237 rfl) rfl
theorem q265 : (Jvm.Cond.laysFinal "ActionPlannerModel" "ActionPlannerModel" "given" "[Z") ∈ lw_all := lw_g (lw_at lw_m1 238 rfl) rfl
theorem q266 : (Jvm.Cond.soleField "ActionPlannerModel" "given") ∈ lw_all := lw_g (lw_at lw_m1 239 rfl) rfl
theorem q267 : (Jvm.Cond.laysFinal "ActionPlannerModel" "ActionPlannerModel" "needs" "[I") ∈ lw_all := lw_g (lw_at lw_m2 0 rfl) rfl
theorem q268 : (Jvm.Cond.soleField "ActionPlannerModel" "needs") ∈ lw_all := lw_g (lw_at lw_m2 1 rfl) rfl
theorem q269 : (Jvm.Cond.laysFinal "ActionPlannerModel" "ActionPlannerModel" "bars" "[I") ∈ lw_all := lw_g (lw_at lw_m2 2 rfl) rfl
theorem q270 : (Jvm.Cond.soleField "ActionPlannerModel" "bars") ∈ lw_all := lw_g (lw_at lw_m2 3 rfl) rfl
theorem q271 : (Jvm.Cond.laysFinal "ActionPlannerModel" "ActionPlannerModel" "adds" "[I") ∈ lw_all := lw_g (lw_at lw_m2 4 rfl) rfl
theorem q272 : (Jvm.Cond.soleField "ActionPlannerModel" "adds") ∈ lw_all := lw_g (lw_at lw_m2 5 rfl) rfl
theorem q273 : (Jvm.Cond.laysFinal "ActionPlannerModel" "ActionPlannerModel" "drops" "[I") ∈ lw_all := lw_g (lw_at lw_m2 6 rfl) rfl
theorem q274 : (Jvm.Cond.soleField "ActionPlannerModel" "drops") ∈ lw_all := lw_g (lw_at lw_m2 7 rfl) rfl
theorem q275 : (Jvm.Cond.laysFinal "ActionPlannerModel" "ActionPlannerModel" "cost" "[I") ∈ lw_all := lw_g (lw_at lw_m2 8 rfl) rfl
theorem q276 : (Jvm.Cond.soleField "ActionPlannerModel" "cost") ∈ lw_all := lw_g (lw_at lw_m2 9 rfl) rfl
theorem q277 : (Jvm.Cond.laysFinal "ActionPlannerModel" "ActionPlannerModel" "least" "[I") ∈ lw_all := lw_g (lw_at lw_m2 10 rfl) rfl
theorem q278 : (Jvm.Cond.soleField "ActionPlannerModel" "least") ∈ lw_all := lw_g (lw_at lw_m2 11 rfl) rfl
theorem q279 : (Jvm.Cond.laysFinal "ActionPlannerModel" "ActionPlannerModel" "reached" "[Z") ∈ lw_all := lw_g (lw_at lw_m2 12 rfl) rfl
theorem q280 : (Jvm.Cond.soleField "ActionPlannerModel" "reached") ∈ lw_all := lw_g (lw_at lw_m2 13 rfl) rfl
theorem q281 : (Jvm.Cond.superclass "ActionPlannerModel" "java/lang/Object") ∈ lw_all := lw_g (lw_at lw_m2 14 rfl) rfl
theorem q283 : (Jvm.Cond.instanceMethod ({ cls := "ActionPlannerModel", name := "require", desc := "(III)I" } : Jvm.MethodName)) ∈ lw_all := lw_g (lw_at lw_m2 16 rfl) rfl
theorem q284 : (Jvm.Cond.selects "ActionPlannerModel" ({ cls := "ActionPlannerModel", name := "require", desc := "(III)I" } : Jvm.MethodName) ({ cls := "ActionPlannerModel", name := "require", desc := "(III)I" } : Jvm.MethodName)) ∈ lw_all := lw_g (lw_at lw_m2 17 rfl) rfl
theorem q285 : (Jvm.Cond.code ({ cls := "ActionPlannerModel", name := "require", desc := "(III)I" } : Jvm.MethodName) prog_3_method_3_code (4 : Nat) (Option.some Jvm.ClassFile.FieldType.int)) ∈ lw_all := lw_g (lw_at lw_m2 18 rfl) rfl
theorem q286 : (Jvm.Cond.methodLink "ActionPlannerModel" (35 : Nat) ({ cls := "ActionPlannerModel", name := "bad", desc := "(I)Z" } : Jvm.MethodName)) ∈ lw_all := lw_g (lw_at lw_m2 19 rfl) rfl
theorem q287 : (Jvm.Cond.static ({ cls := "ActionPlannerModel", name := "bad", desc := "(I)Z" } : Jvm.MethodName)) ∈ lw_all := lw_g (lw_at lw_m2 20 rfl) rfl
theorem q288 : (Jvm.Cond.code ({ cls := "ActionPlannerModel", name := "bad", desc := "(I)Z" } : Jvm.MethodName) prog_3_method_2_code (1 : Nat) (Option.some Jvm.ClassFile.FieldType.boolean)) ∈ lw_all := lw_g (lw_at lw_m2 21 rfl) rfl
theorem q290 : (Jvm.Cond.instanceMethod ({ cls := "ActionPlannerModel", name := "effect", desc := "(IIII)I" } : Jvm.MethodName)) ∈ lw_all := lw_g (lw_at lw_m2 23 rfl) rfl
theorem q291 : (Jvm.Cond.selects "ActionPlannerModel" ({ cls := "ActionPlannerModel", name := "effect", desc := "(IIII)I" } : Jvm.MethodName) ({ cls := "ActionPlannerModel", name := "effect", desc := "(IIII)I" } : Jvm.MethodName)) ∈ lw_all := lw_g (lw_at lw_m2 24 rfl) rfl
theorem q292 : (Jvm.Cond.code ({ cls := "ActionPlannerModel", name := "effect", desc := "(IIII)I" } : Jvm.MethodName) prog_3_method_4_code (5 : Nat) (Option.some Jvm.ClassFile.FieldType.int)) ∈ lw_all := lw_g (lw_at lw_m2 25 rfl) rfl
theorem q294 : (Jvm.Cond.instanceMethod ({ cls := "ActionPlannerModel", name := "forget", desc := "(I)I" } : Jvm.MethodName)) ∈ lw_all := lw_g (lw_at lw_m2 27 rfl) rfl
theorem q295 : (Jvm.Cond.selects "ActionPlannerModel" ({ cls := "ActionPlannerModel", name := "forget", desc := "(I)I" } : Jvm.MethodName) ({ cls := "ActionPlannerModel", name := "forget", desc := "(I)I" } : Jvm.MethodName)) ∈ lw_all := lw_g (lw_at lw_m2 28 rfl) rfl
theorem q296 : (Jvm.Cond.code ({ cls := "ActionPlannerModel", name := "forget", desc := "(I)I" } : Jvm.MethodName) prog_3_method_5_code (2 : Nat) (Option.some Jvm.ClassFile.FieldType.int)) ∈ lw_all := lw_g (lw_at lw_m2 29 rfl) rfl
theorem q298 : (Jvm.Cond.instanceMethod ({ cls := "ActionPlannerModel", name := "want", desc := "(II)V" } : Jvm.MethodName)) ∈ lw_all := lw_g (lw_at lw_m2 31 rfl) rfl
theorem q299 : (Jvm.Cond.selects "ActionPlannerModel" ({ cls := "ActionPlannerModel", name := "want", desc := "(II)V" } : Jvm.MethodName) ({ cls := "ActionPlannerModel", name := "want", desc := "(II)V" } : Jvm.MethodName)) ∈ lw_all := lw_g (lw_at lw_m2 32 rfl) rfl
theorem q300 : (Jvm.Cond.code ({ cls := "ActionPlannerModel", name := "want", desc := "(II)V" } : Jvm.MethodName) prog_3_method_6_code (3 : Nat) (Option.none : Option Jvm.ClassFile.FieldType)) ∈ lw_all := lw_g (lw_at lw_m2 33 rfl) rfl
theorem q302 : (Jvm.Cond.instanceMethod ({ cls := "ActionPlannerModel", name := "observe", desc := "(I)V" } : Jvm.MethodName)) ∈ lw_all := lw_g (lw_at lw_m2 35 rfl) rfl
theorem q303 : (Jvm.Cond.selects "ActionPlannerModel" ({ cls := "ActionPlannerModel", name := "observe", desc := "(I)V" } : Jvm.MethodName) ({ cls := "ActionPlannerModel", name := "observe", desc := "(I)V" } : Jvm.MethodName)) ∈ lw_all := lw_g (lw_at lw_m2 36 rfl) rfl
theorem q304 : (Jvm.Cond.code ({ cls := "ActionPlannerModel", name := "observe", desc := "(I)V" } : Jvm.MethodName) prog_3_method_7_code (2 : Nat) (Option.none : Option Jvm.ClassFile.FieldType)) ∈ lw_all := lw_g (lw_at lw_m2 37 rfl) rfl
theorem q306 : (Jvm.Cond.instanceMethod ({ cls := "ActionPlannerModel", name := "now", desc := "()I" } : Jvm.MethodName)) ∈ lw_all := lw_g (lw_at lw_m2 39 rfl) rfl
theorem q307 : (Jvm.Cond.selects "ActionPlannerModel" ({ cls := "ActionPlannerModel", name := "now", desc := "()I" } : Jvm.MethodName) ({ cls := "ActionPlannerModel", name := "now", desc := "()I" } : Jvm.MethodName)) ∈ lw_all := lw_g (lw_at lw_m2 40 rfl) rfl
theorem q308 : (Jvm.Cond.code ({ cls := "ActionPlannerModel", name := "now", desc := "()I" } : Jvm.MethodName) prog_3_method_8_code (1 : Nat) (Option.some Jvm.ClassFile.FieldType.int)) ∈ lw_all := lw_g (lw_at lw_m2 41 rfl) rfl
theorem q310 : (Jvm.Cond.instanceMethod ({ cls := "ActionPlannerModel", name := "price", desc := "()I" } : Jvm.MethodName)) ∈ lw_all := lw_g (lw_at lw_m2 43 rfl) rfl
theorem q311 : (Jvm.Cond.selects "ActionPlannerModel" ({ cls := "ActionPlannerModel", name := "price", desc := "()I" } : Jvm.MethodName) ({ cls := "ActionPlannerModel", name := "price", desc := "()I" } : Jvm.MethodName)) ∈ lw_all := lw_g (lw_at lw_m2 44 rfl) rfl
theorem q312 : (Jvm.Cond.code ({ cls := "ActionPlannerModel", name := "price", desc := "()I" } : Jvm.MethodName) prog_3_method_14_code (1 : Nat) (Option.some Jvm.ClassFile.FieldType.int)) ∈ lw_all := lw_g (lw_at lw_m2 45 rfl) rfl
theorem q313 : (Jvm.Cond.methodLink "ActionPlannerModel" (64 : Nat) ({ cls := "ActionPlannerModel", name := "work", desc := "()V" } : Jvm.MethodName)) ∈ lw_all := lw_g (lw_at lw_m2 46 rfl) rfl
theorem q314 : (Jvm.Cond.privateMethod ({ cls := "ActionPlannerModel", name := "work", desc := "()V" } : Jvm.MethodName)) ∈ lw_tbl := lw_at lw_m2 47 rfl
theorem q315 : (Jvm.Cond.instanceMethod ({ cls := "ActionPlannerModel", name := "work", desc := "()V" } : Jvm.MethodName)) ∈ lw_all := lw_g (lw_at lw_m2 48 rfl) rfl
theorem q316 : (Jvm.Cond.code ({ cls := "ActionPlannerModel", name := "work", desc := "()V" } : Jvm.MethodName) prog_3_method_13_code (4 : Nat) (Option.none : Option Jvm.ClassFile.FieldType)) ∈ lw_all := lw_g (lw_at lw_m2 49 rfl) rfl
theorem q317 : (Jvm.Cond.methodLink "ActionPlannerModel" (57 : Nat) ({ cls := "ActionPlannerModel", name := "wanted", desc := "(I)Z" } : Jvm.MethodName)) ∈ lw_all := lw_g (lw_at lw_m2 50 rfl) rfl
theorem q318 : (Jvm.Cond.privateMethod ({ cls := "ActionPlannerModel", name := "wanted", desc := "(I)Z" } : Jvm.MethodName)) ∈ lw_tbl := lw_at lw_m2 51 rfl
theorem q319 : (Jvm.Cond.instanceMethod ({ cls := "ActionPlannerModel", name := "wanted", desc := "(I)Z" } : Jvm.MethodName)) ∈ lw_all := lw_g (lw_at lw_m2 52 rfl) rfl
theorem q320 : (Jvm.Cond.code ({ cls := "ActionPlannerModel", name := "wanted", desc := "(I)Z" } : Jvm.MethodName) prog_3_method_9_code (2 : Nat) (Option.some Jvm.ClassFile.FieldType.boolean)) ∈ lw_all := lw_g (lw_at lw_m2 53 rfl) rfl
theorem q321 : (Jvm.Cond.constant "ActionPlannerModel" (60 : Nat) (1000000 : Int32)) ∈ lw_all := lw_g (lw_at lw_m2 54 rfl) rfl
theorem q322 : (Jvm.Cond.methodLink "ActionPlannerModel" (61 : Nat) ({ cls := "ActionPlannerModel", name := "lower", desc := "(I)Z" } : Jvm.MethodName)) ∈ lw_all := lw_g (lw_at lw_m2 55 rfl) rfl
theorem q323 : (Jvm.Cond.privateMethod ({ cls := "ActionPlannerModel", name := "lower", desc := "(I)Z" } : Jvm.MethodName)) ∈ lw_tbl := lw_at lw_m2 56 rfl
theorem q324 : (Jvm.Cond.instanceMethod ({ cls := "ActionPlannerModel", name := "lower", desc := "(I)Z" } : Jvm.MethodName)) ∈ lw_all := lw_g (lw_at lw_m2 57 rfl) rfl
theorem q325 : (Jvm.Cond.code ({ cls := "ActionPlannerModel", name := "lower", desc := "(I)Z" } : Jvm.MethodName) prog_3_method_12_code (6 : Nat) (Option.some Jvm.ClassFile.FieldType.boolean)) ∈ lw_all := lw_g (lw_at lw_m2 58 rfl) rfl
theorem q326 : (Jvm.Cond.methodLink "ActionPlannerModel" (49 : Nat) ({ cls := "ActionPlannerModel", name := "after", desc := "(II)I" } : Jvm.MethodName)) ∈ lw_all := lw_g (lw_at lw_m2 59 rfl) rfl
theorem q327 : (Jvm.Cond.privateMethod ({ cls := "ActionPlannerModel", name := "after", desc := "(II)I" } : Jvm.MethodName)) ∈ lw_tbl := lw_at lw_m2 60 rfl
theorem q328 : (Jvm.Cond.instanceMethod ({ cls := "ActionPlannerModel", name := "after", desc := "(II)I" } : Jvm.MethodName)) ∈ lw_all := lw_g (lw_at lw_m2 61 rfl) rfl
theorem q329 : (Jvm.Cond.code ({ cls := "ActionPlannerModel", name := "after", desc := "(II)I" } : Jvm.MethodName) prog_3_method_11_code (3 : Nat) (Option.some Jvm.ClassFile.FieldType.int)) ∈ lw_all := lw_g (lw_at lw_m2 62 rfl) rfl
theorem q330 : (Jvm.Cond.methodLink "ActionPlannerModel" (53 : Nat) ({ cls := "ActionPlannerModel", name := "canDo", desc := "(II)Z" } : Jvm.MethodName)) ∈ lw_all := lw_g (lw_at lw_m2 63 rfl) rfl
theorem q331 : (Jvm.Cond.privateMethod ({ cls := "ActionPlannerModel", name := "canDo", desc := "(II)Z" } : Jvm.MethodName)) ∈ lw_tbl := lw_at lw_m2 64 rfl
theorem q332 : (Jvm.Cond.instanceMethod ({ cls := "ActionPlannerModel", name := "canDo", desc := "(II)Z" } : Jvm.MethodName)) ∈ lw_all := lw_g (lw_at lw_m2 65 rfl) rfl
theorem q333 : (Jvm.Cond.code ({ cls := "ActionPlannerModel", name := "canDo", desc := "(II)Z" } : Jvm.MethodName) prog_3_method_10_code (3 : Nat) (Option.some Jvm.ClassFile.FieldType.boolean)) ∈ lw_all := lw_g (lw_at lw_m2 66 rfl) rfl
theorem q335 : (Jvm.Cond.instanceMethod ({ cls := "ActionPlannerModel", name := "steps", desc := "()I" } : Jvm.MethodName)) ∈ lw_all := lw_g (lw_at lw_m2 68 rfl) rfl
theorem q336 : (Jvm.Cond.selects "ActionPlannerModel" ({ cls := "ActionPlannerModel", name := "steps", desc := "()I" } : Jvm.MethodName) ({ cls := "ActionPlannerModel", name := "steps", desc := "()I" } : Jvm.MethodName)) ∈ lw_all := lw_g (lw_at lw_m2 69 rfl) rfl
theorem q337 : (Jvm.Cond.code ({ cls := "ActionPlannerModel", name := "steps", desc := "()I" } : Jvm.MethodName) prog_3_method_16_code (4 : Nat) (Option.some Jvm.ClassFile.FieldType.int)) ∈ lw_all := lw_g (lw_at lw_m2 70 rfl) rfl
theorem q338 : (Jvm.Cond.methodLink "ActionPlannerModel" (67 : Nat) ({ cls := "ActionPlannerModel", name := "first", desc := "(I)I" } : Jvm.MethodName)) ∈ lw_all := lw_g (lw_at lw_m2 71 rfl) rfl
theorem q339 : (Jvm.Cond.privateMethod ({ cls := "ActionPlannerModel", name := "first", desc := "(I)I" } : Jvm.MethodName)) ∈ lw_tbl := lw_at lw_m2 72 rfl
theorem q340 : (Jvm.Cond.instanceMethod ({ cls := "ActionPlannerModel", name := "first", desc := "(I)I" } : Jvm.MethodName)) ∈ lw_all := lw_g (lw_at lw_m2 73 rfl) rfl
theorem q341 : (Jvm.Cond.code ({ cls := "ActionPlannerModel", name := "first", desc := "(I)I" } : Jvm.MethodName) prog_3_method_15_code (4 : Nat) (Option.some Jvm.ClassFile.FieldType.int)) ∈ lw_all := lw_g (lw_at lw_m2 74 rfl) rfl
theorem q343 : (Jvm.Cond.instanceMethod ({ cls := "ActionPlannerModel", name := "planned", desc := "(I)I" } : Jvm.MethodName)) ∈ lw_all := lw_g (lw_at lw_m2 76 rfl) rfl
theorem q344 : (Jvm.Cond.selects "ActionPlannerModel" ({ cls := "ActionPlannerModel", name := "planned", desc := "(I)I" } : Jvm.MethodName) ({ cls := "ActionPlannerModel", name := "planned", desc := "(I)I" } : Jvm.MethodName)) ∈ lw_all := lw_g (lw_at lw_m2 77 rfl) rfl
theorem q345 : (Jvm.Cond.code ({ cls := "ActionPlannerModel", name := "planned", desc := "(I)I" } : Jvm.MethodName) prog_3_method_17_code (5 : Nat) (Option.some Jvm.ClassFile.FieldType.int)) ∈ lw_all := lw_g (lw_at lw_m2 78 rfl) rfl
theorem q347 : (Jvm.Cond.instanceMethod ({ cls := "ActionPlannerModel", name := "advance", desc := "()I" } : Jvm.MethodName)) ∈ lw_all := lw_g (lw_at lw_m2 80 rfl) rfl
theorem q348 : (Jvm.Cond.selects "ActionPlannerModel" ({ cls := "ActionPlannerModel", name := "advance", desc := "()I" } : Jvm.MethodName) ({ cls := "ActionPlannerModel", name := "advance", desc := "()I" } : Jvm.MethodName)) ∈ lw_all := lw_g (lw_at lw_m2 81 rfl) rfl
theorem q349 : (Jvm.Cond.code ({ cls := "ActionPlannerModel", name := "advance", desc := "()I" } : Jvm.MethodName) prog_3_method_18_code (2 : Nat) (Option.some Jvm.ClassFile.FieldType.int)) ∈ lw_all := lw_g (lw_at lw_m2 82 rfl) rfl
theorem q351 : (Jvm.Cond.instanceMethod ({ cls := "ActionPlannerModel", name := "act", desc := "(I)I" } : Jvm.MethodName)) ∈ lw_all := lw_g (lw_at lw_m2 84 rfl) rfl
theorem q352 : (Jvm.Cond.selects "ActionPlannerModel" ({ cls := "ActionPlannerModel", name := "act", desc := "(I)I" } : Jvm.MethodName) ({ cls := "ActionPlannerModel", name := "act", desc := "(I)I" } : Jvm.MethodName)) ∈ lw_all := lw_g (lw_at lw_m2 85 rfl) rfl
theorem q353 : (Jvm.Cond.code ({ cls := "ActionPlannerModel", name := "act", desc := "(I)I" } : Jvm.MethodName) prog_3_method_19_code (2 : Nat) (Option.some Jvm.ClassFile.FieldType.int)) ∈ lw_all := lw_g (lw_at lw_m2 86 rfl) rfl
theorem q355 : (Jvm.Cond.instanceMethod ({ cls := "ActionPlannerModel", name := "reachable", desc := "()I" } : Jvm.MethodName)) ∈ lw_all := lw_g (lw_at lw_m2 88 rfl) rfl
theorem q356 : (Jvm.Cond.selects "ActionPlannerModel" ({ cls := "ActionPlannerModel", name := "reachable", desc := "()I" } : Jvm.MethodName) ({ cls := "ActionPlannerModel", name := "reachable", desc := "()I" } : Jvm.MethodName)) ∈ lw_all := lw_g (lw_at lw_m2 89 rfl) rfl
theorem q357 : (Jvm.Cond.code ({ cls := "ActionPlannerModel", name := "reachable", desc := "()I" } : Jvm.MethodName) prog_3_method_21_code (4 : Nat) (Option.some Jvm.ClassFile.FieldType.int)) ∈ lw_all := lw_g (lw_at lw_m2 90 rfl) rfl
theorem q358 : (Jvm.Cond.methodLink "ActionPlannerModel" (71 : Nat) ({ cls := "ActionPlannerModel", name := "spread", desc := "(I)Z" } : Jvm.MethodName)) ∈ lw_all := lw_g (lw_at lw_m2 91 rfl) rfl
theorem q359 : (Jvm.Cond.privateMethod ({ cls := "ActionPlannerModel", name := "spread", desc := "(I)Z" } : Jvm.MethodName)) ∈ lw_tbl := lw_at lw_m2 92 rfl
theorem q360 : (Jvm.Cond.instanceMethod ({ cls := "ActionPlannerModel", name := "spread", desc := "(I)Z" } : Jvm.MethodName)) ∈ lw_all := lw_g (lw_at lw_m2 93 rfl) rfl
theorem q361 : (Jvm.Cond.code ({ cls := "ActionPlannerModel", name := "spread", desc := "(I)Z" } : Jvm.MethodName) prog_3_method_20_code (5 : Nat) (Option.some Jvm.ClassFile.FieldType.boolean)) ∈ lw_all := lw_g (lw_at lw_m2 94 rfl) rfl
theorem in_X1 : ∀ w ∈ wsX10, w ∈ lw_all := lw_in wsX10 [259, 261, 263, 265, 267, 269, 271, 273, 275, 277, 279] (by decide +kernel) (by decide +kernel)

/-! java/lang/Object -/
set_option maxRecDepth 100000
def RJ0 : String := "java/lang/Object"
abbrev cJ0_init : ByteArray := object_method_1_code
def yJ0_init : MethodName := ⟨RJ0, "<init>", "()V"⟩
theorem q36 : (Jvm.Cond.instanceMethod ({ cls := "java/lang/Object", name := "<init>", desc := "()V" } : Jvm.MethodName)) ∈ lw_all := lw_g (lw_at lw_m1 9 rfl) rfl
theorem q37 : (Jvm.Cond.code ({ cls := "java/lang/Object", name := "<init>", desc := "()V" } : Jvm.MethodName) object_method_1_code (1 : Nat) (Option.none : Option Jvm.ClassFile.FieldType)) ∈ lw_all := lw_g (lw_at lw_m1 10 rfl) rfl

/-! the law's own entry -/
set_option maxRecDepth 100000
abbrev cL_law : ByteArray := code

theorem q27 : (Jvm.Cond.initialized "ActionPlannerLaw") ∈ lw_all := lw_g (lw_at lw_m1 0 rfl) rfl
set_option maxRecDepth 100000
theorem q30 : (Jvm.Cond.classLink "ActionPlannerLaw" (7 : Nat) "ActionPlanner") ∈ lw_all := lw_g (lw_at lw_m1 3 rfl) rfl
theorem q32 : (Jvm.Cond.methodLink "ActionPlannerLaw" (9 : Nat) ({ cls := "ActionPlanner", name := "<init>", desc := "()V" } : Jvm.MethodName)) ∈ lw_all := lw_g (lw_at lw_m1 5 rfl) rfl
theorem q113 : (Jvm.Cond.methodLink "ActionPlannerLaw" (13 : Nat) ({ cls := "ActionPlanner", name := "require", desc := "(III)I" } : Jvm.MethodName)) ∈ lw_all := lw_g (lw_at lw_m1 86 rfl) rfl
theorem q117 : (Jvm.Cond.methodLink "ActionPlannerLaw" (18 : Nat) ({ cls := "ActionPlanner", name := "effect", desc := "(IIII)I" } : Jvm.MethodName)) ∈ lw_all := lw_g (lw_at lw_m1 90 rfl) rfl
theorem q125 : (Jvm.Cond.methodLink "ActionPlannerLaw" (23 : Nat) ({ cls := "ActionPlanner", name := "forget", desc := "(I)I" } : Jvm.MethodName)) ∈ lw_all := lw_g (lw_at lw_m1 98 rfl) rfl
theorem q129 : (Jvm.Cond.methodLink "ActionPlannerLaw" (28 : Nat) ({ cls := "ActionPlanner", name := "want", desc := "(II)V" } : Jvm.MethodName)) ∈ lw_all := lw_g (lw_at lw_m1 102 rfl) rfl
theorem q133 : (Jvm.Cond.methodLink "ActionPlannerLaw" (33 : Nat) ({ cls := "ActionPlanner", name := "observe", desc := "(I)V" } : Jvm.MethodName)) ∈ lw_all := lw_g (lw_at lw_m1 106 rfl) rfl
theorem q137 : (Jvm.Cond.methodLink "ActionPlannerLaw" (38 : Nat) ({ cls := "ActionPlanner", name := "now", desc := "()I" } : Jvm.MethodName)) ∈ lw_all := lw_g (lw_at lw_m1 110 rfl) rfl
theorem q141 : (Jvm.Cond.methodLink "ActionPlannerLaw" (43 : Nat) ({ cls := "ActionPlanner", name := "price", desc := "()I" } : Jvm.MethodName)) ∈ lw_all := lw_g (lw_at lw_m1 114 rfl) rfl
theorem q218 : (Jvm.Cond.methodLink "ActionPlannerLaw" (47 : Nat) ({ cls := "ActionPlanner", name := "steps", desc := "()I" } : Jvm.MethodName)) ∈ lw_all := lw_g (lw_at lw_m1 191 rfl) rfl
theorem q222 : (Jvm.Cond.methodLink "ActionPlannerLaw" (51 : Nat) ({ cls := "ActionPlanner", name := "planned", desc := "(I)I" } : Jvm.MethodName)) ∈ lw_all := lw_g (lw_at lw_m1 195 rfl) rfl
theorem q226 : (Jvm.Cond.methodLink "ActionPlannerLaw" (55 : Nat) ({ cls := "ActionPlanner", name := "advance", desc := "()I" } : Jvm.MethodName)) ∈ lw_all := lw_g (lw_at lw_m1 199 rfl) rfl
theorem q234 : (Jvm.Cond.methodLink "ActionPlannerLaw" (59 : Nat) ({ cls := "ActionPlanner", name := "act", desc := "(I)I" } : Jvm.MethodName)) ∈ lw_all := lw_g (lw_at lw_m1 207 rfl) rfl
theorem q238 : (Jvm.Cond.methodLink "ActionPlannerLaw" (63 : Nat) ({ cls := "ActionPlanner", name := "reachable", desc := "()I" } : Jvm.MethodName)) ∈ lw_all := lw_g (lw_at lw_m1 211 rfl) rfl
theorem q242 : (Jvm.Cond.classLink "ActionPlannerLaw" (10 : Nat) "ActionPlannerModel") ∈ lw_all := lw_g (lw_at lw_m1 215 rfl) rfl
theorem q244 : (Jvm.Cond.methodLink "ActionPlannerLaw" (12 : Nat) ({ cls := "ActionPlannerModel", name := "<init>", desc := "()V" } : Jvm.MethodName)) ∈ lw_all := lw_g (lw_at lw_m1 217 rfl) rfl
theorem q282 : (Jvm.Cond.methodLink "ActionPlannerLaw" (17 : Nat) ({ cls := "ActionPlannerModel", name := "require", desc := "(III)I" } : Jvm.MethodName)) ∈ lw_all := lw_g (lw_at lw_m2 15 rfl) rfl
theorem q289 : (Jvm.Cond.methodLink "ActionPlannerLaw" (22 : Nat) ({ cls := "ActionPlannerModel", name := "effect", desc := "(IIII)I" } : Jvm.MethodName)) ∈ lw_all := lw_g (lw_at lw_m2 22 rfl) rfl
theorem q293 : (Jvm.Cond.methodLink "ActionPlannerLaw" (27 : Nat) ({ cls := "ActionPlannerModel", name := "forget", desc := "(I)I" } : Jvm.MethodName)) ∈ lw_all := lw_g (lw_at lw_m2 26 rfl) rfl
theorem q297 : (Jvm.Cond.methodLink "ActionPlannerLaw" (32 : Nat) ({ cls := "ActionPlannerModel", name := "want", desc := "(II)V" } : Jvm.MethodName)) ∈ lw_all := lw_g (lw_at lw_m2 30 rfl) rfl
theorem q301 : (Jvm.Cond.methodLink "ActionPlannerLaw" (37 : Nat) ({ cls := "ActionPlannerModel", name := "observe", desc := "(I)V" } : Jvm.MethodName)) ∈ lw_all := lw_g (lw_at lw_m2 34 rfl) rfl
theorem q305 : (Jvm.Cond.methodLink "ActionPlannerLaw" (42 : Nat) ({ cls := "ActionPlannerModel", name := "now", desc := "()I" } : Jvm.MethodName)) ∈ lw_all := lw_g (lw_at lw_m2 38 rfl) rfl
theorem q309 : (Jvm.Cond.methodLink "ActionPlannerLaw" (46 : Nat) ({ cls := "ActionPlannerModel", name := "price", desc := "()I" } : Jvm.MethodName)) ∈ lw_all := lw_g (lw_at lw_m2 42 rfl) rfl
theorem q334 : (Jvm.Cond.methodLink "ActionPlannerLaw" (50 : Nat) ({ cls := "ActionPlannerModel", name := "steps", desc := "()I" } : Jvm.MethodName)) ∈ lw_all := lw_g (lw_at lw_m2 67 rfl) rfl
theorem q342 : (Jvm.Cond.methodLink "ActionPlannerLaw" (54 : Nat) ({ cls := "ActionPlannerModel", name := "planned", desc := "(I)I" } : Jvm.MethodName)) ∈ lw_all := lw_g (lw_at lw_m2 75 rfl) rfl
theorem q346 : (Jvm.Cond.methodLink "ActionPlannerLaw" (58 : Nat) ({ cls := "ActionPlannerModel", name := "advance", desc := "()I" } : Jvm.MethodName)) ∈ lw_all := lw_g (lw_at lw_m2 79 rfl) rfl
theorem q350 : (Jvm.Cond.methodLink "ActionPlannerLaw" (62 : Nat) ({ cls := "ActionPlannerModel", name := "act", desc := "(I)I" } : Jvm.MethodName)) ∈ lw_all := lw_g (lw_at lw_m2 83 rfl) rfl
theorem q354 : (Jvm.Cond.methodLink "ActionPlannerLaw" (66 : Nat) ({ cls := "ActionPlannerModel", name := "reachable", desc := "()I" } : Jvm.MethodName)) ∈ lw_all := lw_g (lw_at lw_m2 87 rfl) rfl

theorem q111 : (Jvm.Cond.arrayClass Jvm.ClassFile.FieldType.boolean) ∈ lw_all := lw_g (lw_at lw_m1 84 rfl) rfl
set_option maxRecDepth 100000
theorem q112 : (Jvm.Cond.arrayClass Jvm.ClassFile.FieldType.int) ∈ lw_all := lw_g (lw_at lw_m1 85 rfl) rfl
end
section
set_option maxRecDepth 100000
theorem dX0_init_0 : decode cX0_init 0 = .ok (.aload_n 0, 1) := by decide +kernel
theorem dX0_init_1 : decode cX0_init 1 = .ok (.invokespecial 1, 3) := by decide +kernel
theorem dX0_init_4 : decode cX0_init 4 = .ok (.aload_n 0, 1) := by decide +kernel
theorem dX0_init_5 : decode cX0_init 5 = .ok (.bipush 10, 2) := by decide +kernel
theorem dX0_init_7 : decode cX0_init 7 = .ok (.newarray .boolean, 2) := by decide +kernel
theorem dX0_init_9 : decode cX0_init 9 = .ok (.putfield 7, 3) := by decide +kernel
theorem dX0_init_12 : decode cX0_init 12 = .ok (.aload_n 0, 1) := by decide +kernel
theorem dX0_init_13 : decode cX0_init 13 = .ok (.bipush 10, 2) := by decide +kernel
theorem dX0_init_15 : decode cX0_init 15 = .ok (.newarray .int, 2) := by decide +kernel
theorem dX0_init_17 : decode cX0_init 17 = .ok (.putfield 13, 3) := by decide +kernel
theorem dX0_init_20 : decode cX0_init 20 = .ok (.aload_n 0, 1) := by decide +kernel
theorem dX0_init_21 : decode cX0_init 21 = .ok (.bipush 10, 2) := by decide +kernel
theorem dX0_init_23 : decode cX0_init 23 = .ok (.newarray .int, 2) := by decide +kernel
theorem dX0_init_25 : decode cX0_init 25 = .ok (.putfield 17, 3) := by decide +kernel
theorem dX0_init_28 : decode cX0_init 28 = .ok (.aload_n 0, 1) := by decide +kernel
theorem dX0_init_29 : decode cX0_init 29 = .ok (.bipush 10, 2) := by decide +kernel
theorem dX0_init_31 : decode cX0_init 31 = .ok (.newarray .int, 2) := by decide +kernel
theorem dX0_init_33 : decode cX0_init 33 = .ok (.putfield 20, 3) := by decide +kernel
theorem dX0_init_36 : decode cX0_init 36 = .ok (.aload_n 0, 1) := by decide +kernel
theorem dX0_init_37 : decode cX0_init 37 = .ok (.bipush 10, 2) := by decide +kernel
theorem dX0_init_39 : decode cX0_init 39 = .ok (.newarray .int, 2) := by decide +kernel
theorem dX0_init_41 : decode cX0_init 41 = .ok (.putfield 23, 3) := by decide +kernel
theorem dX0_init_44 : decode cX0_init 44 = .ok (.aload_n 0, 1) := by decide +kernel
theorem dX0_init_45 : decode cX0_init 45 = .ok (.bipush 10, 2) := by decide +kernel
theorem dX0_init_47 : decode cX0_init 47 = .ok (.newarray .int, 2) := by decide +kernel
theorem dX0_init_49 : decode cX0_init 49 = .ok (.putfield 26, 3) := by decide +kernel
theorem dX0_init_52 : decode cX0_init 52 = .ok (.aload_n 0, 1) := by decide +kernel
theorem dX0_init_53 : decode cX0_init 53 = .ok (.sipush 256, 3) := by decide +kernel
theorem dX0_init_56 : decode cX0_init 56 = .ok (.newarray .int, 2) := by decide +kernel
theorem dX0_init_58 : decode cX0_init 58 = .ok (.putfield 29, 3) := by decide +kernel
theorem dX0_init_61 : decode cX0_init 61 = .ok (.aload_n 0, 1) := by decide +kernel
theorem dX0_init_62 : decode cX0_init 62 = .ok (.sipush 256, 3) := by decide +kernel
theorem dX0_init_65 : decode cX0_init 65 = .ok (.newarray .int, 2) := by decide +kernel
theorem dX0_init_67 : decode cX0_init 67 = .ok (.putfield 32, 3) := by decide +kernel
theorem dX0_init_70 : decode cX0_init 70 = .ok (.aload_n 0, 1) := by decide +kernel
theorem dX0_init_71 : decode cX0_init 71 = .ok (.sipush 256, 3) := by decide +kernel
theorem dX0_init_74 : decode cX0_init 74 = .ok (.newarray .int, 2) := by decide +kernel
theorem dX0_init_76 : decode cX0_init 76 = .ok (.putfield 35, 3) := by decide +kernel
theorem dX0_init_79 : decode cX0_init 79 = .ok (.aload_n 0, 1) := by decide +kernel
theorem dX0_init_80 : decode cX0_init 80 = .ok (.sipush 256, 3) := by decide +kernel
theorem dX0_init_83 : decode cX0_init 83 = .ok (.newarray .int, 2) := by decide +kernel
theorem dX0_init_85 : decode cX0_init 85 = .ok (.putfield 38, 3) := by decide +kernel
theorem dX0_init_88 : decode cX0_init 88 = .ok (.aload_n 0, 1) := by decide +kernel
theorem dX0_init_89 : decode cX0_init 89 = .ok (.sipush 256, 3) := by decide +kernel
theorem dX0_init_92 : decode cX0_init 92 = .ok (.newarray .int, 2) := by decide +kernel
theorem dX0_init_94 : decode cX0_init 94 = .ok (.putfield 41, 3) := by decide +kernel
theorem dX0_init_97 : decode cX0_init 97 = .ok (.aload_n 0, 1) := by decide +kernel
theorem dX0_init_98 : decode cX0_init 98 = .ok (.sipush 256, 3) := by decide +kernel
theorem dX0_init_101 : decode cX0_init 101 = .ok (.newarray .boolean, 2) := by decide +kernel
theorem dX0_init_103 : decode cX0_init 103 = .ok (.putfield 44, 3) := by decide +kernel
theorem dX0_init_106 : decode cX0_init 106 = .ok (.aload_n 0, 1) := by decide +kernel
theorem dX0_init_107 : decode cX0_init 107 = .ok (.bipush 8, 2) := by decide +kernel
theorem dX0_init_109 : decode cX0_init 109 = .ok (.newarray .int, 2) := by decide +kernel
theorem dX0_init_111 : decode cX0_init 111 = .ok (.putfield 47, 3) := by decide +kernel
theorem dX0_init_114 : decode cX0_init 114 = .ok (.aload_n 0, 1) := by decide +kernel
theorem dX0_init_115 : decode cX0_init 115 = .ok (.bipush 8, 2) := by decide +kernel
theorem dX0_init_117 : decode cX0_init 117 = .ok (.newarray .int, 2) := by decide +kernel
theorem dX0_init_119 : decode cX0_init 119 = .ok (.putfield 50, 3) := by decide +kernel
theorem dX0_init_122 : decode cX0_init 122 = .ok (.return_, 1) := by decide +kernel
theorem dX0_require_0 : decode cX0_require 0 = .ok (.iload_n 1, 1) := by decide +kernel
theorem dX0_require_1 : decode cX0_require 1 = .ok (.ifCond .lt 9, 3) := by decide +kernel
theorem dX0_require_4 : decode cX0_require 4 = .ok (.iload_n 1, 1) := by decide +kernel
theorem dX0_require_5 : decode cX0_require 5 = .ok (.bipush 9, 2) := by decide +kernel
theorem dX0_require_7 : decode cX0_require 7 = .ok (.if_icmp .le 5, 3) := by decide +kernel
theorem dX0_require_10 : decode cX0_require 10 = .ok (.iconst (-1), 1) := by decide +kernel
theorem dX0_require_11 : decode cX0_require 11 = .ok (.ireturn, 1) := by decide +kernel
theorem dX0_require_12 : decode cX0_require 12 = .ok (.aload_n 0, 1) := by decide +kernel
theorem dX0_require_13 : decode cX0_require 13 = .ok (.getfield 7, 3) := by decide +kernel
theorem dX0_require_16 : decode cX0_require 16 = .ok (.iload_n 1, 1) := by decide +kernel
theorem dX0_require_17 : decode cX0_require 17 = .ok (.baload, 1) := by decide +kernel
theorem dX0_require_18 : decode cX0_require 18 = .ok (.ifCond .ne 31, 3) := by decide +kernel
theorem dX0_require_21 : decode cX0_require 21 = .ok (.aload_n 0, 1) := by decide +kernel
theorem dX0_require_22 : decode cX0_require 22 = .ok (.getfield 7, 3) := by decide +kernel
theorem dX0_require_25 : decode cX0_require 25 = .ok (.iload_n 1, 1) := by decide +kernel
theorem dX0_require_26 : decode cX0_require 26 = .ok (.iconst 1, 1) := by decide +kernel
theorem dX0_require_27 : decode cX0_require 27 = .ok (.bastore, 1) := by decide +kernel
theorem dX0_require_28 : decode cX0_require 28 = .ok (.aload_n 0, 1) := by decide +kernel
theorem dX0_require_29 : decode cX0_require 29 = .ok (.getfield 20, 3) := by decide +kernel
theorem dX0_require_32 : decode cX0_require 32 = .ok (.iload_n 1, 1) := by decide +kernel
theorem dX0_require_33 : decode cX0_require 33 = .ok (.iconst 0, 1) := by decide +kernel
theorem dX0_require_34 : decode cX0_require 34 = .ok (.iastore, 1) := by decide +kernel
theorem dX0_require_35 : decode cX0_require 35 = .ok (.aload_n 0, 1) := by decide +kernel
theorem dX0_require_36 : decode cX0_require 36 = .ok (.getfield 23, 3) := by decide +kernel
theorem dX0_require_39 : decode cX0_require 39 = .ok (.iload_n 1, 1) := by decide +kernel
theorem dX0_require_40 : decode cX0_require 40 = .ok (.iconst 0, 1) := by decide +kernel
theorem dX0_require_41 : decode cX0_require 41 = .ok (.iastore, 1) := by decide +kernel
theorem dX0_require_42 : decode cX0_require 42 = .ok (.aload_n 0, 1) := by decide +kernel
theorem dX0_require_43 : decode cX0_require 43 = .ok (.getfield 26, 3) := by decide +kernel
theorem dX0_require_46 : decode cX0_require 46 = .ok (.iload_n 1, 1) := by decide +kernel
theorem dX0_require_47 : decode cX0_require 47 = .ok (.iconst 1, 1) := by decide +kernel
theorem dX0_require_48 : decode cX0_require 48 = .ok (.iastore, 1) := by decide +kernel
theorem dX0_require_49 : decode cX0_require 49 = .ok (.aload_n 0, 1) := by decide +kernel
theorem dX0_require_50 : decode cX0_require 50 = .ok (.getfield 13, 3) := by decide +kernel
theorem dX0_require_53 : decode cX0_require 53 = .ok (.iload_n 1, 1) := by decide +kernel
theorem dX0_require_54 : decode cX0_require 54 = .ok (.iload_n 2, 1) := by decide +kernel
theorem dX0_require_55 : decode cX0_require 55 = .ok (.sipush 255, 3) := by decide +kernel
theorem dX0_require_58 : decode cX0_require 58 = .ok (.iand, 1) := by decide +kernel
theorem dX0_require_59 : decode cX0_require 59 = .ok (.iastore, 1) := by decide +kernel
theorem dX0_require_60 : decode cX0_require 60 = .ok (.aload_n 0, 1) := by decide +kernel
theorem dX0_require_61 : decode cX0_require 61 = .ok (.getfield 17, 3) := by decide +kernel
theorem dX0_require_64 : decode cX0_require 64 = .ok (.iload_n 1, 1) := by decide +kernel
theorem dX0_require_65 : decode cX0_require 65 = .ok (.iload_n 3, 1) := by decide +kernel
theorem dX0_require_66 : decode cX0_require 66 = .ok (.sipush 255, 3) := by decide +kernel
theorem dX0_require_69 : decode cX0_require 69 = .ok (.iand, 1) := by decide +kernel
theorem dX0_require_70 : decode cX0_require 70 = .ok (.iastore, 1) := by decide +kernel
theorem dX0_require_71 : decode cX0_require 71 = .ok (.aload_n 0, 1) := by decide +kernel
theorem dX0_require_72 : decode cX0_require 72 = .ok (.iconst 0, 1) := by decide +kernel
theorem dX0_require_73 : decode cX0_require 73 = .ok (.putfield 53, 3) := by decide +kernel
theorem dX0_require_76 : decode cX0_require 76 = .ok (.iconst 0, 1) := by decide +kernel
theorem dX0_require_77 : decode cX0_require 77 = .ok (.ireturn, 1) := by decide +kernel
theorem dX0_effect_0 : decode cX0_effect 0 = .ok (.aload_n 0, 1) := by decide +kernel
theorem dX0_effect_1 : decode cX0_effect 1 = .ok (.iload_n 1, 1) := by decide +kernel
theorem dX0_effect_2 : decode cX0_effect 2 = .ok (.invokevirtual 57, 3) := by decide +kernel
theorem dX0_effect_5 : decode cX0_effect 5 = .ok (.ifCond .ne 5, 3) := by decide +kernel
theorem dX0_effect_8 : decode cX0_effect 8 = .ok (.iconst (-1), 1) := by decide +kernel
theorem dX0_effect_9 : decode cX0_effect 9 = .ok (.ireturn, 1) := by decide +kernel
theorem dX0_effect_10 : decode cX0_effect 10 = .ok (.aload_n 0, 1) := by decide +kernel
theorem dX0_effect_11 : decode cX0_effect 11 = .ok (.getfield 20, 3) := by decide +kernel
theorem dX0_effect_14 : decode cX0_effect 14 = .ok (.iload_n 1, 1) := by decide +kernel
theorem dX0_effect_15 : decode cX0_effect 15 = .ok (.iload_n 2, 1) := by decide +kernel
theorem dX0_effect_16 : decode cX0_effect 16 = .ok (.sipush 255, 3) := by decide +kernel
theorem dX0_effect_19 : decode cX0_effect 19 = .ok (.iand, 1) := by decide +kernel
theorem dX0_effect_20 : decode cX0_effect 20 = .ok (.iastore, 1) := by decide +kernel
theorem dX0_effect_21 : decode cX0_effect 21 = .ok (.aload_n 0, 1) := by decide +kernel
theorem dX0_effect_22 : decode cX0_effect 22 = .ok (.getfield 23, 3) := by decide +kernel
theorem dX0_effect_25 : decode cX0_effect 25 = .ok (.iload_n 1, 1) := by decide +kernel
theorem dX0_effect_26 : decode cX0_effect 26 = .ok (.iload_n 3, 1) := by decide +kernel
theorem dX0_effect_27 : decode cX0_effect 27 = .ok (.sipush 255, 3) := by decide +kernel
theorem dX0_effect_30 : decode cX0_effect 30 = .ok (.iand, 1) := by decide +kernel
theorem dX0_effect_31 : decode cX0_effect 31 = .ok (.iastore, 1) := by decide +kernel
theorem dX0_effect_32 : decode cX0_effect 32 = .ok (.aload_n 0, 1) := by decide +kernel
theorem dX0_effect_33 : decode cX0_effect 33 = .ok (.getfield 26, 3) := by decide +kernel
theorem dX0_effect_36 : decode cX0_effect 36 = .ok (.iload_n 1, 1) := by decide +kernel
theorem dX0_effect_37 : decode cX0_effect 37 = .ok (.iload 4, 2) := by decide +kernel
theorem dX0_effect_39 : decode cX0_effect 39 = .ok (.iconst 1, 1) := by decide +kernel
theorem dX0_effect_40 : decode cX0_effect 40 = .ok (.if_icmp .ge 7, 3) := by decide +kernel
theorem dX0_effect_43 : decode cX0_effect 43 = .ok (.iconst 1, 1) := by decide +kernel
theorem dX0_effect_44 : decode cX0_effect 44 = .ok (.goto 17, 3) := by decide +kernel
theorem dX0_effect_47 : decode cX0_effect 47 = .ok (.iload 4, 2) := by decide +kernel
theorem dX0_effect_49 : decode cX0_effect 49 = .ok (.bipush 50, 2) := by decide +kernel
theorem dX0_effect_51 : decode cX0_effect 51 = .ok (.if_icmp .le 8, 3) := by decide +kernel
theorem dX0_effect_54 : decode cX0_effect 54 = .ok (.bipush 50, 2) := by decide +kernel
theorem dX0_effect_56 : decode cX0_effect 56 = .ok (.goto 5, 3) := by decide +kernel
theorem dX0_effect_59 : decode cX0_effect 59 = .ok (.iload 4, 2) := by decide +kernel
theorem dX0_effect_61 : decode cX0_effect 61 = .ok (.iastore, 1) := by decide +kernel
theorem dX0_effect_62 : decode cX0_effect 62 = .ok (.aload_n 0, 1) := by decide +kernel
theorem dX0_effect_63 : decode cX0_effect 63 = .ok (.iconst 0, 1) := by decide +kernel
theorem dX0_effect_64 : decode cX0_effect 64 = .ok (.putfield 53, 3) := by decide +kernel
theorem dX0_effect_67 : decode cX0_effect 67 = .ok (.iconst 0, 1) := by decide +kernel
theorem dX0_effect_68 : decode cX0_effect 68 = .ok (.ireturn, 1) := by decide +kernel
theorem dX0_isGiven_0 : decode cX0_isGiven 0 = .ok (.iload_n 1, 1) := by decide +kernel
theorem dX0_isGiven_1 : decode cX0_isGiven 1 = .ok (.ifCond .lt 22, 3) := by decide +kernel
theorem dX0_isGiven_4 : decode cX0_isGiven 4 = .ok (.iload_n 1, 1) := by decide +kernel
theorem dX0_isGiven_5 : decode cX0_isGiven 5 = .ok (.bipush 9, 2) := by decide +kernel
theorem dX0_isGiven_7 : decode cX0_isGiven 7 = .ok (.if_icmp .gt 16, 3) := by decide +kernel
theorem dX0_isGiven_10 : decode cX0_isGiven 10 = .ok (.aload_n 0, 1) := by decide +kernel
theorem dX0_isGiven_11 : decode cX0_isGiven 11 = .ok (.getfield 7, 3) := by decide +kernel
theorem dX0_isGiven_14 : decode cX0_isGiven 14 = .ok (.iload_n 1, 1) := by decide +kernel
theorem dX0_isGiven_15 : decode cX0_isGiven 15 = .ok (.baload, 1) := by decide +kernel
theorem dX0_isGiven_16 : decode cX0_isGiven 16 = .ok (.ifCond .eq 7, 3) := by decide +kernel
theorem dX0_isGiven_19 : decode cX0_isGiven 19 = .ok (.iconst 1, 1) := by decide +kernel
theorem dX0_isGiven_20 : decode cX0_isGiven 20 = .ok (.goto 4, 3) := by decide +kernel
theorem dX0_isGiven_23 : decode cX0_isGiven 23 = .ok (.iconst 0, 1) := by decide +kernel
theorem dX0_isGiven_24 : decode cX0_isGiven 24 = .ok (.ireturn, 1) := by decide +kernel
theorem dX0_forget_0 : decode cX0_forget 0 = .ok (.aload_n 0, 1) := by decide +kernel
theorem dX0_forget_1 : decode cX0_forget 1 = .ok (.iload_n 1, 1) := by decide +kernel
theorem dX0_forget_2 : decode cX0_forget 2 = .ok (.invokevirtual 57, 3) := by decide +kernel
theorem dX0_forget_5 : decode cX0_forget 5 = .ok (.ifCond .ne 5, 3) := by decide +kernel
theorem dX0_forget_8 : decode cX0_forget 8 = .ok (.iconst (-1), 1) := by decide +kernel
theorem dX0_forget_9 : decode cX0_forget 9 = .ok (.ireturn, 1) := by decide +kernel
theorem dX0_forget_10 : decode cX0_forget 10 = .ok (.aload_n 0, 1) := by decide +kernel
theorem dX0_forget_11 : decode cX0_forget 11 = .ok (.getfield 7, 3) := by decide +kernel
theorem dX0_forget_14 : decode cX0_forget 14 = .ok (.iload_n 1, 1) := by decide +kernel
theorem dX0_forget_15 : decode cX0_forget 15 = .ok (.iconst 0, 1) := by decide +kernel
theorem dX0_forget_16 : decode cX0_forget 16 = .ok (.bastore, 1) := by decide +kernel
theorem dX0_forget_17 : decode cX0_forget 17 = .ok (.aload_n 0, 1) := by decide +kernel
theorem dX0_forget_18 : decode cX0_forget 18 = .ok (.iconst 0, 1) := by decide +kernel
theorem dX0_forget_19 : decode cX0_forget 19 = .ok (.putfield 53, 3) := by decide +kernel
theorem dX0_forget_22 : decode cX0_forget 22 = .ok (.iconst 0, 1) := by decide +kernel
theorem dX0_forget_23 : decode cX0_forget 23 = .ok (.ireturn, 1) := by decide +kernel
theorem dX0_want_0 : decode cX0_want 0 = .ok (.aload_n 0, 1) := by decide +kernel
theorem dX0_want_1 : decode cX0_want 1 = .ok (.iload_n 1, 1) := by decide +kernel
theorem dX0_want_2 : decode cX0_want 2 = .ok (.sipush 255, 3) := by decide +kernel
theorem dX0_want_5 : decode cX0_want 5 = .ok (.iand, 1) := by decide +kernel
theorem dX0_want_6 : decode cX0_want 6 = .ok (.putfield 61, 3) := by decide +kernel
theorem dX0_want_9 : decode cX0_want 9 = .ok (.aload_n 0, 1) := by decide +kernel
theorem dX0_want_10 : decode cX0_want 10 = .ok (.iload_n 2, 1) := by decide +kernel
theorem dX0_want_11 : decode cX0_want 11 = .ok (.sipush 255, 3) := by decide +kernel
theorem dX0_want_14 : decode cX0_want 14 = .ok (.iand, 1) := by decide +kernel
theorem dX0_want_15 : decode cX0_want 15 = .ok (.putfield 65, 3) := by decide +kernel
theorem dX0_want_18 : decode cX0_want 18 = .ok (.aload_n 0, 1) := by decide +kernel
theorem dX0_want_19 : decode cX0_want 19 = .ok (.iconst 0, 1) := by decide +kernel
theorem dX0_want_20 : decode cX0_want 20 = .ok (.putfield 53, 3) := by decide +kernel
theorem dX0_want_23 : decode cX0_want 23 = .ok (.return_, 1) := by decide +kernel
theorem dX0_observe_0 : decode cX0_observe 0 = .ok (.iload_n 1, 1) := by decide +kernel
theorem dX0_observe_1 : decode cX0_observe 1 = .ok (.sipush 255, 3) := by decide +kernel
theorem dX0_observe_4 : decode cX0_observe 4 = .ok (.iand, 1) := by decide +kernel
theorem dX0_observe_5 : decode cX0_observe 5 = .ok (.istore_n 2, 1) := by decide +kernel
theorem dX0_observe_6 : decode cX0_observe 6 = .ok (.iload_n 2, 1) := by decide +kernel
theorem dX0_observe_7 : decode cX0_observe 7 = .ok (.aload_n 0, 1) := by decide +kernel
theorem dX0_observe_8 : decode cX0_observe 8 = .ok (.getfield 68, 3) := by decide +kernel
theorem dX0_observe_11 : decode cX0_observe 11 = .ok (.if_icmp .eq 8, 3) := by decide +kernel
theorem dX0_observe_14 : decode cX0_observe 14 = .ok (.aload_n 0, 1) := by decide +kernel
theorem dX0_observe_15 : decode cX0_observe 15 = .ok (.iconst 0, 1) := by decide +kernel
theorem dX0_observe_16 : decode cX0_observe 16 = .ok (.putfield 53, 3) := by decide +kernel
theorem dX0_observe_19 : decode cX0_observe 19 = .ok (.aload_n 0, 1) := by decide +kernel
theorem dX0_observe_20 : decode cX0_observe 20 = .ok (.iload_n 2, 1) := by decide +kernel
theorem dX0_observe_21 : decode cX0_observe 21 = .ok (.putfield 68, 3) := by decide +kernel
theorem dX0_observe_24 : decode cX0_observe 24 = .ok (.return_, 1) := by decide +kernel
theorem dX0_now_0 : decode cX0_now 0 = .ok (.aload_n 0, 1) := by decide +kernel
theorem dX0_now_1 : decode cX0_now 1 = .ok (.getfield 68, 3) := by decide +kernel
theorem dX0_now_4 : decode cX0_now 4 = .ok (.ireturn, 1) := by decide +kernel
theorem dX0_price_0 : decode cX0_price 0 = .ok (.aload_n 0, 1) := by decide +kernel
theorem dX0_price_1 : decode cX0_price 1 = .ok (.invokevirtual 71, 3) := by decide +kernel
theorem dX0_price_4 : decode cX0_price 4 = .ok (.aload_n 0, 1) := by decide +kernel
theorem dX0_price_5 : decode cX0_price 5 = .ok (.getfield 74, 3) := by decide +kernel
theorem dX0_price_8 : decode cX0_price 8 = .ok (.ifCond .eq 10, 3) := by decide +kernel
theorem dX0_price_11 : decode cX0_price 11 = .ok (.aload_n 0, 1) := by decide +kernel
theorem dX0_price_12 : decode cX0_price 12 = .ok (.getfield 77, 3) := by decide +kernel
theorem dX0_price_15 : decode cX0_price 15 = .ok (.goto 4, 3) := by decide +kernel
theorem dX0_price_18 : decode cX0_price 18 = .ok (.iconst (-1), 1) := by decide +kernel
theorem dX0_price_19 : decode cX0_price 19 = .ok (.ireturn, 1) := by decide +kernel
theorem dX0_makePlan_0 : decode cX0_makePlan 0 = .ok (.aload_n 0, 1) := by decide +kernel
theorem dX0_makePlan_1 : decode cX0_makePlan 1 = .ok (.getfield 53, 3) := by decide +kernel
theorem dX0_makePlan_4 : decode cX0_makePlan 4 = .ok (.ifCond .eq 4, 3) := by decide +kernel
theorem dX0_makePlan_7 : decode cX0_makePlan 7 = .ok (.return_, 1) := by decide +kernel
theorem dX0_makePlan_8 : decode cX0_makePlan 8 = .ok (.aload_n 0, 1) := by decide +kernel
theorem dX0_makePlan_9 : decode cX0_makePlan 9 = .ok (.iconst 1, 1) := by decide +kernel
theorem dX0_makePlan_10 : decode cX0_makePlan 10 = .ok (.putfield 53, 3) := by decide +kernel
theorem dX0_makePlan_13 : decode cX0_makePlan 13 = .ok (.aload_n 0, 1) := by decide +kernel
theorem dX0_makePlan_14 : decode cX0_makePlan 14 = .ok (.iconst 0, 1) := by decide +kernel
theorem dX0_makePlan_15 : decode cX0_makePlan 15 = .ok (.putfield 83, 3) := by decide +kernel
theorem dX0_makePlan_18 : decode cX0_makePlan 18 = .ok (.aload_n 0, 1) := by decide +kernel
theorem dX0_makePlan_19 : decode cX0_makePlan 19 = .ok (.iconst 0, 1) := by decide +kernel
theorem dX0_makePlan_20 : decode cX0_makePlan 20 = .ok (.putfield 80, 3) := by decide +kernel
theorem dX0_makePlan_23 : decode cX0_makePlan 23 = .ok (.aload_n 0, 1) := by decide +kernel
theorem dX0_makePlan_24 : decode cX0_makePlan 24 = .ok (.iconst 0, 1) := by decide +kernel
theorem dX0_makePlan_25 : decode cX0_makePlan 25 = .ok (.putfield 74, 3) := by decide +kernel
theorem dX0_makePlan_28 : decode cX0_makePlan 28 = .ok (.aload_n 0, 1) := by decide +kernel
theorem dX0_makePlan_29 : decode cX0_makePlan 29 = .ok (.iconst 0, 1) := by decide +kernel
theorem dX0_makePlan_30 : decode cX0_makePlan 30 = .ok (.putfield 77, 3) := by decide +kernel
theorem dX0_makePlan_33 : decode cX0_makePlan 33 = .ok (.aload_n 0, 1) := by decide +kernel
theorem dX0_makePlan_34 : decode cX0_makePlan 34 = .ok (.getfield 61, 3) := by decide +kernel
theorem dX0_makePlan_37 : decode cX0_makePlan 37 = .ok (.aload_n 0, 1) := by decide +kernel
theorem dX0_makePlan_38 : decode cX0_makePlan 38 = .ok (.getfield 65, 3) := by decide +kernel
theorem dX0_makePlan_41 : decode cX0_makePlan 41 = .ok (.iand, 1) := by decide +kernel
theorem dX0_makePlan_42 : decode cX0_makePlan 42 = .ok (.ifCond .eq 4, 3) := by decide +kernel
theorem dX0_makePlan_45 : decode cX0_makePlan 45 = .ok (.return_, 1) := by decide +kernel
theorem dX0_makePlan_46 : decode cX0_makePlan 46 = .ok (.aload_n 0, 1) := by decide +kernel
theorem dX0_makePlan_47 : decode cX0_makePlan 47 = .ok (.invokevirtual 97, 3) := by decide +kernel
theorem dX0_makePlan_50 : decode cX0_makePlan 50 = .ok (.aload_n 0, 1) := by decide +kernel
theorem dX0_makePlan_51 : decode cX0_makePlan 51 = .ok (.invokevirtual 100, 3) := by decide +kernel
theorem dX0_makePlan_54 : decode cX0_makePlan 54 = .ok (.istore_n 1, 1) := by decide +kernel
theorem dX0_makePlan_55 : decode cX0_makePlan 55 = .ok (.iload_n 1, 1) := by decide +kernel
theorem dX0_makePlan_56 : decode cX0_makePlan 56 = .ok (.ldc 104, 2) := by decide +kernel
theorem dX0_makePlan_58 : decode cX0_makePlan 58 = .ok (.if_icmp .lt 4, 3) := by decide +kernel
theorem dX0_makePlan_61 : decode cX0_makePlan 61 = .ok (.return_, 1) := by decide +kernel
theorem dX0_makePlan_62 : decode cX0_makePlan 62 = .ok (.aload_n 0, 1) := by decide +kernel
theorem dX0_makePlan_63 : decode cX0_makePlan 63 = .ok (.iconst 1, 1) := by decide +kernel
theorem dX0_makePlan_64 : decode cX0_makePlan 64 = .ok (.putfield 74, 3) := by decide +kernel
theorem dX0_makePlan_67 : decode cX0_makePlan 67 = .ok (.aload_n 0, 1) := by decide +kernel
theorem dX0_makePlan_68 : decode cX0_makePlan 68 = .ok (.iload_n 1, 1) := by decide +kernel
theorem dX0_makePlan_69 : decode cX0_makePlan 69 = .ok (.putfield 77, 3) := by decide +kernel
theorem dX0_makePlan_72 : decode cX0_makePlan 72 = .ok (.aload_n 0, 1) := by decide +kernel
theorem dX0_makePlan_73 : decode cX0_makePlan 73 = .ok (.iload_n 1, 1) := by decide +kernel
theorem dX0_makePlan_74 : decode cX0_makePlan 74 = .ok (.invokevirtual 105, 3) := by decide +kernel
theorem dX0_makePlan_77 : decode cX0_makePlan 77 = .ok (.aload_n 0, 1) := by decide +kernel
theorem dX0_makePlan_78 : decode cX0_makePlan 78 = .ok (.iload_n 1, 1) := by decide +kernel
theorem dX0_makePlan_79 : decode cX0_makePlan 79 = .ok (.invokevirtual 109, 3) := by decide +kernel
theorem dX0_makePlan_82 : decode cX0_makePlan 82 = .ok (.return_, 1) := by decide +kernel
theorem dX0_findCheapest_0 : decode cX0_findCheapest 0 = .ok (.iconst 0, 1) := by decide +kernel
theorem dX0_findCheapest_1 : decode cX0_findCheapest 1 = .ok (.istore_n 1, 1) := by decide +kernel
theorem dX0_findCheapest_2 : decode cX0_findCheapest 2 = .ok (.iload_n 1, 1) := by decide +kernel
theorem dX0_findCheapest_3 : decode cX0_findCheapest 3 = .ok (.bipush 8, 2) := by decide +kernel
theorem dX0_findCheapest_5 : decode cX0_findCheapest 5 = .ok (.if_icmp .ge 168, 3) := by decide +kernel
theorem dX0_findCheapest_8 : decode cX0_findCheapest 8 = .ok (.aload_n 0, 1) := by decide +kernel
theorem dX0_findCheapest_9 : decode cX0_findCheapest 9 = .ok (.getfield 47, 3) := by decide +kernel
theorem dX0_findCheapest_12 : decode cX0_findCheapest 12 = .ok (.iload_n 1, 1) := by decide +kernel
theorem dX0_findCheapest_13 : decode cX0_findCheapest 13 = .ok (.ldc 104, 2) := by decide +kernel
theorem dX0_findCheapest_15 : decode cX0_findCheapest 15 = .ok (.iastore, 1) := by decide +kernel
theorem dX0_findCheapest_16 : decode cX0_findCheapest 16 = .ok (.aload_n 0, 1) := by decide +kernel
theorem dX0_findCheapest_17 : decode cX0_findCheapest 17 = .ok (.getfield 50, 3) := by decide +kernel
theorem dX0_findCheapest_20 : decode cX0_findCheapest 20 = .ok (.iload_n 1, 1) := by decide +kernel
theorem dX0_findCheapest_21 : decode cX0_findCheapest 21 = .ok (.ldc 104, 2) := by decide +kernel
theorem dX0_findCheapest_23 : decode cX0_findCheapest 23 = .ok (.iastore, 1) := by decide +kernel
theorem dX0_findCheapest_24 : decode cX0_findCheapest 24 = .ok (.iconst 0, 1) := by decide +kernel
theorem dX0_findCheapest_25 : decode cX0_findCheapest 25 = .ok (.istore_n 2, 1) := by decide +kernel
theorem dX0_findCheapest_26 : decode cX0_findCheapest 26 = .ok (.iload_n 2, 1) := by decide +kernel
theorem dX0_findCheapest_27 : decode cX0_findCheapest 27 = .ok (.bipush 10, 2) := by decide +kernel
theorem dX0_findCheapest_29 : decode cX0_findCheapest 29 = .ok (.if_icmp .ge 138, 3) := by decide +kernel
theorem dX0_findCheapest_32 : decode cX0_findCheapest 32 = .ok (.aload_n 0, 1) := by decide +kernel
theorem dX0_findCheapest_33 : decode cX0_findCheapest 33 = .ok (.getfield 7, 3) := by decide +kernel
theorem dX0_findCheapest_36 : decode cX0_findCheapest 36 = .ok (.iload_n 2, 1) := by decide +kernel
theorem dX0_findCheapest_37 : decode cX0_findCheapest 37 = .ok (.baload, 1) := by decide +kernel
theorem dX0_findCheapest_38 : decode cX0_findCheapest 38 = .ok (.ifCond .eq 20, 3) := by decide +kernel
theorem dX0_findCheapest_41 : decode cX0_findCheapest 41 = .ok (.aload_n 0, 1) := by decide +kernel
theorem dX0_findCheapest_42 : decode cX0_findCheapest 42 = .ok (.getfield 20, 3) := by decide +kernel
theorem dX0_findCheapest_45 : decode cX0_findCheapest 45 = .ok (.iload_n 2, 1) := by decide +kernel
theorem dX0_findCheapest_46 : decode cX0_findCheapest 46 = .ok (.iaload, 1) := by decide +kernel
theorem dX0_findCheapest_47 : decode cX0_findCheapest 47 = .ok (.iload_n 1, 1) := by decide +kernel
theorem dX0_findCheapest_48 : decode cX0_findCheapest 48 = .ok (.iushr, 1) := by decide +kernel
theorem dX0_findCheapest_49 : decode cX0_findCheapest 49 = .ok (.iconst 1, 1) := by decide +kernel
theorem dX0_findCheapest_50 : decode cX0_findCheapest 50 = .ok (.iand, 1) := by decide +kernel
theorem dX0_findCheapest_51 : decode cX0_findCheapest 51 = .ok (.ifCond .eq 7, 3) := by decide +kernel
theorem dX0_findCheapest_54 : decode cX0_findCheapest 54 = .ok (.iconst 1, 1) := by decide +kernel
theorem dX0_findCheapest_55 : decode cX0_findCheapest 55 = .ok (.goto 4, 3) := by decide +kernel
theorem dX0_findCheapest_58 : decode cX0_findCheapest 58 = .ok (.iconst 0, 1) := by decide +kernel
theorem dX0_findCheapest_59 : decode cX0_findCheapest 59 = .ok (.istore_n 3, 1) := by decide +kernel
theorem dX0_findCheapest_60 : decode cX0_findCheapest 60 = .ok (.aload_n 0, 1) := by decide +kernel
theorem dX0_findCheapest_61 : decode cX0_findCheapest 61 = .ok (.getfield 7, 3) := by decide +kernel
theorem dX0_findCheapest_64 : decode cX0_findCheapest 64 = .ok (.iload_n 2, 1) := by decide +kernel
theorem dX0_findCheapest_65 : decode cX0_findCheapest 65 = .ok (.baload, 1) := by decide +kernel
theorem dX0_findCheapest_66 : decode cX0_findCheapest 66 = .ok (.ifCond .eq 29, 3) := by decide +kernel
theorem dX0_findCheapest_69 : decode cX0_findCheapest 69 = .ok (.aload_n 0, 1) := by decide +kernel
theorem dX0_findCheapest_70 : decode cX0_findCheapest 70 = .ok (.getfield 23, 3) := by decide +kernel
theorem dX0_findCheapest_73 : decode cX0_findCheapest 73 = .ok (.iload_n 2, 1) := by decide +kernel
theorem dX0_findCheapest_74 : decode cX0_findCheapest 74 = .ok (.iaload, 1) := by decide +kernel
theorem dX0_findCheapest_75 : decode cX0_findCheapest 75 = .ok (.aload_n 0, 1) := by decide +kernel
theorem dX0_findCheapest_76 : decode cX0_findCheapest 76 = .ok (.getfield 20, 3) := by decide +kernel
theorem dX0_findCheapest_79 : decode cX0_findCheapest 79 = .ok (.iload_n 2, 1) := by decide +kernel
theorem dX0_findCheapest_80 : decode cX0_findCheapest 80 = .ok (.iaload, 1) := by decide +kernel
theorem dX0_findCheapest_81 : decode cX0_findCheapest 81 = .ok (.iconst (-1), 1) := by decide +kernel
theorem dX0_findCheapest_82 : decode cX0_findCheapest 82 = .ok (.ixor, 1) := by decide +kernel
theorem dX0_findCheapest_83 : decode cX0_findCheapest 83 = .ok (.iand, 1) := by decide +kernel
theorem dX0_findCheapest_84 : decode cX0_findCheapest 84 = .ok (.iconst 1, 1) := by decide +kernel
theorem dX0_findCheapest_85 : decode cX0_findCheapest 85 = .ok (.iload_n 1, 1) := by decide +kernel
theorem dX0_findCheapest_86 : decode cX0_findCheapest 86 = .ok (.ishl, 1) := by decide +kernel
theorem dX0_findCheapest_87 : decode cX0_findCheapest 87 = .ok (.iand, 1) := by decide +kernel
theorem dX0_findCheapest_88 : decode cX0_findCheapest 88 = .ok (.ifCond .eq 7, 3) := by decide +kernel
theorem dX0_findCheapest_91 : decode cX0_findCheapest 91 = .ok (.iconst 1, 1) := by decide +kernel
theorem dX0_findCheapest_92 : decode cX0_findCheapest 92 = .ok (.goto 4, 3) := by decide +kernel
theorem dX0_findCheapest_95 : decode cX0_findCheapest 95 = .ok (.iconst 0, 1) := by decide +kernel
theorem dX0_findCheapest_96 : decode cX0_findCheapest 96 = .ok (.istore 4, 2) := by decide +kernel
theorem dX0_findCheapest_98 : decode cX0_findCheapest 98 = .ok (.iload_n 3, 1) := by decide +kernel
theorem dX0_findCheapest_99 : decode cX0_findCheapest 99 = .ok (.ifCond .eq 30, 3) := by decide +kernel
theorem dX0_findCheapest_102 : decode cX0_findCheapest 102 = .ok (.aload_n 0, 1) := by decide +kernel
theorem dX0_findCheapest_103 : decode cX0_findCheapest 103 = .ok (.getfield 26, 3) := by decide +kernel
theorem dX0_findCheapest_106 : decode cX0_findCheapest 106 = .ok (.iload_n 2, 1) := by decide +kernel
theorem dX0_findCheapest_107 : decode cX0_findCheapest 107 = .ok (.iaload, 1) := by decide +kernel
theorem dX0_findCheapest_108 : decode cX0_findCheapest 108 = .ok (.aload_n 0, 1) := by decide +kernel
theorem dX0_findCheapest_109 : decode cX0_findCheapest 109 = .ok (.getfield 47, 3) := by decide +kernel
theorem dX0_findCheapest_112 : decode cX0_findCheapest 112 = .ok (.iload_n 1, 1) := by decide +kernel
theorem dX0_findCheapest_113 : decode cX0_findCheapest 113 = .ok (.iaload, 1) := by decide +kernel
theorem dX0_findCheapest_114 : decode cX0_findCheapest 114 = .ok (.if_icmp .ge 15, 3) := by decide +kernel
theorem dX0_findCheapest_117 : decode cX0_findCheapest 117 = .ok (.aload_n 0, 1) := by decide +kernel
theorem dX0_findCheapest_118 : decode cX0_findCheapest 118 = .ok (.getfield 47, 3) := by decide +kernel
theorem dX0_findCheapest_121 : decode cX0_findCheapest 121 = .ok (.iload_n 1, 1) := by decide +kernel
theorem dX0_findCheapest_122 : decode cX0_findCheapest 122 = .ok (.aload_n 0, 1) := by decide +kernel
theorem dX0_findCheapest_123 : decode cX0_findCheapest 123 = .ok (.getfield 26, 3) := by decide +kernel
theorem dX0_findCheapest_126 : decode cX0_findCheapest 126 = .ok (.iload_n 2, 1) := by decide +kernel
theorem dX0_findCheapest_127 : decode cX0_findCheapest 127 = .ok (.iaload, 1) := by decide +kernel
theorem dX0_findCheapest_128 : decode cX0_findCheapest 128 = .ok (.iastore, 1) := by decide +kernel
theorem dX0_findCheapest_129 : decode cX0_findCheapest 129 = .ok (.iload 4, 2) := by decide +kernel
theorem dX0_findCheapest_131 : decode cX0_findCheapest 131 = .ok (.ifCond .eq 30, 3) := by decide +kernel
theorem dX0_findCheapest_134 : decode cX0_findCheapest 134 = .ok (.aload_n 0, 1) := by decide +kernel
theorem dX0_findCheapest_135 : decode cX0_findCheapest 135 = .ok (.getfield 26, 3) := by decide +kernel
theorem dX0_findCheapest_138 : decode cX0_findCheapest 138 = .ok (.iload_n 2, 1) := by decide +kernel
theorem dX0_findCheapest_139 : decode cX0_findCheapest 139 = .ok (.iaload, 1) := by decide +kernel
theorem dX0_findCheapest_140 : decode cX0_findCheapest 140 = .ok (.aload_n 0, 1) := by decide +kernel
theorem dX0_findCheapest_141 : decode cX0_findCheapest 141 = .ok (.getfield 50, 3) := by decide +kernel
theorem dX0_findCheapest_144 : decode cX0_findCheapest 144 = .ok (.iload_n 1, 1) := by decide +kernel
theorem dX0_findCheapest_145 : decode cX0_findCheapest 145 = .ok (.iaload, 1) := by decide +kernel
theorem dX0_findCheapest_146 : decode cX0_findCheapest 146 = .ok (.if_icmp .ge 15, 3) := by decide +kernel
theorem dX0_findCheapest_149 : decode cX0_findCheapest 149 = .ok (.aload_n 0, 1) := by decide +kernel
theorem dX0_findCheapest_150 : decode cX0_findCheapest 150 = .ok (.getfield 50, 3) := by decide +kernel
theorem dX0_findCheapest_153 : decode cX0_findCheapest 153 = .ok (.iload_n 1, 1) := by decide +kernel
theorem dX0_findCheapest_154 : decode cX0_findCheapest 154 = .ok (.aload_n 0, 1) := by decide +kernel
theorem dX0_findCheapest_155 : decode cX0_findCheapest 155 = .ok (.getfield 26, 3) := by decide +kernel
theorem dX0_findCheapest_158 : decode cX0_findCheapest 158 = .ok (.iload_n 2, 1) := by decide +kernel
theorem dX0_findCheapest_159 : decode cX0_findCheapest 159 = .ok (.iaload, 1) := by decide +kernel
theorem dX0_findCheapest_160 : decode cX0_findCheapest 160 = .ok (.iastore, 1) := by decide +kernel
theorem dX0_findCheapest_161 : decode cX0_findCheapest 161 = .ok (.iinc 2 1, 3) := by decide +kernel
theorem dX0_findCheapest_164 : decode cX0_findCheapest 164 = .ok (.goto (-138), 3) := by decide +kernel
theorem dX0_findCheapest_167 : decode cX0_findCheapest 167 = .ok (.iinc 1 1, 3) := by decide +kernel
theorem dX0_findCheapest_170 : decode cX0_findCheapest 170 = .ok (.goto (-168), 3) := by decide +kernel
theorem dX0_findCheapest_173 : decode cX0_findCheapest 173 = .ok (.return_, 1) := by decide +kernel
theorem dX0_searchForward_0 : decode cX0_searchForward 0 = .ok (.iconst 0, 1) := by decide +kernel
theorem dX0_searchForward_1 : decode cX0_searchForward 1 = .ok (.istore_n 1, 1) := by decide +kernel
theorem dX0_searchForward_2 : decode cX0_searchForward 2 = .ok (.iload_n 1, 1) := by decide +kernel
theorem dX0_searchForward_3 : decode cX0_searchForward 3 = .ok (.sipush 256, 3) := by decide +kernel
theorem dX0_searchForward_6 : decode cX0_searchForward 6 = .ok (.if_icmp .ge 24, 3) := by decide +kernel
theorem dX0_searchForward_9 : decode cX0_searchForward 9 = .ok (.aload_n 0, 1) := by decide +kernel
theorem dX0_searchForward_10 : decode cX0_searchForward 10 = .ok (.getfield 32, 3) := by decide +kernel
theorem dX0_searchForward_13 : decode cX0_searchForward 13 = .ok (.iload_n 1, 1) := by decide +kernel
theorem dX0_searchForward_14 : decode cX0_searchForward 14 = .ok (.ldc 104, 2) := by decide +kernel
theorem dX0_searchForward_16 : decode cX0_searchForward 16 = .ok (.iastore, 1) := by decide +kernel
theorem dX0_searchForward_17 : decode cX0_searchForward 17 = .ok (.aload_n 0, 1) := by decide +kernel
theorem dX0_searchForward_18 : decode cX0_searchForward 18 = .ok (.getfield 35, 3) := by decide +kernel
theorem dX0_searchForward_21 : decode cX0_searchForward 21 = .ok (.iload_n 1, 1) := by decide +kernel
theorem dX0_searchForward_22 : decode cX0_searchForward 22 = .ok (.iconst (-1), 1) := by decide +kernel
theorem dX0_searchForward_23 : decode cX0_searchForward 23 = .ok (.iastore, 1) := by decide +kernel
theorem dX0_searchForward_24 : decode cX0_searchForward 24 = .ok (.iinc 1 1, 3) := by decide +kernel
theorem dX0_searchForward_27 : decode cX0_searchForward 27 = .ok (.goto (-25), 3) := by decide +kernel
theorem dX0_searchForward_30 : decode cX0_searchForward 30 = .ok (.aload_n 0, 1) := by decide +kernel
theorem dX0_searchForward_31 : decode cX0_searchForward 31 = .ok (.iconst 0, 1) := by decide +kernel
theorem dX0_searchForward_32 : decode cX0_searchForward 32 = .ok (.putfield 112, 3) := by decide +kernel
theorem dX0_searchForward_35 : decode cX0_searchForward 35 = .ok (.aload_n 0, 1) := by decide +kernel
theorem dX0_searchForward_36 : decode cX0_searchForward 36 = .ok (.iconst 0, 1) := by decide +kernel
theorem dX0_searchForward_37 : decode cX0_searchForward 37 = .ok (.putfield 115, 3) := by decide +kernel
theorem dX0_searchForward_40 : decode cX0_searchForward 40 = .ok (.ldc 104, 2) := by decide +kernel
theorem dX0_searchForward_42 : decode cX0_searchForward 42 = .ok (.istore_n 1, 1) := by decide +kernel
theorem dX0_searchForward_43 : decode cX0_searchForward 43 = .ok (.aload_n 0, 1) := by decide +kernel
theorem dX0_searchForward_44 : decode cX0_searchForward 44 = .ok (.aload_n 0, 1) := by decide +kernel
theorem dX0_searchForward_45 : decode cX0_searchForward 45 = .ok (.getfield 68, 3) := by decide +kernel
theorem dX0_searchForward_48 : decode cX0_searchForward 48 = .ok (.iconst 0, 1) := by decide +kernel
theorem dX0_searchForward_49 : decode cX0_searchForward 49 = .ok (.invokevirtual 118, 3) := by decide +kernel
theorem dX0_searchForward_52 : decode cX0_searchForward 52 = .ok (.iconst 0, 1) := by decide +kernel
theorem dX0_searchForward_53 : decode cX0_searchForward 53 = .ok (.istore_n 2, 1) := by decide +kernel
theorem dX0_searchForward_54 : decode cX0_searchForward 54 = .ok (.iload_n 2, 1) := by decide +kernel
theorem dX0_searchForward_55 : decode cX0_searchForward 55 = .ok (.sipush 256, 3) := by decide +kernel
theorem dX0_searchForward_58 : decode cX0_searchForward 58 = .ok (.if_icmp .ge 113, 3) := by decide +kernel
theorem dX0_searchForward_61 : decode cX0_searchForward 61 = .ok (.aload_n 0, 1) := by decide +kernel
theorem dX0_searchForward_62 : decode cX0_searchForward 62 = .ok (.getfield 112, 3) := by decide +kernel
theorem dX0_searchForward_65 : decode cX0_searchForward 65 = .ok (.ifCond .le 106, 3) := by decide +kernel
theorem dX0_searchForward_68 : decode cX0_searchForward 68 = .ok (.aload_n 0, 1) := by decide +kernel
theorem dX0_searchForward_69 : decode cX0_searchForward 69 = .ok (.invokevirtual 122, 3) := by decide +kernel
theorem dX0_searchForward_72 : decode cX0_searchForward 72 = .ok (.istore_n 3, 1) := by decide +kernel
theorem dX0_searchForward_73 : decode cX0_searchForward 73 = .ok (.aload_n 0, 1) := by decide +kernel
theorem dX0_searchForward_74 : decode cX0_searchForward 74 = .ok (.getfield 32, 3) := by decide +kernel
theorem dX0_searchForward_77 : decode cX0_searchForward 77 = .ok (.iload_n 3, 1) := by decide +kernel
theorem dX0_searchForward_78 : decode cX0_searchForward 78 = .ok (.iaload, 1) := by decide +kernel
theorem dX0_searchForward_79 : decode cX0_searchForward 79 = .ok (.aload_n 0, 1) := by decide +kernel
theorem dX0_searchForward_80 : decode cX0_searchForward 80 = .ok (.iload_n 3, 1) := by decide +kernel
theorem dX0_searchForward_81 : decode cX0_searchForward 81 = .ok (.invokevirtual 125, 3) := by decide +kernel
theorem dX0_searchForward_84 : decode cX0_searchForward 84 = .ok (.iadd, 1) := by decide +kernel
theorem dX0_searchForward_85 : decode cX0_searchForward 85 = .ok (.istore 4, 2) := by decide +kernel
theorem dX0_searchForward_87 : decode cX0_searchForward 87 = .ok (.iload 4, 2) := by decide +kernel
theorem dX0_searchForward_89 : decode cX0_searchForward 89 = .ok (.iload_n 1, 1) := by decide +kernel
theorem dX0_searchForward_90 : decode cX0_searchForward 90 = .ok (.if_icmp .gt 10, 3) := by decide +kernel
theorem dX0_searchForward_93 : decode cX0_searchForward 93 = .ok (.iload 4, 2) := by decide +kernel
theorem dX0_searchForward_95 : decode cX0_searchForward 95 = .ok (.ldc 104, 2) := by decide +kernel
theorem dX0_searchForward_97 : decode cX0_searchForward 97 = .ok (.if_icmp .lt 11, 3) := by decide +kernel
theorem dX0_searchForward_100 : decode cX0_searchForward 100 = .ok (.aload_n 0, 1) := by decide +kernel
theorem dX0_searchForward_101 : decode cX0_searchForward 101 = .ok (.iconst 0, 1) := by decide +kernel
theorem dX0_searchForward_102 : decode cX0_searchForward 102 = .ok (.putfield 112, 3) := by decide +kernel
theorem dX0_searchForward_105 : decode cX0_searchForward 105 = .ok (.goto 60, 3) := by decide +kernel
theorem dX0_searchForward_108 : decode cX0_searchForward 108 = .ok (.aload_n 0, 1) := by decide +kernel
theorem dX0_searchForward_109 : decode cX0_searchForward 109 = .ok (.getfield 41, 3) := by decide +kernel
theorem dX0_searchForward_112 : decode cX0_searchForward 112 = .ok (.aload_n 0, 1) := by decide +kernel
theorem dX0_searchForward_113 : decode cX0_searchForward 113 = .ok (.getfield 115, 3) := by decide +kernel
theorem dX0_searchForward_116 : decode cX0_searchForward 116 = .ok (.iload_n 3, 1) := by decide +kernel
theorem dX0_searchForward_117 : decode cX0_searchForward 117 = .ok (.iastore, 1) := by decide +kernel
theorem dX0_searchForward_118 : decode cX0_searchForward 118 = .ok (.aload_n 0, 1) := by decide +kernel
theorem dX0_searchForward_119 : decode cX0_searchForward 119 = .ok (.dup, 1) := by decide +kernel
theorem dX0_searchForward_120 : decode cX0_searchForward 120 = .ok (.getfield 115, 3) := by decide +kernel
theorem dX0_searchForward_123 : decode cX0_searchForward 123 = .ok (.iconst 1, 1) := by decide +kernel
theorem dX0_searchForward_124 : decode cX0_searchForward 124 = .ok (.iadd, 1) := by decide +kernel
theorem dX0_searchForward_125 : decode cX0_searchForward 125 = .ok (.putfield 115, 3) := by decide +kernel
theorem dX0_searchForward_128 : decode cX0_searchForward 128 = .ok (.aload_n 0, 1) := by decide +kernel
theorem dX0_searchForward_129 : decode cX0_searchForward 129 = .ok (.iload_n 3, 1) := by decide +kernel
end
section
set_option maxRecDepth 100000
theorem dX0_searchForward_130 : decode cX0_searchForward 130 = .ok (.invokevirtual 129, 3) := by decide +kernel
theorem dX0_searchForward_133 : decode cX0_searchForward 133 = .ok (.ifCond .eq 27, 3) := by decide +kernel
theorem dX0_searchForward_136 : decode cX0_searchForward 136 = .ok (.aload_n 0, 1) := by decide +kernel
theorem dX0_searchForward_137 : decode cX0_searchForward 137 = .ok (.getfield 32, 3) := by decide +kernel
theorem dX0_searchForward_140 : decode cX0_searchForward 140 = .ok (.iload_n 3, 1) := by decide +kernel
theorem dX0_searchForward_141 : decode cX0_searchForward 141 = .ok (.iaload, 1) := by decide +kernel
theorem dX0_searchForward_142 : decode cX0_searchForward 142 = .ok (.iload_n 1, 1) := by decide +kernel
theorem dX0_searchForward_143 : decode cX0_searchForward 143 = .ok (.if_icmp .ge 12, 3) := by decide +kernel
theorem dX0_searchForward_146 : decode cX0_searchForward 146 = .ok (.aload_n 0, 1) := by decide +kernel
theorem dX0_searchForward_147 : decode cX0_searchForward 147 = .ok (.getfield 32, 3) := by decide +kernel
theorem dX0_searchForward_150 : decode cX0_searchForward 150 = .ok (.iload_n 3, 1) := by decide +kernel
theorem dX0_searchForward_151 : decode cX0_searchForward 151 = .ok (.iaload, 1) := by decide +kernel
theorem dX0_searchForward_152 : decode cX0_searchForward 152 = .ok (.goto 4, 3) := by decide +kernel
theorem dX0_searchForward_155 : decode cX0_searchForward 155 = .ok (.iload_n 1, 1) := by decide +kernel
theorem dX0_searchForward_156 : decode cX0_searchForward 156 = .ok (.istore_n 1, 1) := by decide +kernel
theorem dX0_searchForward_157 : decode cX0_searchForward 157 = .ok (.goto 8, 3) := by decide +kernel
theorem dX0_searchForward_160 : decode cX0_searchForward 160 = .ok (.aload_n 0, 1) := by decide +kernel
theorem dX0_searchForward_161 : decode cX0_searchForward 161 = .ok (.iload_n 3, 1) := by decide +kernel
theorem dX0_searchForward_162 : decode cX0_searchForward 162 = .ok (.invokevirtual 132, 3) := by decide +kernel
theorem dX0_searchForward_165 : decode cX0_searchForward 165 = .ok (.iinc 2 1, 3) := by decide +kernel
theorem dX0_searchForward_168 : decode cX0_searchForward 168 = .ok (.goto (-114), 3) := by decide +kernel
theorem dX0_searchForward_171 : decode cX0_searchForward 171 = .ok (.iload_n 1, 1) := by decide +kernel
theorem dX0_searchForward_172 : decode cX0_searchForward 172 = .ok (.ireturn, 1) := by decide +kernel
theorem dX0_reach_0 : decode cX0_reach 0 = .ok (.aload_n 0, 1) := by decide +kernel
theorem dX0_reach_1 : decode cX0_reach 1 = .ok (.getfield 35, 3) := by decide +kernel
theorem dX0_reach_4 : decode cX0_reach 4 = .ok (.iload_n 1, 1) := by decide +kernel
theorem dX0_reach_5 : decode cX0_reach 5 = .ok (.iaload, 1) := by decide +kernel
theorem dX0_reach_6 : decode cX0_reach 6 = .ok (.bipush (-2), 2) := by decide +kernel
theorem dX0_reach_8 : decode cX0_reach 8 = .ok (.if_icmp .eq 13, 3) := by decide +kernel
theorem dX0_reach_11 : decode cX0_reach 11 = .ok (.iload_n 2, 1) := by decide +kernel
theorem dX0_reach_12 : decode cX0_reach 12 = .ok (.aload_n 0, 1) := by decide +kernel
theorem dX0_reach_13 : decode cX0_reach 13 = .ok (.getfield 32, 3) := by decide +kernel
theorem dX0_reach_16 : decode cX0_reach 16 = .ok (.iload_n 1, 1) := by decide +kernel
theorem dX0_reach_17 : decode cX0_reach 17 = .ok (.iaload, 1) := by decide +kernel
theorem dX0_reach_18 : decode cX0_reach 18 = .ok (.if_icmp .lt 4, 3) := by decide +kernel
theorem dX0_reach_21 : decode cX0_reach 21 = .ok (.return_, 1) := by decide +kernel
theorem dX0_reach_22 : decode cX0_reach 22 = .ok (.aload_n 0, 1) := by decide +kernel
theorem dX0_reach_23 : decode cX0_reach 23 = .ok (.getfield 32, 3) := by decide +kernel
theorem dX0_reach_26 : decode cX0_reach 26 = .ok (.iload_n 1, 1) := by decide +kernel
theorem dX0_reach_27 : decode cX0_reach 27 = .ok (.iload_n 2, 1) := by decide +kernel
theorem dX0_reach_28 : decode cX0_reach 28 = .ok (.iastore, 1) := by decide +kernel
theorem dX0_reach_29 : decode cX0_reach 29 = .ok (.aload_n 0, 1) := by decide +kernel
theorem dX0_reach_30 : decode cX0_reach 30 = .ok (.getfield 35, 3) := by decide +kernel
theorem dX0_reach_33 : decode cX0_reach 33 = .ok (.iload_n 1, 1) := by decide +kernel
theorem dX0_reach_34 : decode cX0_reach 34 = .ok (.iaload, 1) := by decide +kernel
theorem dX0_reach_35 : decode cX0_reach 35 = .ok (.iconst (-1), 1) := by decide +kernel
theorem dX0_reach_36 : decode cX0_reach 36 = .ok (.if_icmp .ne 33, 3) := by decide +kernel
theorem dX0_reach_39 : decode cX0_reach 39 = .ok (.aload_n 0, 1) := by decide +kernel
theorem dX0_reach_40 : decode cX0_reach 40 = .ok (.getfield 35, 3) := by decide +kernel
theorem dX0_reach_43 : decode cX0_reach 43 = .ok (.iload_n 1, 1) := by decide +kernel
theorem dX0_reach_44 : decode cX0_reach 44 = .ok (.aload_n 0, 1) := by decide +kernel
theorem dX0_reach_45 : decode cX0_reach 45 = .ok (.getfield 112, 3) := by decide +kernel
theorem dX0_reach_48 : decode cX0_reach 48 = .ok (.iastore, 1) := by decide +kernel
theorem dX0_reach_49 : decode cX0_reach 49 = .ok (.aload_n 0, 1) := by decide +kernel
theorem dX0_reach_50 : decode cX0_reach 50 = .ok (.getfield 38, 3) := by decide +kernel
theorem dX0_reach_53 : decode cX0_reach 53 = .ok (.aload_n 0, 1) := by decide +kernel
theorem dX0_reach_54 : decode cX0_reach 54 = .ok (.getfield 112, 3) := by decide +kernel
theorem dX0_reach_57 : decode cX0_reach 57 = .ok (.iload_n 1, 1) := by decide +kernel
theorem dX0_reach_58 : decode cX0_reach 58 = .ok (.iastore, 1) := by decide +kernel
theorem dX0_reach_59 : decode cX0_reach 59 = .ok (.aload_n 0, 1) := by decide +kernel
theorem dX0_reach_60 : decode cX0_reach 60 = .ok (.dup, 1) := by decide +kernel
theorem dX0_reach_61 : decode cX0_reach 61 = .ok (.getfield 112, 3) := by decide +kernel
theorem dX0_reach_64 : decode cX0_reach 64 = .ok (.iconst 1, 1) := by decide +kernel
theorem dX0_reach_65 : decode cX0_reach 65 = .ok (.iadd, 1) := by decide +kernel
theorem dX0_reach_66 : decode cX0_reach 66 = .ok (.putfield 112, 3) := by decide +kernel
theorem dX0_reach_69 : decode cX0_reach 69 = .ok (.aload_n 0, 1) := by decide +kernel
theorem dX0_reach_70 : decode cX0_reach 70 = .ok (.aload_n 0, 1) := by decide +kernel
theorem dX0_reach_71 : decode cX0_reach 71 = .ok (.getfield 35, 3) := by decide +kernel
theorem dX0_reach_74 : decode cX0_reach 74 = .ok (.iload_n 1, 1) := by decide +kernel
theorem dX0_reach_75 : decode cX0_reach 75 = .ok (.iaload, 1) := by decide +kernel
theorem dX0_reach_76 : decode cX0_reach 76 = .ok (.invokevirtual 135, 3) := by decide +kernel
theorem dX0_reach_79 : decode cX0_reach 79 = .ok (.return_, 1) := by decide +kernel
theorem dX0_rise_0 : decode cX0_rise 0 = .ok (.iload_n 1, 1) := by decide +kernel
theorem dX0_rise_1 : decode cX0_rise 1 = .ok (.istore_n 2, 1) := by decide +kernel
theorem dX0_rise_2 : decode cX0_rise 2 = .ok (.aload_n 0, 1) := by decide +kernel
theorem dX0_rise_3 : decode cX0_rise 3 = .ok (.getfield 38, 3) := by decide +kernel
theorem dX0_rise_6 : decode cX0_rise 6 = .ok (.iload_n 1, 1) := by decide +kernel
theorem dX0_rise_7 : decode cX0_rise 7 = .ok (.iaload, 1) := by decide +kernel
theorem dX0_rise_8 : decode cX0_rise 8 = .ok (.istore_n 3, 1) := by decide +kernel
theorem dX0_rise_9 : decode cX0_rise 9 = .ok (.aload_n 0, 1) := by decide +kernel
theorem dX0_rise_10 : decode cX0_rise 10 = .ok (.iload_n 3, 1) := by decide +kernel
theorem dX0_rise_11 : decode cX0_rise 11 = .ok (.invokevirtual 138, 3) := by decide +kernel
theorem dX0_rise_14 : decode cX0_rise 14 = .ok (.istore 4, 2) := by decide +kernel
theorem dX0_rise_16 : decode cX0_rise 16 = .ok (.iconst 1, 1) := by decide +kernel
theorem dX0_rise_17 : decode cX0_rise 17 = .ok (.istore 5, 2) := by decide +kernel
theorem dX0_rise_19 : decode cX0_rise 19 = .ok (.iconst 0, 1) := by decide +kernel
theorem dX0_rise_20 : decode cX0_rise 20 = .ok (.istore 6, 2) := by decide +kernel
theorem dX0_rise_22 : decode cX0_rise 22 = .ok (.iload 6, 2) := by decide +kernel
theorem dX0_rise_24 : decode cX0_rise 24 = .ok (.bipush 9, 2) := by decide +kernel
theorem dX0_rise_26 : decode cX0_rise 26 = .ok (.if_icmp .ge 72, 3) := by decide +kernel
theorem dX0_rise_29 : decode cX0_rise 29 = .ok (.iload_n 2, 1) := by decide +kernel
theorem dX0_rise_30 : decode cX0_rise 30 = .ok (.ifCond .le 68, 3) := by decide +kernel
theorem dX0_rise_33 : decode cX0_rise 33 = .ok (.iload 5, 2) := by decide +kernel
theorem dX0_rise_35 : decode cX0_rise 35 = .ok (.ifCond .eq 63, 3) := by decide +kernel
theorem dX0_rise_38 : decode cX0_rise 38 = .ok (.iload_n 2, 1) := by decide +kernel
theorem dX0_rise_39 : decode cX0_rise 39 = .ok (.iconst 1, 1) := by decide +kernel
theorem dX0_rise_40 : decode cX0_rise 40 = .ok (.isub, 1) := by decide +kernel
theorem dX0_rise_41 : decode cX0_rise 41 = .ok (.iconst 2, 1) := by decide +kernel
theorem dX0_rise_42 : decode cX0_rise 42 = .ok (.idiv, 1) := by decide +kernel
theorem dX0_rise_43 : decode cX0_rise 43 = .ok (.istore 7, 2) := by decide +kernel
theorem dX0_rise_45 : decode cX0_rise 45 = .ok (.aload_n 0, 1) := by decide +kernel
theorem dX0_rise_46 : decode cX0_rise 46 = .ok (.aload_n 0, 1) := by decide +kernel
theorem dX0_rise_47 : decode cX0_rise 47 = .ok (.getfield 38, 3) := by decide +kernel
theorem dX0_rise_50 : decode cX0_rise 50 = .ok (.iload 7, 2) := by decide +kernel
theorem dX0_rise_52 : decode cX0_rise 52 = .ok (.iaload, 1) := by decide +kernel
theorem dX0_rise_53 : decode cX0_rise 53 = .ok (.invokevirtual 138, 3) := by decide +kernel
theorem dX0_rise_56 : decode cX0_rise 56 = .ok (.istore 8, 2) := by decide +kernel
theorem dX0_rise_58 : decode cX0_rise 58 = .ok (.iload 4, 2) := by decide +kernel
theorem dX0_rise_60 : decode cX0_rise 60 = .ok (.iload 8, 2) := by decide +kernel
theorem dX0_rise_62 : decode cX0_rise 62 = .ok (.if_icmp .ge 7, 3) := by decide +kernel
theorem dX0_rise_65 : decode cX0_rise 65 = .ok (.iconst 1, 1) := by decide +kernel
theorem dX0_rise_66 : decode cX0_rise 66 = .ok (.goto 4, 3) := by decide +kernel
theorem dX0_rise_69 : decode cX0_rise 69 = .ok (.iconst 0, 1) := by decide +kernel
theorem dX0_rise_70 : decode cX0_rise 70 = .ok (.istore 5, 2) := by decide +kernel
theorem dX0_rise_72 : decode cX0_rise 72 = .ok (.iload 5, 2) := by decide +kernel
theorem dX0_rise_74 : decode cX0_rise 74 = .ok (.ifCond .eq 18, 3) := by decide +kernel
theorem dX0_rise_77 : decode cX0_rise 77 = .ok (.aload_n 0, 1) := by decide +kernel
theorem dX0_rise_78 : decode cX0_rise 78 = .ok (.iload_n 2, 1) := by decide +kernel
theorem dX0_rise_79 : decode cX0_rise 79 = .ok (.aload_n 0, 1) := by decide +kernel
theorem dX0_rise_80 : decode cX0_rise 80 = .ok (.getfield 38, 3) := by decide +kernel
theorem dX0_rise_83 : decode cX0_rise 83 = .ok (.iload 7, 2) := by decide +kernel
theorem dX0_rise_85 : decode cX0_rise 85 = .ok (.iaload, 1) := by decide +kernel
theorem dX0_rise_86 : decode cX0_rise 86 = .ok (.invokevirtual 141, 3) := by decide +kernel
theorem dX0_rise_89 : decode cX0_rise 89 = .ok (.iload 7, 2) := by decide +kernel
theorem dX0_rise_91 : decode cX0_rise 91 = .ok (.istore_n 2, 1) := by decide +kernel
theorem dX0_rise_92 : decode cX0_rise 92 = .ok (.iinc 6 1, 3) := by decide +kernel
theorem dX0_rise_95 : decode cX0_rise 95 = .ok (.goto (-73), 3) := by decide +kernel
theorem dX0_rise_98 : decode cX0_rise 98 = .ok (.aload_n 0, 1) := by decide +kernel
theorem dX0_rise_99 : decode cX0_rise 99 = .ok (.iload_n 2, 1) := by decide +kernel
theorem dX0_rise_100 : decode cX0_rise 100 = .ok (.iload_n 3, 1) := by decide +kernel
theorem dX0_rise_101 : decode cX0_rise 101 = .ok (.invokevirtual 141, 3) := by decide +kernel
theorem dX0_rise_104 : decode cX0_rise 104 = .ok (.return_, 1) := by decide +kernel
theorem dX0_keyOf_0 : decode cX0_keyOf 0 = .ok (.aload_n 0, 1) := by decide +kernel
theorem dX0_keyOf_1 : decode cX0_keyOf 1 = .ok (.getfield 32, 3) := by decide +kernel
theorem dX0_keyOf_4 : decode cX0_keyOf 4 = .ok (.iload_n 1, 1) := by decide +kernel
theorem dX0_keyOf_5 : decode cX0_keyOf 5 = .ok (.iaload, 1) := by decide +kernel
theorem dX0_keyOf_6 : decode cX0_keyOf 6 = .ok (.aload_n 0, 1) := by decide +kernel
theorem dX0_keyOf_7 : decode cX0_keyOf 7 = .ok (.iload_n 1, 1) := by decide +kernel
theorem dX0_keyOf_8 : decode cX0_keyOf 8 = .ok (.invokevirtual 125, 3) := by decide +kernel
theorem dX0_keyOf_11 : decode cX0_keyOf 11 = .ok (.iadd, 1) := by decide +kernel
theorem dX0_keyOf_12 : decode cX0_keyOf 12 = .ok (.ireturn, 1) := by decide +kernel
theorem dX0_bound_0 : decode cX0_bound 0 = .ok (.iconst 0, 1) := by decide +kernel
theorem dX0_bound_1 : decode cX0_bound 1 = .ok (.istore_n 2, 1) := by decide +kernel
theorem dX0_bound_2 : decode cX0_bound 2 = .ok (.iconst 0, 1) := by decide +kernel
theorem dX0_bound_3 : decode cX0_bound 3 = .ok (.istore_n 3, 1) := by decide +kernel
theorem dX0_bound_4 : decode cX0_bound 4 = .ok (.iload_n 3, 1) := by decide +kernel
theorem dX0_bound_5 : decode cX0_bound 5 = .ok (.bipush 8, 2) := by decide +kernel
theorem dX0_bound_7 : decode cX0_bound 7 = .ok (.if_icmp .ge 82, 3) := by decide +kernel
theorem dX0_bound_10 : decode cX0_bound 10 = .ok (.iconst 1, 1) := by decide +kernel
theorem dX0_bound_11 : decode cX0_bound 11 = .ok (.iload_n 3, 1) := by decide +kernel
theorem dX0_bound_12 : decode cX0_bound 12 = .ok (.ishl, 1) := by decide +kernel
theorem dX0_bound_13 : decode cX0_bound 13 = .ok (.istore 4, 2) := by decide +kernel
theorem dX0_bound_15 : decode cX0_bound 15 = .ok (.aload_n 0, 1) := by decide +kernel
theorem dX0_bound_16 : decode cX0_bound 16 = .ok (.getfield 61, 3) := by decide +kernel
theorem dX0_bound_19 : decode cX0_bound 19 = .ok (.iload 4, 2) := by decide +kernel
theorem dX0_bound_21 : decode cX0_bound 21 = .ok (.iand, 1) := by decide +kernel
theorem dX0_bound_22 : decode cX0_bound 22 = .ok (.ifCond .eq 27, 3) := by decide +kernel
theorem dX0_bound_25 : decode cX0_bound 25 = .ok (.iload_n 1, 1) := by decide +kernel
theorem dX0_bound_26 : decode cX0_bound 26 = .ok (.iload 4, 2) := by decide +kernel
theorem dX0_bound_28 : decode cX0_bound 28 = .ok (.iand, 1) := by decide +kernel
theorem dX0_bound_29 : decode cX0_bound 29 = .ok (.ifCond .ne 20, 3) := by decide +kernel
theorem dX0_bound_32 : decode cX0_bound 32 = .ok (.aload_n 0, 1) := by decide +kernel
theorem dX0_bound_33 : decode cX0_bound 33 = .ok (.getfield 47, 3) := by decide +kernel
theorem dX0_bound_36 : decode cX0_bound 36 = .ok (.iload_n 3, 1) := by decide +kernel
theorem dX0_bound_37 : decode cX0_bound 37 = .ok (.iaload, 1) := by decide +kernel
theorem dX0_bound_38 : decode cX0_bound 38 = .ok (.iload_n 2, 1) := by decide +kernel
theorem dX0_bound_39 : decode cX0_bound 39 = .ok (.if_icmp .le 10, 3) := by decide +kernel
theorem dX0_bound_42 : decode cX0_bound 42 = .ok (.aload_n 0, 1) := by decide +kernel
theorem dX0_bound_43 : decode cX0_bound 43 = .ok (.getfield 47, 3) := by decide +kernel
theorem dX0_bound_46 : decode cX0_bound 46 = .ok (.iload_n 3, 1) := by decide +kernel
theorem dX0_bound_47 : decode cX0_bound 47 = .ok (.iaload, 1) := by decide +kernel
theorem dX0_bound_48 : decode cX0_bound 48 = .ok (.istore_n 2, 1) := by decide +kernel
theorem dX0_bound_49 : decode cX0_bound 49 = .ok (.aload_n 0, 1) := by decide +kernel
theorem dX0_bound_50 : decode cX0_bound 50 = .ok (.getfield 65, 3) := by decide +kernel
theorem dX0_bound_53 : decode cX0_bound 53 = .ok (.iload 4, 2) := by decide +kernel
theorem dX0_bound_55 : decode cX0_bound 55 = .ok (.iand, 1) := by decide +kernel
theorem dX0_bound_56 : decode cX0_bound 56 = .ok (.ifCond .eq 27, 3) := by decide +kernel
theorem dX0_bound_59 : decode cX0_bound 59 = .ok (.iload_n 1, 1) := by decide +kernel
theorem dX0_bound_60 : decode cX0_bound 60 = .ok (.iload 4, 2) := by decide +kernel
theorem dX0_bound_62 : decode cX0_bound 62 = .ok (.iand, 1) := by decide +kernel
theorem dX0_bound_63 : decode cX0_bound 63 = .ok (.ifCond .eq 20, 3) := by decide +kernel
theorem dX0_bound_66 : decode cX0_bound 66 = .ok (.aload_n 0, 1) := by decide +kernel
theorem dX0_bound_67 : decode cX0_bound 67 = .ok (.getfield 50, 3) := by decide +kernel
theorem dX0_bound_70 : decode cX0_bound 70 = .ok (.iload_n 3, 1) := by decide +kernel
theorem dX0_bound_71 : decode cX0_bound 71 = .ok (.iaload, 1) := by decide +kernel
theorem dX0_bound_72 : decode cX0_bound 72 = .ok (.iload_n 2, 1) := by decide +kernel
theorem dX0_bound_73 : decode cX0_bound 73 = .ok (.if_icmp .le 10, 3) := by decide +kernel
theorem dX0_bound_76 : decode cX0_bound 76 = .ok (.aload_n 0, 1) := by decide +kernel
theorem dX0_bound_77 : decode cX0_bound 77 = .ok (.getfield 50, 3) := by decide +kernel
theorem dX0_bound_80 : decode cX0_bound 80 = .ok (.iload_n 3, 1) := by decide +kernel
theorem dX0_bound_81 : decode cX0_bound 81 = .ok (.iaload, 1) := by decide +kernel
theorem dX0_bound_82 : decode cX0_bound 82 = .ok (.istore_n 2, 1) := by decide +kernel
theorem dX0_bound_83 : decode cX0_bound 83 = .ok (.iinc 3 1, 3) := by decide +kernel
theorem dX0_bound_86 : decode cX0_bound 86 = .ok (.goto (-82), 3) := by decide +kernel
theorem dX0_bound_89 : decode cX0_bound 89 = .ok (.iload_n 2, 1) := by decide +kernel
theorem dX0_bound_90 : decode cX0_bound 90 = .ok (.ireturn, 1) := by decide +kernel
theorem dX0_setHeap_0 : decode cX0_setHeap 0 = .ok (.aload_n 0, 1) := by decide +kernel
theorem dX0_setHeap_1 : decode cX0_setHeap 1 = .ok (.getfield 38, 3) := by decide +kernel
theorem dX0_setHeap_4 : decode cX0_setHeap 4 = .ok (.iload_n 1, 1) := by decide +kernel
theorem dX0_setHeap_5 : decode cX0_setHeap 5 = .ok (.iload_n 2, 1) := by decide +kernel
theorem dX0_setHeap_6 : decode cX0_setHeap 6 = .ok (.iastore, 1) := by decide +kernel
theorem dX0_setHeap_7 : decode cX0_setHeap 7 = .ok (.aload_n 0, 1) := by decide +kernel
theorem dX0_setHeap_8 : decode cX0_setHeap 8 = .ok (.getfield 35, 3) := by decide +kernel
theorem dX0_setHeap_11 : decode cX0_setHeap 11 = .ok (.iload_n 2, 1) := by decide +kernel
theorem dX0_setHeap_12 : decode cX0_setHeap 12 = .ok (.iload_n 1, 1) := by decide +kernel
theorem dX0_setHeap_13 : decode cX0_setHeap 13 = .ok (.iastore, 1) := by decide +kernel
theorem dX0_setHeap_14 : decode cX0_setHeap 14 = .ok (.return_, 1) := by decide +kernel
theorem dX0_takeLeast_0 : decode cX0_takeLeast 0 = .ok (.aload_n 0, 1) := by decide +kernel
theorem dX0_takeLeast_1 : decode cX0_takeLeast 1 = .ok (.getfield 38, 3) := by decide +kernel
theorem dX0_takeLeast_4 : decode cX0_takeLeast 4 = .ok (.iconst 0, 1) := by decide +kernel
theorem dX0_takeLeast_5 : decode cX0_takeLeast 5 = .ok (.iaload, 1) := by decide +kernel
theorem dX0_takeLeast_6 : decode cX0_takeLeast 6 = .ok (.istore_n 1, 1) := by decide +kernel
theorem dX0_takeLeast_7 : decode cX0_takeLeast 7 = .ok (.aload_n 0, 1) := by decide +kernel
theorem dX0_takeLeast_8 : decode cX0_takeLeast 8 = .ok (.getfield 35, 3) := by decide +kernel
theorem dX0_takeLeast_11 : decode cX0_takeLeast 11 = .ok (.iload_n 1, 1) := by decide +kernel
theorem dX0_takeLeast_12 : decode cX0_takeLeast 12 = .ok (.bipush (-2), 2) := by decide +kernel
theorem dX0_takeLeast_14 : decode cX0_takeLeast 14 = .ok (.iastore, 1) := by decide +kernel
theorem dX0_takeLeast_15 : decode cX0_takeLeast 15 = .ok (.aload_n 0, 1) := by decide +kernel
theorem dX0_takeLeast_16 : decode cX0_takeLeast 16 = .ok (.dup, 1) := by decide +kernel
theorem dX0_takeLeast_17 : decode cX0_takeLeast 17 = .ok (.getfield 112, 3) := by decide +kernel
theorem dX0_takeLeast_20 : decode cX0_takeLeast 20 = .ok (.iconst 1, 1) := by decide +kernel
theorem dX0_takeLeast_21 : decode cX0_takeLeast 21 = .ok (.isub, 1) := by decide +kernel
theorem dX0_takeLeast_22 : decode cX0_takeLeast 22 = .ok (.putfield 112, 3) := by decide +kernel
theorem dX0_takeLeast_25 : decode cX0_takeLeast 25 = .ok (.aload_n 0, 1) := by decide +kernel
theorem dX0_takeLeast_26 : decode cX0_takeLeast 26 = .ok (.getfield 112, 3) := by decide +kernel
theorem dX0_takeLeast_29 : decode cX0_takeLeast 29 = .ok (.ifCond .le 16, 3) := by decide +kernel
theorem dX0_takeLeast_32 : decode cX0_takeLeast 32 = .ok (.aload_n 0, 1) := by decide +kernel
theorem dX0_takeLeast_33 : decode cX0_takeLeast 33 = .ok (.aload_n 0, 1) := by decide +kernel
theorem dX0_takeLeast_34 : decode cX0_takeLeast 34 = .ok (.getfield 38, 3) := by decide +kernel
theorem dX0_takeLeast_37 : decode cX0_takeLeast 37 = .ok (.aload_n 0, 1) := by decide +kernel
theorem dX0_takeLeast_38 : decode cX0_takeLeast 38 = .ok (.getfield 112, 3) := by decide +kernel
theorem dX0_takeLeast_41 : decode cX0_takeLeast 41 = .ok (.iaload, 1) := by decide +kernel
theorem dX0_takeLeast_42 : decode cX0_takeLeast 42 = .ok (.invokevirtual 144, 3) := by decide +kernel
theorem dX0_takeLeast_45 : decode cX0_takeLeast 45 = .ok (.iload_n 1, 1) := by decide +kernel
theorem dX0_takeLeast_46 : decode cX0_takeLeast 46 = .ok (.ireturn, 1) := by decide +kernel
theorem dX0_sink_0 : decode cX0_sink 0 = .ok (.iconst 0, 1) := by decide +kernel
theorem dX0_sink_1 : decode cX0_sink 1 = .ok (.istore_n 2, 1) := by decide +kernel
theorem dX0_sink_2 : decode cX0_sink 2 = .ok (.aload_n 0, 1) := by decide +kernel
theorem dX0_sink_3 : decode cX0_sink 3 = .ok (.iload_n 1, 1) := by decide +kernel
theorem dX0_sink_4 : decode cX0_sink 4 = .ok (.invokevirtual 138, 3) := by decide +kernel
theorem dX0_sink_7 : decode cX0_sink 7 = .ok (.istore_n 3, 1) := by decide +kernel
theorem dX0_sink_8 : decode cX0_sink 8 = .ok (.iconst 1, 1) := by decide +kernel
theorem dX0_sink_9 : decode cX0_sink 9 = .ok (.istore 4, 2) := by decide +kernel
theorem dX0_sink_11 : decode cX0_sink 11 = .ok (.iconst 0, 1) := by decide +kernel
theorem dX0_sink_12 : decode cX0_sink 12 = .ok (.istore 5, 2) := by decide +kernel
theorem dX0_sink_14 : decode cX0_sink 14 = .ok (.iload 5, 2) := by decide +kernel
theorem dX0_sink_16 : decode cX0_sink 16 = .ok (.bipush 9, 2) := by decide +kernel
theorem dX0_sink_18 : decode cX0_sink 18 = .ok (.if_icmp .ge 84, 3) := by decide +kernel
theorem dX0_sink_21 : decode cX0_sink 21 = .ok (.iload 4, 2) := by decide +kernel
theorem dX0_sink_23 : decode cX0_sink 23 = .ok (.ifCond .eq 79, 3) := by decide +kernel
theorem dX0_sink_26 : decode cX0_sink 26 = .ok (.aload_n 0, 1) := by decide +kernel
theorem dX0_sink_27 : decode cX0_sink 27 = .ok (.iload_n 2, 1) := by decide +kernel
theorem dX0_sink_28 : decode cX0_sink 28 = .ok (.invokevirtual 147, 3) := by decide +kernel
theorem dX0_sink_31 : decode cX0_sink 31 = .ok (.istore 6, 2) := by decide +kernel
theorem dX0_sink_33 : decode cX0_sink 33 = .ok (.iload 6, 2) := by decide +kernel
theorem dX0_sink_35 : decode cX0_sink 35 = .ok (.ifCond .lt 7, 3) := by decide +kernel
theorem dX0_sink_38 : decode cX0_sink 38 = .ok (.iconst 1, 1) := by decide +kernel
theorem dX0_sink_39 : decode cX0_sink 39 = .ok (.goto 4, 3) := by decide +kernel
theorem dX0_sink_42 : decode cX0_sink 42 = .ok (.iconst 0, 1) := by decide +kernel
theorem dX0_sink_43 : decode cX0_sink 43 = .ok (.istore 4, 2) := by decide +kernel
theorem dX0_sink_45 : decode cX0_sink 45 = .ok (.iload 4, 2) := by decide +kernel
theorem dX0_sink_47 : decode cX0_sink 47 = .ok (.ifCond .eq 29, 3) := by decide +kernel
theorem dX0_sink_50 : decode cX0_sink 50 = .ok (.aload_n 0, 1) := by decide +kernel
theorem dX0_sink_51 : decode cX0_sink 51 = .ok (.aload_n 0, 1) := by decide +kernel
theorem dX0_sink_52 : decode cX0_sink 52 = .ok (.getfield 38, 3) := by decide +kernel
theorem dX0_sink_55 : decode cX0_sink 55 = .ok (.iload 6, 2) := by decide +kernel
theorem dX0_sink_57 : decode cX0_sink 57 = .ok (.iaload, 1) := by decide +kernel
theorem dX0_sink_58 : decode cX0_sink 58 = .ok (.invokevirtual 138, 3) := by decide +kernel
theorem dX0_sink_61 : decode cX0_sink 61 = .ok (.istore 7, 2) := by decide +kernel
theorem dX0_sink_63 : decode cX0_sink 63 = .ok (.iload 7, 2) := by decide +kernel
theorem dX0_sink_65 : decode cX0_sink 65 = .ok (.iload_n 3, 1) := by decide +kernel
theorem dX0_sink_66 : decode cX0_sink 66 = .ok (.if_icmp .ge 7, 3) := by decide +kernel
theorem dX0_sink_69 : decode cX0_sink 69 = .ok (.iconst 1, 1) := by decide +kernel
theorem dX0_sink_70 : decode cX0_sink 70 = .ok (.goto 4, 3) := by decide +kernel
theorem dX0_sink_73 : decode cX0_sink 73 = .ok (.iconst 0, 1) := by decide +kernel
theorem dX0_sink_74 : decode cX0_sink 74 = .ok (.istore 4, 2) := by decide +kernel
theorem dX0_sink_76 : decode cX0_sink 76 = .ok (.iload 4, 2) := by decide +kernel
theorem dX0_sink_78 : decode cX0_sink 78 = .ok (.ifCond .eq 18, 3) := by decide +kernel
theorem dX0_sink_81 : decode cX0_sink 81 = .ok (.aload_n 0, 1) := by decide +kernel
theorem dX0_sink_82 : decode cX0_sink 82 = .ok (.iload_n 2, 1) := by decide +kernel
theorem dX0_sink_83 : decode cX0_sink 83 = .ok (.aload_n 0, 1) := by decide +kernel
theorem dX0_sink_84 : decode cX0_sink 84 = .ok (.getfield 38, 3) := by decide +kernel
theorem dX0_sink_87 : decode cX0_sink 87 = .ok (.iload 6, 2) := by decide +kernel
theorem dX0_sink_89 : decode cX0_sink 89 = .ok (.iaload, 1) := by decide +kernel
theorem dX0_sink_90 : decode cX0_sink 90 = .ok (.invokevirtual 141, 3) := by decide +kernel
theorem dX0_sink_93 : decode cX0_sink 93 = .ok (.iload 6, 2) := by decide +kernel
theorem dX0_sink_95 : decode cX0_sink 95 = .ok (.istore_n 2, 1) := by decide +kernel
theorem dX0_sink_96 : decode cX0_sink 96 = .ok (.iinc 5 1, 3) := by decide +kernel
theorem dX0_sink_99 : decode cX0_sink 99 = .ok (.goto (-85), 3) := by decide +kernel
theorem dX0_sink_102 : decode cX0_sink 102 = .ok (.aload_n 0, 1) := by decide +kernel
theorem dX0_sink_103 : decode cX0_sink 103 = .ok (.iload_n 2, 1) := by decide +kernel
theorem dX0_sink_104 : decode cX0_sink 104 = .ok (.iload_n 1, 1) := by decide +kernel
theorem dX0_sink_105 : decode cX0_sink 105 = .ok (.invokevirtual 141, 3) := by decide +kernel
theorem dX0_sink_108 : decode cX0_sink 108 = .ok (.return_, 1) := by decide +kernel
theorem dX0_lesserChild_0 : decode cX0_lesserChild 0 = .ok (.iconst 2, 1) := by decide +kernel
theorem dX0_lesserChild_1 : decode cX0_lesserChild 1 = .ok (.iload_n 1, 1) := by decide +kernel
theorem dX0_lesserChild_2 : decode cX0_lesserChild 2 = .ok (.imul, 1) := by decide +kernel
theorem dX0_lesserChild_3 : decode cX0_lesserChild 3 = .ok (.iconst 1, 1) := by decide +kernel
theorem dX0_lesserChild_4 : decode cX0_lesserChild 4 = .ok (.iadd, 1) := by decide +kernel
theorem dX0_lesserChild_5 : decode cX0_lesserChild 5 = .ok (.istore_n 2, 1) := by decide +kernel
theorem dX0_lesserChild_6 : decode cX0_lesserChild 6 = .ok (.iload_n 2, 1) := by decide +kernel
theorem dX0_lesserChild_7 : decode cX0_lesserChild 7 = .ok (.iconst 1, 1) := by decide +kernel
theorem dX0_lesserChild_8 : decode cX0_lesserChild 8 = .ok (.iadd, 1) := by decide +kernel
theorem dX0_lesserChild_9 : decode cX0_lesserChild 9 = .ok (.istore_n 3, 1) := by decide +kernel
theorem dX0_lesserChild_10 : decode cX0_lesserChild 10 = .ok (.iload_n 2, 1) := by decide +kernel
theorem dX0_lesserChild_11 : decode cX0_lesserChild 11 = .ok (.aload_n 0, 1) := by decide +kernel
theorem dX0_lesserChild_12 : decode cX0_lesserChild 12 = .ok (.getfield 112, 3) := by decide +kernel
theorem dX0_lesserChild_15 : decode cX0_lesserChild 15 = .ok (.if_icmp .lt 5, 3) := by decide +kernel
theorem dX0_lesserChild_18 : decode cX0_lesserChild 18 = .ok (.iconst (-1), 1) := by decide +kernel
theorem dX0_lesserChild_19 : decode cX0_lesserChild 19 = .ok (.ireturn, 1) := by decide +kernel
theorem dX0_lesserChild_20 : decode cX0_lesserChild 20 = .ok (.iload_n 3, 1) := by decide +kernel
theorem dX0_lesserChild_21 : decode cX0_lesserChild 21 = .ok (.aload_n 0, 1) := by decide +kernel
theorem dX0_lesserChild_22 : decode cX0_lesserChild 22 = .ok (.getfield 112, 3) := by decide +kernel
theorem dX0_lesserChild_25 : decode cX0_lesserChild 25 = .ok (.if_icmp .lt 5, 3) := by decide +kernel
theorem dX0_lesserChild_28 : decode cX0_lesserChild 28 = .ok (.iload_n 2, 1) := by decide +kernel
theorem dX0_lesserChild_29 : decode cX0_lesserChild 29 = .ok (.ireturn, 1) := by decide +kernel
theorem dX0_lesserChild_30 : decode cX0_lesserChild 30 = .ok (.aload_n 0, 1) := by decide +kernel
theorem dX0_lesserChild_31 : decode cX0_lesserChild 31 = .ok (.aload_n 0, 1) := by decide +kernel
theorem dX0_lesserChild_32 : decode cX0_lesserChild 32 = .ok (.getfield 38, 3) := by decide +kernel
theorem dX0_lesserChild_35 : decode cX0_lesserChild 35 = .ok (.iload_n 2, 1) := by decide +kernel
theorem dX0_lesserChild_36 : decode cX0_lesserChild 36 = .ok (.iaload, 1) := by decide +kernel
theorem dX0_lesserChild_37 : decode cX0_lesserChild 37 = .ok (.invokevirtual 138, 3) := by decide +kernel
theorem dX0_lesserChild_40 : decode cX0_lesserChild 40 = .ok (.istore 4, 2) := by decide +kernel
theorem dX0_lesserChild_42 : decode cX0_lesserChild 42 = .ok (.aload_n 0, 1) := by decide +kernel
theorem dX0_lesserChild_43 : decode cX0_lesserChild 43 = .ok (.aload_n 0, 1) := by decide +kernel
theorem dX0_lesserChild_44 : decode cX0_lesserChild 44 = .ok (.getfield 38, 3) := by decide +kernel
theorem dX0_lesserChild_47 : decode cX0_lesserChild 47 = .ok (.iload_n 3, 1) := by decide +kernel
theorem dX0_lesserChild_48 : decode cX0_lesserChild 48 = .ok (.iaload, 1) := by decide +kernel
theorem dX0_lesserChild_49 : decode cX0_lesserChild 49 = .ok (.invokevirtual 138, 3) := by decide +kernel
theorem dX0_lesserChild_52 : decode cX0_lesserChild 52 = .ok (.istore 5, 2) := by decide +kernel
theorem dX0_lesserChild_54 : decode cX0_lesserChild 54 = .ok (.iload 5, 2) := by decide +kernel
theorem dX0_lesserChild_56 : decode cX0_lesserChild 56 = .ok (.iload 4, 2) := by decide +kernel
theorem dX0_lesserChild_58 : decode cX0_lesserChild 58 = .ok (.if_icmp .ge 7, 3) := by decide +kernel
theorem dX0_lesserChild_61 : decode cX0_lesserChild 61 = .ok (.iload_n 3, 1) := by decide +kernel
theorem dX0_lesserChild_62 : decode cX0_lesserChild 62 = .ok (.goto 4, 3) := by decide +kernel
theorem dX0_lesserChild_65 : decode cX0_lesserChild 65 = .ok (.iload_n 2, 1) := by decide +kernel
theorem dX0_lesserChild_66 : decode cX0_lesserChild 66 = .ok (.ireturn, 1) := by decide +kernel
theorem dX0_isGoal_0 : decode cX0_isGoal 0 = .ok (.iload_n 1, 1) := by decide +kernel
theorem dX0_isGoal_1 : decode cX0_isGoal 1 = .ok (.aload_n 0, 1) := by decide +kernel
theorem dX0_isGoal_2 : decode cX0_isGoal 2 = .ok (.getfield 61, 3) := by decide +kernel
theorem dX0_isGoal_5 : decode cX0_isGoal 5 = .ok (.iand, 1) := by decide +kernel
theorem dX0_isGoal_6 : decode cX0_isGoal 6 = .ok (.aload_n 0, 1) := by decide +kernel
theorem dX0_isGoal_7 : decode cX0_isGoal 7 = .ok (.getfield 61, 3) := by decide +kernel
theorem dX0_isGoal_10 : decode cX0_isGoal 10 = .ok (.if_icmp .ne 16, 3) := by decide +kernel
theorem dX0_isGoal_13 : decode cX0_isGoal 13 = .ok (.iload_n 1, 1) := by decide +kernel
theorem dX0_isGoal_14 : decode cX0_isGoal 14 = .ok (.aload_n 0, 1) := by decide +kernel
theorem dX0_isGoal_15 : decode cX0_isGoal 15 = .ok (.getfield 65, 3) := by decide +kernel
theorem dX0_isGoal_18 : decode cX0_isGoal 18 = .ok (.iand, 1) := by decide +kernel
theorem dX0_isGoal_19 : decode cX0_isGoal 19 = .ok (.ifCond .ne 7, 3) := by decide +kernel
theorem dX0_isGoal_22 : decode cX0_isGoal 22 = .ok (.iconst 1, 1) := by decide +kernel
theorem dX0_isGoal_23 : decode cX0_isGoal 23 = .ok (.goto 4, 3) := by decide +kernel
theorem dX0_isGoal_26 : decode cX0_isGoal 26 = .ok (.iconst 0, 1) := by decide +kernel
theorem dX0_isGoal_27 : decode cX0_isGoal 27 = .ok (.ireturn, 1) := by decide +kernel
theorem dX0_spread_0 : decode cX0_spread 0 = .ok (.iconst 0, 1) := by decide +kernel
theorem dX0_spread_1 : decode cX0_spread 1 = .ok (.istore_n 2, 1) := by decide +kernel
theorem dX0_spread_2 : decode cX0_spread 2 = .ok (.iload_n 2, 1) := by decide +kernel
theorem dX0_spread_3 : decode cX0_spread 3 = .ok (.bipush 10, 2) := by decide +kernel
theorem dX0_spread_5 : decode cX0_spread 5 = .ok (.if_icmp .ge 52, 3) := by decide +kernel
theorem dX0_spread_8 : decode cX0_spread 8 = .ok (.aload_n 0, 1) := by decide +kernel
theorem dX0_spread_9 : decode cX0_spread 9 = .ok (.getfield 7, 3) := by decide +kernel
theorem dX0_spread_12 : decode cX0_spread 12 = .ok (.iload_n 2, 1) := by decide +kernel
theorem dX0_spread_13 : decode cX0_spread 13 = .ok (.baload, 1) := by decide +kernel
theorem dX0_spread_14 : decode cX0_spread 14 = .ok (.ifCond .eq 37, 3) := by decide +kernel
theorem dX0_spread_17 : decode cX0_spread 17 = .ok (.aload_n 0, 1) := by decide +kernel
theorem dX0_spread_18 : decode cX0_spread 18 = .ok (.iload_n 2, 1) := by decide +kernel
theorem dX0_spread_19 : decode cX0_spread 19 = .ok (.iload_n 1, 1) := by decide +kernel
theorem dX0_spread_20 : decode cX0_spread 20 = .ok (.invokevirtual 89, 3) := by decide +kernel
theorem dX0_spread_23 : decode cX0_spread 23 = .ok (.ifCond .eq 28, 3) := by decide +kernel
theorem dX0_spread_26 : decode cX0_spread 26 = .ok (.aload_n 0, 1) := by decide +kernel
theorem dX0_spread_27 : decode cX0_spread 27 = .ok (.iload_n 2, 1) := by decide +kernel
theorem dX0_spread_28 : decode cX0_spread 28 = .ok (.iload_n 1, 1) := by decide +kernel
theorem dX0_spread_29 : decode cX0_spread 29 = .ok (.invokevirtual 93, 3) := by decide +kernel
theorem dX0_spread_32 : decode cX0_spread 32 = .ok (.istore_n 3, 1) := by decide +kernel
theorem dX0_spread_33 : decode cX0_spread 33 = .ok (.aload_n 0, 1) := by decide +kernel
theorem dX0_spread_34 : decode cX0_spread 34 = .ok (.iload_n 3, 1) := by decide +kernel
theorem dX0_spread_35 : decode cX0_spread 35 = .ok (.aload_n 0, 1) := by decide +kernel
theorem dX0_spread_36 : decode cX0_spread 36 = .ok (.getfield 32, 3) := by decide +kernel
theorem dX0_spread_39 : decode cX0_spread 39 = .ok (.iload_n 1, 1) := by decide +kernel
theorem dX0_spread_40 : decode cX0_spread 40 = .ok (.iaload, 1) := by decide +kernel
theorem dX0_spread_41 : decode cX0_spread 41 = .ok (.aload_n 0, 1) := by decide +kernel
theorem dX0_spread_42 : decode cX0_spread 42 = .ok (.getfield 26, 3) := by decide +kernel
theorem dX0_spread_45 : decode cX0_spread 45 = .ok (.iload_n 2, 1) := by decide +kernel
theorem dX0_spread_46 : decode cX0_spread 46 = .ok (.iaload, 1) := by decide +kernel
theorem dX0_spread_47 : decode cX0_spread 47 = .ok (.iadd, 1) := by decide +kernel
theorem dX0_spread_48 : decode cX0_spread 48 = .ok (.invokevirtual 118, 3) := by decide +kernel
theorem dX0_spread_51 : decode cX0_spread 51 = .ok (.iinc 2 1, 3) := by decide +kernel
theorem dX0_spread_54 : decode cX0_spread 54 = .ok (.goto (-52), 3) := by decide +kernel
theorem dX0_spread_57 : decode cX0_spread 57 = .ok (.return_, 1) := by decide +kernel
theorem dX0_canDo_0 : decode cX0_canDo 0 = .ok (.iload_n 2, 1) := by decide +kernel
theorem dX0_canDo_1 : decode cX0_canDo 1 = .ok (.aload_n 0, 1) := by decide +kernel
theorem dX0_canDo_2 : decode cX0_canDo 2 = .ok (.getfield 13, 3) := by decide +kernel
theorem dX0_canDo_5 : decode cX0_canDo 5 = .ok (.iload_n 1, 1) := by decide +kernel
theorem dX0_canDo_6 : decode cX0_canDo 6 = .ok (.iaload, 1) := by decide +kernel
theorem dX0_canDo_7 : decode cX0_canDo 7 = .ok (.iand, 1) := by decide +kernel
theorem dX0_canDo_8 : decode cX0_canDo 8 = .ok (.aload_n 0, 1) := by decide +kernel
theorem dX0_canDo_9 : decode cX0_canDo 9 = .ok (.getfield 13, 3) := by decide +kernel
theorem dX0_canDo_12 : decode cX0_canDo 12 = .ok (.iload_n 1, 1) := by decide +kernel
theorem dX0_canDo_13 : decode cX0_canDo 13 = .ok (.iaload, 1) := by decide +kernel
theorem dX0_canDo_14 : decode cX0_canDo 14 = .ok (.if_icmp .ne 18, 3) := by decide +kernel
theorem dX0_canDo_17 : decode cX0_canDo 17 = .ok (.iload_n 2, 1) := by decide +kernel
theorem dX0_canDo_18 : decode cX0_canDo 18 = .ok (.aload_n 0, 1) := by decide +kernel
theorem dX0_canDo_19 : decode cX0_canDo 19 = .ok (.getfield 17, 3) := by decide +kernel
theorem dX0_canDo_22 : decode cX0_canDo 22 = .ok (.iload_n 1, 1) := by decide +kernel
theorem dX0_canDo_23 : decode cX0_canDo 23 = .ok (.iaload, 1) := by decide +kernel
theorem dX0_canDo_24 : decode cX0_canDo 24 = .ok (.iand, 1) := by decide +kernel
theorem dX0_canDo_25 : decode cX0_canDo 25 = .ok (.ifCond .ne 7, 3) := by decide +kernel
theorem dX0_canDo_28 : decode cX0_canDo 28 = .ok (.iconst 1, 1) := by decide +kernel
theorem dX0_canDo_29 : decode cX0_canDo 29 = .ok (.goto 4, 3) := by decide +kernel
theorem dX0_canDo_32 : decode cX0_canDo 32 = .ok (.iconst 0, 1) := by decide +kernel
theorem dX0_canDo_33 : decode cX0_canDo 33 = .ok (.ireturn, 1) := by decide +kernel
theorem dX0_after_0 : decode cX0_after 0 = .ok (.iload_n 2, 1) := by decide +kernel
theorem dX0_after_1 : decode cX0_after 1 = .ok (.aload_n 0, 1) := by decide +kernel
theorem dX0_after_2 : decode cX0_after 2 = .ok (.getfield 23, 3) := by decide +kernel
theorem dX0_after_5 : decode cX0_after 5 = .ok (.iload_n 1, 1) := by decide +kernel
theorem dX0_after_6 : decode cX0_after 6 = .ok (.iaload, 1) := by decide +kernel
theorem dX0_after_7 : decode cX0_after 7 = .ok (.iconst (-1), 1) := by decide +kernel
theorem dX0_after_8 : decode cX0_after 8 = .ok (.ixor, 1) := by decide +kernel
theorem dX0_after_9 : decode cX0_after 9 = .ok (.iand, 1) := by decide +kernel
theorem dX0_after_10 : decode cX0_after 10 = .ok (.aload_n 0, 1) := by decide +kernel
theorem dX0_after_11 : decode cX0_after 11 = .ok (.getfield 20, 3) := by decide +kernel
theorem dX0_after_14 : decode cX0_after 14 = .ok (.iload_n 1, 1) := by decide +kernel
theorem dX0_after_15 : decode cX0_after 15 = .ok (.iaload, 1) := by decide +kernel
theorem dX0_after_16 : decode cX0_after 16 = .ok (.ior, 1) := by decide +kernel
theorem dX0_after_17 : decode cX0_after 17 = .ok (.ireturn, 1) := by decide +kernel
theorem dX0_markBest_0 : decode cX0_markBest 0 = .ok (.iconst 0, 1) := by decide +kernel
theorem dX0_markBest_1 : decode cX0_markBest 1 = .ok (.istore_n 2, 1) := by decide +kernel
theorem dX0_markBest_2 : decode cX0_markBest 2 = .ok (.iload_n 2, 1) := by decide +kernel
theorem dX0_markBest_3 : decode cX0_markBest 3 = .ok (.sipush 256, 3) := by decide +kernel
theorem dX0_markBest_6 : decode cX0_markBest 6 = .ok (.if_icmp .ge 16, 3) := by decide +kernel
theorem dX0_markBest_9 : decode cX0_markBest 9 = .ok (.aload_n 0, 1) := by decide +kernel
theorem dX0_markBest_10 : decode cX0_markBest 10 = .ok (.getfield 44, 3) := by decide +kernel
theorem dX0_markBest_13 : decode cX0_markBest 13 = .ok (.iload_n 2, 1) := by decide +kernel
theorem dX0_markBest_14 : decode cX0_markBest 14 = .ok (.iconst 0, 1) := by decide +kernel
theorem dX0_markBest_15 : decode cX0_markBest 15 = .ok (.bastore, 1) := by decide +kernel
theorem dX0_markBest_16 : decode cX0_markBest 16 = .ok (.iinc 2 1, 3) := by decide +kernel
theorem dX0_markBest_19 : decode cX0_markBest 19 = .ok (.goto (-17), 3) := by decide +kernel
theorem dX0_markBest_22 : decode cX0_markBest 22 = .ok (.iconst 0, 1) := by decide +kernel
theorem dX0_markBest_23 : decode cX0_markBest 23 = .ok (.istore_n 2, 1) := by decide +kernel
theorem dX0_markBest_24 : decode cX0_markBest 24 = .ok (.iload_n 2, 1) := by decide +kernel
theorem dX0_markBest_25 : decode cX0_markBest 25 = .ok (.sipush 256, 3) := by decide +kernel
theorem dX0_markBest_28 : decode cX0_markBest 28 = .ok (.if_icmp .ge 93, 3) := by decide +kernel
theorem dX0_markBest_31 : decode cX0_markBest 31 = .ok (.iconst 0, 1) := by decide +kernel
theorem dX0_markBest_32 : decode cX0_markBest 32 = .ok (.istore_n 3, 1) := by decide +kernel
theorem dX0_markBest_33 : decode cX0_markBest 33 = .ok (.aload_n 0, 1) := by decide +kernel
theorem dX0_markBest_34 : decode cX0_markBest 34 = .ok (.getfield 115, 3) := by decide +kernel
theorem dX0_markBest_37 : decode cX0_markBest 37 = .ok (.iconst 1, 1) := by decide +kernel
theorem dX0_markBest_38 : decode cX0_markBest 38 = .ok (.isub, 1) := by decide +kernel
theorem dX0_markBest_39 : decode cX0_markBest 39 = .ok (.istore 4, 2) := by decide +kernel
theorem dX0_markBest_41 : decode cX0_markBest 41 = .ok (.iload 4, 2) := by decide +kernel
theorem dX0_markBest_43 : decode cX0_markBest 43 = .ok (.ifCond .lt 67, 3) := by decide +kernel
end
section
set_option maxRecDepth 100000
theorem dX0_markBest_46 : decode cX0_markBest 46 = .ok (.aload_n 0, 1) := by decide +kernel
theorem dX0_markBest_47 : decode cX0_markBest 47 = .ok (.getfield 41, 3) := by decide +kernel
theorem dX0_markBest_50 : decode cX0_markBest 50 = .ok (.iload 4, 2) := by decide +kernel
theorem dX0_markBest_52 : decode cX0_markBest 52 = .ok (.iaload, 1) := by decide +kernel
theorem dX0_markBest_53 : decode cX0_markBest 53 = .ok (.istore 5, 2) := by decide +kernel
theorem dX0_markBest_55 : decode cX0_markBest 55 = .ok (.aload_n 0, 1) := by decide +kernel
theorem dX0_markBest_56 : decode cX0_markBest 56 = .ok (.getfield 44, 3) := by decide +kernel
theorem dX0_markBest_59 : decode cX0_markBest 59 = .ok (.iload 5, 2) := by decide +kernel
theorem dX0_markBest_61 : decode cX0_markBest 61 = .ok (.baload, 1) := by decide +kernel
theorem dX0_markBest_62 : decode cX0_markBest 62 = .ok (.ifCond .ne 42, 3) := by decide +kernel
theorem dX0_markBest_65 : decode cX0_markBest 65 = .ok (.aload_n 0, 1) := by decide +kernel
theorem dX0_markBest_66 : decode cX0_markBest 66 = .ok (.iload 5, 2) := by decide +kernel
theorem dX0_markBest_68 : decode cX0_markBest 68 = .ok (.invokevirtual 129, 3) := by decide +kernel
theorem dX0_markBest_71 : decode cX0_markBest 71 = .ok (.ifCond .eq 14, 3) := by decide +kernel
theorem dX0_markBest_74 : decode cX0_markBest 74 = .ok (.aload_n 0, 1) := by decide +kernel
theorem dX0_markBest_75 : decode cX0_markBest 75 = .ok (.getfield 32, 3) := by decide +kernel
theorem dX0_markBest_78 : decode cX0_markBest 78 = .ok (.iload 5, 2) := by decide +kernel
theorem dX0_markBest_80 : decode cX0_markBest 80 = .ok (.iaload, 1) := by decide +kernel
theorem dX0_markBest_81 : decode cX0_markBest 81 = .ok (.iload_n 1, 1) := by decide +kernel
theorem dX0_markBest_82 : decode cX0_markBest 82 = .ok (.if_icmp .eq 12, 3) := by decide +kernel
theorem dX0_markBest_85 : decode cX0_markBest 85 = .ok (.aload_n 0, 1) := by decide +kernel
theorem dX0_markBest_86 : decode cX0_markBest 86 = .ok (.iload 5, 2) := by decide +kernel
theorem dX0_markBest_88 : decode cX0_markBest 88 = .ok (.invokevirtual 150, 3) := by decide +kernel
theorem dX0_markBest_91 : decode cX0_markBest 91 = .ok (.ifCond .lt 13, 3) := by decide +kernel
theorem dX0_markBest_94 : decode cX0_markBest 94 = .ok (.aload_n 0, 1) := by decide +kernel
theorem dX0_markBest_95 : decode cX0_markBest 95 = .ok (.getfield 44, 3) := by decide +kernel
theorem dX0_markBest_98 : decode cX0_markBest 98 = .ok (.iload 5, 2) := by decide +kernel
theorem dX0_markBest_100 : decode cX0_markBest 100 = .ok (.iconst 1, 1) := by decide +kernel
theorem dX0_markBest_101 : decode cX0_markBest 101 = .ok (.bastore, 1) := by decide +kernel
theorem dX0_markBest_102 : decode cX0_markBest 102 = .ok (.iconst 1, 1) := by decide +kernel
theorem dX0_markBest_103 : decode cX0_markBest 103 = .ok (.istore_n 3, 1) := by decide +kernel
theorem dX0_markBest_104 : decode cX0_markBest 104 = .ok (.iinc 4 (-1), 3) := by decide +kernel
theorem dX0_markBest_107 : decode cX0_markBest 107 = .ok (.goto (-66), 3) := by decide +kernel
theorem dX0_markBest_110 : decode cX0_markBest 110 = .ok (.iload_n 3, 1) := by decide +kernel
theorem dX0_markBest_111 : decode cX0_markBest 111 = .ok (.ifCond .ne 4, 3) := by decide +kernel
theorem dX0_markBest_114 : decode cX0_markBest 114 = .ok (.return_, 1) := by decide +kernel
theorem dX0_markBest_115 : decode cX0_markBest 115 = .ok (.iinc 2 1, 3) := by decide +kernel
theorem dX0_markBest_118 : decode cX0_markBest 118 = .ok (.goto (-94), 3) := by decide +kernel
theorem dX0_markBest_121 : decode cX0_markBest 121 = .ok (.return_, 1) := by decide +kernel
theorem dX0_bestAction_0 : decode cX0_bestAction 0 = .ok (.aload_n 0, 1) := by decide +kernel
theorem dX0_bestAction_1 : decode cX0_bestAction 1 = .ok (.iload_n 1, 1) := by decide +kernel
theorem dX0_bestAction_2 : decode cX0_bestAction 2 = .ok (.invokevirtual 129, 3) := by decide +kernel
theorem dX0_bestAction_5 : decode cX0_bestAction 5 = .ok (.ifCond .eq 5, 3) := by decide +kernel
theorem dX0_bestAction_8 : decode cX0_bestAction 8 = .ok (.iconst (-1), 1) := by decide +kernel
theorem dX0_bestAction_9 : decode cX0_bestAction 9 = .ok (.ireturn, 1) := by decide +kernel
theorem dX0_bestAction_10 : decode cX0_bestAction 10 = .ok (.iconst 0, 1) := by decide +kernel
theorem dX0_bestAction_11 : decode cX0_bestAction 11 = .ok (.istore_n 2, 1) := by decide +kernel
theorem dX0_bestAction_12 : decode cX0_bestAction 12 = .ok (.iload_n 2, 1) := by decide +kernel
theorem dX0_bestAction_13 : decode cX0_bestAction 13 = .ok (.bipush 10, 2) := by decide +kernel
theorem dX0_bestAction_15 : decode cX0_bestAction 15 = .ok (.if_icmp .ge 67, 3) := by decide +kernel
theorem dX0_bestAction_18 : decode cX0_bestAction 18 = .ok (.aload_n 0, 1) := by decide +kernel
theorem dX0_bestAction_19 : decode cX0_bestAction 19 = .ok (.getfield 7, 3) := by decide +kernel
theorem dX0_bestAction_22 : decode cX0_bestAction 22 = .ok (.iload_n 2, 1) := by decide +kernel
theorem dX0_bestAction_23 : decode cX0_bestAction 23 = .ok (.baload, 1) := by decide +kernel
theorem dX0_bestAction_24 : decode cX0_bestAction 24 = .ok (.ifCond .eq 52, 3) := by decide +kernel
theorem dX0_bestAction_27 : decode cX0_bestAction 27 = .ok (.aload_n 0, 1) := by decide +kernel
theorem dX0_bestAction_28 : decode cX0_bestAction 28 = .ok (.iload_n 2, 1) := by decide +kernel
theorem dX0_bestAction_29 : decode cX0_bestAction 29 = .ok (.iload_n 1, 1) := by decide +kernel
theorem dX0_bestAction_30 : decode cX0_bestAction 30 = .ok (.invokevirtual 89, 3) := by decide +kernel
theorem dX0_bestAction_33 : decode cX0_bestAction 33 = .ok (.ifCond .eq 43, 3) := by decide +kernel
theorem dX0_bestAction_36 : decode cX0_bestAction 36 = .ok (.aload_n 0, 1) := by decide +kernel
theorem dX0_bestAction_37 : decode cX0_bestAction 37 = .ok (.iload_n 2, 1) := by decide +kernel
theorem dX0_bestAction_38 : decode cX0_bestAction 38 = .ok (.iload_n 1, 1) := by decide +kernel
theorem dX0_bestAction_39 : decode cX0_bestAction 39 = .ok (.invokevirtual 93, 3) := by decide +kernel
theorem dX0_bestAction_42 : decode cX0_bestAction 42 = .ok (.istore_n 3, 1) := by decide +kernel
theorem dX0_bestAction_43 : decode cX0_bestAction 43 = .ok (.aload_n 0, 1) := by decide +kernel
theorem dX0_bestAction_44 : decode cX0_bestAction 44 = .ok (.getfield 44, 3) := by decide +kernel
theorem dX0_bestAction_47 : decode cX0_bestAction 47 = .ok (.iload_n 3, 1) := by decide +kernel
theorem dX0_bestAction_48 : decode cX0_bestAction 48 = .ok (.baload, 1) := by decide +kernel
theorem dX0_bestAction_49 : decode cX0_bestAction 49 = .ok (.ifCond .eq 27, 3) := by decide +kernel
theorem dX0_bestAction_52 : decode cX0_bestAction 52 = .ok (.aload_n 0, 1) := by decide +kernel
theorem dX0_bestAction_53 : decode cX0_bestAction 53 = .ok (.getfield 32, 3) := by decide +kernel
theorem dX0_bestAction_56 : decode cX0_bestAction 56 = .ok (.iload_n 3, 1) := by decide +kernel
theorem dX0_bestAction_57 : decode cX0_bestAction 57 = .ok (.iaload, 1) := by decide +kernel
theorem dX0_bestAction_58 : decode cX0_bestAction 58 = .ok (.aload_n 0, 1) := by decide +kernel
theorem dX0_bestAction_59 : decode cX0_bestAction 59 = .ok (.getfield 32, 3) := by decide +kernel
theorem dX0_bestAction_62 : decode cX0_bestAction 62 = .ok (.iload_n 1, 1) := by decide +kernel
theorem dX0_bestAction_63 : decode cX0_bestAction 63 = .ok (.iaload, 1) := by decide +kernel
theorem dX0_bestAction_64 : decode cX0_bestAction 64 = .ok (.aload_n 0, 1) := by decide +kernel
theorem dX0_bestAction_65 : decode cX0_bestAction 65 = .ok (.getfield 26, 3) := by decide +kernel
theorem dX0_bestAction_68 : decode cX0_bestAction 68 = .ok (.iload_n 2, 1) := by decide +kernel
theorem dX0_bestAction_69 : decode cX0_bestAction 69 = .ok (.iaload, 1) := by decide +kernel
theorem dX0_bestAction_70 : decode cX0_bestAction 70 = .ok (.iadd, 1) := by decide +kernel
theorem dX0_bestAction_71 : decode cX0_bestAction 71 = .ok (.if_icmp .ne 5, 3) := by decide +kernel
theorem dX0_bestAction_74 : decode cX0_bestAction 74 = .ok (.iload_n 2, 1) := by decide +kernel
theorem dX0_bestAction_75 : decode cX0_bestAction 75 = .ok (.ireturn, 1) := by decide +kernel
theorem dX0_bestAction_76 : decode cX0_bestAction 76 = .ok (.iinc 2 1, 3) := by decide +kernel
theorem dX0_bestAction_79 : decode cX0_bestAction 79 = .ok (.goto (-67), 3) := by decide +kernel
theorem dX0_bestAction_82 : decode cX0_bestAction 82 = .ok (.iconst (-1), 1) := by decide +kernel
theorem dX0_bestAction_83 : decode cX0_bestAction 83 = .ok (.ireturn, 1) := by decide +kernel
theorem dX0_choosePlan_0 : decode cX0_choosePlan 0 = .ok (.aload_n 0, 1) := by decide +kernel
theorem dX0_choosePlan_1 : decode cX0_choosePlan 1 = .ok (.getfield 68, 3) := by decide +kernel
theorem dX0_choosePlan_4 : decode cX0_choosePlan 4 = .ok (.istore_n 2, 1) := by decide +kernel
theorem dX0_choosePlan_5 : decode cX0_choosePlan 5 = .ok (.iconst 0, 1) := by decide +kernel
theorem dX0_choosePlan_6 : decode cX0_choosePlan 6 = .ok (.istore_n 3, 1) := by decide +kernel
theorem dX0_choosePlan_7 : decode cX0_choosePlan 7 = .ok (.iload_n 3, 1) := by decide +kernel
theorem dX0_choosePlan_8 : decode cX0_choosePlan 8 = .ok (.sipush 255, 3) := by decide +kernel
theorem dX0_choosePlan_11 : decode cX0_choosePlan 11 = .ok (.if_icmp .ge 69, 3) := by decide +kernel
theorem dX0_choosePlan_14 : decode cX0_choosePlan 14 = .ok (.aload_n 0, 1) := by decide +kernel
theorem dX0_choosePlan_15 : decode cX0_choosePlan 15 = .ok (.iload_n 2, 1) := by decide +kernel
theorem dX0_choosePlan_16 : decode cX0_choosePlan 16 = .ok (.invokevirtual 129, 3) := by decide +kernel
theorem dX0_choosePlan_19 : decode cX0_choosePlan 19 = .ok (.ifCond .eq 13, 3) := by decide +kernel
theorem dX0_choosePlan_22 : decode cX0_choosePlan 22 = .ok (.aload_n 0, 1) := by decide +kernel
theorem dX0_choosePlan_23 : decode cX0_choosePlan 23 = .ok (.getfield 32, 3) := by decide +kernel
theorem dX0_choosePlan_26 : decode cX0_choosePlan 26 = .ok (.iload_n 2, 1) := by decide +kernel
theorem dX0_choosePlan_27 : decode cX0_choosePlan 27 = .ok (.iaload, 1) := by decide +kernel
theorem dX0_choosePlan_28 : decode cX0_choosePlan 28 = .ok (.iload_n 1, 1) := by decide +kernel
theorem dX0_choosePlan_29 : decode cX0_choosePlan 29 = .ok (.if_icmp .eq 51, 3) := by decide +kernel
theorem dX0_choosePlan_32 : decode cX0_choosePlan 32 = .ok (.aload_n 0, 1) := by decide +kernel
theorem dX0_choosePlan_33 : decode cX0_choosePlan 33 = .ok (.iload_n 2, 1) := by decide +kernel
theorem dX0_choosePlan_34 : decode cX0_choosePlan 34 = .ok (.invokevirtual 150, 3) := by decide +kernel
theorem dX0_choosePlan_37 : decode cX0_choosePlan 37 = .ok (.istore 4, 2) := by decide +kernel
theorem dX0_choosePlan_39 : decode cX0_choosePlan 39 = .ok (.iload 4, 2) := by decide +kernel
theorem dX0_choosePlan_41 : decode cX0_choosePlan 41 = .ok (.ifCond .ge 4, 3) := by decide +kernel
theorem dX0_choosePlan_44 : decode cX0_choosePlan 44 = .ok (.return_, 1) := by decide +kernel
theorem dX0_choosePlan_45 : decode cX0_choosePlan 45 = .ok (.aload_n 0, 1) := by decide +kernel
theorem dX0_choosePlan_46 : decode cX0_choosePlan 46 = .ok (.getfield 29, 3) := by decide +kernel
theorem dX0_choosePlan_49 : decode cX0_choosePlan 49 = .ok (.aload_n 0, 1) := by decide +kernel
theorem dX0_choosePlan_50 : decode cX0_choosePlan 50 = .ok (.getfield 80, 3) := by decide +kernel
theorem dX0_choosePlan_53 : decode cX0_choosePlan 53 = .ok (.iload 4, 2) := by decide +kernel
theorem dX0_choosePlan_55 : decode cX0_choosePlan 55 = .ok (.iastore, 1) := by decide +kernel
theorem dX0_choosePlan_56 : decode cX0_choosePlan 56 = .ok (.aload_n 0, 1) := by decide +kernel
theorem dX0_choosePlan_57 : decode cX0_choosePlan 57 = .ok (.dup, 1) := by decide +kernel
theorem dX0_choosePlan_58 : decode cX0_choosePlan 58 = .ok (.getfield 80, 3) := by decide +kernel
theorem dX0_choosePlan_61 : decode cX0_choosePlan 61 = .ok (.iconst 1, 1) := by decide +kernel
theorem dX0_choosePlan_62 : decode cX0_choosePlan 62 = .ok (.iadd, 1) := by decide +kernel
theorem dX0_choosePlan_63 : decode cX0_choosePlan 63 = .ok (.putfield 80, 3) := by decide +kernel
theorem dX0_choosePlan_66 : decode cX0_choosePlan 66 = .ok (.aload_n 0, 1) := by decide +kernel
theorem dX0_choosePlan_67 : decode cX0_choosePlan 67 = .ok (.iload 4, 2) := by decide +kernel
theorem dX0_choosePlan_69 : decode cX0_choosePlan 69 = .ok (.iload_n 2, 1) := by decide +kernel
theorem dX0_choosePlan_70 : decode cX0_choosePlan 70 = .ok (.invokevirtual 93, 3) := by decide +kernel
theorem dX0_choosePlan_73 : decode cX0_choosePlan 73 = .ok (.istore_n 2, 1) := by decide +kernel
theorem dX0_choosePlan_74 : decode cX0_choosePlan 74 = .ok (.iinc 3 1, 3) := by decide +kernel
theorem dX0_choosePlan_77 : decode cX0_choosePlan 77 = .ok (.goto (-70), 3) := by decide +kernel
theorem dX0_choosePlan_80 : decode cX0_choosePlan 80 = .ok (.return_, 1) := by decide +kernel
theorem dX0_steps_0 : decode cX0_steps 0 = .ok (.aload_n 0, 1) := by decide +kernel
theorem dX0_steps_1 : decode cX0_steps 1 = .ok (.invokevirtual 71, 3) := by decide +kernel
theorem dX0_steps_4 : decode cX0_steps 4 = .ok (.aload_n 0, 1) := by decide +kernel
theorem dX0_steps_5 : decode cX0_steps 5 = .ok (.getfield 74, 3) := by decide +kernel
theorem dX0_steps_8 : decode cX0_steps 8 = .ok (.ifCond .eq 15, 3) := by decide +kernel
theorem dX0_steps_11 : decode cX0_steps 11 = .ok (.aload_n 0, 1) := by decide +kernel
theorem dX0_steps_12 : decode cX0_steps 12 = .ok (.getfield 80, 3) := by decide +kernel
theorem dX0_steps_15 : decode cX0_steps 15 = .ok (.aload_n 0, 1) := by decide +kernel
theorem dX0_steps_16 : decode cX0_steps 16 = .ok (.getfield 83, 3) := by decide +kernel
theorem dX0_steps_19 : decode cX0_steps 19 = .ok (.isub, 1) := by decide +kernel
theorem dX0_steps_20 : decode cX0_steps 20 = .ok (.goto 4, 3) := by decide +kernel
theorem dX0_steps_23 : decode cX0_steps 23 = .ok (.iconst (-1), 1) := by decide +kernel
theorem dX0_steps_24 : decode cX0_steps 24 = .ok (.ireturn, 1) := by decide +kernel
theorem dX0_planned_0 : decode cX0_planned 0 = .ok (.aload_n 0, 1) := by decide +kernel
theorem dX0_planned_1 : decode cX0_planned 1 = .ok (.invokevirtual 71, 3) := by decide +kernel
theorem dX0_planned_4 : decode cX0_planned 4 = .ok (.aload_n 0, 1) := by decide +kernel
theorem dX0_planned_5 : decode cX0_planned 5 = .ok (.getfield 74, 3) := by decide +kernel
theorem dX0_planned_8 : decode cX0_planned 8 = .ok (.ifCond .eq 20, 3) := by decide +kernel
theorem dX0_planned_11 : decode cX0_planned 11 = .ok (.iload_n 1, 1) := by decide +kernel
theorem dX0_planned_12 : decode cX0_planned 12 = .ok (.ifCond .lt 16, 3) := by decide +kernel
theorem dX0_planned_15 : decode cX0_planned 15 = .ok (.iload_n 1, 1) := by decide +kernel
theorem dX0_planned_16 : decode cX0_planned 16 = .ok (.aload_n 0, 1) := by decide +kernel
theorem dX0_planned_17 : decode cX0_planned 17 = .ok (.getfield 80, 3) := by decide +kernel
theorem dX0_planned_20 : decode cX0_planned 20 = .ok (.aload_n 0, 1) := by decide +kernel
theorem dX0_planned_21 : decode cX0_planned 21 = .ok (.getfield 83, 3) := by decide +kernel
theorem dX0_planned_24 : decode cX0_planned 24 = .ok (.isub, 1) := by decide +kernel
theorem dX0_planned_25 : decode cX0_planned 25 = .ok (.if_icmp .lt 5, 3) := by decide +kernel
theorem dX0_planned_28 : decode cX0_planned 28 = .ok (.iconst (-1), 1) := by decide +kernel
theorem dX0_planned_29 : decode cX0_planned 29 = .ok (.ireturn, 1) := by decide +kernel
theorem dX0_planned_30 : decode cX0_planned 30 = .ok (.aload_n 0, 1) := by decide +kernel
theorem dX0_planned_31 : decode cX0_planned 31 = .ok (.getfield 29, 3) := by decide +kernel
theorem dX0_planned_34 : decode cX0_planned 34 = .ok (.aload_n 0, 1) := by decide +kernel
theorem dX0_planned_35 : decode cX0_planned 35 = .ok (.getfield 83, 3) := by decide +kernel
theorem dX0_planned_38 : decode cX0_planned 38 = .ok (.iload_n 1, 1) := by decide +kernel
theorem dX0_planned_39 : decode cX0_planned 39 = .ok (.iadd, 1) := by decide +kernel
theorem dX0_planned_40 : decode cX0_planned 40 = .ok (.iaload, 1) := by decide +kernel
theorem dX0_planned_41 : decode cX0_planned 41 = .ok (.ireturn, 1) := by decide +kernel
theorem dX0_advance_0 : decode cX0_advance 0 = .ok (.aload_n 0, 1) := by decide +kernel
theorem dX0_advance_1 : decode cX0_advance 1 = .ok (.invokevirtual 71, 3) := by decide +kernel
theorem dX0_advance_4 : decode cX0_advance 4 = .ok (.aload_n 0, 1) := by decide +kernel
theorem dX0_advance_5 : decode cX0_advance 5 = .ok (.getfield 74, 3) := by decide +kernel
theorem dX0_advance_8 : decode cX0_advance 8 = .ok (.ifCond .eq 14, 3) := by decide +kernel
theorem dX0_advance_11 : decode cX0_advance 11 = .ok (.aload_n 0, 1) := by decide +kernel
theorem dX0_advance_12 : decode cX0_advance 12 = .ok (.getfield 83, 3) := by decide +kernel
theorem dX0_advance_15 : decode cX0_advance 15 = .ok (.aload_n 0, 1) := by decide +kernel
theorem dX0_advance_16 : decode cX0_advance 16 = .ok (.getfield 80, 3) := by decide +kernel
theorem dX0_advance_19 : decode cX0_advance 19 = .ok (.if_icmp .lt 5, 3) := by decide +kernel
theorem dX0_advance_22 : decode cX0_advance 22 = .ok (.iconst (-1), 1) := by decide +kernel
theorem dX0_advance_23 : decode cX0_advance 23 = .ok (.ireturn, 1) := by decide +kernel
theorem dX0_advance_24 : decode cX0_advance 24 = .ok (.aload_n 0, 1) := by decide +kernel
theorem dX0_advance_25 : decode cX0_advance 25 = .ok (.getfield 29, 3) := by decide +kernel
theorem dX0_advance_28 : decode cX0_advance 28 = .ok (.aload_n 0, 1) := by decide +kernel
theorem dX0_advance_29 : decode cX0_advance 29 = .ok (.getfield 83, 3) := by decide +kernel
theorem dX0_advance_32 : decode cX0_advance 32 = .ok (.iaload, 1) := by decide +kernel
theorem dX0_advance_33 : decode cX0_advance 33 = .ok (.istore_n 1, 1) := by decide +kernel
theorem dX0_advance_34 : decode cX0_advance 34 = .ok (.aload_n 0, 1) := by decide +kernel
theorem dX0_advance_35 : decode cX0_advance 35 = .ok (.invokevirtual 86, 3) := by decide +kernel
theorem dX0_advance_38 : decode cX0_advance 38 = .ok (.iload_n 1, 1) := by decide +kernel
theorem dX0_advance_39 : decode cX0_advance 39 = .ok (.ireturn, 1) := by decide +kernel
theorem dX0_followPlan_0 : decode cX0_followPlan 0 = .ok (.aload_n 0, 1) := by decide +kernel
theorem dX0_followPlan_1 : decode cX0_followPlan 1 = .ok (.getfield 29, 3) := by decide +kernel
theorem dX0_followPlan_4 : decode cX0_followPlan 4 = .ok (.aload_n 0, 1) := by decide +kernel
theorem dX0_followPlan_5 : decode cX0_followPlan 5 = .ok (.getfield 83, 3) := by decide +kernel
theorem dX0_followPlan_8 : decode cX0_followPlan 8 = .ok (.iaload, 1) := by decide +kernel
theorem dX0_followPlan_9 : decode cX0_followPlan 9 = .ok (.istore_n 1, 1) := by decide +kernel
theorem dX0_followPlan_10 : decode cX0_followPlan 10 = .ok (.aload_n 0, 1) := by decide +kernel
theorem dX0_followPlan_11 : decode cX0_followPlan 11 = .ok (.aload_n 0, 1) := by decide +kernel
theorem dX0_followPlan_12 : decode cX0_followPlan 12 = .ok (.iload_n 1, 1) := by decide +kernel
theorem dX0_followPlan_13 : decode cX0_followPlan 13 = .ok (.aload_n 0, 1) := by decide +kernel
theorem dX0_followPlan_14 : decode cX0_followPlan 14 = .ok (.getfield 68, 3) := by decide +kernel
theorem dX0_followPlan_17 : decode cX0_followPlan 17 = .ok (.invokevirtual 93, 3) := by decide +kernel
theorem dX0_followPlan_20 : decode cX0_followPlan 20 = .ok (.putfield 68, 3) := by decide +kernel
theorem dX0_followPlan_23 : decode cX0_followPlan 23 = .ok (.aload_n 0, 1) := by decide +kernel
theorem dX0_followPlan_24 : decode cX0_followPlan 24 = .ok (.dup, 1) := by decide +kernel
theorem dX0_followPlan_25 : decode cX0_followPlan 25 = .ok (.getfield 77, 3) := by decide +kernel
theorem dX0_followPlan_28 : decode cX0_followPlan 28 = .ok (.aload_n 0, 1) := by decide +kernel
theorem dX0_followPlan_29 : decode cX0_followPlan 29 = .ok (.getfield 26, 3) := by decide +kernel
theorem dX0_followPlan_32 : decode cX0_followPlan 32 = .ok (.iload_n 1, 1) := by decide +kernel
theorem dX0_followPlan_33 : decode cX0_followPlan 33 = .ok (.iaload, 1) := by decide +kernel
theorem dX0_followPlan_34 : decode cX0_followPlan 34 = .ok (.isub, 1) := by decide +kernel
theorem dX0_followPlan_35 : decode cX0_followPlan 35 = .ok (.putfield 77, 3) := by decide +kernel
theorem dX0_followPlan_38 : decode cX0_followPlan 38 = .ok (.aload_n 0, 1) := by decide +kernel
theorem dX0_followPlan_39 : decode cX0_followPlan 39 = .ok (.dup, 1) := by decide +kernel
theorem dX0_followPlan_40 : decode cX0_followPlan 40 = .ok (.getfield 83, 3) := by decide +kernel
theorem dX0_followPlan_43 : decode cX0_followPlan 43 = .ok (.iconst 1, 1) := by decide +kernel
theorem dX0_followPlan_44 : decode cX0_followPlan 44 = .ok (.iadd, 1) := by decide +kernel
theorem dX0_followPlan_45 : decode cX0_followPlan 45 = .ok (.putfield 83, 3) := by decide +kernel
theorem dX0_followPlan_48 : decode cX0_followPlan 48 = .ok (.return_, 1) := by decide +kernel
theorem dX0_act_0 : decode cX0_act 0 = .ok (.aload_n 0, 1) := by decide +kernel
theorem dX0_act_1 : decode cX0_act 1 = .ok (.iload_n 1, 1) := by decide +kernel
theorem dX0_act_2 : decode cX0_act 2 = .ok (.invokevirtual 57, 3) := by decide +kernel
theorem dX0_act_5 : decode cX0_act 5 = .ok (.ifCond .eq 15, 3) := by decide +kernel
theorem dX0_act_8 : decode cX0_act 8 = .ok (.aload_n 0, 1) := by decide +kernel
theorem dX0_act_9 : decode cX0_act 9 = .ok (.iload_n 1, 1) := by decide +kernel
theorem dX0_act_10 : decode cX0_act 10 = .ok (.aload_n 0, 1) := by decide +kernel
theorem dX0_act_11 : decode cX0_act 11 = .ok (.getfield 68, 3) := by decide +kernel
theorem dX0_act_14 : decode cX0_act 14 = .ok (.invokevirtual 89, 3) := by decide +kernel
theorem dX0_act_17 : decode cX0_act 17 = .ok (.ifCond .ne 5, 3) := by decide +kernel
theorem dX0_act_20 : decode cX0_act 20 = .ok (.iconst (-1), 1) := by decide +kernel
theorem dX0_act_21 : decode cX0_act 21 = .ok (.ireturn, 1) := by decide +kernel
theorem dX0_act_22 : decode cX0_act 22 = .ok (.aload_n 0, 1) := by decide +kernel
theorem dX0_act_23 : decode cX0_act 23 = .ok (.getfield 53, 3) := by decide +kernel
theorem dX0_act_26 : decode cX0_act 26 = .ok (.ifCond .eq 40, 3) := by decide +kernel
theorem dX0_act_29 : decode cX0_act 29 = .ok (.aload_n 0, 1) := by decide +kernel
theorem dX0_act_30 : decode cX0_act 30 = .ok (.getfield 74, 3) := by decide +kernel
theorem dX0_act_33 : decode cX0_act 33 = .ok (.ifCond .eq 33, 3) := by decide +kernel
theorem dX0_act_36 : decode cX0_act 36 = .ok (.aload_n 0, 1) := by decide +kernel
theorem dX0_act_37 : decode cX0_act 37 = .ok (.getfield 83, 3) := by decide +kernel
theorem dX0_act_40 : decode cX0_act 40 = .ok (.aload_n 0, 1) := by decide +kernel
theorem dX0_act_41 : decode cX0_act 41 = .ok (.getfield 80, 3) := by decide +kernel
theorem dX0_act_44 : decode cX0_act 44 = .ok (.if_icmp .ge 22, 3) := by decide +kernel
theorem dX0_act_47 : decode cX0_act 47 = .ok (.aload_n 0, 1) := by decide +kernel
theorem dX0_act_48 : decode cX0_act 48 = .ok (.getfield 29, 3) := by decide +kernel
theorem dX0_act_51 : decode cX0_act 51 = .ok (.aload_n 0, 1) := by decide +kernel
theorem dX0_act_52 : decode cX0_act 52 = .ok (.getfield 83, 3) := by decide +kernel
theorem dX0_act_55 : decode cX0_act 55 = .ok (.iaload, 1) := by decide +kernel
theorem dX0_act_56 : decode cX0_act 56 = .ok (.iload_n 1, 1) := by decide +kernel
theorem dX0_act_57 : decode cX0_act 57 = .ok (.if_icmp .ne 9, 3) := by decide +kernel
theorem dX0_act_60 : decode cX0_act 60 = .ok (.aload_n 0, 1) := by decide +kernel
theorem dX0_act_61 : decode cX0_act 61 = .ok (.invokevirtual 86, 3) := by decide +kernel
theorem dX0_act_64 : decode cX0_act 64 = .ok (.iconst 0, 1) := by decide +kernel
theorem dX0_act_65 : decode cX0_act 65 = .ok (.ireturn, 1) := by decide +kernel
theorem dX0_act_66 : decode cX0_act 66 = .ok (.aload_n 0, 1) := by decide +kernel
theorem dX0_act_67 : decode cX0_act 67 = .ok (.iload_n 1, 1) := by decide +kernel
theorem dX0_act_68 : decode cX0_act 68 = .ok (.aload_n 0, 1) := by decide +kernel
theorem dX0_act_69 : decode cX0_act 69 = .ok (.getfield 68, 3) := by decide +kernel
theorem dX0_act_72 : decode cX0_act 72 = .ok (.invokevirtual 93, 3) := by decide +kernel
theorem dX0_act_75 : decode cX0_act 75 = .ok (.istore_n 2, 1) := by decide +kernel
theorem dX0_act_76 : decode cX0_act 76 = .ok (.iload_n 2, 1) := by decide +kernel
theorem dX0_act_77 : decode cX0_act 77 = .ok (.aload_n 0, 1) := by decide +kernel
theorem dX0_act_78 : decode cX0_act 78 = .ok (.getfield 68, 3) := by decide +kernel
theorem dX0_act_81 : decode cX0_act 81 = .ok (.if_icmp .eq 8, 3) := by decide +kernel
theorem dX0_act_84 : decode cX0_act 84 = .ok (.aload_n 0, 1) := by decide +kernel
theorem dX0_act_85 : decode cX0_act 85 = .ok (.iconst 0, 1) := by decide +kernel
theorem dX0_act_86 : decode cX0_act 86 = .ok (.putfield 53, 3) := by decide +kernel
theorem dX0_act_89 : decode cX0_act 89 = .ok (.aload_n 0, 1) := by decide +kernel
theorem dX0_act_90 : decode cX0_act 90 = .ok (.iload_n 2, 1) := by decide +kernel
theorem dX0_act_91 : decode cX0_act 91 = .ok (.putfield 68, 3) := by decide +kernel
theorem dX0_act_94 : decode cX0_act 94 = .ok (.iconst 0, 1) := by decide +kernel
theorem dX0_act_95 : decode cX0_act 95 = .ok (.ireturn, 1) := by decide +kernel
theorem dX0_reachable_0 : decode cX0_reachable 0 = .ok (.iconst 0, 1) := by decide +kernel
theorem dX0_reachable_1 : decode cX0_reachable 1 = .ok (.istore_n 1, 1) := by decide +kernel
theorem dX0_reachable_2 : decode cX0_reachable 2 = .ok (.iload_n 1, 1) := by decide +kernel
theorem dX0_reachable_3 : decode cX0_reachable 3 = .ok (.sipush 256, 3) := by decide +kernel
theorem dX0_reachable_6 : decode cX0_reachable 6 = .ok (.if_icmp .ge 16, 3) := by decide +kernel
theorem dX0_reachable_9 : decode cX0_reachable 9 = .ok (.aload_n 0, 1) := by decide +kernel
theorem dX0_reachable_10 : decode cX0_reachable 10 = .ok (.getfield 44, 3) := by decide +kernel
theorem dX0_reachable_13 : decode cX0_reachable 13 = .ok (.iload_n 1, 1) := by decide +kernel
theorem dX0_reachable_14 : decode cX0_reachable 14 = .ok (.iconst 0, 1) := by decide +kernel
theorem dX0_reachable_15 : decode cX0_reachable 15 = .ok (.bastore, 1) := by decide +kernel
theorem dX0_reachable_16 : decode cX0_reachable 16 = .ok (.iinc 1 1, 3) := by decide +kernel
theorem dX0_reachable_19 : decode cX0_reachable 19 = .ok (.goto (-17), 3) := by decide +kernel
theorem dX0_reachable_22 : decode cX0_reachable 22 = .ok (.aload_n 0, 1) := by decide +kernel
theorem dX0_reachable_23 : decode cX0_reachable 23 = .ok (.getfield 44, 3) := by decide +kernel
theorem dX0_reachable_26 : decode cX0_reachable 26 = .ok (.aload_n 0, 1) := by decide +kernel
theorem dX0_reachable_27 : decode cX0_reachable 27 = .ok (.getfield 68, 3) := by decide +kernel
theorem dX0_reachable_30 : decode cX0_reachable 30 = .ok (.iconst 1, 1) := by decide +kernel
theorem dX0_reachable_31 : decode cX0_reachable 31 = .ok (.bastore, 1) := by decide +kernel
theorem dX0_reachable_32 : decode cX0_reachable 32 = .ok (.aload_n 0, 1) := by decide +kernel
theorem dX0_reachable_33 : decode cX0_reachable 33 = .ok (.getfield 41, 3) := by decide +kernel
theorem dX0_reachable_36 : decode cX0_reachable 36 = .ok (.iconst 0, 1) := by decide +kernel
theorem dX0_reachable_37 : decode cX0_reachable 37 = .ok (.aload_n 0, 1) := by decide +kernel
theorem dX0_reachable_38 : decode cX0_reachable 38 = .ok (.getfield 68, 3) := by decide +kernel
theorem dX0_reachable_41 : decode cX0_reachable 41 = .ok (.iastore, 1) := by decide +kernel
theorem dX0_reachable_42 : decode cX0_reachable 42 = .ok (.iconst 1, 1) := by decide +kernel
theorem dX0_reachable_43 : decode cX0_reachable 43 = .ok (.istore_n 1, 1) := by decide +kernel
theorem dX0_reachable_44 : decode cX0_reachable 44 = .ok (.iconst 0, 1) := by decide +kernel
theorem dX0_reachable_45 : decode cX0_reachable 45 = .ok (.istore_n 2, 1) := by decide +kernel
theorem dX0_reachable_46 : decode cX0_reachable 46 = .ok (.iload_n 2, 1) := by decide +kernel
theorem dX0_reachable_47 : decode cX0_reachable 47 = .ok (.iload_n 1, 1) := by decide +kernel
theorem dX0_reachable_48 : decode cX0_reachable 48 = .ok (.if_icmp .ge 102, 3) := by decide +kernel
theorem dX0_reachable_51 : decode cX0_reachable 51 = .ok (.iload_n 2, 1) := by decide +kernel
theorem dX0_reachable_52 : decode cX0_reachable 52 = .ok (.sipush 256, 3) := by decide +kernel
theorem dX0_reachable_55 : decode cX0_reachable 55 = .ok (.if_icmp .ge 95, 3) := by decide +kernel
theorem dX0_reachable_58 : decode cX0_reachable 58 = .ok (.iconst 0, 1) := by decide +kernel
theorem dX0_reachable_59 : decode cX0_reachable 59 = .ok (.istore_n 3, 1) := by decide +kernel
theorem dX0_reachable_60 : decode cX0_reachable 60 = .ok (.iload_n 3, 1) := by decide +kernel
theorem dX0_reachable_61 : decode cX0_reachable 61 = .ok (.bipush 10, 2) := by decide +kernel
theorem dX0_reachable_63 : decode cX0_reachable 63 = .ok (.if_icmp .ge 81, 3) := by decide +kernel
theorem dX0_reachable_66 : decode cX0_reachable 66 = .ok (.aload_n 0, 1) := by decide +kernel
theorem dX0_reachable_67 : decode cX0_reachable 67 = .ok (.getfield 7, 3) := by decide +kernel
theorem dX0_reachable_70 : decode cX0_reachable 70 = .ok (.iload_n 3, 1) := by decide +kernel
theorem dX0_reachable_71 : decode cX0_reachable 71 = .ok (.baload, 1) := by decide +kernel
theorem dX0_reachable_72 : decode cX0_reachable 72 = .ok (.ifCond .eq 31, 3) := by decide +kernel
theorem dX0_reachable_75 : decode cX0_reachable 75 = .ok (.aload_n 0, 1) := by decide +kernel
theorem dX0_reachable_76 : decode cX0_reachable 76 = .ok (.iload_n 3, 1) := by decide +kernel
theorem dX0_reachable_77 : decode cX0_reachable 77 = .ok (.aload_n 0, 1) := by decide +kernel
theorem dX0_reachable_78 : decode cX0_reachable 78 = .ok (.getfield 41, 3) := by decide +kernel
theorem dX0_reachable_81 : decode cX0_reachable 81 = .ok (.iload_n 2, 1) := by decide +kernel
theorem dX0_reachable_82 : decode cX0_reachable 82 = .ok (.iaload, 1) := by decide +kernel
theorem dX0_reachable_83 : decode cX0_reachable 83 = .ok (.invokevirtual 89, 3) := by decide +kernel
theorem dX0_reachable_86 : decode cX0_reachable 86 = .ok (.ifCond .eq 17, 3) := by decide +kernel
theorem dX0_reachable_89 : decode cX0_reachable 89 = .ok (.aload_n 0, 1) := by decide +kernel
theorem dX0_reachable_90 : decode cX0_reachable 90 = .ok (.iload_n 3, 1) := by decide +kernel
theorem dX0_reachable_91 : decode cX0_reachable 91 = .ok (.aload_n 0, 1) := by decide +kernel
theorem dX0_reachable_92 : decode cX0_reachable 92 = .ok (.getfield 41, 3) := by decide +kernel
theorem dX0_reachable_95 : decode cX0_reachable 95 = .ok (.iload_n 2, 1) := by decide +kernel
theorem dX0_reachable_96 : decode cX0_reachable 96 = .ok (.iaload, 1) := by decide +kernel
theorem dX0_reachable_97 : decode cX0_reachable 97 = .ok (.invokevirtual 93, 3) := by decide +kernel
theorem dX0_reachable_100 : decode cX0_reachable 100 = .ok (.goto 7, 3) := by decide +kernel
theorem dX0_reachable_103 : decode cX0_reachable 103 = .ok (.aload_n 0, 1) := by decide +kernel
theorem dX0_reachable_104 : decode cX0_reachable 104 = .ok (.getfield 68, 3) := by decide +kernel
theorem dX0_reachable_107 : decode cX0_reachable 107 = .ok (.istore 4, 2) := by decide +kernel
theorem dX0_reachable_109 : decode cX0_reachable 109 = .ok (.aload_n 0, 1) := by decide +kernel
theorem dX0_reachable_110 : decode cX0_reachable 110 = .ok (.getfield 44, 3) := by decide +kernel
theorem dX0_reachable_113 : decode cX0_reachable 113 = .ok (.iload 4, 2) := by decide +kernel
theorem dX0_reachable_115 : decode cX0_reachable 115 = .ok (.baload, 1) := by decide +kernel
theorem dX0_reachable_116 : decode cX0_reachable 116 = .ok (.ifCond .ne 22, 3) := by decide +kernel
theorem dX0_reachable_119 : decode cX0_reachable 119 = .ok (.aload_n 0, 1) := by decide +kernel
theorem dX0_reachable_120 : decode cX0_reachable 120 = .ok (.getfield 44, 3) := by decide +kernel
theorem dX0_reachable_123 : decode cX0_reachable 123 = .ok (.iload 4, 2) := by decide +kernel
theorem dX0_reachable_125 : decode cX0_reachable 125 = .ok (.iconst 1, 1) := by decide +kernel
theorem dX0_reachable_126 : decode cX0_reachable 126 = .ok (.bastore, 1) := by decide +kernel
theorem dX0_reachable_127 : decode cX0_reachable 127 = .ok (.aload_n 0, 1) := by decide +kernel
theorem dX0_reachable_128 : decode cX0_reachable 128 = .ok (.getfield 41, 3) := by decide +kernel
theorem dX0_reachable_131 : decode cX0_reachable 131 = .ok (.iload_n 1, 1) := by decide +kernel
theorem dX0_reachable_132 : decode cX0_reachable 132 = .ok (.iload 4, 2) := by decide +kernel
theorem dX0_reachable_134 : decode cX0_reachable 134 = .ok (.iastore, 1) := by decide +kernel
theorem dX0_reachable_135 : decode cX0_reachable 135 = .ok (.iinc 1 1, 3) := by decide +kernel
theorem dX0_reachable_138 : decode cX0_reachable 138 = .ok (.iinc 3 1, 3) := by decide +kernel
theorem dX0_reachable_141 : decode cX0_reachable 141 = .ok (.goto (-81), 3) := by decide +kernel
theorem dX0_reachable_144 : decode cX0_reachable 144 = .ok (.iinc 2 1, 3) := by decide +kernel
theorem dX0_reachable_147 : decode cX0_reachable 147 = .ok (.goto (-101), 3) := by decide +kernel
theorem dX0_reachable_150 : decode cX0_reachable 150 = .ok (.iload_n 1, 1) := by decide +kernel
theorem dX0_reachable_151 : decode cX0_reachable 151 = .ok (.ireturn, 1) := by decide +kernel
end
section
set_option maxRecDepth 100000
theorem dX1_init_0 : decode cX1_init 0 = .ok (.aload_n 0, 1) := by decide +kernel
theorem dX1_init_1 : decode cX1_init 1 = .ok (.invokespecial 1, 3) := by decide +kernel
theorem dX1_init_4 : decode cX1_init 4 = .ok (.aload_n 0, 1) := by decide +kernel
theorem dX1_init_5 : decode cX1_init 5 = .ok (.bipush 10, 2) := by decide +kernel
theorem dX1_init_7 : decode cX1_init 7 = .ok (.newarray .boolean, 2) := by decide +kernel
theorem dX1_init_9 : decode cX1_init 9 = .ok (.putfield 7, 3) := by decide +kernel
theorem dX1_init_12 : decode cX1_init 12 = .ok (.aload_n 0, 1) := by decide +kernel
theorem dX1_init_13 : decode cX1_init 13 = .ok (.bipush 10, 2) := by decide +kernel
theorem dX1_init_15 : decode cX1_init 15 = .ok (.newarray .int, 2) := by decide +kernel
theorem dX1_init_17 : decode cX1_init 17 = .ok (.putfield 13, 3) := by decide +kernel
theorem dX1_init_20 : decode cX1_init 20 = .ok (.aload_n 0, 1) := by decide +kernel
theorem dX1_init_21 : decode cX1_init 21 = .ok (.bipush 10, 2) := by decide +kernel
theorem dX1_init_23 : decode cX1_init 23 = .ok (.newarray .int, 2) := by decide +kernel
theorem dX1_init_25 : decode cX1_init 25 = .ok (.putfield 17, 3) := by decide +kernel
theorem dX1_init_28 : decode cX1_init 28 = .ok (.aload_n 0, 1) := by decide +kernel
theorem dX1_init_29 : decode cX1_init 29 = .ok (.bipush 10, 2) := by decide +kernel
theorem dX1_init_31 : decode cX1_init 31 = .ok (.newarray .int, 2) := by decide +kernel
theorem dX1_init_33 : decode cX1_init 33 = .ok (.putfield 20, 3) := by decide +kernel
theorem dX1_init_36 : decode cX1_init 36 = .ok (.aload_n 0, 1) := by decide +kernel
theorem dX1_init_37 : decode cX1_init 37 = .ok (.bipush 10, 2) := by decide +kernel
theorem dX1_init_39 : decode cX1_init 39 = .ok (.newarray .int, 2) := by decide +kernel
theorem dX1_init_41 : decode cX1_init 41 = .ok (.putfield 23, 3) := by decide +kernel
theorem dX1_init_44 : decode cX1_init 44 = .ok (.aload_n 0, 1) := by decide +kernel
theorem dX1_init_45 : decode cX1_init 45 = .ok (.bipush 10, 2) := by decide +kernel
theorem dX1_init_47 : decode cX1_init 47 = .ok (.newarray .int, 2) := by decide +kernel
theorem dX1_init_49 : decode cX1_init 49 = .ok (.putfield 26, 3) := by decide +kernel
theorem dX1_init_52 : decode cX1_init 52 = .ok (.aload_n 0, 1) := by decide +kernel
theorem dX1_init_53 : decode cX1_init 53 = .ok (.sipush 256, 3) := by decide +kernel
theorem dX1_init_56 : decode cX1_init 56 = .ok (.newarray .int, 2) := by decide +kernel
theorem dX1_init_58 : decode cX1_init 58 = .ok (.putfield 29, 3) := by decide +kernel
theorem dX1_init_61 : decode cX1_init 61 = .ok (.aload_n 0, 1) := by decide +kernel
theorem dX1_init_62 : decode cX1_init 62 = .ok (.sipush 256, 3) := by decide +kernel
theorem dX1_init_65 : decode cX1_init 65 = .ok (.newarray .boolean, 2) := by decide +kernel
theorem dX1_init_67 : decode cX1_init 67 = .ok (.putfield 32, 3) := by decide +kernel
theorem dX1_init_70 : decode cX1_init 70 = .ok (.return_, 1) := by decide +kernel
theorem dX1_require_0 : decode cX1_require 0 = .ok (.iload_n 1, 1) := by decide +kernel
theorem dX1_require_1 : decode cX1_require 1 = .ok (.invokestatic 35, 3) := by decide +kernel
theorem dX1_require_4 : decode cX1_require 4 = .ok (.ifCond .eq 5, 3) := by decide +kernel
theorem dX1_require_7 : decode cX1_require 7 = .ok (.iconst (-1), 1) := by decide +kernel
theorem dX1_require_8 : decode cX1_require 8 = .ok (.ireturn, 1) := by decide +kernel
theorem dX1_require_9 : decode cX1_require 9 = .ok (.aload_n 0, 1) := by decide +kernel
theorem dX1_require_10 : decode cX1_require 10 = .ok (.getfield 7, 3) := by decide +kernel
theorem dX1_require_13 : decode cX1_require 13 = .ok (.iload_n 1, 1) := by decide +kernel
theorem dX1_require_14 : decode cX1_require 14 = .ok (.baload, 1) := by decide +kernel
theorem dX1_require_15 : decode cX1_require 15 = .ok (.ifCond .ne 31, 3) := by decide +kernel
theorem dX1_require_18 : decode cX1_require 18 = .ok (.aload_n 0, 1) := by decide +kernel
theorem dX1_require_19 : decode cX1_require 19 = .ok (.getfield 7, 3) := by decide +kernel
theorem dX1_require_22 : decode cX1_require 22 = .ok (.iload_n 1, 1) := by decide +kernel
theorem dX1_require_23 : decode cX1_require 23 = .ok (.iconst 1, 1) := by decide +kernel
theorem dX1_require_24 : decode cX1_require 24 = .ok (.bastore, 1) := by decide +kernel
theorem dX1_require_25 : decode cX1_require 25 = .ok (.aload_n 0, 1) := by decide +kernel
theorem dX1_require_26 : decode cX1_require 26 = .ok (.getfield 20, 3) := by decide +kernel
theorem dX1_require_29 : decode cX1_require 29 = .ok (.iload_n 1, 1) := by decide +kernel
theorem dX1_require_30 : decode cX1_require 30 = .ok (.iconst 0, 1) := by decide +kernel
theorem dX1_require_31 : decode cX1_require 31 = .ok (.iastore, 1) := by decide +kernel
theorem dX1_require_32 : decode cX1_require 32 = .ok (.aload_n 0, 1) := by decide +kernel
theorem dX1_require_33 : decode cX1_require 33 = .ok (.getfield 23, 3) := by decide +kernel
theorem dX1_require_36 : decode cX1_require 36 = .ok (.iload_n 1, 1) := by decide +kernel
theorem dX1_require_37 : decode cX1_require 37 = .ok (.iconst 0, 1) := by decide +kernel
theorem dX1_require_38 : decode cX1_require 38 = .ok (.iastore, 1) := by decide +kernel
theorem dX1_require_39 : decode cX1_require 39 = .ok (.aload_n 0, 1) := by decide +kernel
theorem dX1_require_40 : decode cX1_require 40 = .ok (.getfield 26, 3) := by decide +kernel
theorem dX1_require_43 : decode cX1_require 43 = .ok (.iload_n 1, 1) := by decide +kernel
theorem dX1_require_44 : decode cX1_require 44 = .ok (.iconst 1, 1) := by decide +kernel
theorem dX1_require_45 : decode cX1_require 45 = .ok (.iastore, 1) := by decide +kernel
theorem dX1_require_46 : decode cX1_require 46 = .ok (.aload_n 0, 1) := by decide +kernel
theorem dX1_require_47 : decode cX1_require 47 = .ok (.getfield 13, 3) := by decide +kernel
theorem dX1_require_50 : decode cX1_require 50 = .ok (.iload_n 1, 1) := by decide +kernel
theorem dX1_require_51 : decode cX1_require 51 = .ok (.iload_n 2, 1) := by decide +kernel
theorem dX1_require_52 : decode cX1_require 52 = .ok (.sipush 255, 3) := by decide +kernel
theorem dX1_require_55 : decode cX1_require 55 = .ok (.iand, 1) := by decide +kernel
theorem dX1_require_56 : decode cX1_require 56 = .ok (.iastore, 1) := by decide +kernel
theorem dX1_require_57 : decode cX1_require 57 = .ok (.aload_n 0, 1) := by decide +kernel
theorem dX1_require_58 : decode cX1_require 58 = .ok (.getfield 17, 3) := by decide +kernel
theorem dX1_require_61 : decode cX1_require 61 = .ok (.iload_n 1, 1) := by decide +kernel
theorem dX1_require_62 : decode cX1_require 62 = .ok (.iload_n 3, 1) := by decide +kernel
theorem dX1_require_63 : decode cX1_require 63 = .ok (.sipush 255, 3) := by decide +kernel
theorem dX1_require_66 : decode cX1_require 66 = .ok (.iand, 1) := by decide +kernel
theorem dX1_require_67 : decode cX1_require 67 = .ok (.iastore, 1) := by decide +kernel
theorem dX1_require_68 : decode cX1_require 68 = .ok (.iconst 0, 1) := by decide +kernel
theorem dX1_require_69 : decode cX1_require 69 = .ok (.ireturn, 1) := by decide +kernel
theorem dX1_bad_0 : decode cX1_bad 0 = .ok (.iload_n 0, 1) := by decide +kernel
theorem dX1_bad_1 : decode cX1_bad 1 = .ok (.ifCond .lt 9, 3) := by decide +kernel
theorem dX1_bad_4 : decode cX1_bad 4 = .ok (.iload_n 0, 1) := by decide +kernel
theorem dX1_bad_5 : decode cX1_bad 5 = .ok (.bipush 9, 2) := by decide +kernel
theorem dX1_bad_7 : decode cX1_bad 7 = .ok (.if_icmp .le 7, 3) := by decide +kernel
theorem dX1_bad_10 : decode cX1_bad 10 = .ok (.iconst 1, 1) := by decide +kernel
theorem dX1_bad_11 : decode cX1_bad 11 = .ok (.goto 4, 3) := by decide +kernel
theorem dX1_bad_14 : decode cX1_bad 14 = .ok (.iconst 0, 1) := by decide +kernel
theorem dX1_bad_15 : decode cX1_bad 15 = .ok (.ireturn, 1) := by decide +kernel
theorem dX1_effect_0 : decode cX1_effect 0 = .ok (.iload_n 1, 1) := by decide +kernel
theorem dX1_effect_1 : decode cX1_effect 1 = .ok (.invokestatic 35, 3) := by decide +kernel
theorem dX1_effect_4 : decode cX1_effect 4 = .ok (.ifCond .ne 12, 3) := by decide +kernel
theorem dX1_effect_7 : decode cX1_effect 7 = .ok (.aload_n 0, 1) := by decide +kernel
theorem dX1_effect_8 : decode cX1_effect 8 = .ok (.getfield 7, 3) := by decide +kernel
theorem dX1_effect_11 : decode cX1_effect 11 = .ok (.iload_n 1, 1) := by decide +kernel
theorem dX1_effect_12 : decode cX1_effect 12 = .ok (.baload, 1) := by decide +kernel
theorem dX1_effect_13 : decode cX1_effect 13 = .ok (.ifCond .ne 5, 3) := by decide +kernel
theorem dX1_effect_16 : decode cX1_effect 16 = .ok (.iconst (-1), 1) := by decide +kernel
theorem dX1_effect_17 : decode cX1_effect 17 = .ok (.ireturn, 1) := by decide +kernel
theorem dX1_effect_18 : decode cX1_effect 18 = .ok (.aload_n 0, 1) := by decide +kernel
theorem dX1_effect_19 : decode cX1_effect 19 = .ok (.getfield 20, 3) := by decide +kernel
theorem dX1_effect_22 : decode cX1_effect 22 = .ok (.iload_n 1, 1) := by decide +kernel
theorem dX1_effect_23 : decode cX1_effect 23 = .ok (.iload_n 2, 1) := by decide +kernel
theorem dX1_effect_24 : decode cX1_effect 24 = .ok (.sipush 255, 3) := by decide +kernel
theorem dX1_effect_27 : decode cX1_effect 27 = .ok (.iand, 1) := by decide +kernel
theorem dX1_effect_28 : decode cX1_effect 28 = .ok (.iastore, 1) := by decide +kernel
theorem dX1_effect_29 : decode cX1_effect 29 = .ok (.aload_n 0, 1) := by decide +kernel
theorem dX1_effect_30 : decode cX1_effect 30 = .ok (.getfield 23, 3) := by decide +kernel
theorem dX1_effect_33 : decode cX1_effect 33 = .ok (.iload_n 1, 1) := by decide +kernel
theorem dX1_effect_34 : decode cX1_effect 34 = .ok (.iload_n 3, 1) := by decide +kernel
theorem dX1_effect_35 : decode cX1_effect 35 = .ok (.sipush 255, 3) := by decide +kernel
theorem dX1_effect_38 : decode cX1_effect 38 = .ok (.iand, 1) := by decide +kernel
theorem dX1_effect_39 : decode cX1_effect 39 = .ok (.iastore, 1) := by decide +kernel
theorem dX1_effect_40 : decode cX1_effect 40 = .ok (.aload_n 0, 1) := by decide +kernel
theorem dX1_effect_41 : decode cX1_effect 41 = .ok (.getfield 26, 3) := by decide +kernel
theorem dX1_effect_44 : decode cX1_effect 44 = .ok (.iload_n 1, 1) := by decide +kernel
theorem dX1_effect_45 : decode cX1_effect 45 = .ok (.iload 4, 2) := by decide +kernel
theorem dX1_effect_47 : decode cX1_effect 47 = .ok (.iconst 1, 1) := by decide +kernel
theorem dX1_effect_48 : decode cX1_effect 48 = .ok (.if_icmp .ge 7, 3) := by decide +kernel
theorem dX1_effect_51 : decode cX1_effect 51 = .ok (.iconst 1, 1) := by decide +kernel
theorem dX1_effect_52 : decode cX1_effect 52 = .ok (.goto 17, 3) := by decide +kernel
theorem dX1_effect_55 : decode cX1_effect 55 = .ok (.iload 4, 2) := by decide +kernel
theorem dX1_effect_57 : decode cX1_effect 57 = .ok (.bipush 50, 2) := by decide +kernel
theorem dX1_effect_59 : decode cX1_effect 59 = .ok (.if_icmp .le 8, 3) := by decide +kernel
theorem dX1_effect_62 : decode cX1_effect 62 = .ok (.bipush 50, 2) := by decide +kernel
theorem dX1_effect_64 : decode cX1_effect 64 = .ok (.goto 5, 3) := by decide +kernel
theorem dX1_effect_67 : decode cX1_effect 67 = .ok (.iload 4, 2) := by decide +kernel
theorem dX1_effect_69 : decode cX1_effect 69 = .ok (.iastore, 1) := by decide +kernel
theorem dX1_effect_70 : decode cX1_effect 70 = .ok (.iconst 0, 1) := by decide +kernel
theorem dX1_effect_71 : decode cX1_effect 71 = .ok (.ireturn, 1) := by decide +kernel
theorem dX1_forget_0 : decode cX1_forget 0 = .ok (.iload_n 1, 1) := by decide +kernel
theorem dX1_forget_1 : decode cX1_forget 1 = .ok (.invokestatic 35, 3) := by decide +kernel
theorem dX1_forget_4 : decode cX1_forget 4 = .ok (.ifCond .ne 12, 3) := by decide +kernel
theorem dX1_forget_7 : decode cX1_forget 7 = .ok (.aload_n 0, 1) := by decide +kernel
theorem dX1_forget_8 : decode cX1_forget 8 = .ok (.getfield 7, 3) := by decide +kernel
theorem dX1_forget_11 : decode cX1_forget 11 = .ok (.iload_n 1, 1) := by decide +kernel
theorem dX1_forget_12 : decode cX1_forget 12 = .ok (.baload, 1) := by decide +kernel
theorem dX1_forget_13 : decode cX1_forget 13 = .ok (.ifCond .ne 5, 3) := by decide +kernel
theorem dX1_forget_16 : decode cX1_forget 16 = .ok (.iconst (-1), 1) := by decide +kernel
theorem dX1_forget_17 : decode cX1_forget 17 = .ok (.ireturn, 1) := by decide +kernel
theorem dX1_forget_18 : decode cX1_forget 18 = .ok (.aload_n 0, 1) := by decide +kernel
theorem dX1_forget_19 : decode cX1_forget 19 = .ok (.getfield 7, 3) := by decide +kernel
theorem dX1_forget_22 : decode cX1_forget 22 = .ok (.iload_n 1, 1) := by decide +kernel
theorem dX1_forget_23 : decode cX1_forget 23 = .ok (.iconst 0, 1) := by decide +kernel
theorem dX1_forget_24 : decode cX1_forget 24 = .ok (.bastore, 1) := by decide +kernel
theorem dX1_forget_25 : decode cX1_forget 25 = .ok (.iconst 0, 1) := by decide +kernel
theorem dX1_forget_26 : decode cX1_forget 26 = .ok (.ireturn, 1) := by decide +kernel
theorem dX1_want_0 : decode cX1_want 0 = .ok (.aload_n 0, 1) := by decide +kernel
theorem dX1_want_1 : decode cX1_want 1 = .ok (.iload_n 1, 1) := by decide +kernel
theorem dX1_want_2 : decode cX1_want 2 = .ok (.sipush 255, 3) := by decide +kernel
theorem dX1_want_5 : decode cX1_want 5 = .ok (.iand, 1) := by decide +kernel
theorem dX1_want_6 : decode cX1_want 6 = .ok (.putfield 39, 3) := by decide +kernel
theorem dX1_want_9 : decode cX1_want 9 = .ok (.aload_n 0, 1) := by decide +kernel
theorem dX1_want_10 : decode cX1_want 10 = .ok (.iload_n 2, 1) := by decide +kernel
theorem dX1_want_11 : decode cX1_want 11 = .ok (.sipush 255, 3) := by decide +kernel
theorem dX1_want_14 : decode cX1_want 14 = .ok (.iand, 1) := by decide +kernel
theorem dX1_want_15 : decode cX1_want 15 = .ok (.putfield 43, 3) := by decide +kernel
theorem dX1_want_18 : decode cX1_want 18 = .ok (.return_, 1) := by decide +kernel
theorem dX1_observe_0 : decode cX1_observe 0 = .ok (.aload_n 0, 1) := by decide +kernel
theorem dX1_observe_1 : decode cX1_observe 1 = .ok (.iload_n 1, 1) := by decide +kernel
theorem dX1_observe_2 : decode cX1_observe 2 = .ok (.sipush 255, 3) := by decide +kernel
theorem dX1_observe_5 : decode cX1_observe 5 = .ok (.iand, 1) := by decide +kernel
theorem dX1_observe_6 : decode cX1_observe 6 = .ok (.putfield 46, 3) := by decide +kernel
theorem dX1_observe_9 : decode cX1_observe 9 = .ok (.return_, 1) := by decide +kernel
theorem dX1_now_0 : decode cX1_now 0 = .ok (.aload_n 0, 1) := by decide +kernel
theorem dX1_now_1 : decode cX1_now 1 = .ok (.getfield 46, 3) := by decide +kernel
theorem dX1_now_4 : decode cX1_now 4 = .ok (.ireturn, 1) := by decide +kernel
theorem dX1_price_0 : decode cX1_price 0 = .ok (.aload_n 0, 1) := by decide +kernel
theorem dX1_price_1 : decode cX1_price 1 = .ok (.invokevirtual 64, 3) := by decide +kernel
theorem dX1_price_4 : decode cX1_price 4 = .ok (.aload_n 0, 1) := by decide +kernel
theorem dX1_price_5 : decode cX1_price 5 = .ok (.getfield 29, 3) := by decide +kernel
theorem dX1_price_8 : decode cX1_price 8 = .ok (.aload_n 0, 1) := by decide +kernel
theorem dX1_price_9 : decode cX1_price 9 = .ok (.getfield 46, 3) := by decide +kernel
theorem dX1_price_12 : decode cX1_price 12 = .ok (.iaload, 1) := by decide +kernel
theorem dX1_price_13 : decode cX1_price 13 = .ok (.ldc 60, 2) := by decide +kernel
theorem dX1_price_15 : decode cX1_price 15 = .ok (.if_icmp .ge 15, 3) := by decide +kernel
theorem dX1_price_18 : decode cX1_price 18 = .ok (.aload_n 0, 1) := by decide +kernel
theorem dX1_price_19 : decode cX1_price 19 = .ok (.getfield 29, 3) := by decide +kernel
theorem dX1_price_22 : decode cX1_price 22 = .ok (.aload_n 0, 1) := by decide +kernel
theorem dX1_price_23 : decode cX1_price 23 = .ok (.getfield 46, 3) := by decide +kernel
theorem dX1_price_26 : decode cX1_price 26 = .ok (.iaload, 1) := by decide +kernel
theorem dX1_price_27 : decode cX1_price 27 = .ok (.goto 4, 3) := by decide +kernel
theorem dX1_price_30 : decode cX1_price 30 = .ok (.iconst (-1), 1) := by decide +kernel
theorem dX1_price_31 : decode cX1_price 31 = .ok (.ireturn, 1) := by decide +kernel
theorem dX1_work_0 : decode cX1_work 0 = .ok (.iconst 0, 1) := by decide +kernel
theorem dX1_work_1 : decode cX1_work 1 = .ok (.istore_n 1, 1) := by decide +kernel
theorem dX1_work_2 : decode cX1_work 2 = .ok (.iload_n 1, 1) := by decide +kernel
theorem dX1_work_3 : decode cX1_work 3 = .ok (.sipush 256, 3) := by decide +kernel
theorem dX1_work_6 : decode cX1_work 6 = .ok (.if_icmp .ge 29, 3) := by decide +kernel
theorem dX1_work_9 : decode cX1_work 9 = .ok (.aload_n 0, 1) := by decide +kernel
theorem dX1_work_10 : decode cX1_work 10 = .ok (.getfield 29, 3) := by decide +kernel
theorem dX1_work_13 : decode cX1_work 13 = .ok (.iload_n 1, 1) := by decide +kernel
theorem dX1_work_14 : decode cX1_work 14 = .ok (.aload_n 0, 1) := by decide +kernel
theorem dX1_work_15 : decode cX1_work 15 = .ok (.iload_n 1, 1) := by decide +kernel
theorem dX1_work_16 : decode cX1_work 16 = .ok (.invokevirtual 57, 3) := by decide +kernel
theorem dX1_work_19 : decode cX1_work 19 = .ok (.ifCond .eq 7, 3) := by decide +kernel
theorem dX1_work_22 : decode cX1_work 22 = .ok (.iconst 0, 1) := by decide +kernel
theorem dX1_work_23 : decode cX1_work 23 = .ok (.goto 5, 3) := by decide +kernel
theorem dX1_work_26 : decode cX1_work 26 = .ok (.ldc 60, 2) := by decide +kernel
theorem dX1_work_28 : decode cX1_work 28 = .ok (.iastore, 1) := by decide +kernel
theorem dX1_work_29 : decode cX1_work 29 = .ok (.iinc 1 1, 3) := by decide +kernel
theorem dX1_work_32 : decode cX1_work 32 = .ok (.goto (-30), 3) := by decide +kernel
theorem dX1_work_35 : decode cX1_work 35 = .ok (.iconst 1, 1) := by decide +kernel
theorem dX1_work_36 : decode cX1_work 36 = .ok (.istore_n 1, 1) := by decide +kernel
theorem dX1_work_37 : decode cX1_work 37 = .ok (.iconst 0, 1) := by decide +kernel
theorem dX1_work_38 : decode cX1_work 38 = .ok (.istore_n 2, 1) := by decide +kernel
theorem dX1_work_39 : decode cX1_work 39 = .ok (.iload_n 2, 1) := by decide +kernel
theorem dX1_work_40 : decode cX1_work 40 = .ok (.sipush 256, 3) := by decide +kernel
theorem dX1_work_43 : decode cX1_work 43 = .ok (.if_icmp .ge 40, 3) := by decide +kernel
theorem dX1_work_46 : decode cX1_work 46 = .ok (.iload_n 1, 1) := by decide +kernel
theorem dX1_work_47 : decode cX1_work 47 = .ok (.ifCond .eq 36, 3) := by decide +kernel
theorem dX1_work_50 : decode cX1_work 50 = .ok (.iconst 0, 1) := by decide +kernel
theorem dX1_work_51 : decode cX1_work 51 = .ok (.istore_n 1, 1) := by decide +kernel
theorem dX1_work_52 : decode cX1_work 52 = .ok (.iconst 0, 1) := by decide +kernel
theorem dX1_work_53 : decode cX1_work 53 = .ok (.istore_n 3, 1) := by decide +kernel
theorem dX1_work_54 : decode cX1_work 54 = .ok (.iload_n 3, 1) := by decide +kernel
theorem dX1_work_55 : decode cX1_work 55 = .ok (.sipush 256, 3) := by decide +kernel
theorem dX1_work_58 : decode cX1_work 58 = .ok (.if_icmp .ge 19, 3) := by decide +kernel
theorem dX1_work_61 : decode cX1_work 61 = .ok (.aload_n 0, 1) := by decide +kernel
theorem dX1_work_62 : decode cX1_work 62 = .ok (.iload_n 3, 1) := by decide +kernel
theorem dX1_work_63 : decode cX1_work 63 = .ok (.invokevirtual 61, 3) := by decide +kernel
theorem dX1_work_66 : decode cX1_work 66 = .ok (.ifCond .eq 5, 3) := by decide +kernel
theorem dX1_work_69 : decode cX1_work 69 = .ok (.iconst 1, 1) := by decide +kernel
theorem dX1_work_70 : decode cX1_work 70 = .ok (.istore_n 1, 1) := by decide +kernel
theorem dX1_work_71 : decode cX1_work 71 = .ok (.iinc 3 1, 3) := by decide +kernel
theorem dX1_work_74 : decode cX1_work 74 = .ok (.goto (-20), 3) := by decide +kernel
theorem dX1_work_77 : decode cX1_work 77 = .ok (.iinc 2 1, 3) := by decide +kernel
theorem dX1_work_80 : decode cX1_work 80 = .ok (.goto (-41), 3) := by decide +kernel
theorem dX1_work_83 : decode cX1_work 83 = .ok (.return_, 1) := by decide +kernel
theorem dX1_wanted_0 : decode cX1_wanted 0 = .ok (.iload_n 1, 1) := by decide +kernel
theorem dX1_wanted_1 : decode cX1_wanted 1 = .ok (.aload_n 0, 1) := by decide +kernel
theorem dX1_wanted_2 : decode cX1_wanted 2 = .ok (.getfield 39, 3) := by decide +kernel
theorem dX1_wanted_5 : decode cX1_wanted 5 = .ok (.iand, 1) := by decide +kernel
theorem dX1_wanted_6 : decode cX1_wanted 6 = .ok (.aload_n 0, 1) := by decide +kernel
theorem dX1_wanted_7 : decode cX1_wanted 7 = .ok (.getfield 39, 3) := by decide +kernel
theorem dX1_wanted_10 : decode cX1_wanted 10 = .ok (.if_icmp .ne 16, 3) := by decide +kernel
theorem dX1_wanted_13 : decode cX1_wanted 13 = .ok (.iload_n 1, 1) := by decide +kernel
theorem dX1_wanted_14 : decode cX1_wanted 14 = .ok (.aload_n 0, 1) := by decide +kernel
theorem dX1_wanted_15 : decode cX1_wanted 15 = .ok (.getfield 43, 3) := by decide +kernel
theorem dX1_wanted_18 : decode cX1_wanted 18 = .ok (.iand, 1) := by decide +kernel
theorem dX1_wanted_19 : decode cX1_wanted 19 = .ok (.ifCond .ne 7, 3) := by decide +kernel
theorem dX1_wanted_22 : decode cX1_wanted 22 = .ok (.iconst 1, 1) := by decide +kernel
theorem dX1_wanted_23 : decode cX1_wanted 23 = .ok (.goto 4, 3) := by decide +kernel
theorem dX1_wanted_26 : decode cX1_wanted 26 = .ok (.iconst 0, 1) := by decide +kernel
theorem dX1_wanted_27 : decode cX1_wanted 27 = .ok (.ireturn, 1) := by decide +kernel
theorem dX1_lower_0 : decode cX1_lower 0 = .ok (.iconst 0, 1) := by decide +kernel
theorem dX1_lower_1 : decode cX1_lower 1 = .ok (.istore_n 2, 1) := by decide +kernel
theorem dX1_lower_2 : decode cX1_lower 2 = .ok (.iconst 0, 1) := by decide +kernel
theorem dX1_lower_3 : decode cX1_lower 3 = .ok (.istore_n 3, 1) := by decide +kernel
theorem dX1_lower_4 : decode cX1_lower 4 = .ok (.iload_n 3, 1) := by decide +kernel
theorem dX1_lower_5 : decode cX1_lower 5 = .ok (.bipush 10, 2) := by decide +kernel
theorem dX1_lower_7 : decode cX1_lower 7 = .ok (.if_icmp .ge 63, 3) := by decide +kernel
theorem dX1_lower_10 : decode cX1_lower 10 = .ok (.aload_n 0, 1) := by decide +kernel
theorem dX1_lower_11 : decode cX1_lower 11 = .ok (.iload_n 3, 1) := by decide +kernel
theorem dX1_lower_12 : decode cX1_lower 12 = .ok (.iload_n 1, 1) := by decide +kernel
theorem dX1_lower_13 : decode cX1_lower 13 = .ok (.invokevirtual 49, 3) := by decide +kernel
theorem dX1_lower_16 : decode cX1_lower 16 = .ok (.istore 4, 2) := by decide +kernel
theorem dX1_lower_18 : decode cX1_lower 18 = .ok (.aload_n 0, 1) := by decide +kernel
theorem dX1_lower_19 : decode cX1_lower 19 = .ok (.getfield 26, 3) := by decide +kernel
theorem dX1_lower_22 : decode cX1_lower 22 = .ok (.iload_n 3, 1) := by decide +kernel
theorem dX1_lower_23 : decode cX1_lower 23 = .ok (.iaload, 1) := by decide +kernel
theorem dX1_lower_24 : decode cX1_lower 24 = .ok (.aload_n 0, 1) := by decide +kernel
theorem dX1_lower_25 : decode cX1_lower 25 = .ok (.getfield 29, 3) := by decide +kernel
theorem dX1_lower_28 : decode cX1_lower 28 = .ok (.iload 4, 2) := by decide +kernel
theorem dX1_lower_30 : decode cX1_lower 30 = .ok (.iaload, 1) := by decide +kernel
theorem dX1_lower_31 : decode cX1_lower 31 = .ok (.iadd, 1) := by decide +kernel
theorem dX1_lower_32 : decode cX1_lower 32 = .ok (.istore 5, 2) := by decide +kernel
theorem dX1_lower_34 : decode cX1_lower 34 = .ok (.aload_n 0, 1) := by decide +kernel
theorem dX1_lower_35 : decode cX1_lower 35 = .ok (.iload_n 3, 1) := by decide +kernel
theorem dX1_lower_36 : decode cX1_lower 36 = .ok (.iload_n 1, 1) := by decide +kernel
theorem dX1_lower_37 : decode cX1_lower 37 = .ok (.invokevirtual 53, 3) := by decide +kernel
theorem dX1_lower_40 : decode cX1_lower 40 = .ok (.ifCond .eq 24, 3) := by decide +kernel
theorem dX1_lower_43 : decode cX1_lower 43 = .ok (.iload 5, 2) := by decide +kernel
theorem dX1_lower_45 : decode cX1_lower 45 = .ok (.aload_n 0, 1) := by decide +kernel
theorem dX1_lower_46 : decode cX1_lower 46 = .ok (.getfield 29, 3) := by decide +kernel
theorem dX1_lower_49 : decode cX1_lower 49 = .ok (.iload_n 1, 1) := by decide +kernel
theorem dX1_lower_50 : decode cX1_lower 50 = .ok (.iaload, 1) := by decide +kernel
theorem dX1_lower_51 : decode cX1_lower 51 = .ok (.if_icmp .ge 13, 3) := by decide +kernel
theorem dX1_lower_54 : decode cX1_lower 54 = .ok (.aload_n 0, 1) := by decide +kernel
theorem dX1_lower_55 : decode cX1_lower 55 = .ok (.getfield 29, 3) := by decide +kernel
theorem dX1_lower_58 : decode cX1_lower 58 = .ok (.iload_n 1, 1) := by decide +kernel
theorem dX1_lower_59 : decode cX1_lower 59 = .ok (.iload 5, 2) := by decide +kernel
theorem dX1_lower_61 : decode cX1_lower 61 = .ok (.iastore, 1) := by decide +kernel
theorem dX1_lower_62 : decode cX1_lower 62 = .ok (.iconst 1, 1) := by decide +kernel
theorem dX1_lower_63 : decode cX1_lower 63 = .ok (.istore_n 2, 1) := by decide +kernel
theorem dX1_lower_64 : decode cX1_lower 64 = .ok (.iinc 3 1, 3) := by decide +kernel
theorem dX1_lower_67 : decode cX1_lower 67 = .ok (.goto (-63), 3) := by decide +kernel
theorem dX1_lower_70 : decode cX1_lower 70 = .ok (.iload_n 2, 1) := by decide +kernel
theorem dX1_lower_71 : decode cX1_lower 71 = .ok (.ireturn, 1) := by decide +kernel
theorem dX1_after_0 : decode cX1_after 0 = .ok (.iload_n 2, 1) := by decide +kernel
theorem dX1_after_1 : decode cX1_after 1 = .ok (.aload_n 0, 1) := by decide +kernel
theorem dX1_after_2 : decode cX1_after 2 = .ok (.getfield 23, 3) := by decide +kernel
theorem dX1_after_5 : decode cX1_after 5 = .ok (.iload_n 1, 1) := by decide +kernel
theorem dX1_after_6 : decode cX1_after 6 = .ok (.iaload, 1) := by decide +kernel
theorem dX1_after_7 : decode cX1_after 7 = .ok (.iconst (-1), 1) := by decide +kernel
theorem dX1_after_8 : decode cX1_after 8 = .ok (.ixor, 1) := by decide +kernel
theorem dX1_after_9 : decode cX1_after 9 = .ok (.iand, 1) := by decide +kernel
theorem dX1_after_10 : decode cX1_after 10 = .ok (.aload_n 0, 1) := by decide +kernel
theorem dX1_after_11 : decode cX1_after 11 = .ok (.getfield 20, 3) := by decide +kernel
theorem dX1_after_14 : decode cX1_after 14 = .ok (.iload_n 1, 1) := by decide +kernel
theorem dX1_after_15 : decode cX1_after 15 = .ok (.iaload, 1) := by decide +kernel
theorem dX1_after_16 : decode cX1_after 16 = .ok (.ior, 1) := by decide +kernel
theorem dX1_after_17 : decode cX1_after 17 = .ok (.sipush 255, 3) := by decide +kernel
theorem dX1_after_20 : decode cX1_after 20 = .ok (.iand, 1) := by decide +kernel
theorem dX1_after_21 : decode cX1_after 21 = .ok (.ireturn, 1) := by decide +kernel
theorem dX1_canDo_0 : decode cX1_canDo 0 = .ok (.aload_n 0, 1) := by decide +kernel
theorem dX1_canDo_1 : decode cX1_canDo 1 = .ok (.getfield 7, 3) := by decide +kernel
theorem dX1_canDo_4 : decode cX1_canDo 4 = .ok (.iload_n 1, 1) := by decide +kernel
theorem dX1_canDo_5 : decode cX1_canDo 5 = .ok (.baload, 1) := by decide +kernel
theorem dX1_canDo_6 : decode cX1_canDo 6 = .ok (.ifCond .eq 35, 3) := by decide +kernel
theorem dX1_canDo_9 : decode cX1_canDo 9 = .ok (.iload_n 2, 1) := by decide +kernel
theorem dX1_canDo_10 : decode cX1_canDo 10 = .ok (.aload_n 0, 1) := by decide +kernel
theorem dX1_canDo_11 : decode cX1_canDo 11 = .ok (.getfield 13, 3) := by decide +kernel
theorem dX1_canDo_14 : decode cX1_canDo 14 = .ok (.iload_n 1, 1) := by decide +kernel
theorem dX1_canDo_15 : decode cX1_canDo 15 = .ok (.iaload, 1) := by decide +kernel
theorem dX1_canDo_16 : decode cX1_canDo 16 = .ok (.iand, 1) := by decide +kernel
theorem dX1_canDo_17 : decode cX1_canDo 17 = .ok (.aload_n 0, 1) := by decide +kernel
theorem dX1_canDo_18 : decode cX1_canDo 18 = .ok (.getfield 13, 3) := by decide +kernel
theorem dX1_canDo_21 : decode cX1_canDo 21 = .ok (.iload_n 1, 1) := by decide +kernel
theorem dX1_canDo_22 : decode cX1_canDo 22 = .ok (.iaload, 1) := by decide +kernel
theorem dX1_canDo_23 : decode cX1_canDo 23 = .ok (.if_icmp .ne 18, 3) := by decide +kernel
theorem dX1_canDo_26 : decode cX1_canDo 26 = .ok (.iload_n 2, 1) := by decide +kernel
theorem dX1_canDo_27 : decode cX1_canDo 27 = .ok (.aload_n 0, 1) := by decide +kernel
theorem dX1_canDo_28 : decode cX1_canDo 28 = .ok (.getfield 17, 3) := by decide +kernel
theorem dX1_canDo_31 : decode cX1_canDo 31 = .ok (.iload_n 1, 1) := by decide +kernel
theorem dX1_canDo_32 : decode cX1_canDo 32 = .ok (.iaload, 1) := by decide +kernel
theorem dX1_canDo_33 : decode cX1_canDo 33 = .ok (.iand, 1) := by decide +kernel
theorem dX1_canDo_34 : decode cX1_canDo 34 = .ok (.ifCond .ne 7, 3) := by decide +kernel
theorem dX1_canDo_37 : decode cX1_canDo 37 = .ok (.iconst 1, 1) := by decide +kernel
theorem dX1_canDo_38 : decode cX1_canDo 38 = .ok (.goto 4, 3) := by decide +kernel
theorem dX1_canDo_41 : decode cX1_canDo 41 = .ok (.iconst 0, 1) := by decide +kernel
theorem dX1_canDo_42 : decode cX1_canDo 42 = .ok (.ireturn, 1) := by decide +kernel
theorem dX1_steps_0 : decode cX1_steps 0 = .ok (.aload_n 0, 1) := by decide +kernel
theorem dX1_steps_1 : decode cX1_steps 1 = .ok (.invokevirtual 64, 3) := by decide +kernel
theorem dX1_steps_4 : decode cX1_steps 4 = .ok (.aload_n 0, 1) := by decide +kernel
theorem dX1_steps_5 : decode cX1_steps 5 = .ok (.getfield 29, 3) := by decide +kernel
theorem dX1_steps_8 : decode cX1_steps 8 = .ok (.aload_n 0, 1) := by decide +kernel
theorem dX1_steps_9 : decode cX1_steps 9 = .ok (.getfield 46, 3) := by decide +kernel
theorem dX1_steps_12 : decode cX1_steps 12 = .ok (.iaload, 1) := by decide +kernel
theorem dX1_steps_13 : decode cX1_steps 13 = .ok (.ldc 60, 2) := by decide +kernel
theorem dX1_steps_15 : decode cX1_steps 15 = .ok (.if_icmp .lt 5, 3) := by decide +kernel
theorem dX1_steps_18 : decode cX1_steps 18 = .ok (.iconst (-1), 1) := by decide +kernel
theorem dX1_steps_19 : decode cX1_steps 19 = .ok (.ireturn, 1) := by decide +kernel
theorem dX1_steps_20 : decode cX1_steps 20 = .ok (.aload_n 0, 1) := by decide +kernel
theorem dX1_steps_21 : decode cX1_steps 21 = .ok (.getfield 46, 3) := by decide +kernel
theorem dX1_steps_24 : decode cX1_steps 24 = .ok (.istore_n 1, 1) := by decide +kernel
theorem dX1_steps_25 : decode cX1_steps 25 = .ok (.iconst 0, 1) := by decide +kernel
theorem dX1_steps_26 : decode cX1_steps 26 = .ok (.istore_n 2, 1) := by decide +kernel
theorem dX1_steps_27 : decode cX1_steps 27 = .ok (.iload_n 2, 1) := by decide +kernel
theorem dX1_steps_28 : decode cX1_steps 28 = .ok (.sipush 256, 3) := by decide +kernel
theorem dX1_steps_31 : decode cX1_steps 31 = .ok (.if_icmp .ge 28, 3) := by decide +kernel
theorem dX1_steps_34 : decode cX1_steps 34 = .ok (.aload_n 0, 1) := by decide +kernel
theorem dX1_steps_35 : decode cX1_steps 35 = .ok (.iload_n 1, 1) := by decide +kernel
theorem dX1_steps_36 : decode cX1_steps 36 = .ok (.invokevirtual 67, 3) := by decide +kernel
theorem dX1_steps_39 : decode cX1_steps 39 = .ok (.istore_n 3, 1) := by decide +kernel
theorem dX1_steps_40 : decode cX1_steps 40 = .ok (.iload_n 3, 1) := by decide +kernel
theorem dX1_steps_41 : decode cX1_steps 41 = .ok (.ifCond .ge 5, 3) := by decide +kernel
theorem dX1_steps_44 : decode cX1_steps 44 = .ok (.iload_n 2, 1) := by decide +kernel
theorem dX1_steps_45 : decode cX1_steps 45 = .ok (.ireturn, 1) := by decide +kernel
theorem dX1_steps_46 : decode cX1_steps 46 = .ok (.aload_n 0, 1) := by decide +kernel
theorem dX1_steps_47 : decode cX1_steps 47 = .ok (.iload_n 3, 1) := by decide +kernel
theorem dX1_steps_48 : decode cX1_steps 48 = .ok (.iload_n 1, 1) := by decide +kernel
theorem dX1_steps_49 : decode cX1_steps 49 = .ok (.invokevirtual 49, 3) := by decide +kernel
theorem dX1_steps_52 : decode cX1_steps 52 = .ok (.istore_n 1, 1) := by decide +kernel
theorem dX1_steps_53 : decode cX1_steps 53 = .ok (.iinc 2 1, 3) := by decide +kernel
theorem dX1_steps_56 : decode cX1_steps 56 = .ok (.goto (-29), 3) := by decide +kernel
theorem dX1_steps_59 : decode cX1_steps 59 = .ok (.sipush 256, 3) := by decide +kernel
theorem dX1_steps_62 : decode cX1_steps 62 = .ok (.ireturn, 1) := by decide +kernel
theorem dX1_first_0 : decode cX1_first 0 = .ok (.aload_n 0, 1) := by decide +kernel
theorem dX1_first_1 : decode cX1_first 1 = .ok (.getfield 29, 3) := by decide +kernel
theorem dX1_first_4 : decode cX1_first 4 = .ok (.iload_n 1, 1) := by decide +kernel
theorem dX1_first_5 : decode cX1_first 5 = .ok (.iaload, 1) := by decide +kernel
theorem dX1_first_6 : decode cX1_first 6 = .ok (.ifCond .eq 14, 3) := by decide +kernel
theorem dX1_first_9 : decode cX1_first 9 = .ok (.aload_n 0, 1) := by decide +kernel
theorem dX1_first_10 : decode cX1_first 10 = .ok (.getfield 29, 3) := by decide +kernel
theorem dX1_first_13 : decode cX1_first 13 = .ok (.iload_n 1, 1) := by decide +kernel
theorem dX1_first_14 : decode cX1_first 14 = .ok (.iaload, 1) := by decide +kernel
theorem dX1_first_15 : decode cX1_first 15 = .ok (.ldc 60, 2) := by decide +kernel
theorem dX1_first_17 : decode cX1_first 17 = .ok (.if_icmp .lt 5, 3) := by decide +kernel
theorem dX1_first_20 : decode cX1_first 20 = .ok (.iconst (-1), 1) := by decide +kernel
theorem dX1_first_21 : decode cX1_first 21 = .ok (.ireturn, 1) := by decide +kernel
theorem dX1_first_22 : decode cX1_first 22 = .ok (.iconst 0, 1) := by decide +kernel
theorem dX1_first_23 : decode cX1_first 23 = .ok (.istore_n 2, 1) := by decide +kernel
theorem dX1_first_24 : decode cX1_first 24 = .ok (.iload_n 2, 1) := by decide +kernel
theorem dX1_first_25 : decode cX1_first 25 = .ok (.bipush 10, 2) := by decide +kernel
theorem dX1_first_27 : decode cX1_first 27 = .ok (.if_icmp .ge 49, 3) := by decide +kernel
theorem dX1_first_30 : decode cX1_first 30 = .ok (.aload_n 0, 1) := by decide +kernel
theorem dX1_first_31 : decode cX1_first 31 = .ok (.iload_n 2, 1) := by decide +kernel
theorem dX1_first_32 : decode cX1_first 32 = .ok (.iload_n 1, 1) := by decide +kernel
theorem dX1_first_33 : decode cX1_first 33 = .ok (.invokevirtual 49, 3) := by decide +kernel
theorem dX1_first_36 : decode cX1_first 36 = .ok (.istore_n 3, 1) := by decide +kernel
theorem dX1_first_37 : decode cX1_first 37 = .ok (.aload_n 0, 1) := by decide +kernel
theorem dX1_first_38 : decode cX1_first 38 = .ok (.iload_n 2, 1) := by decide +kernel
theorem dX1_first_39 : decode cX1_first 39 = .ok (.iload_n 1, 1) := by decide +kernel
theorem dX1_first_40 : decode cX1_first 40 = .ok (.invokevirtual 53, 3) := by decide +kernel
theorem dX1_first_43 : decode cX1_first 43 = .ok (.ifCond .eq 27, 3) := by decide +kernel
theorem dX1_first_46 : decode cX1_first 46 = .ok (.aload_n 0, 1) := by decide +kernel
theorem dX1_first_47 : decode cX1_first 47 = .ok (.getfield 26, 3) := by decide +kernel
theorem dX1_first_50 : decode cX1_first 50 = .ok (.iload_n 2, 1) := by decide +kernel
theorem dX1_first_51 : decode cX1_first 51 = .ok (.iaload, 1) := by decide +kernel
theorem dX1_first_52 : decode cX1_first 52 = .ok (.aload_n 0, 1) := by decide +kernel
theorem dX1_first_53 : decode cX1_first 53 = .ok (.getfield 29, 3) := by decide +kernel
theorem dX1_first_56 : decode cX1_first 56 = .ok (.iload_n 3, 1) := by decide +kernel
theorem dX1_first_57 : decode cX1_first 57 = .ok (.iaload, 1) := by decide +kernel
theorem dX1_first_58 : decode cX1_first 58 = .ok (.iadd, 1) := by decide +kernel
theorem dX1_first_59 : decode cX1_first 59 = .ok (.aload_n 0, 1) := by decide +kernel
theorem dX1_first_60 : decode cX1_first 60 = .ok (.getfield 29, 3) := by decide +kernel
theorem dX1_first_63 : decode cX1_first 63 = .ok (.iload_n 1, 1) := by decide +kernel
theorem dX1_first_64 : decode cX1_first 64 = .ok (.iaload, 1) := by decide +kernel
theorem dX1_first_65 : decode cX1_first 65 = .ok (.if_icmp .ne 5, 3) := by decide +kernel
theorem dX1_first_68 : decode cX1_first 68 = .ok (.iload_n 2, 1) := by decide +kernel
theorem dX1_first_69 : decode cX1_first 69 = .ok (.ireturn, 1) := by decide +kernel
theorem dX1_first_70 : decode cX1_first 70 = .ok (.iinc 2 1, 3) := by decide +kernel
theorem dX1_first_73 : decode cX1_first 73 = .ok (.goto (-49), 3) := by decide +kernel
theorem dX1_first_76 : decode cX1_first 76 = .ok (.iconst (-1), 1) := by decide +kernel
theorem dX1_first_77 : decode cX1_first 77 = .ok (.ireturn, 1) := by decide +kernel
theorem dX1_planned_0 : decode cX1_planned 0 = .ok (.aload_n 0, 1) := by decide +kernel
theorem dX1_planned_1 : decode cX1_planned 1 = .ok (.invokevirtual 64, 3) := by decide +kernel
theorem dX1_planned_4 : decode cX1_planned 4 = .ok (.aload_n 0, 1) := by decide +kernel
theorem dX1_planned_5 : decode cX1_planned 5 = .ok (.getfield 46, 3) := by decide +kernel
theorem dX1_planned_8 : decode cX1_planned 8 = .ok (.istore_n 2, 1) := by decide +kernel
theorem dX1_planned_9 : decode cX1_planned 9 = .ok (.iconst 0, 1) := by decide +kernel
theorem dX1_planned_10 : decode cX1_planned 10 = .ok (.istore_n 3, 1) := by decide +kernel
theorem dX1_planned_11 : decode cX1_planned 11 = .ok (.iload_n 3, 1) := by decide +kernel
theorem dX1_planned_12 : decode cX1_planned 12 = .ok (.sipush 256, 3) := by decide +kernel
theorem dX1_planned_15 : decode cX1_planned 15 = .ok (.if_icmp .ge 37, 3) := by decide +kernel
theorem dX1_planned_18 : decode cX1_planned 18 = .ok (.aload_n 0, 1) := by decide +kernel
theorem dX1_planned_19 : decode cX1_planned 19 = .ok (.iload_n 2, 1) := by decide +kernel
theorem dX1_planned_20 : decode cX1_planned 20 = .ok (.invokevirtual 67, 3) := by decide +kernel
theorem dX1_planned_23 : decode cX1_planned 23 = .ok (.istore 4, 2) := by decide +kernel
theorem dX1_planned_25 : decode cX1_planned 25 = .ok (.iload 4, 2) := by decide +kernel
theorem dX1_planned_27 : decode cX1_planned 27 = .ok (.ifCond .lt 8, 3) := by decide +kernel
theorem dX1_planned_30 : decode cX1_planned 30 = .ok (.iload_n 3, 1) := by decide +kernel
theorem dX1_planned_31 : decode cX1_planned 31 = .ok (.iload_n 1, 1) := by decide +kernel
theorem dX1_planned_32 : decode cX1_planned 32 = .ok (.if_icmp .ne 6, 3) := by decide +kernel
theorem dX1_planned_35 : decode cX1_planned 35 = .ok (.iload 4, 2) := by decide +kernel
theorem dX1_planned_37 : decode cX1_planned 37 = .ok (.ireturn, 1) := by decide +kernel
theorem dX1_planned_38 : decode cX1_planned 38 = .ok (.aload_n 0, 1) := by decide +kernel
theorem dX1_planned_39 : decode cX1_planned 39 = .ok (.iload 4, 2) := by decide +kernel
theorem dX1_planned_41 : decode cX1_planned 41 = .ok (.iload_n 2, 1) := by decide +kernel
theorem dX1_planned_42 : decode cX1_planned 42 = .ok (.invokevirtual 49, 3) := by decide +kernel
theorem dX1_planned_45 : decode cX1_planned 45 = .ok (.istore_n 2, 1) := by decide +kernel
theorem dX1_planned_46 : decode cX1_planned 46 = .ok (.iinc 3 1, 3) := by decide +kernel
theorem dX1_planned_49 : decode cX1_planned 49 = .ok (.goto (-38), 3) := by decide +kernel
theorem dX1_planned_52 : decode cX1_planned 52 = .ok (.iconst (-1), 1) := by decide +kernel
theorem dX1_planned_53 : decode cX1_planned 53 = .ok (.ireturn, 1) := by decide +kernel
theorem dX1_advance_0 : decode cX1_advance 0 = .ok (.aload_n 0, 1) := by decide +kernel
theorem dX1_advance_1 : decode cX1_advance 1 = .ok (.invokevirtual 64, 3) := by decide +kernel
theorem dX1_advance_4 : decode cX1_advance 4 = .ok (.aload_n 0, 1) := by decide +kernel
end
section
set_option maxRecDepth 100000
theorem dX1_advance_5 : decode cX1_advance 5 = .ok (.aload_n 0, 1) := by decide +kernel
theorem dX1_advance_6 : decode cX1_advance 6 = .ok (.getfield 46, 3) := by decide +kernel
theorem dX1_advance_9 : decode cX1_advance 9 = .ok (.invokevirtual 67, 3) := by decide +kernel
theorem dX1_advance_12 : decode cX1_advance 12 = .ok (.istore_n 1, 1) := by decide +kernel
theorem dX1_advance_13 : decode cX1_advance 13 = .ok (.iload_n 1, 1) := by decide +kernel
theorem dX1_advance_14 : decode cX1_advance 14 = .ok (.ifCond .lt 16, 3) := by decide +kernel
theorem dX1_advance_17 : decode cX1_advance 17 = .ok (.aload_n 0, 1) := by decide +kernel
theorem dX1_advance_18 : decode cX1_advance 18 = .ok (.aload_n 0, 1) := by decide +kernel
theorem dX1_advance_19 : decode cX1_advance 19 = .ok (.iload_n 1, 1) := by decide +kernel
theorem dX1_advance_20 : decode cX1_advance 20 = .ok (.aload_n 0, 1) := by decide +kernel
theorem dX1_advance_21 : decode cX1_advance 21 = .ok (.getfield 46, 3) := by decide +kernel
theorem dX1_advance_24 : decode cX1_advance 24 = .ok (.invokevirtual 49, 3) := by decide +kernel
theorem dX1_advance_27 : decode cX1_advance 27 = .ok (.putfield 46, 3) := by decide +kernel
theorem dX1_advance_30 : decode cX1_advance 30 = .ok (.iload_n 1, 1) := by decide +kernel
theorem dX1_advance_31 : decode cX1_advance 31 = .ok (.ireturn, 1) := by decide +kernel
theorem dX1_act_0 : decode cX1_act 0 = .ok (.iload_n 1, 1) := by decide +kernel
theorem dX1_act_1 : decode cX1_act 1 = .ok (.invokestatic 35, 3) := by decide +kernel
theorem dX1_act_4 : decode cX1_act 4 = .ok (.ifCond .ne 15, 3) := by decide +kernel
theorem dX1_act_7 : decode cX1_act 7 = .ok (.aload_n 0, 1) := by decide +kernel
theorem dX1_act_8 : decode cX1_act 8 = .ok (.iload_n 1, 1) := by decide +kernel
theorem dX1_act_9 : decode cX1_act 9 = .ok (.aload_n 0, 1) := by decide +kernel
theorem dX1_act_10 : decode cX1_act 10 = .ok (.getfield 46, 3) := by decide +kernel
theorem dX1_act_13 : decode cX1_act 13 = .ok (.invokevirtual 53, 3) := by decide +kernel
theorem dX1_act_16 : decode cX1_act 16 = .ok (.ifCond .ne 5, 3) := by decide +kernel
theorem dX1_act_19 : decode cX1_act 19 = .ok (.iconst (-1), 1) := by decide +kernel
theorem dX1_act_20 : decode cX1_act 20 = .ok (.ireturn, 1) := by decide +kernel
theorem dX1_act_21 : decode cX1_act 21 = .ok (.aload_n 0, 1) := by decide +kernel
theorem dX1_act_22 : decode cX1_act 22 = .ok (.aload_n 0, 1) := by decide +kernel
theorem dX1_act_23 : decode cX1_act 23 = .ok (.iload_n 1, 1) := by decide +kernel
theorem dX1_act_24 : decode cX1_act 24 = .ok (.aload_n 0, 1) := by decide +kernel
theorem dX1_act_25 : decode cX1_act 25 = .ok (.getfield 46, 3) := by decide +kernel
theorem dX1_act_28 : decode cX1_act 28 = .ok (.invokevirtual 49, 3) := by decide +kernel
theorem dX1_act_31 : decode cX1_act 31 = .ok (.putfield 46, 3) := by decide +kernel
theorem dX1_act_34 : decode cX1_act 34 = .ok (.iconst 0, 1) := by decide +kernel
theorem dX1_act_35 : decode cX1_act 35 = .ok (.ireturn, 1) := by decide +kernel
theorem dX1_reachable_0 : decode cX1_reachable 0 = .ok (.iconst 0, 1) := by decide +kernel
theorem dX1_reachable_1 : decode cX1_reachable 1 = .ok (.istore_n 1, 1) := by decide +kernel
theorem dX1_reachable_2 : decode cX1_reachable 2 = .ok (.iload_n 1, 1) := by decide +kernel
theorem dX1_reachable_3 : decode cX1_reachable 3 = .ok (.sipush 256, 3) := by decide +kernel
theorem dX1_reachable_6 : decode cX1_reachable 6 = .ok (.if_icmp .ge 28, 3) := by decide +kernel
theorem dX1_reachable_9 : decode cX1_reachable 9 = .ok (.aload_n 0, 1) := by decide +kernel
theorem dX1_reachable_10 : decode cX1_reachable 10 = .ok (.getfield 32, 3) := by decide +kernel
theorem dX1_reachable_13 : decode cX1_reachable 13 = .ok (.iload_n 1, 1) := by decide +kernel
theorem dX1_reachable_14 : decode cX1_reachable 14 = .ok (.iload_n 1, 1) := by decide +kernel
theorem dX1_reachable_15 : decode cX1_reachable 15 = .ok (.aload_n 0, 1) := by decide +kernel
theorem dX1_reachable_16 : decode cX1_reachable 16 = .ok (.getfield 46, 3) := by decide +kernel
theorem dX1_reachable_19 : decode cX1_reachable 19 = .ok (.if_icmp .ne 7, 3) := by decide +kernel
theorem dX1_reachable_22 : decode cX1_reachable 22 = .ok (.iconst 1, 1) := by decide +kernel
theorem dX1_reachable_23 : decode cX1_reachable 23 = .ok (.goto 4, 3) := by decide +kernel
theorem dX1_reachable_26 : decode cX1_reachable 26 = .ok (.iconst 0, 1) := by decide +kernel
theorem dX1_reachable_27 : decode cX1_reachable 27 = .ok (.bastore, 1) := by decide +kernel
theorem dX1_reachable_28 : decode cX1_reachable 28 = .ok (.iinc 1 1, 3) := by decide +kernel
theorem dX1_reachable_31 : decode cX1_reachable 31 = .ok (.goto (-29), 3) := by decide +kernel
theorem dX1_reachable_34 : decode cX1_reachable 34 = .ok (.iconst 1, 1) := by decide +kernel
theorem dX1_reachable_35 : decode cX1_reachable 35 = .ok (.istore_n 1, 1) := by decide +kernel
theorem dX1_reachable_36 : decode cX1_reachable 36 = .ok (.iconst 0, 1) := by decide +kernel
theorem dX1_reachable_37 : decode cX1_reachable 37 = .ok (.istore_n 2, 1) := by decide +kernel
theorem dX1_reachable_38 : decode cX1_reachable 38 = .ok (.iload_n 2, 1) := by decide +kernel
theorem dX1_reachable_39 : decode cX1_reachable 39 = .ok (.sipush 256, 3) := by decide +kernel
theorem dX1_reachable_42 : decode cX1_reachable 42 = .ok (.if_icmp .ge 49, 3) := by decide +kernel
theorem dX1_reachable_45 : decode cX1_reachable 45 = .ok (.iload_n 1, 1) := by decide +kernel
theorem dX1_reachable_46 : decode cX1_reachable 46 = .ok (.ifCond .eq 45, 3) := by decide +kernel
theorem dX1_reachable_49 : decode cX1_reachable 49 = .ok (.iconst 0, 1) := by decide +kernel
theorem dX1_reachable_50 : decode cX1_reachable 50 = .ok (.istore_n 1, 1) := by decide +kernel
theorem dX1_reachable_51 : decode cX1_reachable 51 = .ok (.iconst 0, 1) := by decide +kernel
theorem dX1_reachable_52 : decode cX1_reachable 52 = .ok (.istore_n 3, 1) := by decide +kernel
theorem dX1_reachable_53 : decode cX1_reachable 53 = .ok (.iload_n 3, 1) := by decide +kernel
theorem dX1_reachable_54 : decode cX1_reachable 54 = .ok (.sipush 256, 3) := by decide +kernel
theorem dX1_reachable_57 : decode cX1_reachable 57 = .ok (.if_icmp .ge 28, 3) := by decide +kernel
theorem dX1_reachable_60 : decode cX1_reachable 60 = .ok (.aload_n 0, 1) := by decide +kernel
theorem dX1_reachable_61 : decode cX1_reachable 61 = .ok (.getfield 32, 3) := by decide +kernel
theorem dX1_reachable_64 : decode cX1_reachable 64 = .ok (.iload_n 3, 1) := by decide +kernel
theorem dX1_reachable_65 : decode cX1_reachable 65 = .ok (.baload, 1) := by decide +kernel
theorem dX1_reachable_66 : decode cX1_reachable 66 = .ok (.ifCond .eq 13, 3) := by decide +kernel
theorem dX1_reachable_69 : decode cX1_reachable 69 = .ok (.aload_n 0, 1) := by decide +kernel
theorem dX1_reachable_70 : decode cX1_reachable 70 = .ok (.iload_n 3, 1) := by decide +kernel
theorem dX1_reachable_71 : decode cX1_reachable 71 = .ok (.invokevirtual 71, 3) := by decide +kernel
theorem dX1_reachable_74 : decode cX1_reachable 74 = .ok (.ifCond .eq 5, 3) := by decide +kernel
theorem dX1_reachable_77 : decode cX1_reachable 77 = .ok (.iconst 1, 1) := by decide +kernel
theorem dX1_reachable_78 : decode cX1_reachable 78 = .ok (.istore_n 1, 1) := by decide +kernel
theorem dX1_reachable_79 : decode cX1_reachable 79 = .ok (.iinc 3 1, 3) := by decide +kernel
theorem dX1_reachable_82 : decode cX1_reachable 82 = .ok (.goto (-29), 3) := by decide +kernel
theorem dX1_reachable_85 : decode cX1_reachable 85 = .ok (.iinc 2 1, 3) := by decide +kernel
theorem dX1_reachable_88 : decode cX1_reachable 88 = .ok (.goto (-50), 3) := by decide +kernel
theorem dX1_reachable_91 : decode cX1_reachable 91 = .ok (.iconst 0, 1) := by decide +kernel
theorem dX1_reachable_92 : decode cX1_reachable 92 = .ok (.istore_n 2, 1) := by decide +kernel
theorem dX1_reachable_93 : decode cX1_reachable 93 = .ok (.iconst 0, 1) := by decide +kernel
theorem dX1_reachable_94 : decode cX1_reachable 94 = .ok (.istore_n 3, 1) := by decide +kernel
theorem dX1_reachable_95 : decode cX1_reachable 95 = .ok (.iload_n 3, 1) := by decide +kernel
theorem dX1_reachable_96 : decode cX1_reachable 96 = .ok (.sipush 256, 3) := by decide +kernel
theorem dX1_reachable_99 : decode cX1_reachable 99 = .ok (.if_icmp .ge 21, 3) := by decide +kernel
theorem dX1_reachable_102 : decode cX1_reachable 102 = .ok (.aload_n 0, 1) := by decide +kernel
theorem dX1_reachable_103 : decode cX1_reachable 103 = .ok (.getfield 32, 3) := by decide +kernel
theorem dX1_reachable_106 : decode cX1_reachable 106 = .ok (.iload_n 3, 1) := by decide +kernel
theorem dX1_reachable_107 : decode cX1_reachable 107 = .ok (.baload, 1) := by decide +kernel
theorem dX1_reachable_108 : decode cX1_reachable 108 = .ok (.ifCond .eq 6, 3) := by decide +kernel
theorem dX1_reachable_111 : decode cX1_reachable 111 = .ok (.iinc 2 1, 3) := by decide +kernel
theorem dX1_reachable_114 : decode cX1_reachable 114 = .ok (.iinc 3 1, 3) := by decide +kernel
theorem dX1_reachable_117 : decode cX1_reachable 117 = .ok (.goto (-22), 3) := by decide +kernel
theorem dX1_reachable_120 : decode cX1_reachable 120 = .ok (.iload_n 2, 1) := by decide +kernel
theorem dX1_reachable_121 : decode cX1_reachable 121 = .ok (.ireturn, 1) := by decide +kernel
theorem dX1_spread_0 : decode cX1_spread 0 = .ok (.iconst 0, 1) := by decide +kernel
theorem dX1_spread_1 : decode cX1_spread 1 = .ok (.istore_n 2, 1) := by decide +kernel
theorem dX1_spread_2 : decode cX1_spread 2 = .ok (.iconst 0, 1) := by decide +kernel
theorem dX1_spread_3 : decode cX1_spread 3 = .ok (.istore_n 3, 1) := by decide +kernel
theorem dX1_spread_4 : decode cX1_spread 4 = .ok (.iload_n 3, 1) := by decide +kernel
theorem dX1_spread_5 : decode cX1_spread 5 = .ok (.bipush 10, 2) := by decide +kernel
theorem dX1_spread_7 : decode cX1_spread 7 = .ok (.if_icmp .ge 46, 3) := by decide +kernel
theorem dX1_spread_10 : decode cX1_spread 10 = .ok (.aload_n 0, 1) := by decide +kernel
theorem dX1_spread_11 : decode cX1_spread 11 = .ok (.iload_n 3, 1) := by decide +kernel
theorem dX1_spread_12 : decode cX1_spread 12 = .ok (.iload_n 1, 1) := by decide +kernel
theorem dX1_spread_13 : decode cX1_spread 13 = .ok (.invokevirtual 49, 3) := by decide +kernel
theorem dX1_spread_16 : decode cX1_spread 16 = .ok (.istore 4, 2) := by decide +kernel
theorem dX1_spread_18 : decode cX1_spread 18 = .ok (.aload_n 0, 1) := by decide +kernel
theorem dX1_spread_19 : decode cX1_spread 19 = .ok (.iload_n 3, 1) := by decide +kernel
theorem dX1_spread_20 : decode cX1_spread 20 = .ok (.iload_n 1, 1) := by decide +kernel
theorem dX1_spread_21 : decode cX1_spread 21 = .ok (.invokevirtual 53, 3) := by decide +kernel
theorem dX1_spread_24 : decode cX1_spread 24 = .ok (.ifCond .eq 23, 3) := by decide +kernel
theorem dX1_spread_27 : decode cX1_spread 27 = .ok (.aload_n 0, 1) := by decide +kernel
theorem dX1_spread_28 : decode cX1_spread 28 = .ok (.getfield 32, 3) := by decide +kernel
theorem dX1_spread_31 : decode cX1_spread 31 = .ok (.iload 4, 2) := by decide +kernel
theorem dX1_spread_33 : decode cX1_spread 33 = .ok (.baload, 1) := by decide +kernel
theorem dX1_spread_34 : decode cX1_spread 34 = .ok (.ifCond .ne 13, 3) := by decide +kernel
theorem dX1_spread_37 : decode cX1_spread 37 = .ok (.aload_n 0, 1) := by decide +kernel
theorem dX1_spread_38 : decode cX1_spread 38 = .ok (.getfield 32, 3) := by decide +kernel
theorem dX1_spread_41 : decode cX1_spread 41 = .ok (.iload 4, 2) := by decide +kernel
theorem dX1_spread_43 : decode cX1_spread 43 = .ok (.iconst 1, 1) := by decide +kernel
theorem dX1_spread_44 : decode cX1_spread 44 = .ok (.bastore, 1) := by decide +kernel
theorem dX1_spread_45 : decode cX1_spread 45 = .ok (.iconst 1, 1) := by decide +kernel
theorem dX1_spread_46 : decode cX1_spread 46 = .ok (.istore_n 2, 1) := by decide +kernel
theorem dX1_spread_47 : decode cX1_spread 47 = .ok (.iinc 3 1, 3) := by decide +kernel
theorem dX1_spread_50 : decode cX1_spread 50 = .ok (.goto (-46), 3) := by decide +kernel
theorem dX1_spread_53 : decode cX1_spread 53 = .ok (.iload_n 2, 1) := by decide +kernel
theorem dX1_spread_54 : decode cX1_spread 54 = .ok (.ireturn, 1) := by decide +kernel
end
section
set_option maxRecDepth 100000
theorem dJ0_init_0 : decode cJ0_init 0 = .ok (.return_, 1) := by decide +kernel
end
section
set_option maxRecDepth 100000
theorem dL_law_0 : decode cL_law 0 = .ok (.new 7, 3) := by decide +kernel
theorem dL_law_3 : decode cL_law 3 = .ok (.dup, 1) := by decide +kernel
theorem dL_law_4 : decode cL_law 4 = .ok (.invokespecial 9, 3) := by decide +kernel
theorem dL_law_7 : decode cL_law 7 = .ok (.astore_n 1, 1) := by decide +kernel
theorem dL_law_8 : decode cL_law 8 = .ok (.new 10, 3) := by decide +kernel
theorem dL_law_11 : decode cL_law 11 = .ok (.dup, 1) := by decide +kernel
theorem dL_law_12 : decode cL_law 12 = .ok (.invokespecial 12, 3) := by decide +kernel
theorem dL_law_15 : decode cL_law 15 = .ok (.astore_n 2, 1) := by decide +kernel
theorem dL_law_16 : decode cL_law 16 = .ok (.iconst 0, 1) := by decide +kernel
theorem dL_law_17 : decode cL_law 17 = .ok (.istore_n 3, 1) := by decide +kernel
theorem dL_law_18 : decode cL_law 18 = .ok (.iload_n 3, 1) := by decide +kernel
theorem dL_law_19 : decode cL_law 19 = .ok (.aload_n 0, 1) := by decide +kernel
theorem dL_law_20 : decode cL_law 20 = .ok (.arraylength, 1) := by decide +kernel
theorem dL_law_21 : decode cL_law 21 = .ok (.iconst 5, 1) := by decide +kernel
theorem dL_law_22 : decode cL_law 22 = .ok (.isub, 1) := by decide +kernel
theorem dL_law_23 : decode cL_law 23 = .ok (.if_icmp .gt 361, 3) := by decide +kernel
theorem dL_law_26 : decode cL_law 26 = .ok (.aload_n 0, 1) := by decide +kernel
theorem dL_law_27 : decode cL_law 27 = .ok (.iload_n 3, 1) := by decide +kernel
theorem dL_law_28 : decode cL_law 28 = .ok (.iaload, 1) := by decide +kernel
theorem dL_law_29 : decode cL_law 29 = .ok (.bipush 15, 2) := by decide +kernel
theorem dL_law_31 : decode cL_law 31 = .ok (.iand, 1) := by decide +kernel
theorem dL_law_32 : decode cL_law 32 = .ok (.tableswitch 346 0 11 #[64, 107, 160, 183, 214, 235, 248, 261, 274, 297, 310, 333], 64) := by decide +kernel
theorem dL_law_96 : decode cL_law 96 = .ok (.aload_n 1, 1) := by decide +kernel
theorem dL_law_97 : decode cL_law 97 = .ok (.aload_n 0, 1) := by decide +kernel
theorem dL_law_98 : decode cL_law 98 = .ok (.iload_n 3, 1) := by decide +kernel
theorem dL_law_99 : decode cL_law 99 = .ok (.iconst 1, 1) := by decide +kernel
theorem dL_law_100 : decode cL_law 100 = .ok (.iadd, 1) := by decide +kernel
theorem dL_law_101 : decode cL_law 101 = .ok (.iaload, 1) := by decide +kernel
theorem dL_law_102 : decode cL_law 102 = .ok (.aload_n 0, 1) := by decide +kernel
theorem dL_law_103 : decode cL_law 103 = .ok (.iload_n 3, 1) := by decide +kernel
theorem dL_law_104 : decode cL_law 104 = .ok (.iconst 2, 1) := by decide +kernel
theorem dL_law_105 : decode cL_law 105 = .ok (.iadd, 1) := by decide +kernel
theorem dL_law_106 : decode cL_law 106 = .ok (.iaload, 1) := by decide +kernel
theorem dL_law_107 : decode cL_law 107 = .ok (.aload_n 0, 1) := by decide +kernel
theorem dL_law_108 : decode cL_law 108 = .ok (.iload_n 3, 1) := by decide +kernel
theorem dL_law_109 : decode cL_law 109 = .ok (.iconst 3, 1) := by decide +kernel
theorem dL_law_110 : decode cL_law 110 = .ok (.iadd, 1) := by decide +kernel
theorem dL_law_111 : decode cL_law 111 = .ok (.iaload, 1) := by decide +kernel
theorem dL_law_112 : decode cL_law 112 = .ok (.invokevirtual 13, 3) := by decide +kernel
theorem dL_law_115 : decode cL_law 115 = .ok (.aload_n 2, 1) := by decide +kernel
theorem dL_law_116 : decode cL_law 116 = .ok (.aload_n 0, 1) := by decide +kernel
theorem dL_law_117 : decode cL_law 117 = .ok (.iload_n 3, 1) := by decide +kernel
theorem dL_law_118 : decode cL_law 118 = .ok (.iconst 1, 1) := by decide +kernel
theorem dL_law_119 : decode cL_law 119 = .ok (.iadd, 1) := by decide +kernel
theorem dL_law_120 : decode cL_law 120 = .ok (.iaload, 1) := by decide +kernel
theorem dL_law_121 : decode cL_law 121 = .ok (.aload_n 0, 1) := by decide +kernel
theorem dL_law_122 : decode cL_law 122 = .ok (.iload_n 3, 1) := by decide +kernel
theorem dL_law_123 : decode cL_law 123 = .ok (.iconst 2, 1) := by decide +kernel
theorem dL_law_124 : decode cL_law 124 = .ok (.iadd, 1) := by decide +kernel
theorem dL_law_125 : decode cL_law 125 = .ok (.iaload, 1) := by decide +kernel
theorem dL_law_126 : decode cL_law 126 = .ok (.aload_n 0, 1) := by decide +kernel
theorem dL_law_127 : decode cL_law 127 = .ok (.iload_n 3, 1) := by decide +kernel
theorem dL_law_128 : decode cL_law 128 = .ok (.iconst 3, 1) := by decide +kernel
theorem dL_law_129 : decode cL_law 129 = .ok (.iadd, 1) := by decide +kernel
theorem dL_law_130 : decode cL_law 130 = .ok (.iaload, 1) := by decide +kernel
theorem dL_law_131 : decode cL_law 131 = .ok (.invokevirtual 17, 3) := by decide +kernel
theorem dL_law_134 : decode cL_law 134 = .ok (.if_icmp .eq 244, 3) := by decide +kernel
theorem dL_law_137 : decode cL_law 137 = .ok (.iconst 0, 1) := by decide +kernel
theorem dL_law_138 : decode cL_law 138 = .ok (.ireturn, 1) := by decide +kernel
theorem dL_law_139 : decode cL_law 139 = .ok (.aload_n 1, 1) := by decide +kernel
theorem dL_law_140 : decode cL_law 140 = .ok (.aload_n 0, 1) := by decide +kernel
theorem dL_law_141 : decode cL_law 141 = .ok (.iload_n 3, 1) := by decide +kernel
theorem dL_law_142 : decode cL_law 142 = .ok (.iconst 1, 1) := by decide +kernel
theorem dL_law_143 : decode cL_law 143 = .ok (.iadd, 1) := by decide +kernel
theorem dL_law_144 : decode cL_law 144 = .ok (.iaload, 1) := by decide +kernel
theorem dL_law_145 : decode cL_law 145 = .ok (.aload_n 0, 1) := by decide +kernel
theorem dL_law_146 : decode cL_law 146 = .ok (.iload_n 3, 1) := by decide +kernel
theorem dL_law_147 : decode cL_law 147 = .ok (.iconst 2, 1) := by decide +kernel
theorem dL_law_148 : decode cL_law 148 = .ok (.iadd, 1) := by decide +kernel
theorem dL_law_149 : decode cL_law 149 = .ok (.iaload, 1) := by decide +kernel
theorem dL_law_150 : decode cL_law 150 = .ok (.aload_n 0, 1) := by decide +kernel
theorem dL_law_151 : decode cL_law 151 = .ok (.iload_n 3, 1) := by decide +kernel
theorem dL_law_152 : decode cL_law 152 = .ok (.iconst 3, 1) := by decide +kernel
theorem dL_law_153 : decode cL_law 153 = .ok (.iadd, 1) := by decide +kernel
theorem dL_law_154 : decode cL_law 154 = .ok (.iaload, 1) := by decide +kernel
theorem dL_law_155 : decode cL_law 155 = .ok (.aload_n 0, 1) := by decide +kernel
theorem dL_law_156 : decode cL_law 156 = .ok (.iload_n 3, 1) := by decide +kernel
theorem dL_law_157 : decode cL_law 157 = .ok (.iconst 4, 1) := by decide +kernel
theorem dL_law_158 : decode cL_law 158 = .ok (.iadd, 1) := by decide +kernel
theorem dL_law_159 : decode cL_law 159 = .ok (.iaload, 1) := by decide +kernel
theorem dL_law_160 : decode cL_law 160 = .ok (.invokevirtual 18, 3) := by decide +kernel
theorem dL_law_163 : decode cL_law 163 = .ok (.aload_n 2, 1) := by decide +kernel
theorem dL_law_164 : decode cL_law 164 = .ok (.aload_n 0, 1) := by decide +kernel
theorem dL_law_165 : decode cL_law 165 = .ok (.iload_n 3, 1) := by decide +kernel
theorem dL_law_166 : decode cL_law 166 = .ok (.iconst 1, 1) := by decide +kernel
theorem dL_law_167 : decode cL_law 167 = .ok (.iadd, 1) := by decide +kernel
theorem dL_law_168 : decode cL_law 168 = .ok (.iaload, 1) := by decide +kernel
theorem dL_law_169 : decode cL_law 169 = .ok (.aload_n 0, 1) := by decide +kernel
theorem dL_law_170 : decode cL_law 170 = .ok (.iload_n 3, 1) := by decide +kernel
theorem dL_law_171 : decode cL_law 171 = .ok (.iconst 2, 1) := by decide +kernel
theorem dL_law_172 : decode cL_law 172 = .ok (.iadd, 1) := by decide +kernel
theorem dL_law_173 : decode cL_law 173 = .ok (.iaload, 1) := by decide +kernel
theorem dL_law_174 : decode cL_law 174 = .ok (.aload_n 0, 1) := by decide +kernel
theorem dL_law_175 : decode cL_law 175 = .ok (.iload_n 3, 1) := by decide +kernel
theorem dL_law_176 : decode cL_law 176 = .ok (.iconst 3, 1) := by decide +kernel
theorem dL_law_177 : decode cL_law 177 = .ok (.iadd, 1) := by decide +kernel
theorem dL_law_178 : decode cL_law 178 = .ok (.iaload, 1) := by decide +kernel
theorem dL_law_179 : decode cL_law 179 = .ok (.aload_n 0, 1) := by decide +kernel
theorem dL_law_180 : decode cL_law 180 = .ok (.iload_n 3, 1) := by decide +kernel
theorem dL_law_181 : decode cL_law 181 = .ok (.iconst 4, 1) := by decide +kernel
theorem dL_law_182 : decode cL_law 182 = .ok (.iadd, 1) := by decide +kernel
theorem dL_law_183 : decode cL_law 183 = .ok (.iaload, 1) := by decide +kernel
theorem dL_law_184 : decode cL_law 184 = .ok (.invokevirtual 22, 3) := by decide +kernel
theorem dL_law_187 : decode cL_law 187 = .ok (.if_icmp .eq 191, 3) := by decide +kernel
theorem dL_law_190 : decode cL_law 190 = .ok (.iconst 0, 1) := by decide +kernel
theorem dL_law_191 : decode cL_law 191 = .ok (.ireturn, 1) := by decide +kernel
theorem dL_law_192 : decode cL_law 192 = .ok (.aload_n 1, 1) := by decide +kernel
theorem dL_law_193 : decode cL_law 193 = .ok (.aload_n 0, 1) := by decide +kernel
theorem dL_law_194 : decode cL_law 194 = .ok (.iload_n 3, 1) := by decide +kernel
theorem dL_law_195 : decode cL_law 195 = .ok (.iconst 1, 1) := by decide +kernel
theorem dL_law_196 : decode cL_law 196 = .ok (.iadd, 1) := by decide +kernel
theorem dL_law_197 : decode cL_law 197 = .ok (.iaload, 1) := by decide +kernel
theorem dL_law_198 : decode cL_law 198 = .ok (.invokevirtual 23, 3) := by decide +kernel
theorem dL_law_201 : decode cL_law 201 = .ok (.aload_n 2, 1) := by decide +kernel
theorem dL_law_202 : decode cL_law 202 = .ok (.aload_n 0, 1) := by decide +kernel
theorem dL_law_203 : decode cL_law 203 = .ok (.iload_n 3, 1) := by decide +kernel
theorem dL_law_204 : decode cL_law 204 = .ok (.iconst 1, 1) := by decide +kernel
theorem dL_law_205 : decode cL_law 205 = .ok (.iadd, 1) := by decide +kernel
theorem dL_law_206 : decode cL_law 206 = .ok (.iaload, 1) := by decide +kernel
theorem dL_law_207 : decode cL_law 207 = .ok (.invokevirtual 27, 3) := by decide +kernel
theorem dL_law_210 : decode cL_law 210 = .ok (.if_icmp .eq 168, 3) := by decide +kernel
theorem dL_law_213 : decode cL_law 213 = .ok (.iconst 0, 1) := by decide +kernel
theorem dL_law_214 : decode cL_law 214 = .ok (.ireturn, 1) := by decide +kernel
theorem dL_law_215 : decode cL_law 215 = .ok (.aload_n 1, 1) := by decide +kernel
theorem dL_law_216 : decode cL_law 216 = .ok (.aload_n 0, 1) := by decide +kernel
theorem dL_law_217 : decode cL_law 217 = .ok (.iload_n 3, 1) := by decide +kernel
theorem dL_law_218 : decode cL_law 218 = .ok (.iconst 1, 1) := by decide +kernel
theorem dL_law_219 : decode cL_law 219 = .ok (.iadd, 1) := by decide +kernel
theorem dL_law_220 : decode cL_law 220 = .ok (.iaload, 1) := by decide +kernel
theorem dL_law_221 : decode cL_law 221 = .ok (.aload_n 0, 1) := by decide +kernel
theorem dL_law_222 : decode cL_law 222 = .ok (.iload_n 3, 1) := by decide +kernel
theorem dL_law_223 : decode cL_law 223 = .ok (.iconst 2, 1) := by decide +kernel
theorem dL_law_224 : decode cL_law 224 = .ok (.iadd, 1) := by decide +kernel
theorem dL_law_225 : decode cL_law 225 = .ok (.iaload, 1) := by decide +kernel
theorem dL_law_226 : decode cL_law 226 = .ok (.invokevirtual 28, 3) := by decide +kernel
theorem dL_law_229 : decode cL_law 229 = .ok (.aload_n 2, 1) := by decide +kernel
theorem dL_law_230 : decode cL_law 230 = .ok (.aload_n 0, 1) := by decide +kernel
theorem dL_law_231 : decode cL_law 231 = .ok (.iload_n 3, 1) := by decide +kernel
theorem dL_law_232 : decode cL_law 232 = .ok (.iconst 1, 1) := by decide +kernel
theorem dL_law_233 : decode cL_law 233 = .ok (.iadd, 1) := by decide +kernel
theorem dL_law_234 : decode cL_law 234 = .ok (.iaload, 1) := by decide +kernel
theorem dL_law_235 : decode cL_law 235 = .ok (.aload_n 0, 1) := by decide +kernel
theorem dL_law_236 : decode cL_law 236 = .ok (.iload_n 3, 1) := by decide +kernel
theorem dL_law_237 : decode cL_law 237 = .ok (.iconst 2, 1) := by decide +kernel
theorem dL_law_238 : decode cL_law 238 = .ok (.iadd, 1) := by decide +kernel
theorem dL_law_239 : decode cL_law 239 = .ok (.iaload, 1) := by decide +kernel
theorem dL_law_240 : decode cL_law 240 = .ok (.invokevirtual 32, 3) := by decide +kernel
theorem dL_law_243 : decode cL_law 243 = .ok (.goto 135, 3) := by decide +kernel
theorem dL_law_246 : decode cL_law 246 = .ok (.aload_n 1, 1) := by decide +kernel
theorem dL_law_247 : decode cL_law 247 = .ok (.aload_n 0, 1) := by decide +kernel
theorem dL_law_248 : decode cL_law 248 = .ok (.iload_n 3, 1) := by decide +kernel
theorem dL_law_249 : decode cL_law 249 = .ok (.iconst 1, 1) := by decide +kernel
theorem dL_law_250 : decode cL_law 250 = .ok (.iadd, 1) := by decide +kernel
theorem dL_law_251 : decode cL_law 251 = .ok (.iaload, 1) := by decide +kernel
theorem dL_law_252 : decode cL_law 252 = .ok (.invokevirtual 33, 3) := by decide +kernel
theorem dL_law_255 : decode cL_law 255 = .ok (.aload_n 2, 1) := by decide +kernel
theorem dL_law_256 : decode cL_law 256 = .ok (.aload_n 0, 1) := by decide +kernel
theorem dL_law_257 : decode cL_law 257 = .ok (.iload_n 3, 1) := by decide +kernel
theorem dL_law_258 : decode cL_law 258 = .ok (.iconst 1, 1) := by decide +kernel
theorem dL_law_259 : decode cL_law 259 = .ok (.iadd, 1) := by decide +kernel
theorem dL_law_260 : decode cL_law 260 = .ok (.iaload, 1) := by decide +kernel
theorem dL_law_261 : decode cL_law 261 = .ok (.invokevirtual 37, 3) := by decide +kernel
theorem dL_law_264 : decode cL_law 264 = .ok (.goto 114, 3) := by decide +kernel
theorem dL_law_267 : decode cL_law 267 = .ok (.aload_n 1, 1) := by decide +kernel
theorem dL_law_268 : decode cL_law 268 = .ok (.invokevirtual 38, 3) := by decide +kernel
theorem dL_law_271 : decode cL_law 271 = .ok (.aload_n 2, 1) := by decide +kernel
theorem dL_law_272 : decode cL_law 272 = .ok (.invokevirtual 42, 3) := by decide +kernel
theorem dL_law_275 : decode cL_law 275 = .ok (.if_icmp .eq 103, 3) := by decide +kernel
theorem dL_law_278 : decode cL_law 278 = .ok (.iconst 0, 1) := by decide +kernel
theorem dL_law_279 : decode cL_law 279 = .ok (.ireturn, 1) := by decide +kernel
theorem dL_law_280 : decode cL_law 280 = .ok (.aload_n 1, 1) := by decide +kernel
theorem dL_law_281 : decode cL_law 281 = .ok (.invokevirtual 43, 3) := by decide +kernel
theorem dL_law_284 : decode cL_law 284 = .ok (.aload_n 2, 1) := by decide +kernel
theorem dL_law_285 : decode cL_law 285 = .ok (.invokevirtual 46, 3) := by decide +kernel
theorem dL_law_288 : decode cL_law 288 = .ok (.if_icmp .eq 90, 3) := by decide +kernel
theorem dL_law_291 : decode cL_law 291 = .ok (.iconst 0, 1) := by decide +kernel
theorem dL_law_292 : decode cL_law 292 = .ok (.ireturn, 1) := by decide +kernel
theorem dL_law_293 : decode cL_law 293 = .ok (.aload_n 1, 1) := by decide +kernel
theorem dL_law_294 : decode cL_law 294 = .ok (.invokevirtual 47, 3) := by decide +kernel
theorem dL_law_297 : decode cL_law 297 = .ok (.aload_n 2, 1) := by decide +kernel
theorem dL_law_298 : decode cL_law 298 = .ok (.invokevirtual 50, 3) := by decide +kernel
theorem dL_law_301 : decode cL_law 301 = .ok (.if_icmp .eq 77, 3) := by decide +kernel
theorem dL_law_304 : decode cL_law 304 = .ok (.iconst 0, 1) := by decide +kernel
theorem dL_law_305 : decode cL_law 305 = .ok (.ireturn, 1) := by decide +kernel
theorem dL_law_306 : decode cL_law 306 = .ok (.aload_n 1, 1) := by decide +kernel
theorem dL_law_307 : decode cL_law 307 = .ok (.aload_n 0, 1) := by decide +kernel
theorem dL_law_308 : decode cL_law 308 = .ok (.iload_n 3, 1) := by decide +kernel
theorem dL_law_309 : decode cL_law 309 = .ok (.iconst 1, 1) := by decide +kernel
theorem dL_law_310 : decode cL_law 310 = .ok (.iadd, 1) := by decide +kernel
theorem dL_law_311 : decode cL_law 311 = .ok (.iaload, 1) := by decide +kernel
theorem dL_law_312 : decode cL_law 312 = .ok (.invokevirtual 51, 3) := by decide +kernel
theorem dL_law_315 : decode cL_law 315 = .ok (.aload_n 2, 1) := by decide +kernel
theorem dL_law_316 : decode cL_law 316 = .ok (.aload_n 0, 1) := by decide +kernel
theorem dL_law_317 : decode cL_law 317 = .ok (.iload_n 3, 1) := by decide +kernel
theorem dL_law_318 : decode cL_law 318 = .ok (.iconst 1, 1) := by decide +kernel
theorem dL_law_319 : decode cL_law 319 = .ok (.iadd, 1) := by decide +kernel
theorem dL_law_320 : decode cL_law 320 = .ok (.iaload, 1) := by decide +kernel
theorem dL_law_321 : decode cL_law 321 = .ok (.invokevirtual 54, 3) := by decide +kernel
theorem dL_law_324 : decode cL_law 324 = .ok (.if_icmp .eq 54, 3) := by decide +kernel
theorem dL_law_327 : decode cL_law 327 = .ok (.iconst 0, 1) := by decide +kernel
theorem dL_law_328 : decode cL_law 328 = .ok (.ireturn, 1) := by decide +kernel
theorem dL_law_329 : decode cL_law 329 = .ok (.aload_n 1, 1) := by decide +kernel
theorem dL_law_330 : decode cL_law 330 = .ok (.invokevirtual 55, 3) := by decide +kernel
theorem dL_law_333 : decode cL_law 333 = .ok (.aload_n 2, 1) := by decide +kernel
theorem dL_law_334 : decode cL_law 334 = .ok (.invokevirtual 58, 3) := by decide +kernel
theorem dL_law_337 : decode cL_law 337 = .ok (.if_icmp .eq 41, 3) := by decide +kernel
theorem dL_law_340 : decode cL_law 340 = .ok (.iconst 0, 1) := by decide +kernel
theorem dL_law_341 : decode cL_law 341 = .ok (.ireturn, 1) := by decide +kernel
theorem dL_law_342 : decode cL_law 342 = .ok (.aload_n 1, 1) := by decide +kernel
theorem dL_law_343 : decode cL_law 343 = .ok (.aload_n 0, 1) := by decide +kernel
theorem dL_law_344 : decode cL_law 344 = .ok (.iload_n 3, 1) := by decide +kernel
theorem dL_law_345 : decode cL_law 345 = .ok (.iconst 1, 1) := by decide +kernel
theorem dL_law_346 : decode cL_law 346 = .ok (.iadd, 1) := by decide +kernel
theorem dL_law_347 : decode cL_law 347 = .ok (.iaload, 1) := by decide +kernel
theorem dL_law_348 : decode cL_law 348 = .ok (.invokevirtual 59, 3) := by decide +kernel
theorem dL_law_351 : decode cL_law 351 = .ok (.aload_n 2, 1) := by decide +kernel
theorem dL_law_352 : decode cL_law 352 = .ok (.aload_n 0, 1) := by decide +kernel
theorem dL_law_353 : decode cL_law 353 = .ok (.iload_n 3, 1) := by decide +kernel
theorem dL_law_354 : decode cL_law 354 = .ok (.iconst 1, 1) := by decide +kernel
theorem dL_law_355 : decode cL_law 355 = .ok (.iadd, 1) := by decide +kernel
theorem dL_law_356 : decode cL_law 356 = .ok (.iaload, 1) := by decide +kernel
theorem dL_law_357 : decode cL_law 357 = .ok (.invokevirtual 62, 3) := by decide +kernel
theorem dL_law_360 : decode cL_law 360 = .ok (.if_icmp .eq 18, 3) := by decide +kernel
theorem dL_law_363 : decode cL_law 363 = .ok (.iconst 0, 1) := by decide +kernel
theorem dL_law_364 : decode cL_law 364 = .ok (.ireturn, 1) := by decide +kernel
theorem dL_law_365 : decode cL_law 365 = .ok (.aload_n 1, 1) := by decide +kernel
theorem dL_law_366 : decode cL_law 366 = .ok (.invokevirtual 63, 3) := by decide +kernel
theorem dL_law_369 : decode cL_law 369 = .ok (.aload_n 2, 1) := by decide +kernel
theorem dL_law_370 : decode cL_law 370 = .ok (.invokevirtual 66, 3) := by decide +kernel
theorem dL_law_373 : decode cL_law 373 = .ok (.if_icmp .eq 5, 3) := by decide +kernel
theorem dL_law_376 : decode cL_law 376 = .ok (.iconst 0, 1) := by decide +kernel
theorem dL_law_377 : decode cL_law 377 = .ok (.ireturn, 1) := by decide +kernel
theorem dL_law_378 : decode cL_law 378 = .ok (.iinc 3 5, 3) := by decide +kernel
theorem dL_law_381 : decode cL_law 381 = .ok (.goto (-363), 3) := by decide +kernel
theorem dL_law_384 : decode cL_law 384 = .ok (.iconst 1, 1) := by decide +kernel
theorem dL_law_385 : decode cL_law 385 = .ok (.ireturn, 1) := by decide +kernel
end
section
/-! PURE 1: updates, counting, the problem, the least prices -/
def un (f : Nat → Nat) (k v : Nat) : Nat → Nat := fun j => if j = k then v else f j
theorem un_s (f : Nat → Nat) (k v : Nat) : un f k v k = v := by simp [un]
theorem un_n {f : Nat → Nat} {k v j : Nat} (h : j ≠ k) : un f k v j = f j := by simp [un, h]
theorem un_id {f : Nat → Nat} {k v : Nat} (h : f k = v) : un f k v = f := by
  funext j
  by_cases e : j = k
  · subst e; rw [un_s, h]
  · rw [un_n e]
theorem un_le {f : Nat → Nat} {k v : Nat} (h : v ≤ f k) (j : Nat) : un f k v j ≤ f j := by
  by_cases e : j = k
  · subst e; rw [un_s]; exact h
  · rw [un_n e]; exact Nat.le_refl _
def cnt (p : Nat → Bool) : Nat → Nat
  | 0 => 0
  | n + 1 => cnt p n + (if p n = true then 1 else 0)
theorem cnt_succ (p : Nat → Bool) (n : Nat) : cnt p (n + 1) = cnt p n + (if p n = true then 1 else 0) := rfl
theorem cnt_le (p : Nat → Bool) : ∀ n, cnt p n ≤ n := by
  intro n
  induction n with
  | zero => exact Nat.le_refl 0
  | succ n ih => rw [cnt_succ]; split <;> omega
theorem cnt_mono {p q : Nat → Bool} : ∀ n, (∀ i, i < n → p i = true → q i = true) → cnt p n ≤ cnt q n := by
  intro n
  induction n with
  | zero => intro _; exact Nat.le_refl 0
  | succ n ih =>
    intro h
    have h1 := ih (fun i hi => h i (by omega))
    rw [cnt_succ, cnt_succ]
    by_cases hp : p n = true
    · have hq := h n (by omega) hp
      rw [if_pos hp, if_pos hq]; omega
    · rw [if_neg hp]
      split <;> omega
theorem cnt_congr {p q : Nat → Bool} (n : Nat) (h : ∀ i, i < n → p i = q i) : cnt p n = cnt q n :=
  Nat.le_antisymm (cnt_mono n (fun i hi e => by rw [← h i hi]; exact e)) (cnt_mono n (fun i hi e => by rw [h i hi]; exact e))
theorem cnt_add1 {p q : Nat → Bool} {j : Nat} : ∀ n, j < n → (∀ i, i < n → i ≠ j → p i = q i) → q j = true → p j = false → cnt q n = cnt p n + 1 := by
  intro n
  induction n with
  | zero => intro h; omega
  | succ n ih =>
    intro hj h hq hp
    rw [cnt_succ, cnt_succ]
    by_cases e : j = n
    · subst e
      rw [cnt_congr j (fun i hi => h i (by omega) (by omega)), hq, hp]
      simp
    · have h1 := ih (by omega) (fun i hi => h i (by omega)) hq hp
      have h2 := h n (by omega) (fun q => e q.symm)
      rw [h1, h2]; omega
theorem cnt_lt {p q : Nat → Bool} {j : Nat} : ∀ n, j < n → (∀ i, i < n → p i = true → q i = true) → q j = true → p j = false → cnt p n + 1 ≤ cnt q n := by
  intro n
  induction n with
  | zero => intro h; omega
  | succ n ih =>
    intro hj h hq hp
    rw [cnt_succ, cnt_succ]
    by_cases e : j = n
    · subst e
      have h1 := cnt_mono j (fun i hi => h i (by omega))
      rw [hq, hp]
      simp; exact h1
    · have h1 := ih (by omega) (fun i hi => h i (by omega)) hq hp
      by_cases hpn : p n = true
      · rw [if_pos hpn, if_pos (h n (by omega) hpn)]; omega
      · rw [if_neg hpn]
        split <;> omega
theorem cnt_full {p : Nat → Bool} {n : Nat} (h : n ≤ cnt p n) : ∀ i, i < n → p i = true := by
  intro i hi
  cases hp : p i with
  | true => rfl
  | false =>
    have h1 := cnt_lt (p := p) (q := fun _ => true) n hi (fun _ _ _ => rfl) rfl hp
    have h2 := cnt_le (fun _ => true) n
    omega
theorem cnt_room {p : Nat → Bool} {n i : Nat} (hi : i < n) (h : p i = false) : cnt p n < n := by
  have h1 := cnt_lt (p := p) (q := fun _ => true) n hi (fun _ _ _ => rfl) rfl h
  have h2 := cnt_le (fun _ => true) n
  omega
def sumTo (L : Nat → Nat) : Nat → Nat
  | 0 => 0
  | n + 1 => sumTo L n + L n
theorem sumTo_le {L M : Nat → Nat} : ∀ n, (∀ i, i < n → L i ≤ M i) → sumTo L n ≤ sumTo M n := by
  intro n
  induction n with
  | zero => intro _; exact Nat.le_refl 0
  | succ n ih =>
    intro h
    have h1 := ih (fun i hi => h i (by omega))
    have h2 := h n (by omega)
    show sumTo L n + L n ≤ sumTo M n + M n
    omega
theorem sumTo_lt {L M : Nat → Nat} {j : Nat} : ∀ n, j < n → (∀ i, i < n → L i ≤ M i) → L j < M j → sumTo L n < sumTo M n := by
  intro n
  induction n with
  | zero => intro h; omega
  | succ n ih =>
    intro hj h hlt
    show sumTo L n + L n < sumTo M n + M n
    have h2 := h n (by omega)
    by_cases e : j = n
    · subst e
      have h1 := sumTo_le j (fun i hi => h i (by omega))
      omega
    · have h1 := ih (by omega) (fun i hi => h i (by omega)) hlt
      omega
/-- the problem: 0 given, 1 needs, 2 bars, 3 adds, 4 drops, 5 price, 6 wanted true, 7 wanted false -/
abbrev PB : Type := Nat → Nat → Nat
def gl (P : PB) (s : Nat) : Bool := decide (s &&& P 6 0 = P 6 0) && decide (s &&& P 7 0 = 0)
/-- the action's facts allow it (given or not) -/
def cq (P : PB) (a s : Nat) : Bool := decide (s &&& P 1 a = P 1 a) && decide (s &&& P 2 a = 0)
def cd (P : PB) (a s : Nat) : Bool := decide (P 0 a ≠ 0) && cq P a s
def af (P : PB) (a s : Nat) : Nat := (s &&& (255 ^^^ P 4 a)) ||| P 3 a
def PW (P : PB) : Prop := (∀ a, a < 10 → P 0 a ≤ 1 ∧ P 1 a < 256 ∧ P 2 a < 256 ∧ P 3 a < 256 ∧ P 4 a < 256 ∧ P 5 a ≤ 50 ∧ (P 0 a ≠ 0 → 1 ≤ P 5 a)) ∧ P 6 0 < 256 ∧ P 7 0 < 256
theorem cd_given {P : PB} {a s : Nat} (h : cd P a s = true) : P 0 a ≠ 0 := by
  simp [cd] at h; exact h.1
theorem cd_eq {P : PB} {a s : Nat} (h : P 0 a ≠ 0) : cd P a s = cq P a s := by simp [cd, h]
theorem cd_no {P : PB} {a s : Nat} (h : P 0 a = 0) : cd P a s = false := by simp [cd, h]
theorem and256 {a b : Nat} (h : a < 256) : a &&& b < 256 := Nat.lt_of_le_of_lt Nat.and_le_left h
theorem or256 {a b : Nat} (h : a < 256) (h2 : b < 256) : a ||| b < 256 := Nat.or_lt_two_pow (n := 8) h h2
theorem af_lt {P : PB} (hW : PW P) {a s : Nat} (ha : a < 10) (hs : s < 256) : af P a s < 256 := or256 (and256 hs) (hW.1 a ha).2.2.2.1
theorem price_pos {P : PB} (hW : PW P) {a s : Nat} (ha : a < 10) (h : cd P a s = true) : 1 ≤ P 5 a := (hW.1 a ha).2.2.2.2.2.2 (cd_given h)
theorem price_le {P : PB} (hW : PW P) {a : Nat} (ha : a < 10) : P 5 a ≤ 50 := (hW.1 a ha).2.2.2.2.2.1
/-- prices that are held up by an action or the goal -/
def Sup (P : PB) (L : Nat → Nat) : Prop := (∀ s, s < 256 → gl P s = true → L s = 0) ∧ (∀ s, s < 256 → L s ≤ 1000000) ∧
  (∀ s, s < 256 → L s < 1000000 → gl P s = false → ∃ a, a < 10 ∧ cd P a s = true ∧ P 5 a + L (af P a s) ≤ L s)
/-- no action lowers a price -/
def Low (P : PB) (L : Nat → Nat) : Prop := ∀ s, s < 256 → ∀ a, a < 10 → cd P a s = true → L s ≤ P 5 a + L (af P a s)
/-- the least prices; 1000000: no plan -/
def FixH (P : PB) (H : Nat → Nat) : Prop := (∀ s, s < 256 → gl P s = true → H s = 0) ∧ (∀ s, s < 256 → H s ≤ 1000000) ∧
  (∀ s, s < 256 → ∀ a, a < 10 → cd P a s = true → H s ≤ P 5 a + H (af P a s)) ∧
  (∀ s, s < 256 → H s < 1000000 → gl P s = false → ∃ a, a < 10 ∧ cd P a s = true ∧ H s = P 5 a + H (af P a s))
theorem sup_low {P : PB} {L : Nat → Nat} {s a : Nat} (h : Sup P L) (hs : s < 256) (ha : a < 10) (hc : cd P a s = true) (hlt : P 5 a + L (af P a s) < L s) : Sup P (un L s (P 5 a + L (af P a s))) := by
  obtain ⟨h1, h2, h3⟩ := h
  refine ⟨fun x hx hg => ?_, fun x hx => ?_, fun x hx hl hg => ?_⟩
  · by_cases e : x = s
    · subst e; have := h1 x hx hg; omega
    · rw [un_n e]; exact h1 x hx hg
  · by_cases e : x = s
    · subst e; rw [un_s]; have := h2 x hx; omega
    · rw [un_n e]; exact h2 x hx
  · by_cases e : x = s
    · subst e
      refine ⟨a, ha, hc, ?_⟩
      have ht : af P a x ≠ x := fun q => by rw [q] at hlt; omega
      rw [un_s, un_n ht]; exact Nat.le_refl _
    · rw [un_n e] at hl ⊢
      obtain ⟨a', ha', hc', hle⟩ := h3 x hx hl hg
      refine ⟨a', ha', hc', ?_⟩
      have := un_le (f := L) (k := s) (v := P 5 a + L (af P a s)) (by omega) (af P a' x)
      omega
theorem fix_of_sup {P : PB} {L : Nat → Nat} (h : Sup P L) (hl : Low P L) : FixH P L := by
  refine ⟨h.1, h.2.1, hl, fun s hs h1 hg => ?_⟩
  obtain ⟨a, ha, hc, hle⟩ := h.2.2 s hs h1 hg
  have := hl s hs a ha hc
  exact ⟨a, ha, hc, by omega⟩
theorem sup_start (P : PB) : Sup P (fun s => if gl P s = true then 0 else 1000000) := by
  refine ⟨fun s _ h => by simp [h], fun s _ => by dsimp only; split <;> omega, fun s _ h hg => ?_⟩
  simp [hg] at h
theorem fix_exists (P : PB) : ∃ H, FixH P H := by
  have key : ∀ (n : Nat) (L : Nat → Nat), Sup P L → sumTo L 256 ≤ n → ∃ H, FixH P H := by
    intro n
    induction n with
    | zero =>
      intro L hL hn
      refine ⟨L, fix_of_sup hL fun s hs a ha hc => ?_⟩
      apply Nat.le_of_not_lt
      intro hlt
      have := sumTo_lt (L := un L s (P 5 a + L (af P a s))) (M := L) 256 hs (fun i _ => un_le (by omega) i) (by rw [un_s]; exact hlt)
      omega
    | succ n ih =>
      intro L hL hn
      by_cases h : ∃ s a, s < 256 ∧ a < 10 ∧ cd P a s = true ∧ P 5 a + L (af P a s) < L s
      · obtain ⟨s, a, hs, ha, hc, hlt⟩ := h
        refine ih _ (sup_low hL hs ha hc hlt) ?_
        have := sumTo_lt (L := un L s (P 5 a + L (af P a s))) (M := L) 256 hs (fun i _ => un_le (by omega) i) (by rw [un_s]; exact hlt)
        omega
      · refine ⟨L, fix_of_sup hL fun s hs a ha hc => ?_⟩
        apply Nat.le_of_not_lt
        intro hlt
        exact h ⟨s, a, hs, ha, hc, hlt⟩
  exact key _ _ (sup_start P) (Nat.le_refl _)
theorem fix_congr {P : PB} (hW : PW P) {H L : Nat → Nat} (h : FixH P H) (e : ∀ s, s < 256 → L s = H s) : FixH P L := by
  refine ⟨fun s hs hg => by rw [e s hs]; exact h.1 s hs hg, fun s hs => by rw [e s hs]; exact h.2.1 s hs, fun s hs a ha hc => ?_, fun s hs hl hg => ?_⟩
  · rw [e s hs, e _ (af_lt hW ha hs)]; exact h.2.2.1 s hs a ha hc
  · rw [e s hs] at hl
    obtain ⟨a, ha, hc, he⟩ := h.2.2.2 s hs hl hg
    exact ⟨a, ha, hc, by rw [e s hs, e _ (af_lt hW ha hs)]; exact he⟩
/-- nothing is wanted both ways, or there is no plan at all -/
theorem fix_none {P : PB} (hW : PW P) {H : Nat → Nat} (h : FixH P H) (hn : ∀ s, s < 256 → gl P s = false) : ∀ s, s < 256 → H s = 1000000 := by
  have key : ∀ n s, s < 256 → H s < n → H s < 1000000 → False := by
    intro n
    induction n with
    | zero => intro s _ h; omega
    | succ n ih =>
      intro s hs h1 h2
      obtain ⟨a, ha, hc, he⟩ := h.2.2.2 s hs h2 (hn s hs)
      have hp := price_pos hW ha hc
      exact ih (af P a s) (af_lt hW ha hs) (by omega) (by omega)
  intro s hs
  have h1 := h.2.1 s hs
  apply Nat.le_antisymm h1
  apply Nat.le_of_not_lt
  intro hlt
  exact key _ s hs (Nat.lt_succ_self _) hlt
theorem fix_zero {P : PB} (hW : PW P) {H : Nat → Nat} (h : FixH P H) {s : Nat} (hs : s < 256) : H s = 0 ↔ gl P s = true := by
  constructor
  · intro h0
    cases hg : gl P s with
    | true => rfl
    | false =>
      obtain ⟨a, ha, hc, he⟩ := h.2.2.2 s hs (by omega) hg
      have := price_pos hW ha hc
      omega
  · exact h.1 s hs
/-- the chosen action at a state -/
def IsFirst (P : PB) (H : Nat → Nat) (s a : Nat) : Prop := a < 10 ∧ cd P a s = true ∧ P 5 a + H (af P a s) = H s ∧ ∀ b, b < a → ¬ (cd P b s = true ∧ P 5 b + H (af P b s) = H s)
theorem IsFirst.uniq {P : PB} {H : Nat → Nat} {s a b : Nat} (h1 : IsFirst P H s a) (h2 : IsFirst P H s b) : a = b := by
  rcases Nat.lt_trichotomy a b with h | h | h
  · exact absurd ⟨h1.2.1, h1.2.2.1⟩ (h2.2.2.2 a h)
  · exact h
  · exact absurd ⟨h2.2.1, h2.2.2.1⟩ (h1.2.2.2 b h)
/-- the state behind k actions of pl -/
def runTo (P : PB) (pl : Nat → Nat) (s : Nat) : Nat → Nat
  | 0 => s
  | k + 1 => af P (pl k) (runTo P pl s k)
theorem runTo_congr {P : PB} {pl pm : Nat → Nat} {s : Nat} : ∀ k, (∀ j, j < k → pl j = pm j) → runTo P pl s k = runTo P pm s k := by
  intro k
  induction k with
  | zero => intro _; rfl
  | succ k ih =>
    intro h
    show af P (pl k) (runTo P pl s k) = af P (pm k) (runTo P pm s k)
    rw [ih (fun j hj => h j (by omega)), h k (by omega)]
/-- a plan of n actions from s, each the chosen one, to the goal -/
def ChainOK (P : PB) (H : Nat → Nat) (pl : Nat → Nat) (s n : Nat) : Prop := (∀ k, k < n → H (runTo P pl s k) ≠ 0 ∧ IsFirst P H (runTo P pl s k) (pl k)) ∧ H (runTo P pl s n) = 0
theorem runTo_lt {P : PB} (hW : PW P) {pl : Nat → Nat} {s : Nat} (hs : s < 256) : ∀ k, (∀ j, j < k → pl j < 10) → runTo P pl s k < 256 := by
  intro k
  induction k with
  | zero => intro _; exact hs
  | succ k ih => intro h; exact af_lt hW (h k (by omega)) (ih (fun j hj => h j (by omega)))
end
section
/-! PURE 2: the heap of states -/
def ky (b g : Nat → Nat) (x : Nat) : Nat := g x + b x
/-- hp lists n states, pl tells each its place (2 more) -/
def Bij (n : Nat) (hp pl : Nat → Nat) : Prop := (∀ i, i < n → hp i < 256 ∧ pl (hp i) = i + 2) ∧ ∀ x, x < 256 → 2 ≤ pl x → pl x < n + 2 ∧ hp (pl x - 2) = x
theorem Bij.inj {n : Nat} {hp pl : Nat → Nat} (h : Bij n hp pl) {i j : Nat} (hi : i < n) (hj : j < n) (e : hp i = hp j) : i = j := by
  have h1 := (h.1 i hi).2
  have h2 := (h.1 j hj).2
  rw [e] at h1
  omega
theorem Bij.swap {n : Nat} {hp pl : Nat → Nat} (h : Bij n hp pl) {i j : Nat} (hi : i < n) (hj : j < n) (hne : i ≠ j) :
    Bij n (un (un hp i (hp j)) j (hp i)) (un (un pl (hp j) (i + 2)) (hp i) (j + 2)) := by
  have hij : hp j ≠ hp i := fun e => hne (h.inj hj hi e).symm
  refine ⟨fun k hk => ?_, fun x hx h2 => ?_⟩
  · by_cases e1 : k = j
    · subst e1
      rw [un_s, un_s]
      exact ⟨(h.1 i hi).1, rfl⟩
    · rw [un_n e1]
      by_cases e2 : k = i
      · subst e2
        rw [un_s, un_n hij, un_s]
        exact ⟨(h.1 j hj).1, rfl⟩
      · rw [un_n e2, un_n (fun e => e2 (h.inj hk hi e)), un_n (fun e => e1 (h.inj hk hj e))]
        exact h.1 k hk
  · by_cases e1 : x = hp i
    · subst e1
      rw [un_s]
      refine ⟨by omega, ?_⟩
      rw [show j + 2 - 2 = j by omega, un_s]
    · rw [un_n e1] at h2 ⊢
      by_cases e2 : x = hp j
      · subst e2
        rw [un_s]
        refine ⟨by omega, ?_⟩
        rw [show i + 2 - 2 = i by omega, un_n hne, un_s]
      · rw [un_n e2] at h2 ⊢
        obtain ⟨h3, h4⟩ := h.2 x hx h2
        refine ⟨h3, ?_⟩
        rw [un_n (fun e => e2 (by rw [← h4, e])), un_n (fun e => e1 (by rw [← h4, e]))]
        exact h4
def Ord (b g : Nat → Nat) (n : Nat) (hp : Nat → Nat) : Prop := ∀ i, 0 < i → i < n → ky b g (hp ((i - 1) / 2)) ≤ ky b g (hp i)
def HeapOK (b g pl hp : Nat → Nat) (n : Nat) : Prop := Bij n hp pl ∧ Ord b g n hp ∧ n = cnt (fun x => decide (2 ≤ pl x)) 256
/-- the same states lie in the heap -/
def Same (pl pm : Nat → Nat) : Prop := ∀ x, x < 256 → pm x = pl x ∨ (2 ≤ pl x ∧ 2 ≤ pm x)
theorem Same.rf (pl : Nat → Nat) : Same pl pl := fun _ _ => Or.inl rfl
theorem Same.trans {a b c : Nat → Nat} (h1 : Same a b) (h2 : Same b c) : Same a c := by
  intro x hx
  rcases h1 x hx with e | e <;> rcases h2 x hx with f | f
  · exact Or.inl (f.trans e)
  · rw [e] at f; exact Or.inr f
  · rw [← f] at e; exact Or.inr e
  · exact Or.inr ⟨e.1, f.2⟩
theorem Same.un {pl : Nat → Nat} {x v : Nat} (h : 2 ≤ pl x) (hv : 2 ≤ v) : Same pl (un pl x v) := by
  intro y _
  by_cases e : y = x
  · subst e; rw [un_s]; exact Or.inr ⟨h, hv⟩
  · rw [un_n e]; exact Or.inl rfl
theorem Same.cnt {a b : Nat → Nat} (h : Same a b) : cnt (fun x => decide (2 ≤ b x)) 256 = cnt (fun x => decide (2 ≤ a x)) 256 := by
  refine cnt_congr 256 fun x hx => ?_
  rcases h x hx with e | e
  · rw [e]
  · simp [e.1, e.2]
theorem Same.zero {a b : Nat → Nat} (h : Same a b) {x : Nat} (hx : x < 256) : b x = 0 ↔ a x = 0 := by
  rcases h x hx with e | e
  · rw [e]
  · omega
theorem Same.one {a b : Nat → Nat} (h : Same a b) {x : Nat} (hx : x < 256) : b x = 1 ↔ a x = 1 := by
  rcases h x hx with e | e
  · rw [e]
  · omega
theorem Same.two {a b : Nat → Nat} (h : Same a b) {x : Nat} (hx : x < 256) : 2 ≤ b x ↔ 2 ≤ a x := by
  rcases h x hx with e | e
  · rw [e]
  · omega
/-- while s rises: it stands (in thought) at k, all else is in order -/
def RiseI (b g : Nat → Nat) (n : Nat) (hp pl : Nat → Nat) (k s : Nat) : Prop :=
  k < n ∧ s < 256 ∧ Bij n (un hp k s) (un pl s (k + 2)) ∧ (∀ i, 0 < i → i < n → i ≠ k → ky b g (un hp k s ((i - 1) / 2)) ≤ ky b g (un hp k s i)) ∧
  (∀ i, 0 < i → i < n → (i - 1) / 2 = k → 0 < k → ky b g (un hp k s ((k - 1) / 2)) ≤ ky b g (un hp k s i))
theorem hole_swap (hp : Nat → Nat) (k j s : Nat) (hne : j ≠ k) : un (un hp k (hp j)) j s = un (un (un hp k s) k (un hp k s j)) j (un hp k s k) := by
  funext x
  by_cases e1 : x = j
  · subst e1; rw [un_s, un_s, un_s]
  · rw [un_n e1, un_n e1]
    by_cases e2 : x = k
    · subst e2; rw [un_s, un_s, un_n hne]
    · rw [un_n e2, un_n e2, un_n e2]
theorem hole_swapP (hp pl : Nat → Nat) (k j s : Nat) (hne : j ≠ k) : un (un pl (hp j) (k + 2)) s (j + 2) = un (un (un pl s (k + 2)) (un hp k s j) (k + 2)) (un hp k s k) (j + 2) := by
  funext x
  rw [un_s hp k s, un_n (f := hp) (v := s) hne]
  by_cases e1 : x = s
  · subst e1; rw [un_s, un_s]
  · rw [un_n e1, un_n e1]
    by_cases e2 : x = hp j
    · subst e2; rw [un_s, un_s]
    · rw [un_n e2, un_n e2, un_n e1]
theorem hole_bij {n : Nat} {hp pl : Nat → Nat} {k j s : Nat} (h : Bij n (un hp k s) (un pl s (k + 2))) (hk : k < n) (hj : j < n) (hne : j ≠ k) : Bij n (un (un hp k (hp j)) j s) (un (un pl (hp j) (k + 2)) s (j + 2)) := by
  rw [hole_swap hp k j s hne, hole_swapP hp pl k j s hne]
  exact h.swap hk hj (fun e => hne e.symm)
theorem hole_in {n : Nat} {hp pl : Nat → Nat} {k j s : Nat} (h : Bij n (un hp k s) (un pl s (k + 2))) (hk : k < n) (hj : j < n) (hne : j ≠ k) : hp j < 256 ∧ 2 ≤ pl (hp j) ∧ hp j ≠ s := by
  have h1 := h.1 j hj
  rw [un_n hne] at h1
  have hs : hp j ≠ s := by
    intro e
    have h2 := h.1 k hk
    rw [un_s, un_s] at h2
    rw [e, un_s] at h1
    omega
  rw [un_n hs] at h1
  exact ⟨h1.1, by omega, hs⟩
theorem rise_step {b g : Nat → Nat} {n : Nat} {hp pl : Nat → Nat} {k s : Nat} (h : RiseI b g n hp pl k s) (h0 : 0 < k) (hlt : ky b g s < ky b g (hp ((k - 1) / 2))) :
    RiseI b g n (un hp k (hp ((k - 1) / 2))) (un pl (hp ((k - 1) / 2)) (k + 2)) ((k - 1) / 2) s := by
  obtain ⟨hk, hs, hB, hO, hG⟩ := h
  generalize hj : (k - 1) / 2 = j at *
  have hjk : j < k := by omega
  have hne : j ≠ k := by omega
  have vj : un (un hp k (hp j)) j s j = s := un_s _ _ _
  have vk : un (un hp k (hp j)) j s k = hp j := by rw [un_n (fun e => hne e.symm), un_s]
  have vo : ∀ x, x ≠ j → x ≠ k → un (un hp k (hp j)) j s x = hp x := fun x h1 h2 => by rw [un_n h1, un_n h2]
  have wo : ∀ x, x ≠ k → un hp k s x = hp x := fun x h1 => un_n h1
  refine ⟨by omega, hs, hole_bij hB hk (by omega) hne, fun i i0 hi hij => ?_, fun i i0 hi hp' hj0 => ?_⟩
  · by_cases e1 : i = k
    · subst e1
      rw [hj, vj, vk]; omega
    · have o1 := hO i i0 hi e1
      rw [wo i e1] at o1
      rw [vo i hij e1]
      by_cases e2 : (i - 1) / 2 = j
      · rw [e2, vj]
        rw [e2, wo j hne] at o1
        omega
      · by_cases e3 : (i - 1) / 2 = k
        · rw [e3, vk]
          have o2 := hG i i0 hi e3 h0
          rw [wo j hne, wo i e1] at o2
          exact o2
        · rw [vo _ e2 e3]
          rw [wo _ e3] at o1
          exact o1
  · have oj := hO j hj0 (by omega) hne
    have hpj : (j - 1) / 2 < j := by omega
    rw [wo j hne, wo ((j - 1) / 2) (by omega)] at oj
    rw [vo ((j - 1) / 2) (by omega) (by omega)]
    by_cases e1 : i = k
    · subst e1
      rw [vk]; exact oj
    · rw [vo i (by omega) e1]
      have oi := hO i i0 hi e1
      rw [hp', wo j hne, wo i e1] at oi
      omega
theorem rise_end {b g : Nat → Nat} {n : Nat} {hp pl : Nat → Nat} {k s : Nat} (h : RiseI b g n hp pl k s) (he : k = 0 ∨ ky b g (hp ((k - 1) / 2)) ≤ ky b g s) : Bij n (un hp k s) (un pl s (k + 2)) ∧ Ord b g n (un hp k s) := by
  obtain ⟨hk, hs, hB, hO, hG⟩ := h
  refine ⟨hB, fun i i0 hi => ?_⟩
  by_cases e : i = k
  · subst e
    rcases he with h0 | he
    · omega
    · rw [un_n (show (i - 1) / 2 ≠ i by omega), un_s]; exact he
  · exact hO i i0 hi e
/-- while s sinks -/
def SinkI (b g : Nat → Nat) (n : Nat) (hp pl : Nat → Nat) (k s : Nat) : Prop :=
  k < n ∧ s < 256 ∧ Bij n (un hp k s) (un pl s (k + 2)) ∧ (∀ i, 0 < i → i < n → (i - 1) / 2 ≠ k → ky b g (un hp k s ((i - 1) / 2)) ≤ ky b g (un hp k s i)) ∧
  (∀ i, 0 < i → i < n → (i - 1) / 2 = k → 0 < k → ky b g (un hp k s ((k - 1) / 2)) ≤ ky b g (un hp k s i))
theorem sink_step {b g : Nat → Nat} {n : Nat} {hp pl : Nat → Nat} {k s c : Nat} (h : SinkI b g n hp pl k s) (hc : c < n) (c0 : 0 < c) (hcp : (c - 1) / 2 = k)
    (hmin : ∀ i, 0 < i → i < n → (i - 1) / 2 = k → ky b g (hp c) ≤ ky b g (hp i)) (hlt : ky b g (hp c) < ky b g s) : SinkI b g n (un hp k (hp c)) (un pl (hp c) (k + 2)) c s := by
  obtain ⟨hk, hs, hB, hO, hG⟩ := h
  have hkc : k < c := by omega
  have hne : c ≠ k := by omega
  have vc : un (un hp k (hp c)) c s c = s := un_s _ _ _
  have vk : un (un hp k (hp c)) c s k = hp c := by rw [un_n (fun e => hne e.symm), un_s]
  have vo : ∀ x, x ≠ c → x ≠ k → un (un hp k (hp c)) c s x = hp x := fun x h1 h2 => by rw [un_n h1, un_n h2]
  have wo : ∀ x, x ≠ k → un hp k s x = hp x := fun x h1 => un_n h1
  refine ⟨hc, hs, hole_bij hB hk hc hne, fun i i0 hi hij => ?_, fun i i0 hi hpi _ => ?_⟩
  · by_cases e1 : i = c
    · subst e1
      rw [hcp, vk, vc]; omega
    · by_cases e2 : (i - 1) / 2 = k
      · rw [e2, vk, vo i e1 (by omega)]
        exact hmin i i0 hi e2
      · have o1 := hO i i0 hi e2
        rw [vo _ hij e2]
        rw [wo _ e2] at o1
        by_cases e3 : i = k
        · subst e3
          rw [vk]
          have o2 := hG c c0 hc hcp i0
          rw [wo _ e2, wo c hne] at o2
          exact o2
        · rw [vo i e1 e3]
          rw [wo i e3] at o1
          exact o1
  · have o1 := hO i i0 hi (by omega)
    rw [hpi, wo c hne, wo i (by omega)] at o1
    rw [hcp, vk, vo i (by omega) (by omega)]
    exact o1
theorem sink_end {b g : Nat → Nat} {n : Nat} {hp pl : Nat → Nat} {k s : Nat} (h : SinkI b g n hp pl k s) (he : ∀ i, 0 < i → i < n → (i - 1) / 2 = k → ky b g s ≤ ky b g (hp i)) : Bij n (un hp k s) (un pl s (k + 2)) ∧ Ord b g n (un hp k s) := by
  obtain ⟨hk, hs, hB, hO, hG⟩ := h
  refine ⟨hB, fun i i0 hi => ?_⟩
  by_cases e : (i - 1) / 2 = k
  · rw [e, un_s, un_n (show i ≠ k by omega)]
    exact he i i0 hi e
  · exact hO i i0 hi e
theorem ord_top {b g : Nat → Nat} {n : Nat} {hp : Nat → Nat} (h : Ord b g n hp) : ∀ i, i < n → ky b g (hp 0) ≤ ky b g (hp i) := by
  intro i
  induction i using Nat.strongRecOn with
  | ind i ih =>
    intro hi
    by_cases e : i = 0
    · subst e; exact Nat.le_refl _
    · have h1 := ih ((i - 1) / 2) (by omega) (by omega)
      have h2 := h i (by omega) hi
      omega
theorem heap_top {b g pl hp : Nat → Nat} {n : Nat} (h : HeapOK b g pl hp n) {x : Nat} (hx : x < 256) (h2 : 2 ≤ pl x) : ky b g (hp 0) ≤ ky b g x := by
  obtain ⟨h3, h4⟩ := h.1.2 x hx h2
  have := ord_top h.2.1 (pl x - 2) (by omega)
  rw [h4] at this
  exact this
theorem heap_le {b g pl hp : Nat → Nat} {n : Nat} (h : HeapOK b g pl hp n) : n ≤ 256 := by
  rw [h.2.2]; exact cnt_le _ _
/-- the top leaves: the rest, before the last sinks from the top -/
theorem take_cnt {b g pl hp : Nat → Nat} {n : Nat} (h : HeapOK b g pl hp (n + 1)) : n = cnt (fun x => decide (2 ≤ un pl (hp 0) 0 x)) 256 := by
  have h0 := h.1.1 0 (by omega)
  have := cnt_add1 (p := fun x => decide (2 ≤ un pl (hp 0) 0 x)) (q := fun x => decide (2 ≤ pl x)) (j := hp 0) 256 h0.1 (fun i _ hi => by rw [un_n hi]) (by simp [h0.2]) (by simp [un_s])
  have h2 := h.2.2
  omega
theorem take_last {b g pl hp : Nat → Nat} (h : HeapOK b g pl hp 1) : HeapOK b g (un pl (hp 0) 0) hp 0 := by
  refine ⟨⟨fun i hi => by omega, fun x hx h2 => ?_⟩, fun i _ hi => by omega, take_cnt h⟩
  by_cases e : x = hp 0
  · subst e; rw [un_s] at h2; omega
  · rw [un_n e] at h2
    obtain ⟨h3, h4⟩ := h.1.2 x hx h2
    rw [show pl x - 2 = 0 by omega] at h4
    exact absurd h4.symm e
theorem take_sink {b g pl hp : Nat → Nat} {n : Nat} (h : HeapOK b g pl hp (n + 1)) (hn : 0 < n) : SinkI b g n hp (un pl (hp 0) 0) 0 (hp n) := by
  obtain ⟨hB, hO, hc⟩ := h
  have hne : ∀ i, i < n + 1 → i ≠ n → hp i ≠ hp n := fun i hi h1 e => h1 (hB.inj hi (by omega) e)
  refine ⟨hn, (hB.1 n (by omega)).1, ⟨fun i hi => ?_, fun x hx h2 => ?_⟩, fun i i0 hi h1 => ?_, fun i _ _ _ h0 => by omega⟩
  · by_cases e : i = 0
    · subst e
      rw [un_s, un_s]
      exact ⟨(hB.1 n (by omega)).1, rfl⟩
    · rw [un_n e, un_n (hne i (by omega) (by omega)), un_n (fun q => e (hB.inj (by omega) (by omega) q))]
      exact hB.1 i (by omega)
  · by_cases e : x = hp n
    · subst e
      rw [un_s]
      exact ⟨by omega, un_s _ _ _⟩
    · rw [un_n e] at h2 ⊢
      by_cases e2 : x = hp 0
      · subst e2; rw [un_s] at h2; omega
      · rw [un_n e2] at h2 ⊢
        obtain ⟨h3, h4⟩ := hB.2 x hx h2
        have n1 : pl x - 2 ≠ n := fun q => e (by rw [← h4, q])
        have n2 : pl x - 2 ≠ 0 := fun q => e2 (by rw [← h4, q])
        refine ⟨by omega, ?_⟩
        rw [un_n n2]; exact h4
  · rw [un_n h1, un_n (show i ≠ 0 by omega)]
    exact hO i i0 (by omega)
/-- a state is put in at the end -/
theorem put_rise {b g pl hp : Nat → Nat} {n s v : Nat} (h : HeapOK b g pl hp n) (hs : s < 256) (h1 : pl s = 1) : RiseI b (un g s v) (n + 1) (un hp n s) (un pl s (n + 2)) n s := by
  obtain ⟨hB, hO, hc⟩ := h
  have hne : ∀ i, i < n → hp i ≠ s := fun i hi e => by have := (hB.1 i hi).2; rw [e] at this; omega
  refine ⟨by omega, hs, ?_, fun i i0 hi hin => ?_, fun i i0 hi hp' h0 => by omega⟩
  · rw [un_id (un_s _ _ _), un_id (un_s _ _ _)]
    refine ⟨fun i hi => ?_, fun x hx h2 => ?_⟩
    · by_cases e : i = n
      · subst e; rw [un_s, un_s]; exact ⟨hs, rfl⟩
      · rw [un_n e, un_n (hne i (by omega))]
        exact hB.1 i (by omega)
    · by_cases e : x = s
      · subst e; rw [un_s]
        refine ⟨by omega, ?_⟩
        rw [show n + 2 - 2 = n by omega, un_s]
      · rw [un_n e] at h2 ⊢
        obtain ⟨h3, h4⟩ := hB.2 x hx h2
        refine ⟨by omega, ?_⟩
        rw [un_n (by omega)]; exact h4
  · rw [un_id (un_s _ _ _), un_n (show (i - 1) / 2 ≠ n by omega), un_n hin]
    have o := hO i i0 (by omega)
    unfold ky at *
    rw [un_n (hne _ (by omega)), un_n (hne _ (by omega))]
    exact o
theorem put_cnt {pl : Nat → Nat} {n s : Nat} (h : n = cnt (fun x => decide (2 ≤ pl x)) 256) (hs : s < 256) (h1 : pl s = 1) : n + 1 = cnt (fun x => decide (2 ≤ un pl s (n + 2) x)) 256 := by
  have := cnt_add1 (p := fun x => decide (2 ≤ pl x)) (q := fun x => decide (2 ≤ un pl s (n + 2) x)) (j := s) 256 hs (fun i _ hi => by rw [un_n hi]) (by simp [un_s]) (by simp [h1])
  omega
theorem put_room {b g pl hp : Nat → Nat} {n s : Nat} (h : HeapOK b g pl hp n) (hs : s < 256) (h1 : pl s = 1) : n < 256 := by
  rw [h.2.2]
  exact cnt_room hs (by simp [h1])
/-- a state's price is lowered where it stands -/
theorem low_rise {b g pl hp : Nat → Nat} {n s v : Nat} (h : HeapOK b g pl hp n) (hs : s < 256) (h2 : 2 ≤ pl s) (hv : v < g s) : RiseI b (un g s v) n hp pl (pl s - 2) s := by
  obtain ⟨hB, hO, hc⟩ := h
  obtain ⟨h3, h4⟩ := hB.2 s hs h2
  have e1 : un hp (pl s - 2) s = hp := un_id h4
  have e2 : un pl s (pl s - 2 + 2) = pl := un_id (by omega)
  have hne : ∀ i, i < n → i ≠ pl s - 2 → hp i ≠ s := fun i hi hk e => by have := (hB.1 i hi).2; rw [e] at this; omega
  refine ⟨by omega, hs, by rw [e1, e2]; exact hB, fun i i0 hi hk => ?_, fun i i0 hi hp' h0 => ?_⟩
  · rw [e1]
    have o := hO i i0 hi
    unfold ky at *
    rw [un_n (hne i hi hk)]
    have := un_le (f := g) (k := s) (v := v) (by omega) (hp ((i - 1) / 2))
    omega
  · rw [e1]
    have o := hO i i0 hi
    have o2 := hO (pl s - 2) h0 (by omega)
    rw [hp'] at o
    unfold ky at *
    rw [un_n (hne i hi (by omega)), un_n (hne _ (by omega) (by omega))]
    omega
end
section
/-! PURE 3: the bound, the search -/
theorem bit_and {x f : Nat} : x &&& 2 ^ f = 0 ↔ x.testBit f = false := by
  constructor
  · intro h
    have h1 : (x &&& 2 ^ f).testBit f = (0 : Nat).testBit f := by rw [h]
    rw [Nat.testBit_and, Nat.testBit_two_pow_self] at h1
    simpa using h1
  · intro h
    apply Nat.eq_of_testBit_eq
    intro i
    rw [Nat.testBit_and, Nat.testBit_two_pow, Nat.zero_testBit]
    by_cases e : f = i
    · subst e; rw [h]; rfl
    · simp [e]
theorem bit255 : ∀ f, f < 8 → Nat.testBit 255 f = true := by decide
theorem af_bit (P : PB) (a s : Nat) {f : Nat} (hf : f < 8) : (af P a s).testBit f = ((s.testBit f && !((P 4 a).testBit f)) || (P 3 a).testBit f) := by
  unfold af
  rw [Nat.testBit_or, Nat.testBit_and, Nat.testBit_xor, bit255 f hf]
  simp
theorem gl_bit {P : PB} {s : Nat} (h : gl P s = true) (f : Nat) : ((P 6 0).testBit f = true → s.testBit f = true) ∧ ((P 7 0).testBit f = true → s.testBit f = false) := by
  simp only [gl, Bool.and_eq_true, decide_eq_true_eq] at h
  obtain ⟨h1, h2⟩ := h
  constructor
  · intro hb
    rw [← h1, Nat.testBit_and] at hb
    simp at hb; exact hb.1
  · intro hb
    have h3 : (s &&& P 7 0).testBit f = (0 : Nat).testBit f := by rw [h2]
    rw [Nat.testBit_and, hb] at h3
    simpa using h3
/-- bound(), over the facts below n -/
def bdU (wt wf : Nat) (ra lo : Nat → Nat) (s : Nat) : Nat → Nat
  | 0 => 0
  | f + 1 =>
    if wf.testBit f = true ∧ s.testBit f = true ∧ (if wt.testBit f = true ∧ s.testBit f = false ∧ bdU wt wf ra lo s f < ra f then ra f else bdU wt wf ra lo s f) < lo f then lo f
    else if wt.testBit f = true ∧ s.testBit f = false ∧ bdU wt wf ra lo s f < ra f then ra f else bdU wt wf ra lo s f
theorem bdU_succ (wt wf : Nat) (ra lo : Nat → Nat) (s f : Nat) : bdU wt wf ra lo s (f + 1) = if wf.testBit f = true ∧ s.testBit f = true ∧ (if wt.testBit f = true ∧ s.testBit f = false ∧ bdU wt wf ra lo s f < ra f then ra f else bdU wt wf ra lo s f) < lo f then lo f
    else if wt.testBit f = true ∧ s.testBit f = false ∧ bdU wt wf ra lo s f < ra f then ra f else bdU wt wf ra lo s f := rfl
theorem bdU_le {wt wf : Nat} {ra lo : Nat → Nat} {s M : Nat} : ∀ n, (∀ f, f < n → (wt.testBit f = true → s.testBit f = false → ra f ≤ M) ∧ (wf.testBit f = true → s.testBit f = true → lo f ≤ M)) → bdU wt wf ra lo s n ≤ M := by
  intro n
  induction n with
  | zero => intro _; exact Nat.zero_le _
  | succ n ih =>
    intro h
    have h1 := ih (fun f hf => h f (by omega))
    obtain ⟨h2, h3⟩ := h n (by omega)
    rw [bdU_succ]
    by_cases q1 : wt.testBit n = true ∧ s.testBit n = false ∧ bdU wt wf ra lo s n < ra n
    · rw [if_pos q1]
      by_cases q2 : wf.testBit n = true ∧ s.testBit n = true ∧ ra n < lo n
      · rw [if_pos q2]; exact h3 q2.1 q2.2.1
      · rw [if_neg q2]; exact h2 q1.1 q1.2.1
    · rw [if_neg q1]
      by_cases q2 : wf.testBit n = true ∧ s.testBit n = true ∧ bdU wt wf ra lo s n < lo n
      · rw [if_pos q2]; exact h3 q2.1 q2.2.1
      · rw [if_neg q2]; exact h1
theorem bdU_step {wt wf : Nat} {ra lo : Nat → Nat} {s : Nat} (n : Nat) : bdU wt wf ra lo s n ≤ bdU wt wf ra lo s (n + 1) ∧ (wt.testBit n = true → s.testBit n = false → ra n ≤ bdU wt wf ra lo s (n + 1)) ∧ (wf.testBit n = true → s.testBit n = true → lo n ≤ bdU wt wf ra lo s (n + 1)) := by
  rw [bdU_succ]
  by_cases q1 : wt.testBit n = true ∧ s.testBit n = false ∧ bdU wt wf ra lo s n < ra n
  · rw [if_pos q1]
    have q2 : ¬ (wf.testBit n = true ∧ s.testBit n = true ∧ ra n < lo n) := fun q => by rw [q1.2.1] at q; exact absurd q.2.1 (by decide)
    rw [if_neg q2]
    refine ⟨by omega, fun _ _ => Nat.le_refl _, fun _ h => ?_⟩
    rw [q1.2.1] at h; exact absurd h (by decide)
  · rw [if_neg q1]
    by_cases q2 : wf.testBit n = true ∧ s.testBit n = true ∧ bdU wt wf ra lo s n < lo n
    · rw [if_pos q2]
      refine ⟨by omega, fun _ h => ?_, fun _ _ => Nat.le_refl _⟩
      rw [q2.2.1] at h; exact absurd h (by decide)
    · rw [if_neg q2]
      exact ⟨Nat.le_refl _, fun h1 h2 => Nat.le_of_not_lt fun h3 => q1 ⟨h1, h2, h3⟩, fun h1 h2 => Nat.le_of_not_lt fun h3 => q2 ⟨h1, h2, h3⟩⟩
theorem bdU_ge {wt wf : Nat} {ra lo : Nat → Nat} {s f : Nat} : ∀ n, f < n → (wt.testBit f = true → s.testBit f = false → ra f ≤ bdU wt wf ra lo s n) ∧ (wf.testBit f = true → s.testBit f = true → lo f ≤ bdU wt wf ra lo s n) := by
  intro n
  induction n with
  | zero => intro h; omega
  | succ n ih =>
    intro hf
    have h0 := bdU_step (wt := wt) (wf := wf) (ra := ra) (lo := lo) (s := s) n
    by_cases e : f = n
    · subst e; exact h0.2
    · have h1 := ih (by omega)
      exact ⟨fun a b => Nat.le_trans (h1.1 a b) h0.1, fun a b => Nat.le_trans (h1.2 a b) h0.1⟩
def bd (P : PB) (ra lo : Nat → Nat) (s : Nat) : Nat := bdU (P 6 0) (P 7 0) ra lo s 8
/-- what findCheapest leaves -/
def Cheap (P : PB) (ra lo : Nat → Nat) : Prop := (∀ f, f < 8 → ra f ≤ 1000000 ∧ lo f ≤ 1000000) ∧
  ∀ a, a < 10 → P 0 a ≠ 0 → ∀ f, f < 8 → ((P 3 a).testBit f = true → ra f ≤ P 5 a) ∧ ((P 4 a).testBit f = true → (P 3 a).testBit f = false → lo f ≤ P 5 a)
/-- a bound that no plan goes below -/
def BOK (P : PB) (b : Nat → Nat) : Prop := (∀ s, s < 256 → b s ≤ 1000000) ∧ (∀ s, s < 256 → gl P s = true → b s = 0) ∧ ∀ s, s < 256 → ∀ a, a < 10 → cd P a s = true → b s ≤ P 5 a + b (af P a s)
theorem bok_of_cheap {P : PB} {ra lo : Nat → Nat} (h : Cheap P ra lo) : BOK P (bd P ra lo) := by
  refine ⟨fun s hs => bdU_le 8 fun f hf => ⟨fun _ _ => (h.1 f hf).1, fun _ _ => (h.1 f hf).2⟩, fun s hs hg => ?_, fun s hs a ha hc => ?_⟩
  · have : bd P ra lo s ≤ 0 := bdU_le 8 fun f hf => ⟨fun h1 h2 => ?_, fun h1 h2 => ?_⟩
    · omega
    · rw [(gl_bit hg f).1 h1] at h2; exact absurd h2 (by decide)
    · rw [(gl_bit hg f).2 h1] at h2; exact absurd h2 (by decide)
  · refine bdU_le 8 fun f hf => ?_
    have hb := af_bit P a s hf
    have hq := h.2 a ha (cd_given hc) f hf
    have hg := bdU_ge (wt := P 6 0) (wf := P 7 0) (ra := ra) (lo := lo) (s := af P a s) (f := f) 8 hf
    constructor
    · intro h1 h2
      cases ht : (af P a s).testBit f with
      | true =>
        rw [h2, ht] at hb
        have h3 : (P 3 a).testBit f = true := by simpa using hb.symm
        have := hq.1 h3
        omega
      | false =>
        have := hg.1 h1 ht
        unfold bd; omega
    · intro h1 h2
      cases ht : (af P a s).testBit f with
      | true =>
        have := hg.2 h1 ht
        unfold bd; omega
      | false =>
        rw [h2, ht] at hb
        have h3 : (P 4 a).testBit f = true ∧ (P 3 a).testBit f = false := by
          cases h4 : (P 4 a).testBit f <;> cases h5 : (P 3 a).testBit f <;> simp [h4, h5] at hb ⊢
        have := hq.2 h3.1 h3.2
        omega
theorem bok_adm {P : PB} (hW : PW P) {b : Nat → Nat} (h : BOK P b) {H : Nat → Nat} (hH : FixH P H) : ∀ x, x < 256 → b x ≤ H x := by
  have key : ∀ n x, x < 256 → H x < n → b x ≤ H x := by
    intro n
    induction n with
    | zero => intro x _ h; omega
    | succ n ih =>
      intro x hx hn
      have h1 := h.1 x hx
      have h2 := hH.2.1 x hx
      by_cases e : H x = 1000000
      · omega
      · cases hg : gl P x with
        | true => rw [h.2.1 x hx hg]; exact Nat.zero_le _
        | false =>
          obtain ⟨a, ha, hc, he⟩ := hH.2.2.2 x hx (by omega) hg
          have hp := price_pos hW ha hc
          have h3 := ih (af P a x) (af_lt hW ha hx) (by omega)
          have h4 := h.2.2 x hx a ha hc
          omega
  exact fun x hx => key _ x hx (Nat.lt_succ_self _)
/-- the search between its steps: prices g, places pl (0: taken out, 1: never seen), the heap hp of n states, those that left it lf, lc; the best price; e: a state not yet spread -/
def SC (P : PB) (b : Nat → Nat) (st : Nat) (g pl hp : Nat → Nat) (n : Nat) (lf : Nat → Nat) (lc best κ e : Nat) : Prop :=
  HeapOK b g pl hp n ∧ (∀ x, x < 256 → g x ≤ 1000000 ∧ (pl x = 1 → g x = 1000000)) ∧
  (lc = cnt (fun x => decide (pl x = 0)) 256 ∧ (∀ i, i < lc → lf i < 256 ∧ pl (lf i) = 0) ∧ ∀ x, x < 256 → pl x = 0 → ∃ i, i < lc ∧ lf i = x) ∧
  (∀ x, x < 256 → pl x = 0 → x ≠ e → gl P x = false → ∀ a, a < 10 → cd P a x = true → g (af P a x) ≤ g x + P 5 a) ∧
  (∀ x, x < 256 → (pl x = 0 → ky b g x ≤ κ) ∧ (2 ≤ pl x → κ ≤ ky b g x)) ∧ g st = 0 ∧
  (best ≤ 1000000 ∧ (best = 1000000 ∨ ∃ x, x < 256 ∧ pl x = 0 ∧ gl P x = true ∧ g x = best) ∧ ∀ x, x < 256 → pl x = 0 → x ≠ e → gl P x = true → best ≤ g x) ∧
  (∀ H, FixH P H → ∀ x, x < 256 → H st ≤ g x + H x)
/-- what reach(t, v) does -/
def RP (b : Nat → Nat) (t v : Nat) (g pl hp : Nat → Nat) (n : Nat) (g' pl' hp' : Nat → Nat) (n' : Nat) : Prop :=
  ((pl t = 0 ∨ g t ≤ v) ∧ g' = g ∧ pl' = pl ∧ hp' = hp ∧ n' = n) ∨
  ((pl t ≠ 0 ∧ v < g t) ∧ g' = un g t v ∧ HeapOK b g' pl' hp' n' ∧ (∀ x, x < 256 → x ≠ t → pl' x = pl x ∨ (2 ≤ pl x ∧ 2 ≤ pl' x)) ∧ 2 ≤ pl' t)
theorem sc_relax {P : PB} (hW : PW P) {b : Nat → Nat} (hb : BOK P b) {st : Nat} {g pl hp : Nat → Nat} {n : Nat} {lf : Nat → Nat} {lc best s a : Nat} (hs : s < 256) (ha : a < 10) (hc : cd P a s = true) {g' pl' hp' : Nat → Nat} {n' : Nat}
    (h : SC P b st g pl hp n lf lc best (ky b g s) s) (h0 : pl s = 0) (hpr : ∀ a', a' < a → cd P a' s = true → g (af P a' s) ≤ g s + P 5 a')
    (hr : RP b (af P a s) (g s + P 5 a) g pl hp n g' pl' hp' n') :
    SC P b st g' pl' hp' n' lf lc best (ky b g' s) s ∧ pl' s = 0 ∧ (∀ a', a' < a + 1 → cd P a' s = true → g' (af P a' s) ≤ g' s + P 5 a') := by
  have ht : af P a s < 256 := af_lt hW ha hs
  have hcons := hb.2.2 s hs a ha hc
  obtain ⟨h1, h2, h3, h4, h5, h6, h7, h8⟩ := h
  rcases hr with ⟨hr, rfl, rfl, rfl, rfl⟩ | ⟨⟨hr1, hr2⟩, rfl, hok, hsm, ht2⟩
  · refine ⟨⟨h1, h2, h3, h4, h5, h6, h7, h8⟩, h0, fun a' ha' hc' => ?_⟩
    by_cases e : a' = a
    · subst e
      rcases hr with hr | hr
      · have := (h5 _ ht).1 hr
        unfold ky at this
        omega
      · exact hr
    · exact hpr a' (by omega) hc'
  · generalize htt : af P a s = t at *
    have hst : s ≠ t := fun e => hr1 (by rw [← e]; exact h0)
    have z0 : ∀ x, x < 256 → (pl' x = 0 ↔ pl x = 0) := by
      intro x hx
      by_cases e : x = t
      · subst e; omega
      · rcases hsm x hx e with q | q
        · rw [q]
        · omega
    have nt : ∀ x, x < 256 → pl x = 0 → x ≠ t := fun x _ q e => hr1 (by rw [← e]; exact q)
    have gle : ∀ x, un g t (g s + P 5 a) x ≤ g x := un_le (by omega)
    have gs : un g t (g s + P 5 a) s = g s := un_n hst
    refine ⟨⟨hok, fun x hx => ?_, ⟨?_, fun i hi => ?_, fun x hx q => h3.2.2 x hx ((z0 x hx).mp q)⟩, fun x hx q1 q2 q3 a' ha' hc' => ?_, fun x hx => ?_, ?_, ⟨h7.1, ?_, fun x hx q1 q2 q3 => ?_⟩, fun H hH x hx => ?_⟩, (z0 s hs).mpr h0, fun a' ha' hc' => ?_⟩
    · refine ⟨Nat.le_trans (gle x) (h2 x hx).1, fun q => ?_⟩
      have e : x ≠ t := fun e => by rw [e] at q; omega
      rw [un_n e]
      rcases hsm x hx e with f | f
      · exact (h2 x hx).2 (by rw [← f]; exact q)
      · omega
    · rw [h3.1]
      exact cnt_congr 256 fun x hx => by
        have := z0 x hx
        by_cases q : pl x = 0
        · simp [q, this.mpr q]
        · have q2 : ¬ pl' x = 0 := fun e => q (this.mp e)
          simp [q, q2]
    · exact ⟨(h3.2.1 i hi).1, (z0 _ (h3.2.1 i hi).1).mpr (h3.2.1 i hi).2⟩
    · have q1' := (z0 x hx).mp q1
      rw [un_n (nt x hx q1')]
      exact Nat.le_trans (gle _) (h4 x hx q1' q2 q3 a' ha' hc')
    · constructor
      · intro q
        have q' := (z0 x hx).mp q
        have := (h5 x hx).1 q'
        unfold ky at *
        rw [un_n (nt x hx q'), gs]
        exact this
      · intro q
        by_cases e : x = t
        · subst e
          unfold ky at *
          rw [un_s, gs]
          omega
        · have q' : 2 ≤ pl x := by
            rcases hsm x hx e with f | f
            · rw [← f]; exact q
            · exact f.1
          have := (h5 x hx).2 q'
          unfold ky at *
          rw [un_n e, gs]
          exact this
    · by_cases e : st = t
      · rw [← e] at hr2; omega
      · rw [un_n e]; exact h6
    · rcases h7.2.1 with q | ⟨x, hx, q1, q2, q3⟩
      · exact Or.inl q
      · exact Or.inr ⟨x, hx, (z0 x hx).mpr q1, q2, by rw [un_n (nt x hx q1)]; exact q3⟩
    · have q1' := (z0 x hx).mp q1
      rw [un_n (nt x hx q1')]
      exact h7.2.2 x hx q1' q2 q3
    · by_cases e : x = t
      · subst e
        rw [un_s]
        have := h8 H hH s hs
        have := hH.2.2.1 s hs a ha hc
        rw [htt] at this
        omega
      · rw [un_n e]; exact h8 H hH x hx
    · rw [gs]
      by_cases e : a' = a
      · subst e
        rw [htt, un_s]
        exact Nat.le_refl _
      · exact Nat.le_trans (gle _) (hpr a' (by omega) hc')
/-- what takeLeast() does: the top is hp 0 -/
def TP (b g pl hp : Nat → Nat) (n : Nat) (pl' hp' : Nat → Nat) (n' : Nat) : Prop := n = n' + 1 ∧ HeapOK b g pl' hp' n' ∧ Same (un pl (hp 0) 0) pl'
theorem sc_pop {P : PB} {b : Nat → Nat} {st : Nat} {g pl hp : Nat → Nat} {n : Nat} {lf : Nat → Nat} {lc best κ : Nat} {pl' hp' : Nat → Nat} {n' : Nat}
    (h : SC P b st g pl hp n lf lc best κ 256) (ht : TP b g pl hp n pl' hp' n') :
    SC P b st g pl' hp' n' (un lf lc (hp 0)) (lc + 1) best (ky b g (hp 0)) (hp 0) ∧ pl' (hp 0) = 0 ∧ hp 0 < 256 ∧ lc < 256 := by
  obtain ⟨hn, hok, hsm⟩ := ht
  obtain ⟨h1, h2, h3, h4, h5, h6, h7, h8⟩ := h
  have hs := (h1.1.1 0 (by omega)).1
  have hs2 := (h1.1.1 0 (by omega)).2
  have htop : ∀ x, x < 256 → 2 ≤ pl x → ky b g (hp 0) ≤ ky b g x := fun x hx q => heap_top h1 hx q
  generalize hp 0 = s at *
  have s0 : pl' s = 0 := (hsm.zero hs).mpr (un_s _ _ _)
  have z0 : ∀ x, x < 256 → x ≠ s → (pl' x = 0 ↔ pl x = 0) := fun x hx e => by rw [hsm.zero hx, un_n e]
  have z1 : ∀ x, x < 256 → pl' x = 1 → pl x = 1 := fun x hx q => by
    have q1 := (hsm.one hx).mp q
    by_cases e : x = s
    · subst e; rw [un_s] at q1; omega
    · rw [un_n e] at q1; exact q1
  have z2 : ∀ x, x < 256 → 2 ≤ pl' x → 2 ≤ pl x ∧ x ≠ s := fun x hx q => by
    have q1 := (hsm.two hx).mp q
    by_cases e : x = s
    · subst e; rw [un_s] at q1; omega
    · rw [un_n e] at q1; exact ⟨q1, e⟩
  have ns : ∀ x, pl x = 0 → x ≠ s := fun x q e => by rw [e] at q; omega
  have hc := cnt_add1 (p := fun x => decide (pl x = 0)) (q := fun x => decide (pl' x = 0)) (j := s) 256 hs (fun i hi hne => by
      have := z0 i hi hne
      by_cases q : pl i = 0
      · simp [q, this.mpr q]
      · have q2 : ¬ pl' i = 0 := fun e => q (this.mp e)
        simp [q, q2]) (by simp [s0]) (by simp [hs2])
  have hlt : lc < 256 := by rw [h3.1]; exact cnt_room hs (by simp [hs2])
  refine ⟨⟨hok, fun x hx => ⟨(h2 x hx).1, fun q => (h2 x hx).2 (z1 x hx q)⟩, ⟨by rw [hc, ← h3.1], fun i hi => ?_, fun x hx q => ?_⟩, fun x hx q1 q2 q3 a ha hcd => h4 x hx ((z0 x hx q2).mp q1) (by omega) q3 a ha hcd, fun x hx => ⟨fun q => ?_, fun q => ?_⟩, h6, ⟨h7.1, ?_, fun x hx q1 q2 q3 => h7.2.2 x hx ((z0 x hx q2).mp q1) (by omega) q3⟩, h8⟩, s0, hs, hlt⟩
  · by_cases e : i = lc
    · subst e; rw [un_s]; exact ⟨hs, s0⟩
    · rw [un_n e]
      have := h3.2.1 i (by omega)
      exact ⟨this.1, (z0 _ this.1 (ns _ this.2)).mpr this.2⟩
  · by_cases e : x = s
    · subst e; exact ⟨lc, by omega, un_s _ _ _⟩
    · obtain ⟨i, hi, he⟩ := h3.2.2 x hx ((z0 x hx e).mp q)
      exact ⟨i, by omega, by rw [un_n (by omega)]; exact he⟩
  · have k1 := (h5 s hs).2 (by omega)
    by_cases e : x = s
    · subst e; exact Nat.le_refl _
    · exact Nat.le_trans ((h5 x hx).1 ((z0 x hx e).mp q)) k1
  · exact htop x hx (z2 x hx q).1
  · rcases h7.2.1 with q | ⟨x, hx, q1, q2, q3⟩
    · exact Or.inl q
    · exact Or.inr ⟨x, hx, (z0 x hx (ns x q1)).mpr q1, q2, q3⟩
/-- a goal has left the heap -/
theorem sc_goal {P : PB} {b : Nat → Nat} {st : Nat} {g pl hp : Nat → Nat} {n : Nat} {lf : Nat → Nat} {lc best κ s : Nat} (hs : s < 256) (h0 : pl s = 0) (hg : gl P s = true) (h : SC P b st g pl hp n lf lc best κ s) : SC P b st g pl hp n lf lc (if g s < best then g s else best) κ 256 := by
  obtain ⟨h1, h2, h3, h4, h5, h6, h7, h8⟩ := h
  refine ⟨h1, h2, h3, fun x hx q1 _ q3 a ha hc => ?_, h5, h6, ⟨?_, ?_, fun x hx q1 _ q3 => ?_⟩, h8⟩
  · have e : x ≠ s := fun e => by rw [e, hg] at q3; exact absurd q3 (by decide)
    exact h4 x hx q1 e q3 a ha hc
  · split
    · omega
    · exact h7.1
  · split
    · exact Or.inr ⟨s, hs, h0, hg, rfl⟩
    · exact h7.2.1
  · by_cases e : x = s
    · subst e; split <;> omega
    · have := h7.2.2 x hx q1 e q3
      split <;> omega
/-- a state has been spread -/
theorem sc_spread {P : PB} {b : Nat → Nat} {st : Nat} {g pl hp : Nat → Nat} {n : Nat} {lf : Nat → Nat} {lc best κ s : Nat} (hg : gl P s = false) (h : SC P b st g pl hp n lf lc best κ s) (hpr : ∀ a, a < 10 → cd P a s = true → g (af P a s) ≤ g s + P 5 a) : SC P b st g pl hp n lf lc best κ 256 := by
  obtain ⟨h1, h2, h3, h4, h5, h6, h7, h8⟩ := h
  refine ⟨h1, h2, h3, fun x hx q1 _ q3 a ha hc => ?_, h5, h6, ⟨h7.1, h7.2.1, fun x hx q1 _ q3 => ?_⟩, h8⟩
  · by_cases e : x = s
    · subst e; exact hpr a ha hc
    · exact h4 x hx q1 e q3 a ha hc
  · have e : x ≠ s := fun e => by rw [e, hg] at q3; exact absurd q3 (by decide)
    exact h7.2.2 x hx q1 e q3
end
section
/-! PURE 4: the end of the search, the marks, the plan -/
/-- what searchForward leaves -/
def SE (P : PB) (b : Nat → Nat) (st : Nat) (g lf : Nat → Nat) (lc best : Nat) : Prop :=
  lc ≤ 256 ∧ (∀ i, i < lc → lf i < 256) ∧ (∀ x, x < 256 → g x ≤ 1000000) ∧ g st = 0 ∧
  (∀ i, i < lc → gl P (lf i) = false → ∀ a, a < 10 → cd P a (lf i) = true → g (af P a (lf i)) ≤ g (lf i) + P 5 a) ∧
  (best ≤ 1000000 ∧ (best = 1000000 ∨ ∃ i, i < lc ∧ gl P (lf i) = true ∧ g (lf i) = best) ∧ ∀ i, i < lc → gl P (lf i) = true → best ≤ g (lf i)) ∧
  (∀ H, FixH P H → ∀ x, x < 256 → H st ≤ g x + H x) ∧
  (∀ x, x < 256 → g x < 1000000 → (∃ i, i < lc ∧ lf i = x) ∨ best < ky b g x ∨ 1000000 ≤ ky b g x)
theorem se_of {P : PB} {b : Nat → Nat} {st : Nat} {g pl hp : Nat → Nat} {n : Nat} {lf : Nat → Nat} {lc best κ : Nat} (h : SC P b st g pl hp n lf lc best κ 256)
    (ht : ∀ x, x < 256 → 2 ≤ pl x → best < ky b g x ∨ 1000000 ≤ ky b g x) : SE P b st g lf lc best := by
  obtain ⟨h1, h2, h3, h4, h5, h6, h7, h8⟩ := h
  have l1 : ∀ i, i < lc → lf i < 256 ∧ pl (lf i) = 0 := h3.2.1
  refine ⟨by rw [h3.1]; exact cnt_le _ _, fun i hi => (l1 i hi).1, fun x hx => (h2 x hx).1, h6, fun i hi hg a ha hc => h4 _ (l1 i hi).1 (l1 i hi).2 (by have := (l1 i hi).1; omega) hg a ha hc, ⟨h7.1, ?_, fun i hi hg => h7.2.2 _ (l1 i hi).1 (l1 i hi).2 (by have := (l1 i hi).1; omega) hg⟩, h8, fun x hx hlt => ?_⟩
  · rcases h7.2.1 with q | ⟨x, hx, q1, q2, q3⟩
    · exact Or.inl q
    · obtain ⟨i, hi, he⟩ := h3.2.2 x hx q1
      exact Or.inr ⟨i, hi, by rw [he]; exact q2, by rw [he]; exact q3⟩
  · by_cases q0 : pl x = 0
    · exact Or.inl (h3.2.2 x hx q0)
    · by_cases q1 : pl x = 1
      · have := (h2 x hx).2 q1; omega
      · exact Or.inr (ht x hx (by omega))
theorem se_empty {P : PB} {b : Nat → Nat} {st : Nat} {g pl hp : Nat → Nat} {lf : Nat → Nat} {lc best κ : Nat} (h : SC P b st g pl hp 0 lf lc best κ 256) : SE P b st g lf lc best :=
  se_of h fun x hx h2 => by have := (h.1.1.2 x hx h2).1; omega
theorem se_full {P : PB} {b : Nat → Nat} {st : Nat} {g pl hp : Nat → Nat} {n : Nat} {lf : Nat → Nat} {lc best κ : Nat} (h : SC P b st g pl hp n lf lc best κ 256) (hl : 256 ≤ lc) : SE P b st g lf lc best :=
  se_of h fun x hx h2 => by
    have h3 := h.2.2.1.1
    have := cnt_full (p := fun x => decide (pl x = 0)) (n := 256) (by omega) x hx
    simp at this
    omega
theorem se_stop {P : PB} {b : Nat → Nat} {st : Nat} {g pl hp : Nat → Nat} {n : Nat} {lf : Nat → Nat} {lc best κ : Nat} (h : SC P b st g pl hp n lf lc best κ 256) (hl : best < ky b g (hp 0) ∨ 1000000 ≤ ky b g (hp 0)) : SE P b st g lf lc best :=
  se_of h fun x hx h2 => by
    have := heap_top h.1 hx h2
    omega
theorem se_ge {P : PB} {b : Nat → Nat} {st : Nat} {g lf : Nat → Nat} {lc best : Nat} (hst : st < 256) (h : SE P b st g lf lc best) {H : Nat → Nat} (hH : FixH P H) : H st ≤ best := by
  obtain ⟨h1, h2, h3, h4, h5, h6, h7, h8⟩ := h
  rcases h6.2.1 with q | ⟨i, hi, q1, q2⟩
  · rw [q]; exact hH.2.1 st hst
  · have := h7 H hH (lf i) (h2 i hi)
    rw [hH.1 _ (h2 i hi) q1] at this
    omega
theorem se_in {P : PB} (hW : PW P) {b : Nat → Nat} (hb : BOK P b) {st : Nat} (hst : st < 256) {g lf : Nat → Nat} {lc best : Nat} (h : SE P b st g lf lc best) {H : Nat → Nat} (hH : FixH P H) (hf : H st < 1000000) {x : Nat} (hx : x < 256) (he : g x + H x = H st) : ∃ i, i < lc ∧ lf i = x := by
  have hge := se_ge hst h hH
  have had := bok_adm hW hb hH x hx
  rcases h.2.2.2.2.2.2.2 x hx (by omega) with q | q | q
  · exact q
  · unfold ky at q; omega
  · unfold ky at q; omega
theorem se_best {P : PB} (hW : PW P) {b : Nat → Nat} (hb : BOK P b) {st : Nat} (hst : st < 256) {g lf : Nat → Nat} {lc best : Nat} (h : SE P b st g lf lc best) {H : Nat → Nat} (hH : FixH P H) : H st = best := by
  have hge := se_ge hst h hH
  have hle := hH.2.1 st hst
  have hb6 := h.2.2.2.2.2.1.1
  by_cases hf : H st < 1000000
  · have key : ∀ n x, x < 256 → H x < n → g x + H x = H st → best ≤ H st := by
      intro n
      induction n with
      | zero => intro x _ h; omega
      | succ n ih =>
        intro x hx hn he
        obtain ⟨i, hi, hlx⟩ := se_in hW hb hst h hH hf hx he
        cases hg : gl P x with
        | true =>
          have := h.2.2.2.2.2.1.2.2 i hi (by rw [hlx]; exact hg)
          rw [hlx] at this
          omega
        | false =>
          obtain ⟨a, ha, hc, hq⟩ := hH.2.2.2 x hx (by omega) hg
          have hp := price_pos hW ha hc
          have ht := af_lt hW ha hx
          have h5 := h.2.2.2.2.1 i hi (by rw [hlx]; exact hg) a ha (by rw [hlx]; exact hc)
          rw [hlx] at h5
          have h7 := h.2.2.2.2.2.2.1 H hH _ ht
          exact ih (af P a x) ht (by omega) (by omega)
    have := key _ st hst (Nat.lt_succ_self _) (by rw [h.2.2.2.1]; omega)
    omega
  · omega
/-! the marks -/
def baOK (P : PB) (g ob : Nat → Nat) (s a : Nat) : Prop := cd P a s = true ∧ ob (af P a s) ≠ 0 ∧ g (af P a s) = g s + P 5 a
/-- what bestAction answers -/
def BA (P : PB) (g ob : Nat → Nat) (s : Nat) : Option Nat → Prop
  | none => gl P s = true ∨ ∀ a, a < 10 → ¬ baOK P g ob s a
  | some a => gl P s = false ∧ a < 10 ∧ baOK P g ob s a ∧ ∀ c, c < a → ¬ baOK P g ob s c
/-- the state is to be marked -/
def mkb (P : PB) (g : Nat → Nat) (best : Nat) (ob : Nat → Nat) (s : Nat) : Prop := (gl P s = true ∧ g s = best) ∨ (gl P s = false ∧ ∃ a, a < 10 ∧ baOK P g ob s a)
def OnB (P : PB) (st : Nat) (g lf : Nat → Nat) (lc : Nat) (ob : Nat → Nat) : Prop := ∀ x, x < 256 → ob x ≠ 0 → (∃ i, i < lc ∧ lf i = x) ∧ ∀ H, FixH P H → g x + H x = H st
theorem mark_sound {P : PB} (hW : PW P) {b : Nat → Nat} (hb : BOK P b) {st : Nat} (hst : st < 256) {g lf : Nat → Nat} {lc best : Nat} (h : SE P b st g lf lc best) {ob : Nat → Nat} (ho : OnB P st g lf lc ob) {i : Nat} (hi : i < lc) (hm : mkb P g best ob (lf i)) : OnB P st g lf lc (un ob (lf i) 1) := by
  intro x hx hne
  by_cases e : x = lf i
  · subst e
    refine ⟨⟨i, hi, rfl⟩, fun H hH => ?_⟩
    have hbe := se_best hW hb hst h hH
    rcases hm with ⟨q1, q2⟩ | ⟨q1, a, ha, q2, q3, q4⟩
    · rw [hH.1 _ hx q1]; omega
    · have ht := af_lt hW ha hx
      have h1 := (ho _ ht q3).2 H hH
      have h2 := hH.2.2.1 _ hx a ha q2
      have h3 := h.2.2.2.2.2.2.1 H hH _ hx
      omega
  · rw [un_n e] at hne
    exact ho x hx hne
theorem mark_all {P : PB} (hW : PW P) {b : Nat → Nat} (hb : BOK P b) {st : Nat} (hst : st < 256) {g lf : Nat → Nat} {lc best : Nat} (h : SE P b st g lf lc best) (hbest : best < 1000000) {ob : Nat → Nat}
    (hfix : ∀ i, i < lc → mkb P g best ob (lf i) → ob (lf i) ≠ 0) {H : Nat → Nat} (hH : FixH P H) : ∀ x, x < 256 → g x + H x = H st → ob x ≠ 0 := by
  have hbe := se_best hW hb hst h hH
  have key : ∀ n x, x < 256 → H x < n → g x + H x = H st → ob x ≠ 0 := by
    intro n
    induction n with
    | zero => intro x _ h; omega
    | succ n ih =>
      intro x hx hn he
      obtain ⟨i, hi, hlx⟩ := se_in hW hb hst h hH (by omega) hx he
      have hf := hfix i hi
      rw [hlx] at hf
      apply hf
      cases hg : gl P x with
      | true =>
        have := hH.1 x hx hg
        exact Or.inl ⟨hg, by omega⟩
      | false =>
        obtain ⟨a, ha, hc, hq⟩ := hH.2.2.2 x hx (by omega) hg
        have hp := price_pos hW ha hc
        have ht := af_lt hW ha hx
        have h5 := h.2.2.2.2.1 i hi (by rw [hlx]; exact hg) a ha (by rw [hlx]; exact hc)
        rw [hlx] at h5
        have h7 := h.2.2.2.2.2.2.1 H hH _ ht
        exact Or.inr ⟨hg, a, ha, hc, ih (af P a x) ht (by omega) (by omega), by omega⟩
  exact fun x hx he => key _ x hx (Nat.lt_succ_self _) he
/-- on marked states the chosen action is that of the least prices -/
theorem best_iff {P : PB} (hW : PW P) {st : Nat} {g lf : Nat → Nat} {lc : Nat} {ob : Nat → Nat} (ho : OnB P st g lf lc ob) {H : Nat → Nat} (hH : FixH P H) {b : Nat → Nat} {best : Nat} (h : SE P b st g lf lc best) (hall : ∀ x, x < 256 → g x + H x = H st → ob x ≠ 0)
    {x : Nat} (hx : x < 256) (hne : ob x ≠ 0) (hg : gl P x = false) {a : Nat} (ha : a < 10) : baOK P g ob x a ↔ (cd P a x = true ∧ P 5 a + H (af P a x) = H x) := by
  obtain ⟨⟨i, hi, hlx⟩, hq⟩ := ho x hx hne
  have he := hq H hH
  have ht := af_lt hW ha hx
  constructor
  · rintro ⟨q1, q2, q3⟩
    have h1 := (ho _ ht q2).2 H hH
    exact ⟨q1, by omega⟩
  · rintro ⟨q1, q2⟩
    have h5 := h.2.2.2.2.1 i hi (by rw [hlx]; exact hg) a ha (by rw [hlx]; exact q1)
    rw [hlx] at h5
    have h7 := h.2.2.2.2.2.2.1 H hH _ ht
    exact ⟨q1, hall _ ht (by omega), by omega⟩
theorem best_first {P : PB} (hW : PW P) {st : Nat} {g lf : Nat → Nat} {lc : Nat} {ob : Nat → Nat} (ho : OnB P st g lf lc ob) {H : Nat → Nat} (hH : FixH P H) {b : Nat → Nat} {best : Nat} (h : SE P b st g lf lc best) (hall : ∀ x, x < 256 → g x + H x = H st → ob x ≠ 0)
    {x : Nat} (hx : x < 256) (hne : ob x ≠ 0) (hg : gl P x = false) {a : Nat} (ha : BA P g ob x (some a)) : IsFirst P H x a := by
  obtain ⟨-, h1, h2, h3⟩ := ha
  have q := (best_iff hW ho hH h hall hx hne hg h1).mp h2
  exact ⟨h1, q.1, q.2, fun c hc hq => h3 c hc ((best_iff hW ho hH h hall hx hne hg (by omega)).mpr hq)⟩
theorem best_some {P : PB} (hW : PW P) {st : Nat} {g lf : Nat → Nat} {lc : Nat} {ob : Nat → Nat} (ho : OnB P st g lf lc ob) {H : Nat → Nat} (hH : FixH P H) {b : Nat → Nat} {best : Nat} (h : SE P b st g lf lc best) (hall : ∀ x, x < 256 → g x + H x = H st → ob x ≠ 0)
    {x : Nat} (hx : x < 256) (hne : ob x ≠ 0) (hg : gl P x = false) (hf : H st < 1000000) : ¬ BA P g ob x none := by
  intro hn
  rcases hn with hn | hn
  · rw [hg] at hn; exact absurd hn (by decide)
  · have he := (ho x hx hne).2 H hH
    obtain ⟨a, ha, hc, hq⟩ := hH.2.2.2 x hx (by omega) hg
    exact hn a ha ((best_iff hW ho hH h hall hx hne hg ha).mpr ⟨hc, hq.symm⟩)
/-! chains -/
/-- how many states are nearer than s -/
def rk (H : Nat → Nat) (s : Nat) : Nat := cnt (fun x => decide (H x < H s)) 256
theorem rk_lt {H : Nat → Nat} {s t : Nat} (ht : t < 256) (h : H t < H s) : rk H t + 1 ≤ rk H s := by
  unfold rk
  exact cnt_lt (j := t) 256 ht (fun i _ q => by simp at q ⊢; omega) (by simp [h]) (by simp)
theorem rk_le {H : Nat → Nat} {s : Nat} (hs : s < 256) : rk H s ≤ 255 := by
  have : rk H s < 256 := cnt_room hs (by simp)
  omega
theorem first_lt {P : PB} (hW : PW P) {H : Nat → Nat} {s a : Nat} (h : IsFirst P H s a) : H (af P a s) < H s := by
  have h1 := price_pos hW h.1 h.2.1
  have h2 := h.2.2.1
  omega
theorem runTo_shift {P : PB} (pl : Nat → Nat) (s : Nat) : ∀ k, runTo P pl s (k + 1) = runTo P (fun j => pl (j + 1)) (af P (pl 0) s) k := by
  intro k
  induction k with
  | zero => rfl
  | succ k ih =>
    show af P (pl (k + 1)) (runTo P pl s (k + 1)) = af P (pl (k + 1)) (runTo P (fun j => pl (j + 1)) (af P (pl 0) s) k)
    rw [ih]
theorem chain_tail {P : PB} {H pl : Nat → Nat} {s n : Nat} (h : ChainOK P H pl s (n + 1)) : ChainOK P H (fun j => pl (j + 1)) (af P (pl 0) s) n := by
  refine ⟨fun k hk => ?_, ?_⟩
  · rw [← runTo_shift]
    exact h.1 (k + 1) (by omega)
  · rw [← runTo_shift]; exact h.2
theorem chain_uniq {P : PB} {H pl pm : Nat → Nat} {s n m : Nat} (h1 : ChainOK P H pl s n) (h2 : ChainOK P H pm s m) : n = m ∧ ∀ j, j < n → pl j = pm j := by
  have key : ∀ k, k ≤ n → k ≤ m → ∀ j, j < k → pl j = pm j := by
    intro k
    induction k with
    | zero => intro _ _ j hj; omega
    | succ k ih =>
      intro hn hm j hj
      have hr := ih (by omega) (by omega)
      by_cases e : j = k
      · subst e
        have e1 := (h1.1 j (by omega)).2
        have e2 := (h2.1 j (by omega)).2
        rw [runTo_congr j hr] at e1
        exact e1.uniq e2
      · exact hr j (by omega)
  rcases Nat.lt_trichotomy n m with h | h | h
  · have h3 := h1.2
    rw [runTo_congr n (key n (Nat.le_refl _) (by omega))] at h3
    exact absurd h3 (h2.1 n h).1
  · subst h
    exact ⟨rfl, key n (Nat.le_refl _) (Nat.le_refl _)⟩
  · have h3 := h2.2
    rw [← runTo_congr m (key m (by omega) (Nat.le_refl _))] at h3
    exact absurd h3 (h1.1 m h).1
theorem first_exists {P : PB} {H : Nat → Nat} (hH : FixH P H) {s : Nat} (hs : s < 256) (h0 : H s ≠ 0) (hf : H s < 1000000) : ∃ a, IsFirst P H s a := by
  have hg : gl P s = false := by
    cases hg : gl P s with
    | false => rfl
    | true => exact absurd (hH.1 s hs hg) h0
  obtain ⟨a, ha, hc, hq⟩ := hH.2.2.2 s hs hf hg
  obtain ⟨k, hk, hmin⟩ := pk_least (fun k => cd P k s = true ∧ P 5 k + H (af P k s) = H s) ⟨a, hc, hq.symm⟩
  refine ⟨k, ?_, hk.1, hk.2, hmin⟩
  apply Nat.lt_of_not_le
  intro h
  exact hmin a (by omega) ⟨hc, hq.symm⟩
theorem chain_exists {P : PB} (hW : PW P) {H : Nat → Nat} (hH : FixH P H) : ∀ s, s < 256 → H s < 1000000 → ∃ pl n, ChainOK P H pl s n ∧ n ≤ rk H s ∧ ∀ j, j < n → pl j < 10 := by
  have key : ∀ m s, s < 256 → H s < m → H s < 1000000 → ∃ pl n, ChainOK P H pl s n ∧ n ≤ rk H s ∧ ∀ j, j < n → pl j < 10 := by
    intro m
    induction m with
    | zero => intro s _ h; omega
    | succ m ih =>
      intro s hs hm hf
      by_cases h0 : H s = 0
      · exact ⟨fun _ => 0, 0, ⟨fun k hk => by omega, h0⟩, Nat.zero_le _, fun j hj => by omega⟩
      · obtain ⟨a, ha⟩ := first_exists hH hs h0 hf
        have hl := first_lt hW ha
        have ht := af_lt hW ha.1 hs
        obtain ⟨pl, n, hc, hn, hp⟩ := ih (af P a s) ht (by omega) (by omega)
        have hr := rk_lt ht hl
        refine ⟨fun j => if j = 0 then a else pl (j - 1), n + 1, ⟨fun k hk => ?_, ?_⟩, by omega, fun j hj => ?_⟩
        · by_cases e : k = 0
          · subst e
            exact ⟨h0, ha⟩
          · obtain ⟨k', rfl⟩ : ∃ k', k = k' + 1 := ⟨k - 1, by omega⟩
            rw [runTo_shift]
            exact hc.1 k' (by omega)
        · rw [runTo_shift]
          exact hc.2
        · dsimp only
          split
          · exact ha.1
          · exact hp (j - 1) (by omega)
  exact fun s hs hf => key _ s hs (Nat.lt_succ_self _) hf
/-- the plan that lies ready -/
def PlanInv (P : PB) (now : Nat) (planned has len pos rest : Nat) (pl : Nat → Nat) : Prop := planned ≠ 0 →
  (∀ j, j < len → pl j < 10) ∧ pos ≤ len ∧ len ≤ 255 ∧ rest ≤ 1000000 ∧ ∀ H, FixH P H → (has = 0 → H now = 1000000) ∧ (has ≠ 0 → H now < 1000000 ∧ rest = H now ∧ ChainOK P H (fun j => pl (pos + j)) now (len - pos))
/-! what can be reached -/
def Rch (P : PB) (s0 x : Nat) : Prop := ∀ S : Nat → Prop, S s0 → (∀ y a, y < 256 → a < 10 → S y → cd P a y = true → S (af P a y)) → S x
theorem Rch.rf (P : PB) (s : Nat) : Rch P s s := fun _ h _ => h
theorem Rch.next {P : PB} {s0 x a : Nat} (h : Rch P s0 x) (hx : x < 256) (ha : a < 10) (hc : cd P a x = true) : Rch P s0 (af P a x) := fun S h0 hs => hs x a hx ha (h S h0 hs) hc
theorem Rch.sub {P : PB} (hW : PW P) {s0 x : Nat} (hs0 : s0 < 256) (h : Rch P s0 x) (T : Nat → Prop) (h0 : T s0) (hc : ∀ y a, y < 256 → a < 10 → T y → cd P a y = true → T (af P a y)) : x < 256 ∧ T x :=
  h (fun z => z < 256 ∧ T z) ⟨hs0, h0⟩ (fun y a hy ha hT hcd => ⟨af_lt hW ha hy, hc y a hy ha hT.2 hcd⟩)
end
section
/-! LAYER: the machine at a pc, its locals a list, its world a function of a state; a row an instruction -/
abbrev vwCl : List vw_C := [(RX0, TX0, 24), (RX1, TX1, 11)]
abbrev XK : Type := Program × Launch × Env × Room × State × MethodId × Array Value × List Frame × Method × Code × Nat × Nat × (State → Prop) × (Nat → Prop)
abbrev kP (K : XK) : Program := K.1
abbrev kL (K : XK) : Launch := K.2.1
abbrev kE (K : XK) : Env := K.2.2.1
abbrev kR (K : XK) : Room := K.2.2.2.1
abbrev kS (K : XK) : State := K.2.2.2.2.1
abbrev kM (K : XK) : MethodId := K.2.2.2.2.2.1
abbrev kA (K : XK) : Array Value := K.2.2.2.2.2.2.1
abbrev kB (K : XK) : List Frame := K.2.2.2.2.2.2.2.1
abbrev kY (K : XK) : Method := K.2.2.2.2.2.2.2.2.1
abbrev kC (K : XK) : Code := K.2.2.2.2.2.2.2.2.2.1
abbrev kc (K : XK) : Nat := K.2.2.2.2.2.2.2.2.2.2.1
abbrev ks (K : XK) : Nat := K.2.2.2.2.2.2.2.2.2.2.2.1
abbrev kQ (K : XK) : State → Prop := K.2.2.2.2.2.2.2.2.2.2.2.2.1
abbrev kF (K : XK) : Nat → Prop := K.2.2.2.2.2.2.2.2.2.2.2.2.2
/-- the locals: those that are known -/
def XL (ls : Array Slot) (nL : Nat) (ll : List (Option Value)) : Prop := ls.size = nL ∧ lv_wf ls ∧ ll.length = nL ∧ ∀ (i : Nat) (v : Value), ll[i]? = some (some v) → ls[i]? = some (.val v) ∧ v.category = 1
def lvOf (ll : List (Option Value)) : List (Nat × Value) := (List.range ll.length).filterMap (fun i => match ll[i]? with | some (some v) => some (i, v) | _ => none)
theorem mem_lvOf {ll : List (Option Value)} {i : Nat} {v : Value} : (i, v) ∈ lvOf ll ↔ ll[i]? = some (some v) := by
  unfold lvOf
  rw [List.mem_filterMap]
  constructor
  · rintro ⟨j, hj, h⟩
    split at h
    · rename_i w hw
      cases h
      exact hw
    · cases h
  · intro h
    refine ⟨i, ?_, by rw [h]⟩
    rw [List.mem_range]
    exact (List.getElem?_eq_some_iff.mp h).1
theorem XL.has {ls : Array Slot} {nL : Nat} {ll : List (Option Value)} (h : XL ls nL ll) : lv_has ls nL (lvOf ll) := ⟨h.1, h.2.1, fun q hq => (h.2.2.2 q.1 q.2 (mem_lvOf.mp hq)).1⟩
theorem XL.store {ls ls' : Array Slot} {nL : Nat} {ll : List (Option Value)} {i : Nat} {v : Value} (h : XL ls nL ll) (hi : i < nL) (hv : v.category = 1) (h' : lv_has ls' nL ((i, v) :: (lvOf ll).filter (fun q => !(q.1 == i) && !(q.1 + 1 == i && q.2.category == 2)))) : XL ls' nL (ll.set i (some v)) := by
  refine ⟨h'.1, h'.2.1, by rw [List.length_set]; exact h.2.2.1, fun j w hj => ?_⟩
  by_cases e : j = i
  · subst e
    rw [List.getElem?_set_self (by rw [h.2.2.1]; exact hi)] at hj
    cases hj
    exact ⟨h'.2.2 (j, v) List.mem_cons_self, hv⟩
  · rw [List.getElem?_set_ne (fun q => e q.symm)] at hj
    have hc := (h.2.2.2 j w hj).2
    refine ⟨h'.2.2 (j, w) (List.mem_cons_of_mem _ (List.mem_filter.mpr ⟨mem_lvOf.mpr hj, ?_⟩)), hc⟩
    simp [e, hc]
theorem XL.drop {ls : Array Slot} {nL : Nat} {ll : List (Option Value)} (i : Nat) (h : XL ls nL ll) : XL ls nL (ll.set i none) := by
  refine ⟨h.1, h.2.1, by rw [List.length_set]; exact h.2.2.1, fun j w hj => ?_⟩
  by_cases e : j = i
  · subst e
    by_cases hl : j < ll.length
    · rw [List.getElem?_set_self hl] at hj
      cases hj
    · rw [List.getElem?_eq_none (by rw [List.length_set]; omega)] at hj
      cases hj
  · rw [List.getElem?_set_ne (fun q => e q.symm)] at hj
    exact h.2.2.2 j w hj
theorem lg_sl1 : ∀ (vs : List Value), (∀ v ∈ vs, v.category = 1) → lg_sl vs = vs.map Slot.val := by
  intro vs
  induction vs with
  | nil => intro _; rfl
  | cons v t ih =>
    intro h
    have h1 := ih (fun w hw => h w (List.mem_cons_of_mem _ hw))
    have h2 : v.category = 1 := h v List.mem_cons_self
    unfold lg_sl at h1 ⊢
    rw [List.flatMap_cons, h1, if_neg (by omega)]
    rfl
theorem XL.entry (vs : List Value) {n : Nat} (hc : ∀ v ∈ vs, v.category = 1) (h : vs.length ≤ n) : XL ((lg_sl vs ++ List.replicate (n - (lg_sl vs).length) Slot.unset).toArray) n (vs.map some ++ List.replicate (n - vs.length) none) := by
  have e : (lg_sl vs).length = vs.length := by rw [lg_sl1 vs hc, List.length_map]
  obtain ⟨h1, h2, -⟩ := lv_entry vs (n := n) (by rw [e]; exact h)
  refine ⟨h1, h2, by simp; omega, fun i v hi => ?_⟩
  by_cases hl : i < vs.length
  · rw [List.getElem?_append_left (by simpa using hl), List.getElem?_map] at hi
    cases hv : vs[i]? with
    | none => rw [hv] at hi; cases hi
    | some w =>
      rw [hv] at hi
      cases hi
      refine ⟨?_, hc v (List.mem_of_getElem? hv)⟩
      rw [List.getElem?_toArray, List.getElem?_append_left (by rw [e]; exact hl), lg_sl1 vs hc, List.getElem?_map, hv]
      rfl
  · rw [List.getElem?_append_right (by simpa using hl)] at hi
    have := List.mem_of_getElem? hi
    rw [List.mem_replicate] at this
    exact absurd this.2 (by simp)
/-- the machine at pc with the locals ll, the stack st and the world of μ goes on to its end -/
def XAt {α : Type} (Wd : α → va_W) (D : va_G) (K : XK) (nL : Nat) (pc : Nat) (ll : List (Option Value)) (st : List Value) (μ : α) : Prop :=
  ∀ (H : Heap) (locs : List Loc) (ls : Array Slot), va_P D vwCl (Wd μ) H → va_D (kF K) (Wd μ) → va_S (kF K) (kS K).heap H locs → XL ls nL ll →
    W (kP K) (kL K) (kE K) (kR K) (kS K) (kM K) (kA K) (kB K) (kY K) (kC K) H locs (kc K) (ks K) (kQ K) (F0 (kM K) pc ls st)
/-- what holds all through a method -/
def XOk (D : va_G) (tys : List (ClassId × FieldType)) (K : XK) (cc : ByteArray) (nL : Nat) (own : String) (rm : Room) : Prop :=
  (kP K).tables.exec = Jvm.exec ∧ (kC K).code = cc ∧ (kC K).maxLocals = nL ∧ (kS K).vm.findClass own = some (kM K).cls ∧ (∀ w ∈ lw_all, w.before (kA K) (kS K) = true) ∧
  va_K D vwCl tys (kS K) ∧ (∀ q : Nat, (kS K).heap.size ≤ q → kF K q) ∧ (kY K).locks = false ∧ kR K = rm ∧ kc K ≤ rm.cells ∧ ks K ≤ rm.slots
section XOkP
variable {D : va_G} {tys : List (ClassId × FieldType)} {K : XK} {cc : ByteArray} {nL : Nat} {own : String} {rm : Room}
theorem XOk.x (C : XOk D tys K cc nL own rm) : (kP K).tables.exec = Jvm.exec := C.1
theorem XOk.b (C : XOk D tys K cc nL own rm) : (kC K).code = cc := C.2.1
theorem XOk.ml (C : XOk D tys K cc nL own rm) : (kC K).maxLocals = nL := C.2.2.1
theorem XOk.o (C : XOk D tys K cc nL own rm) : (kS K).vm.findClass own = some (kM K).cls := C.2.2.2.1
theorem XOk.ts (C : XOk D tys K cc nL own rm) : ∀ w ∈ lw_all, w.before (kA K) (kS K) = true := C.2.2.2.2.1
theorem XOk.k (C : XOk D tys K cc nL own rm) : va_K D vwCl tys (kS K) := C.2.2.2.2.2.1
theorem XOk.a (C : XOk D tys K cc nL own rm) : ∀ q : Nat, (kS K).heap.size ≤ q → kF K q := C.2.2.2.2.2.2.1
theorem XOk.lk (C : XOk D tys K cc nL own rm) : (kY K).locks = false := C.2.2.2.2.2.2.2.1
theorem XOk.r (C : XOk D tys K cc nL own rm) : kR K = rm := C.2.2.2.2.2.2.2.2.1
theorem XOk.cs (C : XOk D tys K cc nL own rm) : kc K ≤ rm.cells ∧ ks K ≤ rm.slots := C.2.2.2.2.2.2.2.2.2
end XOkP
theorem nI_eq0 {a : Nat} (ha : a < 2 ^ 31) : nI a = 0 ↔ a = 0 := nI_eq (b := 0) ha (by decide)
section XR
variable {α : Type} {Wd : α → va_W} {D : va_G} {tys : List (ClassId × FieldType)} {K : XK} {cc : ByteArray} {nL : Nat} {own : String} {rm : Room} {pc : Nat} {ll : List (Option Value)} {st : List Value} {μ : α}
theorem x_drop (i : Nat) (k : XAt Wd D K nL pc (ll.set i none) st μ) : XAt Wd D K nL pc ll st μ := fun H locs ls hP hD hS hl => k H locs ls hP hD hS (hl.drop i)
theorem x_top {x y : Int32} (h : x = y) (k : XAt Wd D K nL pc ll (.int y :: st) μ) : XAt Wd D K nL pc ll (.int x :: st) μ := h ▸ k
theorem x_iload_n (C : XOk D tys K cc nL own rm) {k : Fin 4} {x : Int32} (d : decode cc pc = .ok (.iload_n k, 1)) (h : ll[(k : Nat)]? = some (some (.int x))) (kk : XAt Wd D K nL (pc + 1) ll (.int x :: st) μ) : XAt Wd D K nL pc ll st μ :=
  fun H locs ls hP hD hS hl => lv_iload_n C.x C.b d rfl (hl.2.2.2 _ _ h).1 (kk H locs ls hP hD hS hl)
theorem x_iload (C : XOk D tys K cc nL own rm) {i : Nat} {x : Int32} (d : decode cc pc = .ok (.iload i, 2)) (h : ll[i]? = some (some (.int x))) (kk : XAt Wd D K nL (pc + 2) ll (.int x :: st) μ) : XAt Wd D K nL pc ll st μ :=
  fun H locs ls hP hD hS hl => lv_iload C.x C.b d (hl.2.2.2 _ _ h).1 (kk H locs ls hP hD hS hl)
theorem x_aload_n (C : XOk D tys K cc nL own rm) {k : Fin 4} {x : Nat} (d : decode cc pc = .ok (.aload_n k, 1)) (h : ll[(k : Nat)]? = some (some (.ref x))) (kk : XAt Wd D K nL (pc + 1) ll (.ref x :: st) μ) : XAt Wd D K nL pc ll st μ :=
  fun H locs ls hP hD hS hl => lv_aload_n C.x C.b d rfl (hl.2.2.2 _ _ h).1 (kk H locs ls hP hD hS hl)
theorem x_istore_n (C : XOk D tys K cc nL own rm) {k : Fin 4} {x : Int32} (d : decode cc pc = .ok (.istore_n k, 1)) (hn : (k : Nat) < nL) (kk : XAt Wd D K nL (pc + 1) (ll.set (k : Nat) (some (.int x))) st μ) : XAt Wd D K nL pc ll (.int x :: st) μ :=
  fun H locs ls hP hD hS hl => lv_istore_n (i := (k : Nat)) C.x C.b d rfl hl.has hn rfl (fun ls' hl' => kk H locs ls' hP hD hS (hl.store hn rfl hl'))
theorem x_istore (C : XOk D tys K cc nL own rm) {i : Nat} {x : Int32} (d : decode cc pc = .ok (.istore i, 2)) (hn : i < nL) (kk : XAt Wd D K nL (pc + 2) (ll.set i (some (.int x))) st μ) : XAt Wd D K nL pc ll (.int x :: st) μ :=
  fun H locs ls hP hD hS hl => lv_istore C.x C.b d hl.has hn rfl (fun ls' hl' => kk H locs ls' hP hD hS (hl.store hn rfl hl'))
theorem x_astore_n (C : XOk D tys K cc nL own rm) {k : Fin 4} {x : Nat} (d : decode cc pc = .ok (.astore_n k, 1)) (hn : (k : Nat) < nL) (kk : XAt Wd D K nL (pc + 1) (ll.set (k : Nat) (some (.ref x))) st μ) : XAt Wd D K nL pc ll (.ref x :: st) μ :=
  fun H locs ls hP hD hS hl => lv_astore_n (i := (k : Nat)) C.x C.b d rfl hl.has hn rfl (fun ls' hl' => kk H locs ls' hP hD hS (hl.store hn rfl hl'))
theorem x_iinc (C : XOk D tys K cc nL own rm) {i : Nat} {n : Int} {x v : Int32} (d : decode cc pc = .ok (.iinc i n, 3)) (h : ll[i]? = some (some (.int x))) (hv : x + Int32.ofInt n = v) (hn : i < nL) (kk : XAt Wd D K nL (pc + 3) (ll.set i (some (.int v))) st μ) : XAt Wd D K nL pc ll st μ :=
  fun H locs ls hP hD hS hl => by
    obtain ⟨k, hk⟩ := List.getElem?_of_mem (mem_lvOf.mpr h)
    exact lv_iinc (k := k) C.x C.b d hl.has hk hv hn rfl (fun ls' hl' => kk H locs ls' hP hD hS (hl.store hn rfl hl'))
theorem x_inc1 (C : XOk D tys K cc nL own rm) {i a : Nat} (d : decode cc pc = .ok (.iinc i 1, 3)) (h : ll[i]? = some (some (.int (nI a)))) (hn : i < nL) (kk : XAt Wd D K nL (pc + 3) (ll.set i (some (.int (nI (a + 1))))) st μ) : XAt Wd D K nL pc ll st μ :=
  x_iinc C d h (nI_1 a) hn kk
theorem x_iconst (C : XOk D tys K cc nL own rm) {n : Int} (v : Int32) (d : decode cc pc = .ok (.iconst n, 1)) (hv : Int32.ofInt n = v) (kk : XAt Wd D K nL (pc + 1) ll (.int v :: st) μ) : XAt Wd D K nL pc ll st μ :=
  fun H locs ls hP hD hS hl => lv_iconst C.x C.b d hv (kk H locs ls hP hD hS hl)
theorem x_bipush (C : XOk D tys K cc nL own rm) {n : Int} (v : Int32) (d : decode cc pc = .ok (.bipush n, 2)) (hv : (Int8.ofInt n).toInt32 = v) (kk : XAt Wd D K nL (pc + 2) ll (.int v :: st) μ) : XAt Wd D K nL pc ll st μ :=
  fun H locs ls hP hD hS hl => lv_bipush C.x C.b d hv (kk H locs ls hP hD hS hl)
theorem x_sipush (C : XOk D tys K cc nL own rm) {n : Int} (v : Int32) (d : decode cc pc = .ok (.sipush n, 3)) (hv : (Int16.ofInt n).toInt32 = v) (kk : XAt Wd D K nL (pc + 3) ll (.int v :: st) μ) : XAt Wd D K nL pc ll st μ :=
  fun H locs ls hP hD hS hl => lv_sipush C.x C.b d hv (kk H locs ls hP hD hS hl)
theorem x_ldc (C : XOk D tys K cc nL own rm) {index : Nat} {v : Int32} (w : Int32) (hc : Jvm.Cond.constant own index v ∈ lw_all) (d : decode cc pc = .ok (.ldc index, 2)) (hv : v = w) (kk : XAt Wd D K nL (pc + 2) ll (.int w :: st) μ) : XAt Wd D K nL pc ll st μ :=
  fun H locs ls hP hD hS hl => lv_ldc C.x C.b C.o (C.ts _ hc) d (hv ▸ kk H locs ls hP hD hS hl)
theorem x_dup (C : XOk D tys K cc nL own rm) {v : Value} (d : decode cc pc = .ok (.dup, 1)) (hv : v.category = 1) (kk : XAt Wd D K nL (pc + 1) ll (v :: v :: st) μ) : XAt Wd D K nL pc ll (v :: st) μ :=
  fun H locs ls hP hD hS hl => lv_dup C.x C.b d hv (kk H locs ls hP hD hS hl)
theorem x_iadd (C : XOk D tys K cc nL own rm) {x y v : Int32} (d : decode cc pc = .ok (.iadd, 1)) (hv : x + y = v) (kk : XAt Wd D K nL (pc + 1) ll (.int v :: st) μ) : XAt Wd D K nL pc ll (.int y :: .int x :: st) μ :=
  fun H locs ls hP hD hS hl => lv_iadd C.x C.b d (hv ▸ kk H locs ls hP hD hS hl)
theorem x_isub (C : XOk D tys K cc nL own rm) {x y v : Int32} (d : decode cc pc = .ok (.isub, 1)) (hv : x - y = v) (kk : XAt Wd D K nL (pc + 1) ll (.int v :: st) μ) : XAt Wd D K nL pc ll (.int y :: .int x :: st) μ :=
  fun H locs ls hP hD hS hl => lv_isub C.x C.b d (hv ▸ kk H locs ls hP hD hS hl)
theorem x_imul (C : XOk D tys K cc nL own rm) {x y v : Int32} (d : decode cc pc = .ok (.imul, 1)) (hv : x * y = v) (kk : XAt Wd D K nL (pc + 1) ll (.int v :: st) μ) : XAt Wd D K nL pc ll (.int y :: .int x :: st) μ :=
  fun H locs ls hP hD hS hl => lv_imul C.x C.b d (hv ▸ kk H locs ls hP hD hS hl)
theorem x_iand (C : XOk D tys K cc nL own rm) {x y v : Int32} (d : decode cc pc = .ok (.iand, 1)) (hv : x &&& y = v) (kk : XAt Wd D K nL (pc + 1) ll (.int v :: st) μ) : XAt Wd D K nL pc ll (.int y :: .int x :: st) μ :=
  fun H locs ls hP hD hS hl => lv_iand C.x C.b d (hv ▸ kk H locs ls hP hD hS hl)
theorem x_ior (C : XOk D tys K cc nL own rm) {x y v : Int32} (d : decode cc pc = .ok (.ior, 1)) (hv : x ||| y = v) (kk : XAt Wd D K nL (pc + 1) ll (.int v :: st) μ) : XAt Wd D K nL pc ll (.int y :: .int x :: st) μ :=
  fun H locs ls hP hD hS hl => lv_ior C.x C.b d (hv ▸ kk H locs ls hP hD hS hl)
theorem x_ixor (C : XOk D tys K cc nL own rm) {x y v : Int32} (d : decode cc pc = .ok (.ixor, 1)) (hv : x ^^^ y = v) (kk : XAt Wd D K nL (pc + 1) ll (.int v :: st) μ) : XAt Wd D K nL pc ll (.int y :: .int x :: st) μ :=
  fun H locs ls hP hD hS hl => lv_ixor C.x C.b d (hv ▸ kk H locs ls hP hD hS hl)
theorem x_idiv (C : XOk D tys K cc nL own rm) {x y v : Int32} (d : decode cc pc = .ok (.idiv, 1)) (hne : ¬ y = 0) (hv : x / y = v) (kk : XAt Wd D K nL (pc + 1) ll (.int v :: st) μ) : XAt Wd D K nL pc ll (.int y :: .int x :: st) μ :=
  fun H locs ls hP hD hS hl => lv_idiv C.x C.b d hne (hv ▸ kk H locs ls hP hD hS hl)
theorem x_ishl (C : XOk D tys K cc nL own rm) {x y v : Int32} (d : decode cc pc = .ok (.ishl, 1)) (hv : x <<< (y &&& 31) = v) (kk : XAt Wd D K nL (pc + 1) ll (.int v :: st) μ) : XAt Wd D K nL pc ll (.int y :: .int x :: st) μ :=
  fun H locs ls hP hD hS hl => lv_ishl C.x C.b d (hv ▸ kk H locs ls hP hD hS hl)
theorem x_iushr (C : XOk D tys K cc nL own rm) {x y v : Int32} (d : decode cc pc = .ok (.iushr, 1)) (hv : (x.toUInt32 >>> (y.toUInt32 &&& Int32.toUInt32 31)).toInt32 = v) (kk : XAt Wd D K nL (pc + 1) ll (.int v :: st) μ) : XAt Wd D K nL pc ll (.int y :: .int x :: st) μ :=
  fun H locs ls hP hD hS hl => lv_iushr C.x C.b d hv (kk H locs ls hP hD hS hl)
theorem x_goto (C : XOk D tys K cc nL own rm) {off : Int} (tgt : Nat) (d : decode cc pc = .ok (.goto off, 3)) (ht : (pc : Int) + off = (tgt : Int)) (kk : XAt Wd D K nL tgt ll st μ) : XAt Wd D K nL pc ll st μ :=
  fun H locs ls hP hD hS hl => lv_goto C.x C.b d ht (kk H locs ls hP hD hS hl)
theorem x_ic_eq (C : XOk D tys K cc nL own rm) {x y : Int32} {off : Int} (tgt : Nat) (d : decode cc pc = .ok (.if_icmp .eq off, 3)) (ht : (pc : Int) + off = (tgt : Int)) (k1 : x = y → XAt Wd D K nL tgt ll st μ) (k2 : ¬ x = y → XAt Wd D K nL (pc + 3) ll st μ) : XAt Wd D K nL pc ll (.int y :: .int x :: st) μ :=
  fun H locs ls hP hD hS hl => lv_icmp_eq C.x C.b d ht (fun h => k1 h H locs ls hP hD hS hl) (fun h => k2 h H locs ls hP hD hS hl)
theorem x_if_eq (C : XOk D tys K cc nL own rm) {x : Int32} {off : Int} (tgt : Nat) (d : decode cc pc = .ok (.ifCond .eq off, 3)) (ht : (pc : Int) + off = (tgt : Int)) (k1 : x = 0 → XAt Wd D K nL tgt ll st μ) (k2 : ¬ x = 0 → XAt Wd D K nL (pc + 3) ll st μ) : XAt Wd D K nL pc ll (.int x :: st) μ :=
  fun H locs ls hP hD hS hl => lv_if_eq C.x C.b d ht (fun h => k1 h H locs ls hP hD hS hl) (fun h => k2 h H locs ls hP hD hS hl)
theorem x_ic_ne (C : XOk D tys K cc nL own rm) {x y : Int32} {off : Int} (tgt : Nat) (d : decode cc pc = .ok (.if_icmp .ne off, 3)) (ht : (pc : Int) + off = (tgt : Int)) (k1 : ¬ x = y → XAt Wd D K nL tgt ll st μ) (k2 : x = y → XAt Wd D K nL (pc + 3) ll st μ) : XAt Wd D K nL pc ll (.int y :: .int x :: st) μ :=
  fun H locs ls hP hD hS hl => lv_icmp_ne C.x C.b d ht (fun h => k1 h H locs ls hP hD hS hl) (fun h => k2 h H locs ls hP hD hS hl)
theorem x_if_ne (C : XOk D tys K cc nL own rm) {x : Int32} {off : Int} (tgt : Nat) (d : decode cc pc = .ok (.ifCond .ne off, 3)) (ht : (pc : Int) + off = (tgt : Int)) (k1 : ¬ x = 0 → XAt Wd D K nL tgt ll st μ) (k2 : x = 0 → XAt Wd D K nL (pc + 3) ll st μ) : XAt Wd D K nL pc ll (.int x :: st) μ :=
  fun H locs ls hP hD hS hl => lv_if_ne C.x C.b d ht (fun h => k1 h H locs ls hP hD hS hl) (fun h => k2 h H locs ls hP hD hS hl)
theorem x_ic_lt (C : XOk D tys K cc nL own rm) {x y : Int32} {off : Int} (tgt : Nat) (d : decode cc pc = .ok (.if_icmp .lt off, 3)) (ht : (pc : Int) + off = (tgt : Int)) (k1 : x < y → XAt Wd D K nL tgt ll st μ) (k2 : ¬ x < y → XAt Wd D K nL (pc + 3) ll st μ) : XAt Wd D K nL pc ll (.int y :: .int x :: st) μ :=
  fun H locs ls hP hD hS hl => lv_icmp_lt C.x C.b d ht (fun h => k1 h H locs ls hP hD hS hl) (fun h => k2 h H locs ls hP hD hS hl)
theorem x_if_lt (C : XOk D tys K cc nL own rm) {x : Int32} {off : Int} (tgt : Nat) (d : decode cc pc = .ok (.ifCond .lt off, 3)) (ht : (pc : Int) + off = (tgt : Int)) (k1 : x < 0 → XAt Wd D K nL tgt ll st μ) (k2 : ¬ x < 0 → XAt Wd D K nL (pc + 3) ll st μ) : XAt Wd D K nL pc ll (.int x :: st) μ :=
  fun H locs ls hP hD hS hl => lv_if_lt C.x C.b d ht (fun h => k1 h H locs ls hP hD hS hl) (fun h => k2 h H locs ls hP hD hS hl)
theorem x_ic_ge (C : XOk D tys K cc nL own rm) {x y : Int32} {off : Int} (tgt : Nat) (d : decode cc pc = .ok (.if_icmp .ge off, 3)) (ht : (pc : Int) + off = (tgt : Int)) (k1 : y ≤ x → XAt Wd D K nL tgt ll st μ) (k2 : ¬ y ≤ x → XAt Wd D K nL (pc + 3) ll st μ) : XAt Wd D K nL pc ll (.int y :: .int x :: st) μ :=
  fun H locs ls hP hD hS hl => lv_icmp_ge C.x C.b d ht (fun h => k1 h H locs ls hP hD hS hl) (fun h => k2 h H locs ls hP hD hS hl)
theorem x_if_ge (C : XOk D tys K cc nL own rm) {x : Int32} {off : Int} (tgt : Nat) (d : decode cc pc = .ok (.ifCond .ge off, 3)) (ht : (pc : Int) + off = (tgt : Int)) (k1 : 0 ≤ x → XAt Wd D K nL tgt ll st μ) (k2 : ¬ 0 ≤ x → XAt Wd D K nL (pc + 3) ll st μ) : XAt Wd D K nL pc ll (.int x :: st) μ :=
  fun H locs ls hP hD hS hl => lv_if_ge C.x C.b d ht (fun h => k1 h H locs ls hP hD hS hl) (fun h => k2 h H locs ls hP hD hS hl)
theorem x_ic_gt (C : XOk D tys K cc nL own rm) {x y : Int32} {off : Int} (tgt : Nat) (d : decode cc pc = .ok (.if_icmp .gt off, 3)) (ht : (pc : Int) + off = (tgt : Int)) (k1 : y < x → XAt Wd D K nL tgt ll st μ) (k2 : ¬ y < x → XAt Wd D K nL (pc + 3) ll st μ) : XAt Wd D K nL pc ll (.int y :: .int x :: st) μ :=
  fun H locs ls hP hD hS hl => lv_icmp_gt C.x C.b d ht (fun h => k1 h H locs ls hP hD hS hl) (fun h => k2 h H locs ls hP hD hS hl)
theorem x_if_gt (C : XOk D tys K cc nL own rm) {x : Int32} {off : Int} (tgt : Nat) (d : decode cc pc = .ok (.ifCond .gt off, 3)) (ht : (pc : Int) + off = (tgt : Int)) (k1 : 0 < x → XAt Wd D K nL tgt ll st μ) (k2 : ¬ 0 < x → XAt Wd D K nL (pc + 3) ll st μ) : XAt Wd D K nL pc ll (.int x :: st) μ :=
  fun H locs ls hP hD hS hl => lv_if_gt C.x C.b d ht (fun h => k1 h H locs ls hP hD hS hl) (fun h => k2 h H locs ls hP hD hS hl)
theorem x_ic_le (C : XOk D tys K cc nL own rm) {x y : Int32} {off : Int} (tgt : Nat) (d : decode cc pc = .ok (.if_icmp .le off, 3)) (ht : (pc : Int) + off = (tgt : Int)) (k1 : x ≤ y → XAt Wd D K nL tgt ll st μ) (k2 : ¬ x ≤ y → XAt Wd D K nL (pc + 3) ll st μ) : XAt Wd D K nL pc ll (.int y :: .int x :: st) μ :=
  fun H locs ls hP hD hS hl => lv_icmp_le C.x C.b d ht (fun h => k1 h H locs ls hP hD hS hl) (fun h => k2 h H locs ls hP hD hS hl)
theorem x_if_le (C : XOk D tys K cc nL own rm) {x : Int32} {off : Int} (tgt : Nat) (d : decode cc pc = .ok (.ifCond .le off, 3)) (ht : (pc : Int) + off = (tgt : Int)) (k1 : x ≤ 0 → XAt Wd D K nL tgt ll st μ) (k2 : ¬ x ≤ 0 → XAt Wd D K nL (pc + 3) ll st μ) : XAt Wd D K nL pc ll (.int x :: st) μ :=
  fun H locs ls hP hD hS hl => lv_if_le C.x C.b d ht (fun h => k1 h H locs ls hP hD hS hl) (fun h => k2 h H locs ls hP hD hS hl)
theorem xn_ic_eq (C : XOk D tys K cc nL own rm) {a b : Nat} {off : Int} (tgt : Nat) (d : decode cc pc = .ok (.if_icmp .eq off, 3)) (ht : (pc : Int) + off = (tgt : Int)) (ha : a < 2 ^ 31) (hb : b < 2 ^ 31) (k1 : a = b → XAt Wd D K nL tgt ll st μ) (k2 : a ≠ b → XAt Wd D K nL (pc + 3) ll st μ) : XAt Wd D K nL pc ll (.int (nI b) :: .int (nI a) :: st) μ :=
  x_ic_eq C tgt d ht (fun h => k1 ((nI_eq ha hb).mp h)) (fun h => k2 (fun e => h ((nI_eq ha hb).mpr e)))
theorem xn_ic_ne (C : XOk D tys K cc nL own rm) {a b : Nat} {off : Int} (tgt : Nat) (d : decode cc pc = .ok (.if_icmp .ne off, 3)) (ht : (pc : Int) + off = (tgt : Int)) (ha : a < 2 ^ 31) (hb : b < 2 ^ 31) (k1 : a ≠ b → XAt Wd D K nL tgt ll st μ) (k2 : a = b → XAt Wd D K nL (pc + 3) ll st μ) : XAt Wd D K nL pc ll (.int (nI b) :: .int (nI a) :: st) μ :=
  x_ic_ne C tgt d ht (fun h => k1 (fun e => h ((nI_eq ha hb).mpr e))) (fun h => k2 ((nI_eq ha hb).mp h))
theorem xn_ic_lt (C : XOk D tys K cc nL own rm) {a b : Nat} {off : Int} (tgt : Nat) (d : decode cc pc = .ok (.if_icmp .lt off, 3)) (ht : (pc : Int) + off = (tgt : Int)) (ha : a < 2 ^ 31) (hb : b < 2 ^ 31) (k1 : a < b → XAt Wd D K nL tgt ll st μ) (k2 : b ≤ a → XAt Wd D K nL (pc + 3) ll st μ) : XAt Wd D K nL pc ll (.int (nI b) :: .int (nI a) :: st) μ :=
  x_ic_lt C tgt d ht (fun h => k1 ((nI_ltI ha hb).mp h)) (fun h => k2 (Nat.le_of_not_lt fun e => h ((nI_ltI ha hb).mpr e)))
theorem xn_ic_ge (C : XOk D tys K cc nL own rm) {a b : Nat} {off : Int} (tgt : Nat) (d : decode cc pc = .ok (.if_icmp .ge off, 3)) (ht : (pc : Int) + off = (tgt : Int)) (ha : a < 2 ^ 31) (hb : b < 2 ^ 31) (k1 : b ≤ a → XAt Wd D K nL tgt ll st μ) (k2 : a < b → XAt Wd D K nL (pc + 3) ll st μ) : XAt Wd D K nL pc ll (.int (nI b) :: .int (nI a) :: st) μ :=
  x_ic_ge C tgt d ht (fun h => k1 ((nI_leI hb ha).mp h)) (fun h => k2 (Nat.lt_of_not_le fun e => h ((nI_leI hb ha).mpr e)))
theorem xn_ic_gt (C : XOk D tys K cc nL own rm) {a b : Nat} {off : Int} (tgt : Nat) (d : decode cc pc = .ok (.if_icmp .gt off, 3)) (ht : (pc : Int) + off = (tgt : Int)) (ha : a < 2 ^ 31) (hb : b < 2 ^ 31) (k1 : b < a → XAt Wd D K nL tgt ll st μ) (k2 : a ≤ b → XAt Wd D K nL (pc + 3) ll st μ) : XAt Wd D K nL pc ll (.int (nI b) :: .int (nI a) :: st) μ :=
  x_ic_gt C tgt d ht (fun h => k1 ((nI_ltI hb ha).mp h)) (fun h => k2 (Nat.le_of_not_lt fun e => h ((nI_ltI hb ha).mpr e)))
theorem xn_ic_le (C : XOk D tys K cc nL own rm) {a b : Nat} {off : Int} (tgt : Nat) (d : decode cc pc = .ok (.if_icmp .le off, 3)) (ht : (pc : Int) + off = (tgt : Int)) (ha : a < 2 ^ 31) (hb : b < 2 ^ 31) (k1 : a ≤ b → XAt Wd D K nL tgt ll st μ) (k2 : b < a → XAt Wd D K nL (pc + 3) ll st μ) : XAt Wd D K nL pc ll (.int (nI b) :: .int (nI a) :: st) μ :=
  x_ic_le C tgt d ht (fun h => k1 ((nI_leI ha hb).mp h)) (fun h => k2 (Nat.lt_of_not_le fun e => h ((nI_leI ha hb).mpr e)))
theorem xn_if_eq (C : XOk D tys K cc nL own rm) {a : Nat} {off : Int} (tgt : Nat) (d : decode cc pc = .ok (.ifCond .eq off, 3)) (ht : (pc : Int) + off = (tgt : Int)) (ha : a < 2 ^ 31) (k1 : a = 0 → XAt Wd D K nL tgt ll st μ) (k2 : a ≠ 0 → XAt Wd D K nL (pc + 3) ll st μ) : XAt Wd D K nL pc ll (.int (nI a) :: st) μ :=
  x_if_eq C tgt d ht (fun h => k1 ((nI_eq0 ha).mp h)) (fun h => k2 (fun e => h ((nI_eq0 ha).mpr e)))
theorem xn_if_ne (C : XOk D tys K cc nL own rm) {a : Nat} {off : Int} (tgt : Nat) (d : decode cc pc = .ok (.ifCond .ne off, 3)) (ht : (pc : Int) + off = (tgt : Int)) (ha : a < 2 ^ 31) (k1 : a ≠ 0 → XAt Wd D K nL tgt ll st μ) (k2 : a = 0 → XAt Wd D K nL (pc + 3) ll st μ) : XAt Wd D K nL pc ll (.int (nI a) :: st) μ :=
  x_if_ne C tgt d ht (fun h => k1 (fun e => h ((nI_eq0 ha).mpr e))) (fun h => k2 ((nI_eq0 ha).mp h))
theorem xn_if_le (C : XOk D tys K cc nL own rm) {a : Nat} {off : Int} (tgt : Nat) (d : decode cc pc = .ok (.ifCond .le off, 3)) (ht : (pc : Int) + off = (tgt : Int)) (ha : a < 2 ^ 31) (k1 : a = 0 → XAt Wd D K nL tgt ll st μ) (k2 : 0 < a → XAt Wd D K nL (pc + 3) ll st μ) : XAt Wd D K nL pc ll (.int (nI a) :: st) μ :=
  x_if_le C tgt d ht (fun h => k1 (Nat.eq_zero_of_not_pos fun e => nI_nle e ha h)) (fun h => k2 (Nat.pos_of_ne_zero fun e => h (by rw [e]; decide)))
theorem xn_if_gt (C : XOk D tys K cc nL own rm) {a : Nat} {off : Int} (tgt : Nat) (d : decode cc pc = .ok (.ifCond .gt off, 3)) (ht : (pc : Int) + off = (tgt : Int)) (ha : a < 2 ^ 31) (k1 : 0 < a → XAt Wd D K nL tgt ll st μ) (k2 : a = 0 → XAt Wd D K nL (pc + 3) ll st μ) : XAt Wd D K nL pc ll (.int (nI a) :: st) μ :=
  x_if_gt C tgt d ht (fun h => k1 (Nat.pos_of_ne_zero fun e => absurd h (by rw [e]; decide))) (fun h => k2 (Nat.eq_zero_of_not_pos fun e => h (nI_lt (a := 0) e ha)))
theorem xn_if_lt (C : XOk D tys K cc nL own rm) {a : Nat} {off : Int} (tgt : Nat) (d : decode cc pc = .ok (.ifCond .lt off, 3)) (ht : (pc : Int) + off = (tgt : Int)) (ha : a < 2 ^ 31) (k2 : XAt Wd D K nL (pc + 3) ll st μ) : XAt Wd D K nL pc ll (.int (nI a) :: st) μ :=
  x_if_lt C tgt d ht (fun h => absurd h (nI_pos ha)) (fun _ => k2)
theorem xn_if_ge (C : XOk D tys K cc nL own rm) {a : Nat} {off : Int} (tgt : Nat) (d : decode cc pc = .ok (.ifCond .ge off, 3)) (ht : (pc : Int) + off = (tgt : Int)) (ha : a < 2 ^ 31) (k1 : XAt Wd D K nL tgt ll st μ) : XAt Wd D K nL pc ll (.int (nI a) :: st) μ :=
  x_if_ge C tgt d ht (fun _ => k1) (fun h => absurd (nI_pos' ha) h)
end XR
/-! contracts: a method of an object with the world Wd -/
def rmk (k : Nat) : Room := { frames := k, cells := 0, slots := 0, locals := 40 * k }
def GPre {α : Type} (Wd : α → va_W) (D : va_G) (tys : List (ClassId × FieldType)) (μ : α) (sz : Nat) (U : State) : Prop := U.heap.size = sz ∧ va_P D vwCl (Wd μ) U.heap ∧ va_K D vwCl tys U ∧ va_D (fun _ => True) (Wd μ)
def GPo {α : Type} (Wd : α → va_W) (D : va_G) (tys : List (ClassId × FieldType)) (μ : α) (sz : Nat) (μ' : α) (t : State) : Prop := va_P D vwCl (Wd μ') t.heap ∧ va_K D vwCl tys t ∧ va_D (va_A (Wd μ) sz) (Wd μ')
/-- a method that answers an int (or a boolean) -/
def GMi {α : Type} (Wd : α → va_W) (D : va_G) (tys : List (ClassId × FieldType)) (l : Launch) (y : MethodName) (cd : ByteArray) (maxL : Nat) (ret : Option FieldType) (rm : Room) (As : List Value) (μ : α) (post : Int32 → α → Prop) : Prop :=
  ∀ sz, Met l y (ws_ y cd maxL ret) rm (va_Pc As (GPre Wd D tys μ sz)) (va_Qi post (GPo Wd D tys μ sz) (va_A (Wd μ) sz)) 0 0 (va_A (Wd μ) sz)
def GMv {α : Type} (Wd : α → va_W) (D : va_G) (tys : List (ClassId × FieldType)) (l : Launch) (y : MethodName) (cd : ByteArray) (maxL : Nat) (rm : Room) (As : List Value) (μ : α) (post : α → Prop) : Prop :=
  ∀ sz, Met l y (ws_ y cd maxL none) rm (va_Pc As (GPre Wd D tys μ sz)) (va_Qv post (GPo Wd D tys μ sz) (va_A (Wd μ) sz)) 0 0 (va_A (Wd μ) sz)
/-- the way out with an int -/
def XRi {α : Type} (Wd : α → va_W) (D : va_G) (K : XK) (cc : ByteArray) (nL : Nat) (ty : FieldType) (post : Int32 → α → Prop) : Prop :=
  ∀ (pc : Nat) (ll : List (Option Value)) (μ : α) (r : Int32), decode cc pc = .ok (.ireturn, 1) → narrow ty (.int r) = .int r → post r μ → XAt Wd D K nL pc ll [.int r] μ
def XRv {α : Type} (Wd : α → va_W) (D : va_G) (K : XK) (cc : ByteArray) (nL : Nat) (post : α → Prop) : Prop :=
  ∀ (pc : Nat) (ll : List (Option Value)) (μ : α), decode cc pc = .ok (.return_, 1) → post μ → XAt Wd D K nL pc ll [] μ
section GM
variable {α : Type} {Wd : α → va_W} {D : va_G} {tys : List (ClassId × FieldType)} {l : Launch} {y : MethodName} {cc : ByteArray} {maxL : Nat} {rm : Room} {As : List Value} {μ : α} {own : String}
theorem GMi.intro {ty : FieldType} {post : Int32 → α → Prop} (hy : plainName y.cls = true) (ho : y.cls = own) (hc : ∀ v ∈ As, v.category = 1) (hl : As.length ≤ maxL)
    (body : ∀ K : XK, kL K = l → XOk D tys K cc maxL own rm → XRi Wd D K cc maxL ty post → XAt Wd D K maxL 0 (As.map some ++ List.replicate (maxL - As.length) none) [] μ) : GMi Wd D tys l y cc maxL (some ty) rm As μ post := by
  intro sz
  refine Met.ofW (cc := cc) (maxL := maxL) (ret := some ty) hy rfl ?_
  intro p e s m args below meth c s₁ B hml hv
  obtain ⟨rfl, hsz, hP, hK, hD0⟩ := hv
  subst hsz
  have hts := atoms_spec (ws := ws_ y cc maxL (some ty)) B.pre
  have hts : ∀ w ∈ lw_all, w.before _ s = true := fun w h => hts w (List.mem_cons_of_mem _ h)
  have hown : s.vm.findClass own = some m.cls := by rw [← ho]; exact findClass_of_methodNamed B.named
  rw [lg_entry_eq]
  exact body (p, l, e, rm, s, m, As.toArray, below, meth, c, 0, 0, MQ below (va_Qi post (GPo Wd D tys μ s.heap.size) (va_A (Wd μ) s.heap.size)) As.toArray s 0 0 (va_A (Wd μ) s.heap.size), va_A (Wd μ) s.heap.size) rfl
    ⟨B.exec, B.bytes, hml, hown, hts, hK, fun q h => Or.inr h, B.notSynchronized, rfl, Nat.zero_le _, Nat.zero_le _⟩
    (fun pc ll μ' r d hn hp H locs ls hP hD hS _ => W.zret (v := r) B.exec B.bytes B.returns hn (fun t ht hW => ⟨⟨r, μ', rfl, hp, by rw [ht]; exact hP, va_K.moved hW.alike hK, hD⟩, hS.F ht⟩) hS.2.2 d B.notSynchronized)
    s.heap [] _ hP (hD0.self) va_S.rf (XL.entry As hc hl)
theorem GMv.intro {post : α → Prop} (hy : plainName y.cls = true) (ho : y.cls = own) (hc : ∀ v ∈ As, v.category = 1) (hl : As.length ≤ maxL)
    (body : ∀ K : XK, kL K = l → XOk D tys K cc maxL own rm → XRv Wd D K cc maxL post → XAt Wd D K maxL 0 (As.map some ++ List.replicate (maxL - As.length) none) [] μ) : GMv Wd D tys l y cc maxL rm As μ post := by
  intro sz
  refine Met.ofW (cc := cc) (maxL := maxL) (ret := none) hy rfl ?_
  intro p e s m args below meth c s₁ B hml hv
  obtain ⟨rfl, hsz, hP, hK, hD0⟩ := hv
  subst hsz
  have hts := atoms_spec (ws := ws_ y cc maxL none) B.pre
  have hts : ∀ w ∈ lw_all, w.before _ s = true := fun w h => hts w (List.mem_cons_of_mem _ h)
  have hown : s.vm.findClass own = some m.cls := by rw [← ho]; exact findClass_of_methodNamed B.named
  rw [lg_entry_eq]
  exact body (p, l, e, rm, s, m, As.toArray, below, meth, c, 0, 0, MQ below (va_Qv post (GPo Wd D tys μ s.heap.size) (va_A (Wd μ) s.heap.size)) As.toArray s 0 0 (va_A (Wd μ) s.heap.size), va_A (Wd μ) s.heap.size) rfl
    ⟨B.exec, B.bytes, hml, hown, hts, hK, fun q h => Or.inr h, B.notSynchronized, rfl, Nat.zero_le _, Nat.zero_le _⟩
    (fun pc ll μ' d hp H locs ls hP hD hS _ => W.vret B.exec B.bytes B.returns (fun t ht hW => ⟨⟨μ', rfl, hp, by rw [ht]; exact hP, va_K.moved hW.alike hK, hD⟩, hS.F ht⟩) hS.2.2 d B.notSynchronized)
    s.heap [] _ hP (hD0.self) va_S.rf (XL.entry As hc hl)
theorem GPre.blind {sz : Nat} : FrameBlind (va_Pc As (GPre Wd D tys μ sz)) := fun a U g mk q => by
  obtain ⟨q0, q1, qP, qK, qD⟩ := q
  exact ⟨q0, q1, qP, va_K.moved (u := U) (U := U.calling g mk a) (Vm.Alike.refl U.vm) qK, qD⟩
theorem world_free {K : XK} {nL : Nat} {H : Heap} {locs : List Loc} (C : XOk D tys K cc nL own rm) (hD : va_D (kF K) (Wd μ)) (hS : va_S (kF K) (kS K).heap H locs) : ∀ q, va_A (Wd μ) H.size q → kF K q := by
  intro q h
  rcases h with ⟨k, e, h⟩ | h
  · exact hD.2 k _ h
  · exact C.a q (Nat.le_trans hS.1 h)
/-- what a call through an object asks of the tables -/
def CW (own : String) (idx : Nat) (y : MethodName) (cd : ByteArray) (maxL : Nat) (ret : Option FieldType) (n : Nat) : Prop :=
  GoodIn lw_all (wsV own idx y.cls y (ws_ y cd maxL ret)) ∧ (y.cls = y.cls ∧ y.cls ≠ "java/lang/invoke/MethodHandle" ∧ y.cls ≠ "java/lang/invoke/VarHandle" ∧ (parseMethodDescriptor y.desc).map (fun d => d.parameters.length) = some n)
variable {K : XK} {nL pc : Nat} {ll : List (Option Value)} {st st0 : List Value} {cm : ByteArray} {rmm : Room}
theorem x_calli {ret : Option FieldType} {idx h0 : Nat} {post : Int32 → α → Prop} (C : XOk D tys K cm nL own rm) (hM : GMi Wd D tys (kL K) y cc maxL ret rmm (.ref h0 :: As) μ post) (cw : CW own idx y cc maxL ret As.length)
    (hR : rmm.frames + 1 ≤ rm.frames ∧ 8 + (maxL + 11) + rmm.locals ≤ rm.locals) (hz : rmm.cells = 0 ∧ rmm.slots = 0) {ci q0 : Nat} {q : vw_C} {fs : List Value} (hci : vwCl[ci]? = some q) (hq : q.1 = y.cls) (he : (Wd μ)[q0]? = some (h0, .inr (ci, fs)))
    (hst : (st.map fun v => v.category).sum ≤ 8) (hstk : st0 = As.reverse ++ .ref h0 :: st) (d : decode cm pc = .ok (.invokevirtual idx, 3)) (kk : ∀ (r : Int32) (μ' : α), post r μ' → XAt Wd D K nL (pc + 3) ll (.int r :: st) μ') : XAt Wd D K nL pc ll st0 μ := by
  intro H locs ls hP hD hS hl
  have hF := world_free C hD hS
  have hcs := C.cs
  have hr := C.r
  refine va_calli (va_runV (As := As) (rest := st) (Ts := lw_all) ⟨C.x, C.b, C.ml, C.o, C.ts⟩ (hM H.size) (cwV As.length C.ts cw.1 rfl hz.1 hz.2 cw.2 (by rw [hr]; exact hR)) ⟨GPre.blind, by rw [← hq]; exact va_recv C.k hP hci he, fun U hU hW => ⟨rfl, by rw [hU], by rw [hU]; exact hP, va_K.moved hW.alike C.k, hD.weaken (fun _ _ _ _ => trivial)⟩⟩ rfl rfl hl.1 hstk (lv_room hst) d (by rw [hr]; exact hcs)) hS (fun q _ h => hF q h) hF (fun r u t H1 locs1 ht hvm hw hB hz1 hk1 hS1 => ?_)
  obtain ⟨hP1, hK1, hD1⟩ := hB
  rw [ht] at hP1
  exact kk r u hw H1 locs1 ls hP1 (hD1.weaken (fun _ _ _ h => hF _ h)) hS1 hl
theorem x_callv {idx h0 : Nat} {post : α → Prop} (C : XOk D tys K cm nL own rm) (hM : GMv Wd D tys (kL K) y cc maxL rmm (.ref h0 :: As) μ post) (cw : CW own idx y cc maxL none As.length)
    (hR : rmm.frames + 1 ≤ rm.frames ∧ 8 + (maxL + 11) + rmm.locals ≤ rm.locals) (hz : rmm.cells = 0 ∧ rmm.slots = 0) {ci q0 : Nat} {q : vw_C} {fs : List Value} (hci : vwCl[ci]? = some q) (hq : q.1 = y.cls) (he : (Wd μ)[q0]? = some (h0, .inr (ci, fs)))
    (hst : (st.map fun v => v.category).sum ≤ 8) (hstk : st0 = As.reverse ++ .ref h0 :: st) (d : decode cm pc = .ok (.invokevirtual idx, 3)) (kk : ∀ (μ' : α), post μ' → XAt Wd D K nL (pc + 3) ll st μ') : XAt Wd D K nL pc ll st0 μ := by
  intro H locs ls hP hD hS hl
  have hF := world_free C hD hS
  have hcs := C.cs
  have hr := C.r
  refine va_callv (va_runV (As := As) (rest := st) (Ts := lw_all) ⟨C.x, C.b, C.ml, C.o, C.ts⟩ (hM H.size) (cwV As.length C.ts cw.1 rfl hz.1 hz.2 cw.2 (by rw [hr]; exact hR)) ⟨GPre.blind, by rw [← hq]; exact va_recv C.k hP hci he, fun U hU hW => ⟨rfl, by rw [hU], by rw [hU]; exact hP, va_K.moved hW.alike C.k, hD.weaken (fun _ _ _ _ => trivial)⟩⟩ rfl rfl hl.1 hstk (lv_room hst) d (by rw [hr]; exact hcs)) hS (fun q _ h => hF q h) hF (fun u t H1 locs1 ht hvm hw hB hz1 hk1 hS1 => ?_)
  obtain ⟨hP1, hK1, hD1⟩ := hB
  rw [ht] at hP1
  exact kk u hw H1 locs1 ls hP1 (hD1.weaken (fun _ _ _ h => hF _ h)) hS1 hl
/-- a static method -/
theorem x_calls {ret : Option FieldType} {idx : Nat} {post : Int32 → α → Prop} (C : XOk D tys K cm nL own rm) (hM : GMi Wd D tys (kL K) y cc maxL ret rmm As μ post) (hg : GoodIn lw_all (va_wsS own idx y (ws_ y cc maxL ret))) (hd : y.cls ≠ "java/lang/invoke/MethodHandle" ∧ y.cls ≠ "java/lang/invoke/VarHandle" ∧ (parseMethodDescriptor y.desc).map (fun d => d.parameters.length) = some As.length)
    (hR : rmm.frames + 1 ≤ rm.frames ∧ 8 + (maxL + 11) + rmm.locals ≤ rm.locals) (hz : rmm.cells = 0 ∧ rmm.slots = 0)
    (hst : (st.map fun v => v.category).sum ≤ 8) (hstk : st0 = As.reverse ++ st) (d : decode cm pc = .ok (.invokestatic idx, 3)) (kk : ∀ (r : Int32) (μ' : α), post r μ' → XAt Wd D K nL (pc + 3) ll (.int r :: st) μ') : XAt Wd D K nL pc ll st0 μ := by
  intro H locs ls hP hD hS hl
  have hF := world_free C hD hS
  have hcs := C.cs
  have hr := C.r
  refine va_calli (va_runS (As := As) (rest := st) (Ts := lw_all) ⟨C.x, C.b, C.ml, C.o, C.ts⟩ (hM H.size) (va_cwS As.length C.ts hg rfl hz.1 hz.2 hd (by rw [hr]; exact hR)) ⟨GPre.blind, fun U hU hW => ⟨rfl, by rw [hU], by rw [hU]; exact hP, va_K.moved hW.alike C.k, hD.weaken (fun _ _ _ _ => trivial)⟩⟩ rfl rfl hl.1 hstk (lv_room hst) d (by rw [hr]; exact hcs)) hS (fun q _ h => hF q h) hF (fun r u t H1 locs1 ht hvm hw hB hz1 hk1 hS1 => ?_)
  obtain ⟨hP1, hK1, hD1⟩ := hB
  rw [ht] at hP1
  exact kk r u hw H1 locs1 ls hP1 (hD1.weaken (fun _ _ _ h => hF _ h)) hS1 hl
end GM
end
section
/-! ROWS: the world of an ActionPlanner, by program (prog/gen_rows.py) -/
abbrev XO : Type := va_G × Nat × (Nat → Nat) × ClassId × ClassId
abbrev oD (O : XO) : va_G := O.1
abbrev oh (O : XO) : Nat := O.2.1
abbrev oa (O : XO) : Nat → Nat := O.2.2.1
abbrev oI (O : XO) : ClassId := O.2.2.2.1
abbrev oZ (O : XO) : ClassId := O.2.2.2.2
/-- the state: whole-number fields, arrays; by the field's number -/
abbrev XS : Type := (Nat → Nat) × (Nat → Nat → Nat)
def sS (μ : XS) (k v : Nat) : XS := (fun j => if j = k then v else μ.1 j, μ.2)
def sA (μ : XS) (k : Nat) (f : Nat → Nat) : XS := (μ.1, fun j => if j = k then f else μ.2 j)
abbrev xT (O : XO) : List (ClassId × FieldType) := [(oI O, .int), (oZ O, .boolean)]
theorem upd_un (f : Nat → Nat) (i v : Nat) : upd (fun j => nI (f j)) i (nI v) = fun j => nI (un f i v j) := by
  funext j
  unfold upd un
  dsimp only
  split <;> rfl
theorem upd_un2 (f : Nat → Nat) (i v : Nat) : upd (fun j => nI (f j) - 2) i (nI v - 2) = fun j => nI (un f i v j) - 2 := by
  funext j
  unfold upd un
  dsimp only
  split <;> rfl
theorem nar_b {v : Nat} (h : v ≤ 1) : narrow .boolean (.int (nI v)) = .int (nI v) ∧ fits .boolean (.int (nI v)) = true ∧ vp_nar .boolean (nI v) = nI v := by
  have : v = 0 ∨ v = 1 := by omega
  rcases this with rfl | rfl
  · exact ⟨by decide, by decide, by decide⟩
  · exact ⟨by decide, by decide, by decide⟩

def xf (O : XO) (μ : XS) : List Value := [.ref (oa O 0), .ref (oa O 1), .ref (oa O 2), .ref (oa O 3), .ref (oa O 4), .ref (oa O 5), .int (nI (μ.1 6)), .int (nI (μ.1 7)), .int (nI (μ.1 8)), .int (nI (μ.1 9)), .int (nI (μ.1 10)), .int (nI (μ.1 11)), .int (nI (μ.1 12)), .int (nI (μ.1 13)), .ref (oa O 14), .ref (oa O 15), .ref (oa O 16), .ref (oa O 17), .int (nI (μ.1 18)), .ref (oa O 19), .int (nI (μ.1 20)), .ref (oa O 21), .ref (oa O 22), .ref (oa O 23)]
def xw (O : XO) (μ : XS) : va_W := [(oh O, .inr (0, xf O μ)), (oa O 0, .inl (oZ O, 10, .inl (fun i => nI (μ.2 0 i)))), (oa O 1, .inl (oI O, 10, .inl (fun i => nI (μ.2 1 i)))), (oa O 2, .inl (oI O, 10, .inl (fun i => nI (μ.2 2 i)))), (oa O 3, .inl (oI O, 10, .inl (fun i => nI (μ.2 3 i)))), (oa O 4, .inl (oI O, 10, .inl (fun i => nI (μ.2 4 i)))), (oa O 5, .inl (oI O, 10, .inl (fun i => nI (μ.2 5 i)))), (oa O 14, .inl (oI O, 256, .inl (fun i => nI (μ.2 14 i)))), (oa O 15, .inl (oI O, 256, .inl (fun i => nI (μ.2 15 i)))), (oa O 16, .inl (oI O, 256, .inl (fun i => nI (μ.2 16 i) - 2))), (oa O 17, .inl (oI O, 256, .inl (fun i => nI (μ.2 17 i)))), (oa O 19, .inl (oI O, 256, .inl (fun i => nI (μ.2 19 i)))), (oa O 21, .inl (oZ O, 256, .inl (fun i => nI (μ.2 21 i)))), (oa O 22, .inl (oI O, 8, .inl (fun i => nI (μ.2 22 i)))), (oa O 23, .inl (oI O, 8, .inl (fun i => nI (μ.2 23 i))))]
section RP
variable {O : XO} {K : XK} {cc : ByteArray} {nL : Nat} {own : String} {rm : Room} {pc : Nat} {ll : List (Option Value)} {st : List Value} {μ : XS}
theorem pg_given (C : XOk (oD O) (xT O) K cc nL RX0 rm) (d : decode cc pc = .ok (.getfield 7, 3)) (kk : XAt (xw O) (oD O) K nL (pc + 3) ll (.ref (oa O 0) :: st) μ) : XAt (xw O) (oD O) K nL pc ll (.ref (oh O) :: st) μ :=
  fun H locs ls hP hD hS hl => va_get (D := oD O) (ci := 0) (C := RX0) (T := TX0) (N := 24) C.x C.b C.ts in_X0 C.o C.k hP 0 rfl rfl 0 (by decide) (C.ts _ q38) (fun _ h9 => h9) rfl d (kk H locs ls hP hD hS hl)
theorem pl_given (C : XOk (oD O) (xT O) K cc nL own rm) {i : Nat} (d : decode cc pc = .ok (.baload, 1)) (hi : i < 10) (kk : XAt (xw O) (oD O) K nL (pc + 1) ll (.int (nI (μ.2 0 i)) :: st) μ) : XAt (xw O) (oD O) K nL pc ll (.int (nI i) :: .ref (oa O 0) :: st) μ :=
  fun H locs ls hP hD hS hl => va_zald C.x C.b C.k hP 1 1 rfl rfl (vp_in_nI hi (by decide)) d (by rw [nI_clamp (by omega)]; exact kk H locs ls hP hD hS hl)
theorem pe_given (f : Nat → Nat) : (xw O μ).set 1 (oa O 0, .inl (oZ O, 10, .inl (fun i => nI (f i)))) = xw O (sA μ 0 f) := rfl
theorem ps_given (C : XOk (oD O) (xT O) K cc nL own rm) {i v : Nat} (d : decode cc pc = .ok (.bastore, 1)) (hi : i < 10) (hv : v ≤ 1) (kk : XAt (xw O) (oD O) K nL (pc + 1) ll st (sA μ 0 (un (μ.2 0) i v))) : XAt (xw O) (oD O) K nL pc ll (.int (nI v) :: .int (nI i) :: .ref (oa O 0) :: st) μ :=
  fun H locs ls hP hD hS hl => va_zast C.x C.b C.k hP hD hS 1 1 rfl rfl (vp_in_nI hi (by decide)) d (fun H1 locs1 hP1 hD1 hS1 => by
    rw [nI_clamp (by omega), (nar_b hv).2.2, upd_un, pe_given] at hP1 hD1
    exact kk H1 locs1 ls hP1 hD1 hS1 hl)
theorem pg_needs (C : XOk (oD O) (xT O) K cc nL RX0 rm) (d : decode cc pc = .ok (.getfield 13, 3)) (kk : XAt (xw O) (oD O) K nL (pc + 3) ll (.ref (oa O 1) :: st) μ) : XAt (xw O) (oD O) K nL pc ll (.ref (oh O) :: st) μ :=
  fun H locs ls hP hD hS hl => va_get (D := oD O) (ci := 0) (C := RX0) (T := TX0) (N := 24) C.x C.b C.ts in_X0 C.o C.k hP 0 rfl rfl 1 (by decide) (C.ts _ q39) (fun _ h9 => h9) rfl d (kk H locs ls hP hD hS hl)
theorem pl_needs (C : XOk (oD O) (xT O) K cc nL own rm) {i : Nat} (d : decode cc pc = .ok (.iaload, 1)) (hi : i < 10) (kk : XAt (xw O) (oD O) K nL (pc + 1) ll (.int (nI (μ.2 1 i)) :: st) μ) : XAt (xw O) (oD O) K nL pc ll (.int (nI i) :: .ref (oa O 1) :: st) μ :=
  fun H locs ls hP hD hS hl => va_iald C.x C.b C.k hP 2 0 rfl rfl (vp_in_nI hi (by decide)) d (by rw [nI_clamp (by omega)]; exact kk H locs ls hP hD hS hl)
theorem pe_needs (f : Nat → Nat) : (xw O μ).set 2 (oa O 1, .inl (oI O, 10, .inl (fun i => nI (f i)))) = xw O (sA μ 1 f) := rfl
theorem ps_needs (C : XOk (oD O) (xT O) K cc nL own rm) {i v : Nat} (d : decode cc pc = .ok (.iastore, 1)) (hi : i < 10) (kk : XAt (xw O) (oD O) K nL (pc + 1) ll st (sA μ 1 (un (μ.2 1) i v))) : XAt (xw O) (oD O) K nL pc ll (.int (nI v) :: .int (nI i) :: .ref (oa O 1) :: st) μ :=
  fun H locs ls hP hD hS hl => va_iast C.x C.b C.k hP hD hS 2 0 rfl rfl (vp_in_nI hi (by decide)) d (fun H1 locs1 hP1 hD1 hS1 => by
    rw [nI_clamp (by omega), upd_un, pe_needs] at hP1 hD1
    exact kk H1 locs1 ls hP1 hD1 hS1 hl)
theorem pg_bars (C : XOk (oD O) (xT O) K cc nL RX0 rm) (d : decode cc pc = .ok (.getfield 17, 3)) (kk : XAt (xw O) (oD O) K nL (pc + 3) ll (.ref (oa O 2) :: st) μ) : XAt (xw O) (oD O) K nL pc ll (.ref (oh O) :: st) μ :=
  fun H locs ls hP hD hS hl => va_get (D := oD O) (ci := 0) (C := RX0) (T := TX0) (N := 24) C.x C.b C.ts in_X0 C.o C.k hP 0 rfl rfl 2 (by decide) (C.ts _ q40) (fun _ h9 => h9) rfl d (kk H locs ls hP hD hS hl)
theorem pl_bars (C : XOk (oD O) (xT O) K cc nL own rm) {i : Nat} (d : decode cc pc = .ok (.iaload, 1)) (hi : i < 10) (kk : XAt (xw O) (oD O) K nL (pc + 1) ll (.int (nI (μ.2 2 i)) :: st) μ) : XAt (xw O) (oD O) K nL pc ll (.int (nI i) :: .ref (oa O 2) :: st) μ :=
  fun H locs ls hP hD hS hl => va_iald C.x C.b C.k hP 3 0 rfl rfl (vp_in_nI hi (by decide)) d (by rw [nI_clamp (by omega)]; exact kk H locs ls hP hD hS hl)
theorem pe_bars (f : Nat → Nat) : (xw O μ).set 3 (oa O 2, .inl (oI O, 10, .inl (fun i => nI (f i)))) = xw O (sA μ 2 f) := rfl
theorem ps_bars (C : XOk (oD O) (xT O) K cc nL own rm) {i v : Nat} (d : decode cc pc = .ok (.iastore, 1)) (hi : i < 10) (kk : XAt (xw O) (oD O) K nL (pc + 1) ll st (sA μ 2 (un (μ.2 2) i v))) : XAt (xw O) (oD O) K nL pc ll (.int (nI v) :: .int (nI i) :: .ref (oa O 2) :: st) μ :=
  fun H locs ls hP hD hS hl => va_iast C.x C.b C.k hP hD hS 3 0 rfl rfl (vp_in_nI hi (by decide)) d (fun H1 locs1 hP1 hD1 hS1 => by
    rw [nI_clamp (by omega), upd_un, pe_bars] at hP1 hD1
    exact kk H1 locs1 ls hP1 hD1 hS1 hl)
theorem pg_adds (C : XOk (oD O) (xT O) K cc nL RX0 rm) (d : decode cc pc = .ok (.getfield 20, 3)) (kk : XAt (xw O) (oD O) K nL (pc + 3) ll (.ref (oa O 3) :: st) μ) : XAt (xw O) (oD O) K nL pc ll (.ref (oh O) :: st) μ :=
  fun H locs ls hP hD hS hl => va_get (D := oD O) (ci := 0) (C := RX0) (T := TX0) (N := 24) C.x C.b C.ts in_X0 C.o C.k hP 0 rfl rfl 3 (by decide) (C.ts _ q41) (fun _ h9 => h9) rfl d (kk H locs ls hP hD hS hl)
theorem pl_adds (C : XOk (oD O) (xT O) K cc nL own rm) {i : Nat} (d : decode cc pc = .ok (.iaload, 1)) (hi : i < 10) (kk : XAt (xw O) (oD O) K nL (pc + 1) ll (.int (nI (μ.2 3 i)) :: st) μ) : XAt (xw O) (oD O) K nL pc ll (.int (nI i) :: .ref (oa O 3) :: st) μ :=
  fun H locs ls hP hD hS hl => va_iald C.x C.b C.k hP 4 0 rfl rfl (vp_in_nI hi (by decide)) d (by rw [nI_clamp (by omega)]; exact kk H locs ls hP hD hS hl)
theorem pe_adds (f : Nat → Nat) : (xw O μ).set 4 (oa O 3, .inl (oI O, 10, .inl (fun i => nI (f i)))) = xw O (sA μ 3 f) := rfl
theorem ps_adds (C : XOk (oD O) (xT O) K cc nL own rm) {i v : Nat} (d : decode cc pc = .ok (.iastore, 1)) (hi : i < 10) (kk : XAt (xw O) (oD O) K nL (pc + 1) ll st (sA μ 3 (un (μ.2 3) i v))) : XAt (xw O) (oD O) K nL pc ll (.int (nI v) :: .int (nI i) :: .ref (oa O 3) :: st) μ :=
  fun H locs ls hP hD hS hl => va_iast C.x C.b C.k hP hD hS 4 0 rfl rfl (vp_in_nI hi (by decide)) d (fun H1 locs1 hP1 hD1 hS1 => by
    rw [nI_clamp (by omega), upd_un, pe_adds] at hP1 hD1
    exact kk H1 locs1 ls hP1 hD1 hS1 hl)
theorem pg_drops (C : XOk (oD O) (xT O) K cc nL RX0 rm) (d : decode cc pc = .ok (.getfield 23, 3)) (kk : XAt (xw O) (oD O) K nL (pc + 3) ll (.ref (oa O 4) :: st) μ) : XAt (xw O) (oD O) K nL pc ll (.ref (oh O) :: st) μ :=
  fun H locs ls hP hD hS hl => va_get (D := oD O) (ci := 0) (C := RX0) (T := TX0) (N := 24) C.x C.b C.ts in_X0 C.o C.k hP 0 rfl rfl 4 (by decide) (C.ts _ q42) (fun _ h9 => h9) rfl d (kk H locs ls hP hD hS hl)
theorem pl_drops (C : XOk (oD O) (xT O) K cc nL own rm) {i : Nat} (d : decode cc pc = .ok (.iaload, 1)) (hi : i < 10) (kk : XAt (xw O) (oD O) K nL (pc + 1) ll (.int (nI (μ.2 4 i)) :: st) μ) : XAt (xw O) (oD O) K nL pc ll (.int (nI i) :: .ref (oa O 4) :: st) μ :=
  fun H locs ls hP hD hS hl => va_iald C.x C.b C.k hP 5 0 rfl rfl (vp_in_nI hi (by decide)) d (by rw [nI_clamp (by omega)]; exact kk H locs ls hP hD hS hl)
theorem pe_drops (f : Nat → Nat) : (xw O μ).set 5 (oa O 4, .inl (oI O, 10, .inl (fun i => nI (f i)))) = xw O (sA μ 4 f) := rfl
theorem ps_drops (C : XOk (oD O) (xT O) K cc nL own rm) {i v : Nat} (d : decode cc pc = .ok (.iastore, 1)) (hi : i < 10) (kk : XAt (xw O) (oD O) K nL (pc + 1) ll st (sA μ 4 (un (μ.2 4) i v))) : XAt (xw O) (oD O) K nL pc ll (.int (nI v) :: .int (nI i) :: .ref (oa O 4) :: st) μ :=
  fun H locs ls hP hD hS hl => va_iast C.x C.b C.k hP hD hS 5 0 rfl rfl (vp_in_nI hi (by decide)) d (fun H1 locs1 hP1 hD1 hS1 => by
    rw [nI_clamp (by omega), upd_un, pe_drops] at hP1 hD1
    exact kk H1 locs1 ls hP1 hD1 hS1 hl)
theorem pg_priceOf (C : XOk (oD O) (xT O) K cc nL RX0 rm) (d : decode cc pc = .ok (.getfield 26, 3)) (kk : XAt (xw O) (oD O) K nL (pc + 3) ll (.ref (oa O 5) :: st) μ) : XAt (xw O) (oD O) K nL pc ll (.ref (oh O) :: st) μ :=
  fun H locs ls hP hD hS hl => va_get (D := oD O) (ci := 0) (C := RX0) (T := TX0) (N := 24) C.x C.b C.ts in_X0 C.o C.k hP 0 rfl rfl 5 (by decide) (C.ts _ q43) (fun _ h9 => h9) rfl d (kk H locs ls hP hD hS hl)
theorem pl_priceOf (C : XOk (oD O) (xT O) K cc nL own rm) {i : Nat} (d : decode cc pc = .ok (.iaload, 1)) (hi : i < 10) (kk : XAt (xw O) (oD O) K nL (pc + 1) ll (.int (nI (μ.2 5 i)) :: st) μ) : XAt (xw O) (oD O) K nL pc ll (.int (nI i) :: .ref (oa O 5) :: st) μ :=
  fun H locs ls hP hD hS hl => va_iald C.x C.b C.k hP 6 0 rfl rfl (vp_in_nI hi (by decide)) d (by rw [nI_clamp (by omega)]; exact kk H locs ls hP hD hS hl)
theorem pe_priceOf (f : Nat → Nat) : (xw O μ).set 6 (oa O 5, .inl (oI O, 10, .inl (fun i => nI (f i)))) = xw O (sA μ 5 f) := rfl
theorem ps_priceOf (C : XOk (oD O) (xT O) K cc nL own rm) {i v : Nat} (d : decode cc pc = .ok (.iastore, 1)) (hi : i < 10) (kk : XAt (xw O) (oD O) K nL (pc + 1) ll st (sA μ 5 (un (μ.2 5) i v))) : XAt (xw O) (oD O) K nL pc ll (.int (nI v) :: .int (nI i) :: .ref (oa O 5) :: st) μ :=
  fun H locs ls hP hD hS hl => va_iast C.x C.b C.k hP hD hS 6 0 rfl rfl (vp_in_nI hi (by decide)) d (fun H1 locs1 hP1 hD1 hS1 => by
    rw [nI_clamp (by omega), upd_un, pe_priceOf] at hP1 hD1
    exact kk H1 locs1 ls hP1 hD1 hS1 hl)
theorem pg_wantedTrue (C : XOk (oD O) (xT O) K cc nL RX0 rm) (d : decode cc pc = .ok (.getfield 61, 3)) (kk : XAt (xw O) (oD O) K nL (pc + 3) ll (.int (nI (μ.1 6)) :: st) μ) : XAt (xw O) (oD O) K nL pc ll (.ref (oh O) :: st) μ :=
  fun H locs ls hP hD hS hl => va_get (D := oD O) (ci := 0) (C := RX0) (T := TX0) (N := 24) C.x C.b C.ts in_X0 C.o C.k hP 0 rfl rfl 6 (by decide) (C.ts _ q44) (fun _ h9 => h9) rfl d (kk H locs ls hP hD hS hl)
theorem pe_wantedTrue (v : Nat) : (xw O μ).set 0 (oh O, .inr (0, (xf O μ).set 6 (.int (nI v)))) = xw O (sS μ 6 v) := rfl
theorem pp_wantedTrue (C : XOk (oD O) (xT O) K cc nL RX0 rm) {v : Nat} (d : decode cc pc = .ok (.putfield 61, 3)) (kk : XAt (xw O) (oD O) K nL (pc + 3) ll st (sS μ 6 v)) : XAt (xw O) (oD O) K nL pc ll (.int (nI v) :: .ref (oh O) :: st) μ :=
  fun H locs ls hP hD hS hl => va_put (D := oD O) (ci := 0) (v := .int (nI v)) (ty := .int) (fs := xf O μ) (C := RX0) (T := TX0) (N := 24) C.x C.b C.ts in_X0 tyX0 tyX0_ok nmX0 C.o C.k hP hD hS 0 rfl rfl 6 (by decide) (C.ts _ q44) (fun _ h9 => h9) rfl (by decide +kernel) rfl rfl (Nat.le_of_ble_eq_true rfl) d (fun H1 locs1 hP1 hD1 hS1 => kk H1 locs1 ls hP1 hD1 hS1 hl)
theorem pg_wantedFalse (C : XOk (oD O) (xT O) K cc nL RX0 rm) (d : decode cc pc = .ok (.getfield 65, 3)) (kk : XAt (xw O) (oD O) K nL (pc + 3) ll (.int (nI (μ.1 7)) :: st) μ) : XAt (xw O) (oD O) K nL pc ll (.ref (oh O) :: st) μ :=
  fun H locs ls hP hD hS hl => va_get (D := oD O) (ci := 0) (C := RX0) (T := TX0) (N := 24) C.x C.b C.ts in_X0 C.o C.k hP 0 rfl rfl 7 (by decide) (C.ts _ q45) (fun _ h9 => h9) rfl d (kk H locs ls hP hD hS hl)
theorem pe_wantedFalse (v : Nat) : (xw O μ).set 0 (oh O, .inr (0, (xf O μ).set 7 (.int (nI v)))) = xw O (sS μ 7 v) := rfl
theorem pp_wantedFalse (C : XOk (oD O) (xT O) K cc nL RX0 rm) {v : Nat} (d : decode cc pc = .ok (.putfield 65, 3)) (kk : XAt (xw O) (oD O) K nL (pc + 3) ll st (sS μ 7 v)) : XAt (xw O) (oD O) K nL pc ll (.int (nI v) :: .ref (oh O) :: st) μ :=
  fun H locs ls hP hD hS hl => va_put (D := oD O) (ci := 0) (v := .int (nI v)) (ty := .int) (fs := xf O μ) (C := RX0) (T := TX0) (N := 24) C.x C.b C.ts in_X0 tyX0 tyX0_ok nmX0 C.o C.k hP hD hS 0 rfl rfl 7 (by decide) (C.ts _ q45) (fun _ h9 => h9) rfl (by decide +kernel) rfl rfl (Nat.le_of_ble_eq_true rfl) d (fun H1 locs1 hP1 hD1 hS1 => kk H1 locs1 ls hP1 hD1 hS1 hl)
theorem pg_nowState (C : XOk (oD O) (xT O) K cc nL RX0 rm) (d : decode cc pc = .ok (.getfield 68, 3)) (kk : XAt (xw O) (oD O) K nL (pc + 3) ll (.int (nI (μ.1 8)) :: st) μ) : XAt (xw O) (oD O) K nL pc ll (.ref (oh O) :: st) μ :=
  fun H locs ls hP hD hS hl => va_get (D := oD O) (ci := 0) (C := RX0) (T := TX0) (N := 24) C.x C.b C.ts in_X0 C.o C.k hP 0 rfl rfl 8 (by decide) (C.ts _ q46) (fun _ h9 => h9) rfl d (kk H locs ls hP hD hS hl)
theorem pe_nowState (v : Nat) : (xw O μ).set 0 (oh O, .inr (0, (xf O μ).set 8 (.int (nI v)))) = xw O (sS μ 8 v) := rfl
theorem pp_nowState (C : XOk (oD O) (xT O) K cc nL RX0 rm) {v : Nat} (d : decode cc pc = .ok (.putfield 68, 3)) (kk : XAt (xw O) (oD O) K nL (pc + 3) ll st (sS μ 8 v)) : XAt (xw O) (oD O) K nL pc ll (.int (nI v) :: .ref (oh O) :: st) μ :=
  fun H locs ls hP hD hS hl => va_put (D := oD O) (ci := 0) (v := .int (nI v)) (ty := .int) (fs := xf O μ) (C := RX0) (T := TX0) (N := 24) C.x C.b C.ts in_X0 tyX0 tyX0_ok nmX0 C.o C.k hP hD hS 0 rfl rfl 8 (by decide) (C.ts _ q46) (fun _ h9 => h9) rfl (by decide +kernel) rfl rfl (Nat.le_of_ble_eq_true rfl) d (fun H1 locs1 hP1 hD1 hS1 => kk H1 locs1 ls hP1 hD1 hS1 hl)
theorem pg_planned (C : XOk (oD O) (xT O) K cc nL RX0 rm) (d : decode cc pc = .ok (.getfield 53, 3)) (kk : XAt (xw O) (oD O) K nL (pc + 3) ll (.int (nI (μ.1 9)) :: st) μ) : XAt (xw O) (oD O) K nL pc ll (.ref (oh O) :: st) μ :=
  fun H locs ls hP hD hS hl => va_get (D := oD O) (ci := 0) (C := RX0) (T := TX0) (N := 24) C.x C.b C.ts in_X0 C.o C.k hP 0 rfl rfl 9 (by decide) (C.ts _ q47) (fun _ h9 => h9) rfl d (kk H locs ls hP hD hS hl)
theorem pe_planned (v : Nat) : (xw O μ).set 0 (oh O, .inr (0, (xf O μ).set 9 (.int (nI v)))) = xw O (sS μ 9 v) := rfl
theorem pp_planned (C : XOk (oD O) (xT O) K cc nL RX0 rm) {v : Nat} (d : decode cc pc = .ok (.putfield 53, 3)) (hv : v ≤ 1) (kk : XAt (xw O) (oD O) K nL (pc + 3) ll st (sS μ 9 v)) : XAt (xw O) (oD O) K nL pc ll (.int (nI v) :: .ref (oh O) :: st) μ :=
  fun H locs ls hP hD hS hl => va_put (D := oD O) (ci := 0) (v := .int (nI v)) (ty := .boolean) (fs := xf O μ) (C := RX0) (T := TX0) (N := 24) C.x C.b C.ts in_X0 tyX0 tyX0_ok nmX0 C.o C.k hP hD hS 0 rfl rfl 9 (by decide) (C.ts _ q47) (fun _ h9 => h9) rfl (by decide +kernel) (nar_b hv).1 (nar_b hv).2.1 (Nat.le_of_ble_eq_true rfl) d (fun H1 locs1 hP1 hD1 hS1 => kk H1 locs1 ls hP1 hD1 hS1 hl)
theorem pg_hasPlan (C : XOk (oD O) (xT O) K cc nL RX0 rm) (d : decode cc pc = .ok (.getfield 74, 3)) (kk : XAt (xw O) (oD O) K nL (pc + 3) ll (.int (nI (μ.1 10)) :: st) μ) : XAt (xw O) (oD O) K nL pc ll (.ref (oh O) :: st) μ :=
  fun H locs ls hP hD hS hl => va_get (D := oD O) (ci := 0) (C := RX0) (T := TX0) (N := 24) C.x C.b C.ts in_X0 C.o C.k hP 0 rfl rfl 10 (by decide) (C.ts _ q48) (fun _ h9 => h9) rfl d (kk H locs ls hP hD hS hl)
theorem pe_hasPlan (v : Nat) : (xw O μ).set 0 (oh O, .inr (0, (xf O μ).set 10 (.int (nI v)))) = xw O (sS μ 10 v) := rfl
theorem pp_hasPlan (C : XOk (oD O) (xT O) K cc nL RX0 rm) {v : Nat} (d : decode cc pc = .ok (.putfield 74, 3)) (hv : v ≤ 1) (kk : XAt (xw O) (oD O) K nL (pc + 3) ll st (sS μ 10 v)) : XAt (xw O) (oD O) K nL pc ll (.int (nI v) :: .ref (oh O) :: st) μ :=
  fun H locs ls hP hD hS hl => va_put (D := oD O) (ci := 0) (v := .int (nI v)) (ty := .boolean) (fs := xf O μ) (C := RX0) (T := TX0) (N := 24) C.x C.b C.ts in_X0 tyX0 tyX0_ok nmX0 C.o C.k hP hD hS 0 rfl rfl 10 (by decide) (C.ts _ q48) (fun _ h9 => h9) rfl (by decide +kernel) (nar_b hv).1 (nar_b hv).2.1 (Nat.le_of_ble_eq_true rfl) d (fun H1 locs1 hP1 hD1 hS1 => kk H1 locs1 ls hP1 hD1 hS1 hl)
theorem pg_planLength (C : XOk (oD O) (xT O) K cc nL RX0 rm) (d : decode cc pc = .ok (.getfield 80, 3)) (kk : XAt (xw O) (oD O) K nL (pc + 3) ll (.int (nI (μ.1 11)) :: st) μ) : XAt (xw O) (oD O) K nL pc ll (.ref (oh O) :: st) μ :=
  fun H locs ls hP hD hS hl => va_get (D := oD O) (ci := 0) (C := RX0) (T := TX0) (N := 24) C.x C.b C.ts in_X0 C.o C.k hP 0 rfl rfl 11 (by decide) (C.ts _ q49) (fun _ h9 => h9) rfl d (kk H locs ls hP hD hS hl)
theorem pe_planLength (v : Nat) : (xw O μ).set 0 (oh O, .inr (0, (xf O μ).set 11 (.int (nI v)))) = xw O (sS μ 11 v) := rfl
theorem pp_planLength (C : XOk (oD O) (xT O) K cc nL RX0 rm) {v : Nat} (d : decode cc pc = .ok (.putfield 80, 3)) (kk : XAt (xw O) (oD O) K nL (pc + 3) ll st (sS μ 11 v)) : XAt (xw O) (oD O) K nL pc ll (.int (nI v) :: .ref (oh O) :: st) μ :=
  fun H locs ls hP hD hS hl => va_put (D := oD O) (ci := 0) (v := .int (nI v)) (ty := .int) (fs := xf O μ) (C := RX0) (T := TX0) (N := 24) C.x C.b C.ts in_X0 tyX0 tyX0_ok nmX0 C.o C.k hP hD hS 0 rfl rfl 11 (by decide) (C.ts _ q49) (fun _ h9 => h9) rfl (by decide +kernel) rfl rfl (Nat.le_of_ble_eq_true rfl) d (fun H1 locs1 hP1 hD1 hS1 => kk H1 locs1 ls hP1 hD1 hS1 hl)
theorem pg_planAt (C : XOk (oD O) (xT O) K cc nL RX0 rm) (d : decode cc pc = .ok (.getfield 83, 3)) (kk : XAt (xw O) (oD O) K nL (pc + 3) ll (.int (nI (μ.1 12)) :: st) μ) : XAt (xw O) (oD O) K nL pc ll (.ref (oh O) :: st) μ :=
  fun H locs ls hP hD hS hl => va_get (D := oD O) (ci := 0) (C := RX0) (T := TX0) (N := 24) C.x C.b C.ts in_X0 C.o C.k hP 0 rfl rfl 12 (by decide) (C.ts _ q50) (fun _ h9 => h9) rfl d (kk H locs ls hP hD hS hl)
theorem pe_planAt (v : Nat) : (xw O μ).set 0 (oh O, .inr (0, (xf O μ).set 12 (.int (nI v)))) = xw O (sS μ 12 v) := rfl
theorem pp_planAt (C : XOk (oD O) (xT O) K cc nL RX0 rm) {v : Nat} (d : decode cc pc = .ok (.putfield 83, 3)) (kk : XAt (xw O) (oD O) K nL (pc + 3) ll st (sS μ 12 v)) : XAt (xw O) (oD O) K nL pc ll (.int (nI v) :: .ref (oh O) :: st) μ :=
  fun H locs ls hP hD hS hl => va_put (D := oD O) (ci := 0) (v := .int (nI v)) (ty := .int) (fs := xf O μ) (C := RX0) (T := TX0) (N := 24) C.x C.b C.ts in_X0 tyX0 tyX0_ok nmX0 C.o C.k hP hD hS 0 rfl rfl 12 (by decide) (C.ts _ q50) (fun _ h9 => h9) rfl (by decide +kernel) rfl rfl (Nat.le_of_ble_eq_true rfl) d (fun H1 locs1 hP1 hD1 hS1 => kk H1 locs1 ls hP1 hD1 hS1 hl)
theorem pg_rest (C : XOk (oD O) (xT O) K cc nL RX0 rm) (d : decode cc pc = .ok (.getfield 77, 3)) (kk : XAt (xw O) (oD O) K nL (pc + 3) ll (.int (nI (μ.1 13)) :: st) μ) : XAt (xw O) (oD O) K nL pc ll (.ref (oh O) :: st) μ :=
  fun H locs ls hP hD hS hl => va_get (D := oD O) (ci := 0) (C := RX0) (T := TX0) (N := 24) C.x C.b C.ts in_X0 C.o C.k hP 0 rfl rfl 13 (by decide) (C.ts _ q51) (fun _ h9 => h9) rfl d (kk H locs ls hP hD hS hl)
theorem pe_rest (v : Nat) : (xw O μ).set 0 (oh O, .inr (0, (xf O μ).set 13 (.int (nI v)))) = xw O (sS μ 13 v) := rfl
theorem pp_rest (C : XOk (oD O) (xT O) K cc nL RX0 rm) {v : Nat} (d : decode cc pc = .ok (.putfield 77, 3)) (kk : XAt (xw O) (oD O) K nL (pc + 3) ll st (sS μ 13 v)) : XAt (xw O) (oD O) K nL pc ll (.int (nI v) :: .ref (oh O) :: st) μ :=
  fun H locs ls hP hD hS hl => va_put (D := oD O) (ci := 0) (v := .int (nI v)) (ty := .int) (fs := xf O μ) (C := RX0) (T := TX0) (N := 24) C.x C.b C.ts in_X0 tyX0 tyX0_ok nmX0 C.o C.k hP hD hS 0 rfl rfl 13 (by decide) (C.ts _ q51) (fun _ h9 => h9) rfl (by decide +kernel) rfl rfl (Nat.le_of_ble_eq_true rfl) d (fun H1 locs1 hP1 hD1 hS1 => kk H1 locs1 ls hP1 hD1 hS1 hl)
theorem pg_plan (C : XOk (oD O) (xT O) K cc nL RX0 rm) (d : decode cc pc = .ok (.getfield 29, 3)) (kk : XAt (xw O) (oD O) K nL (pc + 3) ll (.ref (oa O 14) :: st) μ) : XAt (xw O) (oD O) K nL pc ll (.ref (oh O) :: st) μ :=
  fun H locs ls hP hD hS hl => va_get (D := oD O) (ci := 0) (C := RX0) (T := TX0) (N := 24) C.x C.b C.ts in_X0 C.o C.k hP 0 rfl rfl 14 (by decide) (C.ts _ q52) (fun _ h9 => h9) rfl d (kk H locs ls hP hD hS hl)
theorem pl_plan (C : XOk (oD O) (xT O) K cc nL own rm) {i : Nat} (d : decode cc pc = .ok (.iaload, 1)) (hi : i < 256) (kk : XAt (xw O) (oD O) K nL (pc + 1) ll (.int (nI (μ.2 14 i)) :: st) μ) : XAt (xw O) (oD O) K nL pc ll (.int (nI i) :: .ref (oa O 14) :: st) μ :=
  fun H locs ls hP hD hS hl => va_iald C.x C.b C.k hP 7 0 rfl rfl (vp_in_nI hi (by decide)) d (by rw [nI_clamp (by omega)]; exact kk H locs ls hP hD hS hl)
theorem pe_plan (f : Nat → Nat) : (xw O μ).set 7 (oa O 14, .inl (oI O, 256, .inl (fun i => nI (f i)))) = xw O (sA μ 14 f) := rfl
theorem ps_plan (C : XOk (oD O) (xT O) K cc nL own rm) {i v : Nat} (d : decode cc pc = .ok (.iastore, 1)) (hi : i < 256) (kk : XAt (xw O) (oD O) K nL (pc + 1) ll st (sA μ 14 (un (μ.2 14) i v))) : XAt (xw O) (oD O) K nL pc ll (.int (nI v) :: .int (nI i) :: .ref (oa O 14) :: st) μ :=
  fun H locs ls hP hD hS hl => va_iast C.x C.b C.k hP hD hS 7 0 rfl rfl (vp_in_nI hi (by decide)) d (fun H1 locs1 hP1 hD1 hS1 => by
    rw [nI_clamp (by omega), upd_un, pe_plan] at hP1 hD1
    exact kk H1 locs1 ls hP1 hD1 hS1 hl)
theorem pg_cost (C : XOk (oD O) (xT O) K cc nL RX0 rm) (d : decode cc pc = .ok (.getfield 32, 3)) (kk : XAt (xw O) (oD O) K nL (pc + 3) ll (.ref (oa O 15) :: st) μ) : XAt (xw O) (oD O) K nL pc ll (.ref (oh O) :: st) μ :=
  fun H locs ls hP hD hS hl => va_get (D := oD O) (ci := 0) (C := RX0) (T := TX0) (N := 24) C.x C.b C.ts in_X0 C.o C.k hP 0 rfl rfl 15 (by decide) (C.ts _ q53) (fun _ h9 => h9) rfl d (kk H locs ls hP hD hS hl)
theorem pl_cost (C : XOk (oD O) (xT O) K cc nL own rm) {i : Nat} (d : decode cc pc = .ok (.iaload, 1)) (hi : i < 256) (kk : XAt (xw O) (oD O) K nL (pc + 1) ll (.int (nI (μ.2 15 i)) :: st) μ) : XAt (xw O) (oD O) K nL pc ll (.int (nI i) :: .ref (oa O 15) :: st) μ :=
  fun H locs ls hP hD hS hl => va_iald C.x C.b C.k hP 8 0 rfl rfl (vp_in_nI hi (by decide)) d (by rw [nI_clamp (by omega)]; exact kk H locs ls hP hD hS hl)
theorem pe_cost (f : Nat → Nat) : (xw O μ).set 8 (oa O 15, .inl (oI O, 256, .inl (fun i => nI (f i)))) = xw O (sA μ 15 f) := rfl
theorem ps_cost (C : XOk (oD O) (xT O) K cc nL own rm) {i v : Nat} (d : decode cc pc = .ok (.iastore, 1)) (hi : i < 256) (kk : XAt (xw O) (oD O) K nL (pc + 1) ll st (sA μ 15 (un (μ.2 15) i v))) : XAt (xw O) (oD O) K nL pc ll (.int (nI v) :: .int (nI i) :: .ref (oa O 15) :: st) μ :=
  fun H locs ls hP hD hS hl => va_iast C.x C.b C.k hP hD hS 8 0 rfl rfl (vp_in_nI hi (by decide)) d (fun H1 locs1 hP1 hD1 hS1 => by
    rw [nI_clamp (by omega), upd_un, pe_cost] at hP1 hD1
    exact kk H1 locs1 ls hP1 hD1 hS1 hl)
theorem pg_place (C : XOk (oD O) (xT O) K cc nL RX0 rm) (d : decode cc pc = .ok (.getfield 35, 3)) (kk : XAt (xw O) (oD O) K nL (pc + 3) ll (.ref (oa O 16) :: st) μ) : XAt (xw O) (oD O) K nL pc ll (.ref (oh O) :: st) μ :=
  fun H locs ls hP hD hS hl => va_get (D := oD O) (ci := 0) (C := RX0) (T := TX0) (N := 24) C.x C.b C.ts in_X0 C.o C.k hP 0 rfl rfl 16 (by decide) (C.ts _ q54) (fun _ h9 => h9) rfl d (kk H locs ls hP hD hS hl)
theorem pl_place (C : XOk (oD O) (xT O) K cc nL own rm) {i : Nat} (d : decode cc pc = .ok (.iaload, 1)) (hi : i < 256) (kk : XAt (xw O) (oD O) K nL (pc + 1) ll (.int (nI (μ.2 16 i) - 2) :: st) μ) : XAt (xw O) (oD O) K nL pc ll (.int (nI i) :: .ref (oa O 16) :: st) μ :=
  fun H locs ls hP hD hS hl => va_iald C.x C.b C.k hP 9 0 rfl rfl (vp_in_nI hi (by decide)) d (by rw [nI_clamp (by omega)]; exact kk H locs ls hP hD hS hl)
theorem pe_place (f : Nat → Nat) : (xw O μ).set 9 (oa O 16, .inl (oI O, 256, .inl (fun i => nI (f i) - 2))) = xw O (sA μ 16 f) := rfl
theorem ps_place (C : XOk (oD O) (xT O) K cc nL own rm) {i v : Nat} (d : decode cc pc = .ok (.iastore, 1)) (hi : i < 256) (kk : XAt (xw O) (oD O) K nL (pc + 1) ll st (sA μ 16 (un (μ.2 16) i v))) : XAt (xw O) (oD O) K nL pc ll (.int (nI v - 2) :: .int (nI i) :: .ref (oa O 16) :: st) μ :=
  fun H locs ls hP hD hS hl => va_iast C.x C.b C.k hP hD hS 9 0 rfl rfl (vp_in_nI hi (by decide)) d (fun H1 locs1 hP1 hD1 hS1 => by
    rw [nI_clamp (by omega), upd_un2, pe_place] at hP1 hD1
    exact kk H1 locs1 ls hP1 hD1 hS1 hl)
theorem pg_heap (C : XOk (oD O) (xT O) K cc nL RX0 rm) (d : decode cc pc = .ok (.getfield 38, 3)) (kk : XAt (xw O) (oD O) K nL (pc + 3) ll (.ref (oa O 17) :: st) μ) : XAt (xw O) (oD O) K nL pc ll (.ref (oh O) :: st) μ :=
  fun H locs ls hP hD hS hl => va_get (D := oD O) (ci := 0) (C := RX0) (T := TX0) (N := 24) C.x C.b C.ts in_X0 C.o C.k hP 0 rfl rfl 17 (by decide) (C.ts _ q55) (fun _ h9 => h9) rfl d (kk H locs ls hP hD hS hl)
theorem pl_heap (C : XOk (oD O) (xT O) K cc nL own rm) {i : Nat} (d : decode cc pc = .ok (.iaload, 1)) (hi : i < 256) (kk : XAt (xw O) (oD O) K nL (pc + 1) ll (.int (nI (μ.2 17 i)) :: st) μ) : XAt (xw O) (oD O) K nL pc ll (.int (nI i) :: .ref (oa O 17) :: st) μ :=
  fun H locs ls hP hD hS hl => va_iald C.x C.b C.k hP 10 0 rfl rfl (vp_in_nI hi (by decide)) d (by rw [nI_clamp (by omega)]; exact kk H locs ls hP hD hS hl)
theorem pe_heap (f : Nat → Nat) : (xw O μ).set 10 (oa O 17, .inl (oI O, 256, .inl (fun i => nI (f i)))) = xw O (sA μ 17 f) := rfl
theorem ps_heap (C : XOk (oD O) (xT O) K cc nL own rm) {i v : Nat} (d : decode cc pc = .ok (.iastore, 1)) (hi : i < 256) (kk : XAt (xw O) (oD O) K nL (pc + 1) ll st (sA μ 17 (un (μ.2 17) i v))) : XAt (xw O) (oD O) K nL pc ll (.int (nI v) :: .int (nI i) :: .ref (oa O 17) :: st) μ :=
  fun H locs ls hP hD hS hl => va_iast C.x C.b C.k hP hD hS 10 0 rfl rfl (vp_in_nI hi (by decide)) d (fun H1 locs1 hP1 hD1 hS1 => by
    rw [nI_clamp (by omega), upd_un, pe_heap] at hP1 hD1
    exact kk H1 locs1 ls hP1 hD1 hS1 hl)
theorem pg_heapSize (C : XOk (oD O) (xT O) K cc nL RX0 rm) (d : decode cc pc = .ok (.getfield 112, 3)) (kk : XAt (xw O) (oD O) K nL (pc + 3) ll (.int (nI (μ.1 18)) :: st) μ) : XAt (xw O) (oD O) K nL pc ll (.ref (oh O) :: st) μ :=
  fun H locs ls hP hD hS hl => va_get (D := oD O) (ci := 0) (C := RX0) (T := TX0) (N := 24) C.x C.b C.ts in_X0 C.o C.k hP 0 rfl rfl 18 (by decide) (C.ts _ q56) (fun _ h9 => h9) rfl d (kk H locs ls hP hD hS hl)
theorem pe_heapSize (v : Nat) : (xw O μ).set 0 (oh O, .inr (0, (xf O μ).set 18 (.int (nI v)))) = xw O (sS μ 18 v) := rfl
theorem pp_heapSize (C : XOk (oD O) (xT O) K cc nL RX0 rm) {v : Nat} (d : decode cc pc = .ok (.putfield 112, 3)) (kk : XAt (xw O) (oD O) K nL (pc + 3) ll st (sS μ 18 v)) : XAt (xw O) (oD O) K nL pc ll (.int (nI v) :: .ref (oh O) :: st) μ :=
  fun H locs ls hP hD hS hl => va_put (D := oD O) (ci := 0) (v := .int (nI v)) (ty := .int) (fs := xf O μ) (C := RX0) (T := TX0) (N := 24) C.x C.b C.ts in_X0 tyX0 tyX0_ok nmX0 C.o C.k hP hD hS 0 rfl rfl 18 (by decide) (C.ts _ q56) (fun _ h9 => h9) rfl (by decide +kernel) rfl rfl (Nat.le_of_ble_eq_true rfl) d (fun H1 locs1 hP1 hD1 hS1 => kk H1 locs1 ls hP1 hD1 hS1 hl)
theorem pg_left (C : XOk (oD O) (xT O) K cc nL RX0 rm) (d : decode cc pc = .ok (.getfield 41, 3)) (kk : XAt (xw O) (oD O) K nL (pc + 3) ll (.ref (oa O 19) :: st) μ) : XAt (xw O) (oD O) K nL pc ll (.ref (oh O) :: st) μ :=
  fun H locs ls hP hD hS hl => va_get (D := oD O) (ci := 0) (C := RX0) (T := TX0) (N := 24) C.x C.b C.ts in_X0 C.o C.k hP 0 rfl rfl 19 (by decide) (C.ts _ q57) (fun _ h9 => h9) rfl d (kk H locs ls hP hD hS hl)
theorem pl_left (C : XOk (oD O) (xT O) K cc nL own rm) {i : Nat} (d : decode cc pc = .ok (.iaload, 1)) (hi : i < 256) (kk : XAt (xw O) (oD O) K nL (pc + 1) ll (.int (nI (μ.2 19 i)) :: st) μ) : XAt (xw O) (oD O) K nL pc ll (.int (nI i) :: .ref (oa O 19) :: st) μ :=
  fun H locs ls hP hD hS hl => va_iald C.x C.b C.k hP 11 0 rfl rfl (vp_in_nI hi (by decide)) d (by rw [nI_clamp (by omega)]; exact kk H locs ls hP hD hS hl)
theorem pe_left (f : Nat → Nat) : (xw O μ).set 11 (oa O 19, .inl (oI O, 256, .inl (fun i => nI (f i)))) = xw O (sA μ 19 f) := rfl
theorem ps_left (C : XOk (oD O) (xT O) K cc nL own rm) {i v : Nat} (d : decode cc pc = .ok (.iastore, 1)) (hi : i < 256) (kk : XAt (xw O) (oD O) K nL (pc + 1) ll st (sA μ 19 (un (μ.2 19) i v))) : XAt (xw O) (oD O) K nL pc ll (.int (nI v) :: .int (nI i) :: .ref (oa O 19) :: st) μ :=
  fun H locs ls hP hD hS hl => va_iast C.x C.b C.k hP hD hS 11 0 rfl rfl (vp_in_nI hi (by decide)) d (fun H1 locs1 hP1 hD1 hS1 => by
    rw [nI_clamp (by omega), upd_un, pe_left] at hP1 hD1
    exact kk H1 locs1 ls hP1 hD1 hS1 hl)
theorem pg_leftCount (C : XOk (oD O) (xT O) K cc nL RX0 rm) (d : decode cc pc = .ok (.getfield 115, 3)) (kk : XAt (xw O) (oD O) K nL (pc + 3) ll (.int (nI (μ.1 20)) :: st) μ) : XAt (xw O) (oD O) K nL pc ll (.ref (oh O) :: st) μ :=
  fun H locs ls hP hD hS hl => va_get (D := oD O) (ci := 0) (C := RX0) (T := TX0) (N := 24) C.x C.b C.ts in_X0 C.o C.k hP 0 rfl rfl 20 (by decide) (C.ts _ q58) (fun _ h9 => h9) rfl d (kk H locs ls hP hD hS hl)
theorem pe_leftCount (v : Nat) : (xw O μ).set 0 (oh O, .inr (0, (xf O μ).set 20 (.int (nI v)))) = xw O (sS μ 20 v) := rfl
theorem pp_leftCount (C : XOk (oD O) (xT O) K cc nL RX0 rm) {v : Nat} (d : decode cc pc = .ok (.putfield 115, 3)) (kk : XAt (xw O) (oD O) K nL (pc + 3) ll st (sS μ 20 v)) : XAt (xw O) (oD O) K nL pc ll (.int (nI v) :: .ref (oh O) :: st) μ :=
  fun H locs ls hP hD hS hl => va_put (D := oD O) (ci := 0) (v := .int (nI v)) (ty := .int) (fs := xf O μ) (C := RX0) (T := TX0) (N := 24) C.x C.b C.ts in_X0 tyX0 tyX0_ok nmX0 C.o C.k hP hD hS 0 rfl rfl 20 (by decide) (C.ts _ q58) (fun _ h9 => h9) rfl (by decide +kernel) rfl rfl (Nat.le_of_ble_eq_true rfl) d (fun H1 locs1 hP1 hD1 hS1 => kk H1 locs1 ls hP1 hD1 hS1 hl)
theorem pg_onBest (C : XOk (oD O) (xT O) K cc nL RX0 rm) (d : decode cc pc = .ok (.getfield 44, 3)) (kk : XAt (xw O) (oD O) K nL (pc + 3) ll (.ref (oa O 21) :: st) μ) : XAt (xw O) (oD O) K nL pc ll (.ref (oh O) :: st) μ :=
  fun H locs ls hP hD hS hl => va_get (D := oD O) (ci := 0) (C := RX0) (T := TX0) (N := 24) C.x C.b C.ts in_X0 C.o C.k hP 0 rfl rfl 21 (by decide) (C.ts _ q59) (fun _ h9 => h9) rfl d (kk H locs ls hP hD hS hl)
theorem pl_onBest (C : XOk (oD O) (xT O) K cc nL own rm) {i : Nat} (d : decode cc pc = .ok (.baload, 1)) (hi : i < 256) (kk : XAt (xw O) (oD O) K nL (pc + 1) ll (.int (nI (μ.2 21 i)) :: st) μ) : XAt (xw O) (oD O) K nL pc ll (.int (nI i) :: .ref (oa O 21) :: st) μ :=
  fun H locs ls hP hD hS hl => va_zald C.x C.b C.k hP 12 1 rfl rfl (vp_in_nI hi (by decide)) d (by rw [nI_clamp (by omega)]; exact kk H locs ls hP hD hS hl)
theorem pe_onBest (f : Nat → Nat) : (xw O μ).set 12 (oa O 21, .inl (oZ O, 256, .inl (fun i => nI (f i)))) = xw O (sA μ 21 f) := rfl
theorem ps_onBest (C : XOk (oD O) (xT O) K cc nL own rm) {i v : Nat} (d : decode cc pc = .ok (.bastore, 1)) (hi : i < 256) (hv : v ≤ 1) (kk : XAt (xw O) (oD O) K nL (pc + 1) ll st (sA μ 21 (un (μ.2 21) i v))) : XAt (xw O) (oD O) K nL pc ll (.int (nI v) :: .int (nI i) :: .ref (oa O 21) :: st) μ :=
  fun H locs ls hP hD hS hl => va_zast C.x C.b C.k hP hD hS 12 1 rfl rfl (vp_in_nI hi (by decide)) d (fun H1 locs1 hP1 hD1 hS1 => by
    rw [nI_clamp (by omega), (nar_b hv).2.2, upd_un, pe_onBest] at hP1 hD1
    exact kk H1 locs1 ls hP1 hD1 hS1 hl)
theorem pg_raise (C : XOk (oD O) (xT O) K cc nL RX0 rm) (d : decode cc pc = .ok (.getfield 47, 3)) (kk : XAt (xw O) (oD O) K nL (pc + 3) ll (.ref (oa O 22) :: st) μ) : XAt (xw O) (oD O) K nL pc ll (.ref (oh O) :: st) μ :=
  fun H locs ls hP hD hS hl => va_get (D := oD O) (ci := 0) (C := RX0) (T := TX0) (N := 24) C.x C.b C.ts in_X0 C.o C.k hP 0 rfl rfl 22 (by decide) (C.ts _ q60) (fun _ h9 => h9) rfl d (kk H locs ls hP hD hS hl)
theorem pl_raise (C : XOk (oD O) (xT O) K cc nL own rm) {i : Nat} (d : decode cc pc = .ok (.iaload, 1)) (hi : i < 8) (kk : XAt (xw O) (oD O) K nL (pc + 1) ll (.int (nI (μ.2 22 i)) :: st) μ) : XAt (xw O) (oD O) K nL pc ll (.int (nI i) :: .ref (oa O 22) :: st) μ :=
  fun H locs ls hP hD hS hl => va_iald C.x C.b C.k hP 13 0 rfl rfl (vp_in_nI hi (by decide)) d (by rw [nI_clamp (by omega)]; exact kk H locs ls hP hD hS hl)
theorem pe_raise (f : Nat → Nat) : (xw O μ).set 13 (oa O 22, .inl (oI O, 8, .inl (fun i => nI (f i)))) = xw O (sA μ 22 f) := rfl
theorem ps_raise (C : XOk (oD O) (xT O) K cc nL own rm) {i v : Nat} (d : decode cc pc = .ok (.iastore, 1)) (hi : i < 8) (kk : XAt (xw O) (oD O) K nL (pc + 1) ll st (sA μ 22 (un (μ.2 22) i v))) : XAt (xw O) (oD O) K nL pc ll (.int (nI v) :: .int (nI i) :: .ref (oa O 22) :: st) μ :=
  fun H locs ls hP hD hS hl => va_iast C.x C.b C.k hP hD hS 13 0 rfl rfl (vp_in_nI hi (by decide)) d (fun H1 locs1 hP1 hD1 hS1 => by
    rw [nI_clamp (by omega), upd_un, pe_raise] at hP1 hD1
    exact kk H1 locs1 ls hP1 hD1 hS1 hl)
theorem pg_lower (C : XOk (oD O) (xT O) K cc nL RX0 rm) (d : decode cc pc = .ok (.getfield 50, 3)) (kk : XAt (xw O) (oD O) K nL (pc + 3) ll (.ref (oa O 23) :: st) μ) : XAt (xw O) (oD O) K nL pc ll (.ref (oh O) :: st) μ :=
  fun H locs ls hP hD hS hl => va_get (D := oD O) (ci := 0) (C := RX0) (T := TX0) (N := 24) C.x C.b C.ts in_X0 C.o C.k hP 0 rfl rfl 23 (by decide) (C.ts _ q61) (fun _ h9 => h9) rfl d (kk H locs ls hP hD hS hl)
theorem pl_lower (C : XOk (oD O) (xT O) K cc nL own rm) {i : Nat} (d : decode cc pc = .ok (.iaload, 1)) (hi : i < 8) (kk : XAt (xw O) (oD O) K nL (pc + 1) ll (.int (nI (μ.2 23 i)) :: st) μ) : XAt (xw O) (oD O) K nL pc ll (.int (nI i) :: .ref (oa O 23) :: st) μ :=
  fun H locs ls hP hD hS hl => va_iald C.x C.b C.k hP 14 0 rfl rfl (vp_in_nI hi (by decide)) d (by rw [nI_clamp (by omega)]; exact kk H locs ls hP hD hS hl)
theorem pe_lower (f : Nat → Nat) : (xw O μ).set 14 (oa O 23, .inl (oI O, 8, .inl (fun i => nI (f i)))) = xw O (sA μ 23 f) := rfl
theorem ps_lower (C : XOk (oD O) (xT O) K cc nL own rm) {i v : Nat} (d : decode cc pc = .ok (.iastore, 1)) (hi : i < 8) (kk : XAt (xw O) (oD O) K nL (pc + 1) ll st (sA μ 23 (un (μ.2 23) i v))) : XAt (xw O) (oD O) K nL pc ll (.int (nI v) :: .int (nI i) :: .ref (oa O 23) :: st) μ :=
  fun H locs ls hP hD hS hl => va_iast C.x C.b C.k hP hD hS 14 0 rfl rfl (vp_in_nI hi (by decide)) d (fun H1 locs1 hP1 hD1 hS1 => by
    rw [nI_clamp (by omega), upd_un, pe_lower] at hP1 hD1
    exact kk H1 locs1 ls hP1 hD1 hS1 hl)
-- METHOD init <init> ()V maxL 1 ret none
-- METHOD require require (III)I maxL 4 ret (some .int)
theorem clp_require : CW "ActionPlannerLaw" 13 yX0_require cX0_require 4 (some .int) 3 := ⟨lw_V q113 q114 q115 q28 q116, rfl, by decide +kernel⟩
-- METHOD effect effect (IIII)I maxL 5 ret (some .int)
theorem clp_effect : CW "ActionPlannerLaw" 18 yX0_effect cX0_effect 5 (some .int) 4 := ⟨lw_V q117 q118 q119 q28 q120, rfl, by decide +kernel⟩
-- METHOD isGiven isGiven (I)Z maxL 2 ret (some .boolean)
theorem cwp_isGiven : CW RX0 57 yX0_isGiven cX0_isGiven 2 (some .boolean) 1 := ⟨lw_V q121 q123 qs0 q28 q124, rfl, by decide +kernel⟩
-- METHOD forget forget (I)I maxL 2 ret (some .int)
theorem clp_forget : CW "ActionPlannerLaw" 23 yX0_forget cX0_forget 2 (some .int) 1 := ⟨lw_V q125 q126 q127 q28 q128, rfl, by decide +kernel⟩
-- METHOD want want (II)V maxL 3 ret none
theorem clp_want : CW "ActionPlannerLaw" 28 yX0_want cX0_want 3 none 2 := ⟨lw_V q129 q130 q131 q28 q132, rfl, by decide +kernel⟩
-- METHOD observe observe (I)V maxL 3 ret none
theorem clp_observe : CW "ActionPlannerLaw" 33 yX0_observe cX0_observe 3 none 1 := ⟨lw_V q133 q134 q135 q28 q136, rfl, by decide +kernel⟩
-- METHOD now now ()I maxL 1 ret (some .int)
theorem clp_now : CW "ActionPlannerLaw" 38 yX0_now cX0_now 1 (some .int) 0 := ⟨lw_V q137 q138 q139 q28 q140, rfl, by decide +kernel⟩
-- METHOD price price ()I maxL 1 ret (some .int)
theorem clp_price : CW "ActionPlannerLaw" 43 yX0_price cX0_price 1 (some .int) 0 := ⟨lw_V q141 q142 q143 q28 q144, rfl, by decide +kernel⟩
-- METHOD makePlan makePlan ()V maxL 2 ret none
theorem cwp_makePlan : CW RX0 71 yX0_makePlan cX0_makePlan 2 none 0 := ⟨lw_V q145 q147 qs1 q28 q148, rfl, by decide +kernel⟩
-- METHOD findCheapest findCheapest ()V maxL 5 ret none
theorem cwp_findCheapest : CW RX0 97 yX0_findCheapest cX0_findCheapest 5 none 0 := ⟨lw_V q149 q151 qs2 q28 q152, rfl, by decide +kernel⟩
-- METHOD searchForward searchForward ()I maxL 5 ret (some .int)
theorem cwp_searchForward : CW RX0 100 yX0_searchForward cX0_searchForward 5 (some .int) 0 := ⟨lw_V q154 q156 qs3 q28 q157, rfl, by decide +kernel⟩
-- METHOD reach reach (II)V maxL 3 ret none
theorem cwp_reach : CW RX0 118 yX0_reach cX0_reach 3 none 2 := ⟨lw_V q158 q160 qs4 q28 q161, rfl, by decide +kernel⟩
-- METHOD rise rise (I)V maxL 9 ret none
theorem cwp_rise : CW RX0 135 yX0_rise cX0_rise 9 none 1 := ⟨lw_V q162 q164 qs5 q28 q165, rfl, by decide +kernel⟩
-- METHOD keyOf keyOf (I)I maxL 2 ret (some .int)
theorem cwp_keyOf : CW RX0 138 yX0_keyOf cX0_keyOf 2 (some .int) 1 := ⟨lw_V q166 q168 qs6 q28 q169, rfl, by decide +kernel⟩
-- METHOD bound bound (I)I maxL 5 ret (some .int)
theorem cwp_bound : CW RX0 125 yX0_bound cX0_bound 5 (some .int) 1 := ⟨lw_V q170 q172 qs7 q28 q173, rfl, by decide +kernel⟩
-- METHOD setHeap setHeap (II)V maxL 3 ret none
theorem cwp_setHeap : CW RX0 141 yX0_setHeap cX0_setHeap 3 none 2 := ⟨lw_V q174 q176 qs8 q28 q177, rfl, by decide +kernel⟩
-- METHOD takeLeast takeLeast ()I maxL 2 ret (some .int)
theorem cwp_takeLeast : CW RX0 122 yX0_takeLeast cX0_takeLeast 2 (some .int) 0 := ⟨lw_V q178 q180 qs9 q28 q181, rfl, by decide +kernel⟩
-- METHOD sink sink (I)V maxL 8 ret none
theorem cwp_sink : CW RX0 144 yX0_sink cX0_sink 8 none 1 := ⟨lw_V q182 q184 qs10 q28 q185, rfl, by decide +kernel⟩
-- METHOD lesserChild lesserChild (I)I maxL 6 ret (some .int)
theorem cwp_lesserChild : CW RX0 147 yX0_lesserChild cX0_lesserChild 6 (some .int) 1 := ⟨lw_V q186 q188 qs11 q28 q189, rfl, by decide +kernel⟩
-- METHOD isGoal isGoal (I)Z maxL 2 ret (some .boolean)
theorem cwp_isGoal : CW RX0 129 yX0_isGoal cX0_isGoal 2 (some .boolean) 1 := ⟨lw_V q190 q192 qs12 q28 q193, rfl, by decide +kernel⟩
-- METHOD spread spread (I)V maxL 4 ret none
theorem cwp_spread : CW RX0 132 yX0_spread cX0_spread 4 none 1 := ⟨lw_V q194 q196 qs13 q28 q197, rfl, by decide +kernel⟩
-- METHOD canDo canDo (II)Z maxL 3 ret (some .boolean)
theorem cwp_canDo : CW RX0 89 yX0_canDo cX0_canDo 3 (some .boolean) 2 := ⟨lw_V q198 q200 qs14 q28 q201, rfl, by decide +kernel⟩
-- METHOD after after (II)I maxL 3 ret (some .int)
theorem cwp_after : CW RX0 93 yX0_after cX0_after 3 (some .int) 2 := ⟨lw_V q202 q204 qs15 q28 q205, rfl, by decide +kernel⟩
-- METHOD markBest markBest (I)V maxL 6 ret none
theorem cwp_markBest : CW RX0 105 yX0_markBest cX0_markBest 6 none 1 := ⟨lw_V q206 q208 qs16 q28 q209, rfl, by decide +kernel⟩
-- METHOD bestAction bestAction (I)I maxL 4 ret (some .int)
theorem cwp_bestAction : CW RX0 150 yX0_bestAction cX0_bestAction 4 (some .int) 1 := ⟨lw_V q210 q212 qs17 q28 q213, rfl, by decide +kernel⟩
-- METHOD choosePlan choosePlan (I)V maxL 5 ret none
theorem cwp_choosePlan : CW RX0 109 yX0_choosePlan cX0_choosePlan 5 none 1 := ⟨lw_V q214 q216 qs18 q28 q217, rfl, by decide +kernel⟩
-- METHOD steps steps ()I maxL 1 ret (some .int)
theorem clp_steps : CW "ActionPlannerLaw" 47 yX0_steps cX0_steps 1 (some .int) 0 := ⟨lw_V q218 q219 q220 q28 q221, rfl, by decide +kernel⟩
-- METHOD planned planned (I)I maxL 2 ret (some .int)
theorem clp_planned : CW "ActionPlannerLaw" 51 yX0_planned cX0_planned 2 (some .int) 1 := ⟨lw_V q222 q223 q224 q28 q225, rfl, by decide +kernel⟩
-- METHOD advance advance ()I maxL 2 ret (some .int)
theorem clp_advance : CW "ActionPlannerLaw" 55 yX0_advance cX0_advance 2 (some .int) 0 := ⟨lw_V q226 q227 q228 q28 q229, rfl, by decide +kernel⟩
-- METHOD followPlan followPlan ()V maxL 2 ret none
theorem cwp_followPlan : CW RX0 86 yX0_followPlan cX0_followPlan 2 none 0 := ⟨lw_V q230 q232 qs19 q28 q233, rfl, by decide +kernel⟩
-- METHOD act act (I)I maxL 3 ret (some .int)
theorem clp_act : CW "ActionPlannerLaw" 59 yX0_act cX0_act 3 (some .int) 1 := ⟨lw_V q234 q235 q236 q28 q237, rfl, by decide +kernel⟩
-- METHOD reachable reachable ()I maxL 5 ret (some .int)
theorem clp_reachable : CW "ActionPlannerLaw" 63 yX0_reachable cX0_reachable 5 (some .int) 0 := ⟨lw_V q238 q239 q240 q28 q241, rfl, by decide +kernel⟩
end RP
end
section
def yf (O : XO) (μ : XS) : List Value := [.int (nI (μ.1 0)), .int (nI (μ.1 1)), .int (nI (μ.1 2)), .ref (oa O 3), .ref (oa O 4), .ref (oa O 5), .ref (oa O 6), .ref (oa O 7), .ref (oa O 8), .ref (oa O 9), .ref (oa O 10)]
def yw (O : XO) (μ : XS) : va_W := [(oh O, .inr (1, yf O μ)), (oa O 3, .inl (oZ O, 10, .inl (fun i => nI (μ.2 3 i)))), (oa O 4, .inl (oI O, 10, .inl (fun i => nI (μ.2 4 i)))), (oa O 5, .inl (oI O, 10, .inl (fun i => nI (μ.2 5 i)))), (oa O 6, .inl (oI O, 10, .inl (fun i => nI (μ.2 6 i)))), (oa O 7, .inl (oI O, 10, .inl (fun i => nI (μ.2 7 i)))), (oa O 8, .inl (oI O, 10, .inl (fun i => nI (μ.2 8 i)))), (oa O 9, .inl (oI O, 256, .inl (fun i => nI (μ.2 9 i)))), (oa O 10, .inl (oZ O, 256, .inl (fun i => nI (μ.2 10 i))))]
section RM
variable {O : XO} {K : XK} {cc : ByteArray} {nL : Nat} {own : String} {rm : Room} {pc : Nat} {ll : List (Option Value)} {st : List Value} {μ : XS}
theorem mg_now (C : XOk (oD O) (xT O) K cc nL RX1 rm) (d : decode cc pc = .ok (.getfield 46, 3)) (kk : XAt (yw O) (oD O) K nL (pc + 3) ll (.int (nI (μ.1 0)) :: st) μ) : XAt (yw O) (oD O) K nL pc ll (.ref (oh O) :: st) μ :=
  fun H locs ls hP hD hS hl => va_get (D := oD O) (ci := 1) (C := RX1) (T := TX1) (N := 11) C.x C.b C.ts in_X1 C.o C.k hP 0 rfl rfl 0 (by decide) (C.ts _ q248) (fun _ h9 => h9) rfl d (kk H locs ls hP hD hS hl)
theorem me_now (v : Nat) : (yw O μ).set 0 (oh O, .inr (1, (yf O μ).set 0 (.int (nI v)))) = yw O (sS μ 0 v) := rfl
theorem mp_now (C : XOk (oD O) (xT O) K cc nL RX1 rm) {v : Nat} (d : decode cc pc = .ok (.putfield 46, 3)) (kk : XAt (yw O) (oD O) K nL (pc + 3) ll st (sS μ 0 v)) : XAt (yw O) (oD O) K nL pc ll (.int (nI v) :: .ref (oh O) :: st) μ :=
  fun H locs ls hP hD hS hl => va_put (D := oD O) (ci := 1) (v := .int (nI v)) (ty := .int) (fs := yf O μ) (C := RX1) (T := TX1) (N := 11) C.x C.b C.ts in_X1 tyX1 tyX1_ok nmX1 C.o C.k hP hD hS 0 rfl rfl 0 (by decide) (C.ts _ q248) (fun _ h9 => h9) rfl (by decide +kernel) rfl rfl (Nat.le_of_ble_eq_true rfl) d (fun H1 locs1 hP1 hD1 hS1 => kk H1 locs1 ls hP1 hD1 hS1 hl)
theorem mg_wantTrue (C : XOk (oD O) (xT O) K cc nL RX1 rm) (d : decode cc pc = .ok (.getfield 39, 3)) (kk : XAt (yw O) (oD O) K nL (pc + 3) ll (.int (nI (μ.1 1)) :: st) μ) : XAt (yw O) (oD O) K nL pc ll (.ref (oh O) :: st) μ :=
  fun H locs ls hP hD hS hl => va_get (D := oD O) (ci := 1) (C := RX1) (T := TX1) (N := 11) C.x C.b C.ts in_X1 C.o C.k hP 0 rfl rfl 1 (by decide) (C.ts _ q249) (fun _ h9 => h9) rfl d (kk H locs ls hP hD hS hl)
theorem me_wantTrue (v : Nat) : (yw O μ).set 0 (oh O, .inr (1, (yf O μ).set 1 (.int (nI v)))) = yw O (sS μ 1 v) := rfl
theorem mp_wantTrue (C : XOk (oD O) (xT O) K cc nL RX1 rm) {v : Nat} (d : decode cc pc = .ok (.putfield 39, 3)) (kk : XAt (yw O) (oD O) K nL (pc + 3) ll st (sS μ 1 v)) : XAt (yw O) (oD O) K nL pc ll (.int (nI v) :: .ref (oh O) :: st) μ :=
  fun H locs ls hP hD hS hl => va_put (D := oD O) (ci := 1) (v := .int (nI v)) (ty := .int) (fs := yf O μ) (C := RX1) (T := TX1) (N := 11) C.x C.b C.ts in_X1 tyX1 tyX1_ok nmX1 C.o C.k hP hD hS 0 rfl rfl 1 (by decide) (C.ts _ q249) (fun _ h9 => h9) rfl (by decide +kernel) rfl rfl (Nat.le_of_ble_eq_true rfl) d (fun H1 locs1 hP1 hD1 hS1 => kk H1 locs1 ls hP1 hD1 hS1 hl)
theorem mg_wantFalse (C : XOk (oD O) (xT O) K cc nL RX1 rm) (d : decode cc pc = .ok (.getfield 43, 3)) (kk : XAt (yw O) (oD O) K nL (pc + 3) ll (.int (nI (μ.1 2)) :: st) μ) : XAt (yw O) (oD O) K nL pc ll (.ref (oh O) :: st) μ :=
  fun H locs ls hP hD hS hl => va_get (D := oD O) (ci := 1) (C := RX1) (T := TX1) (N := 11) C.x C.b C.ts in_X1 C.o C.k hP 0 rfl rfl 2 (by decide) (C.ts _ q250) (fun _ h9 => h9) rfl d (kk H locs ls hP hD hS hl)
theorem me_wantFalse (v : Nat) : (yw O μ).set 0 (oh O, .inr (1, (yf O μ).set 2 (.int (nI v)))) = yw O (sS μ 2 v) := rfl
theorem mp_wantFalse (C : XOk (oD O) (xT O) K cc nL RX1 rm) {v : Nat} (d : decode cc pc = .ok (.putfield 43, 3)) (kk : XAt (yw O) (oD O) K nL (pc + 3) ll st (sS μ 2 v)) : XAt (yw O) (oD O) K nL pc ll (.int (nI v) :: .ref (oh O) :: st) μ :=
  fun H locs ls hP hD hS hl => va_put (D := oD O) (ci := 1) (v := .int (nI v)) (ty := .int) (fs := yf O μ) (C := RX1) (T := TX1) (N := 11) C.x C.b C.ts in_X1 tyX1 tyX1_ok nmX1 C.o C.k hP hD hS 0 rfl rfl 2 (by decide) (C.ts _ q250) (fun _ h9 => h9) rfl (by decide +kernel) rfl rfl (Nat.le_of_ble_eq_true rfl) d (fun H1 locs1 hP1 hD1 hS1 => kk H1 locs1 ls hP1 hD1 hS1 hl)
theorem mg_given (C : XOk (oD O) (xT O) K cc nL RX1 rm) (d : decode cc pc = .ok (.getfield 7, 3)) (kk : XAt (yw O) (oD O) K nL (pc + 3) ll (.ref (oa O 3) :: st) μ) : XAt (yw O) (oD O) K nL pc ll (.ref (oh O) :: st) μ :=
  fun H locs ls hP hD hS hl => va_get (D := oD O) (ci := 1) (C := RX1) (T := TX1) (N := 11) C.x C.b C.ts in_X1 C.o C.k hP 0 rfl rfl 3 (by decide) (C.ts _ q251) (fun _ h9 => h9) rfl d (kk H locs ls hP hD hS hl)
theorem ml_given (C : XOk (oD O) (xT O) K cc nL own rm) {i : Nat} (d : decode cc pc = .ok (.baload, 1)) (hi : i < 10) (kk : XAt (yw O) (oD O) K nL (pc + 1) ll (.int (nI (μ.2 3 i)) :: st) μ) : XAt (yw O) (oD O) K nL pc ll (.int (nI i) :: .ref (oa O 3) :: st) μ :=
  fun H locs ls hP hD hS hl => va_zald C.x C.b C.k hP 1 1 rfl rfl (vp_in_nI hi (by decide)) d (by rw [nI_clamp (by omega)]; exact kk H locs ls hP hD hS hl)
theorem me_given (f : Nat → Nat) : (yw O μ).set 1 (oa O 3, .inl (oZ O, 10, .inl (fun i => nI (f i)))) = yw O (sA μ 3 f) := rfl
theorem ms_given (C : XOk (oD O) (xT O) K cc nL own rm) {i v : Nat} (d : decode cc pc = .ok (.bastore, 1)) (hi : i < 10) (hv : v ≤ 1) (kk : XAt (yw O) (oD O) K nL (pc + 1) ll st (sA μ 3 (un (μ.2 3) i v))) : XAt (yw O) (oD O) K nL pc ll (.int (nI v) :: .int (nI i) :: .ref (oa O 3) :: st) μ :=
  fun H locs ls hP hD hS hl => va_zast C.x C.b C.k hP hD hS 1 1 rfl rfl (vp_in_nI hi (by decide)) d (fun H1 locs1 hP1 hD1 hS1 => by
    rw [nI_clamp (by omega), (nar_b hv).2.2, upd_un, me_given] at hP1 hD1
    exact kk H1 locs1 ls hP1 hD1 hS1 hl)
theorem mg_needs (C : XOk (oD O) (xT O) K cc nL RX1 rm) (d : decode cc pc = .ok (.getfield 13, 3)) (kk : XAt (yw O) (oD O) K nL (pc + 3) ll (.ref (oa O 4) :: st) μ) : XAt (yw O) (oD O) K nL pc ll (.ref (oh O) :: st) μ :=
  fun H locs ls hP hD hS hl => va_get (D := oD O) (ci := 1) (C := RX1) (T := TX1) (N := 11) C.x C.b C.ts in_X1 C.o C.k hP 0 rfl rfl 4 (by decide) (C.ts _ q252) (fun _ h9 => h9) rfl d (kk H locs ls hP hD hS hl)
theorem ml_needs (C : XOk (oD O) (xT O) K cc nL own rm) {i : Nat} (d : decode cc pc = .ok (.iaload, 1)) (hi : i < 10) (kk : XAt (yw O) (oD O) K nL (pc + 1) ll (.int (nI (μ.2 4 i)) :: st) μ) : XAt (yw O) (oD O) K nL pc ll (.int (nI i) :: .ref (oa O 4) :: st) μ :=
  fun H locs ls hP hD hS hl => va_iald C.x C.b C.k hP 2 0 rfl rfl (vp_in_nI hi (by decide)) d (by rw [nI_clamp (by omega)]; exact kk H locs ls hP hD hS hl)
theorem me_needs (f : Nat → Nat) : (yw O μ).set 2 (oa O 4, .inl (oI O, 10, .inl (fun i => nI (f i)))) = yw O (sA μ 4 f) := rfl
theorem ms_needs (C : XOk (oD O) (xT O) K cc nL own rm) {i v : Nat} (d : decode cc pc = .ok (.iastore, 1)) (hi : i < 10) (kk : XAt (yw O) (oD O) K nL (pc + 1) ll st (sA μ 4 (un (μ.2 4) i v))) : XAt (yw O) (oD O) K nL pc ll (.int (nI v) :: .int (nI i) :: .ref (oa O 4) :: st) μ :=
  fun H locs ls hP hD hS hl => va_iast C.x C.b C.k hP hD hS 2 0 rfl rfl (vp_in_nI hi (by decide)) d (fun H1 locs1 hP1 hD1 hS1 => by
    rw [nI_clamp (by omega), upd_un, me_needs] at hP1 hD1
    exact kk H1 locs1 ls hP1 hD1 hS1 hl)
theorem mg_bars (C : XOk (oD O) (xT O) K cc nL RX1 rm) (d : decode cc pc = .ok (.getfield 17, 3)) (kk : XAt (yw O) (oD O) K nL (pc + 3) ll (.ref (oa O 5) :: st) μ) : XAt (yw O) (oD O) K nL pc ll (.ref (oh O) :: st) μ :=
  fun H locs ls hP hD hS hl => va_get (D := oD O) (ci := 1) (C := RX1) (T := TX1) (N := 11) C.x C.b C.ts in_X1 C.o C.k hP 0 rfl rfl 5 (by decide) (C.ts _ q253) (fun _ h9 => h9) rfl d (kk H locs ls hP hD hS hl)
theorem ml_bars (C : XOk (oD O) (xT O) K cc nL own rm) {i : Nat} (d : decode cc pc = .ok (.iaload, 1)) (hi : i < 10) (kk : XAt (yw O) (oD O) K nL (pc + 1) ll (.int (nI (μ.2 5 i)) :: st) μ) : XAt (yw O) (oD O) K nL pc ll (.int (nI i) :: .ref (oa O 5) :: st) μ :=
  fun H locs ls hP hD hS hl => va_iald C.x C.b C.k hP 3 0 rfl rfl (vp_in_nI hi (by decide)) d (by rw [nI_clamp (by omega)]; exact kk H locs ls hP hD hS hl)
theorem me_bars (f : Nat → Nat) : (yw O μ).set 3 (oa O 5, .inl (oI O, 10, .inl (fun i => nI (f i)))) = yw O (sA μ 5 f) := rfl
theorem ms_bars (C : XOk (oD O) (xT O) K cc nL own rm) {i v : Nat} (d : decode cc pc = .ok (.iastore, 1)) (hi : i < 10) (kk : XAt (yw O) (oD O) K nL (pc + 1) ll st (sA μ 5 (un (μ.2 5) i v))) : XAt (yw O) (oD O) K nL pc ll (.int (nI v) :: .int (nI i) :: .ref (oa O 5) :: st) μ :=
  fun H locs ls hP hD hS hl => va_iast C.x C.b C.k hP hD hS 3 0 rfl rfl (vp_in_nI hi (by decide)) d (fun H1 locs1 hP1 hD1 hS1 => by
    rw [nI_clamp (by omega), upd_un, me_bars] at hP1 hD1
    exact kk H1 locs1 ls hP1 hD1 hS1 hl)
theorem mg_adds (C : XOk (oD O) (xT O) K cc nL RX1 rm) (d : decode cc pc = .ok (.getfield 20, 3)) (kk : XAt (yw O) (oD O) K nL (pc + 3) ll (.ref (oa O 6) :: st) μ) : XAt (yw O) (oD O) K nL pc ll (.ref (oh O) :: st) μ :=
  fun H locs ls hP hD hS hl => va_get (D := oD O) (ci := 1) (C := RX1) (T := TX1) (N := 11) C.x C.b C.ts in_X1 C.o C.k hP 0 rfl rfl 6 (by decide) (C.ts _ q254) (fun _ h9 => h9) rfl d (kk H locs ls hP hD hS hl)
theorem ml_adds (C : XOk (oD O) (xT O) K cc nL own rm) {i : Nat} (d : decode cc pc = .ok (.iaload, 1)) (hi : i < 10) (kk : XAt (yw O) (oD O) K nL (pc + 1) ll (.int (nI (μ.2 6 i)) :: st) μ) : XAt (yw O) (oD O) K nL pc ll (.int (nI i) :: .ref (oa O 6) :: st) μ :=
  fun H locs ls hP hD hS hl => va_iald C.x C.b C.k hP 4 0 rfl rfl (vp_in_nI hi (by decide)) d (by rw [nI_clamp (by omega)]; exact kk H locs ls hP hD hS hl)
theorem me_adds (f : Nat → Nat) : (yw O μ).set 4 (oa O 6, .inl (oI O, 10, .inl (fun i => nI (f i)))) = yw O (sA μ 6 f) := rfl
theorem ms_adds (C : XOk (oD O) (xT O) K cc nL own rm) {i v : Nat} (d : decode cc pc = .ok (.iastore, 1)) (hi : i < 10) (kk : XAt (yw O) (oD O) K nL (pc + 1) ll st (sA μ 6 (un (μ.2 6) i v))) : XAt (yw O) (oD O) K nL pc ll (.int (nI v) :: .int (nI i) :: .ref (oa O 6) :: st) μ :=
  fun H locs ls hP hD hS hl => va_iast C.x C.b C.k hP hD hS 4 0 rfl rfl (vp_in_nI hi (by decide)) d (fun H1 locs1 hP1 hD1 hS1 => by
    rw [nI_clamp (by omega), upd_un, me_adds] at hP1 hD1
    exact kk H1 locs1 ls hP1 hD1 hS1 hl)
theorem mg_drops (C : XOk (oD O) (xT O) K cc nL RX1 rm) (d : decode cc pc = .ok (.getfield 23, 3)) (kk : XAt (yw O) (oD O) K nL (pc + 3) ll (.ref (oa O 7) :: st) μ) : XAt (yw O) (oD O) K nL pc ll (.ref (oh O) :: st) μ :=
  fun H locs ls hP hD hS hl => va_get (D := oD O) (ci := 1) (C := RX1) (T := TX1) (N := 11) C.x C.b C.ts in_X1 C.o C.k hP 0 rfl rfl 7 (by decide) (C.ts _ q255) (fun _ h9 => h9) rfl d (kk H locs ls hP hD hS hl)
theorem ml_drops (C : XOk (oD O) (xT O) K cc nL own rm) {i : Nat} (d : decode cc pc = .ok (.iaload, 1)) (hi : i < 10) (kk : XAt (yw O) (oD O) K nL (pc + 1) ll (.int (nI (μ.2 7 i)) :: st) μ) : XAt (yw O) (oD O) K nL pc ll (.int (nI i) :: .ref (oa O 7) :: st) μ :=
  fun H locs ls hP hD hS hl => va_iald C.x C.b C.k hP 5 0 rfl rfl (vp_in_nI hi (by decide)) d (by rw [nI_clamp (by omega)]; exact kk H locs ls hP hD hS hl)
theorem me_drops (f : Nat → Nat) : (yw O μ).set 5 (oa O 7, .inl (oI O, 10, .inl (fun i => nI (f i)))) = yw O (sA μ 7 f) := rfl
theorem ms_drops (C : XOk (oD O) (xT O) K cc nL own rm) {i v : Nat} (d : decode cc pc = .ok (.iastore, 1)) (hi : i < 10) (kk : XAt (yw O) (oD O) K nL (pc + 1) ll st (sA μ 7 (un (μ.2 7) i v))) : XAt (yw O) (oD O) K nL pc ll (.int (nI v) :: .int (nI i) :: .ref (oa O 7) :: st) μ :=
  fun H locs ls hP hD hS hl => va_iast C.x C.b C.k hP hD hS 5 0 rfl rfl (vp_in_nI hi (by decide)) d (fun H1 locs1 hP1 hD1 hS1 => by
    rw [nI_clamp (by omega), upd_un, me_drops] at hP1 hD1
    exact kk H1 locs1 ls hP1 hD1 hS1 hl)
theorem mg_cost (C : XOk (oD O) (xT O) K cc nL RX1 rm) (d : decode cc pc = .ok (.getfield 26, 3)) (kk : XAt (yw O) (oD O) K nL (pc + 3) ll (.ref (oa O 8) :: st) μ) : XAt (yw O) (oD O) K nL pc ll (.ref (oh O) :: st) μ :=
  fun H locs ls hP hD hS hl => va_get (D := oD O) (ci := 1) (C := RX1) (T := TX1) (N := 11) C.x C.b C.ts in_X1 C.o C.k hP 0 rfl rfl 8 (by decide) (C.ts _ q256) (fun _ h9 => h9) rfl d (kk H locs ls hP hD hS hl)
theorem ml_cost (C : XOk (oD O) (xT O) K cc nL own rm) {i : Nat} (d : decode cc pc = .ok (.iaload, 1)) (hi : i < 10) (kk : XAt (yw O) (oD O) K nL (pc + 1) ll (.int (nI (μ.2 8 i)) :: st) μ) : XAt (yw O) (oD O) K nL pc ll (.int (nI i) :: .ref (oa O 8) :: st) μ :=
  fun H locs ls hP hD hS hl => va_iald C.x C.b C.k hP 6 0 rfl rfl (vp_in_nI hi (by decide)) d (by rw [nI_clamp (by omega)]; exact kk H locs ls hP hD hS hl)
theorem me_cost (f : Nat → Nat) : (yw O μ).set 6 (oa O 8, .inl (oI O, 10, .inl (fun i => nI (f i)))) = yw O (sA μ 8 f) := rfl
theorem ms_cost (C : XOk (oD O) (xT O) K cc nL own rm) {i v : Nat} (d : decode cc pc = .ok (.iastore, 1)) (hi : i < 10) (kk : XAt (yw O) (oD O) K nL (pc + 1) ll st (sA μ 8 (un (μ.2 8) i v))) : XAt (yw O) (oD O) K nL pc ll (.int (nI v) :: .int (nI i) :: .ref (oa O 8) :: st) μ :=
  fun H locs ls hP hD hS hl => va_iast C.x C.b C.k hP hD hS 6 0 rfl rfl (vp_in_nI hi (by decide)) d (fun H1 locs1 hP1 hD1 hS1 => by
    rw [nI_clamp (by omega), upd_un, me_cost] at hP1 hD1
    exact kk H1 locs1 ls hP1 hD1 hS1 hl)
theorem mg_least (C : XOk (oD O) (xT O) K cc nL RX1 rm) (d : decode cc pc = .ok (.getfield 29, 3)) (kk : XAt (yw O) (oD O) K nL (pc + 3) ll (.ref (oa O 9) :: st) μ) : XAt (yw O) (oD O) K nL pc ll (.ref (oh O) :: st) μ :=
  fun H locs ls hP hD hS hl => va_get (D := oD O) (ci := 1) (C := RX1) (T := TX1) (N := 11) C.x C.b C.ts in_X1 C.o C.k hP 0 rfl rfl 9 (by decide) (C.ts _ q257) (fun _ h9 => h9) rfl d (kk H locs ls hP hD hS hl)
theorem ml_least (C : XOk (oD O) (xT O) K cc nL own rm) {i : Nat} (d : decode cc pc = .ok (.iaload, 1)) (hi : i < 256) (kk : XAt (yw O) (oD O) K nL (pc + 1) ll (.int (nI (μ.2 9 i)) :: st) μ) : XAt (yw O) (oD O) K nL pc ll (.int (nI i) :: .ref (oa O 9) :: st) μ :=
  fun H locs ls hP hD hS hl => va_iald C.x C.b C.k hP 7 0 rfl rfl (vp_in_nI hi (by decide)) d (by rw [nI_clamp (by omega)]; exact kk H locs ls hP hD hS hl)
theorem me_least (f : Nat → Nat) : (yw O μ).set 7 (oa O 9, .inl (oI O, 256, .inl (fun i => nI (f i)))) = yw O (sA μ 9 f) := rfl
theorem ms_least (C : XOk (oD O) (xT O) K cc nL own rm) {i v : Nat} (d : decode cc pc = .ok (.iastore, 1)) (hi : i < 256) (kk : XAt (yw O) (oD O) K nL (pc + 1) ll st (sA μ 9 (un (μ.2 9) i v))) : XAt (yw O) (oD O) K nL pc ll (.int (nI v) :: .int (nI i) :: .ref (oa O 9) :: st) μ :=
  fun H locs ls hP hD hS hl => va_iast C.x C.b C.k hP hD hS 7 0 rfl rfl (vp_in_nI hi (by decide)) d (fun H1 locs1 hP1 hD1 hS1 => by
    rw [nI_clamp (by omega), upd_un, me_least] at hP1 hD1
    exact kk H1 locs1 ls hP1 hD1 hS1 hl)
theorem mg_reached (C : XOk (oD O) (xT O) K cc nL RX1 rm) (d : decode cc pc = .ok (.getfield 32, 3)) (kk : XAt (yw O) (oD O) K nL (pc + 3) ll (.ref (oa O 10) :: st) μ) : XAt (yw O) (oD O) K nL pc ll (.ref (oh O) :: st) μ :=
  fun H locs ls hP hD hS hl => va_get (D := oD O) (ci := 1) (C := RX1) (T := TX1) (N := 11) C.x C.b C.ts in_X1 C.o C.k hP 0 rfl rfl 10 (by decide) (C.ts _ q258) (fun _ h9 => h9) rfl d (kk H locs ls hP hD hS hl)
theorem ml_reached (C : XOk (oD O) (xT O) K cc nL own rm) {i : Nat} (d : decode cc pc = .ok (.baload, 1)) (hi : i < 256) (kk : XAt (yw O) (oD O) K nL (pc + 1) ll (.int (nI (μ.2 10 i)) :: st) μ) : XAt (yw O) (oD O) K nL pc ll (.int (nI i) :: .ref (oa O 10) :: st) μ :=
  fun H locs ls hP hD hS hl => va_zald C.x C.b C.k hP 8 1 rfl rfl (vp_in_nI hi (by decide)) d (by rw [nI_clamp (by omega)]; exact kk H locs ls hP hD hS hl)
theorem me_reached (f : Nat → Nat) : (yw O μ).set 8 (oa O 10, .inl (oZ O, 256, .inl (fun i => nI (f i)))) = yw O (sA μ 10 f) := rfl
theorem ms_reached (C : XOk (oD O) (xT O) K cc nL own rm) {i v : Nat} (d : decode cc pc = .ok (.bastore, 1)) (hi : i < 256) (hv : v ≤ 1) (kk : XAt (yw O) (oD O) K nL (pc + 1) ll st (sA μ 10 (un (μ.2 10) i v))) : XAt (yw O) (oD O) K nL pc ll (.int (nI v) :: .int (nI i) :: .ref (oa O 10) :: st) μ :=
  fun H locs ls hP hD hS hl => va_zast C.x C.b C.k hP hD hS 8 1 rfl rfl (vp_in_nI hi (by decide)) d (fun H1 locs1 hP1 hD1 hS1 => by
    rw [nI_clamp (by omega), (nar_b hv).2.2, upd_un, me_reached] at hP1 hD1
    exact kk H1 locs1 ls hP1 hD1 hS1 hl)
-- METHOD init <init> ()V maxL 1 ret none
-- METHOD require require (III)I maxL 4 ret (some .int)
theorem clm_require : CW "ActionPlannerLaw" 17 yX1_require cX1_require 4 (some .int) 3 := ⟨lw_V q282 q283 q284 q29 q285, rfl, by decide +kernel⟩
-- METHOD bad bad (I)Z maxL 1 ret (some .boolean)
theorem cwm_bad : GoodIn lw_all (va_wsS RX1 35 yX1_bad (ws_ yX1_bad cX1_bad 1 (some .boolean))) := lw_S q286 q287 q29 q288
-- METHOD effect effect (IIII)I maxL 5 ret (some .int)
theorem clm_effect : CW "ActionPlannerLaw" 22 yX1_effect cX1_effect 5 (some .int) 4 := ⟨lw_V q289 q290 q291 q29 q292, rfl, by decide +kernel⟩
-- METHOD forget forget (I)I maxL 2 ret (some .int)
theorem clm_forget : CW "ActionPlannerLaw" 27 yX1_forget cX1_forget 2 (some .int) 1 := ⟨lw_V q293 q294 q295 q29 q296, rfl, by decide +kernel⟩
-- METHOD want want (II)V maxL 3 ret none
theorem clm_want : CW "ActionPlannerLaw" 32 yX1_want cX1_want 3 none 2 := ⟨lw_V q297 q298 q299 q29 q300, rfl, by decide +kernel⟩
-- METHOD observe observe (I)V maxL 2 ret none
theorem clm_observe : CW "ActionPlannerLaw" 37 yX1_observe cX1_observe 2 none 1 := ⟨lw_V q301 q302 q303 q29 q304, rfl, by decide +kernel⟩
-- METHOD now now ()I maxL 1 ret (some .int)
theorem clm_now : CW "ActionPlannerLaw" 42 yX1_now cX1_now 1 (some .int) 0 := ⟨lw_V q305 q306 q307 q29 q308, rfl, by decide +kernel⟩
-- METHOD price price ()I maxL 1 ret (some .int)
theorem clm_price : CW "ActionPlannerLaw" 46 yX1_price cX1_price 1 (some .int) 0 := ⟨lw_V q309 q310 q311 q29 q312, rfl, by decide +kernel⟩
-- METHOD work work ()V maxL 4 ret none
theorem cwm_work : CW RX1 64 yX1_work cX1_work 4 none 0 := ⟨lw_V q313 q315 qs20 q29 q316, rfl, by decide +kernel⟩
-- METHOD wanted wanted (I)Z maxL 2 ret (some .boolean)
theorem cwm_wanted : CW RX1 57 yX1_wanted cX1_wanted 2 (some .boolean) 1 := ⟨lw_V q317 q319 qs21 q29 q320, rfl, by decide +kernel⟩
-- METHOD lower lower (I)Z maxL 6 ret (some .boolean)
theorem cwm_lower : CW RX1 61 yX1_lower cX1_lower 6 (some .boolean) 1 := ⟨lw_V q322 q324 qs22 q29 q325, rfl, by decide +kernel⟩
-- METHOD after after (II)I maxL 3 ret (some .int)
theorem cwm_after : CW RX1 49 yX1_after cX1_after 3 (some .int) 2 := ⟨lw_V q326 q328 qs23 q29 q329, rfl, by decide +kernel⟩
-- METHOD canDo canDo (II)Z maxL 3 ret (some .boolean)
theorem cwm_canDo : CW RX1 53 yX1_canDo cX1_canDo 3 (some .boolean) 2 := ⟨lw_V q330 q332 qs24 q29 q333, rfl, by decide +kernel⟩
-- METHOD steps steps ()I maxL 4 ret (some .int)
theorem clm_steps : CW "ActionPlannerLaw" 50 yX1_steps cX1_steps 4 (some .int) 0 := ⟨lw_V q334 q335 q336 q29 q337, rfl, by decide +kernel⟩
-- METHOD first first (I)I maxL 4 ret (some .int)
theorem cwm_first : CW RX1 67 yX1_first cX1_first 4 (some .int) 1 := ⟨lw_V q338 q340 qs25 q29 q341, rfl, by decide +kernel⟩
-- METHOD planned planned (I)I maxL 5 ret (some .int)
theorem clm_planned : CW "ActionPlannerLaw" 54 yX1_planned cX1_planned 5 (some .int) 1 := ⟨lw_V q342 q343 q344 q29 q345, rfl, by decide +kernel⟩
-- METHOD advance advance ()I maxL 2 ret (some .int)
theorem clm_advance : CW "ActionPlannerLaw" 58 yX1_advance cX1_advance 2 (some .int) 0 := ⟨lw_V q346 q347 q348 q29 q349, rfl, by decide +kernel⟩
-- METHOD act act (I)I maxL 2 ret (some .int)
theorem clm_act : CW "ActionPlannerLaw" 62 yX1_act cX1_act 2 (some .int) 1 := ⟨lw_V q350 q351 q352 q29 q353, rfl, by decide +kernel⟩
-- METHOD reachable reachable ()I maxL 4 ret (some .int)
theorem clm_reachable : CW "ActionPlannerLaw" 66 yX1_reachable cX1_reachable 4 (some .int) 0 := ⟨lw_V q354 q355 q356 q29 q357, rfl, by decide +kernel⟩
-- METHOD spread spread (I)Z maxL 5 ret (some .boolean)
theorem cwm_spread : CW RX1 71 yX1_spread cX1_spread 5 (some .boolean) 1 := ⟨lw_V q358 q360 qs26 q29 q361, rfl, by decide +kernel⟩
end RM
end
section
/-! NUMBERS -/
theorem cat_of {As : List Value} (h : (As.all fun v => v.category == 1) = true) : ∀ v ∈ As, v.category = 1 := by
  intro v hv
  have := List.all_eq_true.mp h v hv
  simpa using this
theorem nI_and (a b : Nat) : nI a &&& nI b = nI (a &&& b) := by
  apply Int32.toBitVec_inj.mp
  show BitVec.ofNat 32 a &&& BitVec.ofNat 32 b = BitVec.ofNat 32 (a &&& b)
  apply BitVec.eq_of_toNat_eq
  simp only [BitVec.toNat_and, BitVec.toNat_ofNat]
  exact (Nat.and_mod_two_pow).symm
theorem nI_or (a b : Nat) : nI a ||| nI b = nI (a ||| b) := by
  apply Int32.toBitVec_inj.mp
  show BitVec.ofNat 32 a ||| BitVec.ofNat 32 b = BitVec.ofNat 32 (a ||| b)
  apply BitVec.eq_of_toNat_eq
  simp only [BitVec.toNat_or, BitVec.toNat_ofNat]
  exact (Nat.or_mod_two_pow).symm
theorem nI_xor (a b : Nat) : nI a ^^^ nI b = nI (a ^^^ b) := by
  apply Int32.toBitVec_inj.mp
  show BitVec.ofNat 32 a ^^^ BitVec.ofNat 32 b = BitVec.ofNat 32 (a ^^^ b)
  apply BitVec.eq_of_toNat_eq
  simp only [BitVec.toNat_xor, BitVec.toNat_ofNat]
  exact (Nat.xor_mod_two_pow).symm
theorem nI_xm1 (a : Nat) : nI a ^^^ (-1) = nI (a ^^^ 4294967295) := by
  rw [show (-1 : Int32) = nI 4294967295 by decide, nI_xor]
theorem bitFF : ∀ f, f < 8 → Nat.testBit 4294967295 f = true := by decide
theorem bit_hi {x : Nat} (h : x < 256) {f : Nat} (hf : 8 ≤ f) : x.testBit f = false := Nat.testBit_lt_two_pow (Nat.lt_of_lt_of_le h (Nat.pow_le_pow_right (n := 2) (by decide) hf))
theorem and_low {s d : Nat} (hs : s < 256) : s &&& (d ^^^ 4294967295) = s &&& (255 ^^^ d) := by
  apply Nat.eq_of_testBit_eq
  intro i
  rw [Nat.testBit_and, Nat.testBit_and, Nat.testBit_xor, Nat.testBit_xor]
  by_cases h : i < 8
  · rw [bitFF i h, bit255 i h]
    cases s.testBit i <;> cases d.testBit i <;> rfl
  · rw [bit_hi hs (by omega)]
    rfl
theorem nI_shl1 : ∀ {f : Nat}, f < 8 → nI 1 <<< (nI f &&& 31) = nI (2 ^ f) := by
  have : ∀ f : Fin 8, nI 1 <<< (nI f.val &&& 31) = nI (2 ^ f.val) := by decide
  intro f hf
  exact this ⟨f, hf⟩
theorem nI_ushr {x f : Nat} (hx : x < 256) (hf : f < 8) : ((nI x).toUInt32 >>> ((nI f).toUInt32 &&& Int32.toUInt32 31)).toInt32 = nI (x / 2 ^ f) := by
  have h8 : ∀ f : Fin 8, (((nI f.val).toUInt32 &&& Int32.toUInt32 31).toBitVec % 32).toNat = f.val := by decide
  exact pk_ushrN (by omega) (nI f) f (h8 ⟨f, hf⟩)
theorem and255 (x : Int32) : ∃ j : Nat, j < 256 ∧ x &&& 255 = nI j := by
  obtain ⟨j, hj, e⟩ := pk_andE x (m := 255) 8 (by decide)
  exact ⟨j, hj, e⟩
theorem b2n_le {c : Bool} : c.toNat ≤ 1 := by cases c <;> decide
/-- the problem as the planner has it -/
def pX (μ : XS) : PB := fun k => if k < 6 then μ.2 k else if k < 8 then fun _ => μ.1 k else fun _ => 0
/-- the problem as the model has it -/
def pM (ν : XS) : PB := fun k => if k < 6 then ν.2 (k + 3) else if k < 8 then fun _ => ν.1 (k - 5) else fun _ => 0
theorem af_X (μ : XS) {a s : Nat} (hs : s < 256) : (s &&& (μ.2 4 a ^^^ 4294967295)) ||| μ.2 3 a = af (pX μ) a s := by
  rw [and_low hs]; rfl
theorem cq_X (μ : XS) (a s : Nat) : cq (pX μ) a s = (decide (s &&& μ.2 1 a = μ.2 1 a) && decide (s &&& μ.2 2 a = 0)) := rfl
theorem gl_X (μ : XS) (s : Nat) : gl (pX μ) s = (decide (s &&& μ.1 6 = μ.1 6) && decide (s &&& μ.1 7 = 0)) := rfl
theorem and_le_r {a b : Nat} : a &&& b ≤ b := Nat.and_le_right
theorem and_le_l {a b : Nat} : a &&& b ≤ a := Nat.and_le_left
end
section
/-! WALKS of the planner: the leaves -/
theorem metP_isGiven (l : Launch) (O : XO) (μ : XS) (x : Int32) (hW : PW (pX μ)) : GMi (xw O) (oD O) (xT O) l yX0_isGiven cX0_isGiven 2 (some .boolean) (rmk 0) [.ref (oh O), .int x] μ
    (fun r μ' => μ' = μ ∧ ((∃ a, a < 10 ∧ x = nI a ∧ μ.2 0 a ≠ 0 ∧ r = nI 1) ∨ ((∀ a, a < 10 → x = nI a → μ.2 0 a = 0) ∧ r = nI 0))) := by
  refine GMi.intro (own := RX0) (by decide) rfl (cat_of rfl) (Nat.le_of_ble_eq_true rfl) ?_
  intro K _ C Rt
  have k23 : (∀ a, a < 10 → x = nI a → μ.2 0 a = 0) → XAt (xw O) (oD O) K 2 23 [some (.ref (oh O)), some (.int x)] [] μ := by
    intro hn
    refine x_iconst C (nI 0) dX0_isGiven_23 (by decide) ?_
    exact Rt 24 _ _ _ dX0_isGiven_24 (by decide) ⟨rfl, Or.inr ⟨hn, rfl⟩⟩
  refine x_iload_n C dX0_isGiven_0 rfl ?_
  refine x_if_lt C 23 dX0_isGiven_1 (by decide) (fun h => k23 fun a ha e => absurd h (by rw [e]; exact nI_pos (by omega))) (fun h => ?_)
  obtain ⟨a, ha, rfl⟩ := nI_of h
  refine x_iload_n C dX0_isGiven_4 rfl ?_
  refine x_bipush C (nI 9) dX0_isGiven_5 (by decide) ?_
  refine xn_ic_gt C 23 dX0_isGiven_7 (by decide) ha (by omega) (fun h => k23 fun b hb e => absurd ((nI_eq ha (by omega)).mp e) (by omega)) (fun h9 => ?_)
  have h1 := (hW.1 a (by omega)).1
  have h1 : μ.2 0 a ≤ 1 := h1
  refine x_aload_n C dX0_isGiven_10 rfl ?_
  refine pg_given C dX0_isGiven_11 ?_
  refine x_iload_n C dX0_isGiven_14 rfl ?_
  refine pl_given C dX0_isGiven_15 (by omega) ?_
  refine xn_if_eq C 23 dX0_isGiven_16 (by decide) (by omega) (fun h => k23 fun b hb e => by rw [← (nI_eq ha (by omega)).mp e]; exact h) (fun h2 => ?_)
  refine x_iconst C (nI 1) dX0_isGiven_19 (by decide) ?_
  refine x_goto C 24 dX0_isGiven_20 (by decide) ?_
  exact Rt 24 _ _ _ dX0_isGiven_24 (by decide) ⟨rfl, Or.inl ⟨a, by omega, rfl, h2, rfl⟩⟩
theorem metP_canDo (l : Launch) (O : XO) (μ : XS) {a s : Nat} (hW : PW (pX μ)) (ha : a < 10) (hs : s < 256) : GMi (xw O) (oD O) (xT O) l yX0_canDo cX0_canDo 3 (some .boolean) (rmk 0) [.ref (oh O), .int (nI a), .int (nI s)] μ
    (fun r μ' => μ' = μ ∧ r = nI (cq (pX μ) a s).toNat) := by
  refine GMi.intro (own := RX0) (by decide) rfl (cat_of rfl) (Nat.le_of_ble_eq_true rfl) ?_
  intro K _ C Rt
  have h1 : μ.2 1 a < 256 := (hW.1 a ha).2.1
  have h2 : μ.2 2 a < 256 := (hW.1 a ha).2.2.1
  have l1 : s &&& μ.2 1 a ≤ s := and_le_l
  have l2 : s &&& μ.2 2 a ≤ s := and_le_l
  have k32 : cq (pX μ) a s = false → XAt (xw O) (oD O) K 3 32 [some (.ref (oh O)), some (.int (nI a)), some (.int (nI s))] [] μ := by
    intro hn
    refine x_iconst C (nI 0) dX0_canDo_32 (by decide) ?_
    exact Rt 33 _ _ _ dX0_canDo_33 (by decide) ⟨rfl, by rw [hn]; rfl⟩
  refine x_iload_n C dX0_canDo_0 rfl ?_
  refine x_aload_n C dX0_canDo_1 rfl ?_
  refine pg_needs C dX0_canDo_2 ?_
  refine x_iload_n C dX0_canDo_5 rfl ?_
  refine pl_needs C dX0_canDo_6 (by omega) ?_
  refine x_iand C dX0_canDo_7 (nI_and _ _) ?_
  refine x_aload_n C dX0_canDo_8 rfl ?_
  refine pg_needs C dX0_canDo_9 ?_
  refine x_iload_n C dX0_canDo_12 rfl ?_
  refine pl_needs C dX0_canDo_13 (by omega) ?_
  refine xn_ic_ne C 32 dX0_canDo_14 (by decide) (by omega) (by omega) (fun h => k32 (by rw [cq_X]; simp [h])) (fun h => ?_)
  refine x_iload_n C dX0_canDo_17 rfl ?_
  refine x_aload_n C dX0_canDo_18 rfl ?_
  refine pg_bars C dX0_canDo_19 ?_
  refine x_iload_n C dX0_canDo_22 rfl ?_
  refine pl_bars C dX0_canDo_23 (by omega) ?_
  refine x_iand C dX0_canDo_24 (nI_and _ _) ?_
  refine xn_if_ne C 32 dX0_canDo_25 (by decide) (by omega) (fun h3 => k32 (by rw [cq_X]; simp [h3])) (fun h3 => ?_)
  refine x_iconst C (nI 1) dX0_canDo_28 (by decide) ?_
  refine x_goto C 33 dX0_canDo_29 (by decide) ?_
  exact Rt 33 _ _ _ dX0_canDo_33 (by decide) ⟨rfl, by rw [cq_X, h, h3]; simp⟩
theorem metP_after (l : Launch) (O : XO) (μ : XS) {a s : Nat} (ha : a < 10) (hs : s < 256) : GMi (xw O) (oD O) (xT O) l yX0_after cX0_after 3 (some .int) (rmk 0) [.ref (oh O), .int (nI a), .int (nI s)] μ
    (fun r μ' => μ' = μ ∧ r = nI (af (pX μ) a s)) := by
  refine GMi.intro (own := RX0) (by decide) rfl (cat_of rfl) (Nat.le_of_ble_eq_true rfl) ?_
  intro K _ C Rt
  refine x_iload_n C dX0_after_0 rfl ?_
  refine x_aload_n C dX0_after_1 rfl ?_
  refine pg_drops C dX0_after_2 ?_
  refine x_iload_n C dX0_after_5 rfl ?_
  refine pl_drops C dX0_after_6 (by omega) ?_
  refine x_iconst C (-1) dX0_after_7 (by decide) ?_
  refine x_ixor C dX0_after_8 (nI_xm1 _) ?_
  refine x_iand C dX0_after_9 (nI_and _ _) ?_
  refine x_aload_n C dX0_after_10 rfl ?_
  refine pg_adds C dX0_after_11 ?_
  refine x_iload_n C dX0_after_14 rfl ?_
  refine pl_adds C dX0_after_15 (by omega) ?_
  refine x_ior C dX0_after_16 (nI_or _ _) ?_
  exact Rt 17 _ _ _ dX0_after_17 rfl ⟨rfl, by rw [af_X μ hs]⟩
theorem metP_isGoal (l : Launch) (O : XO) (μ : XS) {s : Nat} (hW : PW (pX μ)) (hs : s < 256) : GMi (xw O) (oD O) (xT O) l yX0_isGoal cX0_isGoal 2 (some .boolean) (rmk 0) [.ref (oh O), .int (nI s)] μ
    (fun r μ' => μ' = μ ∧ r = nI (gl (pX μ) s).toNat) := by
  refine GMi.intro (own := RX0) (by decide) rfl (cat_of rfl) (Nat.le_of_ble_eq_true rfl) ?_
  intro K _ C Rt
  have h1 : μ.1 6 < 256 := hW.2.1
  have h2 : μ.1 7 < 256 := hW.2.2
  have l1 : s &&& μ.1 6 ≤ s := and_le_l
  have l2 : s &&& μ.1 7 ≤ s := and_le_l
  have k26 : gl (pX μ) s = false → XAt (xw O) (oD O) K 2 26 [some (.ref (oh O)), some (.int (nI s))] [] μ := by
    intro hn
    refine x_iconst C (nI 0) dX0_isGoal_26 (by decide) ?_
    exact Rt 27 _ _ _ dX0_isGoal_27 (by decide) ⟨rfl, by rw [hn]; rfl⟩
  refine x_iload_n C dX0_isGoal_0 rfl ?_
  refine x_aload_n C dX0_isGoal_1 rfl ?_
  refine pg_wantedTrue C dX0_isGoal_2 ?_
  refine x_iand C dX0_isGoal_5 (nI_and _ _) ?_
  refine x_aload_n C dX0_isGoal_6 rfl ?_
  refine pg_wantedTrue C dX0_isGoal_7 ?_
  refine xn_ic_ne C 26 dX0_isGoal_10 (by decide) (by omega) (by omega) (fun h => k26 (by rw [gl_X]; simp [h])) (fun h => ?_)
  refine x_iload_n C dX0_isGoal_13 rfl ?_
  refine x_aload_n C dX0_isGoal_14 rfl ?_
  refine pg_wantedFalse C dX0_isGoal_15 ?_
  refine x_iand C dX0_isGoal_18 (nI_and _ _) ?_
  refine xn_if_ne C 26 dX0_isGoal_19 (by decide) (by omega) (fun h3 => k26 (by rw [gl_X]; simp [h3])) (fun h3 => ?_)
  refine x_iconst C (nI 1) dX0_isGoal_22 (by decide) ?_
  refine x_goto C 27 dX0_isGoal_23 (by decide) ?_
  exact Rt 27 _ _ _ dX0_isGoal_27 (by decide) ⟨rfl, by rw [gl_X, h, h3]; simp⟩
theorem metP_setHeap (l : Launch) (O : XO) (μ : XS) {i s : Nat} (hi : i < 256) (hs : s < 256) : GMv (xw O) (oD O) (xT O) l yX0_setHeap cX0_setHeap 3 (rmk 0) [.ref (oh O), .int (nI i), .int (nI s)] μ
    (fun μ' => μ' = sA (sA μ 17 (un (μ.2 17) i s)) 16 (un (μ.2 16) s (i + 2))) := by
  refine GMv.intro (own := RX0) (by decide) rfl (cat_of rfl) (Nat.le_of_ble_eq_true rfl) ?_
  intro K _ C Rt
  refine x_aload_n C dX0_setHeap_0 rfl ?_
  refine pg_heap C dX0_setHeap_1 ?_
  refine x_iload_n C dX0_setHeap_4 rfl ?_
  refine x_iload_n C dX0_setHeap_5 rfl ?_
  refine ps_heap C dX0_setHeap_6 (by omega) ?_
  refine x_aload_n C dX0_setHeap_7 rfl ?_
  refine pg_place C dX0_setHeap_8 ?_
  refine x_iload_n C dX0_setHeap_11 rfl ?_
  refine x_iload_n C dX0_setHeap_12 rfl ?_
  refine x_top (y := nI (i + 2) - 2) (pk_sub (a := i + 2) (b := 2) (by omega)).symm ?_
  refine ps_place C dX0_setHeap_13 (by omega) ?_
  exact Rt 14 _ _ dX0_setHeap_14 (rfl)
/-- the bound of a state -/
abbrev bdX (μ : XS) (s : Nat) : Nat := bd (pX μ) (μ.2 22) (μ.2 23) s
def BdOK (μ : XS) : Prop := PW (pX μ) ∧ ∀ f, f < 8 → μ.2 22 f ≤ 1000000 ∧ μ.2 23 f ≤ 1000000
theorem bdX_le {μ : XS} (h : BdOK μ) (s : Nat) (n : Nat) (hn : n ≤ 8) : bdU (μ.1 6) (μ.1 7) (μ.2 22) (μ.2 23) s n ≤ 1000000 := bdU_le n fun f hf => ⟨fun _ _ => (h.2 f (by omega)).1, fun _ _ => (h.2 f (by omega)).2⟩
theorem metP_bound (l : Launch) (O : XO) (μ : XS) {s : Nat} (hB : BdOK μ) (hs : s < 256) : GMi (xw O) (oD O) (xT O) l yX0_bound cX0_bound 5 (some .int) (rmk 0) [.ref (oh O), .int (nI s)] μ
    (fun r μ' => μ' = μ ∧ r = nI (bdX μ s)) := by
  refine GMi.intro (own := RX0) (by decide) rfl (cat_of rfl) (Nat.le_of_ble_eq_true rfl) ?_
  intro K _ C Rt
  have h6 : μ.1 6 < 256 := hB.1.2.1
  have h7 : μ.1 7 < 256 := hB.1.2.2
  have loop : ∀ n f, f + n = 8 → XAt (xw O) (oD O) K 5 4 [some (.ref (oh O)), some (.int (nI s)), some (.int (nI (bdU (μ.1 6) (μ.1 7) (μ.2 22) (μ.2 23) s f))), some (.int (nI f)), none] [] μ := by
    intro n
    induction n with
    | zero =>
      intro f hf
      have e : f = 8 := by omega
      subst e
      refine x_iload_n C dX0_bound_4 rfl ?_
      refine x_bipush C (nI 8) dX0_bound_5 (by decide) ?_
      refine xn_ic_ge C 89 dX0_bound_7 (by decide) (by omega) (by omega) (fun _ => ?_) (fun h => by omega)
      refine x_iload_n C dX0_bound_89 rfl ?_
      exact Rt 90 _ _ _ dX0_bound_90 rfl ⟨rfl, rfl⟩
    | succ n ih =>
      intro f hf
      have hm := bdX_le hB s f (by omega)
      have hr := hB.2 f (by omega)
      have e := bdU_succ (μ.1 6) (μ.1 7) (μ.2 22) (μ.2 23) s f
      have hi := ih (f + 1) (by omega)
      rw [e] at hi
      generalize hmm : bdU (μ.1 6) (μ.1 7) (μ.2 22) (μ.2 23) s f = most at *
      have a1 : μ.1 6 &&& 2 ^ f ≤ μ.1 6 := and_le_l
      have a2 : μ.1 7 &&& 2 ^ f ≤ μ.1 7 := and_le_l
      have a3 : s &&& 2 ^ f ≤ s := and_le_l
      have k83 : ∀ m, m = (if (μ.1 7).testBit f = true ∧ s.testBit f = true ∧ (if (μ.1 6).testBit f = true ∧ s.testBit f = false ∧ most < μ.2 22 f then μ.2 22 f else most) < μ.2 23 f then μ.2 23 f
          else if (μ.1 6).testBit f = true ∧ s.testBit f = false ∧ most < μ.2 22 f then μ.2 22 f else most) → XAt (xw O) (oD O) K 5 83 [some (.ref (oh O)), some (.int (nI s)), some (.int (nI m)), some (.int (nI f)), some (.int (nI (2 ^ f)))] [] μ := by
        intro m hm
        subst hm
        refine x_inc1 C dX0_bound_83 rfl (by decide) ?_
        refine x_goto C 4 dX0_bound_86 (by decide) ?_
        exact x_drop 4 hi
      have k49 : ∀ m, m = (if (μ.1 6).testBit f = true ∧ s.testBit f = false ∧ most < μ.2 22 f then μ.2 22 f else most) → XAt (xw O) (oD O) K 5 49 [some (.ref (oh O)), some (.int (nI s)), some (.int (nI m)), some (.int (nI f)), some (.int (nI (2 ^ f)))] [] μ := by
        intro m hm'
        have hml : m ≤ 1000000 := by rw [hm']; split <;> omega
        rw [← hm'] at k83
        refine x_aload_n C dX0_bound_49 rfl ?_
        refine pg_wantedFalse C dX0_bound_50 ?_
        refine x_iload C dX0_bound_53 rfl ?_
        refine x_iand C dX0_bound_55 (nI_and _ _) ?_
        refine xn_if_eq C 83 dX0_bound_56 (by decide) (by omega) (fun h => k83 m (by rw [if_neg]; intro q; rw [bit_and.mp h] at q; exact absurd q.1 (by decide))) (fun h1 => ?_)
        have h1' : (μ.1 7).testBit f = true := by
          cases q : (μ.1 7).testBit f with
          | true => rfl
          | false => exact absurd (bit_and.mpr q) h1
        refine x_iload_n C dX0_bound_59 rfl ?_
        refine x_iload C dX0_bound_60 rfl ?_
        refine x_iand C dX0_bound_62 (nI_and _ _) ?_
        refine xn_if_eq C 83 dX0_bound_63 (by decide) (by omega) (fun h => k83 m (by rw [if_neg]; intro q; rw [bit_and.mp h] at q; exact absurd q.2.1 (by decide))) (fun h2 => ?_)
        have h2' : s.testBit f = true := by
          cases q : s.testBit f with
          | true => rfl
          | false => exact absurd (bit_and.mpr q) h2
        refine x_aload_n C dX0_bound_66 rfl ?_
        refine pg_lower C dX0_bound_67 ?_
        refine x_iload_n C dX0_bound_70 rfl ?_
        refine pl_lower C dX0_bound_71 (by omega) ?_
        refine x_iload_n C dX0_bound_72 rfl ?_
        refine xn_ic_le C 83 dX0_bound_73 (by decide) (by omega) (by omega) (fun h => k83 m (by rw [if_neg]; intro q; omega)) (fun h3 => ?_)
        refine x_aload_n C dX0_bound_76 rfl ?_
        refine pg_lower C dX0_bound_77 ?_
        refine x_iload_n C dX0_bound_80 rfl ?_
        refine pl_lower C dX0_bound_81 (by omega) ?_
        refine x_istore_n C dX0_bound_82 (by decide) ?_
        exact k83 (μ.2 23 f) (by rw [if_pos ⟨h1', h2', h3⟩])
      refine x_iload_n C dX0_bound_4 rfl ?_
      refine x_bipush C (nI 8) dX0_bound_5 (by decide) ?_
      refine xn_ic_ge C 89 dX0_bound_7 (by decide) (by omega) (by omega) (fun h => by omega) (fun _ => ?_)
      refine x_iconst C (nI 1) dX0_bound_10 (by decide) ?_
      refine x_iload_n C dX0_bound_11 rfl ?_
      refine x_ishl C dX0_bound_12 (nI_shl1 (by omega)) ?_
      refine x_istore C dX0_bound_13 (by decide) ?_
      refine x_aload_n C dX0_bound_15 rfl ?_
      refine pg_wantedTrue C dX0_bound_16 ?_
      refine x_iload C dX0_bound_19 rfl ?_
      refine x_iand C dX0_bound_21 (nI_and _ _) ?_
      refine xn_if_eq C 49 dX0_bound_22 (by decide) (by omega) (fun h => k49 most (by rw [if_neg]; intro q; rw [bit_and.mp h] at q; exact absurd q.1 (by decide))) (fun h1 => ?_)
      have h1' : (μ.1 6).testBit f = true := by
        cases q : (μ.1 6).testBit f with
        | true => rfl
        | false => exact absurd (bit_and.mpr q) h1
      refine x_iload_n C dX0_bound_25 rfl ?_
      refine x_iload C dX0_bound_26 rfl ?_
      refine x_iand C dX0_bound_28 (nI_and _ _) ?_
      refine xn_if_ne C 49 dX0_bound_29 (by decide) (by omega) (fun h => k49 most (by rw [if_neg]; intro q; exact h (bit_and.mpr q.2.1))) (fun h2 => ?_)
      have h2' := bit_and.mp h2
      refine x_aload_n C dX0_bound_32 rfl ?_
      refine pg_raise C dX0_bound_33 ?_
      refine x_iload_n C dX0_bound_36 rfl ?_
      refine pl_raise C dX0_bound_37 (by omega) ?_
      refine x_iload_n C dX0_bound_38 rfl ?_
      refine xn_ic_le C 49 dX0_bound_39 (by decide) (by omega) (by omega) (fun h => k49 most (by rw [if_neg]; intro q; omega)) (fun h3 => ?_)
      refine x_aload_n C dX0_bound_42 rfl ?_
      refine pg_raise C dX0_bound_43 ?_
      refine x_iload_n C dX0_bound_46 rfl ?_
      refine pl_raise C dX0_bound_47 (by omega) ?_
      refine x_istore_n C dX0_bound_48 (by decide) ?_
      exact k49 (μ.2 22 f) (by rw [if_pos ⟨h1', h2', h3⟩])
  refine x_iconst C (nI 0) dX0_bound_0 (by decide) ?_
  refine x_istore_n C dX0_bound_1 (by decide) ?_
  refine x_iconst C (nI 0) dX0_bound_2 (by decide) ?_
  refine x_istore_n C dX0_bound_3 (by decide) ?_
  exact loop 8 0 rfl
theorem metP_keyOf (l : Launch) (O : XO) (μ : XS) {s : Nat} (hB : BdOK μ) (hs : s < 256) (hg : μ.2 15 s ≤ 1000000) : GMi (xw O) (oD O) (xT O) l yX0_keyOf cX0_keyOf 2 (some .int) (rmk 1) [.ref (oh O), .int (nI s)] μ
    (fun r μ' => μ' = μ ∧ r = nI (ky (bdX μ) (μ.2 15) s)) := by
  refine GMi.intro (own := RX0) (by decide) rfl (cat_of rfl) (Nat.le_of_ble_eq_true rfl) ?_
  intro K _ C Rt
  refine x_aload_n C dX0_keyOf_0 rfl ?_
  refine pg_cost C dX0_keyOf_1 ?_
  refine x_iload_n C dX0_keyOf_4 rfl ?_
  refine pl_cost C dX0_keyOf_5 (by omega) ?_
  refine x_aload_n C dX0_keyOf_6 rfl ?_
  refine x_iload_n C dX0_keyOf_7 rfl ?_
  refine x_calli C (metP_bound (kL K) O μ hB hs) cwp_bound (by decide) ⟨rfl, rfl⟩ (ci := 0) (q0 := 0) rfl rfl rfl (Nat.le_of_ble_eq_true rfl) rfl dX0_keyOf_8 (fun r μ' h => ?_)
  obtain ⟨rfl, rfl⟩ := h
  refine x_iadd C dX0_keyOf_11 (nI_add _ _) ?_
  exact Rt 12 _ _ _ dX0_keyOf_12 rfl ⟨rfl, rfl⟩
end
section
/-! WALKS of the planner: the heap -/
def sHP (μ : XS) (hp pl : Nat → Nat) : XS := sA (sA μ 17 hp) 16 pl
theorem sA_sA (μ : XS) (k : Nat) (f g : Nat → Nat) : sA (sA μ k f) k g = sA μ k g := by
  unfold sA
  congr 1
  funext j
  dsimp only
  split <;> rfl
theorem sA_self (μ : XS) (k : Nat) : sA μ k (μ.2 k) = μ := by
  unfold sA
  apply Prod.ext
  · rfl
  · funext j
    dsimp only
    split
    · rename_i h; rw [h]
    · rfl
theorem sS_self (μ : XS) (k : Nat) : sS μ k (μ.1 k) = μ := by
  unfold sS
  apply Prod.ext
  · funext j
    dsimp only
    split
    · rename_i h; rw [h]
    · rfl
  · rfl
theorem sS_sS (μ : XS) (k v w : Nat) : sS (sS μ k v) k w = sS μ k w := by
  unfold sS
  congr 1
  funext j
  dsimp only
  split <;> rfl
theorem sA_comm (μ : XS) {k j : Nat} (h : k ≠ j) (f g : Nat → Nat) : sA (sA μ k f) j g = sA (sA μ j g) k f := by
  unfold sA
  congr 1
  funext i
  dsimp only
  by_cases e : i = j
  · rw [if_pos e, if_neg (by omega), if_pos e]
  · rw [if_neg e]
    by_cases e2 : i = k
    · rw [if_pos e2, if_pos e2]
    · rw [if_neg e2, if_neg e2, if_neg e]
theorem sS_comm (μ : XS) {k j : Nat} (h : k ≠ j) (v w : Nat) : sS (sS μ k v) j w = sS (sS μ j w) k v := by
  unfold sS
  congr 1
  funext i
  dsimp only
  by_cases e : i = j
  · rw [if_pos e, if_neg (by omega), if_pos e]
  · rw [if_neg e]
    by_cases e2 : i = k
    · rw [if_pos e2, if_pos e2]
    · rw [if_neg e2, if_neg e2, if_neg e]
theorem sAS (μ : XS) (k j : Nat) (f : Nat → Nat) (v : Nat) : sA (sS μ j v) k f = sS (sA μ k f) j v := rfl
theorem sHP_sHP (μ : XS) (a b c d : Nat → Nat) : sHP (sHP μ a b) c d = sHP μ c d := by
  unfold sHP
  rw [sA_comm (sA μ 17 a) (k := 16) (j := 17) (by decide), sA_sA, sA_sA]
theorem sHP_self (μ : XS) : sHP μ (μ.2 17) (μ.2 16) = μ := by
  unfold sHP
  rw [sA_self, sA_self]
theorem pX_sA (μ : XS) {k : Nat} (h : 6 ≤ k) (f : Nat → Nat) : pX (sA μ k f) = pX μ := by
  funext j
  unfold pX
  by_cases e : j < 6
  · rw [if_pos e, if_pos e]
    show (if j = k then f else μ.2 j) = μ.2 j
    rw [if_neg (by omega)]
  · rw [if_neg e, if_neg e]; rfl
theorem pX_sS (μ : XS) {k : Nat} (h6 : k ≠ 6) (h7 : k ≠ 7) (v : Nat) : pX (sS μ k v) = pX μ := by
  funext j
  unfold pX
  by_cases e : j < 6
  · rw [if_pos e, if_pos e]; rfl
  · rw [if_neg e, if_neg e]
    by_cases e8 : j < 8
    · rw [if_pos e8, if_pos e8]
      funext _
      show (if j = k then v else μ.1 j) = μ.1 j
      rw [if_neg (by omega)]
    · rw [if_neg e8, if_neg e8]
theorem ky_le {μ : XS} (hB : BdOK μ) {x : Nat} (h : μ.2 15 x ≤ 1000000) : ky (bdX μ) (μ.2 15) x ≤ 2000000 := by
  have : bdX μ x ≤ 1000000 := bdX_le hB x 8 (by decide)
  unfold ky; omega
theorem pow_half {k s : Nat} (h0 : 0 < k) (h : k * 2 ^ s < 256) : (k - 1) / 2 * 2 ^ (s + 1) < 256 := by
  have h1 : (k - 1) / 2 * 2 ≤ k := by omega
  have h2 : (k - 1) / 2 * 2 * 2 ^ s ≤ k * 2 ^ s := Nat.mul_le_mul_right _ h1
  have h3 : (k - 1) / 2 * 2 ^ (s + 1) = (k - 1) / 2 * 2 * 2 ^ s := by rw [Nat.pow_succ, Nat.mul_assoc, Nat.mul_comm 2 (2 ^ s)]
  omega
theorem metP_rise (l : Launch) (O : XO) (μ : XS) {k s : Nat} (hB : BdOK μ) (hg : ∀ x, x < 256 → μ.2 15 x ≤ 1000000) (hn : μ.1 18 ≤ 256) (hs : μ.2 17 k = s) (h2 : 2 ≤ μ.2 16 s) (hR : RiseI (bdX μ) (μ.2 15) (μ.1 18) (μ.2 17) (μ.2 16) k s) :
    GMv (xw O) (oD O) (xT O) l yX0_rise cX0_rise 9 (rmk 2) [.ref (oh O), .int (nI k)] μ
    (fun μ' => ∃ hp pl, μ' = sHP μ hp pl ∧ Bij (μ.1 18) hp pl ∧ Ord (bdX μ) (μ.2 15) (μ.1 18) hp ∧ Same (μ.2 16) pl) := by
  refine GMv.intro (own := RX0) (by decide) rfl (cat_of rfl) (Nat.le_of_ble_eq_true rfl) ?_
  intro K _ C Rt
  have hk := hR.1
  have hs2 := hR.2.1
  have hky := ky_le hB (hg s hs2)
  have k98 : ∀ (i : Nat) (hp pl : Nat → Nat) (rest : List (Option Value)), RiseI (bdX μ) (μ.2 15) (μ.1 18) hp pl i s → Same (μ.2 16) pl → (i = 0 ∨ ky (bdX μ) (μ.2 15) (hp ((i - 1) / 2)) ≤ ky (bdX μ) (μ.2 15) s) →
      XAt (xw O) (oD O) K 9 98 (some (.ref (oh O)) :: some (.int (nI k)) :: some (.int (nI i)) :: some (.int (nI s)) :: rest) [] (sHP μ hp pl) := by
    intro i hp pl rest hI hS he
    have hi := hI.1
    refine x_aload_n C dX0_rise_98 rfl ?_
    refine x_iload_n C dX0_rise_99 rfl ?_
    refine x_iload_n C dX0_rise_100 rfl ?_
    refine x_callv C (metP_setHeap (kL K) O (sHP μ hp pl) (i := i) (s := s) (by omega) hs2) cwp_setHeap (by decide) ⟨rfl, rfl⟩ (ci := 0) (q0 := 0) rfl rfl rfl (Nat.le_of_ble_eq_true rfl) rfl dX0_rise_101 (fun μ' h => ?_)
    have h : μ' = sHP (sHP μ hp pl) (un hp i s) (un pl s (i + 2)) := h
    rw [sHP_sHP] at h
    obtain ⟨e1, e2⟩ := rise_end hI he
    have h2' : 2 ≤ pl s := (hS.two hs2).mpr h2
    exact Rt 104 _ _ dX0_rise_104 (⟨_, _, h, e1, e2, hS.trans (Same.un h2' (by omega))⟩)
  have loop : ∀ (n st i mv : Nat) (hp pl : Nat → Nat), st + n = 9 → RiseI (bdX μ) (μ.2 15) (μ.1 18) hp pl i s → Same (μ.2 16) pl → ((mv = 1 ∧ i * 2 ^ st < 256) ∨ (mv = 0 ∧ ky (bdX μ) (μ.2 15) (hp ((i - 1) / 2)) ≤ ky (bdX μ) (μ.2 15) s)) →
      XAt (xw O) (oD O) K 9 22 [some (.ref (oh O)), some (.int (nI k)), some (.int (nI i)), some (.int (nI s)), some (.int (nI (ky (bdX μ) (μ.2 15) s))), some (.int (nI mv)), some (.int (nI st)), none, none] [] (sHP μ hp pl) := by
    intro n
    induction n with
    | zero =>
      intro st i mv hp pl hst hI hS hm
      have e : st = 9 := by omega
      subst e
      refine x_iload C dX0_rise_22 rfl ?_
      refine x_bipush C (nI 9) dX0_rise_24 (by decide) ?_
      refine xn_ic_ge C 98 dX0_rise_26 (by decide) (by omega) (by omega) (fun _ => k98 i hp pl _ hI hS (hm.elim (fun q => Or.inl (by omega)) (fun q => Or.inr q.2))) (fun h => by omega)
    | succ n ih =>
      intro st i mv hp pl hst hI hS hm
      have hi := hI.1
      refine x_iload C dX0_rise_22 rfl ?_
      refine x_bipush C (nI 9) dX0_rise_24 (by decide) ?_
      refine xn_ic_ge C 98 dX0_rise_26 (by decide) (by omega) (by omega) (fun h => by omega) (fun _ => ?_)
      refine x_iload_n C dX0_rise_29 rfl ?_
      refine xn_if_le C 98 dX0_rise_30 (by decide) (by omega) (fun i0 => k98 i hp pl _ hI hS (Or.inl i0)) (fun i0 => ?_)
      refine x_iload C dX0_rise_33 rfl ?_
      refine xn_if_eq C 98 dX0_rise_35 (by decide) (by omega) (fun m0 => k98 i hp pl _ hI hS (Or.inr (hm.elim (fun q => absurd q.1 (by omega)) (fun q => q.2)))) (fun m0 => ?_)
      obtain ⟨hj1, hj2, hj3⟩ := hole_in hI.2.2.1 hi (show (i - 1) / 2 < μ.1 18 by omega) (by omega)
      have hkj := ky_le hB (hg _ hj1)
      refine x_iload_n C dX0_rise_38 rfl ?_
      refine x_iconst C (nI 1) dX0_rise_39 (by decide) ?_
      refine x_isub C dX0_rise_40 (pk_sub (by omega)) ?_
      refine x_iconst C (nI 2) dX0_rise_41 (by decide) ?_
      refine x_idiv C dX0_rise_42 (by decide) (pk_div (by omega) (by decide) (by decide)) ?_
      refine x_istore C dX0_rise_43 (by decide) ?_
      refine x_aload_n C dX0_rise_45 rfl ?_
      refine x_aload_n C dX0_rise_46 rfl ?_
      refine pg_heap C dX0_rise_47 ?_
      refine x_iload C dX0_rise_50 rfl ?_
      refine pl_heap C dX0_rise_52 (by omega) ?_
      refine x_calli C (metP_keyOf (kL K) O (sHP μ hp pl) (s := hp ((i - 1) / 2)) hB hj1 (hg _ hj1)) cwp_keyOf (by decide) ⟨rfl, rfl⟩ (ci := 0) (q0 := 0) rfl rfl rfl (Nat.le_of_ble_eq_true rfl) rfl dX0_rise_53 (fun r μ' h => ?_)
      obtain ⟨rfl, hr⟩ := h
      have hr : r = nI (ky (bdX μ) (μ.2 15) (hp ((i - 1) / 2))) := hr
      subst hr
      refine x_istore C dX0_rise_56 (by decide) ?_
      refine x_iload C dX0_rise_58 rfl ?_
      refine x_iload C dX0_rise_60 rfl ?_
      refine xn_ic_ge C 69 dX0_rise_62 (by decide) (by omega) (by omega) (fun hle => ?_) (fun hlt => ?_)
      · refine x_iconst C (nI 0) dX0_rise_69 (by decide) ?_
        refine x_istore C dX0_rise_70 (by decide) ?_
        refine x_iload C dX0_rise_72 rfl ?_
        refine xn_if_eq C 92 dX0_rise_74 (by decide) (by omega) (fun _ => ?_) (fun h => absurd rfl h)
        refine x_inc1 C dX0_rise_92 rfl (by decide) ?_
        refine x_goto C 22 dX0_rise_95 (by decide) ?_
        exact x_drop 7 (x_drop 8 (ih (st + 1) i 0 hp pl (by omega) hI hS (Or.inr ⟨rfl, hle⟩)))
      · refine x_iconst C (nI 1) dX0_rise_65 (by decide) ?_
        refine x_goto C 70 dX0_rise_66 (by decide) ?_
        refine x_istore C dX0_rise_70 (by decide) ?_
        refine x_iload C dX0_rise_72 rfl ?_
        refine xn_if_eq C 92 dX0_rise_74 (by decide) (by omega) (fun h => by omega) (fun _ => ?_)
        refine x_aload_n C dX0_rise_77 rfl ?_
        refine x_iload_n C dX0_rise_78 rfl ?_
        refine x_aload_n C dX0_rise_79 rfl ?_
        refine pg_heap C dX0_rise_80 ?_
        refine x_iload C dX0_rise_83 rfl ?_
        refine pl_heap C dX0_rise_85 (by omega) ?_
        refine x_callv C (metP_setHeap (kL K) O (sHP μ hp pl) (i := i) (s := hp ((i - 1) / 2)) (by omega) hj1) cwp_setHeap (by decide) ⟨rfl, rfl⟩ (ci := 0) (q0 := 0) rfl rfl rfl (Nat.le_of_ble_eq_true rfl) rfl dX0_rise_86 (fun μ' h => ?_)
        have h : μ' = sHP (sHP μ hp pl) (un hp i (hp ((i - 1) / 2))) (un pl (hp ((i - 1) / 2)) (i + 2)) := h
        rw [sHP_sHP] at h
        subst h
        refine x_iload C dX0_rise_89 rfl ?_
        refine x_istore_n C dX0_rise_91 (by decide) ?_
        refine x_inc1 C dX0_rise_92 rfl (by decide) ?_
        refine x_goto C 22 dX0_rise_95 (by decide) ?_
        exact x_drop 7 (x_drop 8 (ih (st + 1) ((i - 1) / 2) 1 _ _ (by omega) (rise_step hI i0 hlt) (hS.trans (Same.un hj2 (by omega))) (Or.inl ⟨rfl, pow_half i0 (hm.elim (fun q => q.2) (fun q => absurd q.1 m0))⟩)))
  refine x_iload_n C dX0_rise_0 rfl ?_
  refine x_istore_n C dX0_rise_1 (by decide) ?_
  refine x_aload_n C dX0_rise_2 rfl ?_
  refine pg_heap C dX0_rise_3 ?_
  refine x_iload_n C dX0_rise_6 rfl ?_
  refine pl_heap C dX0_rise_7 (by omega) ?_
  rw [hs]
  refine x_istore_n C dX0_rise_8 (by decide) ?_
  refine x_aload_n C dX0_rise_9 rfl ?_
  refine x_iload_n C dX0_rise_10 rfl ?_
  refine x_calli C (metP_keyOf (kL K) O μ (s := s) hB hs2 (hg s hs2)) cwp_keyOf (by decide) ⟨rfl, rfl⟩ (ci := 0) (q0 := 0) rfl rfl rfl (Nat.le_of_ble_eq_true rfl) rfl dX0_rise_11 (fun r μ' h => ?_)
  obtain ⟨rfl, rfl⟩ := h
  refine x_istore C dX0_rise_14 (by decide) ?_
  refine x_iconst C (nI 1) dX0_rise_16 (by decide) ?_
  refine x_istore C dX0_rise_17 (by decide) ?_
  refine x_iconst C (nI 0) dX0_rise_19 (by decide) ?_
  refine x_istore C dX0_rise_20 (by decide) ?_
  have := loop 9 0 k 1 (μ'.2 17) (μ'.2 16) rfl hR (Same.rf _) (Or.inl ⟨rfl, by omega⟩)
  rw [sHP_self] at this
  exact this
/-- what lesserChild answers -/
def oiN : Option Nat → Int32
  | none => -1
  | some a => nI a
theorem metP_lesserChild (l : Launch) (O : XO) (μ : XS) {k : Nat} (hB : BdOK μ) (hg : ∀ x, x < 256 → μ.2 15 x ≤ 1000000) (hn : μ.1 18 ≤ 256) (hk : k < 256) (hp : ∀ i, 0 < i → i < μ.1 18 → (i - 1) / 2 = k → μ.2 17 i < 256) :
    GMi (xw O) (oD O) (xT O) l yX0_lesserChild cX0_lesserChild 6 (some .int) (rmk 2) [.ref (oh O), .int (nI k)] μ
    (fun r μ' => μ' = μ ∧ ((r = -1 ∧ ∀ i, 0 < i → i < μ.1 18 → (i - 1) / 2 ≠ k) ∨ ∃ c, r = nI c ∧ 0 < c ∧ c < μ.1 18 ∧ (c - 1) / 2 = k ∧ ∀ i, 0 < i → i < μ.1 18 → (i - 1) / 2 = k → ky (bdX μ) (μ.2 15) (μ.2 17 c) ≤ ky (bdX μ) (μ.2 15) (μ.2 17 i))) := by
  refine GMi.intro (own := RX0) (by decide) rfl (cat_of rfl) (Nat.le_of_ble_eq_true rfl) ?_
  intro K _ C Rt
  refine x_iconst C (nI 2) dX0_lesserChild_0 (by decide) ?_
  refine x_iload_n C dX0_lesserChild_1 rfl ?_
  refine x_imul C dX0_lesserChild_2 (pk_mul _ _) ?_
  refine x_iconst C (nI 1) dX0_lesserChild_3 (by decide) ?_
  refine x_iadd C dX0_lesserChild_4 (nI_add _ _) ?_
  refine x_istore_n C dX0_lesserChild_5 (by decide) ?_
  refine x_iload_n C dX0_lesserChild_6 rfl ?_
  refine x_iconst C (nI 1) dX0_lesserChild_7 (by decide) ?_
  refine x_iadd C dX0_lesserChild_8 (nI_add _ _) ?_
  refine x_istore_n C dX0_lesserChild_9 (by decide) ?_
  refine x_iload_n C dX0_lesserChild_10 rfl ?_
  refine x_aload_n C dX0_lesserChild_11 rfl ?_
  refine pg_heapSize C dX0_lesserChild_12 ?_
  refine xn_ic_lt C 20 dX0_lesserChild_15 (by decide) (by omega) (by omega) (fun h1 => ?_) (fun h1 => ?_)
  · refine x_iload_n C dX0_lesserChild_20 rfl ?_
    refine x_aload_n C dX0_lesserChild_21 rfl ?_
    refine pg_heapSize C dX0_lesserChild_22 ?_
    refine xn_ic_lt C 30 dX0_lesserChild_25 (by decide) (by omega) (by omega) (fun h2 => ?_) (fun h2 => ?_)
    · have ha := hp (2 * k + 1) (by omega) h1 (by omega)
      have hb := hp (2 * k + 1 + 1) (by omega) h2 (by omega)
      have hka := ky_le hB (hg _ ha)
      have hkb := ky_le hB (hg _ hb)
      refine x_aload_n C dX0_lesserChild_30 rfl ?_
      refine x_aload_n C dX0_lesserChild_31 rfl ?_
      refine pg_heap C dX0_lesserChild_32 ?_
      refine x_iload_n C dX0_lesserChild_35 rfl ?_
      refine pl_heap C dX0_lesserChild_36 (by omega) ?_
      refine x_calli C (metP_keyOf (kL K) O μ (s := μ.2 17 (2 * k + 1)) hB ha (hg _ ha)) cwp_keyOf (by decide) ⟨rfl, rfl⟩ (ci := 0) (q0 := 0) rfl rfl rfl (Nat.le_of_ble_eq_true rfl) rfl dX0_lesserChild_37 (fun r μ' h => ?_)
      obtain ⟨rfl, rfl⟩ := h
      refine x_istore C dX0_lesserChild_40 (by decide) ?_
      refine x_aload_n C dX0_lesserChild_42 rfl ?_
      refine x_aload_n C dX0_lesserChild_43 rfl ?_
      refine pg_heap C dX0_lesserChild_44 ?_
      refine x_iload_n C dX0_lesserChild_47 rfl ?_
      refine pl_heap C dX0_lesserChild_48 (by omega) ?_
      refine x_calli C (metP_keyOf (kL K) O μ' (s := μ'.2 17 (2 * k + 1 + 1)) hB hb (hg _ hb)) cwp_keyOf (by decide) ⟨rfl, rfl⟩ (ci := 0) (q0 := 0) rfl rfl rfl (Nat.le_of_ble_eq_true rfl) rfl dX0_lesserChild_49 (fun r μ'' h => ?_)
      obtain ⟨rfl, rfl⟩ := h
      refine x_istore C dX0_lesserChild_52 (by decide) ?_
      refine x_iload C dX0_lesserChild_54 rfl ?_
      refine x_iload C dX0_lesserChild_56 rfl ?_
      refine xn_ic_ge C 65 dX0_lesserChild_58 (by decide) (by omega) (by omega) (fun h3 => ?_) (fun h3 => ?_)
      · refine x_iload_n C dX0_lesserChild_65 rfl ?_
        exact Rt 66 _ _ _ dX0_lesserChild_66 rfl ⟨rfl, Or.inr ⟨2 * k + 1, rfl, by omega, h1, by omega, fun i i0 hi hi2 => by
          have : i = 2 * k + 1 ∨ i = 2 * k + 1 + 1 := by omega
          rcases this with rfl | rfl
          · exact Nat.le_refl _
          · exact h3⟩⟩
      · refine x_iload_n C dX0_lesserChild_61 rfl ?_
        refine x_goto C 66 dX0_lesserChild_62 (by decide) ?_
        exact Rt 66 _ _ _ dX0_lesserChild_66 rfl ⟨rfl, Or.inr ⟨2 * k + 1 + 1, rfl, by omega, h2, by omega, fun i i0 hi hi2 => by
          have : i = 2 * k + 1 ∨ i = 2 * k + 1 + 1 := by omega
          rcases this with rfl | rfl
          · exact Nat.le_of_lt h3
          · exact Nat.le_refl _⟩⟩
    · refine x_iload_n C dX0_lesserChild_28 rfl ?_
      exact Rt 29 _ _ _ dX0_lesserChild_29 rfl ⟨rfl, Or.inr ⟨2 * k + 1, rfl, by omega, h1, by omega, fun i i0 hi hi2 => by
          have : i = 2 * k + 1 := by omega
          rw [this]; exact Nat.le_refl _⟩⟩
  · refine x_iconst C (-1) dX0_lesserChild_18 (by decide) ?_
    exact Rt 19 _ _ _ dX0_lesserChild_19 rfl ⟨rfl, Or.inl ⟨rfl, fun i i0 hi hi2 => by omega⟩⟩
theorem metP_sink (l : Launch) (O : XO) (μ : XS) {s : Nat} (hB : BdOK μ) (hg : ∀ x, x < 256 → μ.2 15 x ≤ 1000000) (hn : μ.1 18 ≤ 256) (h2 : 2 ≤ μ.2 16 s) (hR : SinkI (bdX μ) (μ.2 15) (μ.1 18) (μ.2 17) (μ.2 16) 0 s) :
    GMv (xw O) (oD O) (xT O) l yX0_sink cX0_sink 8 (rmk 3) [.ref (oh O), .int (nI s)] μ
    (fun μ' => ∃ hp pl, μ' = sHP μ hp pl ∧ Bij (μ.1 18) hp pl ∧ Ord (bdX μ) (μ.2 15) (μ.1 18) hp ∧ Same (μ.2 16) pl) := by
  refine GMv.intro (own := RX0) (by decide) rfl (cat_of rfl) (Nat.le_of_ble_eq_true rfl) ?_
  intro K _ C Rt
  have hk := hR.1
  have hs2 := hR.2.1
  have hky := ky_le hB (hg s hs2)
  have k102 : ∀ (i : Nat) (hp pl : Nat → Nat) (rest : List (Option Value)), SinkI (bdX μ) (μ.2 15) (μ.1 18) hp pl i s → Same (μ.2 16) pl → (∀ j, 0 < j → j < μ.1 18 → (j - 1) / 2 = i → ky (bdX μ) (μ.2 15) s ≤ ky (bdX μ) (μ.2 15) (hp j)) →
      XAt (xw O) (oD O) K 8 102 (some (.ref (oh O)) :: some (.int (nI s)) :: some (.int (nI i)) :: rest) [] (sHP μ hp pl) := by
    intro i hp pl rest hI hS he
    have hi := hI.1
    refine x_aload_n C dX0_sink_102 rfl ?_
    refine x_iload_n C dX0_sink_103 rfl ?_
    refine x_iload_n C dX0_sink_104 rfl ?_
    refine x_callv C (metP_setHeap (kL K) O (sHP μ hp pl) (i := i) (s := s) (by omega) hs2) cwp_setHeap (by decide) ⟨rfl, rfl⟩ (ci := 0) (q0 := 0) rfl rfl rfl (Nat.le_of_ble_eq_true rfl) rfl dX0_sink_105 (fun μ' h => ?_)
    have h : μ' = sHP (sHP μ hp pl) (un hp i s) (un pl s (i + 2)) := h
    rw [sHP_sHP] at h
    obtain ⟨e1, e2⟩ := sink_end hI he
    have h2' : 2 ≤ pl s := (hS.two hs2).mpr h2
    exact Rt 108 _ _ dX0_sink_108 (⟨_, _, h, e1, e2, hS.trans (Same.un h2' (by omega))⟩)
  have loop : ∀ (n st i mv : Nat) (hp pl : Nat → Nat), st + n = 10 → SinkI (bdX μ) (μ.2 15) (μ.1 18) hp pl i s → Same (μ.2 16) pl → ((mv = 1 ∧ 2 ^ st ≤ i + 1) ∨ (mv = 0 ∧ ∀ j, 0 < j → j < μ.1 18 → (j - 1) / 2 = i → ky (bdX μ) (μ.2 15) s ≤ ky (bdX μ) (μ.2 15) (hp j))) →
      XAt (xw O) (oD O) K 8 14 [some (.ref (oh O)), some (.int (nI s)), some (.int (nI i)), some (.int (nI (ky (bdX μ) (μ.2 15) s))), some (.int (nI mv)), some (.int (nI st)), none, none] [] (sHP μ hp pl) := by
    intro n
    induction n with
    | zero =>
      intro st i mv hp pl hst hI hS hm
      have e : st = 10 := by omega
      subst e
      have hi := hI.1
      refine x_iload C dX0_sink_14 rfl ?_
      refine x_bipush C (nI 9) dX0_sink_16 (by decide) ?_
      refine xn_ic_ge C 102 dX0_sink_18 (by decide) (by omega) (by omega) (fun _ => k102 i hp pl _ hI hS (hm.elim (fun q => by omega) (fun q => q.2))) (fun h => by omega)
    | succ n ih =>
      intro st i mv hp pl hst hI hS hm
      have hi := hI.1
      refine x_iload C dX0_sink_14 rfl ?_
      refine x_bipush C (nI 9) dX0_sink_16 (by decide) ?_
      refine xn_ic_ge C 102 dX0_sink_18 (by decide) (by omega) (by omega) (fun h9 => k102 i hp pl _ hI hS (hm.elim (fun q => by rw [show st = 9 by omega] at q; omega) (fun q => q.2))) (fun _ => ?_)
      refine x_iload C dX0_sink_21 rfl ?_
      refine xn_if_eq C 102 dX0_sink_23 (by decide) (by omega) (fun m0 => k102 i hp pl _ hI hS (hm.elim (fun q => absurd q.1 (by omega)) (fun q => q.2))) (fun m0 => ?_)
      have hpow : 2 ^ st ≤ i + 1 := hm.elim (fun q => q.2) (fun q => absurd q.1 m0)
      have hin : ∀ j, 0 < j → j < μ.1 18 → (j - 1) / 2 = i → hp j < 256 := fun j j0 hj hj2 => (hole_in hI.2.2.1 hi hj (by omega)).1
      refine x_aload_n C dX0_sink_26 rfl ?_
      refine x_iload_n C dX0_sink_27 rfl ?_
      refine x_calli C (metP_lesserChild (kL K) O (sHP μ hp pl) (k := i) hB hg hn (by omega) hin) cwp_lesserChild (by decide) ⟨rfl, rfl⟩ (ci := 0) (q0 := 0) rfl rfl rfl (Nat.le_of_ble_eq_true rfl) rfl dX0_sink_28 (fun r μ' h => ?_)
      obtain ⟨rfl, hr⟩ := h
      rcases hr with ⟨rfl, hno⟩ | ⟨c, rfl, c0, hc, hcp, hmin⟩
      · refine x_istore C dX0_sink_31 (by decide) ?_
        refine x_iload C dX0_sink_33 rfl ?_
        refine x_if_lt C 42 dX0_sink_35 (by decide) (fun _ => ?_) (fun h => absurd (by decide) h)
        refine x_iconst C (nI 0) dX0_sink_42 (by decide) ?_
        refine x_istore C dX0_sink_43 (by decide) ?_
        refine x_iload C dX0_sink_45 rfl ?_
        refine xn_if_eq C 76 dX0_sink_47 (by decide) (by omega) (fun _ => ?_) (fun h => absurd rfl h)
        refine x_iload C dX0_sink_76 rfl ?_
        refine xn_if_eq C 96 dX0_sink_78 (by decide) (by omega) (fun _ => ?_) (fun h => absurd rfl h)
        refine x_inc1 C dX0_sink_96 rfl (by decide) ?_
        refine x_goto C 14 dX0_sink_99 (by decide) ?_
        exact x_drop 6 (ih (st + 1) i 0 hp pl (by omega) hI hS (Or.inr ⟨rfl, fun j j0 hj hj2 => absurd hj2 (hno j j0 hj)⟩))
      · have hc' : c < μ.1 18 := hc
        have hmin' : ∀ j, 0 < j → j < μ.1 18 → (j - 1) / 2 = i → ky (bdX μ) (μ.2 15) (hp c) ≤ ky (bdX μ) (μ.2 15) (hp j) := hmin
        obtain ⟨hj1, hj2, hj3⟩ := hole_in hI.2.2.1 hi hc' (by omega)
        have hkj := ky_le hB (hg _ hj1)
        refine x_istore C dX0_sink_31 (by decide) ?_
        refine x_iload C dX0_sink_33 rfl ?_
        refine xn_if_lt C 42 dX0_sink_35 (by decide) (by omega) ?_
        refine x_iconst C (nI 1) dX0_sink_38 (by decide) ?_
        refine x_goto C 43 dX0_sink_39 (by decide) ?_
        refine x_istore C dX0_sink_43 (by decide) ?_
        refine x_iload C dX0_sink_45 rfl ?_
        refine xn_if_eq C 76 dX0_sink_47 (by decide) (by omega) (fun h => by omega) (fun _ => ?_)
        refine x_aload_n C dX0_sink_50 rfl ?_
        refine x_aload_n C dX0_sink_51 rfl ?_
        refine pg_heap C dX0_sink_52 ?_
        refine x_iload C dX0_sink_55 rfl ?_
        refine pl_heap C dX0_sink_57 (by omega) ?_
        refine x_calli C (metP_keyOf (kL K) O (sHP μ hp pl) (s := hp c) hB hj1 (hg _ hj1)) cwp_keyOf (by decide) ⟨rfl, rfl⟩ (ci := 0) (q0 := 0) rfl rfl rfl (Nat.le_of_ble_eq_true rfl) rfl dX0_sink_58 (fun r μ' h => ?_)
        obtain ⟨rfl, hr⟩ := h
        have hr : r = nI (ky (bdX μ) (μ.2 15) (hp c)) := hr
        subst hr
        refine x_istore C dX0_sink_61 (by decide) ?_
        refine x_iload C dX0_sink_63 rfl ?_
        refine x_iload_n C dX0_sink_65 rfl ?_
        refine xn_ic_ge C 73 dX0_sink_66 (by decide) (by omega) (by omega) (fun hle => ?_) (fun hlt => ?_)
        · refine x_iconst C (nI 0) dX0_sink_73 (by decide) ?_
          refine x_istore C dX0_sink_74 (by decide) ?_
          refine x_iload C dX0_sink_76 rfl ?_
          refine xn_if_eq C 96 dX0_sink_78 (by decide) (by omega) (fun _ => ?_) (fun h => absurd rfl h)
          refine x_inc1 C dX0_sink_96 rfl (by decide) ?_
          refine x_goto C 14 dX0_sink_99 (by decide) ?_
          exact x_drop 6 (x_drop 7 (ih (st + 1) i 0 hp pl (by omega) hI hS (Or.inr ⟨rfl, fun j j0 hj hj2 => Nat.le_trans hle (hmin' j j0 hj hj2)⟩)))
        · refine x_iconst C (nI 1) dX0_sink_69 (by decide) ?_
          refine x_goto C 74 dX0_sink_70 (by decide) ?_
          refine x_istore C dX0_sink_74 (by decide) ?_
          refine x_iload C dX0_sink_76 rfl ?_
          refine xn_if_eq C 96 dX0_sink_78 (by decide) (by omega) (fun h => by omega) (fun _ => ?_)
          refine x_aload_n C dX0_sink_81 rfl ?_
          refine x_iload_n C dX0_sink_82 rfl ?_
          refine x_aload_n C dX0_sink_83 rfl ?_
          refine pg_heap C dX0_sink_84 ?_
          refine x_iload C dX0_sink_87 rfl ?_
          refine pl_heap C dX0_sink_89 (by omega) ?_
          refine x_callv C (metP_setHeap (kL K) O (sHP μ hp pl) (i := i) (s := hp c) (by omega) hj1) cwp_setHeap (by decide) ⟨rfl, rfl⟩ (ci := 0) (q0 := 0) rfl rfl rfl (Nat.le_of_ble_eq_true rfl) rfl dX0_sink_90 (fun μ' h => ?_)
          have h : μ' = sHP (sHP μ hp pl) (un hp i (hp c)) (un pl (hp c) (i + 2)) := h
          rw [sHP_sHP] at h
          subst h
          refine x_iload C dX0_sink_93 rfl ?_
          refine x_istore_n C dX0_sink_95 (by decide) ?_
          refine x_inc1 C dX0_sink_96 rfl (by decide) ?_
          refine x_goto C 14 dX0_sink_99 (by decide) ?_
          exact x_drop 6 (x_drop 7 (ih (st + 1) c 1 _ _ (by omega) (sink_step hI hc' c0 hcp hmin' hlt) (hS.trans (Same.un hj2 (by omega))) (Or.inl ⟨rfl, by rw [Nat.pow_succ]; omega⟩)))
  refine x_iconst C (nI 0) dX0_sink_0 (by decide) ?_
  refine x_istore_n C dX0_sink_1 (by decide) ?_
  refine x_aload_n C dX0_sink_2 rfl ?_
  refine x_iload_n C dX0_sink_3 rfl ?_
  refine x_calli C (metP_keyOf (kL K) O μ (s := s) hB hs2 (hg s hs2)) cwp_keyOf (by decide) ⟨rfl, rfl⟩ (ci := 0) (q0 := 0) rfl rfl rfl (Nat.le_of_ble_eq_true rfl) rfl dX0_sink_4 (fun r μ' h => ?_)
  obtain ⟨rfl, rfl⟩ := h
  refine x_istore_n C dX0_sink_7 (by decide) ?_
  refine x_iconst C (nI 1) dX0_sink_8 (by decide) ?_
  refine x_istore C dX0_sink_9 (by decide) ?_
  refine x_iconst C (nI 0) dX0_sink_11 (by decide) ?_
  refine x_istore C dX0_sink_12 (by decide) ?_
  have := loop 10 0 0 1 (μ'.2 17) (μ'.2 16) rfl hR (Same.rf _) (Or.inl ⟨rfl, by decide⟩)
  rw [sHP_self] at this
  exact this
end
section
/-! WALKS of the planner: the search -/
theorem nI_m2 {a b : Nat} (ha : a < 2 ^ 31) (hb : b < 2 ^ 31) : nI a - 2 = nI b - 2 ↔ a = b := by
  constructor
  · intro h
    have h1 : nI a - 2 + 2 = nI b - 2 + 2 := by rw [h]
    rw [Int32.sub_add_cancel, Int32.sub_add_cancel] at h1
    exact (nI_eq ha hb).mp h1
  · intro h; rw [h]
theorem cnt_none {p : Nat → Bool} : ∀ n, (∀ i, i < n → p i = false) → cnt p n = 0 := by
  intro n
  induction n with
  | zero => intro _; rfl
  | succ n ih => intro h; rw [cnt_succ, ih (fun i hi => h i (by omega)), h n (by omega)]; simp
/-- the search's cells -/
def sQ (μ : XS) (g pl hp : Nat → Nat) (n : Nat) : XS := sS (sHP (sA μ 15 g) hp pl) 18 n
def sF (μ : XS) (g pl hp : Nat → Nat) (n : Nat) (lf : Nat → Nat) (lc : Nat) : XS := sS (sA (sQ μ g pl hp n) 19 lf) 20 lc
theorem sQ_self (μ : XS) : sQ μ (μ.2 15) (μ.2 16) (μ.2 17) (μ.1 18) = μ := by
  apply Prod.ext <;> funext j <;> simp only [sQ, sHP, sA, sS] <;> (repeat' split) <;> first | rfl | (simp_all; done) | omega
theorem sQ_sQ (μ : XS) (g pl hp : Nat → Nat) (n : Nat) (g' pl' hp' : Nat → Nat) (n' : Nat) : sQ (sQ μ g pl hp n) g' pl' hp' n' = sQ μ g' pl' hp' n' := by
  apply Prod.ext <;> funext j <;> simp only [sQ, sHP, sA, sS] <;> (repeat' split) <;> first | rfl | omega
theorem sF_sQ (μ : XS) (g pl hp : Nat → Nat) (n : Nat) (lf : Nat → Nat) (lc : Nat) (g' pl' hp' : Nat → Nat) (n' : Nat) : sQ (sF μ g pl hp n lf lc) g' pl' hp' n' = sF μ g' pl' hp' n' lf lc := by
  apply Prod.ext <;> funext j <;> simp only [sF, sQ, sHP, sA, sS] <;> (repeat' split) <;> first | rfl | omega
theorem metP_takeLeast (l : Launch) (O : XO) (μ : XS) (hB : BdOK μ) (hg : ∀ x, x < 256 → μ.2 15 x ≤ 1000000) (hH : HeapOK (bdX μ) (μ.2 15) (μ.2 16) (μ.2 17) (μ.1 18)) (h0 : 0 < μ.1 18) :
    GMi (xw O) (oD O) (xT O) l yX0_takeLeast cX0_takeLeast 2 (some .int) (rmk 4) [.ref (oh O)] μ
    (fun r μ' => r = nI (μ.2 17 0) ∧ ∃ pl hp n', μ' = sQ μ (μ.2 15) pl hp n' ∧ TP (bdX μ) (μ.2 15) (μ.2 16) (μ.2 17) (μ.1 18) pl hp n') := by
  refine GMi.intro (own := RX0) (by decide) rfl (cat_of rfl) (Nat.le_of_ble_eq_true rfl) ?_
  intro K _ C Rt
  have hn := heap_le hH
  obtain ⟨n, hnn⟩ : ∃ n, μ.1 18 = n + 1 := ⟨μ.1 18 - 1, by omega⟩
  rw [hnn] at hH
  have ht := (hH.1.1 0 (by omega)).1
  refine x_aload_n C dX0_takeLeast_0 rfl ?_
  refine pg_heap C dX0_takeLeast_1 ?_
  refine x_iconst C (nI 0) dX0_takeLeast_4 (by decide) ?_
  refine pl_heap C dX0_takeLeast_5 (by omega) ?_
  refine x_istore_n C dX0_takeLeast_6 (by decide) ?_
  refine x_aload_n C dX0_takeLeast_7 rfl ?_
  refine pg_place C dX0_takeLeast_8 ?_
  refine x_iload_n C dX0_takeLeast_11 rfl ?_
  refine x_bipush C (nI 0 - 2) dX0_takeLeast_12 (by decide) ?_
  refine ps_place C dX0_takeLeast_14 ht ?_
  refine x_aload_n C dX0_takeLeast_15 rfl ?_
  refine x_dup C dX0_takeLeast_16 rfl ?_
  refine pg_heapSize C dX0_takeLeast_17 ?_
  refine x_iconst C (nI 1) dX0_takeLeast_20 (by decide) ?_
  refine x_isub C dX0_takeLeast_21 (show nI (μ.1 18) - nI 1 = nI n by rw [hnn]; exact nI_pred n) ?_
  refine pp_heapSize C dX0_takeLeast_22 ?_
  refine x_aload_n C dX0_takeLeast_25 rfl ?_
  refine pg_heapSize C dX0_takeLeast_26 ?_
  refine xn_if_le C 45 dX0_takeLeast_29 (by decide) (show n < 2 ^ 31 by omega) (fun h => ?_) (fun h => ?_)
  · have h : n = 0 := h
    subst h
    refine x_iload_n C dX0_takeLeast_45 rfl ?_
    refine Rt 46 _ _ _ dX0_takeLeast_46 rfl ⟨rfl, un (μ.2 16) (μ.2 17 0) 0, μ.2 17, 0, ?_, hnn, take_last hH, Same.rf _⟩
    apply Prod.ext <;> funext j <;> simp only [sQ, sHP, sA, sS] <;> (repeat' split) <;> first | rfl | (simp_all; done) | omega
  · have h : 0 < n := h
    have hl := hH.1.1 n (by omega)
    have hne : μ.2 17 n ≠ μ.2 17 0 := fun e => by have := hH.1.inj (i := n) (j := 0) (by omega) (by omega) e; omega
    refine x_aload_n C dX0_takeLeast_32 rfl ?_
    refine x_aload_n C dX0_takeLeast_33 rfl ?_
    refine pg_heap C dX0_takeLeast_34 ?_
    refine x_aload_n C dX0_takeLeast_37 rfl ?_
    refine pg_heapSize C dX0_takeLeast_38 ?_
    refine pl_heap C dX0_takeLeast_41 (show n < 256 by omega) ?_
    refine x_callv C (metP_sink (kL K) O (sS (sA μ 16 (un (μ.2 16) (μ.2 17 0) 0)) 18 n) (s := μ.2 17 n) hB hg (show n ≤ 256 by omega) (show 2 ≤ un (μ.2 16) (μ.2 17 0) 0 (μ.2 17 n) by rw [un_n hne]; omega) (take_sink hH h)) cwp_sink (by decide) ⟨rfl, rfl⟩ (ci := 0) (q0 := 0) rfl rfl rfl (Nat.le_of_ble_eq_true rfl) rfl dX0_takeLeast_42 (fun μ' h' => ?_)
    obtain ⟨hp, pl, rfl, q1, q2, q3⟩ := h'
    have q1 : Bij n hp pl := q1
    have q2 : Ord (bdX μ) (μ.2 15) n hp := q2
    have q3 : Same (un (μ.2 16) (μ.2 17 0) 0) pl := q3
    refine x_iload_n C dX0_takeLeast_45 rfl ?_
    refine Rt 46 _ _ _ dX0_takeLeast_46 rfl ⟨rfl, pl, hp, n, ?_, hnn, ⟨q1, q2, by rw [q3.cnt]; exact take_cnt hH⟩, q3⟩
    apply Prod.ext <;> funext j <;> simp only [sQ, sHP, sA, sS] <;> (repeat' split) <;> first | rfl | (simp_all; done) | omega
theorem metP_reach (l : Launch) (O : XO) (μ : XS) {s v : Nat} (hB : BdOK μ) (hg : ∀ x, x < 256 → μ.2 15 x ≤ 1000000) (hH : HeapOK (bdX μ) (μ.2 15) (μ.2 16) (μ.2 17) (μ.1 18)) (hs : s < 256) (hv : v < 2000000) :
    GMv (xw O) (oD O) (xT O) l yX0_reach cX0_reach 3 (rmk 3) [.ref (oh O), .int (nI s), .int (nI v)] μ
    (fun μ' => ∃ g' pl' hp' n', μ' = sQ μ g' pl' hp' n' ∧ RP (bdX μ) s v (μ.2 15) (μ.2 16) (μ.2 17) (μ.1 18) g' pl' hp' n') := by
  refine GMv.intro (own := RX0) (by decide) rfl (cat_of rfl) (Nat.le_of_ble_eq_true rfl) ?_
  intro K _ C Rt
  have hn := heap_le hH
  have hgs := hg s hs
  have hpl : μ.2 16 s < 2 ^ 31 := by
    by_cases h : 2 ≤ μ.2 16 s
    · have := (hH.1.2 s hs h).1; omega
    · omega
  have k21 : (μ.2 16 s = 0 ∨ μ.2 15 s ≤ v) → XAt (xw O) (oD O) K 3 21 [some (.ref (oh O)), some (.int (nI s)), some (.int (nI v))] [] μ := by
    intro h
    exact Rt 21 _ _ dX0_reach_21 (⟨_, _, _, _, (sQ_self μ).symm, Or.inl ⟨h, rfl, rfl, rfl, rfl⟩⟩)
  refine x_aload_n C dX0_reach_0 rfl ?_
  refine pg_place C dX0_reach_1 ?_
  refine x_iload_n C dX0_reach_4 rfl ?_
  refine pl_place C dX0_reach_5 (by omega) ?_
  refine x_bipush C (nI 0 - 2) dX0_reach_6 (by decide) ?_
  refine x_ic_eq C 21 dX0_reach_8 (by decide) (fun h => k21 (Or.inl ((nI_m2 hpl (by decide)).mp h))) (fun h => ?_)
  have h0 : μ.2 16 s ≠ 0 := fun e => h ((nI_m2 hpl (by decide)).mpr e)
  refine x_iload_n C dX0_reach_11 rfl ?_
  refine x_aload_n C dX0_reach_12 rfl ?_
  refine pg_cost C dX0_reach_13 ?_
  refine x_iload_n C dX0_reach_16 rfl ?_
  refine pl_cost C dX0_reach_17 (by omega) ?_
  refine xn_ic_lt C 22 dX0_reach_18 (by decide) (by omega) (by omega) (fun hlt => ?_) (fun hge => k21 (Or.inr hge))
  refine x_aload_n C dX0_reach_22 rfl ?_
  refine pg_cost C dX0_reach_23 ?_
  refine x_iload_n C dX0_reach_26 rfl ?_
  refine x_iload_n C dX0_reach_27 rfl ?_
  refine ps_cost C dX0_reach_28 (by omega) ?_
  refine x_aload_n C dX0_reach_29 rfl ?_
  refine pg_place C dX0_reach_30 ?_
  refine x_iload_n C dX0_reach_33 rfl ?_
  refine pl_place C dX0_reach_34 (by omega) ?_
  refine x_iconst C (nI 1 - 2) dX0_reach_35 (by decide) ?_
  refine x_ic_ne C 69 dX0_reach_36 (by decide) (fun h1 => ?_) (fun h1 => ?_)
  · have h1 : μ.2 16 s ≠ 1 := fun e => h1 ((nI_m2 hpl (by decide)).mpr e)
    have h2 : 2 ≤ μ.2 16 s := by omega
    have hb := hH.1.2 s hs h2
    refine x_aload_n C dX0_reach_69 rfl ?_
    refine x_aload_n C dX0_reach_70 rfl ?_
    refine pg_place C dX0_reach_71 ?_
    refine x_iload_n C dX0_reach_74 rfl ?_
    refine pl_place C dX0_reach_75 (by omega) ?_
    refine x_top (y := nI (μ.2 16 s - 2)) (pk_sub h2) ?_
    refine x_callv C (metP_rise (kL K) O (sA μ 15 (un (μ.2 15) s v)) (k := μ.2 16 s - 2) (s := s) hB (fun x hx => Nat.le_trans (un_le (by omega) x) (hg x hx)) hn hb.2 h2 (low_rise hH hs h2 hlt)) cwp_rise (by decide) ⟨rfl, rfl⟩ (ci := 0) (q0 := 0) rfl rfl rfl (Nat.le_of_ble_eq_true rfl) rfl dX0_reach_76 (fun μ' h' => ?_)
    obtain ⟨hp, pl, rfl, q1, q2, q3⟩ := h'
    have q1 : Bij (μ.1 18) hp pl := q1
    have q2 : Ord (bdX μ) (un (μ.2 15) s v) (μ.1 18) hp := q2
    have q3 : Same (μ.2 16) pl := q3
    refine Rt 79 _ _ dX0_reach_79 ⟨un (μ.2 15) s v, pl, hp, μ.1 18, ?_, Or.inr ⟨⟨h0, hlt⟩, rfl, ⟨q1, q2, by rw [q3.cnt]; exact hH.2.2⟩, fun x hx _ => q3 x hx, (q3.two hs).mpr h2⟩⟩
    apply Prod.ext <;> funext j <;> simp only [sQ, sHP, sA, sS] <;> (repeat' split) <;> first | rfl | (simp_all; done) | omega
  · have h1 : μ.2 16 s = 1 := (nI_m2 hpl (by decide)).mp h1
    have hroom := put_room hH hs h1
    refine x_aload_n C dX0_reach_39 rfl ?_
    refine pg_place C dX0_reach_40 ?_
    refine x_iload_n C dX0_reach_43 rfl ?_
    refine x_aload_n C dX0_reach_44 rfl ?_
    refine pg_heapSize C dX0_reach_45 ?_
    refine x_top (y := nI (μ.1 18 + 2) - 2) (pk_sub (a := μ.1 18 + 2) (b := 2) (by omega)).symm ?_
    refine ps_place C dX0_reach_48 (by omega) ?_
    refine x_aload_n C dX0_reach_49 rfl ?_
    refine pg_heap C dX0_reach_50 ?_
    refine x_aload_n C dX0_reach_53 rfl ?_
    refine pg_heapSize C dX0_reach_54 ?_
    refine x_iload_n C dX0_reach_57 rfl ?_
    refine ps_heap C dX0_reach_58 (show μ.1 18 < 256 from hroom) ?_
    refine x_aload_n C dX0_reach_59 rfl ?_
    refine x_dup C dX0_reach_60 rfl ?_
    refine pg_heapSize C dX0_reach_61 ?_
    refine x_iconst C (nI 1) dX0_reach_64 (by decide) ?_
    refine x_iadd C dX0_reach_65 (nI_add _ _) ?_
    refine pp_heapSize C dX0_reach_66 ?_
    refine x_aload_n C dX0_reach_69 rfl ?_
    refine x_aload_n C dX0_reach_70 rfl ?_
    refine pg_place C dX0_reach_71 ?_
    refine x_iload_n C dX0_reach_74 rfl ?_
    refine pl_place C dX0_reach_75 (by omega) ?_
    refine x_top (y := nI (μ.1 18)) (show nI (un (μ.2 16) s (μ.1 18 + 2) s) - 2 = nI (μ.1 18) by rw [un_s]; exact pk_sub (a := μ.1 18 + 2) (b := 2) (by omega)) ?_
    refine x_callv C (metP_rise (kL K) O (sS (sA (sA (sA μ 15 (un (μ.2 15) s v)) 16 (un (μ.2 16) s (μ.1 18 + 2))) 17 (un (μ.2 17) (μ.1 18) s)) 18 (μ.1 18 + 1)) (k := μ.1 18) (s := s) hB (fun x hx => Nat.le_trans (un_le (by omega) x) (hg x hx)) hroom (un_s _ _ _) (show 2 ≤ un (μ.2 16) s (μ.1 18 + 2) s by rw [un_s]; omega) (put_rise hH hs h1)) cwp_rise (by decide) ⟨rfl, rfl⟩ (ci := 0) (q0 := 0) rfl rfl rfl (Nat.le_of_ble_eq_true rfl) rfl dX0_reach_76 (fun μ' h' => ?_)
    obtain ⟨hp, pl, rfl, q1, q2, q3⟩ := h'
    have q1 : Bij (μ.1 18 + 1) hp pl := q1
    have q2 : Ord (bdX μ) (un (μ.2 15) s v) (μ.1 18 + 1) hp := q2
    have q3 : Same (un (μ.2 16) s (μ.1 18 + 2)) pl := q3
    refine Rt 79 _ _ dX0_reach_79 ⟨un (μ.2 15) s v, pl, hp, μ.1 18 + 1, ?_, Or.inr ⟨⟨h0, hlt⟩, rfl, ⟨q1, q2, by rw [q3.cnt]; exact put_cnt hH.2.2 hs h1⟩, fun x hx e => ?_, (q3.two hs).mpr (by rw [un_s]; omega)⟩⟩
    · apply Prod.ext <;> funext j <;> simp only [sQ, sHP, sA, sS] <;> (repeat' split) <;> first | rfl | (simp_all; done) | omega
    · have := q3 x hx
      rw [un_n e] at this
      exact this
end
section
/-! WALKS of the planner: spread, searchForward, findCheapest -/
theorem b0 {c : Bool} (h : c.toNat = 0) : c = false := by cases c with | false => rfl | true => exact absurd h (by decide)
theorem b1 {c : Bool} (h : c.toNat ≠ 0) : c = true := by cases c with | true => rfl | false => exact absurd rfl h
theorem b31 {c : Bool} : c.toNat < 2 ^ 31 := Nat.lt_of_le_of_lt b2n_le (by decide)
theorem metP_spread (l : Launch) (O : XO) (μ : XS) {s st best : Nat} (hB : BdOK μ) (hb : BOK (pX μ) (bdX μ)) (hs : s < 256) (h : SC (pX μ) (bdX μ) st (μ.2 15) (μ.2 16) (μ.2 17) (μ.1 18) (μ.2 19) (μ.1 20) best (ky (bdX μ) (μ.2 15) s) s) (h0 : μ.2 16 s = 0) :
    GMv (xw O) (oD O) (xT O) l yX0_spread cX0_spread 4 (rmk 4) [.ref (oh O), .int (nI s)] μ
    (fun μ' => ∃ g pl hp n, μ' = sQ μ g pl hp n ∧ SC (pX μ) (bdX μ) st g pl hp n (μ.2 19) (μ.1 20) best (ky (bdX μ) g s) s ∧ pl s = 0 ∧ ∀ a, a < 10 → cd (pX μ) a s = true → g (af (pX μ) a s) ≤ g s + pX μ 5 a) := by
  refine GMv.intro (own := RX0) (by decide) rfl (cat_of rfl) (Nat.le_of_ble_eq_true rfl) ?_
  intro K _ C Rt
  have hW := hB.1
  have loop : ∀ (n a : Nat) (g pl hp : Nat → Nat) (m : Nat), a + n = 10 → SC (pX μ) (bdX μ) st g pl hp m (μ.2 19) (μ.1 20) best (ky (bdX μ) g s) s → pl s = 0 → (∀ b, b < a → cd (pX μ) b s = true → g (af (pX μ) b s) ≤ g s + pX μ 5 b) →
      XAt (xw O) (oD O) K 4 2 [some (.ref (oh O)), some (.int (nI s)), some (.int (nI a)), none] [] (sQ μ g pl hp m) := by
    intro n
    induction n with
    | zero =>
      intro a g pl hp m ha hSC hp0 hpr
      refine x_iload_n C dX0_spread_2 rfl ?_
      refine x_bipush C (nI 10) dX0_spread_3 (by decide) ?_
      refine xn_ic_ge C 57 dX0_spread_5 (by decide) (by omega) (by omega) (fun _ => ?_) (fun h => by omega)
      exact Rt 57 _ _ dX0_spread_57 (⟨g, pl, hp, m, rfl, hSC, hp0, fun b hb => hpr b (by omega)⟩)
    | succ n ih =>
      intro a g pl hp m ha hSC hp0 hpr
      have ha' : a < 10 := by omega
      have hgs := (hSC.2.1 s hs).1
      have hg1 : μ.2 0 a ≤ 1 := (hW.1 a ha').1
      have hp50 : μ.2 5 a ≤ 50 := price_le hW ha'
      have k51 : cd (pX μ) a s = false → ∀ w, XAt (xw O) (oD O) K 4 51 [some (.ref (oh O)), some (.int (nI s)), some (.int (nI a)), w] [] (sQ μ g pl hp m) := by
        intro hc w
        refine x_inc1 C dX0_spread_51 rfl (by decide) ?_
        refine x_goto C 2 dX0_spread_54 (by decide) ?_
        exact x_drop 3 (ih (a + 1) g pl hp m (by omega) hSC hp0 (fun b hb hcb => by
          by_cases e : b = a
          · subst e; rw [hc] at hcb; exact absurd hcb (by decide)
          · exact hpr b (by omega) hcb))
      refine x_iload_n C dX0_spread_2 rfl ?_
      refine x_bipush C (nI 10) dX0_spread_3 (by decide) ?_
      refine xn_ic_ge C 57 dX0_spread_5 (by decide) (by omega) (by omega) (fun h => by omega) (fun _ => ?_)
      refine x_aload_n C dX0_spread_8 rfl ?_
      refine pg_given C dX0_spread_9 ?_
      refine x_iload_n C dX0_spread_12 rfl ?_
      refine pl_given C dX0_spread_13 (by omega) ?_
      refine xn_if_eq C 51 dX0_spread_14 (by decide) (show μ.2 0 a < 2 ^ 31 by omega) (fun h => k51 (cd_no h) _) (fun hgv => ?_)
      refine x_aload_n C dX0_spread_17 rfl ?_
      refine x_iload_n C dX0_spread_18 rfl ?_
      refine x_iload_n C dX0_spread_19 rfl ?_
      refine x_calli C (metP_canDo (kL K) O (sQ μ g pl hp m) (a := a) (s := s) hW ha' hs) cwp_canDo (by decide) ⟨rfl, rfl⟩ (ci := 0) (q0 := 0) rfl rfl rfl (Nat.le_of_ble_eq_true rfl) rfl dX0_spread_20 (fun r μ' hr => ?_)
      obtain ⟨rfl, hr⟩ := hr
      have hr : r = nI (cq (pX μ) a s).toNat := hr
      subst hr
      have hcd : cd (pX μ) a s = cq (pX μ) a s := cd_eq hgv
      refine xn_if_eq C 51 dX0_spread_23 (by decide) b31 (fun h => k51 (by rw [hcd]; exact b0 h) _) (fun hq => ?_)
      have hc : cd (pX μ) a s = true := by rw [hcd]; exact b1 hq
      have ht := af_lt hW ha' hs
      refine x_aload_n C dX0_spread_26 rfl ?_
      refine x_iload_n C dX0_spread_27 rfl ?_
      refine x_iload_n C dX0_spread_28 rfl ?_
      refine x_calli C (metP_after (kL K) O (sQ μ g pl hp m) (a := a) (s := s) ha' hs) cwp_after (by decide) ⟨rfl, rfl⟩ (ci := 0) (q0 := 0) rfl rfl rfl (Nat.le_of_ble_eq_true rfl) rfl dX0_spread_29 (fun r μ' hr => ?_)
      obtain ⟨rfl, hr⟩ := hr
      have hr : r = nI (af (pX μ) a s) := hr
      subst hr
      refine x_istore_n C dX0_spread_32 (by decide) ?_
      refine x_aload_n C dX0_spread_33 rfl ?_
      refine x_iload_n C dX0_spread_34 rfl ?_
      refine x_aload_n C dX0_spread_35 rfl ?_
      refine pg_cost C dX0_spread_36 ?_
      refine x_iload_n C dX0_spread_39 rfl ?_
      refine pl_cost C dX0_spread_40 (by omega) ?_
      refine x_aload_n C dX0_spread_41 rfl ?_
      refine pg_priceOf C dX0_spread_42 ?_
      refine x_iload_n C dX0_spread_45 rfl ?_
      refine pl_priceOf C dX0_spread_46 (by omega) ?_
      refine x_iadd C dX0_spread_47 (nI_add _ _) ?_
      refine x_callv C (metP_reach (kL K) O (sQ μ g pl hp m) (s := af (pX μ) a s) (v := g s + μ.2 5 a) hB (fun x hx => (hSC.2.1 x hx).1) hSC.1 ht (by omega)) cwp_reach (by decide) ⟨rfl, rfl⟩ (ci := 0) (q0 := 0) rfl rfl rfl (Nat.le_of_ble_eq_true rfl) rfl dX0_spread_48 (fun μ' hr => ?_)
      obtain ⟨g', pl', hp', n', rfl, hr⟩ := hr
      rw [sQ_sQ]
      obtain ⟨q1, q2, q3⟩ := sc_relax hW hb hs ha' hc hSC hp0 hpr hr
      refine x_inc1 C dX0_spread_51 rfl (by decide) ?_
      refine x_goto C 2 dX0_spread_54 (by decide) ?_
      exact x_drop 3 (ih (a + 1) g' pl' hp' n' (by omega) q1 q2 q3)
  refine x_iconst C (nI 0) dX0_spread_0 (by decide) ?_
  refine x_istore_n C dX0_spread_1 (by decide) ?_
  have := loop 10 0 (μ.2 15) (μ.2 16) (μ.2 17) (μ.1 18) rfl h h0 (fun b hb => by omega)
  rw [sQ_self] at this
  exact this
def fill (f : Nat → Nat) (i v : Nat) : Nat → Nat := fun x => if x < i then v else f x
theorem fill_un (f : Nat → Nat) (i v : Nat) : un (fill f i v) i v = fill f (i + 1) v := by
  funext x
  unfold un fill
  by_cases e : x = i
  · rw [if_pos e, if_pos (by omega)]
  · rw [if_neg e]
    by_cases q : x < i
    · rw [if_pos q, if_pos (by omega)]
    · rw [if_neg q, if_neg (by omega)]
theorem fill_0 (f : Nat → Nat) (v : Nat) : fill f 0 v = f := by
  funext x
  unfold fill
  rw [if_neg (by omega)]
theorem fill_in {f : Nat → Nat} {n v x : Nat} (h : x < n) : fill f n v x = v := by
  unfold fill
  rw [if_pos h]
theorem sc_init {P : PB} {b : Nat → Nat} {st : Nat} (hst : st < 256) {g0 p0 : Nat → Nat} {g pl hp lf : Nat → Nat} {n : Nat} (h1 : ∀ x, x < 256 → g0 x = 1000000) (h2 : ∀ x, x < 256 → p0 x = 1) {hp0 : Nat → Nat} {n0 : Nat}
    (h : RP b st 0 g0 p0 hp0 n0 g pl hp n) : SC P b st g pl hp n lf 0 1000000 0 256 := by
  have hs1 := h1 st hst
  have hs2 := h2 st hst
  rcases h with ⟨h, -⟩ | ⟨-, rfl, hok, hsm, h3⟩
  · rcases h with h | h <;> omega
  · have c1 : ∀ x, x < 256 → pl x ≠ 0 := by
      intro x hx
      by_cases e : x = st
      · subst e; omega
      · have := h2 x hx
        rcases hsm x hx e with q | q <;> omega
    refine ⟨hok, fun x hx => ?_, ⟨?_, fun i hi => by omega, fun x hx q => absurd q (c1 x hx)⟩, fun x hx q => absurd q (c1 x hx), fun x hx => ⟨fun q => absurd q (c1 x hx), fun _ => Nat.zero_le _⟩, un_s _ _ _, ⟨Nat.le_refl _, Or.inl rfl, fun x hx q => absurd q (c1 x hx)⟩, fun H hH x hx => ?_⟩
    · by_cases e : x = st
      · subst e
        rw [un_s]
        exact ⟨by omega, fun q => by omega⟩
      · rw [un_n e, h1 x hx]
        exact ⟨Nat.le_refl _, fun _ => rfl⟩
    · exact (cnt_none 256 fun x hx => by simp [c1 x hx]).symm
    · by_cases e : x = st
      · subst e; omega
      · rw [un_n e, h1 x hx]
        have := hH.2.1 st hst
        omega
theorem heap_init {b g p0 hp : Nat → Nat} (h : ∀ x, x < 256 → p0 x = 1) : HeapOK b g p0 hp 0 := by
  refine ⟨⟨fun i hi => by omega, fun x hx h2 => ?_⟩, fun i _ hi => by omega, (cnt_none 256 fun x hx => ?_).symm⟩
  · rw [h x hx] at h2; omega
  · simp [h x hx]
def sI (μ : XS) (g pl : Nat → Nat) : XS := sA (sA μ 15 g) 16 pl
theorem metP_searchForward (l : Launch) (O : XO) (μ : XS) (hB : BdOK μ) (hb : BOK (pX μ) (bdX μ)) (hst : μ.1 8 < 256) :
    GMi (xw O) (oD O) (xT O) l yX0_searchForward cX0_searchForward 5 (some .int) (rmk 5) [.ref (oh O)] μ
    (fun r μ' => ∃ g pl hp n lf lc best, μ' = sF μ g pl hp n lf lc ∧ r = nI best ∧ SE (pX μ) (bdX μ) (μ.1 8) g lf lc best) := by
  refine GMi.intro (own := RX0) (by decide) rfl (cat_of rfl) (Nat.le_of_ble_eq_true rfl) ?_
  intro K _ C Rt
  have hW := hB.1
  -- the main loop
  have loop : ∀ (n lc best κ : Nat) (g pl hp : Nat → Nat) (m : Nat) (lf : Nat → Nat), lc + n = 256 → SC (pX μ) (bdX μ) (μ.1 8) g pl hp m lf lc best κ 256 →
      XAt (xw O) (oD O) K 5 54 [some (.ref (oh O)), some (.int (nI best)), some (.int (nI lc)), none, none] [] (sF μ g pl hp m lf lc) := by
    intro n
    induction n with
    | zero =>
      intro lc best κ g pl hp m lf hlc hSC
      have hbest := hSC.2.2.2.2.2.2.1.1
      refine x_iload_n C dX0_searchForward_54 rfl ?_
      refine x_sipush C (nI 256) dX0_searchForward_55 (by decide) ?_
      refine xn_ic_ge C 171 dX0_searchForward_58 (by decide) (by omega) (by omega) (fun _ => ?_) (fun h => by omega)
      refine x_iload_n C dX0_searchForward_171 rfl ?_
      exact Rt 172 _ _ _ dX0_searchForward_172 rfl ⟨g, pl, hp, m, lf, lc, best, rfl, rfl, se_full hSC (by omega)⟩
    | succ n ih =>
      intro lc best κ g pl hp m lf hlc hSC
      have hbest := hSC.2.2.2.2.2.2.1.1
      have hm := heap_le hSC.1
      refine x_iload_n C dX0_searchForward_54 rfl ?_
      refine x_sipush C (nI 256) dX0_searchForward_55 (by decide) ?_
      refine xn_ic_ge C 171 dX0_searchForward_58 (by decide) (by omega) (by omega) (fun h => by omega) (fun _ => ?_)
      refine x_aload_n C dX0_searchForward_61 rfl ?_
      refine pg_heapSize C dX0_searchForward_62 ?_
      refine xn_if_le C 171 dX0_searchForward_65 (by decide) (show m < 2 ^ 31 by omega) (fun h => ?_) (fun hpos => ?_)
      · have h : m = 0 := h
        subst h
        refine x_iload_n C dX0_searchForward_171 rfl ?_
        exact Rt 172 _ _ _ dX0_searchForward_172 rfl ⟨g, pl, hp, 0, lf, lc, best, rfl, rfl, se_empty hSC⟩
      · refine x_aload_n C dX0_searchForward_68 rfl ?_
        refine x_calli C (metP_takeLeast (kL K) O (sF μ g pl hp m lf lc) hB (fun x hx => (hSC.2.1 x hx).1) hSC.1 hpos) cwp_takeLeast (by decide) ⟨rfl, rfl⟩ (ci := 0) (q0 := 0) rfl rfl rfl (Nat.le_of_ble_eq_true rfl) rfl dX0_searchForward_69 (fun r μ' hr => ?_)
        obtain ⟨hr, pl', hp', n', rfl, hTP⟩ := hr
        have hr : r = nI (hp 0) := hr
        have hTP : TP (bdX μ) g pl hp m pl' hp' n' := hTP
        rw [sF_sQ]
        have e15 : (sF μ g pl hp m lf lc).2 15 = g := rfl
        rw [e15]
        obtain ⟨hS2, hs0, hs, hlc2⟩ := sc_pop hSC hTP
        generalize hsd : hp 0 = s at *
        subst hr
        have hgs := (hSC.2.1 s hs).1
        have hky : ky (bdX μ) g s ≤ 2000000 := by
          have : bdX μ s ≤ 1000000 := bdX_le hB s 8 (by decide)
          unfold ky; omega
        have hn' := heap_le hS2.1
        have k100 : (best < ky (bdX μ) g s ∨ 1000000 ≤ ky (bdX μ) g s) → XAt (xw O) (oD O) K 5 100 [some (.ref (oh O)), some (.int (nI best)), some (.int (nI lc)), some (.int (nI s)), some (.int (nI (ky (bdX μ) g s)))] [] (sF μ g pl' hp' n' lf lc) := by
          intro hstop
          have hSE := se_stop hSC (by rw [hsd]; exact hstop)
          have e : sS (sF μ g pl' hp' n' lf lc) 18 0 = sF μ g pl' hp' 0 lf lc := by
            apply Prod.ext <;> funext j <;> simp only [sF, sQ, sHP, sA, sS] <;> (repeat' split) <;> first | rfl | omega
          refine x_aload_n C dX0_searchForward_100 rfl ?_
          refine x_iconst C (nI 0) dX0_searchForward_101 (by decide) ?_
          refine pp_heapSize C dX0_searchForward_102 ?_
          refine x_goto C 165 dX0_searchForward_105 (by decide) ?_
          refine x_inc1 C dX0_searchForward_165 rfl (by decide) ?_
          refine x_goto C 54 dX0_searchForward_168 (by decide) ?_
          rw [e]
          refine x_iload_n C dX0_searchForward_54 rfl ?_
          refine x_sipush C (nI 256) dX0_searchForward_55 (by decide) ?_
          have k171 : ∀ w : List (Option Value), XAt (xw O) (oD O) K 5 171 (some (.ref (oh O)) :: some (.int (nI best)) :: w) [] (sF μ g pl' hp' 0 lf lc) := by
            intro w
            refine x_iload_n C dX0_searchForward_171 rfl ?_
            exact Rt 172 _ _ _ dX0_searchForward_172 rfl ⟨g, pl', hp', 0, lf, lc, best, rfl, rfl, hSE⟩
          refine xn_ic_ge C 171 dX0_searchForward_58 (by decide) (by omega) (by omega) (fun _ => k171 _) (fun _ => ?_)
          refine x_aload_n C dX0_searchForward_61 rfl ?_
          refine pg_heapSize C dX0_searchForward_62 ?_
          refine xn_if_le C 171 dX0_searchForward_65 (by decide) (show 0 < 2 ^ 31 by decide) (fun _ => k171 _) (fun h => absurd (show 0 < 0 from h) (by decide))
        refine x_istore_n C dX0_searchForward_72 (by decide) ?_
        refine x_aload_n C dX0_searchForward_73 rfl ?_
        refine pg_cost C dX0_searchForward_74 ?_
        refine x_iload_n C dX0_searchForward_77 rfl ?_
        refine pl_cost C dX0_searchForward_78 (by omega) ?_
        refine x_aload_n C dX0_searchForward_79 rfl ?_
        refine x_iload_n C dX0_searchForward_80 rfl ?_
        refine x_calli C (metP_bound (kL K) O (sF μ g pl' hp' n' lf lc) (s := s) hB hs) cwp_bound (by decide) ⟨rfl, rfl⟩ (ci := 0) (q0 := 0) rfl rfl rfl (Nat.le_of_ble_eq_true rfl) rfl dX0_searchForward_81 (fun r μ' hr => ?_)
        obtain ⟨rfl, hr⟩ := hr
        have hr : r = nI (bdX μ s) := hr
        subst hr
        refine x_iadd C dX0_searchForward_84 (nI_add _ _) ?_
        refine x_top (y := nI (ky (bdX μ) g s)) rfl ?_
        refine x_istore C dX0_searchForward_85 (by decide) ?_
        refine x_iload C dX0_searchForward_87 rfl ?_
        refine x_iload_n C dX0_searchForward_89 rfl ?_
        refine xn_ic_gt C 100 dX0_searchForward_90 (by decide) (by omega) (by omega) (fun h => k100 (Or.inl h)) (fun hle => ?_)
        refine x_iload C dX0_searchForward_93 rfl ?_
        refine x_ldc C (nI 1000000) q153 dX0_searchForward_95 (by decide) ?_
        refine xn_ic_lt C 108 dX0_searchForward_97 (by decide) (by omega) (by omega) (fun hfar => ?_) (fun h => k100 (Or.inr h))
        have e : sS (sA (sF μ g pl' hp' n' lf lc) 19 (un lf lc s)) 20 (lc + 1) = sF μ g pl' hp' n' (un lf lc s) (lc + 1) := by
          apply Prod.ext <;> funext j <;> simp only [sF, sQ, sHP, sA, sS] <;> (repeat' split) <;> first | rfl | omega
        refine x_aload_n C dX0_searchForward_108 rfl ?_
        refine pg_left C dX0_searchForward_109 ?_
        refine x_aload_n C dX0_searchForward_112 rfl ?_
        refine pg_leftCount C dX0_searchForward_113 ?_
        refine x_iload_n C dX0_searchForward_116 rfl ?_
        refine ps_left C dX0_searchForward_117 hlc2 ?_
        refine x_aload_n C dX0_searchForward_118 rfl ?_
        refine x_dup C dX0_searchForward_119 rfl ?_
        refine pg_leftCount C dX0_searchForward_120 ?_
        refine x_iconst C (nI 1) dX0_searchForward_123 (by decide) ?_
        refine x_iadd C dX0_searchForward_124 (nI_add _ _) ?_
        refine pp_leftCount C dX0_searchForward_125 ?_
        have k165 : ∀ (best' κ' : Nat) (g' pl2 hp2 : Nat → Nat) (n2 : Nat), SC (pX μ) (bdX μ) (μ.1 8) g' pl2 hp2 n2 (un lf lc s) (lc + 1) best' κ' 256 → XAt (xw O) (oD O) K 5 165 [some (.ref (oh O)), some (.int (nI (best'))), some (.int (nI lc)), some (.int (nI s)), some (.int (nI (ky (bdX μ) g s)))] [] (sF μ g' pl2 hp2 n2 (un lf lc s) (lc + 1)) := by
          intro best' κ' g' pl2 hp2 n2 hS3
          refine x_inc1 C dX0_searchForward_165 rfl (by decide) ?_
          refine x_goto C 54 dX0_searchForward_168 (by decide) ?_
          exact x_drop 3 (x_drop 4 (ih (lc + 1) best' κ' g' pl2 hp2 n2 (un lf lc s) (by omega) hS3))
        refine show XAt (xw O) (oD O) K 5 _ _ _ (sS (sA (sF μ g pl' hp' n' lf lc) 19 (un lf lc s)) 20 (lc + 1)) from ?_
        rw [e]
        refine x_aload_n C dX0_searchForward_128 rfl ?_
        refine x_iload_n C dX0_searchForward_129 rfl ?_
        refine x_calli C (metP_isGoal (kL K) O (sF μ g pl' hp' n' (un lf lc s) (lc + 1)) (s := s) hW hs) cwp_isGoal (by decide) ⟨rfl, rfl⟩ (ci := 0) (q0 := 0) rfl rfl rfl (Nat.le_of_ble_eq_true rfl) rfl dX0_searchForward_130 (fun r μ' hr => ?_)
        obtain ⟨rfl, hr⟩ := hr
        have hr : r = nI (gl (pX μ) s).toNat := hr
        subst hr
        refine xn_if_eq C 160 dX0_searchForward_133 (by decide) b31 (fun hng => ?_) (fun hgo => ?_)
        · refine x_aload_n C dX0_searchForward_160 rfl ?_
          refine x_iload_n C dX0_searchForward_161 rfl ?_
          refine x_callv C (metP_spread (kL K) O (sF μ g pl' hp' n' (un lf lc s) (lc + 1)) (s := s) (st := μ.1 8) (best := best) hB hb hs hS2 hs0) cwp_spread (by decide) ⟨rfl, rfl⟩ (ci := 0) (q0 := 0) rfl rfl rfl (Nat.le_of_ble_eq_true rfl) rfl dX0_searchForward_162 (fun μ' hr => ?_)
          obtain ⟨g', pl2, hp2, n2, rfl, q1, q2, q3⟩ := hr
          rw [sF_sQ]
          exact k165 best _ g' pl2 hp2 n2 (sc_spread (b0 hng) q1 q3)
        · have hS3 := sc_goal hs hs0 (b1 hgo) hS2
          refine x_aload_n C dX0_searchForward_136 rfl ?_
          refine pg_cost C dX0_searchForward_137 ?_
          refine x_iload_n C dX0_searchForward_140 rfl ?_
          refine pl_cost C dX0_searchForward_141 (by omega) ?_
          refine x_iload_n C dX0_searchForward_142 rfl ?_
          refine xn_ic_ge C 155 dX0_searchForward_143 (by decide) (show g s < 2 ^ 31 by omega) (by omega) (fun hge => ?_) (fun hlt => ?_)
          · have hge : best ≤ g s := hge
            refine x_iload_n C dX0_searchForward_155 rfl ?_
            refine x_istore_n C dX0_searchForward_156 (by decide) ?_
            refine x_goto C 165 dX0_searchForward_157 (by decide) ?_
            rw [if_neg (by omega)] at hS3
            exact k165 best _ g pl' hp' n' hS3
          · have hlt : g s < best := hlt
            refine x_aload_n C dX0_searchForward_146 rfl ?_
            refine pg_cost C dX0_searchForward_147 ?_
            refine x_iload_n C dX0_searchForward_150 rfl ?_
            refine pl_cost C dX0_searchForward_151 (by omega) ?_
            refine x_goto C 156 dX0_searchForward_152 (by decide) ?_
            refine x_istore_n C dX0_searchForward_156 (by decide) ?_
            refine x_goto C 165 dX0_searchForward_157 (by decide) ?_
            rw [if_pos hlt] at hS3
            exact k165 (g s) _ g pl' hp' n' hS3
  -- the first loop
  have fillL : ∀ (n i : Nat), i + n = 256 → XAt (xw O) (oD O) K 5 2 [some (.ref (oh O)), some (.int (nI i)), none, none, none] [] (sI μ (fill (μ.2 15) i 1000000) (fill (μ.2 16) i 1)) := by
    intro n
    induction n with
    | zero =>
      intro i hi
      have ei : i = 256 := by omega
      subst ei
      refine x_iload_n C dX0_searchForward_2 rfl ?_
      refine x_sipush C (nI 256) dX0_searchForward_3 (by decide) ?_
      refine xn_ic_ge C 30 dX0_searchForward_6 (by decide) (by omega) (by omega) (fun _ => ?_) (fun h => by omega)
      have e : sS (sS (sI μ (fill (μ.2 15) 256 1000000) (fill (μ.2 16) 256 1)) 18 0) 20 0 = sF μ (fill (μ.2 15) 256 1000000) (fill (μ.2 16) 256 1) (μ.2 17) 0 (μ.2 19) 0 := by
        apply Prod.ext <;> funext j <;> simp only [sI, sF, sQ, sHP, sA, sS] <;> (repeat' split) <;> first | rfl | (simp_all; done) | omega
      have f15 : ∀ x, x < 256 → fill (μ.2 15) 256 1000000 x = 1000000 := fun x hx => fill_in hx
      have f16 : ∀ x, x < 256 → fill (μ.2 16) 256 1 x = 1 := fun x hx => fill_in hx
      generalize fill (μ.2 15) 256 1000000 = g0 at *
      generalize fill (μ.2 16) 256 1 = p0 at *
      refine x_aload_n C dX0_searchForward_30 rfl ?_
      refine x_iconst C (nI 0) dX0_searchForward_31 (by decide) ?_
      refine pp_heapSize C dX0_searchForward_32 ?_
      refine x_aload_n C dX0_searchForward_35 rfl ?_
      refine x_iconst C (nI 0) dX0_searchForward_36 (by decide) ?_
      refine pp_leftCount C dX0_searchForward_37 ?_
      rw [e]
      refine x_ldc C (nI 1000000) q153 dX0_searchForward_40 (by decide) ?_
      refine x_istore_n C dX0_searchForward_42 (by decide) ?_
      refine x_aload_n C dX0_searchForward_43 rfl ?_
      refine x_aload_n C dX0_searchForward_44 rfl ?_
      refine pg_nowState C dX0_searchForward_45 ?_
      refine x_iconst C (nI 0) dX0_searchForward_48 (by decide) ?_
      refine x_callv C (metP_reach (kL K) O (sF μ g0 p0 (μ.2 17) 0 (μ.2 19) 0) (s := μ.1 8) (v := 0) hB (fun x hx => by rw [show (sF μ g0 p0 (μ.2 17) 0 (μ.2 19) 0).2 15 x = g0 x from rfl, f15 x hx]; exact Nat.le_refl _) (heap_init f16) hst (by decide)) cwp_reach (by decide) ⟨rfl, rfl⟩ (ci := 0) (q0 := 0) rfl rfl rfl (Nat.le_of_ble_eq_true rfl) rfl dX0_searchForward_49 (fun μ' hr => ?_)
      obtain ⟨g', pl', hp', n', rfl, hr⟩ := hr
      rw [sF_sQ]
      have hS := sc_init (P := pX μ) (lf := μ.2 19) hst f15 f16 hr
      refine x_iconst C (nI 0) dX0_searchForward_52 (by decide) ?_
      refine x_istore_n C dX0_searchForward_53 (by decide) ?_
      exact loop 256 0 1000000 0 g' pl' hp' n' (μ.2 19) rfl hS
    | succ n ih =>
      intro i hi
      have e : sA (sA (sI μ (fill (μ.2 15) i 1000000) (fill (μ.2 16) i 1)) 15 (un (fill (μ.2 15) i 1000000) i 1000000)) 16 (un (fill (μ.2 16) i 1) i 1) = sI μ (fill (μ.2 15) (i + 1) 1000000) (fill (μ.2 16) (i + 1) 1) := by
        rw [fill_un, fill_un]
        apply Prod.ext <;> funext j <;> simp only [sI, sA] <;> (repeat' split) <;> first | rfl | omega
      refine x_iload_n C dX0_searchForward_2 rfl ?_
      refine x_sipush C (nI 256) dX0_searchForward_3 (by decide) ?_
      refine xn_ic_ge C 30 dX0_searchForward_6 (by decide) (by omega) (by omega) (fun h => by omega) (fun _ => ?_)
      refine x_aload_n C dX0_searchForward_9 rfl ?_
      refine pg_cost C dX0_searchForward_10 ?_
      refine x_iload_n C dX0_searchForward_13 rfl ?_
      refine x_ldc C (nI 1000000) q153 dX0_searchForward_14 (by decide) ?_
      refine ps_cost C dX0_searchForward_16 (by omega) ?_
      refine x_aload_n C dX0_searchForward_17 rfl ?_
      refine pg_place C dX0_searchForward_18 ?_
      refine x_iload_n C dX0_searchForward_21 rfl ?_
      refine x_iconst C (nI 1 - 2) dX0_searchForward_22 (by decide) ?_
      refine ps_place C dX0_searchForward_23 (by omega) ?_
      refine show XAt (xw O) (oD O) K 5 _ _ _ (sA (sA (sI μ (fill (μ.2 15) i 1000000) (fill (μ.2 16) i 1)) 15 (un (fill (μ.2 15) i 1000000) i 1000000)) 16 (un (fill (μ.2 16) i 1) i 1)) from ?_
      rw [e]
      refine x_inc1 C dX0_searchForward_24 rfl (by decide) ?_
      refine x_goto C 2 dX0_searchForward_27 (by decide) ?_
      exact ih (i + 1) (by omega)
  refine x_iconst C (nI 0) dX0_searchForward_0 (by decide) ?_
  refine x_istore_n C dX0_searchForward_1 (by decide) ?_
  have := fillL 256 0 rfl
  rw [fill_0, fill_0, show sI μ (μ.2 15) (μ.2 16) = μ by unfold sI; rw [sA_self, sA_self]] at this
  exact this
end
section
/-! WALKS of the planner: findCheapest, bestAction, markBest, choosePlan -/
theorem bit_shr {x f : Nat} : x / 2 ^ f &&& 1 = 0 ↔ x.testBit f = false := by
  rw [Nat.and_one_is_mod, Nat.testBit_eq_decide_div_mod_eq]
  have : x / 2 ^ f % 2 < 2 := Nat.mod_lt _ (by decide)
  constructor
  · intro h; rw [h]; rfl
  · intro h
    have h1 := of_decide_eq_false h
    omega
theorem bit_drop {d a f : Nat} (hf : f < 8) : (d &&& (a ^^^ 4294967295)) &&& 2 ^ f = 0 ↔ ¬ (d.testBit f = true ∧ a.testBit f = false) := by
  rw [bit_and, Nat.testBit_and, Nat.testBit_xor, bitFF f hf]
  cases d.testBit f <;> cases a.testBit f <;> simp
theorem bit_not {x f : Nat} (h : ¬ x.testBit f = false) : x.testBit f = true := by
  cases q : x.testBit f with
  | true => rfl
  | false => exact absurd q h
/-- the least prices at the fact f, over the actions below n -/
def CA (P : PB) (n r w f : Nat) : Prop := r ≤ 1000000 ∧ w ≤ 1000000 ∧ ∀ a, a < n → P 0 a ≠ 0 → ((P 3 a).testBit f = true → r ≤ P 5 a) ∧ ((P 4 a).testBit f = true → (P 3 a).testBit f = false → w ≤ P 5 a)
def sC (μ : XS) (ra lo : Nat → Nat) : XS := sA (sA μ 22 ra) 23 lo
theorem sC_s (μ : XS) (ra lo r' l' : Nat → Nat) : sA (sA (sC μ ra lo) 22 r') 23 l' = sC μ r' l' := by
  apply Prod.ext <;> funext j <;> simp only [sC, sA] <;> (repeat' split) <;> first | rfl | omega
theorem sC_22 (μ : XS) (ra lo r' : Nat → Nat) : sA (sC μ ra lo) 22 r' = sC μ r' lo := by
  apply Prod.ext <;> funext j <;> simp only [sC, sA] <;> (repeat' split) <;> first | rfl | omega
theorem sC_23 (μ : XS) (ra lo l' : Nat → Nat) : sA (sC μ ra lo) 23 l' = sC μ ra l' := by
  apply Prod.ext <;> funext j <;> simp only [sC, sA] <;> (repeat' split) <;> first | rfl | omega
theorem un_un (f : Nat → Nat) (k v w : Nat) : un (un f k v) k w = un f k w := by
  funext j
  unfold un
  split <;> rfl
theorem metP_findCheapest (l : Launch) (O : XO) (μ : XS) (hW : PW (pX μ)) : GMv (xw O) (oD O) (xT O) l yX0_findCheapest cX0_findCheapest 5 (rmk 0) [.ref (oh O)] μ
    (fun μ' => ∃ ra lo, μ' = sC μ ra lo ∧ Cheap (pX μ) ra lo) := by
  refine GMv.intro (own := RX0) (by decide) rfl (cat_of rfl) (Nat.le_of_ble_eq_true rfl) ?_
  intro K _ C Rt
  have outer : ∀ (n f : Nat) (ra lo : Nat → Nat), f + n = 8 → (∀ e, e < f → CA (pX μ) 10 (ra e) (lo e) e) → XAt (xw O) (oD O) K 5 2 [some (.ref (oh O)), some (.int (nI f)), none, none, none] [] (sC μ ra lo) := by
    intro n
    induction n with
    | zero =>
      intro f ra lo hf hA
      refine x_iload_n C dX0_findCheapest_2 rfl ?_
      refine x_bipush C (nI 8) dX0_findCheapest_3 (by decide) ?_
      refine xn_ic_ge C 173 dX0_findCheapest_5 (by decide) (by omega) (by omega) (fun _ => ?_) (fun h => by omega)
      exact Rt 173 _ _ dX0_findCheapest_173 (⟨ra, lo, rfl, fun e he => ⟨(hA e (by omega)).1, (hA e (by omega)).2.1⟩, fun a ha hg e he => (hA e (by omega)).2.2 a ha hg⟩)
    | succ n ih =>
      intro f ra lo hf hA
      have hf8 : f < 8 := by omega
      have inner : ∀ (m a r w : Nat), a + m = 10 → CA (pX μ) a r w f → XAt (xw O) (oD O) K 5 26 [some (.ref (oh O)), some (.int (nI f)), some (.int (nI a)), none, none] [] (sC μ (un ra f r) (un lo f w)) := by
        intro m
        induction m with
        | zero =>
          intro a r w ha hC
          refine x_iload_n C dX0_findCheapest_26 rfl ?_
          refine x_bipush C (nI 10) dX0_findCheapest_27 (by decide) ?_
          refine xn_ic_ge C 167 dX0_findCheapest_29 (by decide) (by omega) (by omega) (fun _ => ?_) (fun h => by omega)
          refine x_inc1 C dX0_findCheapest_167 rfl (by decide) ?_
          refine x_goto C 2 dX0_findCheapest_170 (by decide) ?_
          have ea : a = 10 := by omega
          subst ea
          exact x_drop 2 (ih (f + 1) (un ra f r) (un lo f w) (by omega) (fun e he => by
            by_cases q : e = f
            · subst q; rw [un_s, un_s]; exact hC
            · rw [un_n q, un_n q]; exact hA e (by omega)))
        | succ m ih2 =>
          intro a r w ha hC
          have ha' : a < 10 := by omega
          obtain ⟨h0, h1, h2, h3, h4, h5, h6⟩ := hW.1 a ha'
          have h0 : μ.2 0 a ≤ 1 := h0
          have h3 : μ.2 3 a < 256 := h3
          have h4 : μ.2 4 a < 256 := h4
          have h5 : μ.2 5 a ≤ 50 := h5
          obtain ⟨c1, c2, c3⟩ := hC
          have k161 : ∀ (r' w' u d : Nat), CA (pX μ) (a + 1) r' w' f → XAt (xw O) (oD O) K 5 161 [some (.ref (oh O)), some (.int (nI f)), some (.int (nI a)), some (.int (nI u)), some (.int (nI d))] [] (sC μ (un ra f r') (un lo f w')) := by
            intro r' w' u d hC'
            refine x_inc1 C dX0_findCheapest_161 rfl (by decide) ?_
            refine x_goto C 26 dX0_findCheapest_164 (by decide) ?_
            exact x_drop 3 (x_drop 4 (ih2 (a + 1) r' w' (by omega) hC'))
          have k129 : ∀ (r' u d : Nat), d ≤ 1 → (d ≠ 0 ↔ (μ.2 0 a ≠ 0 ∧ (μ.2 4 a).testBit f = true ∧ (μ.2 3 a).testBit f = false)) → r' ≤ 1000000 → (∀ b, b < a + 1 → pX μ 0 b ≠ 0 → (pX μ 3 b).testBit f = true → r' ≤ pX μ 5 b) →
              XAt (xw O) (oD O) K 5 129 [some (.ref (oh O)), some (.int (nI f)), some (.int (nI a)), some (.int (nI u)), some (.int (nI d))] [] (sC μ (un ra f r') (un lo f w)) := by
            intro r' u d hd hdd hr1 hr2
            refine x_iload C dX0_findCheapest_129 rfl ?_
            refine xn_if_eq C 161 dX0_findCheapest_131 (by decide) (by omega) (fun hd0 => ?_) (fun hd0 => ?_)
            · refine k161 r' w u d ⟨hr1, c2, fun b hb hg => ⟨hr2 b hb hg, fun q1 q2 => ?_⟩⟩
              by_cases e : b = a
              · subst e; exact absurd hd0 (hdd.mpr ⟨hg, q1, q2⟩)
              · exact (c3 b (by omega) hg).2 q1 q2
            · refine x_aload_n C dX0_findCheapest_134 rfl ?_
              refine pg_priceOf C dX0_findCheapest_135 ?_
              refine x_iload_n C dX0_findCheapest_138 rfl ?_
              refine pl_priceOf C dX0_findCheapest_139 (by omega) ?_
              refine x_aload_n C dX0_findCheapest_140 rfl ?_
              refine pg_lower C dX0_findCheapest_141 ?_
              refine x_iload_n C dX0_findCheapest_144 rfl ?_
              refine pl_lower C dX0_findCheapest_145 (by omega) ?_
              rw [show (sC μ (un ra f r') (un lo f w)).2 23 f = w from un_s _ _ _]
              refine xn_ic_ge C 161 dX0_findCheapest_146 (by decide) (show μ.2 5 a < 2 ^ 31 by omega) (by omega) (fun hge => ?_) (fun hlt => ?_)
              · have hge : w ≤ μ.2 5 a := hge
                refine k161 r' w u d ⟨hr1, c2, fun b hb hg => ⟨hr2 b hb hg, fun q1 q2 => ?_⟩⟩
                by_cases e : b = a
                · subst e; exact hge
                · exact (c3 b (by omega) hg).2 q1 q2
              · have hlt : μ.2 5 a < w := hlt
                refine x_aload_n C dX0_findCheapest_149 rfl ?_
                refine pg_lower C dX0_findCheapest_150 ?_
                refine x_iload_n C dX0_findCheapest_153 rfl ?_
                refine x_aload_n C dX0_findCheapest_154 rfl ?_
                refine pg_priceOf C dX0_findCheapest_155 ?_
                refine x_iload_n C dX0_findCheapest_158 rfl ?_
                refine pl_priceOf C dX0_findCheapest_159 (by omega) ?_
                refine ps_lower C dX0_findCheapest_160 (by omega) ?_
                refine show XAt (xw O) (oD O) K 5 161 _ _ (sA (sC μ (un ra f r') (un lo f w)) 23 (un (un lo f w) f (μ.2 5 a))) from ?_
                rw [sC_23, un_un]
                refine k161 r' (μ.2 5 a) u d ⟨hr1, by omega, fun b hb hg => ⟨hr2 b hb hg, fun q1 q2 => ?_⟩⟩
                by_cases e : b = a
                · subst e; exact Nat.le_refl _
                · have := (c3 b (by omega) hg).2 q1 q2
                  omega
          have k98 : ∀ (u d : Nat), u ≤ 1 → d ≤ 1 → (u ≠ 0 ↔ (μ.2 0 a ≠ 0 ∧ (μ.2 3 a).testBit f = true)) → (d ≠ 0 ↔ (μ.2 0 a ≠ 0 ∧ (μ.2 4 a).testBit f = true ∧ (μ.2 3 a).testBit f = false)) →
              XAt (xw O) (oD O) K 5 98 [some (.ref (oh O)), some (.int (nI f)), some (.int (nI a)), some (.int (nI u)), some (.int (nI d))] [] (sC μ (un ra f r) (un lo f w)) := by
            intro u d hu hd huu hdd
            refine x_iload_n C dX0_findCheapest_98 rfl ?_
            refine xn_if_eq C 129 dX0_findCheapest_99 (by decide) (by omega) (fun hu0 => ?_) (fun hu0 => ?_)
            · refine k129 r u d hd hdd c1 (fun b hb hg q1 => ?_)
              by_cases e : b = a
              · subst e; exact absurd hu0 (huu.mpr ⟨hg, q1⟩)
              · exact (c3 b (by omega) hg).1 q1
            · refine x_aload_n C dX0_findCheapest_102 rfl ?_
              refine pg_priceOf C dX0_findCheapest_103 ?_
              refine x_iload_n C dX0_findCheapest_106 rfl ?_
              refine pl_priceOf C dX0_findCheapest_107 (by omega) ?_
              refine x_aload_n C dX0_findCheapest_108 rfl ?_
              refine pg_raise C dX0_findCheapest_109 ?_
              refine x_iload_n C dX0_findCheapest_112 rfl ?_
              refine pl_raise C dX0_findCheapest_113 (by omega) ?_
              rw [show (sC μ (un ra f r) (un lo f w)).2 22 f = r from un_s _ _ _]
              refine xn_ic_ge C 129 dX0_findCheapest_114 (by decide) (show μ.2 5 a < 2 ^ 31 by omega) (by omega) (fun hge => ?_) (fun hlt => ?_)
              · have hge : r ≤ μ.2 5 a := hge
                refine k129 r u d hd hdd c1 (fun b hb hg q1 => ?_)
                by_cases e : b = a
                · subst e; exact hge
                · exact (c3 b (by omega) hg).1 q1
              · have hlt : μ.2 5 a < r := hlt
                refine x_aload_n C dX0_findCheapest_117 rfl ?_
                refine pg_raise C dX0_findCheapest_118 ?_
                refine x_iload_n C dX0_findCheapest_121 rfl ?_
                refine x_aload_n C dX0_findCheapest_122 rfl ?_
                refine pg_priceOf C dX0_findCheapest_123 ?_
                refine x_iload_n C dX0_findCheapest_126 rfl ?_
                refine pl_priceOf C dX0_findCheapest_127 (by omega) ?_
                refine ps_raise C dX0_findCheapest_128 (by omega) ?_
                refine show XAt (xw O) (oD O) K 5 129 _ _ (sA (sC μ (un ra f r) (un lo f w)) 22 (un (un ra f r) f (μ.2 5 a))) from ?_
                rw [sC_22, un_un]
                refine k129 (μ.2 5 a) u d hd hdd (by omega) (fun b hb hg q1 => ?_)
                by_cases e : b = a
                · subst e; exact Nat.le_refl _
                · have := (c3 b (by omega) hg).1 q1
                  omega
          have k60 : ∀ (u : Nat), u ≤ 1 → (u ≠ 0 ↔ (μ.2 0 a ≠ 0 ∧ (μ.2 3 a).testBit f = true)) → XAt (xw O) (oD O) K 5 60 [some (.ref (oh O)), some (.int (nI f)), some (.int (nI a)), some (.int (nI u)), none] [] (sC μ (un ra f r) (un lo f w)) := by
            intro u hu huu
            have k95 : ¬ (μ.2 0 a ≠ 0 ∧ (μ.2 4 a).testBit f = true ∧ (μ.2 3 a).testBit f = false) → XAt (xw O) (oD O) K 5 95 [some (.ref (oh O)), some (.int (nI f)), some (.int (nI a)), some (.int (nI u)), none] [] (sC μ (un ra f r) (un lo f w)) := by
              intro hno
              refine x_iconst C (nI 0) dX0_findCheapest_95 (by decide) ?_
              refine x_istore C dX0_findCheapest_96 (by decide) ?_
              exact k98 u 0 hu (by decide) huu ⟨fun h => absurd rfl h, fun h => absurd h hno⟩
            refine x_aload_n C dX0_findCheapest_60 rfl ?_
            refine pg_given C dX0_findCheapest_61 ?_
            refine x_iload_n C dX0_findCheapest_64 rfl ?_
            refine pl_given C dX0_findCheapest_65 (by omega) ?_
            refine xn_if_eq C 95 dX0_findCheapest_66 (by decide) (show μ.2 0 a < 2 ^ 31 by omega) (fun h => k95 (fun q => q.1 h)) (fun hgv => ?_)
            have hle : (μ.2 4 a &&& (μ.2 3 a ^^^ 4294967295)) &&& 2 ^ f ≤ μ.2 4 a := Nat.le_trans and_le_l and_le_l
            refine x_aload_n C dX0_findCheapest_69 rfl ?_
            refine pg_drops C dX0_findCheapest_70 ?_
            refine x_iload_n C dX0_findCheapest_73 rfl ?_
            refine pl_drops C dX0_findCheapest_74 (by omega) ?_
            refine x_aload_n C dX0_findCheapest_75 rfl ?_
            refine pg_adds C dX0_findCheapest_76 ?_
            refine x_iload_n C dX0_findCheapest_79 rfl ?_
            refine pl_adds C dX0_findCheapest_80 (by omega) ?_
            refine x_iconst C (-1) dX0_findCheapest_81 (by decide) ?_
            refine x_ixor C dX0_findCheapest_82 (nI_xm1 _) ?_
            refine x_iand C dX0_findCheapest_83 (nI_and _ _) ?_
            refine x_iconst C (nI 1) dX0_findCheapest_84 (by decide) ?_
            refine x_iload_n C dX0_findCheapest_85 rfl ?_
            refine x_ishl C dX0_findCheapest_86 (nI_shl1 (by omega)) ?_
            refine x_iand C dX0_findCheapest_87 (nI_and _ _) ?_
            refine xn_if_eq C 95 dX0_findCheapest_88 (by decide) (show (μ.2 4 a &&& (μ.2 3 a ^^^ 4294967295)) &&& 2 ^ f < 2 ^ 31 by omega) (fun h => k95 (fun q => (bit_drop hf8).mp h q.2)) (fun hnz => ?_)
            refine x_iconst C (nI 1) dX0_findCheapest_91 (by decide) ?_
            refine x_goto C 96 dX0_findCheapest_92 (by decide) ?_
            refine x_istore C dX0_findCheapest_96 (by decide) ?_
            have hnn : (μ.2 4 a).testBit f = true ∧ (μ.2 3 a).testBit f = false := Classical.byContradiction fun q => hnz ((bit_drop hf8).mpr q)
            exact k98 u 1 hu (by decide) huu ⟨fun _ => ⟨hgv, hnn⟩, fun _ => by decide⟩
          have k58 : ¬ (μ.2 0 a ≠ 0 ∧ (μ.2 3 a).testBit f = true) → XAt (xw O) (oD O) K 5 58 [some (.ref (oh O)), some (.int (nI f)), some (.int (nI a)), none, none] [] (sC μ (un ra f r) (un lo f w)) := by
            intro hno
            refine x_iconst C (nI 0) dX0_findCheapest_58 (by decide) ?_
            refine x_istore_n C dX0_findCheapest_59 (by decide) ?_
            exact k60 0 (by decide) ⟨fun h => absurd rfl h, fun h => absurd h hno⟩
          refine x_iload_n C dX0_findCheapest_26 rfl ?_
          refine x_bipush C (nI 10) dX0_findCheapest_27 (by decide) ?_
          refine xn_ic_ge C 167 dX0_findCheapest_29 (by decide) (by omega) (by omega) (fun h => by omega) (fun _ => ?_)
          refine x_aload_n C dX0_findCheapest_32 rfl ?_
          refine pg_given C dX0_findCheapest_33 ?_
          refine x_iload_n C dX0_findCheapest_36 rfl ?_
          refine pl_given C dX0_findCheapest_37 (by omega) ?_
          refine xn_if_eq C 58 dX0_findCheapest_38 (by decide) (show μ.2 0 a < 2 ^ 31 by omega) (fun h => k58 (fun q => q.1 h)) (fun hgv => ?_)
          refine x_aload_n C dX0_findCheapest_41 rfl ?_
          refine pg_adds C dX0_findCheapest_42 ?_
          refine x_iload_n C dX0_findCheapest_45 rfl ?_
          refine pl_adds C dX0_findCheapest_46 (by omega) ?_
          refine x_iload_n C dX0_findCheapest_47 rfl ?_
          refine x_iushr C dX0_findCheapest_48 (nI_ushr h3 hf8) ?_
          refine x_iconst C (nI 1) dX0_findCheapest_49 (by decide) ?_
          refine x_iand C dX0_findCheapest_50 (nI_and _ _) ?_
          have hl1 : μ.2 3 a / 2 ^ f &&& 1 ≤ 1 := and_le_r
          refine xn_if_eq C 58 dX0_findCheapest_51 (by decide) (show μ.2 3 a / 2 ^ f &&& 1 < 2 ^ 31 by omega) (fun h => k58 (fun q => by rw [bit_shr.mp (show μ.2 3 a / 2 ^ f &&& 1 = 0 from h)] at q; exact absurd q.2 (by decide))) (fun hnz => ?_)
          refine x_iconst C (nI 1) dX0_findCheapest_54 (by decide) ?_
          refine x_goto C 59 dX0_findCheapest_55 (by decide) ?_
          refine x_istore_n C dX0_findCheapest_59 (by decide) ?_
          exact k60 1 (by decide) ⟨fun _ => ⟨hgv, bit_not (fun q => hnz (bit_shr.mpr q))⟩, fun _ => by decide⟩
      refine x_iload_n C dX0_findCheapest_2 rfl ?_
      refine x_bipush C (nI 8) dX0_findCheapest_3 (by decide) ?_
      refine xn_ic_ge C 173 dX0_findCheapest_5 (by decide) (by omega) (by omega) (fun h => by omega) (fun _ => ?_)
      refine x_aload_n C dX0_findCheapest_8 rfl ?_
      refine pg_raise C dX0_findCheapest_9 ?_
      refine x_iload_n C dX0_findCheapest_12 rfl ?_
      refine x_ldc C (nI 1000000) q153 dX0_findCheapest_13 (by decide) ?_
      refine ps_raise C dX0_findCheapest_15 (by omega) ?_
      refine x_aload_n C dX0_findCheapest_16 rfl ?_
      refine pg_lower C dX0_findCheapest_17 ?_
      refine x_iload_n C dX0_findCheapest_20 rfl ?_
      refine x_ldc C (nI 1000000) q153 dX0_findCheapest_21 (by decide) ?_
      refine ps_lower C dX0_findCheapest_23 (by omega) ?_
      refine show XAt (xw O) (oD O) K 5 24 _ _ (sA (sA (sC μ ra lo) 22 (un ra f 1000000)) 23 (un lo f 1000000)) from ?_
      rw [sC_s]
      refine x_iconst C (nI 0) dX0_findCheapest_24 (by decide) ?_
      refine x_istore_n C dX0_findCheapest_25 (by decide) ?_
      exact inner 10 0 1000000 1000000 rfl ⟨Nat.le_refl _, Nat.le_refl _, fun b hb => by omega⟩
  refine x_iconst C (nI 0) dX0_findCheapest_0 (by decide) ?_
  refine x_istore_n C dX0_findCheapest_1 (by decide) ?_
  have := outer 8 0 (μ.2 22) (μ.2 23) rfl (fun e he => by omega)
  rw [show sC μ (μ.2 22) (μ.2 23) = μ by unfold sC; rw [sA_self, sA_self]] at this
  exact this
theorem metP_bestAction (l : Launch) (O : XO) (μ : XS) {s : Nat} (hW : PW (pX μ)) (hs : s < 256) (hg : ∀ x, x < 256 → μ.2 15 x ≤ 1000000) (ho : ∀ x, x < 256 → μ.2 21 x ≤ 1) :
    GMi (xw O) (oD O) (xT O) l yX0_bestAction cX0_bestAction 4 (some .int) (rmk 1) [.ref (oh O), .int (nI s)] μ
    (fun r μ' => μ' = μ ∧ ∃ o, r = oiN o ∧ BA (pX μ) (μ.2 15) (μ.2 21) s o) := by
  refine GMi.intro (own := RX0) (by decide) rfl (cat_of rfl) (Nat.le_of_ble_eq_true rfl) ?_
  intro K _ C Rt
  refine x_aload_n C dX0_bestAction_0 rfl ?_
  refine x_iload_n C dX0_bestAction_1 rfl ?_
  refine x_calli C (metP_isGoal (kL K) O μ (s := s) hW hs) cwp_isGoal (by decide) ⟨rfl, rfl⟩ (ci := 0) (q0 := 0) rfl rfl rfl (Nat.le_of_ble_eq_true rfl) rfl dX0_bestAction_2 (fun r μ' hr => ?_)
  obtain ⟨rfl, rfl⟩ := hr
  refine xn_if_eq C 10 dX0_bestAction_5 (by decide) b31 (fun hng => ?_) (fun hgo => ?_)
  · have hng := b0 hng
    have loop : ∀ (n a : Nat), a + n = 10 → (∀ b, b < a → ¬ baOK (pX μ') (μ'.2 15) (μ'.2 21) s b) → XAt (xw O) (oD O) K 4 12 [some (.ref (oh O)), some (.int (nI s)), some (.int (nI a)), none] [] μ' := by
      intro n
      induction n with
      | zero =>
        intro a ha hno
        refine x_iload_n C dX0_bestAction_12 rfl ?_
        refine x_bipush C (nI 10) dX0_bestAction_13 (by decide) ?_
        refine xn_ic_ge C 82 dX0_bestAction_15 (by decide) (by omega) (by omega) (fun _ => ?_) (fun h => by omega)
        refine x_iconst C (-1) dX0_bestAction_82 (by decide) ?_
        exact Rt 83 _ _ _ dX0_bestAction_83 rfl ⟨rfl, none, rfl, Or.inr (fun b hb => hno b (by omega))⟩
      | succ n ih =>
        intro a ha hno
        have ha' : a < 10 := by omega
        have hg1 : μ'.2 0 a ≤ 1 := (hW.1 a ha').1
        have hp50 : μ'.2 5 a ≤ 50 := price_le hW ha'
        have hgs := hg s hs
        have k76 : ¬ baOK (pX μ') (μ'.2 15) (μ'.2 21) s a → ∀ w, XAt (xw O) (oD O) K 4 76 [some (.ref (oh O)), some (.int (nI s)), some (.int (nI a)), w] [] μ' := by
          intro hb w
          refine x_inc1 C dX0_bestAction_76 rfl (by decide) ?_
          refine x_goto C 12 dX0_bestAction_79 (by decide) ?_
          exact x_drop 3 (ih (a + 1) (by omega) (fun b hb2 => by
            by_cases e : b = a
            · subst e; exact hb
            · exact hno b (by omega)))
        refine x_iload_n C dX0_bestAction_12 rfl ?_
        refine x_bipush C (nI 10) dX0_bestAction_13 (by decide) ?_
        refine xn_ic_ge C 82 dX0_bestAction_15 (by decide) (by omega) (by omega) (fun h => by omega) (fun _ => ?_)
        refine x_aload_n C dX0_bestAction_18 rfl ?_
        refine pg_given C dX0_bestAction_19 ?_
        refine x_iload_n C dX0_bestAction_22 rfl ?_
        refine pl_given C dX0_bestAction_23 (by omega) ?_
        refine xn_if_eq C 76 dX0_bestAction_24 (by decide) (by omega) (fun h => k76 (fun q => cd_given q.1 h) _) (fun hgv => ?_)
        refine x_aload_n C dX0_bestAction_27 rfl ?_
        refine x_iload_n C dX0_bestAction_28 rfl ?_
        refine x_iload_n C dX0_bestAction_29 rfl ?_
        refine x_calli C (metP_canDo (kL K) O μ' (a := a) (s := s) hW ha' hs) cwp_canDo (by decide) ⟨rfl, rfl⟩ (ci := 0) (q0 := 0) rfl rfl rfl (Nat.le_of_ble_eq_true rfl) rfl dX0_bestAction_30 (fun r μ2 hr => ?_)
        obtain ⟨rfl, rfl⟩ := hr
        have hcd : cd (pX μ2) a s = cq (pX μ2) a s := cd_eq hgv
        refine xn_if_eq C 76 dX0_bestAction_33 (by decide) b31 (fun h => k76 (fun q => by have := q.1; rw [hcd, b0 h] at this; exact absurd this (by decide)) _) (fun hq => ?_)
        have hc : cd (pX μ2) a s = true := by rw [hcd]; exact b1 hq
        have ht := af_lt hW ha' hs
        have hgt := hg _ ht
        have hot := ho _ ht
        refine x_aload_n C dX0_bestAction_36 rfl ?_
        refine x_iload_n C dX0_bestAction_37 rfl ?_
        refine x_iload_n C dX0_bestAction_38 rfl ?_
        refine x_calli C (metP_after (kL K) O μ2 (a := a) (s := s) ha' hs) cwp_after (by decide) ⟨rfl, rfl⟩ (ci := 0) (q0 := 0) rfl rfl rfl (Nat.le_of_ble_eq_true rfl) rfl dX0_bestAction_39 (fun r μ3 hr => ?_)
        obtain ⟨rfl, rfl⟩ := hr
        refine x_istore_n C dX0_bestAction_42 (by decide) ?_
        refine x_aload_n C dX0_bestAction_43 rfl ?_
        refine pg_onBest C dX0_bestAction_44 ?_
        refine x_iload_n C dX0_bestAction_47 rfl ?_
        refine pl_onBest C dX0_bestAction_48 (by omega) ?_
        refine xn_if_eq C 76 dX0_bestAction_49 (by decide) (by omega) (fun h => k76 (fun q => q.2.1 h) _) (fun hob => ?_)
        refine x_aload_n C dX0_bestAction_52 rfl ?_
        refine pg_cost C dX0_bestAction_53 ?_
        refine x_iload_n C dX0_bestAction_56 rfl ?_
        refine pl_cost C dX0_bestAction_57 (by omega) ?_
        refine x_aload_n C dX0_bestAction_58 rfl ?_
        refine pg_cost C dX0_bestAction_59 ?_
        refine x_iload_n C dX0_bestAction_62 rfl ?_
        refine pl_cost C dX0_bestAction_63 (by omega) ?_
        refine x_aload_n C dX0_bestAction_64 rfl ?_
        refine pg_priceOf C dX0_bestAction_65 ?_
        refine x_iload_n C dX0_bestAction_68 rfl ?_
        refine pl_priceOf C dX0_bestAction_69 (by omega) ?_
        refine x_iadd C dX0_bestAction_70 (nI_add _ _) ?_
        refine xn_ic_ne C 76 dX0_bestAction_71 (by decide) (by omega) (by omega) (fun h => k76 (fun q => h q.2.2) _) (fun he => ?_)
        refine x_iload_n C dX0_bestAction_74 rfl ?_
        exact Rt 75 _ _ _ dX0_bestAction_75 rfl ⟨rfl, some a, rfl, hng, ha', ⟨hc, hob, he⟩, hno⟩
    refine x_iconst C (nI 0) dX0_bestAction_10 (by decide) ?_
    refine x_istore_n C dX0_bestAction_11 (by decide) ?_
    exact loop 10 0 rfl (fun b hb => by omega)
  · refine x_iconst C (-1) dX0_bestAction_8 (by decide) ?_
    exact Rt 9 _ _ _ dX0_bestAction_9 rfl ⟨rfl, none, rfl, Or.inl (b1 hgo)⟩
end
section
/-! WALKS of the planner: markBest, choosePlan, followPlan, makePlan -/
def cn (ob : Nat → Nat) : Nat := cnt (fun x => decide (ob x ≠ 0)) 256
theorem cn_un {ob : Nat → Nat} {s : Nat} (hs : s < 256) (h : ob s = 0) : cn (un ob s 1) = cn ob + 1 := by
  unfold cn
  exact cnt_add1 (j := s) 256 hs (fun i _ hi => by rw [un_n hi]) (by simp [un_s]) (by simp [h])
theorem cn_full {ob : Nat → Nat} (h : 256 ≤ cn ob) : ∀ x, x < 256 → ob x ≠ 0 := by
  intro x hx
  have := cnt_full (p := fun x => decide (ob x ≠ 0)) h x hx
  simpa using this
theorem nI_dec (j : Nat) : nI j + Int32.ofInt (-1) = nI j - 1 := by
  rw [Int32.sub_eq_add_neg]; rfl
theorem metP_markBest (l : Launch) (O : XO) (μ : XS) {b : Nat → Nat} {st best : Nat} (hW : PW (pX μ)) (hb : BOK (pX μ) b) (hst : st < 256) (hSE : SE (pX μ) b st (μ.2 15) (μ.2 19) (μ.1 20) best) :
    GMv (xw O) (oD O) (xT O) l yX0_markBest cX0_markBest 6 (rmk 2) [.ref (oh O), .int (nI best)] μ
    (fun μ' => ∃ ob, μ' = sA μ 21 ob ∧ (∀ x, x < 256 → ob x ≤ 1) ∧ OnB (pX μ) st (μ.2 15) (μ.2 19) (μ.1 20) ob ∧ ∀ i, i < μ.1 20 → mkb (pX μ) (μ.2 15) best ob (μ.2 19 i) → ob (μ.2 19 i) ≠ 0) := by
  refine GMv.intro (own := RX0) (by decide) rfl (cat_of rfl) (Nat.le_of_ble_eq_true rfl) ?_
  intro K _ C Rt
  have hlc := hSE.1
  have hlf := hSE.2.1
  have hg := hSE.2.2.1
  have hbest := hSE.2.2.2.2.2.1.1
  have rounds : ∀ (n rd : Nat) (ob : Nat → Nat), rd + n = 256 → (∀ x, x < 256 → ob x ≤ 1) → OnB (pX μ) st (μ.2 15) (μ.2 19) (μ.1 20) ob → rd ≤ cn ob → XAt (xw O) (oD O) K 6 24 [some (.ref (oh O)), some (.int (nI best)), some (.int (nI rd)), none, none, none] [] (sA μ 21 ob) := by
    intro n
    induction n with
    | zero =>
      intro rd ob hrd h1 hOn hcn
      refine x_iload_n C dX0_markBest_24 rfl ?_
      refine x_sipush C (nI 256) dX0_markBest_25 (by decide) ?_
      refine xn_ic_ge C 121 dX0_markBest_28 (by decide) (by omega) (by omega) (fun _ => ?_) (fun h => by omega)
      exact Rt 121 _ _ dX0_markBest_121 (⟨ob, rfl, h1, hOn, fun i hi _ => cn_full (by omega) _ (hlf i hi)⟩)
    | succ n ih =>
      intro rd ob0 hrd h10 hOn0 hcn0
      have inner : ∀ (k ch : Nat) (ob : Nat → Nat), k ≤ μ.1 20 → ch ≤ 1 → (∀ x, x < 256 → ob x ≤ 1) → OnB (pX μ) st (μ.2 15) (μ.2 19) (μ.1 20) ob → rd + ch ≤ cn ob → (ch = 0 → ∀ i, k ≤ i → i < μ.1 20 → mkb (pX μ) (μ.2 15) best ob (μ.2 19 i) → ob (μ.2 19 i) ≠ 0) →
          XAt (xw O) (oD O) K 6 41 [some (.ref (oh O)), some (.int (nI best)), some (.int (nI rd)), some (.int (nI ch)), some (.int (nI k - 1)), none] [] (sA μ 21 ob) := by
        intro k
        induction k with
        | zero =>
          intro ch ob hk hch h1 hOn hcn hfx
          refine x_iload C dX0_markBest_41 rfl ?_
          refine x_if_lt C 110 dX0_markBest_43 (by decide) (fun _ => ?_) (fun h => absurd (by decide) h)
          refine x_iload_n C dX0_markBest_110 rfl ?_
          refine xn_if_ne C 115 dX0_markBest_111 (by decide) (by omega) (fun hc => ?_) (fun hc => ?_)
          · refine x_inc1 C dX0_markBest_115 rfl (by decide) ?_
            refine x_goto C 24 dX0_markBest_118 (by decide) ?_
            exact x_drop 3 (x_drop 4 (ih (rd + 1) ob (by omega) h1 hOn (by omega)))
          · exact Rt 114 _ _ dX0_markBest_114 (⟨ob, rfl, h1, hOn, fun i hi => hfx hc i (Nat.zero_le _) hi⟩)
        | succ j ih2 =>
          intro ch ob hk hch h1 hOn hcn hfx
          rw [show nI (j + 1) - 1 = nI j from nI_pred j]
          have hj : j < μ.1 20 := by omega
          have hs := hlf j hj
          have k104 : ∀ (ch' : Nat) (ob' : Nat → Nat), ch' ≤ 1 → (∀ x, x < 256 → ob' x ≤ 1) → OnB (pX μ) st (μ.2 15) (μ.2 19) (μ.1 20) ob' → rd + ch' ≤ cn ob' → (ch' = 0 → ∀ i, j ≤ i → i < μ.1 20 → mkb (pX μ) (μ.2 15) best ob' (μ.2 19 i) → ob' (μ.2 19 i) ≠ 0) →
              XAt (xw O) (oD O) K 6 104 [some (.ref (oh O)), some (.int (nI best)), some (.int (nI rd)), some (.int (nI (ch'))), some (.int (nI j)), some (.int (nI (μ.2 19 j)))] [] (sA μ 21 ob') := by
            intro ch' ob' q1 q2 q3 q4 q5
            refine x_iinc C dX0_markBest_104 rfl (nI_dec j) (by decide) ?_
            refine x_goto C 41 dX0_markBest_107 (by decide) ?_
            exact x_drop 5 (ih2 ch' ob' (by omega) q1 q2 q3 q4 q5)
          have ks : (mkb (pX μ) (μ.2 15) best ob (μ.2 19 j) → ob (μ.2 19 j) ≠ 0) → XAt (xw O) (oD O) K 6 104 [some (.ref (oh O)), some (.int (nI best)), some (.int (nI rd)), some (.int (nI ch)), some (.int (nI j)), some (.int (nI (μ.2 19 j)))] [] (sA μ 21 ob) := by
            intro hm
            exact k104 ch ob hch h1 hOn hcn (fun hc i hi1 hi2 hmk => by
              by_cases e : i = j
              · subst e; exact hm hmk
              · exact hfx hc i (by omega) hi2 hmk)
          refine x_iload C dX0_markBest_41 rfl ?_
          refine xn_if_lt C 110 dX0_markBest_43 (by decide) (by omega) ?_
          refine x_aload_n C dX0_markBest_46 rfl ?_
          refine pg_left C dX0_markBest_47 ?_
          refine x_iload C dX0_markBest_50 rfl ?_
          refine pl_left C dX0_markBest_52 (by omega) ?_
          refine x_istore C dX0_markBest_53 (by decide) ?_
          refine x_aload_n C dX0_markBest_55 rfl ?_
          refine pg_onBest C dX0_markBest_56 ?_
          refine x_iload C dX0_markBest_59 rfl ?_
          refine pl_onBest C dX0_markBest_61 hs ?_
          have hob := h1 _ hs
          refine xn_if_ne C 104 dX0_markBest_62 (by decide) (show ob (μ.2 19 j) < 2 ^ 31 by omega) (fun h => ks (fun _ => h)) (fun h0 => ?_)
          have h0 : ob (μ.2 19 j) = 0 := h0
          have k94 : mkb (pX μ) (μ.2 15) best ob (μ.2 19 j) → XAt (xw O) (oD O) K 6 94 [some (.ref (oh O)), some (.int (nI best)), some (.int (nI rd)), some (.int (nI ch)), some (.int (nI j)), some (.int (nI (μ.2 19 j)))] [] (sA μ 21 ob) := by
            intro hm
            refine x_aload_n C dX0_markBest_94 rfl ?_
            refine pg_onBest C dX0_markBest_95 ?_
            refine x_iload C dX0_markBest_98 rfl ?_
            refine x_iconst C (nI 1) dX0_markBest_100 (by decide) ?_
            refine ps_onBest C dX0_markBest_101 (by omega) (by omega) ?_
            refine x_iconst C (nI 1) dX0_markBest_102 (by decide) ?_
            refine x_istore_n C dX0_markBest_103 (by decide) ?_
            refine show XAt (xw O) (oD O) K 6 104 _ _ (sA (sA μ 21 ob) 21 (un ob (μ.2 19 j) 1)) from ?_
            rw [sA_sA]
            refine k104 1 (un ob (μ.2 19 j) 1) (by decide) (fun x hx => ?_) (mark_sound hW hb hst hSE hOn hj hm) (by rw [cn_un hs h0]; omega) (fun h => absurd h (by decide))
            by_cases e : x = μ.2 19 j
            · rw [e, un_s]; exact Nat.le_refl _
            · rw [un_n e]; exact h1 x hx
          have k85 : ¬ (gl (pX μ) (μ.2 19 j) = true ∧ μ.2 15 (μ.2 19 j) = best) → XAt (xw O) (oD O) K 6 85 [some (.ref (oh O)), some (.int (nI best)), some (.int (nI rd)), some (.int (nI ch)), some (.int (nI j)), some (.int (nI (μ.2 19 j)))] [] (sA μ 21 ob) := by
            intro hno
            refine x_aload_n C dX0_markBest_85 rfl ?_
            refine x_iload C dX0_markBest_86 rfl ?_
            refine x_calli C (metP_bestAction (kL K) O (sA μ 21 ob) (s := μ.2 19 j) hW hs hg h1) cwp_bestAction (by decide) ⟨rfl, rfl⟩ (ci := 0) (q0 := 0) rfl rfl rfl (Nat.le_of_ble_eq_true rfl) rfl dX0_markBest_88 (fun r μ' hr => ?_)
            obtain ⟨rfl, o, rfl, hBA⟩ := hr
            have hBA : BA (pX μ) (μ.2 15) ob (μ.2 19 j) o := hBA
            cases o with
            | none =>
              refine x_if_lt C 104 dX0_markBest_91 (by decide) (fun _ => ks (fun hm => ?_)) (fun h => absurd (show (-1 : Int32) < 0 by decide) h)
              rcases hm with hm | ⟨hm1, a, ha, hm2⟩
              · exact absurd hm hno
              · rcases hBA with q | q
                · rw [hm1] at q; exact absurd q (by decide)
                · exact absurd hm2 (q a ha)
            | some a =>
              obtain ⟨q1, q2, q3, q4⟩ := hBA
              refine x_if_lt C 104 dX0_markBest_91 (by decide) (fun h => absurd h (nI_pos (by omega))) (fun _ => k94 (Or.inr ⟨q1, a, q2, q3⟩))
          refine x_aload_n C dX0_markBest_65 rfl ?_
          refine x_iload C dX0_markBest_66 rfl ?_
          refine x_calli C (metP_isGoal (kL K) O (sA μ 21 ob) (s := μ.2 19 j) hW hs) cwp_isGoal (by decide) ⟨rfl, rfl⟩ (ci := 0) (q0 := 0) rfl rfl rfl (Nat.le_of_ble_eq_true rfl) rfl dX0_markBest_68 (fun r μ' hr => ?_)
          obtain ⟨rfl, hr⟩ := hr
          have hr : r = nI (gl (pX μ) (μ.2 19 j)).toNat := hr
          subst hr
          have hgs := hg _ hs
          refine xn_if_eq C 85 dX0_markBest_71 (by decide) b31 (fun hng => k85 (fun q => by rw [b0 hng] at q; exact absurd q.1 (by decide))) (fun hgo => ?_)
          refine x_aload_n C dX0_markBest_74 rfl ?_
          refine pg_cost C dX0_markBest_75 ?_
          refine x_iload C dX0_markBest_78 rfl ?_
          refine pl_cost C dX0_markBest_80 hs ?_
          refine x_iload_n C dX0_markBest_81 rfl ?_
          refine xn_ic_eq C 94 dX0_markBest_82 (by decide) (show μ.2 15 (μ.2 19 j) < 2 ^ 31 by omega) (by omega) (fun he => k94 (Or.inl ⟨b1 hgo, he⟩)) (fun hne => k85 (fun q => hne q.2))
      refine x_iload_n C dX0_markBest_24 rfl ?_
      refine x_sipush C (nI 256) dX0_markBest_25 (by decide) ?_
      refine xn_ic_ge C 121 dX0_markBest_28 (by decide) (by omega) (by omega) (fun h => by omega) (fun _ => ?_)
      refine x_iconst C (nI 0) dX0_markBest_31 (by decide) ?_
      refine x_istore_n C dX0_markBest_32 (by decide) ?_
      refine x_aload_n C dX0_markBest_33 rfl ?_
      refine pg_leftCount C dX0_markBest_34 ?_
      refine x_iconst C (nI 1) dX0_markBest_37 (by decide) ?_
      refine x_isub C dX0_markBest_38 rfl ?_
      refine x_istore C dX0_markBest_39 (by decide) ?_
      exact inner (μ.1 20) 0 ob0 (Nat.le_refl _) (by decide) h10 hOn0 (by omega) (fun _ i h1 h2 => by omega)
  have fillL : ∀ (n i : Nat), i + n = 256 → XAt (xw O) (oD O) K 6 2 [some (.ref (oh O)), some (.int (nI best)), some (.int (nI i)), none, none, none] [] (sA μ 21 (fill (μ.2 21) i 0)) := by
    intro n
    induction n with
    | zero =>
      intro i hi
      have ei : i = 256 := by omega
      subst ei
      refine x_iload_n C dX0_markBest_2 rfl ?_
      refine x_sipush C (nI 256) dX0_markBest_3 (by decide) ?_
      refine xn_ic_ge C 22 dX0_markBest_6 (by decide) (by omega) (by omega) (fun _ => ?_) (fun h => by omega)
      refine x_iconst C (nI 0) dX0_markBest_22 (by decide) ?_
      refine x_istore_n C dX0_markBest_23 (by decide) ?_
      exact rounds 256 0 _ rfl (fun x hx => by rw [fill_in hx]; decide) (fun x hx h => absurd (fill_in hx) h) (Nat.zero_le _)
    | succ n ih =>
      intro i hi
      refine x_iload_n C dX0_markBest_2 rfl ?_
      refine x_sipush C (nI 256) dX0_markBest_3 (by decide) ?_
      refine xn_ic_ge C 22 dX0_markBest_6 (by decide) (by omega) (by omega) (fun h => by omega) (fun _ => ?_)
      refine x_aload_n C dX0_markBest_9 rfl ?_
      refine pg_onBest C dX0_markBest_10 ?_
      refine x_iload_n C dX0_markBest_13 rfl ?_
      refine x_iconst C (nI 0) dX0_markBest_14 (by decide) ?_
      refine ps_onBest C dX0_markBest_15 (by omega) (by omega) ?_
      refine show XAt (xw O) (oD O) K 6 16 _ _ (sA (sA μ 21 (fill (μ.2 21) i 0)) 21 (un (fill (μ.2 21) i 0) i 0)) from ?_
      rw [sA_sA, fill_un]
      refine x_inc1 C dX0_markBest_16 rfl (by decide) ?_
      refine x_goto C 2 dX0_markBest_19 (by decide) ?_
      exact ih (i + 1) (by omega)
  refine x_iconst C (nI 0) dX0_markBest_0 (by decide) ?_
  refine x_istore_n C dX0_markBest_1 (by decide) ?_
  have := fillL 256 0 rfl
  rw [fill_0, sA_self] at this
  exact this
theorem metP_choosePlan (l : Launch) (O : XO) (μ : XS) {b : Nat → Nat} {best : Nat} (hW : PW (pX μ)) (hb : BOK (pX μ) b) (hst : μ.1 8 < 256) (hSE : SE (pX μ) b (μ.1 8) (μ.2 15) (μ.2 19) (μ.1 20) best) (hbest : best < 1000000) (h1 : ∀ x, x < 256 → μ.2 21 x ≤ 1)
    (hOn : OnB (pX μ) (μ.1 8) (μ.2 15) (μ.2 19) (μ.1 20) (μ.2 21)) (hfx : ∀ i, i < μ.1 20 → mkb (pX μ) (μ.2 15) best (μ.2 21) (μ.2 19 i) → μ.2 21 (μ.2 19 i) ≠ 0) (hl0 : μ.1 11 = 0) :
    GMv (xw O) (oD O) (xT O) l yX0_choosePlan cX0_choosePlan 5 (rmk 2) [.ref (oh O), .int (nI best)] μ
    (fun μ' => ∃ pl n, μ' = sS (sA μ 14 pl) 11 n ∧ n ≤ 255 ∧ (∀ j, j < n → pl j < 10) ∧ ∀ H, FixH (pX μ) H → ChainOK (pX μ) H pl (μ.1 8) n) := by
  refine GMv.intro (own := RX0) (by decide) rfl (cat_of rfl) (Nat.le_of_ble_eq_true rfl) ?_
  intro K _ C Rt
  have hg := hSE.2.2.1
  obtain ⟨H0, hH0⟩ := fix_exists (pX μ)
  have hall : ∀ H, FixH (pX μ) H → ∀ x, x < 256 → μ.2 15 x + H x = H (μ.1 8) → μ.2 21 x ≠ 0 := fun H hH => mark_all hW hb hst hSE hbest hfx hH
  have hbe : ∀ H, FixH (pX μ) H → H (μ.1 8) = best := fun H hH => se_best hW hb hst hSE hH
  have k80 : ∀ (pl : Nat → Nat) (k s : Nat) (rest : List (Option Value)), k ≤ 255 → (∀ j, j < k → pl j < 10) → s = runTo (pX μ) pl (μ.1 8) k → s < 256 → gl (pX μ) s = true → (∀ H, FixH (pX μ) H → ∀ j, j < k → H (runTo (pX μ) pl (μ.1 8) j) ≠ 0 ∧ IsFirst (pX μ) H (runTo (pX μ) pl (μ.1 8) j) (pl j)) →
      XAt (xw O) (oD O) K 5 80 (some (.ref (oh O)) :: rest) [] (sS (sA μ 14 pl) 11 k) := by
    intro pl k s rest hk hp hs hs2 hgo hch
    exact Rt 80 _ _ dX0_choosePlan_80 (⟨pl, k, rfl, hk, hp, fun H hH => ⟨hch H hH, by rw [← hs]; exact hH.1 s hs2 hgo⟩⟩)
  have loop : ∀ (n k s : Nat) (pl : Nat → Nat), k + n = 255 → (∀ j, j < k → pl j < 10) → s = runTo (pX μ) pl (μ.1 8) k → s < 256 → μ.2 21 s ≠ 0 → rk H0 s + k ≤ 255 → (∀ H, FixH (pX μ) H → ∀ j, j < k → H (runTo (pX μ) pl (μ.1 8) j) ≠ 0 ∧ IsFirst (pX μ) H (runTo (pX μ) pl (μ.1 8) j) (pl j)) →
      XAt (xw O) (oD O) K 5 7 [some (.ref (oh O)), some (.int (nI best)), some (.int (nI s)), some (.int (nI k)), none] [] (sS (sA μ 14 pl) 11 k) := by
    intro n
    induction n with
    | zero =>
      intro k s pl hk hp hs hs2 hob hrk hch
      refine x_iload_n C dX0_choosePlan_7 rfl ?_
      refine x_sipush C (nI 255) dX0_choosePlan_8 (by decide) ?_
      refine xn_ic_ge C 80 dX0_choosePlan_11 (by decide) (by omega) (by omega) (fun _ => k80 pl k s _ (by omega) hp hs hs2 ?_ hch) (fun h => by omega)
      cases hgo : gl (pX μ) s with
      | true => rfl
      | false =>
        have h0 : H0 s ≠ 0 := fun e => by rw [(fix_zero hW hH0 hs2).mp e] at hgo; exact absurd hgo (by decide)
        have he := (hOn s hs2 hob).2 H0 hH0
        have hbe0 := hbe H0 hH0
        obtain ⟨a, ha⟩ := first_exists hH0 hs2 h0 (by omega)
        have := rk_lt (af_lt hW ha.1 hs2) (first_lt hW ha)
        omega
    | succ n ih =>
      intro k s pl hk hp hs hs2 hob hrk hch
      refine x_iload_n C dX0_choosePlan_7 rfl ?_
      refine x_sipush C (nI 255) dX0_choosePlan_8 (by decide) ?_
      refine xn_ic_ge C 80 dX0_choosePlan_11 (by decide) (by omega) (by omega) (fun h => by omega) (fun _ => ?_)
      refine x_aload_n C dX0_choosePlan_14 rfl ?_
      refine x_iload_n C dX0_choosePlan_15 rfl ?_
      refine x_calli C (metP_isGoal (kL K) O (sS (sA μ 14 pl) 11 k) (s := s) hW hs2) cwp_isGoal (by decide) ⟨rfl, rfl⟩ (ci := 0) (q0 := 0) rfl rfl rfl (Nat.le_of_ble_eq_true rfl) rfl dX0_choosePlan_16 (fun r μ' hr => ?_)
      obtain ⟨rfl, hr⟩ := hr
      have hr : r = nI (gl (pX μ) s).toNat := hr
      subst hr
      have hgs := hg s hs2
      refine xn_if_eq C 32 dX0_choosePlan_19 (by decide) b31 (fun hng => ?_) (fun hgo => ?_)
      · have hng := b0 hng
        refine x_aload_n C dX0_choosePlan_32 rfl ?_
        refine x_iload_n C dX0_choosePlan_33 rfl ?_
        refine x_calli C (metP_bestAction (kL K) O (sS (sA μ 14 pl) 11 k) (s := s) hW hs2 hg h1) cwp_bestAction (by decide) ⟨rfl, rfl⟩ (ci := 0) (q0 := 0) rfl rfl rfl (Nat.le_of_ble_eq_true rfl) rfl dX0_choosePlan_34 (fun r μ' hr => ?_)
        obtain ⟨rfl, o, rfl, hBA⟩ := hr
        have hBA : BA (pX μ) (μ.2 15) (μ.2 21) s o := hBA
        cases o with
        | none =>
          have hbe0 := hbe H0 hH0
          exact absurd hBA (best_some hW hOn hH0 hSE (hall H0 hH0) hs2 hob hng (by omega))
        | some a =>
          have hfirst : ∀ H, FixH (pX μ) H → IsFirst (pX μ) H s a := fun H hH => best_first hW hOn hH hSE (hall H hH) hs2 hob hng hBA
          obtain ⟨q1, ha, q3, q4⟩ := hBA
          refine show XAt (xw O) (oD O) K 5 _ _ [.int (nI a)] _ from ?_
          refine x_istore C dX0_choosePlan_37 (by decide) ?_
          refine x_iload C dX0_choosePlan_39 rfl ?_
          refine xn_if_ge C 45 dX0_choosePlan_41 (by decide) (by omega) ?_
          refine x_aload_n C dX0_choosePlan_45 rfl ?_
          refine pg_plan C dX0_choosePlan_46 ?_
          refine x_aload_n C dX0_choosePlan_49 rfl ?_
          refine pg_planLength C dX0_choosePlan_50 ?_
          refine x_iload C dX0_choosePlan_53 rfl ?_
          refine ps_plan C dX0_choosePlan_55 (show k < 256 by omega) ?_
          refine x_aload_n C dX0_choosePlan_56 rfl ?_
          refine x_dup C dX0_choosePlan_57 rfl ?_
          refine pg_planLength C dX0_choosePlan_58 ?_
          refine x_iconst C (nI 1) dX0_choosePlan_61 (by decide) ?_
          refine x_iadd C dX0_choosePlan_62 (nI_add _ _) ?_
          refine pp_planLength C dX0_choosePlan_63 ?_
          refine x_aload_n C dX0_choosePlan_66 rfl ?_
          refine x_iload C dX0_choosePlan_67 rfl ?_
          refine x_iload_n C dX0_choosePlan_69 rfl ?_
          refine x_calli C (metP_after (kL K) O _ (a := a) (s := s) ha hs2) cwp_after (by decide) ⟨rfl, rfl⟩ (ci := 0) (q0 := 0) rfl rfl rfl (Nat.le_of_ble_eq_true rfl) rfl dX0_choosePlan_70 (fun r μ' hr => ?_)
          obtain ⟨rfl, hr⟩ := hr
          have hr : r = nI (af (pX μ) a s) := hr
          subst hr
          refine show XAt (xw O) (oD O) K 5 _ _ _ (sS (sA (sS (sA μ 14 pl) 11 k) 14 (un pl k a)) 11 (k + 1)) from ?_
          have e : sS (sA (sS (sA μ 14 pl) 11 k) 14 (un pl k a)) 11 (k + 1) = sS (sA μ 14 (un pl k a)) 11 (k + 1) := by
            apply Prod.ext <;> funext j <;> simp only [sA, sS] <;> (repeat' split) <;> first | rfl | omega
          rw [e]
          refine x_istore_n C dX0_choosePlan_73 (by decide) ?_
          refine x_inc1 C dX0_choosePlan_74 rfl (by decide) ?_
          refine x_goto C 7 dX0_choosePlan_77 (by decide) ?_
          have hsame : ∀ i, i ≤ k → runTo (pX μ) (un pl k a) (μ.1 8) i = runTo (pX μ) pl (μ.1 8) i := fun i hi => runTo_congr i (fun j hj => un_n (by omega))
          have hlt := first_lt hW (hfirst H0 hH0)
          have ht := af_lt hW ha hs2
          have hr1 := rk_lt ht hlt
          refine x_drop 4 (ih (k + 1) (af (pX μ) a s) (un pl k a) (by omega) (fun j hj => ?_) ?_ ht q3.2.1 (by omega) (fun H hH j hj => ?_))
          · by_cases e : j = k
            · rw [e, un_s]; exact ha
            · rw [un_n e]; exact hp j (by omega)
          · show af (pX μ) a s = af (pX μ) (un pl k a k) (runTo (pX μ) (un pl k a) (μ.1 8) k)
            rw [un_s, hsame k (Nat.le_refl _), ← hs]
          · rw [hsame j (by omega)]
            by_cases e : j = k
            · subst e
              rw [un_s, ← hs]
              refine ⟨fun e0 => ?_, hfirst H hH⟩
              have := first_lt hW (hfirst H hH)
              omega
            · rw [un_n e]; exact hch H hH j (by omega)
      · have hgo := b1 hgo
        refine x_aload_n C dX0_choosePlan_22 rfl ?_
        refine pg_cost C dX0_choosePlan_23 ?_
        refine x_iload_n C dX0_choosePlan_26 rfl ?_
        refine pl_cost C dX0_choosePlan_27 (by omega) ?_
        refine x_iload_n C dX0_choosePlan_28 rfl ?_
        refine xn_ic_eq C 80 dX0_choosePlan_29 (by decide) (show μ.2 15 s < 2 ^ 31 by omega) (by omega) (fun _ => k80 pl k s _ (by omega) hp hs hs2 hgo hch) (fun hne => ?_)
        have he := (hOn s hs2 hob).2 H0 hH0
        have hz := hH0.1 s hs2 hgo
        have hbe0 := hbe H0 hH0
        exact absurd (show μ.2 15 s = best by omega) hne
  have hob : μ.2 21 (μ.1 8) ≠ 0 := hall H0 hH0 _ hst (by rw [hSE.2.2.2.1]; omega)
  have hrk := rk_le (H := H0) hst
  refine x_aload_n C dX0_choosePlan_0 rfl ?_
  refine pg_nowState C dX0_choosePlan_1 ?_
  refine x_istore_n C dX0_choosePlan_4 (by decide) ?_
  refine x_iconst C (nI 0) dX0_choosePlan_5 (by decide) ?_
  refine x_istore_n C dX0_choosePlan_6 (by decide) ?_
  have := loop 255 0 (μ.1 8) (μ.2 14) rfl (fun j hj => by omega) rfl hst hob (by omega) (fun H _ j hj => by omega)
  rw [sA_self, show sS μ 11 0 = μ by rw [← hl0]; exact sS_self μ 11] at this
  exact this
end
section
/-! what the public methods do to the problem -/
def sP (P : PB) (k : Nat) (f : Nat → Nat) : PB := fun j => if j = k then f else P j
def m8 (x : Int32) : Nat := x.toBitVec.toNat % 2 ^ 8
theorem m8_lt (x : Int32) : m8 x < 256 := Nat.mod_lt _ (by decide)
theorem and_m8 (x : Int32) : x &&& nI 255 = nI (m8 x) := pk_and x (m := nI 255) 8 (by decide)
def cl50 (x : Int32) : Nat := if x < nI 1 then 1 else if nI 50 < x then 50 else x.toNatClampNeg
theorem cl50_in (x : Int32) : 1 ≤ cl50 x ∧ cl50 x ≤ 50 ∧ (¬ x < nI 1 → ¬ nI 50 < x → x = nI (cl50 x)) := by
  unfold cl50
  by_cases h1 : x < nI 1
  · rw [if_pos h1]
    exact ⟨by decide, by decide, fun h => absurd h1 h⟩
  · rw [if_neg h1]
    by_cases h2 : nI 50 < x
    · rw [if_pos h2]
      exact ⟨by decide, by decide, fun _ h => absurd h2 h⟩
    · rw [if_neg h2]
      have h0 : ¬ x < 0 := fun h => h1 (by
        rw [Int32.lt_iff_toInt_lt] at h ⊢
        have : (nI 1).toInt = 1 := by decide
        have : (0 : Int32).toInt = 0 := by decide
        omega)
      obtain ⟨j, hj, rfl⟩ := nI_of h0
      rw [nI_clamp hj]
      have a1 : ¬ j < 1 := fun h => h1 ((nI_ltI hj (by decide)).mpr h)
      have a2 : ¬ 50 < j := fun h => h2 ((nI_ltI (by decide) hj).mpr h)
      exact ⟨by omega, by omega, fun _ _ => rfl⟩
def reqP (P : PB) (a n b : Nat) : PB := sP (sP (if P 0 a ≠ 0 then P else sP (sP (sP (sP P 0 (un (P 0) a 1)) 3 (un (P 3) a 0)) 4 (un (P 4) a 0)) 5 (un (P 5) a 1)) 1 (un (P 1) a n)) 2 (un (P 2) a b)
def effP (P : PB) (a x y p : Nat) : PB := sP (sP (sP P 3 (un (P 3) a x)) 4 (un (P 4) a y)) 5 (un (P 5) a p)
def fgtP (P : PB) (a : Nat) : PB := sP P 0 (un (P 0) a 0)
def wantP (P : PB) (x y : Nat) : PB := sP (sP P 6 (fun _ => x)) 7 (fun _ => y)
theorem un_cases {Q : Nat → Prop} {f : Nat → Nat} {k v j : Nat} (h1 : Q v) (h2 : Q (f j)) : Q (un f k v j) := by
  by_cases e : j = k
  · rw [e, un_s]; exact h1
  · rw [un_n e]; exact h2
theorem pw_want {P : PB} (h : PW P) {x y : Nat} (hx : x < 256) (hy : y < 256) : PW (wantP P x y) := ⟨h.1, hx, hy⟩
theorem pw_fgt {P : PB} (h : PW P) {a : Nat} : PW (fgtP P a) := by
  refine ⟨fun c hc => ?_, h.2⟩
  obtain ⟨h0, h1, h2, h3, h4, h5, h6⟩ := h.1 c hc
  refine ⟨un_cases (Q := fun z => z ≤ 1) (by decide) h0, h1, h2, h3, h4, h5, fun q => ?_⟩
  have q : un (P 0) a 0 c ≠ 0 := q
  by_cases e : c = a
  · rw [e, un_s] at q; exact absurd rfl q
  · rw [un_n e] at q; exact h6 q
theorem pw_eff {P : PB} (h : PW P) {a x y p : Nat} (hx : x < 256) (hy : y < 256) (hp : 1 ≤ p) (hp2 : p ≤ 50) : PW (effP P a x y p) := by
  refine ⟨fun c hc => ?_, h.2⟩
  obtain ⟨h0, h1, h2, h3, h4, h5, h6⟩ := h.1 c hc
  exact ⟨h0, h1, h2, un_cases (Q := fun z => z < 256) hx h3, un_cases (Q := fun z => z < 256) hy h4, un_cases (Q := fun z => z ≤ 50) hp2 h5, fun q => un_cases (Q := fun z => 1 ≤ z) hp (h6 q)⟩
theorem pw_req {P : PB} (h : PW P) {a n b : Nat} (hn : n < 256) (hb : b < 256) : PW (reqP P a n b) := by
  unfold reqP
  by_cases hg : P 0 a ≠ 0
  · rw [if_pos hg]
    refine ⟨fun c hc => ?_, h.2⟩
    obtain ⟨h0, h1, h2, h3, h4, h5, h6⟩ := h.1 c hc
    exact ⟨h0, un_cases (Q := fun z => z < 256) hn h1, un_cases (Q := fun z => z < 256) hb h2, h3, h4, h5, h6⟩
  · rw [if_neg hg]
    refine ⟨fun c hc => ?_, h.2⟩
    obtain ⟨h0, h1, h2, h3, h4, h5, h6⟩ := h.1 c hc
    refine ⟨un_cases (Q := fun z => z ≤ 1) (by decide) h0, un_cases (Q := fun z => z < 256) hn h1, un_cases (Q := fun z => z < 256) hb h2, un_cases (Q := fun z => z < 256) (by decide) h3, un_cases (Q := fun z => z < 256) (by decide) h4, un_cases (Q := fun z => z ≤ 50) (by decide) h5, fun q => ?_⟩
    have q : un (P 0) a 1 c ≠ 0 := q
    show 1 ≤ un (P 5) a 1 c
    by_cases e : c = a
    · rw [e, un_s]; decide
    · rw [un_n e] at q ⊢; exact h6 q
theorem pX_set (μ : XS) {k : Nat} (h : k < 6) (f : Nat → Nat) : pX (sA μ k f) = sP (pX μ) k f := by
  funext j
  unfold pX sP sA
  dsimp only
  by_cases e : j = k
  · rw [if_pos (show j < 6 by omega), if_pos e, if_pos e]
  · rw [if_neg e, if_neg e]
theorem pX_set6 (μ : XS) {k : Nat} (h6 : 6 ≤ k) (h8 : k < 8) (v : Nat) : pX (sS μ k v) = sP (pX μ) k (fun _ => v) := by
  funext j
  unfold pX sP sS
  dsimp only
  by_cases e : j = k
  · rw [if_neg (show ¬ j < 6 by omega), if_pos (show j < 8 by omega), if_pos e]
    funext _
    rw [if_pos e]
  · simp only [if_neg e]
/-- what holds of a planner between its calls -/
def XInv (μ : XS) : Prop := PW (pX μ) ∧ μ.1 8 < 256 ∧ μ.1 9 ≤ 1 ∧ μ.1 10 ≤ 1 ∧ PlanInv (pX μ) (μ.1 8) (μ.1 9) (μ.1 10) (μ.1 11) (μ.1 12) (μ.1 13) (μ.2 14)
/-- the plan is made -/
def QM (μ μ' : XS) : Prop := XInv μ' ∧ μ'.1 9 ≠ 0 ∧ pX μ' = pX μ ∧ μ'.1 8 = μ.1 8
theorem gl_none {P : PB} (h : P 6 0 &&& P 7 0 ≠ 0) (s : Nat) : gl P s = false := by
  cases hg : gl P s with
  | false => rfl
  | true =>
    refine absurd ?_ h
    apply Nat.eq_of_testBit_eq
    intro i
    rw [Nat.testBit_and, Nat.zero_testBit]
    have hb := gl_bit hg i
    cases h6 : (P 6 0).testBit i with
    | false => rfl
    | true =>
      cases h7 : (P 7 0).testBit i with
      | false => rfl
      | true =>
        have e1 := hb.1 h6
        have e2 := hb.2 h7
        rw [e1] at e2
        exact absurd e2 (by decide)
theorem plan_next {P : PB} {now has len pos rest pd : Nat} {pl : Nat → Nat} (h : PlanInv P now pd has len pos rest pl) (hpd : pd ≠ 0) (hh : has ≠ 0) (hlt : pos < len) :
    pl pos < 10 ∧ P 5 (pl pos) ≤ rest ∧ PlanInv P (af P (pl pos) now) pd has len (pos + 1) (rest - P 5 (pl pos)) pl ∧ ∀ H, FixH P H → IsFirst P H now (pl pos) := by
  obtain ⟨h1, h2, h3, h4, h5⟩ := h hpd
  have hf : ∀ H, FixH P H → IsFirst P H now (pl pos) := fun H hH => (((h5 H hH).2 hh).2.2.1 0 (by omega)).2
  obtain ⟨H0, hH0⟩ := fix_exists P
  have f0 := hf H0 hH0
  have r0 := ((h5 H0 hH0).2 hh).2.1
  have q0 := f0.2.2.1
  refine ⟨h1 pos hlt, by omega, fun _ => ⟨h1, hlt, h3, by omega, fun H hH => ⟨fun e => absurd e hh, fun _ => ?_⟩⟩, hf⟩
  obtain ⟨c1, c2, c3⟩ := (h5 H hH).2 hh
  have q := (hf H hH).2.2.1
  refine ⟨by omega, by omega, ?_⟩
  rw [show len - pos = (len - (pos + 1)) + 1 by omega] at c3
  have c4 := chain_tail c3
  have e : (fun j => pl (pos + 1 + j)) = (fun j => pl (pos + (j + 1))) := by
    funext j
    rw [show pos + 1 + j = pos + (j + 1) by omega]
  rw [e]
  exact c4
theorem metP_followPlan (l : Launch) (O : XO) (μ : XS) (hI : XInv μ) (hpd : μ.1 9 ≠ 0) (hh : μ.1 10 ≠ 0) (hlt : μ.1 12 < μ.1 11) :
    GMv (xw O) (oD O) (xT O) l yX0_followPlan cX0_followPlan 2 (rmk 1) [.ref (oh O)] μ
    (fun μ' => XInv μ' ∧ pX μ' = pX μ ∧ μ'.1 8 = af (pX μ) (μ.2 14 (μ.1 12)) (μ.1 8)) := by
  refine GMv.intro (own := RX0) (by decide) rfl (cat_of rfl) (Nat.le_of_ble_eq_true rfl) ?_
  intro K _ C Rt
  obtain ⟨hW, hnow, h9, h10, hP⟩ := hI
  obtain ⟨ha, hpr, hN, -⟩ := plan_next hP hpd hh hlt
  have hlen := (hP hpd).2.2.1
  have hpr : μ.2 5 (μ.2 14 (μ.1 12)) ≤ μ.1 13 := hpr
  refine x_aload_n C dX0_followPlan_0 rfl ?_
  refine pg_plan C dX0_followPlan_1 ?_
  refine x_aload_n C dX0_followPlan_4 rfl ?_
  refine pg_planAt C dX0_followPlan_5 ?_
  refine pl_plan C dX0_followPlan_8 (by omega) ?_
  refine x_istore_n C dX0_followPlan_9 (by decide) ?_
  refine x_aload_n C dX0_followPlan_10 rfl ?_
  refine x_aload_n C dX0_followPlan_11 rfl ?_
  refine x_iload_n C dX0_followPlan_12 rfl ?_
  refine x_aload_n C dX0_followPlan_13 rfl ?_
  refine pg_nowState C dX0_followPlan_14 ?_
  refine x_calli C (metP_after (kL K) O μ (a := μ.2 14 (μ.1 12)) (s := μ.1 8) ha hnow) cwp_after (by decide) ⟨rfl, rfl⟩ (ci := 0) (q0 := 0) rfl rfl rfl (Nat.le_of_ble_eq_true rfl) rfl dX0_followPlan_17 (fun r μ' hr => ?_)
  obtain ⟨rfl, rfl⟩ := hr
  refine pp_nowState C dX0_followPlan_20 ?_
  refine x_aload_n C dX0_followPlan_23 rfl ?_
  refine x_dup C dX0_followPlan_24 rfl ?_
  refine pg_rest C dX0_followPlan_25 ?_
  refine x_aload_n C dX0_followPlan_28 rfl ?_
  refine pg_priceOf C dX0_followPlan_29 ?_
  refine x_iload_n C dX0_followPlan_32 rfl ?_
  refine pl_priceOf C dX0_followPlan_33 ha ?_
  refine x_isub C dX0_followPlan_34 (pk_sub hpr) ?_
  refine pp_rest C dX0_followPlan_35 ?_
  refine x_aload_n C dX0_followPlan_38 rfl ?_
  refine x_dup C dX0_followPlan_39 rfl ?_
  refine pg_planAt C dX0_followPlan_40 ?_
  refine x_iconst C (nI 1) dX0_followPlan_43 (by decide) ?_
  refine x_iadd C dX0_followPlan_44 (nI_add _ _) ?_
  refine pp_planAt C dX0_followPlan_45 ?_
  refine Rt 48 _ _ dX0_followPlan_48 ⟨⟨?_, af_lt hW ha hnow, h9, h10, ?_⟩, ?_, rfl⟩
  · rw [pX_sS _ (by decide) (by decide), pX_sS _ (by decide) (by decide), pX_sS _ (by decide) (by decide)]; exact hW
  · rw [pX_sS _ (by decide) (by decide), pX_sS _ (by decide) (by decide), pX_sS _ (by decide) (by decide)]; exact hN
  · rw [pX_sS _ (by decide) (by decide), pX_sS _ (by decide) (by decide), pX_sS _ (by decide) (by decide)]
def sM (μ : XS) : XS := sS (sS (sS (sS (sS μ 9 1) 12 0) 11 0) 10 0) 13 0
theorem pX_sM (μ : XS) : pX (sM μ) = pX μ := by
  unfold sM
  rw [pX_sS _ (by decide) (by decide), pX_sS _ (by decide) (by decide), pX_sS _ (by decide) (by decide), pX_sS _ (by decide) (by decide), pX_sS _ (by decide) (by decide)]
theorem pX_sC (μ : XS) (ra lo : Nat → Nat) : pX (sC μ ra lo) = pX μ := by
  unfold sC
  rw [pX_sA _ (by decide), pX_sA _ (by decide)]
theorem pX_sF (μ : XS) (g pl hp : Nat → Nat) (n : Nat) (lf : Nat → Nat) (lc : Nat) : pX (sF μ g pl hp n lf lc) = pX μ := by
  unfold sF sQ sHP
  rw [pX_sS _ (by decide) (by decide), pX_sA _ (by decide), pX_sS _ (by decide) (by decide), pX_sA _ (by decide), pX_sA _ (by decide), pX_sA _ (by decide)]
theorem metP_makePlan (l : Launch) (O : XO) (μ : XS) (hI : XInv μ) : GMv (xw O) (oD O) (xT O) l yX0_makePlan cX0_makePlan 2 (rmk 6) [.ref (oh O)] μ (fun μ' => QM μ μ') := by
  refine GMv.intro (own := RX0) (by decide) rfl (cat_of rfl) (Nat.le_of_ble_eq_true rfl) ?_
  intro K _ C Rt
  obtain ⟨hW, hnow, h9, h10, hP⟩ := hI
  have hW6 : μ.1 6 < 256 := hW.2.1
  have hand : μ.1 6 &&& μ.1 7 ≤ μ.1 6 := and_le_l
  refine x_aload_n C dX0_makePlan_0 rfl ?_
  refine pg_planned C dX0_makePlan_1 ?_
  refine xn_if_eq C 8 dX0_makePlan_4 (by decide) (by omega) (fun h0 => ?_) (fun h1 => ?_)
  · refine x_aload_n C dX0_makePlan_8 rfl ?_
    refine x_iconst C (nI 1) dX0_makePlan_9 (by decide) ?_
    refine pp_planned C dX0_makePlan_10 (by omega) ?_
    refine x_aload_n C dX0_makePlan_13 rfl ?_
    refine x_iconst C (nI 0) dX0_makePlan_14 (by decide) ?_
    refine pp_planAt C dX0_makePlan_15 ?_
    refine x_aload_n C dX0_makePlan_18 rfl ?_
    refine x_iconst C (nI 0) dX0_makePlan_19 (by decide) ?_
    refine pp_planLength C dX0_makePlan_20 ?_
    refine x_aload_n C dX0_makePlan_23 rfl ?_
    refine x_iconst C (nI 0) dX0_makePlan_24 (by decide) ?_
    refine pp_hasPlan C dX0_makePlan_25 (by omega) ?_
    refine x_aload_n C dX0_makePlan_28 rfl ?_
    refine x_iconst C (nI 0) dX0_makePlan_29 (by decide) ?_
    refine pp_rest C dX0_makePlan_30 ?_
    refine x_aload_n C dX0_makePlan_33 rfl ?_
    refine pg_wantedTrue C dX0_makePlan_34 ?_
    refine x_aload_n C dX0_makePlan_37 rfl ?_
    refine pg_wantedFalse C dX0_makePlan_38 ?_
    refine x_iand C dX0_makePlan_41 (nI_and _ _) ?_
    refine show XAt (xw O) (oD O) K 2 _ _ _ (sM μ) from ?_
    have hW1 : PW (pX (sM μ)) := by rw [pX_sM]; exact hW
    refine xn_if_eq C 46 dX0_makePlan_42 (by decide) (show μ.1 6 &&& μ.1 7 < 2 ^ 31 by omega) (fun hz => ?_) (fun hnz => ?_)
    · refine x_aload_n C dX0_makePlan_46 rfl ?_
      refine x_callv C (metP_findCheapest (kL K) O (sM μ) hW1) cwp_findCheapest (by decide) ⟨rfl, rfl⟩ (ci := 0) (q0 := 0) rfl rfl rfl (Nat.le_of_ble_eq_true rfl) rfl dX0_makePlan_47 (fun μ2 h2 => ?_)
      obtain ⟨ra, lo, rfl, hC⟩ := h2
      rw [pX_sM] at hC
      have hp2 : pX (sC (sM μ) ra lo) = pX μ := by rw [pX_sC, pX_sM]
      have hB : BdOK (sC (sM μ) ra lo) := ⟨by rw [hp2]; exact hW, hC.1⟩
      have hb : BOK (pX (sC (sM μ) ra lo)) (bdX (sC (sM μ) ra lo)) := by
        show BOK (pX (sC (sM μ) ra lo)) (bd (pX (sC (sM μ) ra lo)) ra lo)
        rw [hp2]
        exact bok_of_cheap hC
      refine x_aload_n C dX0_makePlan_50 rfl ?_
      refine x_calli C (metP_searchForward (kL K) O (sC (sM μ) ra lo) hB hb hnow) cwp_searchForward (by decide) ⟨rfl, rfl⟩ (ci := 0) (q0 := 0) rfl rfl rfl (Nat.le_of_ble_eq_true rfl) rfl dX0_makePlan_51 (fun r μ3 h3 => ?_)
      obtain ⟨g, pl, hp, n, lf, lc, best, rfl, rfl, hSE⟩ := h3
      have hSE : SE (pX (sC (sM μ) ra lo)) (bdX (sC (sM μ) ra lo)) (μ.1 8) g lf lc best := hSE
      rw [hp2] at hSE hb
      generalize bdX (sC (sM μ) ra lo) = b at hSE hb
      have hp3 : pX (sF (sC (sM μ) ra lo) g pl hp n lf lc) = pX μ := by rw [pX_sF]; exact hp2
      have hbest := hSE.2.2.2.2.2.1.1
      refine x_istore_n C dX0_makePlan_54 (by decide) ?_
      refine x_iload_n C dX0_makePlan_55 rfl ?_
      refine x_ldc C (nI 1000000) q153 dX0_makePlan_56 (by decide) ?_
      refine xn_ic_lt C 62 dX0_makePlan_58 (by decide) (by omega) (by omega) (fun hlt => ?_) (fun hge => ?_)
      · refine x_aload_n C dX0_makePlan_62 rfl ?_
        refine x_iconst C (nI 1) dX0_makePlan_63 (by decide) ?_
        refine pp_hasPlan C dX0_makePlan_64 (by omega) ?_
        refine x_aload_n C dX0_makePlan_67 rfl ?_
        refine x_iload_n C dX0_makePlan_68 rfl ?_
        refine pp_rest C dX0_makePlan_69 ?_
        refine x_aload_n C dX0_makePlan_72 rfl ?_
        refine x_iload_n C dX0_makePlan_73 rfl ?_
        have hp4 : pX (sS (sS (sF (sC (sM μ) ra lo) g pl hp n lf lc) 10 1) 13 best) = pX μ := by
          rw [pX_sS _ (by decide) (by decide), pX_sS _ (by decide) (by decide)]; exact hp3
        refine x_callv C (metP_markBest (kL K) O (sS (sS (sF (sC (sM μ) ra lo) g pl hp n lf lc) 10 1) 13 best) (b := b) (st := μ.1 8) (best := best) (by rw [hp4]; exact hW) (by rw [hp4]; exact hb) hnow (by rw [hp4]; exact hSE)) cwp_markBest (by decide) ⟨rfl, rfl⟩ (ci := 0) (q0 := 0) rfl rfl rfl (Nat.le_of_ble_eq_true rfl) rfl dX0_makePlan_74 (fun μ5 h5 => ?_)
        obtain ⟨ob, rfl, q1, q2, q3⟩ := h5
        rw [hp4] at q2 q3
        have hp5 : pX (sA (sS (sS (sF (sC (sM μ) ra lo) g pl hp n lf lc) 10 1) 13 best) 21 ob) = pX μ := by rw [pX_sA _ (by decide)]; exact hp4
        refine x_aload_n C dX0_makePlan_77 rfl ?_
        refine x_iload_n C dX0_makePlan_78 rfl ?_
        refine x_callv C (metP_choosePlan (kL K) O (sA (sS (sS (sF (sC (sM μ) ra lo) g pl hp n lf lc) 10 1) 13 best) 21 ob) (b := b) (best := best) (by rw [hp5]; exact hW) (by rw [hp5]; exact hb) hnow (by rw [hp5]; exact hSE) hlt q1 (by rw [hp5]; exact q2) (by rw [hp5]; exact q3) rfl) cwp_choosePlan (by decide) ⟨rfl, rfl⟩ (ci := 0) (q0 := 0) rfl rfl rfl (Nat.le_of_ble_eq_true rfl) rfl dX0_makePlan_79 (fun μ6 h6 => ?_)
        obtain ⟨pn, m, rfl, r1, r2, r3⟩ := h6
        rw [hp5] at r3
        have hp6 : pX (sS (sA (sA (sS (sS (sF (sC (sM μ) ra lo) g pl hp n lf lc) 10 1) 13 best) 21 ob) 14 pn) 11 m) = pX μ := by rw [pX_sS _ (by decide) (by decide), pX_sA _ (by decide)]; exact hp5
        refine Rt 82 _ _ dX0_makePlan_82 ⟨⟨by rw [hp6]; exact hW, hnow, Nat.le_refl 1, Nat.le_refl 1, ?_⟩, Nat.one_ne_zero, hp6, rfl⟩
        rw [hp6]
        refine show PlanInv (pX μ) (μ.1 8) 1 1 m 0 best pn from fun _ => ⟨r2, Nat.zero_le _, r1, hbest, fun H hH => ⟨fun h => absurd h (by decide), fun _ => ?_⟩⟩
        have hbe := se_best hW hb hnow hSE hH
        refine ⟨by omega, hbe.symm, ?_⟩
        have e : (fun j => pn (0 + j)) = pn := by
          funext j
          rw [Nat.zero_add]
        rw [e]
        exact r3 H hH
      · refine Rt 61 _ _ dX0_makePlan_61 ⟨⟨by rw [hp3]; exact hW, hnow, Nat.le_refl 1, Nat.zero_le _, ?_⟩, Nat.one_ne_zero, hp3, rfl⟩
        rw [hp3]
        refine show PlanInv (pX μ) (μ.1 8) 1 0 0 0 0 _ from fun _ => ⟨fun j hj => by omega, Nat.le_refl _, by decide, by decide, fun H hH => ⟨fun _ => ?_, fun h => absurd rfl h⟩⟩
        have hbe := se_best hW hb hnow hSE hH
        omega
    · have hnz : μ.1 6 &&& μ.1 7 ≠ 0 := hnz
      refine Rt 45 _ _ dX0_makePlan_45 ⟨⟨hW1, hnow, Nat.le_refl 1, Nat.zero_le _, ?_⟩, Nat.one_ne_zero, pX_sM μ, rfl⟩
      rw [pX_sM]
      exact show PlanInv (pX μ) (μ.1 8) 1 0 0 0 0 _ from fun _ => ⟨fun j hj => by omega, Nat.le_refl _, by decide, by decide, fun H hH => ⟨fun _ => fix_none hW hH (fun s _ => gl_none hnz s) _ hnow, fun h => absurd rfl h⟩⟩
  · exact Rt 7 _ _ dX0_makePlan_7 (⟨⟨hW, hnow, h9, h10, hP⟩, h1, rfl, rfl⟩)
end
section
/-! WALKS of the planner: the public methods -/
theorem metP_price (l : Launch) (O : XO) (μ : XS) (hI : XInv μ) : GMi (xw O) (oD O) (xT O) l yX0_price cX0_price 1 (some .int) (rmk 7) [.ref (oh O)] μ
    (fun r μ' => QM μ μ' ∧ ((μ'.1 10 = 0 ∧ r = -1) ∨ (μ'.1 10 ≠ 0 ∧ r = nI (μ'.1 13)))) := by
  refine GMi.intro (own := RX0) (by decide) rfl (cat_of rfl) (Nat.le_of_ble_eq_true rfl) ?_
  intro K _ C Rt
  refine x_aload_n C dX0_price_0 rfl ?_
  refine x_callv C (metP_makePlan (kL K) O μ hI) cwp_makePlan (by decide) ⟨rfl, rfl⟩ (ci := 0) (q0 := 0) rfl rfl rfl (Nat.le_of_ble_eq_true rfl) rfl dX0_price_1 (fun μ' hq => ?_)
  have h10 := hq.1.2.2.2.1
  refine x_aload_n C dX0_price_4 rfl ?_
  refine pg_hasPlan C dX0_price_5 ?_
  refine xn_if_eq C 18 dX0_price_8 (by decide) (by omega) (fun h => ?_) (fun h => ?_)
  · refine x_iconst C (-1) dX0_price_18 (by decide) ?_
    exact Rt 19 _ _ _ dX0_price_19 rfl ⟨hq, Or.inl ⟨h, rfl⟩⟩
  · refine x_aload_n C dX0_price_11 rfl ?_
    refine pg_rest C dX0_price_12 ?_
    refine x_goto C 19 dX0_price_15 (by decide) ?_
    exact Rt 19 _ _ _ dX0_price_19 rfl ⟨hq, Or.inr ⟨h, rfl⟩⟩
theorem metP_steps (l : Launch) (O : XO) (μ : XS) (hI : XInv μ) : GMi (xw O) (oD O) (xT O) l yX0_steps cX0_steps 1 (some .int) (rmk 7) [.ref (oh O)] μ
    (fun r μ' => QM μ μ' ∧ ((μ'.1 10 = 0 ∧ r = -1) ∨ (μ'.1 10 ≠ 0 ∧ r = nI (μ'.1 11 - μ'.1 12)))) := by
  refine GMi.intro (own := RX0) (by decide) rfl (cat_of rfl) (Nat.le_of_ble_eq_true rfl) ?_
  intro K _ C Rt
  refine x_aload_n C dX0_steps_0 rfl ?_
  refine x_callv C (metP_makePlan (kL K) O μ hI) cwp_makePlan (by decide) ⟨rfl, rfl⟩ (ci := 0) (q0 := 0) rfl rfl rfl (Nat.le_of_ble_eq_true rfl) rfl dX0_steps_1 (fun μ' hq => ?_)
  have h10 := hq.1.2.2.2.1
  obtain ⟨-, hpl, -⟩ := hq.1.2.2.2.2 hq.2.1
  refine x_aload_n C dX0_steps_4 rfl ?_
  refine pg_hasPlan C dX0_steps_5 ?_
  refine xn_if_eq C 23 dX0_steps_8 (by decide) (by omega) (fun h => ?_) (fun h => ?_)
  · refine x_iconst C (-1) dX0_steps_23 (by decide) ?_
    exact Rt 24 _ _ _ dX0_steps_24 rfl ⟨hq, Or.inl ⟨h, rfl⟩⟩
  · refine x_aload_n C dX0_steps_11 rfl ?_
    refine pg_planLength C dX0_steps_12 ?_
    refine x_aload_n C dX0_steps_15 rfl ?_
    refine pg_planAt C dX0_steps_16 ?_
    refine x_isub C dX0_steps_19 (pk_sub (by omega)) ?_
    refine x_goto C 24 dX0_steps_20 (by decide) ?_
    exact Rt 24 _ _ _ dX0_steps_24 rfl ⟨hq, Or.inr ⟨h, rfl⟩⟩
theorem metP_planned (l : Launch) (O : XO) (μ : XS) (x : Int32) (hI : XInv μ) : GMi (xw O) (oD O) (xT O) l yX0_planned cX0_planned 2 (some .int) (rmk 7) [.ref (oh O), .int x] μ
    (fun r μ' => QM μ μ' ∧ ((μ'.1 10 ≠ 0 ∧ ∃ j, j < μ'.1 11 - μ'.1 12 ∧ x = nI j ∧ r = nI (μ'.2 14 (μ'.1 12 + j))) ∨ ((μ'.1 10 = 0 ∨ ∀ j, j < μ'.1 11 - μ'.1 12 → x ≠ nI j) ∧ r = -1))) := by
  refine GMi.intro (own := RX0) (by decide) rfl (cat_of rfl) (Nat.le_of_ble_eq_true rfl) ?_
  intro K _ C Rt
  refine x_aload_n C dX0_planned_0 rfl ?_
  refine x_callv C (metP_makePlan (kL K) O μ hI) cwp_makePlan (by decide) ⟨rfl, rfl⟩ (ci := 0) (q0 := 0) rfl rfl rfl (Nat.le_of_ble_eq_true rfl) rfl dX0_planned_1 (fun μ' hq => ?_)
  have h10 := hq.1.2.2.2.1
  obtain ⟨-, hpl, hlen, -⟩ := hq.1.2.2.2.2 hq.2.1
  have k28 : (μ'.1 10 = 0 ∨ ∀ j, j < μ'.1 11 - μ'.1 12 → x ≠ nI j) → XAt (xw O) (oD O) K 2 28 [some (.ref (oh O)), some (.int x)] [] μ' := by
    intro h
    refine x_iconst C (-1) dX0_planned_28 (by decide) ?_
    exact Rt 29 _ _ _ dX0_planned_29 rfl ⟨hq, Or.inr ⟨h, rfl⟩⟩
  refine x_aload_n C dX0_planned_4 rfl ?_
  refine pg_hasPlan C dX0_planned_5 ?_
  refine xn_if_eq C 28 dX0_planned_8 (by decide) (by omega) (fun h => k28 (Or.inl h)) (fun h => ?_)
  refine x_iload_n C dX0_planned_11 rfl ?_
  refine x_if_lt C 28 dX0_planned_12 (by decide) (fun h0 => k28 (Or.inr fun j hj e => absurd h0 (by rw [e]; exact nI_pos (by omega)))) (fun h0 => ?_)
  obtain ⟨j, hj, rfl⟩ := nI_of h0
  refine x_iload_n C dX0_planned_15 rfl ?_
  refine x_aload_n C dX0_planned_16 rfl ?_
  refine pg_planLength C dX0_planned_17 ?_
  refine x_aload_n C dX0_planned_20 rfl ?_
  refine pg_planAt C dX0_planned_21 ?_
  refine x_isub C dX0_planned_24 (pk_sub (by omega)) ?_
  refine xn_ic_lt C 30 dX0_planned_25 (by decide) (by omega) (by omega) (fun hlt => ?_) (fun hge => k28 (Or.inr fun i hi e => absurd ((nI_eq hj (by omega)).mp e) (by omega)))
  refine x_aload_n C dX0_planned_30 rfl ?_
  refine pg_plan C dX0_planned_31 ?_
  refine x_aload_n C dX0_planned_34 rfl ?_
  refine pg_planAt C dX0_planned_35 ?_
  refine x_iload_n C dX0_planned_38 rfl ?_
  refine x_iadd C dX0_planned_39 (nI_add _ _) ?_
  refine pl_plan C dX0_planned_40 (by omega) ?_
  exact Rt 41 _ _ _ dX0_planned_41 rfl ⟨hq, Or.inl ⟨h, j, hlt, rfl, rfl⟩⟩
theorem metP_advance (l : Launch) (O : XO) (μ : XS) (hI : XInv μ) : GMi (xw O) (oD O) (xT O) l yX0_advance cX0_advance 2 (some .int) (rmk 7) [.ref (oh O)] μ
    (fun r μ' => ∃ μ1, QM μ μ1 ∧ (((μ1.1 10 = 0 ∨ μ1.1 11 ≤ μ1.1 12) ∧ r = -1 ∧ μ' = μ1) ∨
      (μ1.1 10 ≠ 0 ∧ μ1.1 12 < μ1.1 11 ∧ r = nI (μ1.2 14 (μ1.1 12)) ∧ XInv μ' ∧ pX μ' = pX μ ∧ μ'.1 8 = af (pX μ) (μ1.2 14 (μ1.1 12)) (μ.1 8)))) := by
  refine GMi.intro (own := RX0) (by decide) rfl (cat_of rfl) (Nat.le_of_ble_eq_true rfl) ?_
  intro K _ C Rt
  refine x_aload_n C dX0_advance_0 rfl ?_
  refine x_callv C (metP_makePlan (kL K) O μ hI) cwp_makePlan (by decide) ⟨rfl, rfl⟩ (ci := 0) (q0 := 0) rfl rfl rfl (Nat.le_of_ble_eq_true rfl) rfl dX0_advance_1 (fun μ1 hq => ?_)
  have h10 := hq.1.2.2.2.1
  obtain ⟨-, hpl, hlen, -⟩ := hq.1.2.2.2.2 hq.2.1
  have k22 : (μ1.1 10 = 0 ∨ μ1.1 11 ≤ μ1.1 12) → XAt (xw O) (oD O) K 2 22 [some (.ref (oh O)), none] [] μ1 := by
    intro h
    refine x_iconst C (-1) dX0_advance_22 (by decide) ?_
    exact Rt 23 _ _ _ dX0_advance_23 rfl ⟨μ1, hq, Or.inl ⟨h, rfl, rfl⟩⟩
  refine x_aload_n C dX0_advance_4 rfl ?_
  refine pg_hasPlan C dX0_advance_5 ?_
  refine xn_if_eq C 22 dX0_advance_8 (by decide) (by omega) (fun h => k22 (Or.inl h)) (fun h => ?_)
  refine x_aload_n C dX0_advance_11 rfl ?_
  refine pg_planAt C dX0_advance_12 ?_
  refine x_aload_n C dX0_advance_15 rfl ?_
  refine pg_planLength C dX0_advance_16 ?_
  refine xn_ic_lt C 24 dX0_advance_19 (by decide) (by omega) (by omega) (fun hlt => ?_) (fun hge => k22 (Or.inr hge))
  refine x_aload_n C dX0_advance_24 rfl ?_
  refine pg_plan C dX0_advance_25 ?_
  refine x_aload_n C dX0_advance_28 rfl ?_
  refine pg_planAt C dX0_advance_29 ?_
  refine pl_plan C dX0_advance_32 (by omega) ?_
  refine x_istore_n C dX0_advance_33 (by decide) ?_
  refine x_aload_n C dX0_advance_34 rfl ?_
  refine x_callv C (metP_followPlan (kL K) O μ1 hq.1 hq.2.1 h hlt) cwp_followPlan (by decide) ⟨rfl, rfl⟩ (ci := 0) (q0 := 0) rfl rfl rfl (Nat.le_of_ble_eq_true rfl) rfl dX0_advance_35 (fun μ2 h2 => ?_)
  refine x_iload_n C dX0_advance_38 rfl ?_
  obtain ⟨q1, q2, q3⟩ := h2
  rw [hq.2.2.1] at q2 q3
  rw [hq.2.2.2] at q3
  exact Rt 39 _ _ _ dX0_advance_39 rfl ⟨μ1, hq, Or.inr ⟨h, hlt, rfl, q1, q2, q3⟩⟩
theorem metP_now (l : Launch) (O : XO) (μ : XS) : GMi (xw O) (oD O) (xT O) l yX0_now cX0_now 1 (some .int) (rmk 0) [.ref (oh O)] μ (fun r μ' => μ' = μ ∧ r = nI (μ.1 8)) := by
  refine GMi.intro (own := RX0) (by decide) rfl (cat_of rfl) (Nat.le_of_ble_eq_true rfl) ?_
  intro K _ C Rt
  refine x_aload_n C dX0_now_0 rfl ?_
  refine pg_nowState C dX0_now_1 ?_
  exact Rt 4 _ _ _ dX0_now_4 rfl ⟨rfl, rfl⟩
/-- a planner whose plan is thrown away -/
theorem xinv_off {μ : XS} {P : PB} (hp : pX μ = P) (hW : PW P) (h8 : μ.1 8 < 256) (h9 : μ.1 9 = 0) (h10 : μ.1 10 ≤ 1) : XInv μ := by
  subst hp
  exact ⟨hW, h8, by omega, h10, fun h => absurd h9 h⟩
theorem metP_observe (l : Launch) (O : XO) (μ : XS) (x : Int32) (hI : XInv μ) : GMv (xw O) (oD O) (xT O) l yX0_observe cX0_observe 3 (rmk 0) [.ref (oh O), .int x] μ
    (fun μ' => XInv μ' ∧ pX μ' = pX μ ∧ μ'.1 8 = m8 x) := by
  refine GMv.intro (own := RX0) (by decide) rfl (cat_of rfl) (Nat.le_of_ble_eq_true rfl) ?_
  intro K _ C Rt
  obtain ⟨hW, hnow, h9, h10, hP⟩ := hI
  have hm := m8_lt x
  refine x_iload_n C dX0_observe_0 rfl ?_
  refine x_sipush C (nI 255) dX0_observe_1 (by decide) ?_
  refine x_iand C dX0_observe_4 (and_m8 x) ?_
  refine x_istore_n C dX0_observe_5 (by decide) ?_
  refine x_iload_n C dX0_observe_6 rfl ?_
  refine x_aload_n C dX0_observe_7 rfl ?_
  refine pg_nowState C dX0_observe_8 ?_
  refine xn_ic_eq C 19 dX0_observe_11 (by decide) (by omega) (by omega) (fun he => ?_) (fun hne => ?_)
  · refine x_aload_n C dX0_observe_19 rfl ?_
    refine x_iload_n C dX0_observe_20 rfl ?_
    refine pp_nowState C dX0_observe_21 ?_
    rw [he, sS_self]
    exact Rt 24 _ _ dX0_observe_24 (⟨⟨hW, hnow, h9, h10, hP⟩, rfl, he.symm⟩)
  · refine x_aload_n C dX0_observe_14 rfl ?_
    refine x_iconst C (nI 0) dX0_observe_15 (by decide) ?_
    refine pp_planned C dX0_observe_16 (by omega) ?_
    refine x_aload_n C dX0_observe_19 rfl ?_
    refine x_iload_n C dX0_observe_20 rfl ?_
    refine pp_nowState C dX0_observe_21 ?_
    have hp : pX (sS (sS μ 9 0) 8 (m8 x)) = pX μ := by rw [pX_sS _ (by decide) (by decide), pX_sS _ (by decide) (by decide)]
    exact Rt 24 _ _ dX0_observe_24 (⟨xinv_off hp hW hm rfl h10, hp, rfl⟩)
theorem metP_want (l : Launch) (O : XO) (μ : XS) (x y : Int32) (hI : XInv μ) : GMv (xw O) (oD O) (xT O) l yX0_want cX0_want 3 (rmk 0) [.ref (oh O), .int x, .int y] μ
    (fun μ' => XInv μ' ∧ pX μ' = wantP (pX μ) (m8 x) (m8 y) ∧ μ'.1 8 = μ.1 8) := by
  refine GMv.intro (own := RX0) (by decide) rfl (cat_of rfl) (Nat.le_of_ble_eq_true rfl) ?_
  intro K _ C Rt
  obtain ⟨hW, hnow, h9, h10, hP⟩ := hI
  refine x_aload_n C dX0_want_0 rfl ?_
  refine x_iload_n C dX0_want_1 rfl ?_
  refine x_sipush C (nI 255) dX0_want_2 (by decide) ?_
  refine x_iand C dX0_want_5 (and_m8 x) ?_
  refine pp_wantedTrue C dX0_want_6 ?_
  refine x_aload_n C dX0_want_9 rfl ?_
  refine x_iload_n C dX0_want_10 rfl ?_
  refine x_sipush C (nI 255) dX0_want_11 (by decide) ?_
  refine x_iand C dX0_want_14 (and_m8 y) ?_
  refine pp_wantedFalse C dX0_want_15 ?_
  refine x_aload_n C dX0_want_18 rfl ?_
  refine x_iconst C (nI 0) dX0_want_19 (by decide) ?_
  refine pp_planned C dX0_want_20 (by omega) ?_
  have hp : pX (sS (sS (sS μ 6 (m8 x)) 7 (m8 y)) 9 0) = wantP (pX μ) (m8 x) (m8 y) := by
    rw [pX_sS _ (by decide) (by decide), pX_set6 _ (by decide) (by decide), pX_set6 _ (by decide) (by decide)]; rfl
  exact Rt 23 _ _ dX0_want_23 (⟨xinv_off hp (pw_want hW (m8_lt x) (m8_lt y)) hnow rfl h10, hp, rfl⟩)
theorem metP_forget (l : Launch) (O : XO) (μ : XS) (x : Int32) (hI : XInv μ) : GMi (xw O) (oD O) (xT O) l yX0_forget cX0_forget 2 (some .int) (rmk 1) [.ref (oh O), .int x] μ
    (fun r μ' => (∃ a, a < 10 ∧ x = nI a ∧ pX μ 0 a ≠ 0 ∧ r = nI 0 ∧ XInv μ' ∧ pX μ' = fgtP (pX μ) a ∧ μ'.1 8 = μ.1 8) ∨ ((∀ a, a < 10 → x = nI a → pX μ 0 a = 0) ∧ r = -1 ∧ μ' = μ)) := by
  refine GMi.intro (own := RX0) (by decide) rfl (cat_of rfl) (Nat.le_of_ble_eq_true rfl) ?_
  intro K _ C Rt
  obtain ⟨hW, hnow, h9, h10, hP⟩ := hI
  refine x_aload_n C dX0_forget_0 rfl ?_
  refine x_iload_n C dX0_forget_1 rfl ?_
  refine x_calli C (metP_isGiven (kL K) O μ x hW) cwp_isGiven (by decide) ⟨rfl, rfl⟩ (ci := 0) (q0 := 0) rfl rfl rfl (Nat.le_of_ble_eq_true rfl) rfl dX0_forget_2 (fun r μ' hr => ?_)
  obtain ⟨rfl, hr⟩ := hr
  rcases hr with ⟨a, ha, rfl, hg, rfl⟩ | ⟨hno, rfl⟩
  · refine xn_if_ne C 10 dX0_forget_5 (by decide) (by omega) (fun _ => ?_) (fun h => absurd h (by decide))
    refine x_aload_n C dX0_forget_10 rfl ?_
    refine pg_given C dX0_forget_11 ?_
    refine x_iload_n C dX0_forget_14 rfl ?_
    refine x_iconst C (nI 0) dX0_forget_15 (by decide) ?_
    refine ps_given C dX0_forget_16 (by omega) (by omega) ?_
    refine x_aload_n C dX0_forget_17 rfl ?_
    refine x_iconst C (nI 0) dX0_forget_18 (by decide) ?_
    refine pp_planned C dX0_forget_19 (by omega) ?_
    refine x_iconst C (nI 0) dX0_forget_22 (by decide) ?_
    have hp : pX (sS (sA μ' 0 (un (μ'.2 0) a 0)) 9 0) = fgtP (pX μ') a := by
      rw [pX_sS _ (by decide) (by decide), pX_set _ (by decide)]; rfl
    exact Rt 23 _ _ _ dX0_forget_23 rfl (Or.inl ⟨a, ha, rfl, hg, rfl, xinv_off hp (pw_fgt hW) hnow rfl h10, hp, rfl⟩)
  · refine xn_if_ne C 10 dX0_forget_5 (by decide) (by omega) (fun h => absurd rfl h) (fun _ => ?_)
    refine x_iconst C (-1) dX0_forget_8 (by decide) ?_
    exact Rt 9 _ _ _ dX0_forget_9 rfl (Or.inr ⟨hno, rfl, rfl⟩)
theorem metP_effect (l : Launch) (O : XO) (μ : XS) (x y z p : Int32) (hI : XInv μ) : GMi (xw O) (oD O) (xT O) l yX0_effect cX0_effect 5 (some .int) (rmk 1) [.ref (oh O), .int x, .int y, .int z, .int p] μ
    (fun r μ' => (∃ a, a < 10 ∧ x = nI a ∧ pX μ 0 a ≠ 0 ∧ r = nI 0 ∧ XInv μ' ∧ pX μ' = effP (pX μ) a (m8 y) (m8 z) (cl50 p) ∧ μ'.1 8 = μ.1 8) ∨ ((∀ a, a < 10 → x = nI a → pX μ 0 a = 0) ∧ r = -1 ∧ μ' = μ)) := by
  refine GMi.intro (own := RX0) (by decide) rfl (cat_of rfl) (Nat.le_of_ble_eq_true rfl) ?_
  intro K _ C Rt
  obtain ⟨hW, hnow, h9, h10, hP⟩ := hI
  refine x_aload_n C dX0_effect_0 rfl ?_
  refine x_iload_n C dX0_effect_1 rfl ?_
  refine x_calli C (metP_isGiven (kL K) O μ x hW) cwp_isGiven (by decide) ⟨rfl, rfl⟩ (ci := 0) (q0 := 0) rfl rfl rfl (Nat.le_of_ble_eq_true rfl) rfl dX0_effect_2 (fun r μ' hr => ?_)
  obtain ⟨rfl, hr⟩ := hr
  rcases hr with ⟨a, ha, rfl, hg, rfl⟩ | ⟨hno, rfl⟩
  · refine xn_if_ne C 10 dX0_effect_5 (by decide) (by omega) (fun _ => ?_) (fun h => absurd h (by decide))
    obtain ⟨c1, c2, c3⟩ := cl50_in p
    have k61 : XAt (xw O) (oD O) K 5 61 [some (.ref (oh O)), some (.int (nI a)), some (.int y), some (.int z), some (.int p)] [.int (nI (cl50 p)), .int (nI a), .ref (oa O 5)] (sA (sA μ' 3 (un (μ'.2 3) a (m8 y))) 4 (un (μ'.2 4) a (m8 z))) := by
      refine ps_priceOf C dX0_effect_61 (by omega) ?_
      refine x_aload_n C dX0_effect_62 rfl ?_
      refine x_iconst C (nI 0) dX0_effect_63 (by decide) ?_
      refine pp_planned C dX0_effect_64 (by omega) ?_
      refine x_iconst C (nI 0) dX0_effect_67 (by decide) ?_
      have hp : pX (sS (sA (sA (sA μ' 3 (un (μ'.2 3) a (m8 y))) 4 (un (μ'.2 4) a (m8 z))) 5 (un (μ'.2 5) a (cl50 p))) 9 0) = effP (pX μ') a (m8 y) (m8 z) (cl50 p) := by
        rw [pX_sS _ (by decide) (by decide), pX_set _ (by decide), pX_set _ (by decide), pX_set _ (by decide)]; rfl
      exact Rt 68 _ _ _ dX0_effect_68 rfl (Or.inl ⟨a, ha, rfl, hg, rfl, xinv_off hp (pw_eff hW (m8_lt y) (m8_lt z) c1 c2) hnow rfl h10, hp, rfl⟩)
    refine x_aload_n C dX0_effect_10 rfl ?_
    refine pg_adds C dX0_effect_11 ?_
    refine x_iload_n C dX0_effect_14 rfl ?_
    refine x_iload_n C dX0_effect_15 rfl ?_
    refine x_sipush C (nI 255) dX0_effect_16 (by decide) ?_
    refine x_iand C dX0_effect_19 (and_m8 y) ?_
    refine ps_adds C dX0_effect_20 (by omega) ?_
    refine x_aload_n C dX0_effect_21 rfl ?_
    refine pg_drops C dX0_effect_22 ?_
    refine x_iload_n C dX0_effect_25 rfl ?_
    refine x_iload_n C dX0_effect_26 rfl ?_
    refine x_sipush C (nI 255) dX0_effect_27 (by decide) ?_
    refine x_iand C dX0_effect_30 (and_m8 z) ?_
    refine ps_drops C dX0_effect_31 (by omega) ?_
    refine x_aload_n C dX0_effect_32 rfl ?_
    refine pg_priceOf C dX0_effect_33 ?_
    refine x_iload_n C dX0_effect_36 rfl ?_
    refine x_iload C dX0_effect_37 rfl ?_
    refine x_iconst C (nI 1) dX0_effect_39 (by decide) ?_
    refine x_ic_ge C 47 dX0_effect_40 (by decide) (fun hge => ?_) (fun hlt => ?_)
    · refine x_iload C dX0_effect_47 rfl ?_
      refine x_bipush C (nI 50) dX0_effect_49 (by decide) ?_
      have hnl : ¬ p < nI 1 := fun h => by
        rw [Int32.lt_iff_toInt_lt] at h
        rw [Int32.le_iff_toInt_le] at hge
        omega
      refine x_ic_le C 59 dX0_effect_51 (by decide) (fun hle => ?_) (fun hgt => ?_)
      · have hng : ¬ nI 50 < p := fun h => by
          rw [Int32.lt_iff_toInt_lt] at h
          rw [Int32.le_iff_toInt_le] at hle
          omega
        refine x_iload C dX0_effect_59 rfl ?_
        exact x_top (c3 hnl hng) k61
      · have hg50 : nI 50 < p := by
          rw [Int32.lt_iff_toInt_lt]
          rw [Int32.le_iff_toInt_le] at hgt
          omega
        refine x_bipush C (nI 50) dX0_effect_54 (by decide) ?_
        refine x_goto C 61 dX0_effect_56 (by decide) ?_
        have e : cl50 p = 50 := by unfold cl50; rw [if_neg hnl, if_pos hg50]
        rw [e] at k61
        exact k61
    · have hl1 : p < nI 1 := by
        rw [Int32.lt_iff_toInt_lt]
        rw [Int32.le_iff_toInt_le] at hlt
        omega
      refine x_iconst C (nI 1) dX0_effect_43 (by decide) ?_
      refine x_goto C 61 dX0_effect_44 (by decide) ?_
      have e : cl50 p = 1 := by unfold cl50; rw [if_pos hl1]
      rw [e] at k61
      exact k61
  · refine xn_if_ne C 10 dX0_effect_5 (by decide) (by omega) (fun h => absurd rfl h) (fun _ => ?_)
    refine x_iconst C (-1) dX0_effect_8 (by decide) ?_
    exact Rt 9 _ _ _ dX0_effect_9 rfl (Or.inr ⟨hno, rfl, rfl⟩)
theorem metP_require (l : Launch) (O : XO) (μ : XS) (x y z : Int32) (hI : XInv μ) : GMi (xw O) (oD O) (xT O) l yX0_require cX0_require 4 (some .int) (rmk 0) [.ref (oh O), .int x, .int y, .int z] μ
    (fun r μ' => (∃ a, a < 10 ∧ x = nI a ∧ r = nI 0 ∧ XInv μ' ∧ pX μ' = reqP (pX μ) a (m8 y) (m8 z) ∧ μ'.1 8 = μ.1 8) ∨ ((∀ a, a < 10 → x ≠ nI a) ∧ r = -1 ∧ μ' = μ)) := by
  refine GMi.intro (own := RX0) (by decide) rfl (cat_of rfl) (Nat.le_of_ble_eq_true rfl) ?_
  intro K _ C Rt
  obtain ⟨hW, hnow, h9, h10, hP⟩ := hI
  have k10 : (∀ a, a < 10 → x ≠ nI a) → XAt (xw O) (oD O) K 4 10 [some (.ref (oh O)), some (.int x), some (.int y), some (.int z)] [] μ := by
    intro hno
    refine x_iconst C (-1) dX0_require_10 (by decide) ?_
    exact Rt 11 _ _ _ dX0_require_11 rfl (Or.inr ⟨hno, rfl, rfl⟩)
  refine x_iload_n C dX0_require_0 rfl ?_
  refine x_if_lt C 10 dX0_require_1 (by decide) (fun h0 => k10 fun a ha e => absurd h0 (by rw [e]; exact nI_pos (by omega))) (fun h0 => ?_)
  obtain ⟨a, ha, rfl⟩ := nI_of h0
  refine x_iload_n C dX0_require_4 rfl ?_
  refine x_bipush C (nI 9) dX0_require_5 (by decide) ?_
  refine xn_ic_le C 12 dX0_require_7 (by decide) (by omega) (by omega) (fun hle => ?_) (fun hgt => k10 fun b hb e => absurd ((nI_eq ha (by omega)).mp e) (by omega))
  have hg1 : μ.2 0 a ≤ 1 := (hW.1 a (by omega)).1
  have k49 : ∀ μ1 : XS, pX μ1 = (if pX μ 0 a ≠ 0 then pX μ else sP (sP (sP (sP (pX μ) 0 (un (pX μ 0) a 1)) 3 (un (pX μ 3) a 0)) 4 (un (pX μ 4) a 0)) 5 (un (pX μ 5) a 1)) → μ1.2 1 = μ.2 1 → μ1.2 2 = μ.2 2 → μ1.1 = μ.1 →
      XAt (xw O) (oD O) K 4 49 [some (.ref (oh O)), some (.int (nI a)), some (.int y), some (.int z)] [] μ1 := by
    intro μ1 e0 e1 e2 e3
    refine x_aload_n C dX0_require_49 rfl ?_
    refine pg_needs C dX0_require_50 ?_
    refine x_iload_n C dX0_require_53 rfl ?_
    refine x_iload_n C dX0_require_54 rfl ?_
    refine x_sipush C (nI 255) dX0_require_55 (by decide) ?_
    refine x_iand C dX0_require_58 (and_m8 y) ?_
    refine ps_needs C dX0_require_59 (by omega) ?_
    refine x_aload_n C dX0_require_60 rfl ?_
    refine pg_bars C dX0_require_61 ?_
    refine x_iload_n C dX0_require_64 rfl ?_
    refine x_iload_n C dX0_require_65 rfl ?_
    refine x_sipush C (nI 255) dX0_require_66 (by decide) ?_
    refine x_iand C dX0_require_69 (and_m8 z) ?_
    refine ps_bars C dX0_require_70 (by omega) ?_
    refine x_aload_n C dX0_require_71 rfl ?_
    refine x_iconst C (nI 0) dX0_require_72 (by decide) ?_
    refine pp_planned C dX0_require_73 (by omega) ?_
    refine x_iconst C (nI 0) dX0_require_76 (by decide) ?_
    have hp : pX (sS (sA (sA μ1 1 (un (μ1.2 1) a (m8 y))) 2 (un (μ1.2 2) a (m8 z))) 9 0) = reqP (pX μ) a (m8 y) (m8 z) := by
      rw [pX_sS _ (by decide) (by decide), pX_set _ (by decide), pX_set _ (by decide), e0, e1, e2]; rfl
    refine Rt 77 _ _ _ dX0_require_77 rfl (Or.inl ⟨a, by omega, rfl, rfl, xinv_off hp (pw_req hW (m8_lt y) (m8_lt z)) ?_ rfl ?_, hp, ?_⟩)
    · show μ1.1 8 < 256
      rw [e3]; exact hnow
    · show μ1.1 10 ≤ 1
      rw [e3]; exact h10
    · show μ1.1 8 = μ.1 8
      rw [e3]
  refine x_aload_n C dX0_require_12 rfl ?_
  refine pg_given C dX0_require_13 ?_
  refine x_iload_n C dX0_require_16 rfl ?_
  refine pl_given C dX0_require_17 (by omega) ?_
  refine xn_if_ne C 49 dX0_require_18 (by decide) (by omega) (fun hg => k49 μ (by rw [if_pos (show pX μ 0 a ≠ 0 from hg)]) rfl rfl rfl) (fun hg => ?_)
  refine x_aload_n C dX0_require_21 rfl ?_
  refine pg_given C dX0_require_22 ?_
  refine x_iload_n C dX0_require_25 rfl ?_
  refine x_iconst C (nI 1) dX0_require_26 (by decide) ?_
  refine ps_given C dX0_require_27 (by omega) (by omega) ?_
  refine x_aload_n C dX0_require_28 rfl ?_
  refine pg_adds C dX0_require_29 ?_
  refine x_iload_n C dX0_require_32 rfl ?_
  refine x_iconst C (nI 0) dX0_require_33 (by decide) ?_
  refine ps_adds C dX0_require_34 (by omega) ?_
  refine x_aload_n C dX0_require_35 rfl ?_
  refine pg_drops C dX0_require_36 ?_
  refine x_iload_n C dX0_require_39 rfl ?_
  refine x_iconst C (nI 0) dX0_require_40 (by decide) ?_
  refine ps_drops C dX0_require_41 (by omega) ?_
  refine x_aload_n C dX0_require_42 rfl ?_
  refine pg_priceOf C dX0_require_43 ?_
  refine x_iload_n C dX0_require_46 rfl ?_
  refine x_iconst C (nI 1) dX0_require_47 (by decide) ?_
  refine ps_priceOf C dX0_require_48 (by omega) ?_
  refine k49 _ ?_ rfl rfl rfl
  rw [if_neg (show ¬ pX μ 0 a ≠ 0 from fun h => h hg), pX_set _ (by decide), pX_set _ (by decide), pX_set _ (by decide), pX_set _ (by decide)]
  rfl
end
section
/-! WALKS of the planner: act, reachable -/
theorem metP_act (l : Launch) (O : XO) (μ : XS) (x : Int32) (hI : XInv μ) : GMi (xw O) (oD O) (xT O) l yX0_act cX0_act 3 (some .int) (rmk 7) [.ref (oh O), .int x] μ
    (fun r μ' => (∃ a, a < 10 ∧ x = nI a ∧ cd (pX μ) a (μ.1 8) = true ∧ r = nI 0 ∧ XInv μ' ∧ pX μ' = pX μ ∧ μ'.1 8 = af (pX μ) a (μ.1 8)) ∨ ((∀ a, a < 10 → x = nI a → cd (pX μ) a (μ.1 8) = false) ∧ r = -1 ∧ μ' = μ)) := by
  refine GMi.intro (own := RX0) (by decide) rfl (cat_of rfl) (Nat.le_of_ble_eq_true rfl) ?_
  intro K _ C Rt
  have hI' := hI
  obtain ⟨hW, hnow, h9, h10, hP⟩ := hI
  have k20 : (∀ a, a < 10 → x = nI a → cd (pX μ) a (μ.1 8) = false) → XAt (xw O) (oD O) K 3 20 [some (.ref (oh O)), some (.int x), none] [] μ := by
    intro hno
    refine x_iconst C (-1) dX0_act_20 (by decide) ?_
    exact Rt 21 _ _ _ dX0_act_21 rfl (Or.inr ⟨hno, rfl, rfl⟩)
  refine x_aload_n C dX0_act_0 rfl ?_
  refine x_iload_n C dX0_act_1 rfl ?_
  refine x_calli C (metP_isGiven (kL K) O μ x hW) cwp_isGiven (by decide) ⟨rfl, rfl⟩ (ci := 0) (q0 := 0) rfl rfl rfl (Nat.le_of_ble_eq_true rfl) rfl dX0_act_2 (fun r μ' hr => ?_)
  obtain ⟨rfl, hr⟩ := hr
  rcases hr with ⟨a, ha, rfl, hg, rfl⟩ | ⟨hno, rfl⟩
  · have ha31 : a < 2 ^ 31 := by omega
    refine xn_if_eq C 20 dX0_act_5 (by decide) (by omega) (fun h => absurd h (by decide)) (fun _ => ?_)
    refine x_aload_n C dX0_act_8 rfl ?_
    refine x_iload_n C dX0_act_9 rfl ?_
    refine x_aload_n C dX0_act_10 rfl ?_
    refine pg_nowState C dX0_act_11 ?_
    refine x_calli C (metP_canDo (kL K) O μ' (a := a) (s := μ'.1 8) hW ha hnow) cwp_canDo (by decide) ⟨rfl, rfl⟩ (ci := 0) (q0 := 0) rfl rfl rfl (Nat.le_of_ble_eq_true rfl) rfl dX0_act_14 (fun r μ2 hr => ?_)
    obtain ⟨rfl, rfl⟩ := hr
    have hcd : cd (pX μ2) a (μ2.1 8) = cq (pX μ2) a (μ2.1 8) := cd_eq hg
    refine xn_if_ne C 22 dX0_act_17 (by decide) b31 (fun hq => ?_) (fun hq => k20 (fun b hb e => by rw [← (nI_eq ha31 (by omega)).mp e, hcd]; exact b0 hq))
    have hc : cd (pX μ2) a (μ2.1 8) = true := by rw [hcd]; exact b1 hq
    have ht := af_lt hW ha hnow
    have k66 : XAt (xw O) (oD O) K 3 66 [some (.ref (oh O)), some (.int (nI a)), none] [] μ2 := by
      refine x_aload_n C dX0_act_66 rfl ?_
      refine x_iload_n C dX0_act_67 rfl ?_
      refine x_aload_n C dX0_act_68 rfl ?_
      refine pg_nowState C dX0_act_69 ?_
      refine x_calli C (metP_after (kL K) O μ2 (a := a) (s := μ2.1 8) ha hnow) cwp_after (by decide) ⟨rfl, rfl⟩ (ci := 0) (q0 := 0) rfl rfl rfl (Nat.le_of_ble_eq_true rfl) rfl dX0_act_72 (fun r μ3 hr => ?_)
      obtain ⟨rfl, rfl⟩ := hr
      refine x_istore_n C dX0_act_75 (by decide) ?_
      refine x_iload_n C dX0_act_76 rfl ?_
      refine x_aload_n C dX0_act_77 rfl ?_
      refine pg_nowState C dX0_act_78 ?_
      refine xn_ic_eq C 89 dX0_act_81 (by decide) (by omega) (by omega) (fun he => ?_) (fun hne => ?_)
      · refine x_aload_n C dX0_act_89 rfl ?_
        refine x_iload_n C dX0_act_90 rfl ?_
        refine pp_nowState C dX0_act_91 ?_
        refine x_iconst C (nI 0) dX0_act_94 (by decide) ?_
        rw [he, sS_self]
        exact Rt 95 _ _ _ dX0_act_95 rfl (Or.inl ⟨a, ha, rfl, hc, rfl, hI', rfl, he.symm⟩)
      · refine x_aload_n C dX0_act_84 rfl ?_
        refine x_iconst C (nI 0) dX0_act_85 (by decide) ?_
        refine pp_planned C dX0_act_86 (by omega) ?_
        refine x_aload_n C dX0_act_89 rfl ?_
        refine x_iload_n C dX0_act_90 rfl ?_
        refine pp_nowState C dX0_act_91 ?_
        refine x_iconst C (nI 0) dX0_act_94 (by decide) ?_
        have hp : pX (sS (sS μ3 9 0) 8 (af (pX μ3) a (μ3.1 8))) = pX μ3 := by rw [pX_sS _ (by decide) (by decide), pX_sS _ (by decide) (by decide)]
        exact Rt 95 _ _ _ dX0_act_95 rfl (Or.inl ⟨a, ha, rfl, hc, rfl, xinv_off hp hW ht rfl h10, hp, rfl⟩)
    refine x_aload_n C dX0_act_22 rfl ?_
    refine pg_planned C dX0_act_23 ?_
    refine xn_if_eq C 66 dX0_act_26 (by decide) (by omega) (fun _ => k66) (fun hpd => ?_)
    obtain ⟨hpl, hpos, hlen, -⟩ := hP hpd
    refine x_aload_n C dX0_act_29 rfl ?_
    refine pg_hasPlan C dX0_act_30 ?_
    refine xn_if_eq C 66 dX0_act_33 (by decide) (by omega) (fun _ => k66) (fun hh => ?_)
    refine x_aload_n C dX0_act_36 rfl ?_
    refine pg_planAt C dX0_act_37 ?_
    refine x_aload_n C dX0_act_40 rfl ?_
    refine pg_planLength C dX0_act_41 ?_
    refine xn_ic_ge C 66 dX0_act_44 (by decide) (by omega) (by omega) (fun _ => k66) (fun hlt => ?_)
    have hp10 := hpl _ hlt
    refine x_aload_n C dX0_act_47 rfl ?_
    refine pg_plan C dX0_act_48 ?_
    refine x_aload_n C dX0_act_51 rfl ?_
    refine pg_planAt C dX0_act_52 ?_
    refine pl_plan C dX0_act_55 (by omega) ?_
    refine x_iload_n C dX0_act_56 rfl ?_
    refine xn_ic_ne C 66 dX0_act_57 (by decide) (by omega) (by omega) (fun _ => k66) (fun he => ?_)
    refine x_aload_n C dX0_act_60 rfl ?_
    refine x_callv C (metP_followPlan (kL K) O μ2 hI' hpd hh hlt) cwp_followPlan (by decide) ⟨rfl, rfl⟩ (ci := 0) (q0 := 0) rfl rfl rfl (Nat.le_of_ble_eq_true rfl) rfl dX0_act_61 (fun μ3 h3 => ?_)
    obtain ⟨q1, q2, q3⟩ := h3
    rw [he] at q3
    refine x_iconst C (nI 0) dX0_act_64 (by decide) ?_
    exact Rt 65 _ _ _ dX0_act_65 rfl (Or.inl ⟨a, ha, rfl, hc, rfl, q1, q2, q3⟩)
  · refine xn_if_eq C 20 dX0_act_5 (by decide) (by omega) (fun _ => k20 (fun a ha e => cd_no (hno a ha e))) (fun h => absurd rfl h)
/-- a breadth-first search under way -/
def BI (P : PB) (s0 : Nat) (ob lf : Nat → Nat) (fd : Nat) : Prop := (∀ x, x < 256 → ob x ≤ 1) ∧ fd = cn ob ∧ (∀ i, i < fd → lf i < 256 ∧ ob (lf i) ≠ 0) ∧ (∀ x, x < 256 → ob x ≠ 0 → (∃ i, i < fd ∧ lf i = x) ∧ Rch P s0 x) ∧ ob s0 ≠ 0
theorem BI.add {P : PB} {s0 : Nat} {ob lf : Nat → Nat} {fd t : Nat} (h : BI P s0 ob lf fd) (ht : t < 256) (h0 : ob t = 0) (hr : Rch P s0 t) : BI P s0 (un ob t 1) (un lf fd t) (fd + 1) ∧ fd < 256 := by
  obtain ⟨h1, h2, h3, h4, h5⟩ := h
  refine ⟨⟨fun x hx => un_cases (Q := fun z => z ≤ 1) (Nat.le_refl 1) (h1 x hx), by rw [cn_un ht h0, h2], fun i hi => ?_, fun x hx hne => ?_, ?_⟩, ?_⟩
  · by_cases e : i = fd
    · rw [e, un_s, un_s]; exact ⟨ht, by decide⟩
    · have := h3 i (by omega)
      rw [un_n e]
      refine ⟨this.1, ?_⟩
      rw [un_n (fun q => this.2 (by rw [q]; exact h0))]
      exact this.2
  · by_cases e : x = t
    · subst e
      exact ⟨⟨fd, by omega, un_s _ _ _⟩, hr⟩
    · rw [un_n e] at hne
      obtain ⟨⟨i, hi, he⟩, q⟩ := h4 x hx hne
      exact ⟨⟨i, by omega, by rw [un_n (by omega)]; exact he⟩, q⟩
  · rw [un_n (fun q => h5 (by rw [q]; exact h0))]
    exact h5
  · rw [h2]
    exact cnt_room ht (by simp [h0])
def sB (μ : XS) (ob lf : Nat → Nat) : XS := sA (sA μ 21 ob) 19 lf
theorem sB_s (μ : XS) (ob lf o2 l2 : Nat → Nat) : sA (sA (sB μ ob lf) 21 o2) 19 l2 = sB μ o2 l2 := by
  apply Prod.ext <;> funext j <;> simp only [sB, sA] <;> (repeat' split) <;> first | rfl | omega
theorem pX_sB (μ : XS) (ob lf : Nat → Nat) : pX (sB μ ob lf) = pX μ := by
  unfold sB
  rw [pX_sA _ (by decide), pX_sA _ (by decide)]
theorem metP_reachable (l : Launch) (O : XO) (μ : XS) (hI : XInv μ) : GMi (xw O) (oD O) (xT O) l yX0_reachable cX0_reachable 5 (some .int) (rmk 7) [.ref (oh O)] μ
    (fun r μ' => ∃ ob, (∀ x, x < 256 → (ob x ≠ 0 ↔ Rch (pX μ) (μ.1 8) x)) ∧ r = nI (cn ob) ∧ XInv μ' ∧ pX μ' = pX μ ∧ μ'.1 8 = μ.1 8) := by
  refine GMi.intro (own := RX0) (by decide) rfl (cat_of rfl) (Nat.le_of_ble_eq_true rfl) ?_
  intro K _ C Rt
  obtain ⟨hW, hnow, h9, h10, hP⟩ := hI
  have k150 : ∀ (ob lf : Nat → Nat) (fd k : Nat) (rest : List (Option Value)), BI (pX μ) (μ.1 8) ob lf fd → fd ≤ k → (∀ i, i < k → i < fd → ∀ a, a < 10 → cd (pX μ) a (lf i) = true → ob (af (pX μ) a (lf i)) ≠ 0) →
      XAt (xw O) (oD O) K 5 150 (some (.ref (oh O)) :: some (.int (nI fd)) :: rest) [] (sB μ ob lf) := by
    intro ob lf fd k rest hB hk hcl
    refine x_iload_n C dX0_reachable_150 rfl ?_
    refine Rt 151 _ _ _ dX0_reachable_151 rfl ⟨ob, fun x hx => ⟨fun h => (hB.2.2.2.1 x hx h).2, fun h => ?_⟩, by rw [hB.2.1], ⟨?_, hnow, h9, h10, ?_⟩, pX_sB μ ob lf, rfl⟩
    · refine (Rch.sub hW hnow h (fun z => ob z ≠ 0) hB.2.2.2.2 (fun y a hy ha hT hc => ?_)).2
      obtain ⟨⟨i, hi, rfl⟩, -⟩ := hB.2.2.2.1 y hy hT
      exact hcl i (by omega) hi a ha hc
    · rw [pX_sB]; exact hW
    · rw [pX_sB]; exact hP
  have outer : ∀ (n k fd : Nat) (ob lf : Nat → Nat), k + n = 256 → BI (pX μ) (μ.1 8) ob lf fd → (∀ i, i < k → i < fd → ∀ a, a < 10 → cd (pX μ) a (lf i) = true → ob (af (pX μ) a (lf i)) ≠ 0) →
      XAt (xw O) (oD O) K 5 46 [some (.ref (oh O)), some (.int (nI fd)), some (.int (nI k)), none, none] [] (sB μ ob lf) := by
    intro n
    induction n with
    | zero =>
      intro k fd ob lf hk hB hcl
      have hfd : fd ≤ 256 := by rw [hB.2.1]; exact cnt_le _ _
      refine x_iload_n C dX0_reachable_46 rfl ?_
      refine x_iload_n C dX0_reachable_47 rfl ?_
      refine xn_ic_ge C 150 dX0_reachable_48 (by decide) (by omega) (by omega) (fun h => k150 ob lf fd k _ hB h hcl) (fun h => by omega)
    | succ n ih =>
      intro k fd ob lf hk hB hcl
      have hfd : fd ≤ 256 := by rw [hB.2.1]; exact cnt_le _ _
      refine x_iload_n C dX0_reachable_46 rfl ?_
      refine x_iload_n C dX0_reachable_47 rfl ?_
      refine xn_ic_ge C 150 dX0_reachable_48 (by decide) (by omega) (by omega) (fun h => k150 ob lf fd k _ hB h hcl) (fun hkf => ?_)
      refine x_iload_n C dX0_reachable_51 rfl ?_
      refine x_sipush C (nI 256) dX0_reachable_52 (by decide) ?_
      refine xn_ic_ge C 150 dX0_reachable_55 (by decide) (by omega) (by omega) (fun h => by omega) (fun _ => ?_)
      have inner : ∀ (m a fd : Nat) (ob lf : Nat → Nat), a + m = 10 → k < fd → fd ≤ 256 → BI (pX μ) (μ.1 8) ob lf fd → (∀ i, i < k → i < fd → ∀ a, a < 10 → cd (pX μ) a (lf i) = true → ob (af (pX μ) a (lf i)) ≠ 0) → (∀ b, b < a → cd (pX μ) b (lf k) = true → ob (af (pX μ) b (lf k)) ≠ 0) →
          XAt (xw O) (oD O) K 5 60 [some (.ref (oh O)), some (.int (nI fd)), some (.int (nI k)), some (.int (nI a)), none] [] (sB μ ob lf) := by
        intro m
        induction m with
        | zero =>
          intro a fd ob lf ha hkf hfd hB hcl hca
          refine x_iload_n C dX0_reachable_60 rfl ?_
          refine x_bipush C (nI 10) dX0_reachable_61 (by decide) ?_
          refine xn_ic_ge C 144 dX0_reachable_63 (by decide) (by omega) (by omega) (fun _ => ?_) (fun h => by omega)
          refine x_inc1 C dX0_reachable_144 rfl (by decide) ?_
          refine x_goto C 46 dX0_reachable_147 (by decide) ?_
          exact x_drop 3 (ih (k + 1) fd ob lf (by omega) hB (fun i hi hif a2 ha2 hc2 => by
            by_cases e : i = k
            · subst e; exact hca a2 (by omega) hc2
            · exact hcl i (by omega) hif a2 ha2 hc2))
        | succ m ih2 =>
          intro a fd ob lf ha hkf hfd hB hcl hca
          have ha' : a < 10 := by omega
          have hg1 : μ.2 0 a ≤ 1 := (hW.1 a ha').1
          have hlk := (hB.2.2.1 k hkf).1
          have hrk := (hB.2.2.2.1 _ hlk (hB.2.2.1 k hkf).2).2
          have k107 : ∀ t, t < 256 → (ob t ≠ 0 ∨ Rch (pX μ) (μ.1 8) t) → (cd (pX μ) a (lf k) = true → t = af (pX μ) a (lf k)) → XAt (xw O) (oD O) K 5 107 [some (.ref (oh O)), some (.int (nI fd)), some (.int (nI k)), some (.int (nI a)), none] [.int (nI t)] (sB μ ob lf) := by
            intro t ht hrt hct
            have hot := hB.1 t ht
            refine x_istore C dX0_reachable_107 (by decide) ?_
            refine x_aload_n C dX0_reachable_109 rfl ?_
            refine pg_onBest C dX0_reachable_110 ?_
            refine x_iload C dX0_reachable_113 rfl ?_
            refine pl_onBest C dX0_reachable_115 ht ?_
            refine xn_if_ne C 138 dX0_reachable_116 (by decide) (show ob t < 2 ^ 31 by omega) (fun hne => ?_) (fun h0 => ?_)
            · refine x_inc1 C dX0_reachable_138 rfl (by decide) ?_
              refine x_goto C 60 dX0_reachable_141 (by decide) ?_
              exact x_drop 4 (ih2 (a + 1) fd ob lf (by omega) hkf hfd hB hcl (fun b hb hc => by
                by_cases e : b = a
                · subst e; rw [← hct hc]; exact hne
                · exact hca b (by omega) hc))
            · have h0 : ob t = 0 := h0
              have hr : Rch (pX μ) (μ.1 8) t := hrt.elim (fun q => absurd h0 q) (fun q => q)
              obtain ⟨hB2, hlt⟩ := hB.add ht h0 hr
              have hmono : ∀ z, ob z ≠ 0 → un ob t 1 z ≠ 0 := fun z hz => un_cases (Q := fun w => w ≠ 0) (by decide) hz
              refine x_aload_n C dX0_reachable_119 rfl ?_
              refine pg_onBest C dX0_reachable_120 ?_
              refine x_iload C dX0_reachable_123 rfl ?_
              refine x_iconst C (nI 1) dX0_reachable_125 (by decide) ?_
              refine ps_onBest C dX0_reachable_126 ht (by omega) ?_
              refine x_aload_n C dX0_reachable_127 rfl ?_
              refine pg_left C dX0_reachable_128 ?_
              refine x_iload_n C dX0_reachable_131 rfl ?_
              refine x_iload C dX0_reachable_132 rfl ?_
              refine ps_left C dX0_reachable_134 hlt ?_
              refine show XAt (xw O) (oD O) K 5 135 _ _ (sA (sA (sB μ ob lf) 21 (un ob t 1)) 19 (un lf fd t)) from ?_
              rw [sB_s]
              refine x_inc1 C dX0_reachable_135 rfl (by decide) ?_
              refine x_inc1 C dX0_reachable_138 rfl (by decide) ?_
              refine x_goto C 60 dX0_reachable_141 (by decide) ?_
              refine x_drop 4 (ih2 (a + 1) (fd + 1) (un ob t 1) (un lf fd t) (by omega) (by omega) (by omega) hB2 (fun i hi hif a2 ha2 hc2 => ?_) (fun b hb hc => ?_))
              · rw [un_n (show i ≠ fd by omega)] at hc2 ⊢
                exact hmono _ (hcl i hi (by omega) a2 ha2 hc2)
              · rw [un_n (show k ≠ fd by omega)] at hc ⊢
                by_cases e : b = a
                · subst e; rw [← hct hc, un_s]; decide
                · exact hmono _ (hca b (by omega) hc)
          have k103 : cd (pX μ) a (lf k) = false → XAt (xw O) (oD O) K 5 103 [some (.ref (oh O)), some (.int (nI fd)), some (.int (nI k)), some (.int (nI a)), none] [] (sB μ ob lf) := by
            intro hc
            refine x_aload_n C dX0_reachable_103 rfl ?_
            refine pg_nowState C dX0_reachable_104 ?_
            exact k107 (μ.1 8) hnow (Or.inr (Rch.rf _ _)) (fun q => by rw [hc] at q; exact absurd q (by decide))
          refine x_iload_n C dX0_reachable_60 rfl ?_
          refine x_bipush C (nI 10) dX0_reachable_61 (by decide) ?_
          refine xn_ic_ge C 144 dX0_reachable_63 (by decide) (by omega) (by omega) (fun h => by omega) (fun _ => ?_)
          refine x_aload_n C dX0_reachable_66 rfl ?_
          refine pg_given C dX0_reachable_67 ?_
          refine x_iload_n C dX0_reachable_70 rfl ?_
          refine pl_given C dX0_reachable_71 (by omega) ?_
          refine xn_if_eq C 103 dX0_reachable_72 (by decide) (show μ.2 0 a < 2 ^ 31 by omega) (fun h => k103 (cd_no h)) (fun hgv => ?_)
          refine x_aload_n C dX0_reachable_75 rfl ?_
          refine x_iload_n C dX0_reachable_76 rfl ?_
          refine x_aload_n C dX0_reachable_77 rfl ?_
          refine pg_left C dX0_reachable_78 ?_
          refine x_iload_n C dX0_reachable_81 rfl ?_
          refine pl_left C dX0_reachable_82 (by omega) ?_
          refine x_calli C (metP_canDo (kL K) O (sB μ ob lf) (a := a) (s := lf k) hW ha' hlk) cwp_canDo (by decide) ⟨rfl, rfl⟩ (ci := 0) (q0 := 0) rfl rfl rfl (Nat.le_of_ble_eq_true rfl) rfl dX0_reachable_83 (fun r μ' hr => ?_)
          obtain ⟨rfl, hr⟩ := hr
          have hr : r = nI (cq (pX μ) a (lf k)).toNat := hr
          subst hr
          have hcd : cd (pX μ) a (lf k) = cq (pX μ) a (lf k) := cd_eq hgv
          refine xn_if_eq C 103 dX0_reachable_86 (by decide) b31 (fun h => k103 (by rw [hcd]; exact b0 h)) (fun hq => ?_)
          have hc : cd (pX μ) a (lf k) = true := by rw [hcd]; exact b1 hq
          refine x_aload_n C dX0_reachable_89 rfl ?_
          refine x_iload_n C dX0_reachable_90 rfl ?_
          refine x_aload_n C dX0_reachable_91 rfl ?_
          refine pg_left C dX0_reachable_92 ?_
          refine x_iload_n C dX0_reachable_95 rfl ?_
          refine pl_left C dX0_reachable_96 (by omega) ?_
          refine x_calli C (metP_after (kL K) O (sB μ ob lf) (a := a) (s := lf k) ha' hlk) cwp_after (by decide) ⟨rfl, rfl⟩ (ci := 0) (q0 := 0) rfl rfl rfl (Nat.le_of_ble_eq_true rfl) rfl dX0_reachable_97 (fun r μ' hr => ?_)
          obtain ⟨rfl, hr⟩ := hr
          have hr : r = nI (af (pX μ) a (lf k)) := hr
          subst hr
          refine x_goto C 107 dX0_reachable_100 (by decide) ?_
          exact k107 _ (af_lt hW ha' hlk) (Or.inr (hrk.next hlk ha' hc)) (fun _ => rfl)
      refine x_iconst C (nI 0) dX0_reachable_58 (by decide) ?_
      refine x_istore_n C dX0_reachable_59 (by decide) ?_
      exact inner 10 0 fd ob lf rfl hkf hfd hB hcl (fun b hb => by omega)
  have fillL : ∀ (n i : Nat), i + n = 256 → XAt (xw O) (oD O) K 5 2 [some (.ref (oh O)), some (.int (nI i)), none, none, none] [] (sA μ 21 (fill (μ.2 21) i 0)) := by
    intro n
    induction n with
    | zero =>
      intro i hi
      have ei : i = 256 := by omega
      subst ei
      have f0 : ∀ x, x < 256 → fill (μ.2 21) 256 0 x = 0 := fun x hx => fill_in hx
      generalize fill (μ.2 21) 256 0 = o0 at *
      refine x_iload_n C dX0_reachable_2 rfl ?_
      refine x_sipush C (nI 256) dX0_reachable_3 (by decide) ?_
      refine xn_ic_ge C 22 dX0_reachable_6 (by decide) (by omega) (by omega) (fun _ => ?_) (fun h => by omega)
      refine x_aload_n C dX0_reachable_22 rfl ?_
      refine pg_onBest C dX0_reachable_23 ?_
      refine x_aload_n C dX0_reachable_26 rfl ?_
      refine pg_nowState C dX0_reachable_27 ?_
      refine x_iconst C (nI 1) dX0_reachable_30 (by decide) ?_
      refine ps_onBest C dX0_reachable_31 hnow (by omega) ?_
      refine x_aload_n C dX0_reachable_32 rfl ?_
      refine pg_left C dX0_reachable_33 ?_
      refine x_iconst C (nI 0) dX0_reachable_36 (by decide) ?_
      refine x_aload_n C dX0_reachable_37 rfl ?_
      refine pg_nowState C dX0_reachable_38 ?_
      refine ps_left C dX0_reachable_41 (by omega) ?_
      refine show XAt (xw O) (oD O) K 5 42 _ _ (sA (sA (sA μ 21 o0) 21 (un o0 (μ.1 8) 1)) 19 (un (μ.2 19) 0 (μ.1 8))) from ?_
      rw [sA_sA]
      refine x_iconst C (nI 1) dX0_reachable_42 (by decide) ?_
      refine x_istore_n C dX0_reachable_43 (by decide) ?_
      refine x_iconst C (nI 0) dX0_reachable_44 (by decide) ?_
      refine x_istore_n C dX0_reachable_45 (by decide) ?_
      refine outer 256 0 1 (un o0 (μ.1 8) 1) (un (μ.2 19) 0 (μ.1 8)) rfl ⟨fun x hx => un_cases (Q := fun z => z ≤ 1) (Nat.le_refl 1) (by rw [f0 x hx]; decide), ?_, fun i hi => ?_, fun x hx hne => ?_, ?_⟩ (fun i hi => by omega)
      · rw [cn_un hnow (f0 _ hnow)]
        unfold cn
        rw [cnt_none 256 (fun x hx => by simp [f0 x hx])]
      · rw [show i = 0 by omega, un_s, un_s]
        exact ⟨hnow, by decide⟩
      · by_cases e : x = μ.1 8
        · rw [e]
          exact ⟨⟨0, by decide, un_s _ _ _⟩, Rch.rf _ _⟩
        · rw [un_n e] at hne
          exact absurd (f0 x hx) hne
      · rw [un_s]; decide
    | succ n ih =>
      intro i hi
      refine x_iload_n C dX0_reachable_2 rfl ?_
      refine x_sipush C (nI 256) dX0_reachable_3 (by decide) ?_
      refine xn_ic_ge C 22 dX0_reachable_6 (by decide) (by omega) (by omega) (fun h => by omega) (fun _ => ?_)
      refine x_aload_n C dX0_reachable_9 rfl ?_
      refine pg_onBest C dX0_reachable_10 ?_
      refine x_iload_n C dX0_reachable_13 rfl ?_
      refine x_iconst C (nI 0) dX0_reachable_14 (by decide) ?_
      refine ps_onBest C dX0_reachable_15 (by omega) (by omega) ?_
      refine show XAt (xw O) (oD O) K 5 16 _ _ (sA (sA μ 21 (fill (μ.2 21) i 0)) 21 (un (fill (μ.2 21) i 0) i 0)) from ?_
      rw [sA_sA, fill_un]
      refine x_inc1 C dX0_reachable_16 rfl (by decide) ?_
      refine x_goto C 2 dX0_reachable_19 (by decide) ?_
      exact ih (i + 1) (by omega)
  refine x_iconst C (nI 0) dX0_reachable_0 (by decide) ?_
  refine x_istore_n C dX0_reachable_1 (by decide) ?_
  have := fillL 256 0 rfl
  rw [fill_0, sA_self] at this
  exact this
end
section
/-! WALKS of the model: leaves, the least prices -/
theorem pM_set (ν : XS) {k : Nat} (h : k < 6) (f : Nat → Nat) : pM (sA ν (k + 3) f) = sP (pM ν) k f := by
  funext j
  unfold pM sP sA
  dsimp only
  by_cases e : j = k
  · rw [if_pos (show j < 6 by omega), if_pos (show j + 3 = k + 3 by omega), if_pos e]
  · rw [if_neg (show ¬ j + 3 = k + 3 by omega), if_neg e]
theorem pM_sA (ν : XS) {k : Nat} (h : 9 ≤ k) (f : Nat → Nat) : pM (sA ν k f) = pM ν := by
  funext j
  unfold pM sA
  dsimp only
  by_cases e : j < 6
  · rw [if_pos e, if_pos e, if_neg (show ¬ j + 3 = k by omega)]
  · rw [if_neg e, if_neg e]
theorem pM_s0 (ν : XS) (v : Nat) : pM (sS ν 0 v) = pM ν := by
  funext j
  unfold pM sS
  dsimp only
  by_cases e : j < 6
  · rw [if_pos e, if_pos e]
  · rw [if_neg e, if_neg e]
    by_cases e8 : j < 8
    · rw [if_pos e8, if_pos e8]
      funext _
      rw [if_neg (show ¬ j - 5 = 0 by omega)]
    · rw [if_neg e8, if_neg e8]
theorem pM_set6 (ν : XS) {k : Nat} (h6 : 6 ≤ k) (h8 : k < 8) (v : Nat) : pM (sS ν (k - 5) v) = sP (pM ν) k (fun _ => v) := by
  funext j
  unfold pM sP sS
  dsimp only
  by_cases e : j = k
  · subst e
    rw [if_neg (show ¬ j < 6 by omega), if_pos h8, if_pos rfl]
    funext _
    rw [if_pos rfl]
  · rw [if_neg e]
    by_cases q : j < 6
    · rw [if_pos q, if_pos q]
    · rw [if_neg q, if_neg q]
      by_cases q8 : j < 8
      · rw [if_pos q8, if_pos q8]
        funext _
        rw [if_neg (show ¬ j - 5 = k - 5 by omega)]
      · rw [if_neg q8, if_neg q8]
theorem and255_id {x : Nat} (h : x < 256) : x &&& 255 = x := by
  have := Nat.and_two_pow_sub_one_eq_mod x 8
  rw [show (2 : Nat) ^ 8 - 1 = 255 from rfl] at this
  rw [this]
  exact Nat.mod_eq_of_lt h
theorem metM_bad (l : Launch) (O : XO) (ν : XS) (x : Int32) : GMi (yw O) (oD O) (xT O) l yX1_bad cX1_bad 1 (some .boolean) (rmk 0) [.int x] ν
    (fun r ν' => ν' = ν ∧ ((∃ a, a < 10 ∧ x = nI a ∧ r = nI 0) ∨ ((∀ a, a < 10 → x ≠ nI a) ∧ r = nI 1))) := by
  refine GMi.intro (own := RX1) (by decide) rfl (cat_of rfl) (Nat.le_of_ble_eq_true rfl) ?_
  intro K _ C Rt
  have k10 : (∀ a, a < 10 → x ≠ nI a) → XAt (yw O) (oD O) K 1 10 [some (.int x)] [] ν := by
    intro hno
    refine x_iconst C (nI 1) dX1_bad_10 (by decide) ?_
    refine x_goto C 15 dX1_bad_11 (by decide) ?_
    exact Rt 15 _ _ _ dX1_bad_15 (by decide) ⟨rfl, Or.inr ⟨hno, rfl⟩⟩
  refine x_iload_n C dX1_bad_0 rfl ?_
  refine x_if_lt C 10 dX1_bad_1 (by decide) (fun h0 => k10 fun a ha e => absurd h0 (by rw [e]; exact nI_pos (by omega))) (fun h0 => ?_)
  obtain ⟨a, ha, rfl⟩ := nI_of h0
  refine x_iload_n C dX1_bad_4 rfl ?_
  refine x_bipush C (nI 9) dX1_bad_5 (by decide) ?_
  refine xn_ic_le C 14 dX1_bad_7 (by decide) (by omega) (by omega) (fun hle => ?_) (fun hgt => k10 fun b hb e => absurd ((nI_eq ha (by omega)).mp e) (by omega))
  refine x_iconst C (nI 0) dX1_bad_14 (by decide) ?_
  exact Rt 15 _ _ _ dX1_bad_15 (by decide) ⟨rfl, Or.inl ⟨a, by omega, rfl, rfl⟩⟩
theorem metM_wanted (l : Launch) (O : XO) (ν : XS) {s : Nat} (hW : PW (pM ν)) (hs : s < 256) : GMi (yw O) (oD O) (xT O) l yX1_wanted cX1_wanted 2 (some .boolean) (rmk 0) [.ref (oh O), .int (nI s)] ν
    (fun r ν' => ν' = ν ∧ r = nI (gl (pM ν) s).toNat) := by
  refine GMi.intro (own := RX1) (by decide) rfl (cat_of rfl) (Nat.le_of_ble_eq_true rfl) ?_
  intro K _ C Rt
  have h1 : ν.1 1 < 256 := hW.2.1
  have h2 : ν.1 2 < 256 := hW.2.2
  have l1 : s &&& ν.1 1 ≤ s := and_le_l
  have l2 : s &&& ν.1 2 ≤ s := and_le_l
  have eg : gl (pM ν) s = (decide (s &&& ν.1 1 = ν.1 1) && decide (s &&& ν.1 2 = 0)) := rfl
  have k26 : gl (pM ν) s = false → XAt (yw O) (oD O) K 2 26 [some (.ref (oh O)), some (.int (nI s))] [] ν := by
    intro hn
    refine x_iconst C (nI 0) dX1_wanted_26 (by decide) ?_
    exact Rt 27 _ _ _ dX1_wanted_27 (by decide) ⟨rfl, by rw [hn]; rfl⟩
  refine x_iload_n C dX1_wanted_0 rfl ?_
  refine x_aload_n C dX1_wanted_1 rfl ?_
  refine mg_wantTrue C dX1_wanted_2 ?_
  refine x_iand C dX1_wanted_5 (nI_and _ _) ?_
  refine x_aload_n C dX1_wanted_6 rfl ?_
  refine mg_wantTrue C dX1_wanted_7 ?_
  refine xn_ic_ne C 26 dX1_wanted_10 (by decide) (by omega) (by omega) (fun h => k26 (by rw [eg]; simp [h])) (fun h => ?_)
  refine x_iload_n C dX1_wanted_13 rfl ?_
  refine x_aload_n C dX1_wanted_14 rfl ?_
  refine mg_wantFalse C dX1_wanted_15 ?_
  refine x_iand C dX1_wanted_18 (nI_and _ _) ?_
  refine xn_if_ne C 26 dX1_wanted_19 (by decide) (by omega) (fun h3 => k26 (by rw [eg]; simp [h3])) (fun h3 => ?_)
  refine x_iconst C (nI 1) dX1_wanted_22 (by decide) ?_
  refine x_goto C 27 dX1_wanted_23 (by decide) ?_
  exact Rt 27 _ _ _ dX1_wanted_27 (by decide) ⟨rfl, by rw [eg, h, h3]; simp⟩
theorem metM_canDo (l : Launch) (O : XO) (ν : XS) {a s : Nat} (hW : PW (pM ν)) (ha : a < 10) (hs : s < 256) : GMi (yw O) (oD O) (xT O) l yX1_canDo cX1_canDo 3 (some .boolean) (rmk 0) [.ref (oh O), .int (nI a), .int (nI s)] ν
    (fun r ν' => ν' = ν ∧ r = nI (cd (pM ν) a s).toNat) := by
  refine GMi.intro (own := RX1) (by decide) rfl (cat_of rfl) (Nat.le_of_ble_eq_true rfl) ?_
  intro K _ C Rt
  obtain ⟨h0, h1, h2, -⟩ := hW.1 a ha
  have h0 : ν.2 3 a ≤ 1 := h0
  have h1 : ν.2 4 a < 256 := h1
  have h2 : ν.2 5 a < 256 := h2
  have l1 : s &&& ν.2 4 a ≤ s := and_le_l
  have l2 : s &&& ν.2 5 a ≤ s := and_le_l
  have eg : cd (pM ν) a s = (decide (ν.2 3 a ≠ 0) && (decide (s &&& ν.2 4 a = ν.2 4 a) && decide (s &&& ν.2 5 a = 0))) := rfl
  have k41 : cd (pM ν) a s = false → XAt (yw O) (oD O) K 3 41 [some (.ref (oh O)), some (.int (nI a)), some (.int (nI s))] [] ν := by
    intro hn
    refine x_iconst C (nI 0) dX1_canDo_41 (by decide) ?_
    exact Rt 42 _ _ _ dX1_canDo_42 (by decide) ⟨rfl, by rw [hn]; rfl⟩
  refine x_aload_n C dX1_canDo_0 rfl ?_
  refine mg_given C dX1_canDo_1 ?_
  refine x_iload_n C dX1_canDo_4 rfl ?_
  refine ml_given C dX1_canDo_5 (by omega) ?_
  refine xn_if_eq C 41 dX1_canDo_6 (by decide) (by omega) (fun h => k41 (by rw [eg]; simp [h])) (fun hg => ?_)
  refine x_iload_n C dX1_canDo_9 rfl ?_
  refine x_aload_n C dX1_canDo_10 rfl ?_
  refine mg_needs C dX1_canDo_11 ?_
  refine x_iload_n C dX1_canDo_14 rfl ?_
  refine ml_needs C dX1_canDo_15 (by omega) ?_
  refine x_iand C dX1_canDo_16 (nI_and _ _) ?_
  refine x_aload_n C dX1_canDo_17 rfl ?_
  refine mg_needs C dX1_canDo_18 ?_
  refine x_iload_n C dX1_canDo_21 rfl ?_
  refine ml_needs C dX1_canDo_22 (by omega) ?_
  refine xn_ic_ne C 41 dX1_canDo_23 (by decide) (by omega) (by omega) (fun h => k41 (by rw [eg]; simp [h])) (fun h => ?_)
  refine x_iload_n C dX1_canDo_26 rfl ?_
  refine x_aload_n C dX1_canDo_27 rfl ?_
  refine mg_bars C dX1_canDo_28 ?_
  refine x_iload_n C dX1_canDo_31 rfl ?_
  refine ml_bars C dX1_canDo_32 (by omega) ?_
  refine x_iand C dX1_canDo_33 (nI_and _ _) ?_
  refine xn_if_ne C 41 dX1_canDo_34 (by decide) (by omega) (fun h3 => k41 (by rw [eg]; simp [h3])) (fun h3 => ?_)
  refine x_iconst C (nI 1) dX1_canDo_37 (by decide) ?_
  refine x_goto C 42 dX1_canDo_38 (by decide) ?_
  exact Rt 42 _ _ _ dX1_canDo_42 (by decide) ⟨rfl, by rw [eg, h, h3]; simp [hg]⟩
theorem metM_after (l : Launch) (O : XO) (ν : XS) {a s : Nat} (hW : PW (pM ν)) (ha : a < 10) (hs : s < 256) : GMi (yw O) (oD O) (xT O) l yX1_after cX1_after 3 (some .int) (rmk 0) [.ref (oh O), .int (nI a), .int (nI s)] ν
    (fun r ν' => ν' = ν ∧ r = nI (af (pM ν) a s)) := by
  refine GMi.intro (own := RX1) (by decide) rfl (cat_of rfl) (Nat.le_of_ble_eq_true rfl) ?_
  intro K _ C Rt
  have e : ((s &&& (ν.2 7 a ^^^ 4294967295)) ||| ν.2 6 a) &&& 255 = af (pM ν) a s := by
    rw [and_low hs]
    exact and255_id (af_lt hW ha hs)
  refine x_iload_n C dX1_after_0 rfl ?_
  refine x_aload_n C dX1_after_1 rfl ?_
  refine mg_drops C dX1_after_2 ?_
  refine x_iload_n C dX1_after_5 rfl ?_
  refine ml_drops C dX1_after_6 (by omega) ?_
  refine x_iconst C (-1) dX1_after_7 (by decide) ?_
  refine x_ixor C dX1_after_8 (nI_xm1 _) ?_
  refine x_iand C dX1_after_9 (nI_and _ _) ?_
  refine x_aload_n C dX1_after_10 rfl ?_
  refine mg_adds C dX1_after_11 ?_
  refine x_iload_n C dX1_after_14 rfl ?_
  refine ml_adds C dX1_after_15 (by omega) ?_
  refine x_ior C dX1_after_16 (nI_or _ _) ?_
  refine x_sipush C (nI 255) dX1_after_17 (by decide) ?_
  refine x_iand C dX1_after_20 (nI_and _ _) ?_
  exact Rt 21 _ _ _ dX1_after_21 rfl ⟨rfl, by rw [e]⟩
/-- a price lowered at s, over the actions below n -/
def LI (P : PB) (s n : Nat) (L0 L : Nat → Nat) : Prop := (∀ x, x ≠ s → L x = L0 x) ∧ L s ≤ L0 s ∧ (∀ a, a < n → cd P a s = true → L s ≤ P 5 a + L (af P a s)) ∧ (Sup P L0 → Sup P L) ∧ ∀ H, FixH P H → (∀ x, x < 256 → H x ≤ L0 x) → ∀ x, x < 256 → H x ≤ L x
theorem LI.start (P : PB) (s : Nat) (L : Nat → Nat) : LI P s 0 L L := ⟨fun _ _ => rfl, Nat.le_refl _, fun a ha => by omega, fun h => h, fun _ _ h => h⟩
theorem LI.le {P : PB} {s n : Nat} {L0 L : Nat → Nat} (h : LI P s n L0 L) (x : Nat) : L x ≤ L0 x := by
  by_cases e : x = s
  · subst e; exact h.2.1
  · rw [h.1 x e]; exact Nat.le_refl _
theorem LI.skip {P : PB} {s n : Nat} {L0 L : Nat → Nat} (h : LI P s n L0 L) (hs : cd P n s = true → L s ≤ P 5 n + L (af P n s)) : LI P s (n + 1) L0 L := by
  obtain ⟨h1, h2, h3, h4, h5⟩ := h
  refine ⟨h1, h2, fun a ha hc => ?_, h4, h5⟩
  by_cases e : a = n
  · subst e; exact hs hc
  · exact h3 a (by omega) hc
theorem LI.low {P : PB} (hW : PW P) {s n : Nat} {L0 L : Nat → Nat} (hs : s < 256) (hn : n < 10) (h : LI P s n L0 L) (hc : cd P n s = true) (hlt : P 5 n + L (af P n s) < L s) : LI P s (n + 1) L0 (un L s (P 5 n + L (af P n s))) := by
  obtain ⟨h1, h2, h3, h4, h5⟩ := h
  refine ⟨fun x hx => by rw [un_n hx]; exact h1 x hx, by rw [un_s]; omega, fun a ha hca => ?_, fun hS => sup_low (h4 hS) hs hn hc hlt, fun H hH hle x hx => ?_⟩
  · rw [un_s]
    by_cases e : af P a s = s
    · rw [e, un_s]; omega
    · rw [un_n e]
      by_cases e2 : a = n
      · subst e2; exact Nat.le_refl _
      · have := h3 a (by omega) hca
        omega
  · by_cases e : x = s
    · subst e
      rw [un_s]
      have q1 := hH.2.2.1 x hx n hn hc
      have q2 := h5 H hH hle _ (af_lt hW hn hx)
      omega
    · rw [un_n e]; exact h5 H hH hle x hx
theorem metM_lower (l : Launch) (O : XO) (ν : XS) {s : Nat} (hW : PW (pM ν)) (hs : s < 256) (hL : ∀ x, x < 256 → ν.2 9 x ≤ 1000000) : GMi (yw O) (oD O) (xT O) l yX1_lower cX1_lower 6 (some .boolean) (rmk 1) [.ref (oh O), .int (nI s)] ν
    (fun r ν' => ∃ L, ν' = sA ν 9 L ∧ LI (pM ν) s 10 (ν.2 9) L ∧ ((r = nI 0 ∧ L = ν.2 9) ∨ r = nI 1)) := by
  refine GMi.intro (own := RX1) (by decide) rfl (cat_of rfl) (Nat.le_of_ble_eq_true rfl) ?_
  intro K _ C Rt
  have loop : ∀ (n a lw : Nat) (L : Nat → Nat), a + n = 10 → lw ≤ 1 → LI (pM ν) s a (ν.2 9) L → (lw = 0 → L = ν.2 9) → XAt (yw O) (oD O) K 6 4 [some (.ref (oh O)), some (.int (nI s)), some (.int (nI lw)), some (.int (nI a)), none, none] [] (sA ν 9 L) := by
    intro n
    induction n with
    | zero =>
      intro a lw L ha hlw hI h0
      have ea : a = 10 := by omega
      subst ea
      refine x_iload_n C dX1_lower_4 rfl ?_
      refine x_bipush C (nI 10) dX1_lower_5 (by decide) ?_
      refine xn_ic_ge C 70 dX1_lower_7 (by decide) (by omega) (by omega) (fun _ => ?_) (fun h => by omega)
      refine x_iload_n C dX1_lower_70 rfl ?_
      refine Rt 71 _ _ _ dX1_lower_71 (nar_b hlw).1 ⟨L, rfl, hI, ?_⟩
      have : lw = 0 ∨ lw = 1 := by omega
      rcases this with e | e
      · exact Or.inl ⟨by rw [e], h0 e⟩
      · exact Or.inr (by rw [e])
    | succ n ih =>
      intro a lw L ha hlw hI h0
      have ha' : a < 10 := by omega
      have hp50 : ν.2 8 a ≤ 50 := price_le hW ha'
      have ht := af_lt hW ha' hs
      have hLs : L s ≤ 1000000 := Nat.le_trans (hI.le s) (hL s hs)
      have hLt : L (af (pM ν) a s) ≤ 1000000 := Nat.le_trans (hI.le _) (hL _ ht)
      have k64 : (cd (pM ν) a s = true → L s ≤ pM ν 5 a + L (af (pM ν) a s)) → ∀ w4 w5, XAt (yw O) (oD O) K 6 64 [some (.ref (oh O)), some (.int (nI s)), some (.int (nI lw)), some (.int (nI a)), w4, w5] [] (sA ν 9 L) := by
        intro hk w4 w5
        refine x_inc1 C dX1_lower_64 rfl (by decide) ?_
        refine x_goto C 4 dX1_lower_67 (by decide) ?_
        exact x_drop 4 (x_drop 5 (ih (a + 1) lw L (by omega) hlw (hI.skip hk) h0))
      refine x_iload_n C dX1_lower_4 rfl ?_
      refine x_bipush C (nI 10) dX1_lower_5 (by decide) ?_
      refine xn_ic_ge C 70 dX1_lower_7 (by decide) (by omega) (by omega) (fun h => by omega) (fun _ => ?_)
      refine x_aload_n C dX1_lower_10 rfl ?_
      refine x_iload_n C dX1_lower_11 rfl ?_
      refine x_iload_n C dX1_lower_12 rfl ?_
      refine x_calli C (metM_after (kL K) O (sA ν 9 L) (a := a) (s := s) hW ha' hs) cwm_after (by decide) ⟨rfl, rfl⟩ (ci := 1) (q0 := 0) rfl rfl rfl (Nat.le_of_ble_eq_true rfl) rfl dX1_lower_13 (fun r ν' hr => ?_)
      obtain ⟨rfl, hr⟩ := hr
      have hr : r = nI (af (pM ν) a s) := hr
      subst hr
      refine x_istore C dX1_lower_16 (by decide) ?_
      refine x_aload_n C dX1_lower_18 rfl ?_
      refine mg_cost C dX1_lower_19 ?_
      refine x_iload_n C dX1_lower_22 rfl ?_
      refine ml_cost C dX1_lower_23 (by omega) ?_
      refine x_aload_n C dX1_lower_24 rfl ?_
      refine mg_least C dX1_lower_25 ?_
      refine x_iload C dX1_lower_28 rfl ?_
      refine ml_least C dX1_lower_30 (by omega) ?_
      refine x_iadd C dX1_lower_31 (nI_add _ _) ?_
      refine x_istore C dX1_lower_32 (by decide) ?_
      refine x_aload_n C dX1_lower_34 rfl ?_
      refine x_iload_n C dX1_lower_35 rfl ?_
      refine x_iload_n C dX1_lower_36 rfl ?_
      refine x_calli C (metM_canDo (kL K) O (sA ν 9 L) (a := a) (s := s) hW ha' hs) cwm_canDo (by decide) ⟨rfl, rfl⟩ (ci := 1) (q0 := 0) rfl rfl rfl (Nat.le_of_ble_eq_true rfl) rfl dX1_lower_37 (fun r ν' hr => ?_)
      obtain ⟨rfl, hr⟩ := hr
      have hr : r = nI (cd (pM ν) a s).toNat := hr
      subst hr
      refine xn_if_eq C 64 dX1_lower_40 (by decide) b31 (fun h => k64 (fun q => by rw [b0 h] at q; exact absurd q (by decide)) _ _) (fun hq => ?_)
      have hc := b1 hq
      refine x_iload C dX1_lower_43 rfl ?_
      refine x_aload_n C dX1_lower_45 rfl ?_
      refine mg_least C dX1_lower_46 ?_
      refine x_iload_n C dX1_lower_49 rfl ?_
      refine ml_least C dX1_lower_50 (by omega) ?_
      refine xn_ic_ge C 64 dX1_lower_51 (by decide) (show ν.2 8 a + L (af (pM ν) a s) < 2 ^ 31 by omega) (show L s < 2 ^ 31 by omega) (fun hge => k64 (fun _ => hge) _ _) (fun hlt => ?_)
      refine x_aload_n C dX1_lower_54 rfl ?_
      refine mg_least C dX1_lower_55 ?_
      refine x_iload_n C dX1_lower_58 rfl ?_
      refine x_iload C dX1_lower_59 rfl ?_
      refine ms_least C dX1_lower_61 (by omega) ?_
      refine x_iconst C (nI 1) dX1_lower_62 (by decide) ?_
      refine x_istore_n C dX1_lower_63 (by decide) ?_
      refine show XAt (yw O) (oD O) K 6 64 _ _ (sA (sA ν 9 L) 9 (un L s (ν.2 8 a + L (af (pM ν) a s)))) from ?_
      rw [sA_sA]
      refine x_inc1 C dX1_lower_64 rfl (by decide) ?_
      refine x_goto C 4 dX1_lower_67 (by decide) ?_
      exact x_drop 4 (x_drop 5 (ih (a + 1) 1 _ (by omega) (by decide) (hI.low hW hs ha' hc hlt) (fun h => absurd h (by decide))))
  refine x_iconst C (nI 0) dX1_lower_0 (by decide) ?_
  refine x_istore_n C dX1_lower_1 (by decide) ?_
  refine x_iconst C (nI 0) dX1_lower_2 (by decide) ?_
  refine x_istore_n C dX1_lower_3 (by decide) ?_
  have := loop 10 0 0 (ν.2 9) rfl (by decide) (LI.start _ _ _) (fun _ => rfl)
  rw [sA_self] at this
  exact this
theorem sup_congr {P : PB} (hW : PW P) {L M : Nat → Nat} (h : Sup P L) (e : ∀ s, s < 256 → M s = L s) : Sup P M := by
  refine ⟨fun s hs hg => by rw [e s hs]; exact h.1 s hs hg, fun s hs => by rw [e s hs]; exact h.2.1 s hs, fun s hs hl hg => ?_⟩
  rw [e s hs] at hl ⊢
  obtain ⟨a, ha, hc, hq⟩ := h.2.2 s hs hl hg
  exact ⟨a, ha, hc, by rw [e _ (af_lt hW ha hs)]; exact hq⟩
/-- a round gains a state -/
theorem round_gain {P : PB} (hW : PW P) {H Ls L : Nat → Nat} (hH : FixH P H) (hS : Sup P Ls) (h1 : ∀ x, x < 256 → H x ≤ L x) (h2 : ∀ x, x < 256 → L x ≤ Ls x) (h3 : ∀ x, x < 256 → ∀ a, a < 10 → cd P a x = true → L x ≤ P 5 a + Ls (af P a x))
    (hne : ¬ ∀ x, x < 256 → Ls x = H x) : cnt (fun x => decide (Ls x = H x)) 256 + 1 ≤ cnt (fun x => decide (L x = H x)) 256 := by
  have hex : ∃ k, ∃ x, x < 256 ∧ Ls x ≠ H x ∧ H x = k := by
    apply Classical.byContradiction
    intro q
    exact hne fun x hx => Classical.byContradiction fun q2 => q ⟨H x, x, hx, q2, rfl⟩
  obtain ⟨k, ⟨x, hx, hxne, hk⟩, hmin⟩ := pk_least (fun k => ∃ x, x < 256 ∧ Ls x ≠ H x ∧ H x = k) hex
  have q1 := h1 x hx
  have q2 := h2 x hx
  have q3 := hS.2.1 x hx
  have hg : gl P x = false := by
    cases hg : gl P x with
    | false => rfl
    | true => exact absurd ((hS.1 x hx hg).trans (hH.1 x hx hg).symm) hxne
  obtain ⟨a, ha, hc, he⟩ := hH.2.2.2 x hx (by omega) hg
  have hp := price_pos hW ha hc
  have ht := af_lt hW ha hx
  have e : Ls (af P a x) = H (af P a x) := Classical.byContradiction fun q => hmin (H (af P a x)) (by omega) ⟨_, ht, q, rfl⟩
  have h4 := h3 x hx a ha hc
  refine cnt_lt (j := x) 256 hx (fun i hi q => ?_) ?_ ?_
  · have q : Ls i = H i := by simpa using q
    have := h1 i hi
    have := h2 i hi
    simp; omega
  · simp; omega
  · simp [hxne]
theorem metM_work (l : Launch) (O : XO) (ν : XS) (hW : PW (pM ν)) : GMv (yw O) (oD O) (xT O) l yX1_work cX1_work 4 (rmk 2) [.ref (oh O)] ν
    (fun ν' => ∃ L, ν' = sA ν 9 L ∧ FixH (pM ν) L) := by
  refine GMv.intro (own := RX1) (by decide) rfl (cat_of rfl) (Nat.le_of_ble_eq_true rfl) ?_
  intro K _ C Rt
  obtain ⟨H, hH⟩ := fix_exists (pM ν)
  have rounds : ∀ (n rd mo : Nat) (L : Nat → Nat), rd + n = 256 → mo ≤ 1 → Sup (pM ν) L → (∀ x, x < 256 → H x ≤ L x) → (mo = 0 → Low (pM ν) L) → ((∀ x, x < 256 → L x = H x) ∨ rd ≤ cnt (fun x => decide (L x = H x)) 256) →
      XAt (yw O) (oD O) K 4 39 [some (.ref (oh O)), some (.int (nI mo)), some (.int (nI rd)), none] [] (sA ν 9 L) := by
    intro n
    induction n with
    | zero =>
      intro rd mo L hrd hmo hS hHL hlow hcn
      refine x_iload_n C dX1_work_39 rfl ?_
      refine x_sipush C (nI 256) dX1_work_40 (by decide) ?_
      refine xn_ic_ge C 83 dX1_work_43 (by decide) (by omega) (by omega) (fun _ => ?_) (fun h => by omega)
      refine Rt 83 _ _ dX1_work_83 ⟨L, rfl, fix_congr hW hH ?_⟩
      rcases hcn with q | q
      · exact q
      · intro x hx
        have := cnt_full (p := fun x => decide (L x = H x)) (n := 256) (by omega) x hx
        simpa using this
    | succ n ih =>
      intro rd mo Ls hrd hmo hS hHL hlow hcn
      have inner : ∀ (m s mo : Nat) (L : Nat → Nat), s + m = 256 → mo ≤ 1 → Sup (pM ν) L → (∀ x, x < 256 → H x ≤ L x) → (∀ x, x < 256 → L x ≤ Ls x) → (∀ x, x < s → ∀ a, a < 10 → cd (pM ν) a x = true → L x ≤ pM ν 5 a + Ls (af (pM ν) a x)) → (mo = 0 → L = Ls) →
          XAt (yw O) (oD O) K 4 54 [some (.ref (oh O)), some (.int (nI mo)), some (.int (nI rd)), some (.int (nI s))] [] (sA ν 9 L) := by
        intro m
        induction m with
        | zero =>
          intro s mo L hs hmo hSL hHL2 hle hcl h0
          have es : s = 256 := by omega
          subst es
          refine x_iload_n C dX1_work_54 rfl ?_
          refine x_sipush C (nI 256) dX1_work_55 (by decide) ?_
          refine xn_ic_ge C 77 dX1_work_58 (by decide) (by omega) (by omega) (fun _ => ?_) (fun h => by omega)
          refine x_inc1 C dX1_work_77 rfl (by decide) ?_
          refine x_goto C 39 dX1_work_80 (by decide) ?_
          refine x_drop 3 (ih (rd + 1) mo L (by omega) hmo hSL hHL2 (fun e x hx a ha hc => ?_) ?_)
          · have := hcl x hx a ha hc
            rw [← h0 e] at this
            exact this
          · by_cases hall : ∀ x, x < 256 → Ls x = H x
            · refine Or.inl fun x hx => ?_
              have := hle x hx
              have := hHL2 x hx
              have := hall x hx
              omega
            · have hg := round_gain hW hH hS hHL2 hle hcl hall
              rcases hcn with q | q
              · exact absurd q hall
              · exact Or.inr (by omega)
        | succ m ih2 =>
          intro s mo L hs hmo hSL hHL2 hle hcl h0
          have hs' : s < 256 := by omega
          refine x_iload_n C dX1_work_54 rfl ?_
          refine x_sipush C (nI 256) dX1_work_55 (by decide) ?_
          refine xn_ic_ge C 77 dX1_work_58 (by decide) (by omega) (by omega) (fun h => by omega) (fun _ => ?_)
          refine x_aload_n C dX1_work_61 rfl ?_
          refine x_iload_n C dX1_work_62 rfl ?_
          refine x_calli C (metM_lower (kL K) O (sA ν 9 L) (s := s) hW hs' hSL.2.1) cwm_lower (by decide) ⟨rfl, rfl⟩ (ci := 1) (q0 := 0) rfl rfl rfl (Nat.le_of_ble_eq_true rfl) rfl dX1_work_63 (fun r ν' hr => ?_)
          obtain ⟨L', rfl, hI, hr⟩ := hr
          have hI : LI (pM ν) s 10 L L' := hI
          have hr : (r = nI 0 ∧ L' = L) ∨ r = nI 1 := hr
          rw [sA_sA]
          have hle' : ∀ x, x < 256 → L' x ≤ Ls x := fun x hx => Nat.le_trans (hI.le x) (hle x hx)
          have hcl' : ∀ x, x < s + 1 → ∀ a, a < 10 → cd (pM ν) a x = true → L' x ≤ pM ν 5 a + Ls (af (pM ν) a x) := by
            intro x hx a ha hc
            by_cases e : x = s
            · subst e
              have q1 := hI.2.2.1 a ha hc
              have q2 := hle' _ (af_lt hW ha hs')
              omega
            · exact Nat.le_trans (hI.le x) (hcl x (by omega) a ha hc)
          rcases hr with ⟨rfl, e⟩ | rfl
          · refine xn_if_eq C 71 dX1_work_66 (by decide) (by omega) (fun _ => ?_) (fun h => absurd rfl h)
            refine x_inc1 C dX1_work_71 rfl (by decide) ?_
            refine x_goto C 54 dX1_work_74 (by decide) ?_
            exact ih2 (s + 1) mo L' (by omega) hmo (hI.2.2.2.1 hSL) (hI.2.2.2.2 H hH hHL2) hle' hcl' (fun q => by rw [e]; exact h0 q)
          · refine xn_if_eq C 71 dX1_work_66 (by decide) (by omega) (fun h => absurd h (by decide)) (fun _ => ?_)
            refine x_iconst C (nI 1) dX1_work_69 (by decide) ?_
            refine x_istore_n C dX1_work_70 (by decide) ?_
            refine x_inc1 C dX1_work_71 rfl (by decide) ?_
            refine x_goto C 54 dX1_work_74 (by decide) ?_
            exact ih2 (s + 1) 1 L' (by omega) (by decide) (hI.2.2.2.1 hSL) (hI.2.2.2.2 H hH hHL2) hle' hcl' (fun q => absurd q (by decide))
      refine x_iload_n C dX1_work_39 rfl ?_
      refine x_sipush C (nI 256) dX1_work_40 (by decide) ?_
      refine xn_ic_ge C 83 dX1_work_43 (by decide) (by omega) (by omega) (fun h => by omega) (fun _ => ?_)
      refine x_iload_n C dX1_work_46 rfl ?_
      refine xn_if_eq C 83 dX1_work_47 (by decide) (by omega) (fun h => ?_) (fun _ => ?_)
      · exact Rt 83 _ _ dX1_work_83 (⟨Ls, rfl, fix_of_sup hS (hlow h)⟩)
      · refine x_iconst C (nI 0) dX1_work_50 (by decide) ?_
        refine x_istore_n C dX1_work_51 (by decide) ?_
        refine x_iconst C (nI 0) dX1_work_52 (by decide) ?_
        refine x_istore_n C dX1_work_53 (by decide) ?_
        exact inner 256 0 0 Ls rfl (by decide) hS hHL (fun _ _ => Nat.le_refl _) (fun x hx => by omega) (fun _ => rfl)
  have fillL : ∀ (n i : Nat) (L : Nat → Nat), i + n = 256 → (∀ x, x < i → L x = if gl (pM ν) x = true then 0 else 1000000) → XAt (yw O) (oD O) K 4 2 [some (.ref (oh O)), some (.int (nI i)), none, none] [] (sA ν 9 L) := by
    intro n
    induction n with
    | zero =>
      intro i L hi hL
      have ei : i = 256 := by omega
      subst ei
      have hS : Sup (pM ν) L := sup_congr hW (sup_start (pM ν)) hL
      refine x_iload_n C dX1_work_2 rfl ?_
      refine x_sipush C (nI 256) dX1_work_3 (by decide) ?_
      refine xn_ic_ge C 35 dX1_work_6 (by decide) (by omega) (by omega) (fun _ => ?_) (fun h => by omega)
      refine x_iconst C (nI 1) dX1_work_35 (by decide) ?_
      refine x_istore_n C dX1_work_36 (by decide) ?_
      refine x_iconst C (nI 0) dX1_work_37 (by decide) ?_
      refine x_istore_n C dX1_work_38 (by decide) ?_
      refine x_drop 3 (rounds 256 0 1 L rfl (by decide) hS (fun x hx => ?_) (fun h => absurd h (by decide)) (Or.inr (Nat.zero_le _)))
      rw [hL x hx]
      split
      · rename_i hg
        rw [hH.1 x hx hg]; exact Nat.le_refl _
      · exact hH.2.1 x hx
    | succ n ih =>
      intro i L hi hL
      have hi' : i < 256 := by omega
      have k28 : ∀ v, v = (if gl (pM ν) i = true then 0 else 1000000) → XAt (yw O) (oD O) K 4 28 [some (.ref (oh O)), some (.int (nI i)), none, none] [.int (nI v), .int (nI i), .ref (oa O 9)] (sA ν 9 L) := by
        intro v hv
        refine ms_least C dX1_work_28 (by omega) ?_
        refine show XAt (yw O) (oD O) K 4 29 _ _ (sA (sA ν 9 L) 9 (un L i v)) from ?_
        rw [sA_sA]
        refine x_inc1 C dX1_work_29 rfl (by decide) ?_
        refine x_goto C 2 dX1_work_32 (by decide) ?_
        refine ih (i + 1) (un L i v) (by omega) (fun x hx => ?_)
        by_cases e : x = i
        · rw [e, un_s]; exact hv
        · rw [un_n e]; exact hL x (by omega)
      refine x_iload_n C dX1_work_2 rfl ?_
      refine x_sipush C (nI 256) dX1_work_3 (by decide) ?_
      refine xn_ic_ge C 35 dX1_work_6 (by decide) (by omega) (by omega) (fun h => by omega) (fun _ => ?_)
      refine x_aload_n C dX1_work_9 rfl ?_
      refine mg_least C dX1_work_10 ?_
      refine x_iload_n C dX1_work_13 rfl ?_
      refine x_aload_n C dX1_work_14 rfl ?_
      refine x_iload_n C dX1_work_15 rfl ?_
      refine x_calli C (metM_wanted (kL K) O (sA ν 9 L) (s := i) hW hi') cwm_wanted (by decide) ⟨rfl, rfl⟩ (ci := 1) (q0 := 0) rfl rfl rfl (Nat.le_of_ble_eq_true rfl) rfl dX1_work_16 (fun r ν' hr => ?_)
      obtain ⟨rfl, hr⟩ := hr
      have hr : r = nI (gl (pM ν) i).toNat := hr
      subst hr
      refine xn_if_eq C 26 dX1_work_19 (by decide) b31 (fun h => ?_) (fun h => ?_)
      · refine x_ldc C (nI 1000000) q321 dX1_work_26 (by decide) ?_
        exact k28 1000000 (by rw [b0 h]; rfl)
      · refine x_iconst C (nI 0) dX1_work_22 (by decide) ?_
        refine x_goto C 28 dX1_work_23 (by decide) ?_
        exact k28 0 (by rw [b1 h]; rfl)
  refine x_iconst C (nI 0) dX1_work_0 (by decide) ?_
  refine x_istore_n C dX1_work_1 (by decide) ?_
  have := fillL 256 0 (ν.2 9) rfl (fun x hx => by omega)
  rw [sA_self] at this
  exact this
end
section
/-! WALKS of the model: the public methods -/
theorem d_bad : yX1_bad.cls ≠ "java/lang/invoke/MethodHandle" ∧ yX1_bad.cls ≠ "java/lang/invoke/VarHandle" ∧ (parseMethodDescriptor yX1_bad.desc).map (fun d => d.parameters.length) = some 1 := by decide +kernel
def MInv (ν : XS) : Prop := PW (pM ν) ∧ ν.1 0 < 256
theorem metM_price (l : Launch) (O : XO) (ν : XS) (hI : MInv ν) : GMi (yw O) (oD O) (xT O) l yX1_price cX1_price 1 (some .int) (rmk 3) [.ref (oh O)] ν
    (fun r ν' => ∃ L, FixH (pM ν) L ∧ ν' = sA ν 9 L ∧ ((L (ν.1 0) < 1000000 ∧ r = nI (L (ν.1 0))) ∨ (1000000 ≤ L (ν.1 0) ∧ r = -1))) := by
  refine GMi.intro (own := RX1) (by decide) rfl (cat_of rfl) (Nat.le_of_ble_eq_true rfl) ?_
  intro K _ C Rt
  obtain ⟨hW, hnow⟩ := hI
  refine x_aload_n C dX1_price_0 rfl ?_
  refine x_callv C (metM_work (kL K) O ν hW) cwm_work (by decide) ⟨rfl, rfl⟩ (ci := 1) (q0 := 0) rfl rfl rfl (Nat.le_of_ble_eq_true rfl) rfl dX1_price_1 (fun ν' hr => ?_)
  obtain ⟨L, rfl, hF⟩ := hr
  have hL := hF.2.1 _ hnow
  refine x_aload_n C dX1_price_4 rfl ?_
  refine mg_least C dX1_price_5 ?_
  refine x_aload_n C dX1_price_8 rfl ?_
  refine mg_now C dX1_price_9 ?_
  refine ml_least C dX1_price_12 hnow ?_
  refine x_ldc C (nI 1000000) q321 dX1_price_13 (by decide) ?_
  refine xn_ic_ge C 30 dX1_price_15 (by decide) (show L (ν.1 0) < 2 ^ 31 by omega) (by omega) (fun h => ?_) (fun h => ?_)
  · refine x_iconst C (-1) dX1_price_30 (by decide) ?_
    exact Rt 31 _ _ _ dX1_price_31 rfl ⟨L, hF, rfl, Or.inr ⟨h, rfl⟩⟩
  · refine x_aload_n C dX1_price_18 rfl ?_
    refine mg_least C dX1_price_19 ?_
    refine x_aload_n C dX1_price_22 rfl ?_
    refine mg_now C dX1_price_23 ?_
    refine ml_least C dX1_price_26 hnow ?_
    refine x_goto C 31 dX1_price_27 (by decide) ?_
    exact Rt 31 _ _ _ dX1_price_31 rfl ⟨L, hF, rfl, Or.inl ⟨h, rfl⟩⟩
/-- what first answers -/
def FO (P : PB) (L : Nat → Nat) (s : Nat) : Option Nat → Prop
  | none => L s = 0 ∨ 1000000 ≤ L s
  | some a => L s ≠ 0 ∧ L s < 1000000 ∧ IsFirst P L s a
theorem metM_first (l : Launch) (O : XO) (ν : XS) {s : Nat} (hW : PW (pM ν)) (hs : s < 256) (hF : FixH (pM ν) (ν.2 9)) : GMi (yw O) (oD O) (xT O) l yX1_first cX1_first 4 (some .int) (rmk 1) [.ref (oh O), .int (nI s)] ν
    (fun r ν' => ν' = ν ∧ ∃ o, r = oiN o ∧ FO (pM ν) (ν.2 9) s o) := by
  refine GMi.intro (own := RX1) (by decide) rfl (cat_of rfl) (Nat.le_of_ble_eq_true rfl) ?_
  intro K _ C Rt
  have hL := hF.2.1 s hs
  have k20 : (ν.2 9 s = 0 ∨ 1000000 ≤ ν.2 9 s) → XAt (yw O) (oD O) K 4 20 [some (.ref (oh O)), some (.int (nI s)), none, none] [] ν := by
    intro h
    refine x_iconst C (-1) dX1_first_20 (by decide) ?_
    exact Rt 21 _ _ _ dX1_first_21 rfl ⟨rfl, none, rfl, h⟩
  refine x_aload_n C dX1_first_0 rfl ?_
  refine mg_least C dX1_first_1 ?_
  refine x_iload_n C dX1_first_4 rfl ?_
  refine ml_least C dX1_first_5 (by omega) ?_
  refine xn_if_eq C 20 dX1_first_6 (by decide) (by omega) (fun h => k20 (Or.inl h)) (fun h0 => ?_)
  refine x_aload_n C dX1_first_9 rfl ?_
  refine mg_least C dX1_first_10 ?_
  refine x_iload_n C dX1_first_13 rfl ?_
  refine ml_least C dX1_first_14 (by omega) ?_
  refine x_ldc C (nI 1000000) q321 dX1_first_15 (by decide) ?_
  refine xn_ic_lt C 22 dX1_first_17 (by decide) (by omega) (by omega) (fun hlt => ?_) (fun hge => k20 (Or.inr hge))
  have loop : ∀ (n a : Nat), a + n = 10 → (∀ b, b < a → ¬ (cd (pM ν) b s = true ∧ pM ν 5 b + ν.2 9 (af (pM ν) b s) = ν.2 9 s)) → XAt (yw O) (oD O) K 4 24 [some (.ref (oh O)), some (.int (nI s)), some (.int (nI a)), none] [] ν := by
    intro n
    induction n with
    | zero =>
      intro a ha hno
      obtain ⟨c, hc⟩ := first_exists hF hs h0 hlt
      exact absurd ⟨hc.2.1, hc.2.2.1⟩ (hno c (by have := hc.1; omega))
    | succ n ih =>
      intro a ha hno
      have ha' : a < 10 := by omega
      have ht := af_lt hW ha' hs
      have hLt := hF.2.1 _ ht
      have hp50 : ν.2 8 a ≤ 50 := price_le hW ha'
      have k70 : ¬ (cd (pM ν) a s = true ∧ pM ν 5 a + ν.2 9 (af (pM ν) a s) = ν.2 9 s) → XAt (yw O) (oD O) K 4 70 [some (.ref (oh O)), some (.int (nI s)), some (.int (nI a)), some (.int (nI (af (pM ν) a s)))] [] ν := by
        intro hn
        refine x_inc1 C dX1_first_70 rfl (by decide) ?_
        refine x_goto C 24 dX1_first_73 (by decide) ?_
        exact x_drop 3 (ih (a + 1) (by omega) (fun b hb => by
          by_cases e : b = a
          · subst e; exact hn
          · exact hno b (by omega)))
      refine x_iload_n C dX1_first_24 rfl ?_
      refine x_bipush C (nI 10) dX1_first_25 (by decide) ?_
      refine xn_ic_ge C 76 dX1_first_27 (by decide) (by omega) (by omega) (fun h => by omega) (fun _ => ?_)
      refine x_aload_n C dX1_first_30 rfl ?_
      refine x_iload_n C dX1_first_31 rfl ?_
      refine x_iload_n C dX1_first_32 rfl ?_
      refine x_calli C (metM_after (kL K) O ν (a := a) (s := s) hW ha' hs) cwm_after (by decide) ⟨rfl, rfl⟩ (ci := 1) (q0 := 0) rfl rfl rfl (Nat.le_of_ble_eq_true rfl) rfl dX1_first_33 (fun r ν' hr => ?_)
      obtain ⟨rfl, rfl⟩ := hr
      refine x_istore_n C dX1_first_36 (by decide) ?_
      refine x_aload_n C dX1_first_37 rfl ?_
      refine x_iload_n C dX1_first_38 rfl ?_
      refine x_iload_n C dX1_first_39 rfl ?_
      refine x_calli C (metM_canDo (kL K) O ν' (a := a) (s := s) hW ha' hs) cwm_canDo (by decide) ⟨rfl, rfl⟩ (ci := 1) (q0 := 0) rfl rfl rfl (Nat.le_of_ble_eq_true rfl) rfl dX1_first_40 (fun r ν2 hr => ?_)
      obtain ⟨rfl, rfl⟩ := hr
      refine xn_if_eq C 70 dX1_first_43 (by decide) b31 (fun h => k70 (fun q => by rw [b0 h] at q; exact absurd q.1 (by decide))) (fun hq => ?_)
      refine x_aload_n C dX1_first_46 rfl ?_
      refine mg_cost C dX1_first_47 ?_
      refine x_iload_n C dX1_first_50 rfl ?_
      refine ml_cost C dX1_first_51 (by omega) ?_
      refine x_aload_n C dX1_first_52 rfl ?_
      refine mg_least C dX1_first_53 ?_
      refine x_iload_n C dX1_first_56 rfl ?_
      refine ml_least C dX1_first_57 (by omega) ?_
      refine x_iadd C dX1_first_58 (nI_add _ _) ?_
      refine x_aload_n C dX1_first_59 rfl ?_
      refine mg_least C dX1_first_60 ?_
      refine x_iload_n C dX1_first_63 rfl ?_
      refine ml_least C dX1_first_64 (by omega) ?_
      refine xn_ic_ne C 70 dX1_first_65 (by decide) (by omega) (by omega) (fun hne => k70 (fun q => hne q.2)) (fun he => ?_)
      refine x_iload_n C dX1_first_68 rfl ?_
      exact Rt 69 _ _ _ dX1_first_69 rfl ⟨rfl, some a, rfl, h0, hlt, ha', b1 hq, he, hno⟩
  refine x_iconst C (nI 0) dX1_first_22 (by decide) ?_
  refine x_istore_n C dX1_first_23 (by decide) ?_
  exact loop 10 0 rfl (fun b hb => by omega)
theorem chain_pl {P : PB} {H pl : Nat → Nat} {s n : Nat} (h : ChainOK P H pl s n) : ∀ j, j < n → pl j < 10 := fun j hj => (h.1 j hj).2.1
theorem metM_steps (l : Launch) (O : XO) (ν : XS) (hI : MInv ν) : GMi (yw O) (oD O) (xT O) l yX1_steps cX1_steps 4 (some .int) (rmk 3) [.ref (oh O)] ν
    (fun r ν' => ∃ L, FixH (pM ν) L ∧ ν' = sA ν 9 L ∧ ((1000000 ≤ L (ν.1 0) ∧ r = -1) ∨ (L (ν.1 0) < 1000000 ∧ ∃ pl n, n ≤ 255 ∧ ChainOK (pM ν) L pl (ν.1 0) n ∧ r = nI n))) := by
  refine GMi.intro (own := RX1) (by decide) rfl (cat_of rfl) (Nat.le_of_ble_eq_true rfl) ?_
  intro K _ C Rt
  obtain ⟨hW, hnow⟩ := hI
  refine x_aload_n C dX1_steps_0 rfl ?_
  refine x_callv C (metM_work (kL K) O ν hW) cwm_work (by decide) ⟨rfl, rfl⟩ (ci := 1) (q0 := 0) rfl rfl rfl (Nat.le_of_ble_eq_true rfl) rfl dX1_steps_1 (fun ν' hr => ?_)
  obtain ⟨L, rfl, hF⟩ := hr
  have hL := hF.2.1 _ hnow
  have hp9 : pM (sA ν 9 L) = pM ν := pM_sA ν (by decide) L
  refine x_aload_n C dX1_steps_4 rfl ?_
  refine mg_least C dX1_steps_5 ?_
  refine x_aload_n C dX1_steps_8 rfl ?_
  refine mg_now C dX1_steps_9 ?_
  refine ml_least C dX1_steps_12 hnow ?_
  refine x_ldc C (nI 1000000) q321 dX1_steps_13 (by decide) ?_
  refine xn_ic_lt C 20 dX1_steps_15 (by decide) (show L (ν.1 0) < 2 ^ 31 by omega) (by omega) (fun hlt => ?_) (fun hge => ?_)
  · have hlt : L (ν.1 0) < 1000000 := hlt
    obtain ⟨pl, n, hch, hn, hpl⟩ := chain_exists hW hF _ hnow hlt
    have hrk := rk_le (H := L) hnow
    have loop : ∀ (m i : Nat), i + m = n → XAt (yw O) (oD O) K 4 27 [some (.ref (oh O)), some (.int (nI (runTo (pM ν) pl (ν.1 0) i))), some (.int (nI i)), none] [] (sA ν 9 L) := by
      intro m
      induction m with
      | zero =>
        intro i hi
        have ei : i = n := by omega
        subst ei
        have hs := runTo_lt hW hnow (pl := pl) i (fun j hj => hpl j (by omega))
        refine x_iload_n C dX1_steps_27 rfl ?_
        refine x_sipush C (nI 256) dX1_steps_28 (by decide) ?_
        refine xn_ic_ge C 59 dX1_steps_31 (by decide) (by omega) (by omega) (fun h => by omega) (fun _ => ?_)
        refine x_aload_n C dX1_steps_34 rfl ?_
        refine x_iload_n C dX1_steps_35 rfl ?_
        refine x_calli C (metM_first (kL K) O (sA ν 9 L) (s := runTo (pM ν) pl (ν.1 0) i) (by rw [hp9]; exact hW) hs (by rw [hp9]; exact hF)) cwm_first (by decide) ⟨rfl, rfl⟩ (ci := 1) (q0 := 0) rfl rfl rfl (Nat.le_of_ble_eq_true rfl) rfl dX1_steps_36 (fun r ν' hr => ?_)
        obtain ⟨rfl, o, rfl, ho⟩ := hr
        have ho : FO (pM ν) L (runTo (pM ν) pl (ν.1 0) i) o := by rw [hp9] at ho; exact ho
        cases o with
        | some a => exact absurd hch.2 ho.1
        | none =>
          refine show XAt (yw O) (oD O) K 4 _ _ [.int (-1)] _ from ?_
          refine x_istore_n C dX1_steps_39 (by decide) ?_
          refine x_iload_n C dX1_steps_40 rfl ?_
          refine x_if_ge C 46 dX1_steps_41 (by decide) (fun h => absurd h (by decide)) (fun _ => ?_)
          refine x_iload_n C dX1_steps_44 rfl ?_
          exact Rt 45 _ _ _ dX1_steps_45 rfl ⟨L, hF, rfl, Or.inr ⟨hlt, pl, i, by omega, hch, rfl⟩⟩
      | succ m ih =>
        intro i hi
        have hs := runTo_lt hW hnow (pl := pl) i (fun j hj => hpl j (by omega))
        obtain ⟨c1, c2⟩ := hch.1 i (by omega)
        refine x_iload_n C dX1_steps_27 rfl ?_
        refine x_sipush C (nI 256) dX1_steps_28 (by decide) ?_
        refine xn_ic_ge C 59 dX1_steps_31 (by decide) (by omega) (by omega) (fun h => by omega) (fun _ => ?_)
        refine x_aload_n C dX1_steps_34 rfl ?_
        refine x_iload_n C dX1_steps_35 rfl ?_
        refine x_calli C (metM_first (kL K) O (sA ν 9 L) (s := runTo (pM ν) pl (ν.1 0) i) (by rw [hp9]; exact hW) hs (by rw [hp9]; exact hF)) cwm_first (by decide) ⟨rfl, rfl⟩ (ci := 1) (q0 := 0) rfl rfl rfl (Nat.le_of_ble_eq_true rfl) rfl dX1_steps_36 (fun r ν' hr => ?_)
        obtain ⟨rfl, o, rfl, ho⟩ := hr
        have ho : FO (pM ν) L (runTo (pM ν) pl (ν.1 0) i) o := by rw [hp9] at ho; exact ho
        cases o with
        | none =>
          have h1 := c2.2.2.1
          have h2 := first_lt hW c2
          rcases ho with q | q
          · exact absurd q c1
          · have : L (runTo (pM ν) pl (ν.1 0) i) < 1000000 := by
              clear ih
              have key : ∀ k, k ≤ i → L (runTo (pM ν) pl (ν.1 0) k) < 1000000 := by
                intro k
                induction k with
                | zero => intro _; exact hlt
                | succ k ihk =>
                  intro hk
                  have q1 := ihk (by omega)
                  have q2 := first_lt hW (hch.1 k (by omega)).2
                  exact Nat.lt_trans q2 q1
              exact key i (Nat.le_refl _)
            omega
        | some a =>
          have ea : a = pl i := ho.2.2.uniq c2
          subst ea
          refine show XAt (yw O) (oD O) K 4 _ _ [.int (nI (pl i))] _ from ?_
          have h10 := c2.1
          refine x_istore_n C dX1_steps_39 (by decide) ?_
          refine x_iload_n C dX1_steps_40 rfl ?_
          refine xn_if_ge C 46 dX1_steps_41 (by decide) (by omega) ?_
          refine x_aload_n C dX1_steps_46 rfl ?_
          refine x_iload_n C dX1_steps_47 rfl ?_
          refine x_iload_n C dX1_steps_48 rfl ?_
          refine x_calli C (metM_after (kL K) O (sA ν 9 L) (a := pl i) (s := runTo (pM ν) pl (ν.1 0) i) hW h10 hs) cwm_after (by decide) ⟨rfl, rfl⟩ (ci := 1) (q0 := 0) rfl rfl rfl (Nat.le_of_ble_eq_true rfl) rfl dX1_steps_49 (fun r ν' hr => ?_)
          obtain ⟨rfl, hr⟩ := hr
          have hr : r = nI (runTo (pM ν) pl (ν.1 0) (i + 1)) := hr
          subst hr
          refine x_istore_n C dX1_steps_52 (by decide) ?_
          refine x_inc1 C dX1_steps_53 rfl (by decide) ?_
          refine x_goto C 27 dX1_steps_56 (by decide) ?_
          exact x_drop 3 (ih (i + 1) (by omega))
    refine x_aload_n C dX1_steps_20 rfl ?_
    refine mg_now C dX1_steps_21 ?_
    refine x_istore_n C dX1_steps_24 (by decide) ?_
    refine x_iconst C (nI 0) dX1_steps_25 (by decide) ?_
    refine x_istore_n C dX1_steps_26 (by decide) ?_
    exact loop n 0 (by omega)
  · refine x_iconst C (-1) dX1_steps_18 (by decide) ?_
    exact Rt 19 _ _ _ dX1_steps_19 rfl ⟨L, hF, rfl, Or.inl ⟨hge, rfl⟩⟩
theorem chain_lt {P : PB} (hW : PW P) {L pl : Nat → Nat} {s n : Nat} (h : ChainOK P L pl s n) (hlt : L s < 1000000) : ∀ k, k ≤ n → L (runTo P pl s k) < 1000000 := by
  intro k
  induction k with
  | zero => intro _; exact hlt
  | succ k ihk =>
    intro hk
    exact Nat.lt_trans (first_lt hW (h.1 k (by omega)).2) (ihk (by omega))
theorem metM_planned (l : Launch) (O : XO) (ν : XS) (x : Int32) (hI : MInv ν) : GMi (yw O) (oD O) (xT O) l yX1_planned cX1_planned 5 (some .int) (rmk 3) [.ref (oh O), .int x] ν
    (fun r ν' => ∃ L, FixH (pM ν) L ∧ ν' = sA ν 9 L ∧ ((1000000 ≤ L (ν.1 0) ∧ r = -1) ∨ (L (ν.1 0) < 1000000 ∧ ∃ pl n, n ≤ 255 ∧ ChainOK (pM ν) L pl (ν.1 0) n ∧ ((∃ j, j < n ∧ x = nI j ∧ r = nI (pl j)) ∨ ((∀ j, j < n → x ≠ nI j) ∧ r = -1))))) := by
  refine GMi.intro (own := RX1) (by decide) rfl (cat_of rfl) (Nat.le_of_ble_eq_true rfl) ?_
  intro K _ C Rt
  obtain ⟨hW, hnow⟩ := hI
  refine x_aload_n C dX1_planned_0 rfl ?_
  refine x_callv C (metM_work (kL K) O ν hW) cwm_work (by decide) ⟨rfl, rfl⟩ (ci := 1) (q0 := 0) rfl rfl rfl (Nat.le_of_ble_eq_true rfl) rfl dX1_planned_1 (fun ν' hr => ?_)
  obtain ⟨L, rfl, hF⟩ := hr
  have hL := hF.2.1 _ hnow
  have hp9 : pM (sA ν 9 L) = pM ν := pM_sA ν (by decide) L
  refine x_aload_n C dX1_planned_4 rfl ?_
  refine mg_now C dX1_planned_5 ?_
  refine x_istore_n C dX1_planned_8 (by decide) ?_
  refine x_iconst C (nI 0) dX1_planned_9 (by decide) ?_
  refine x_istore_n C dX1_planned_10 (by decide) ?_
  by_cases hlt : L (ν.1 0) < 1000000
  · obtain ⟨pl, n, hch, hn, hpl⟩ := chain_exists hW hF _ hnow hlt
    have hrk := rk_le (H := L) hnow
    have loop : ∀ (m i : Nat), i + m = n → (∀ j, j < i → x ≠ nI j) → XAt (yw O) (oD O) K 5 11 [some (.ref (oh O)), some (.int x), some (.int (nI (runTo (pM ν) pl (ν.1 0) i))), some (.int (nI i)), none] [] (sA ν 9 L) := by
      intro m
      induction m with
      | zero =>
        intro i hi hno
        have ei : i = n := by omega
        subst ei
        have hs := runTo_lt hW hnow (pl := pl) i (fun j hj => hpl j (by omega))
        refine x_iload_n C dX1_planned_11 rfl ?_
        refine x_sipush C (nI 256) dX1_planned_12 (by decide) ?_
        refine xn_ic_ge C 52 dX1_planned_15 (by decide) (by omega) (by omega) (fun h => by omega) (fun _ => ?_)
        refine x_aload_n C dX1_planned_18 rfl ?_
        refine x_iload_n C dX1_planned_19 rfl ?_
        refine x_calli C (metM_first (kL K) O (sA ν 9 L) (s := runTo (pM ν) pl (ν.1 0) i) (by rw [hp9]; exact hW) hs (by rw [hp9]; exact hF)) cwm_first (by decide) ⟨rfl, rfl⟩ (ci := 1) (q0 := 0) rfl rfl rfl (Nat.le_of_ble_eq_true rfl) rfl dX1_planned_20 (fun r ν' hr => ?_)
        obtain ⟨rfl, o, rfl, ho⟩ := hr
        have ho : FO (pM ν) L (runTo (pM ν) pl (ν.1 0) i) o := by rw [hp9] at ho; exact ho
        cases o with
        | some a => exact absurd hch.2 ho.1
        | none =>
          refine show XAt (yw O) (oD O) K 5 _ _ [.int (-1)] _ from ?_
          refine x_istore C dX1_planned_23 (by decide) ?_
          refine x_iload C dX1_planned_25 rfl ?_
          refine x_if_lt C 35 dX1_planned_27 (by decide) (fun _ => ?_) (fun h => absurd (by decide) h)
          refine x_iload C dX1_planned_35 rfl ?_
          exact Rt 37 _ _ _ dX1_planned_37 rfl ⟨L, hF, rfl, Or.inr ⟨hlt, pl, i, by omega, hch, Or.inr ⟨hno, rfl⟩⟩⟩
      | succ m ih =>
        intro i hi hno
        have hs := runTo_lt hW hnow (pl := pl) i (fun j hj => hpl j (by omega))
        have hlti := chain_lt hW hch hlt i (by omega)
        obtain ⟨c1, c2⟩ := hch.1 i (by omega)
        refine x_iload_n C dX1_planned_11 rfl ?_
        refine x_sipush C (nI 256) dX1_planned_12 (by decide) ?_
        refine xn_ic_ge C 52 dX1_planned_15 (by decide) (by omega) (by omega) (fun h => by omega) (fun _ => ?_)
        refine x_aload_n C dX1_planned_18 rfl ?_
        refine x_iload_n C dX1_planned_19 rfl ?_
        refine x_calli C (metM_first (kL K) O (sA ν 9 L) (s := runTo (pM ν) pl (ν.1 0) i) (by rw [hp9]; exact hW) hs (by rw [hp9]; exact hF)) cwm_first (by decide) ⟨rfl, rfl⟩ (ci := 1) (q0 := 0) rfl rfl rfl (Nat.le_of_ble_eq_true rfl) rfl dX1_planned_20 (fun r ν' hr => ?_)
        obtain ⟨rfl, o, rfl, ho⟩ := hr
        have ho : FO (pM ν) L (runTo (pM ν) pl (ν.1 0) i) o := by rw [hp9] at ho; exact ho
        cases o with
        | none =>
          rcases ho with q | q
          · exact absurd q c1
          · omega
        | some a =>
          have ea : a = pl i := ho.2.2.uniq c2
          subst ea
          refine show XAt (yw O) (oD O) K 5 _ _ [.int (nI (pl i))] _ from ?_
          have h10 := c2.1
          refine x_istore C dX1_planned_23 (by decide) ?_
          refine x_iload C dX1_planned_25 rfl ?_
          refine xn_if_lt C 35 dX1_planned_27 (by decide) (by omega) ?_
          refine x_iload_n C dX1_planned_30 rfl ?_
          refine x_iload_n C dX1_planned_31 rfl ?_
          refine x_ic_ne C 38 dX1_planned_32 (by decide) (fun hne => ?_) (fun he => ?_)
          · refine x_aload_n C dX1_planned_38 rfl ?_
            refine x_iload C dX1_planned_39 rfl ?_
            refine x_iload_n C dX1_planned_41 rfl ?_
            refine x_calli C (metM_after (kL K) O (sA ν 9 L) (a := pl i) (s := runTo (pM ν) pl (ν.1 0) i) hW h10 hs) cwm_after (by decide) ⟨rfl, rfl⟩ (ci := 1) (q0 := 0) rfl rfl rfl (Nat.le_of_ble_eq_true rfl) rfl dX1_planned_42 (fun r ν' hr => ?_)
            obtain ⟨rfl, hr⟩ := hr
            have hr : r = nI (runTo (pM ν) pl (ν.1 0) (i + 1)) := hr
            subst hr
            refine x_istore_n C dX1_planned_45 (by decide) ?_
            refine x_inc1 C dX1_planned_46 rfl (by decide) ?_
            refine x_goto C 11 dX1_planned_49 (by decide) ?_
            exact x_drop 4 (ih (i + 1) (by omega) (fun j hj => by
              by_cases e : j = i
              · subst e; exact fun q => hne q.symm
              · exact hno j (by omega)))
          · refine x_iload C dX1_planned_35 rfl ?_
            exact Rt 37 _ _ _ dX1_planned_37 rfl ⟨L, hF, rfl, Or.inr ⟨hlt, pl, n, by omega, hch, Or.inl ⟨i, by omega, he.symm, rfl⟩⟩⟩
    exact loop n 0 (by omega) (fun j hj => by omega)
  · refine x_iload_n C dX1_planned_11 rfl ?_
    refine x_sipush C (nI 256) dX1_planned_12 (by decide) ?_
    refine xn_ic_ge C 52 dX1_planned_15 (by decide) (by omega) (by omega) (fun h => by omega) (fun _ => ?_)
    refine x_aload_n C dX1_planned_18 rfl ?_
    refine x_iload_n C dX1_planned_19 rfl ?_
    refine x_calli C (metM_first (kL K) O (sA ν 9 L) (s := ν.1 0) (by rw [hp9]; exact hW) hnow (by rw [hp9]; exact hF)) cwm_first (by decide) ⟨rfl, rfl⟩ (ci := 1) (q0 := 0) rfl rfl rfl (Nat.le_of_ble_eq_true rfl) rfl dX1_planned_20 (fun r ν' hr => ?_)
    obtain ⟨rfl, o, rfl, ho⟩ := hr
    have ho : FO (pM ν) L (ν.1 0) o := by rw [hp9] at ho; exact ho
    cases o with
    | some a => exact absurd ho.2.1 hlt
    | none =>
      refine show XAt (yw O) (oD O) K 5 _ _ [.int (-1)] _ from ?_
      refine x_istore C dX1_planned_23 (by decide) ?_
      refine x_iload C dX1_planned_25 rfl ?_
      refine x_if_lt C 35 dX1_planned_27 (by decide) (fun _ => ?_) (fun h => absurd (by decide) h)
      refine x_iload C dX1_planned_35 rfl ?_
      exact Rt 37 _ _ _ dX1_planned_37 rfl ⟨L, hF, rfl, Or.inl ⟨by omega, rfl⟩⟩
theorem metM_advance (l : Launch) (O : XO) (ν : XS) (hI : MInv ν) : GMi (yw O) (oD O) (xT O) l yX1_advance cX1_advance 2 (some .int) (rmk 3) [.ref (oh O)] ν
    (fun r ν' => ∃ L, FixH (pM ν) L ∧ (((L (ν.1 0) = 0 ∨ 1000000 ≤ L (ν.1 0)) ∧ r = -1 ∧ ν' = sA ν 9 L) ∨ (L (ν.1 0) ≠ 0 ∧ L (ν.1 0) < 1000000 ∧ ∃ a, IsFirst (pM ν) L (ν.1 0) a ∧ r = nI a ∧ ν' = sS (sA ν 9 L) 0 (af (pM ν) a (ν.1 0))))) := by
  refine GMi.intro (own := RX1) (by decide) rfl (cat_of rfl) (Nat.le_of_ble_eq_true rfl) ?_
  intro K _ C Rt
  obtain ⟨hW, hnow⟩ := hI
  refine x_aload_n C dX1_advance_0 rfl ?_
  refine x_callv C (metM_work (kL K) O ν hW) cwm_work (by decide) ⟨rfl, rfl⟩ (ci := 1) (q0 := 0) rfl rfl rfl (Nat.le_of_ble_eq_true rfl) rfl dX1_advance_1 (fun ν' hr => ?_)
  obtain ⟨L, rfl, hF⟩ := hr
  have hp9 : pM (sA ν 9 L) = pM ν := pM_sA ν (by decide) L
  refine x_aload_n C dX1_advance_4 rfl ?_
  refine x_aload_n C dX1_advance_5 rfl ?_
  refine mg_now C dX1_advance_6 ?_
  refine x_calli C (metM_first (kL K) O (sA ν 9 L) (s := ν.1 0) (by rw [hp9]; exact hW) hnow (by rw [hp9]; exact hF)) cwm_first (by decide) ⟨rfl, rfl⟩ (ci := 1) (q0 := 0) rfl rfl rfl (Nat.le_of_ble_eq_true rfl) rfl dX1_advance_9 (fun r ν' hr => ?_)
  obtain ⟨rfl, o, rfl, ho⟩ := hr
  have ho : FO (pM ν) L (ν.1 0) o := by rw [hp9] at ho; exact ho
  cases o with
  | none =>
    refine show XAt (yw O) (oD O) K 2 _ _ [.int (-1)] _ from ?_
    refine x_istore_n C dX1_advance_12 (by decide) ?_
    refine x_iload_n C dX1_advance_13 rfl ?_
    refine x_if_lt C 30 dX1_advance_14 (by decide) (fun _ => ?_) (fun h => absurd (by decide) h)
    refine x_iload_n C dX1_advance_30 rfl ?_
    exact Rt 31 _ _ _ dX1_advance_31 rfl ⟨L, hF, Or.inl ⟨ho, rfl, rfl⟩⟩
  | some a =>
    have h10 := ho.2.2.1
    refine show XAt (yw O) (oD O) K 2 _ _ [.int (nI a)] _ from ?_
    refine x_istore_n C dX1_advance_12 (by decide) ?_
    refine x_iload_n C dX1_advance_13 rfl ?_
    refine xn_if_lt C 30 dX1_advance_14 (by decide) (by omega) ?_
    refine x_aload_n C dX1_advance_17 rfl ?_
    refine x_aload_n C dX1_advance_18 rfl ?_
    refine x_iload_n C dX1_advance_19 rfl ?_
    refine x_aload_n C dX1_advance_20 rfl ?_
    refine mg_now C dX1_advance_21 ?_
    refine x_calli C (metM_after (kL K) O (sA ν 9 L) (a := a) (s := ν.1 0) hW h10 hnow) cwm_after (by decide) ⟨rfl, rfl⟩ (ci := 1) (q0 := 0) rfl rfl rfl (Nat.le_of_ble_eq_true rfl) rfl dX1_advance_24 (fun r ν' hr => ?_)
    obtain ⟨rfl, hr⟩ := hr
    have hr : r = nI (af (pM ν) a (ν.1 0)) := hr
    subst hr
    refine mp_now C dX1_advance_27 ?_
    refine x_iload_n C dX1_advance_30 rfl ?_
    exact Rt 31 _ _ _ dX1_advance_31 rfl ⟨L, hF, Or.inr ⟨ho.1, ho.2.1, a, ho.2.2, rfl, rfl⟩⟩
theorem metM_now (l : Launch) (O : XO) (ν : XS) : GMi (yw O) (oD O) (xT O) l yX1_now cX1_now 1 (some .int) (rmk 0) [.ref (oh O)] ν (fun r ν' => ν' = ν ∧ r = nI (ν.1 0)) := by
  refine GMi.intro (own := RX1) (by decide) rfl (cat_of rfl) (Nat.le_of_ble_eq_true rfl) ?_
  intro K _ C Rt
  refine x_aload_n C dX1_now_0 rfl ?_
  refine mg_now C dX1_now_1 ?_
  exact Rt 4 _ _ _ dX1_now_4 rfl ⟨rfl, rfl⟩
theorem metM_observe (l : Launch) (O : XO) (ν : XS) (x : Int32) : GMv (yw O) (oD O) (xT O) l yX1_observe cX1_observe 2 (rmk 0) [.ref (oh O), .int x] ν
    (fun ν' => pM ν' = pM ν ∧ ν'.1 0 = m8 x) := by
  refine GMv.intro (own := RX1) (by decide) rfl (cat_of rfl) (Nat.le_of_ble_eq_true rfl) ?_
  intro K _ C Rt
  refine x_aload_n C dX1_observe_0 rfl ?_
  refine x_iload_n C dX1_observe_1 rfl ?_
  refine x_sipush C (nI 255) dX1_observe_2 (by decide) ?_
  refine x_iand C dX1_observe_5 (and_m8 x) ?_
  refine mp_now C dX1_observe_6 ?_
  exact Rt 9 _ _ dX1_observe_9 (⟨pM_s0 ν _, rfl⟩)
theorem metM_want (l : Launch) (O : XO) (ν : XS) (x y : Int32) : GMv (yw O) (oD O) (xT O) l yX1_want cX1_want 3 (rmk 0) [.ref (oh O), .int x, .int y] ν
    (fun ν' => pM ν' = wantP (pM ν) (m8 x) (m8 y) ∧ ν'.1 0 = ν.1 0) := by
  refine GMv.intro (own := RX1) (by decide) rfl (cat_of rfl) (Nat.le_of_ble_eq_true rfl) ?_
  intro K _ C Rt
  refine x_aload_n C dX1_want_0 rfl ?_
  refine x_iload_n C dX1_want_1 rfl ?_
  refine x_sipush C (nI 255) dX1_want_2 (by decide) ?_
  refine x_iand C dX1_want_5 (and_m8 x) ?_
  refine mp_wantTrue C dX1_want_6 ?_
  refine x_aload_n C dX1_want_9 rfl ?_
  refine x_iload_n C dX1_want_10 rfl ?_
  refine x_sipush C (nI 255) dX1_want_11 (by decide) ?_
  refine x_iand C dX1_want_14 (and_m8 y) ?_
  refine mp_wantFalse C dX1_want_15 ?_
  have hp : pM (sS (sS ν 1 (m8 x)) 2 (m8 y)) = wantP (pM ν) (m8 x) (m8 y) := by
    rw [show sS (sS ν 1 (m8 x)) 2 (m8 y) = sS (sS ν (6 - 5) (m8 x)) (7 - 5) (m8 y) from rfl, pM_set6 _ (k := 7) (by decide) (by decide), pM_set6 _ (k := 6) (by decide) (by decide)]; rfl
  exact Rt 18 _ _ dX1_want_18 (⟨hp, rfl⟩)
theorem metM_forget (l : Launch) (O : XO) (ν : XS) (x : Int32) (hW : PW (pM ν)) : GMi (yw O) (oD O) (xT O) l yX1_forget cX1_forget 2 (some .int) (rmk 1) [.ref (oh O), .int x] ν
    (fun r ν' => (∃ a, a < 10 ∧ x = nI a ∧ pM ν 0 a ≠ 0 ∧ r = nI 0 ∧ pM ν' = fgtP (pM ν) a ∧ ν'.1 0 = ν.1 0) ∨ ((∀ a, a < 10 → x = nI a → pM ν 0 a = 0) ∧ r = -1 ∧ ν' = ν)) := by
  refine GMi.intro (own := RX1) (by decide) rfl (cat_of rfl) (Nat.le_of_ble_eq_true rfl) ?_
  intro K _ C Rt
  have k16 : (∀ a, a < 10 → x = nI a → pM ν 0 a = 0) → XAt (yw O) (oD O) K 2 16 [some (.ref (oh O)), some (.int x)] [] ν := by
    intro hno
    refine x_iconst C (-1) dX1_forget_16 (by decide) ?_
    exact Rt 17 _ _ _ dX1_forget_17 rfl (Or.inr ⟨hno, rfl, rfl⟩)
  refine x_iload_n C dX1_forget_0 rfl ?_
  refine x_calls C (metM_bad (kL K) O ν x) cwm_bad d_bad (by decide) ⟨rfl, rfl⟩ (Nat.le_of_ble_eq_true rfl) rfl dX1_forget_1 (fun r ν' hr => ?_)
  obtain ⟨rfl, hr⟩ := hr
  rcases hr with ⟨a, ha, rfl, rfl⟩ | ⟨hno, rfl⟩
  · refine xn_if_ne C 16 dX1_forget_4 (by decide) (by omega) (fun h => absurd rfl h) (fun _ => ?_)
    have h0 : ν'.2 3 a ≤ 1 := (hW.1 a ha).1
    refine x_aload_n C dX1_forget_7 rfl ?_
    refine mg_given C dX1_forget_8 ?_
    refine x_iload_n C dX1_forget_11 rfl ?_
    refine ml_given C dX1_forget_12 (by omega) ?_
    refine xn_if_ne C 18 dX1_forget_13 (by decide) (by omega) (fun hg => ?_) (fun hg => k16 (fun b hb e => by rw [← (nI_eq (by omega) (by omega)).mp e]; exact hg))
    refine x_aload_n C dX1_forget_18 rfl ?_
    refine mg_given C dX1_forget_19 ?_
    refine x_iload_n C dX1_forget_22 rfl ?_
    refine x_iconst C (nI 0) dX1_forget_23 (by decide) ?_
    refine ms_given C dX1_forget_24 (by omega) (by omega) ?_
    refine x_iconst C (nI 0) dX1_forget_25 (by decide) ?_
    have hp : pM (sA ν' 3 (un (ν'.2 3) a 0)) = fgtP (pM ν') a := by
      rw [show sA ν' 3 (un (ν'.2 3) a 0) = sA ν' (0 + 3) (un (ν'.2 3) a 0) from rfl, pM_set _ (by decide)]; rfl
    exact Rt 26 _ _ _ dX1_forget_26 rfl (Or.inl ⟨a, ha, rfl, hg, rfl, hp, rfl⟩)
  · refine xn_if_ne C 16 dX1_forget_4 (by decide) (by omega) (fun _ => k16 (fun a ha e => absurd e (hno a ha))) (fun h => absurd h (by decide))
theorem metM_effect (l : Launch) (O : XO) (ν : XS) (x y z p : Int32) (hW : PW (pM ν)) : GMi (yw O) (oD O) (xT O) l yX1_effect cX1_effect 5 (some .int) (rmk 1) [.ref (oh O), .int x, .int y, .int z, .int p] ν
    (fun r ν' => (∃ a, a < 10 ∧ x = nI a ∧ pM ν 0 a ≠ 0 ∧ r = nI 0 ∧ pM ν' = effP (pM ν) a (m8 y) (m8 z) (cl50 p) ∧ ν'.1 0 = ν.1 0) ∨ ((∀ a, a < 10 → x = nI a → pM ν 0 a = 0) ∧ r = -1 ∧ ν' = ν)) := by
  refine GMi.intro (own := RX1) (by decide) rfl (cat_of rfl) (Nat.le_of_ble_eq_true rfl) ?_
  intro K _ C Rt
  have k16 : (∀ a, a < 10 → x = nI a → pM ν 0 a = 0) → XAt (yw O) (oD O) K 5 16 [some (.ref (oh O)), some (.int x), some (.int y), some (.int z), some (.int p)] [] ν := by
    intro hno
    refine x_iconst C (-1) dX1_effect_16 (by decide) ?_
    exact Rt 17 _ _ _ dX1_effect_17 rfl (Or.inr ⟨hno, rfl, rfl⟩)
  refine x_iload_n C dX1_effect_0 rfl ?_
  refine x_calls C (metM_bad (kL K) O ν x) cwm_bad d_bad (by decide) ⟨rfl, rfl⟩ (Nat.le_of_ble_eq_true rfl) rfl dX1_effect_1 (fun r ν' hr => ?_)
  obtain ⟨rfl, hr⟩ := hr
  rcases hr with ⟨a, ha, rfl, rfl⟩ | ⟨hno, rfl⟩
  · refine xn_if_ne C 16 dX1_effect_4 (by decide) (by omega) (fun h => absurd rfl h) (fun _ => ?_)
    have h0 : ν'.2 3 a ≤ 1 := (hW.1 a ha).1
    refine x_aload_n C dX1_effect_7 rfl ?_
    refine mg_given C dX1_effect_8 ?_
    refine x_iload_n C dX1_effect_11 rfl ?_
    refine ml_given C dX1_effect_12 (by omega) ?_
    refine xn_if_ne C 18 dX1_effect_13 (by decide) (by omega) (fun hg => ?_) (fun hg => k16 (fun b hb e => by rw [← (nI_eq (by omega) (by omega)).mp e]; exact hg))
    obtain ⟨c1, c2, c3⟩ := cl50_in p
    have k69 : XAt (yw O) (oD O) K 5 69 [some (.ref (oh O)), some (.int (nI a)), some (.int y), some (.int z), some (.int p)] [.int (nI (cl50 p)), .int (nI a), .ref (oa O 8)] (sA (sA ν' 6 (un (ν'.2 6) a (m8 y))) 7 (un (ν'.2 7) a (m8 z))) := by
      refine ms_cost C dX1_effect_69 (by omega) ?_
      refine x_iconst C (nI 0) dX1_effect_70 (by decide) ?_
      have hp : pM (sA (sA (sA ν' 6 (un (ν'.2 6) a (m8 y))) 7 (un (ν'.2 7) a (m8 z))) 8 (un (ν'.2 8) a (cl50 p))) = effP (pM ν') a (m8 y) (m8 z) (cl50 p) := by
        rw [show sA (sA (sA ν' 6 (un (ν'.2 6) a (m8 y))) 7 (un (ν'.2 7) a (m8 z))) 8 (un (ν'.2 8) a (cl50 p)) = sA (sA (sA ν' (3 + 3) (un (ν'.2 6) a (m8 y))) (4 + 3) (un (ν'.2 7) a (m8 z))) (5 + 3) (un (ν'.2 8) a (cl50 p)) from rfl, pM_set _ (by decide), pM_set _ (by decide), pM_set _ (by decide)]; rfl
      exact Rt 71 _ _ _ dX1_effect_71 rfl (Or.inl ⟨a, ha, rfl, hg, rfl, hp, rfl⟩)
    refine x_aload_n C dX1_effect_18 rfl ?_
    refine mg_adds C dX1_effect_19 ?_
    refine x_iload_n C dX1_effect_22 rfl ?_
    refine x_iload_n C dX1_effect_23 rfl ?_
    refine x_sipush C (nI 255) dX1_effect_24 (by decide) ?_
    refine x_iand C dX1_effect_27 (and_m8 y) ?_
    refine ms_adds C dX1_effect_28 (by omega) ?_
    refine x_aload_n C dX1_effect_29 rfl ?_
    refine mg_drops C dX1_effect_30 ?_
    refine x_iload_n C dX1_effect_33 rfl ?_
    refine x_iload_n C dX1_effect_34 rfl ?_
    refine x_sipush C (nI 255) dX1_effect_35 (by decide) ?_
    refine x_iand C dX1_effect_38 (and_m8 z) ?_
    refine ms_drops C dX1_effect_39 (by omega) ?_
    refine x_aload_n C dX1_effect_40 rfl ?_
    refine mg_cost C dX1_effect_41 ?_
    refine x_iload_n C dX1_effect_44 rfl ?_
    refine x_iload C dX1_effect_45 rfl ?_
    refine x_iconst C (nI 1) dX1_effect_47 (by decide) ?_
    refine x_ic_ge C 55 dX1_effect_48 (by decide) (fun hge => ?_) (fun hlt => ?_)
    · refine x_iload C dX1_effect_55 rfl ?_
      refine x_bipush C (nI 50) dX1_effect_57 (by decide) ?_
      have hnl : ¬ p < nI 1 := fun h => by
        rw [Int32.lt_iff_toInt_lt] at h
        rw [Int32.le_iff_toInt_le] at hge
        omega
      refine x_ic_le C 67 dX1_effect_59 (by decide) (fun hle => ?_) (fun hgt => ?_)
      · have hng : ¬ nI 50 < p := fun h => by
          rw [Int32.lt_iff_toInt_lt] at h
          rw [Int32.le_iff_toInt_le] at hle
          omega
        refine x_iload C dX1_effect_67 rfl ?_
        exact x_top (c3 hnl hng) k69
      · have hg50 : nI 50 < p := by
          rw [Int32.lt_iff_toInt_lt]
          rw [Int32.le_iff_toInt_le] at hgt
          omega
        refine x_bipush C (nI 50) dX1_effect_62 (by decide) ?_
        refine x_goto C 69 dX1_effect_64 (by decide) ?_
        have e : cl50 p = 50 := by unfold cl50; rw [if_neg hnl, if_pos hg50]
        rw [e] at k69
        exact k69
    · have hl1 : p < nI 1 := by
        rw [Int32.lt_iff_toInt_lt]
        rw [Int32.le_iff_toInt_le] at hlt
        omega
      refine x_iconst C (nI 1) dX1_effect_51 (by decide) ?_
      refine x_goto C 69 dX1_effect_52 (by decide) ?_
      have e : cl50 p = 1 := by unfold cl50; rw [if_pos hl1]
      rw [e] at k69
      exact k69
  · refine xn_if_ne C 16 dX1_effect_4 (by decide) (by omega) (fun _ => k16 (fun a ha e => absurd e (hno a ha))) (fun h => absurd h (by decide))
theorem metM_require (l : Launch) (O : XO) (ν : XS) (x y z : Int32) (hW : PW (pM ν)) : GMi (yw O) (oD O) (xT O) l yX1_require cX1_require 4 (some .int) (rmk 1) [.ref (oh O), .int x, .int y, .int z] ν
    (fun r ν' => (∃ a, a < 10 ∧ x = nI a ∧ r = nI 0 ∧ pM ν' = reqP (pM ν) a (m8 y) (m8 z) ∧ ν'.1 0 = ν.1 0) ∨ ((∀ a, a < 10 → x ≠ nI a) ∧ r = -1 ∧ ν' = ν)) := by
  refine GMi.intro (own := RX1) (by decide) rfl (cat_of rfl) (Nat.le_of_ble_eq_true rfl) ?_
  intro K _ C Rt
  refine x_iload_n C dX1_require_0 rfl ?_
  refine x_calls C (metM_bad (kL K) O ν x) cwm_bad d_bad (by decide) ⟨rfl, rfl⟩ (Nat.le_of_ble_eq_true rfl) rfl dX1_require_1 (fun r ν' hr => ?_)
  obtain ⟨rfl, hr⟩ := hr
  rcases hr with ⟨a, ha, rfl, rfl⟩ | ⟨hno, rfl⟩
  · refine xn_if_eq C 9 dX1_require_4 (by decide) (by omega) (fun _ => ?_) (fun h => absurd rfl h)
    have hg1 : ν'.2 3 a ≤ 1 := (hW.1 a ha).1
    have k46 : ∀ ν1 : XS, pM ν1 = (if pM ν' 0 a ≠ 0 then pM ν' else sP (sP (sP (sP (pM ν') 0 (un (pM ν' 0) a 1)) 3 (un (pM ν' 3) a 0)) 4 (un (pM ν' 4) a 0)) 5 (un (pM ν' 5) a 1)) → ν1.2 4 = ν'.2 4 → ν1.2 5 = ν'.2 5 → ν1.1 = ν'.1 →
        XAt (yw O) (oD O) K 4 46 [some (.ref (oh O)), some (.int (nI a)), some (.int y), some (.int z)] [] ν1 := by
      intro ν1 e0 e1 e2 e3
      refine x_aload_n C dX1_require_46 rfl ?_
      refine mg_needs C dX1_require_47 ?_
      refine x_iload_n C dX1_require_50 rfl ?_
      refine x_iload_n C dX1_require_51 rfl ?_
      refine x_sipush C (nI 255) dX1_require_52 (by decide) ?_
      refine x_iand C dX1_require_55 (and_m8 y) ?_
      refine ms_needs C dX1_require_56 (by omega) ?_
      refine x_aload_n C dX1_require_57 rfl ?_
      refine mg_bars C dX1_require_58 ?_
      refine x_iload_n C dX1_require_61 rfl ?_
      refine x_iload_n C dX1_require_62 rfl ?_
      refine x_sipush C (nI 255) dX1_require_63 (by decide) ?_
      refine x_iand C dX1_require_66 (and_m8 z) ?_
      refine ms_bars C dX1_require_67 (by omega) ?_
      refine x_iconst C (nI 0) dX1_require_68 (by decide) ?_
      have hp : pM (sA (sA ν1 4 (un (ν1.2 4) a (m8 y))) 5 (un (ν1.2 5) a (m8 z))) = reqP (pM ν') a (m8 y) (m8 z) := by
        rw [show sA (sA ν1 4 (un (ν1.2 4) a (m8 y))) 5 (un (ν1.2 5) a (m8 z)) = sA (sA ν1 (1 + 3) (un (ν1.2 4) a (m8 y))) (2 + 3) (un (ν1.2 5) a (m8 z)) from rfl, pM_set _ (by decide), pM_set _ (by decide), e0, e1, e2]; rfl
      refine Rt 69 _ _ _ dX1_require_69 rfl (Or.inl ⟨a, ha, rfl, rfl, hp, ?_⟩)
      show ν1.1 0 = ν'.1 0
      rw [e3]
    refine x_aload_n C dX1_require_9 rfl ?_
    refine mg_given C dX1_require_10 ?_
    refine x_iload_n C dX1_require_13 rfl ?_
    refine ml_given C dX1_require_14 (by omega) ?_
    refine xn_if_ne C 46 dX1_require_15 (by decide) (by omega) (fun hg => k46 ν' (by rw [if_pos (show pM ν' 0 a ≠ 0 from hg)]) rfl rfl rfl) (fun hg => ?_)
    refine x_aload_n C dX1_require_18 rfl ?_
    refine mg_given C dX1_require_19 ?_
    refine x_iload_n C dX1_require_22 rfl ?_
    refine x_iconst C (nI 1) dX1_require_23 (by decide) ?_
    refine ms_given C dX1_require_24 (by omega) (by omega) ?_
    refine x_aload_n C dX1_require_25 rfl ?_
    refine mg_adds C dX1_require_26 ?_
    refine x_iload_n C dX1_require_29 rfl ?_
    refine x_iconst C (nI 0) dX1_require_30 (by decide) ?_
    refine ms_adds C dX1_require_31 (by omega) ?_
    refine x_aload_n C dX1_require_32 rfl ?_
    refine mg_drops C dX1_require_33 ?_
    refine x_iload_n C dX1_require_36 rfl ?_
    refine x_iconst C (nI 0) dX1_require_37 (by decide) ?_
    refine ms_drops C dX1_require_38 (by omega) ?_
    refine x_aload_n C dX1_require_39 rfl ?_
    refine mg_cost C dX1_require_40 ?_
    refine x_iload_n C dX1_require_43 rfl ?_
    refine x_iconst C (nI 1) dX1_require_44 (by decide) ?_
    refine ms_cost C dX1_require_45 (by omega) ?_
    refine k46 _ ?_ rfl rfl rfl
    rw [if_neg (show ¬ pM ν' 0 a ≠ 0 from fun h => h hg)]
    refine (show pM (sA (sA (sA (sA ν' (0 + 3) (un (ν'.2 3) a 1)) (3 + 3) (un (ν'.2 6) a 0)) (4 + 3) (un (ν'.2 7) a 0)) (5 + 3) (un (ν'.2 8) a 1)) = _ from ?_)
    rw [pM_set _ (by decide), pM_set _ (by decide), pM_set _ (by decide), pM_set _ (by decide)]
    rfl
  · refine xn_if_eq C 9 dX1_require_4 (by decide) (by omega) (fun h => absurd h (by decide)) (fun _ => ?_)
    refine x_iconst C (-1) dX1_require_7 (by decide) ?_
    exact Rt 8 _ _ _ dX1_require_8 rfl (Or.inr ⟨hno, rfl, rfl⟩)
theorem metM_act (l : Launch) (O : XO) (ν : XS) (x : Int32) (hI : MInv ν) : GMi (yw O) (oD O) (xT O) l yX1_act cX1_act 2 (some .int) (rmk 1) [.ref (oh O), .int x] ν
    (fun r ν' => (∃ a, a < 10 ∧ x = nI a ∧ cd (pM ν) a (ν.1 0) = true ∧ r = nI 0 ∧ pM ν' = pM ν ∧ ν'.1 0 = af (pM ν) a (ν.1 0)) ∨ ((∀ a, a < 10 → x = nI a → cd (pM ν) a (ν.1 0) = false) ∧ r = -1 ∧ ν' = ν)) := by
  refine GMi.intro (own := RX1) (by decide) rfl (cat_of rfl) (Nat.le_of_ble_eq_true rfl) ?_
  intro K _ C Rt
  obtain ⟨hW, hnow⟩ := hI
  have k19 : (∀ a, a < 10 → x = nI a → cd (pM ν) a (ν.1 0) = false) → XAt (yw O) (oD O) K 2 19 [some (.ref (oh O)), some (.int x)] [] ν := by
    intro hno
    refine x_iconst C (-1) dX1_act_19 (by decide) ?_
    exact Rt 20 _ _ _ dX1_act_20 rfl (Or.inr ⟨hno, rfl, rfl⟩)
  refine x_iload_n C dX1_act_0 rfl ?_
  refine x_calls C (metM_bad (kL K) O ν x) cwm_bad d_bad (by decide) ⟨rfl, rfl⟩ (Nat.le_of_ble_eq_true rfl) rfl dX1_act_1 (fun r ν' hr => ?_)
  obtain ⟨rfl, hr⟩ := hr
  rcases hr with ⟨a, ha, rfl, rfl⟩ | ⟨hno, rfl⟩
  · refine xn_if_ne C 19 dX1_act_4 (by decide) (by omega) (fun h => absurd rfl h) (fun _ => ?_)
    refine x_aload_n C dX1_act_7 rfl ?_
    refine x_iload_n C dX1_act_8 rfl ?_
    refine x_aload_n C dX1_act_9 rfl ?_
    refine mg_now C dX1_act_10 ?_
    refine x_calli C (metM_canDo (kL K) O ν' (a := a) (s := ν'.1 0) hW ha hnow) cwm_canDo (by decide) ⟨rfl, rfl⟩ (ci := 1) (q0 := 0) rfl rfl rfl (Nat.le_of_ble_eq_true rfl) rfl dX1_act_13 (fun r ν2 hr => ?_)
    obtain ⟨rfl, rfl⟩ := hr
    refine xn_if_ne C 21 dX1_act_16 (by decide) b31 (fun hq => ?_) (fun hq => k19 (fun b hb e => by rw [← (nI_eq (by omega) (by omega)).mp e]; exact b0 hq))
    refine x_aload_n C dX1_act_21 rfl ?_
    refine x_aload_n C dX1_act_22 rfl ?_
    refine x_iload_n C dX1_act_23 rfl ?_
    refine x_aload_n C dX1_act_24 rfl ?_
    refine mg_now C dX1_act_25 ?_
    refine x_calli C (metM_after (kL K) O ν2 (a := a) (s := ν2.1 0) hW ha hnow) cwm_after (by decide) ⟨rfl, rfl⟩ (ci := 1) (q0 := 0) rfl rfl rfl (Nat.le_of_ble_eq_true rfl) rfl dX1_act_28 (fun r ν3 hr => ?_)
    obtain ⟨rfl, rfl⟩ := hr
    refine mp_now C dX1_act_31 ?_
    refine x_iconst C (nI 0) dX1_act_34 (by decide) ?_
    exact Rt 35 _ _ _ dX1_act_35 rfl (Or.inl ⟨a, ha, rfl, b1 hq, rfl, pM_s0 ν3 _, rfl⟩)
  · refine xn_if_ne C 19 dX1_act_4 (by decide) (by omega) (fun _ => k19 (fun a ha e => absurd e (hno a ha))) (fun h => absurd h (by decide))
end
section
/-! WALKS of the model: spread, reachable -/
theorem cn_mono {ob oc : Nat → Nat} (h : ∀ x, ob x ≠ 0 → oc x ≠ 0) : cn ob ≤ cn oc := cnt_mono 256 (fun i _ q => by
  have q : ob i ≠ 0 := by simpa using q
  simpa using h i q)
/-- marks made from s, over the actions below n -/
def SI (P : PB) (s n : Nat) (ob0 ob : Nat → Nat) : Prop := (∀ x, x < 256 → ob x ≤ 1) ∧ (∀ x, ob0 x ≠ 0 → ob x ≠ 0) ∧ (∀ x, x < 256 → ob x ≠ 0 → ob0 x ≠ 0 ∨ ∃ a, a < 10 ∧ cd P a s = true ∧ x = af P a s) ∧ ∀ a, a < n → cd P a s = true → ob (af P a s) ≠ 0
theorem SI.start {P : PB} {s : Nat} {ob : Nat → Nat} (h : ∀ x, x < 256 → ob x ≤ 1) : SI P s 0 ob ob := ⟨h, fun _ q => q, fun _ _ q => Or.inl q, fun a ha => by omega⟩
theorem SI.skip {P : PB} {s n : Nat} {ob0 ob : Nat → Nat} (h : SI P s n ob0 ob) (hs : cd P n s = true → ob (af P n s) ≠ 0) : SI P s (n + 1) ob0 ob := by
  obtain ⟨h1, h2, h3, h4⟩ := h
  refine ⟨h1, h2, h3, fun a ha hc => ?_⟩
  by_cases e : a = n
  · subst e; exact hs hc
  · exact h4 a (by omega) hc
theorem SI.mark {P : PB} {s n : Nat} {ob0 ob : Nat → Nat} (hn : n < 10) (h : SI P s n ob0 ob) (hc : cd P n s = true) : SI P s (n + 1) ob0 (un ob (af P n s) 1) := by
  obtain ⟨h1, h2, h3, h4⟩ := h
  refine ⟨fun x hx => un_cases (Q := fun z => z ≤ 1) (Nat.le_refl 1) (h1 x hx), fun x q => un_cases (Q := fun z => z ≠ 0) (by decide) (h2 x q), fun x hx q => ?_, fun a ha hca => ?_⟩
  · by_cases e : x = af P n s
    · exact Or.inr ⟨n, hn, hc, e⟩
    · rw [un_n e] at q
      exact h3 x hx q
  · by_cases e : a = n
    · rw [e, un_s]; decide
    · exact un_cases (Q := fun z => z ≠ 0) (by decide) (h4 a (by omega) hca)
theorem metM_spread (l : Launch) (O : XO) (ν : XS) {s : Nat} (hW : PW (pM ν)) (hs : s < 256) (hob : ∀ x, x < 256 → ν.2 10 x ≤ 1) : GMi (yw O) (oD O) (xT O) l yX1_spread cX1_spread 5 (some .boolean) (rmk 1) [.ref (oh O), .int (nI s)] ν
    (fun r ν' => ∃ ob, ν' = sA ν 10 ob ∧ SI (pM ν) s 10 (ν.2 10) ob ∧ ((r = nI 0 ∧ ob = ν.2 10) ∨ (r = nI 1 ∧ cn (ν.2 10) + 1 ≤ cn ob))) := by
  refine GMi.intro (own := RX1) (by decide) rfl (cat_of rfl) (Nat.le_of_ble_eq_true rfl) ?_
  intro K _ C Rt
  have loop : ∀ (n a mo : Nat) (ob : Nat → Nat), a + n = 10 → mo ≤ 1 → SI (pM ν) s a (ν.2 10) ob → (mo = 0 → ob = ν.2 10) → (mo ≠ 0 → cn (ν.2 10) + 1 ≤ cn ob) → XAt (yw O) (oD O) K 5 4 [some (.ref (oh O)), some (.int (nI s)), some (.int (nI mo)), some (.int (nI a)), none] [] (sA ν 10 ob) := by
    intro n
    induction n with
    | zero =>
      intro a mo ob ha hmo hI h0 h1
      have ea : a = 10 := by omega
      subst ea
      refine x_iload_n C dX1_spread_4 rfl ?_
      refine x_bipush C (nI 10) dX1_spread_5 (by decide) ?_
      refine xn_ic_ge C 53 dX1_spread_7 (by decide) (by omega) (by omega) (fun _ => ?_) (fun h => by omega)
      refine x_iload_n C dX1_spread_53 rfl ?_
      refine Rt 54 _ _ _ dX1_spread_54 (nar_b hmo).1 ⟨ob, rfl, hI, ?_⟩
      have : mo = 0 ∨ mo = 1 := by omega
      rcases this with e | e
      · exact Or.inl ⟨by rw [e], h0 e⟩
      · exact Or.inr ⟨by rw [e], h1 (by omega)⟩
    | succ n ih =>
      intro a mo ob ha hmo hI h0 h1
      have ha' : a < 10 := by omega
      have ht := af_lt hW ha' hs
      have hot := hI.1 _ ht
      have k47 : (cd (pM ν) a s = true → ob (af (pM ν) a s) ≠ 0) → ∀ w, XAt (yw O) (oD O) K 5 47 [some (.ref (oh O)), some (.int (nI s)), some (.int (nI mo)), some (.int (nI a)), w] [] (sA ν 10 ob) := by
        intro hk w
        refine x_inc1 C dX1_spread_47 rfl (by decide) ?_
        refine x_goto C 4 dX1_spread_50 (by decide) ?_
        exact x_drop 4 (ih (a + 1) mo ob (by omega) hmo (hI.skip hk) h0 h1)
      refine x_iload_n C dX1_spread_4 rfl ?_
      refine x_bipush C (nI 10) dX1_spread_5 (by decide) ?_
      refine xn_ic_ge C 53 dX1_spread_7 (by decide) (by omega) (by omega) (fun h => by omega) (fun _ => ?_)
      refine x_aload_n C dX1_spread_10 rfl ?_
      refine x_iload_n C dX1_spread_11 rfl ?_
      refine x_iload_n C dX1_spread_12 rfl ?_
      refine x_calli C (metM_after (kL K) O (sA ν 10 ob) (a := a) (s := s) hW ha' hs) cwm_after (by decide) ⟨rfl, rfl⟩ (ci := 1) (q0 := 0) rfl rfl rfl (Nat.le_of_ble_eq_true rfl) rfl dX1_spread_13 (fun r ν' hr => ?_)
      obtain ⟨rfl, hr⟩ := hr
      have hr : r = nI (af (pM ν) a s) := hr
      subst hr
      refine x_istore C dX1_spread_16 (by decide) ?_
      refine x_aload_n C dX1_spread_18 rfl ?_
      refine x_iload_n C dX1_spread_19 rfl ?_
      refine x_iload_n C dX1_spread_20 rfl ?_
      refine x_calli C (metM_canDo (kL K) O (sA ν 10 ob) (a := a) (s := s) hW ha' hs) cwm_canDo (by decide) ⟨rfl, rfl⟩ (ci := 1) (q0 := 0) rfl rfl rfl (Nat.le_of_ble_eq_true rfl) rfl dX1_spread_21 (fun r ν' hr => ?_)
      obtain ⟨rfl, hr⟩ := hr
      have hr : r = nI (cd (pM ν) a s).toNat := hr
      subst hr
      refine xn_if_eq C 47 dX1_spread_24 (by decide) b31 (fun h => k47 (fun q => by rw [b0 h] at q; exact absurd q (by decide)) _) (fun hq => ?_)
      have hc := b1 hq
      refine x_aload_n C dX1_spread_27 rfl ?_
      refine mg_reached C dX1_spread_28 ?_
      refine x_iload C dX1_spread_31 rfl ?_
      refine ml_reached C dX1_spread_33 ht ?_
      refine xn_if_ne C 47 dX1_spread_34 (by decide) (show ob (af (pM ν) a s) < 2 ^ 31 by omega) (fun hne => k47 (fun _ => hne) _) (fun hz => ?_)
      have hz : ob (af (pM ν) a s) = 0 := hz
      refine x_aload_n C dX1_spread_37 rfl ?_
      refine mg_reached C dX1_spread_38 ?_
      refine x_iload C dX1_spread_41 rfl ?_
      refine x_iconst C (nI 1) dX1_spread_43 (by decide) ?_
      refine ms_reached C dX1_spread_44 ht (by omega) ?_
      refine show XAt (yw O) (oD O) K 5 45 _ _ (sA (sA ν 10 ob) 10 (un ob (af (pM ν) a s) 1)) from ?_
      rw [sA_sA]
      refine x_iconst C (nI 1) dX1_spread_45 (by decide) ?_
      refine x_istore_n C dX1_spread_46 (by decide) ?_
      refine x_inc1 C dX1_spread_47 rfl (by decide) ?_
      refine x_goto C 4 dX1_spread_50 (by decide) ?_
      exact x_drop 4 (ih (a + 1) 1 _ (by omega) (by decide) (hI.mark ha' hc) (fun h => absurd h (by decide)) (fun _ => by
        rw [cn_un ht hz]
        have := cn_mono hI.2.1
        omega))
  refine x_iconst C (nI 0) dX1_spread_0 (by decide) ?_
  refine x_istore_n C dX1_spread_1 (by decide) ?_
  refine x_iconst C (nI 0) dX1_spread_2 (by decide) ?_
  refine x_istore_n C dX1_spread_3 (by decide) ?_
  have := loop 10 0 0 (ν.2 10) rfl (by decide) (SI.start hob) (fun _ => rfl) (fun h => absurd rfl h)
  rw [sA_self] at this
  exact this
/-- what is marked can be reached -/
def RI (P : PB) (s0 : Nat) (ob : Nat → Nat) : Prop := (∀ x, x < 256 → ob x ≤ 1) ∧ ob s0 ≠ 0 ∧ ∀ x, x < 256 → ob x ≠ 0 → Rch P s0 x
def RCl (P : PB) (ob : Nat → Nat) : Prop := ∀ x, x < 256 → ob x ≠ 0 → ∀ a, a < 10 → cd P a x = true → ob (af P a x) ≠ 0
theorem RI.more {P : PB} {s0 s : Nat} {ob ob' : Nat → Nat} (h : RI P s0 ob) (hs : s < 256) (hne : ob s ≠ 0) (hI : SI P s 10 ob ob') : RI P s0 ob' := by
  obtain ⟨h1, h2, h3⟩ := h
  refine ⟨hI.1, hI.2.1 _ h2, fun x hx q => ?_⟩
  rcases hI.2.2.1 x hx q with e | ⟨a, ha, hc, e⟩
  · exact h3 x hx e
  · rw [e]
    exact (h3 s hs hne).next hs ha hc
theorem metM_reachable (l : Launch) (O : XO) (ν : XS) (hI : MInv ν) : GMi (yw O) (oD O) (xT O) l yX1_reachable cX1_reachable 4 (some .int) (rmk 3) [.ref (oh O)] ν
    (fun r ν' => ∃ ob, (∀ x, x < 256 → (ob x ≠ 0 ↔ Rch (pM ν) (ν.1 0) x)) ∧ r = nI (cn ob) ∧ pM ν' = pM ν ∧ ν'.1 0 = ν.1 0) := by
  refine GMi.intro (own := RX1) (by decide) rfl (cat_of rfl) (Nat.le_of_ble_eq_true rfl) ?_
  intro K _ C Rt
  obtain ⟨hW, hnow⟩ := hI
  have k91 : ∀ (ob : Nat → Nat) (w1 w2 w3 : Option Value), RI (pM ν) (ν.1 0) ob → RCl (pM ν) ob → XAt (yw O) (oD O) K 4 91 [some (.ref (oh O)), w1, w2, w3] [] (sA ν 10 ob) := by
    intro ob w1 w2 w3 hR hcl
    have count : ∀ (n i : Nat), i + n = 256 → XAt (yw O) (oD O) K 4 95 [some (.ref (oh O)), w1, some (.int (nI (cnt (fun x => decide (ob x ≠ 0)) i))), some (.int (nI i))] [] (sA ν 10 ob) := by
      intro n
      induction n with
      | zero =>
        intro i hi
        have ei : i = 256 := by omega
        subst ei
        refine x_iload_n C dX1_reachable_95 rfl ?_
        refine x_sipush C (nI 256) dX1_reachable_96 (by decide) ?_
        refine xn_ic_ge C 120 dX1_reachable_99 (by decide) (by omega) (by omega) (fun _ => ?_) (fun h => by omega)
        refine x_iload_n C dX1_reachable_120 rfl ?_
        refine Rt 121 _ _ _ dX1_reachable_121 rfl ⟨ob, fun x hx => ⟨fun h => hR.2.2 x hx h, fun h => ?_⟩, rfl, pM_sA ν (by decide) ob, rfl⟩
        exact (Rch.sub hW hnow h (fun z => ob z ≠ 0) hR.2.1 (fun y a hy ha hT hc => hcl y hy hT a ha hc)).2
      | succ n ih =>
        intro i hi
        have hi' : i < 256 := by omega
        have ho := hR.1 i hi'
        have hi1 := ih (i + 1) (by omega)
        rw [cnt_succ] at hi1
        refine x_iload_n C dX1_reachable_95 rfl ?_
        refine x_sipush C (nI 256) dX1_reachable_96 (by decide) ?_
        refine xn_ic_ge C 120 dX1_reachable_99 (by decide) (by omega) (by omega) (fun h => by omega) (fun _ => ?_)
        refine x_aload_n C dX1_reachable_102 rfl ?_
        refine mg_reached C dX1_reachable_103 ?_
        refine x_iload_n C dX1_reachable_106 rfl ?_
        refine ml_reached C dX1_reachable_107 (by omega) ?_
        refine xn_if_eq C 114 dX1_reachable_108 (by decide) (show ob i < 2 ^ 31 by omega) (fun h0 => ?_) (fun hne => ?_)
        · have h0 : ob i = 0 := h0
          rw [if_neg (by simp [h0])] at hi1
          refine x_inc1 C dX1_reachable_114 rfl (by decide) ?_
          refine x_goto C 95 dX1_reachable_117 (by decide) ?_
          exact hi1
        · have hne : ob i ≠ 0 := hne
          rw [if_pos (by simp [hne])] at hi1
          refine x_inc1 C dX1_reachable_111 rfl (by decide) ?_
          refine x_inc1 C dX1_reachable_114 rfl (by decide) ?_
          refine x_goto C 95 dX1_reachable_117 (by decide) ?_
          exact hi1
    refine x_iconst C (nI 0) dX1_reachable_91 (by decide) ?_
    refine x_istore_n C dX1_reachable_92 (by decide) ?_
    refine x_iconst C (nI 0) dX1_reachable_93 (by decide) ?_
    refine x_istore_n C dX1_reachable_94 (by decide) ?_
    exact count 256 0 rfl
  have rounds : ∀ (n rd mo : Nat) (ob : Nat → Nat), rd + n = 256 → mo ≤ 1 → RI (pM ν) (ν.1 0) ob → (mo = 0 → RCl (pM ν) ob) → (mo ≠ 0 → rd + 1 ≤ cn ob) → XAt (yw O) (oD O) K 4 38 [some (.ref (oh O)), some (.int (nI mo)), some (.int (nI rd)), none] [] (sA ν 10 ob) := by
    intro n
    induction n with
    | zero =>
      intro rd mo ob hrd hmo hR hcl hcn
      have hle : cn ob ≤ 256 := cnt_le _ _
      have hm0 : mo = 0 := Classical.byContradiction fun q => by
        have := hcn q
        omega
      refine x_iload_n C dX1_reachable_38 rfl ?_
      refine x_sipush C (nI 256) dX1_reachable_39 (by decide) ?_
      refine xn_ic_ge C 91 dX1_reachable_42 (by decide) (by omega) (by omega) (fun _ => k91 ob _ _ _ hR (hcl hm0)) (fun h => by omega)
    | succ n ih =>
      intro rd mo ob0 hrd hmo hR hcl hcn
      refine x_iload_n C dX1_reachable_38 rfl ?_
      refine x_sipush C (nI 256) dX1_reachable_39 (by decide) ?_
      refine xn_ic_ge C 91 dX1_reachable_42 (by decide) (by omega) (by omega) (fun h => by omega) (fun _ => ?_)
      refine x_iload_n C dX1_reachable_45 rfl ?_
      refine xn_if_eq C 91 dX1_reachable_46 (by decide) (by omega) (fun h => k91 ob0 _ _ _ hR (hcl h)) (fun hmne => ?_)
      have hrd1 := hcn hmne
      have inner : ∀ (m s mo2 : Nat) (ob : Nat → Nat), s + m = 256 → mo2 ≤ 1 → RI (pM ν) (ν.1 0) ob → (mo2 = 0 → ob = ob0) → (mo2 ≠ 0 → cn ob0 + 1 ≤ cn ob) → (∀ x, ob0 x ≠ 0 → ob x ≠ 0) →
          (∀ x, x < s → ob0 x ≠ 0 → ∀ a, a < 10 → cd (pM ν) a x = true → ob (af (pM ν) a x) ≠ 0) → XAt (yw O) (oD O) K 4 53 [some (.ref (oh O)), some (.int (nI mo2)), some (.int (nI rd)), some (.int (nI s))] [] (sA ν 10 ob) := by
        intro m
        induction m with
        | zero =>
          intro s mo2 ob hs hmo2 hR2 h0 h1 hmn hc2
          have es : s = 256 := by omega
          subst es
          refine x_iload_n C dX1_reachable_53 rfl ?_
          refine x_sipush C (nI 256) dX1_reachable_54 (by decide) ?_
          refine xn_ic_ge C 85 dX1_reachable_57 (by decide) (by omega) (by omega) (fun _ => ?_) (fun h => by omega)
          refine x_inc1 C dX1_reachable_85 rfl (by decide) ?_
          refine x_goto C 38 dX1_reachable_88 (by decide) ?_
          refine x_drop 3 (ih (rd + 1) mo2 ob (by omega) hmo2 hR2 (fun e x hx hne a ha hc => ?_) (fun e => by have := h1 e; omega))
          have e2 := h0 e
          rw [e2] at hne
          exact hc2 x hx hne a ha hc
        | succ m ih2 =>
          intro s mo2 ob hs hmo2 hR2 h0 h1 hmn hc2
          have hs' : s < 256 := by omega
          have ho := hR2.1 s hs'
          refine x_iload_n C dX1_reachable_53 rfl ?_
          refine x_sipush C (nI 256) dX1_reachable_54 (by decide) ?_
          refine xn_ic_ge C 85 dX1_reachable_57 (by decide) (by omega) (by omega) (fun h => by omega) (fun _ => ?_)
          refine x_aload_n C dX1_reachable_60 rfl ?_
          refine mg_reached C dX1_reachable_61 ?_
          refine x_iload_n C dX1_reachable_64 rfl ?_
          refine ml_reached C dX1_reachable_65 (by omega) ?_
          refine xn_if_eq C 79 dX1_reachable_66 (by decide) (show ob s < 2 ^ 31 by omega) (fun hz => ?_) (fun hne => ?_)
          · have hz : ob s = 0 := hz
            refine x_inc1 C dX1_reachable_79 rfl (by decide) ?_
            refine x_goto C 53 dX1_reachable_82 (by decide) ?_
            refine ih2 (s + 1) mo2 ob (by omega) hmo2 hR2 h0 h1 hmn (fun x hx hx0 => ?_)
            by_cases e : x = s
            · rw [e] at hx0
              exact absurd hz (hmn s hx0)
            · exact hc2 x (by omega) hx0
          · have hne : ob s ≠ 0 := hne
            refine x_aload_n C dX1_reachable_69 rfl ?_
            refine x_iload_n C dX1_reachable_70 rfl ?_
            refine x_calli C (metM_spread (kL K) O (sA ν 10 ob) (s := s) hW hs' hR2.1) cwm_spread (by decide) ⟨rfl, rfl⟩ (ci := 1) (q0 := 0) rfl rfl rfl (Nat.le_of_ble_eq_true rfl) rfl dX1_reachable_71 (fun r ν' hr => ?_)
            obtain ⟨ob', rfl, hI, hr⟩ := hr
            have hI : SI (pM ν) s 10 ob ob' := hI
            have hr : (r = nI 0 ∧ ob' = ob) ∨ (r = nI 1 ∧ cn ob + 1 ≤ cn ob') := hr
            rw [sA_sA]
            have hc3 : ∀ x, x < s + 1 → ob0 x ≠ 0 → ∀ a, a < 10 → cd (pM ν) a x = true → ob' (af (pM ν) a x) ≠ 0 := by
              intro x hx hx0 a ha hc
              by_cases e : x = s
              · subst e; exact hI.2.2.2 a ha hc
              · exact hI.2.1 _ (hc2 x (by omega) hx0 a ha hc)
            rcases hr with ⟨rfl, e⟩ | ⟨rfl, hcn'⟩
            · refine xn_if_eq C 79 dX1_reachable_74 (by decide) (by omega) (fun _ => ?_) (fun h => absurd rfl h)
              refine x_inc1 C dX1_reachable_79 rfl (by decide) ?_
              refine x_goto C 53 dX1_reachable_82 (by decide) ?_
              exact ih2 (s + 1) mo2 ob' (by omega) hmo2 (hR2.more hs' hne hI) (fun q => by rw [e]; exact h0 q) (fun q => by rw [e]; exact h1 q) (fun x q => hI.2.1 x (hmn x q)) hc3
            · refine xn_if_eq C 79 dX1_reachable_74 (by decide) (by omega) (fun h => absurd h (by decide)) (fun _ => ?_)
              refine x_iconst C (nI 1) dX1_reachable_77 (by decide) ?_
              refine x_istore_n C dX1_reachable_78 (by decide) ?_
              refine x_inc1 C dX1_reachable_79 rfl (by decide) ?_
              refine x_goto C 53 dX1_reachable_82 (by decide) ?_
              exact ih2 (s + 1) 1 ob' (by omega) (by decide) (hR2.more hs' hne hI) (fun q => absurd q (by decide)) (fun _ => by
                have := cn_mono hmn
                omega) (fun x q => hI.2.1 x (hmn x q)) hc3
      refine x_iconst C (nI 0) dX1_reachable_49 (by decide) ?_
      refine x_istore_n C dX1_reachable_50 (by decide) ?_
      refine x_iconst C (nI 0) dX1_reachable_51 (by decide) ?_
      refine x_istore_n C dX1_reachable_52 (by decide) ?_
      exact inner 256 0 0 ob0 rfl (by decide) hR (fun _ => rfl) (fun h => absurd rfl h) (fun _ h => h) (fun x hx => by omega)
  have fillL : ∀ (n i : Nat) (ob : Nat → Nat), i + n = 256 → (∀ x, x < i → ob x = if x = ν.1 0 then 1 else 0) → XAt (yw O) (oD O) K 4 2 [some (.ref (oh O)), some (.int (nI i)), none, none] [] (sA ν 10 ob) := by
    intro n
    induction n with
    | zero =>
      intro i ob hi hob
      have ei : i = 256 := by omega
      subst ei
      have h1 : ob (ν.1 0) ≠ 0 := by rw [hob _ hnow, if_pos rfl]; decide
      refine x_iload_n C dX1_reachable_2 rfl ?_
      refine x_sipush C (nI 256) dX1_reachable_3 (by decide) ?_
      refine xn_ic_ge C 34 dX1_reachable_6 (by decide) (by omega) (by omega) (fun _ => ?_) (fun h => by omega)
      refine x_iconst C (nI 1) dX1_reachable_34 (by decide) ?_
      refine x_istore_n C dX1_reachable_35 (by decide) ?_
      refine x_iconst C (nI 0) dX1_reachable_36 (by decide) ?_
      refine x_istore_n C dX1_reachable_37 (by decide) ?_
      refine rounds 256 0 1 ob rfl (by decide) ⟨fun x hx => by rw [hob x hx]; split <;> omega, h1, fun x hx hne => ?_⟩ (fun h => absurd h (by decide)) (fun _ => ?_)
      · by_cases e : x = ν.1 0
        · rw [e]; exact Rch.rf _ _
        · rw [hob x hx, if_neg e] at hne
          exact absurd rfl hne
      · have := cnt_lt (p := fun _ => false) (q := fun x => decide (ob x ≠ 0)) (j := ν.1 0) 256 hnow (fun _ _ q => absurd q (by decide)) (by simpa using h1) rfl
        show 0 + 1 ≤ cnt (fun x => decide (ob x ≠ 0)) 256
        omega
    | succ n ih =>
      intro i ob hi hob
      have hi' : i < 256 := by omega
      have k27 : ∀ v, v = (if i = ν.1 0 then 1 else 0) → XAt (yw O) (oD O) K 4 27 [some (.ref (oh O)), some (.int (nI i)), none, none] [.int (nI v), .int (nI i), .ref (oa O 10)] (sA ν 10 ob) := by
        intro v hv
        have hv1 : v ≤ 1 := by rw [hv]; split <;> omega
        refine ms_reached C dX1_reachable_27 (by omega) (by omega) ?_
        refine show XAt (yw O) (oD O) K 4 28 _ _ (sA (sA ν 10 ob) 10 (un ob i v)) from ?_
        rw [sA_sA]
        refine x_inc1 C dX1_reachable_28 rfl (by decide) ?_
        refine x_goto C 2 dX1_reachable_31 (by decide) ?_
        refine ih (i + 1) (un ob i v) (by omega) (fun x hx => ?_)
        by_cases e : x = i
        · rw [e, un_s]; exact hv
        · rw [un_n e]; exact hob x (by omega)
      refine x_iload_n C dX1_reachable_2 rfl ?_
      refine x_sipush C (nI 256) dX1_reachable_3 (by decide) ?_
      refine xn_ic_ge C 34 dX1_reachable_6 (by decide) (by omega) (by omega) (fun h => by omega) (fun _ => ?_)
      refine x_aload_n C dX1_reachable_9 rfl ?_
      refine mg_reached C dX1_reachable_10 ?_
      refine x_iload_n C dX1_reachable_13 rfl ?_
      refine x_iload_n C dX1_reachable_14 rfl ?_
      refine x_aload_n C dX1_reachable_15 rfl ?_
      refine mg_now C dX1_reachable_16 ?_
      refine xn_ic_ne C 26 dX1_reachable_19 (by decide) (show i < 2 ^ 31 by omega) (show ν.1 0 < 2 ^ 31 by omega) (fun hne => ?_) (fun he => ?_)
      · refine x_iconst C (nI 0) dX1_reachable_26 (by decide) ?_
        exact k27 0 (by rw [if_neg (show ¬ i = ν.1 0 from hne)])
      · refine x_iconst C (nI 1) dX1_reachable_22 (by decide) ?_
        refine x_goto C 27 dX1_reachable_23 (by decide) ?_
        exact k27 1 (by rw [if_pos (show i = ν.1 0 from he)])
  refine x_iconst C (nI 0) dX1_reachable_0 (by decide) ?_
  refine x_istore_n C dX1_reachable_1 (by decide) ?_
  have := fillL 256 0 (ν.2 10) rfl (fun x hx => by omega)
  rw [sA_self] at this
  exact this
end
section
/-! WALKS: the constructors (prog/gen_init.py) -/
theorem a0_i (n : Nat) (cA : ClassId) : vp_cell cA (n, .inl (fun _ => nI 0)) = arrV cA n (fun _ => defaultValue .int) := by rw [vp_cell_i, nI_0]; rfl
theorem a0_z (n : Nat) (cA : ClassId) : vp_cell cA (n, .inl (fun _ => nI 0)) = arrV cA n (fun _ => defaultValue .boolean) := by rw [vp_cell_i, nI_0]; rfl
theorem a0_p (cA : ClassId) : vp_cell cA (256, .inl (fun _ => nI 2 - 2)) = arrV cA 256 (fun _ => defaultValue .int) := by rw [vp_cell_i, show nI 2 - 2 = (0 : Int32) by decide]; rfl
theorem ra_int {D : va_G} {cl : List vw_C} {tys : List (ClassId × FieldType)} {s : State} (hK : va_K D cl tys s) {i j : Nat} {c1 c2 : ClassId} (h1 : tys[i]? = some (c1, .int)) (h2 : tys[j]? = some (c2, .int)) : c1 = c2 := by
  have a : s.vm.findClass ("[" ++ FieldType.int.toString) = some c1 := (hK.2 i _ h1).2
  have b : s.vm.findClass ("[" ++ FieldType.int.toString) = some c2 := (hK.2 j _ h2).2
  exact Option.some.inj (a.symm.trans b)
theorem ra_bool {D : va_G} {cl : List vw_C} {tys : List (ClassId × FieldType)} {s : State} (hK : va_K D cl tys s) {i j : Nat} {c1 c2 : ClassId} (h1 : tys[i]? = some (c1, .boolean)) (h2 : tys[j]? = some (c2, .boolean)) : c1 = c2 := by
  have a : s.vm.findClass ("[" ++ FieldType.boolean.toString) = some c1 := (hK.2 i _ h1).2
  have b : s.vm.findClass ("[" ++ FieldType.boolean.toString) = some c2 := (hK.2 j _ h2).2
  exact Option.some.inj (a.symm.trans b)
/-- a new planner, a new model -/
def μ0 : XS := (fun _ => 0, fun k => match k with | 16 => fun _ => 2 | _ => fun _ => 0)
def ν0 : XS := (fun _ => 0, fun _ _ => 0)
abbrev w0P (h0 : Nat) : va_W := [(h0, .inr (0, [.null, .null, .null, .null, .null, .null, .int (nI 0), .int (nI 0), .int (nI 0), .int (nI 0), .int (nI 0), .int (nI 0), .int (nI 0), .int (nI 0), .null, .null, .null, .null, .int (nI 0), .null, .int (nI 0), .null, .null, .null]))]
def adP (a0 a1 a2 a3 a4 a5 a14 a15 a16 a17 a19 a21 a22 a23 : Nat) : Nat → Nat := fun k => match k with | 0 => a0 | 1 => a1 | 2 => a2 | 3 => a3 | 4 => a4 | 5 => a5 | 14 => a14 | 15 => a15 | 16 => a16 | 17 => a17 | 19 => a19 | 21 => a21 | 22 => a22 | _ => a23
set_option maxHeartbeats 4000000 in
set_option maxRecDepth 100000 in
theorem metP_init (l : Launch) (D : va_G) (h0 sz : Nat) : Met l yX0_init (ws_ yX0_init cX0_init 1 none) ({ frames := 1, cells := 14, slots := 1612, locals := 12 }) (va_Pc [.ref h0] (fun U => U.heap.size = sz ∧ va_P D vwCl (w0P h0) U.heap ∧ va_K D vwCl [] U ∧ va_D (fun _ => True) (w0P h0)))
    (va_Qv (fun _ : (Nat → Nat) × ClassId × ClassId => True) (fun u t => va_P D vwCl (xw (D, h0, u) μ0) t.heap ∧ va_K D vwCl (xT (D, h0, u)) t ∧ va_D (va_A (w0P h0) sz) (xw (D, h0, u) μ0)) (va_A (w0P h0) sz)) 14 1612 (va_A (w0P h0) sz) := by
  refine Met.ofW (cc := cX0_init) (maxL := 1) (ret := none) (by decide) rfl ?_
  intro p e s m args below meth c s₁ B hml hv
  obtain ⟨rfl, hsz, hP, hK, hD0⟩ := hv
  have hx := B.exec
  have hb := B.bytes
  have hr := B.returns
  have hts := atoms_spec (ws := ws_ yX0_init cX0_init 1 none) B.pre
  have hts : ∀ w ∈ lw_all, w.before _ s = true := fun w h => hts w (List.mem_cons_of_mem _ h)
  have hown : s.vm.findClass RX0 = some m.cls := findClass_of_methodNamed B.named
  have hlocks := B.notSynchronized
  have hin : meth.name = "<init>" := (name_of_methodNamed B.named B.method).1
  subst hsz
  have hD := hD0.self (sz := s.heap.size)
  have hA : ∀ q : Nat, s.heap.size ≤ q → va_A (w0P h0) s.heap.size q := fun q h => Or.inr h
  have hS : va_S (va_A (w0P h0) s.heap.size) s.heap s.heap [] := va_S.rf
  have hP : va_P D vwCl (w0P h0) s.heap := hP
  have hl := lv_entry ([.ref h0]) (n := 1) (Nat.le_of_ble_eq_true rfl)
  rw [lg_entry_eq]
  generalize (lg_sl ([.ref h0]) ++ List.replicate (1 - (lg_sl ([.ref h0])).length) Slot.unset).toArray = ls at hl ⊢
  have hl : lv_has ls 1 [(0, .ref h0)] := hl
  refine lv_aload_n hx hb dX0_init_0 rfl (lv_at hl 0 rfl) ?_
  refine W.objInit hx hb hown (hts _ q35) (hts _ q36) (hts _ q37) rfl (by rw [hml]; exact hl.1) rfl dX0_init_1 (Nat.le_of_ble_eq_true rfl) (Nat.le_of_ble_eq_true rfl) ?_
  refine W.eq (g2 := F0 m 4 ls []) rfl ?_
  refine lv_aload_n hx hb dX0_init_4 rfl (lv_at hl 0 rfl) ?_
  refine lv_bipush (v := nI 10) hx hb dX0_init_5 (by decide) ?_
  refine va_newa (atype := .boolean) (ty := .boolean) (N' := 10) (a0 := (10, .inl (fun _ => nI 0))) hx hb (hts _ q111) rfl hK hP hD hS hA (a0_z 10) (by decide) (by decide) (by decide) (Nat.le_of_ble_eq_true rfl) (Nat.le_of_ble_eq_true rfl) dX0_init_7 (fun a0 cZ H hK hP hD hS => ?_)
  have hP : va_P D vwCl [(h0, .inr (0, [.null, .null, .null, .null, .null, .null, .int (nI 0), .int (nI 0), .int (nI 0), .int (nI 0), .int (nI 0), .int (nI 0), .int (nI 0), .int (nI 0), .null, .null, .null, .null, .int (nI 0), .null, .int (nI 0), .null, .null, .null])), (a0, .inl (cZ, 10, .inl (fun _ => nI 0)))] H := hP
  have hD : va_D (va_A (w0P h0) s.heap.size) [(h0, .inr (0, [.null, .null, .null, .null, .null, .null, .int (nI 0), .int (nI 0), .int (nI 0), .int (nI 0), .int (nI 0), .int (nI 0), .int (nI 0), .int (nI 0), .null, .null, .null, .null, .int (nI 0), .null, .int (nI 0), .null, .null, .null])), (a0, .inl (cZ, 10, .inl (fun _ => nI 0)))] := hD
  refine W.widen (k := 1) (n := 10) (Nat.le_of_ble_eq_true rfl) (Nat.le_of_ble_eq_true rfl) ?_
  refine va_putF (ci := 0) (C := RX0) (T := TX0) (N := 24) (fs := [.null, .null, .null, .null, .null, .null, .int (nI 0), .int (nI 0), .int (nI 0), .int (nI 0), .int (nI 0), .int (nI 0), .int (nI 0), .int (nI 0), .null, .null, .null, .null, .int (nI 0), .null, .int (nI 0), .null, .null, .null]) (ty := .array .boolean) (v := .ref a0) hx hb hts in_X0 tyX0 tyX0_ok nmX0 hown hK hP hD hS 0 rfl rfl 0 (by decide) (hts _ q38) (fun _ h9 => h9) rfl hin rfl (by decide +kernel) rfl rfl (Nat.le_of_ble_eq_true rfl) dX0_init_9 (fun H locs hP hD hS => ?_)
  have hP : va_P D vwCl [(h0, .inr (0, [.ref a0, .null, .null, .null, .null, .null, .int (nI 0), .int (nI 0), .int (nI 0), .int (nI 0), .int (nI 0), .int (nI 0), .int (nI 0), .int (nI 0), .null, .null, .null, .null, .int (nI 0), .null, .int (nI 0), .null, .null, .null])), (a0, .inl (cZ, 10, .inl (fun _ => nI 0)))] H := hP
  have hD : va_D (va_A (w0P h0) s.heap.size) [(h0, .inr (0, [.ref a0, .null, .null, .null, .null, .null, .int (nI 0), .int (nI 0), .int (nI 0), .int (nI 0), .int (nI 0), .int (nI 0), .int (nI 0), .int (nI 0), .null, .null, .null, .null, .int (nI 0), .null, .int (nI 0), .null, .null, .null])), (a0, .inl (cZ, 10, .inl (fun _ => nI 0)))] := hD
  refine lv_aload_n hx hb dX0_init_12 rfl (lv_at hl 0 rfl) ?_
  refine lv_bipush (v := nI 10) hx hb dX0_init_13 (by decide) ?_
  refine va_newa (atype := .int) (ty := .int) (N' := 10) (a0 := (10, .inl (fun _ => nI 0))) hx hb (hts _ q112) rfl hK hP hD hS hA (a0_i 10) (by decide) (by decide) (by decide) (Nat.le_of_ble_eq_true rfl) (Nat.le_of_ble_eq_true rfl) dX0_init_15 (fun a1 cI H hK hP hD hS => ?_)
  have hP : va_P D vwCl [(h0, .inr (0, [.ref a0, .null, .null, .null, .null, .null, .int (nI 0), .int (nI 0), .int (nI 0), .int (nI 0), .int (nI 0), .int (nI 0), .int (nI 0), .int (nI 0), .null, .null, .null, .null, .int (nI 0), .null, .int (nI 0), .null, .null, .null])), (a0, .inl (cZ, 10, .inl (fun _ => nI 0))), (a1, .inl (cI, 10, .inl (fun _ => nI 0)))] H := hP
  have hD : va_D (va_A (w0P h0) s.heap.size) [(h0, .inr (0, [.ref a0, .null, .null, .null, .null, .null, .int (nI 0), .int (nI 0), .int (nI 0), .int (nI 0), .int (nI 0), .int (nI 0), .int (nI 0), .int (nI 0), .null, .null, .null, .null, .int (nI 0), .null, .int (nI 0), .null, .null, .null])), (a0, .inl (cZ, 10, .inl (fun _ => nI 0))), (a1, .inl (cI, 10, .inl (fun _ => nI 0)))] := hD
  refine W.widen (k := 2) (n := 20) (Nat.le_of_ble_eq_true rfl) (Nat.le_of_ble_eq_true rfl) ?_
  refine va_putF (ci := 0) (C := RX0) (T := TX0) (N := 24) (fs := [.ref a0, .null, .null, .null, .null, .null, .int (nI 0), .int (nI 0), .int (nI 0), .int (nI 0), .int (nI 0), .int (nI 0), .int (nI 0), .int (nI 0), .null, .null, .null, .null, .int (nI 0), .null, .int (nI 0), .null, .null, .null]) (ty := .array .int) (v := .ref a1) hx hb hts in_X0 tyX0 tyX0_ok nmX0 hown hK hP hD hS 0 rfl rfl 1 (by decide) (hts _ q39) (fun _ h9 => h9) rfl hin rfl (by decide +kernel) rfl rfl (Nat.le_of_ble_eq_true rfl) dX0_init_17 (fun H locs hP hD hS => ?_)
  have hP : va_P D vwCl [(h0, .inr (0, [.ref a0, .ref a1, .null, .null, .null, .null, .int (nI 0), .int (nI 0), .int (nI 0), .int (nI 0), .int (nI 0), .int (nI 0), .int (nI 0), .int (nI 0), .null, .null, .null, .null, .int (nI 0), .null, .int (nI 0), .null, .null, .null])), (a0, .inl (cZ, 10, .inl (fun _ => nI 0))), (a1, .inl (cI, 10, .inl (fun _ => nI 0)))] H := hP
  have hD : va_D (va_A (w0P h0) s.heap.size) [(h0, .inr (0, [.ref a0, .ref a1, .null, .null, .null, .null, .int (nI 0), .int (nI 0), .int (nI 0), .int (nI 0), .int (nI 0), .int (nI 0), .int (nI 0), .int (nI 0), .null, .null, .null, .null, .int (nI 0), .null, .int (nI 0), .null, .null, .null])), (a0, .inl (cZ, 10, .inl (fun _ => nI 0))), (a1, .inl (cI, 10, .inl (fun _ => nI 0)))] := hD
  refine lv_aload_n hx hb dX0_init_20 rfl (lv_at hl 0 rfl) ?_
  refine lv_bipush (v := nI 10) hx hb dX0_init_21 (by decide) ?_
  refine va_newa (atype := .int) (ty := .int) (N' := 10) (a0 := (10, .inl (fun _ => nI 0))) hx hb (hts _ q112) rfl hK hP hD hS hA (a0_i 10) (by decide) (by decide) (by decide) (Nat.le_of_ble_eq_true rfl) (Nat.le_of_ble_eq_true rfl) dX0_init_23 (fun a2 cA H hK hP hD hS => ?_)
  have ec := ra_int (c1 := cI) (c2 := cA) (i := 1) (j := 2) hK rfl rfl
  subst ec
  have hK := hK.sub (tys' := [(cZ, .boolean), (cI, .int)]) [0, 1] rfl
  have hP : va_P D vwCl [(h0, .inr (0, [.ref a0, .ref a1, .null, .null, .null, .null, .int (nI 0), .int (nI 0), .int (nI 0), .int (nI 0), .int (nI 0), .int (nI 0), .int (nI 0), .int (nI 0), .null, .null, .null, .null, .int (nI 0), .null, .int (nI 0), .null, .null, .null])), (a0, .inl (cZ, 10, .inl (fun _ => nI 0))), (a1, .inl (cI, 10, .inl (fun _ => nI 0))), (a2, .inl (cI, 10, .inl (fun _ => nI 0)))] H := hP
  have hD : va_D (va_A (w0P h0) s.heap.size) [(h0, .inr (0, [.ref a0, .ref a1, .null, .null, .null, .null, .int (nI 0), .int (nI 0), .int (nI 0), .int (nI 0), .int (nI 0), .int (nI 0), .int (nI 0), .int (nI 0), .null, .null, .null, .null, .int (nI 0), .null, .int (nI 0), .null, .null, .null])), (a0, .inl (cZ, 10, .inl (fun _ => nI 0))), (a1, .inl (cI, 10, .inl (fun _ => nI 0))), (a2, .inl (cI, 10, .inl (fun _ => nI 0)))] := hD
  refine W.widen (k := 3) (n := 30) (Nat.le_of_ble_eq_true rfl) (Nat.le_of_ble_eq_true rfl) ?_
  refine va_putF (ci := 0) (C := RX0) (T := TX0) (N := 24) (fs := [.ref a0, .ref a1, .null, .null, .null, .null, .int (nI 0), .int (nI 0), .int (nI 0), .int (nI 0), .int (nI 0), .int (nI 0), .int (nI 0), .int (nI 0), .null, .null, .null, .null, .int (nI 0), .null, .int (nI 0), .null, .null, .null]) (ty := .array .int) (v := .ref a2) hx hb hts in_X0 tyX0 tyX0_ok nmX0 hown hK hP hD hS 0 rfl rfl 2 (by decide) (hts _ q40) (fun _ h9 => h9) rfl hin rfl (by decide +kernel) rfl rfl (Nat.le_of_ble_eq_true rfl) dX0_init_25 (fun H locs hP hD hS => ?_)
  have hP : va_P D vwCl [(h0, .inr (0, [.ref a0, .ref a1, .ref a2, .null, .null, .null, .int (nI 0), .int (nI 0), .int (nI 0), .int (nI 0), .int (nI 0), .int (nI 0), .int (nI 0), .int (nI 0), .null, .null, .null, .null, .int (nI 0), .null, .int (nI 0), .null, .null, .null])), (a0, .inl (cZ, 10, .inl (fun _ => nI 0))), (a1, .inl (cI, 10, .inl (fun _ => nI 0))), (a2, .inl (cI, 10, .inl (fun _ => nI 0)))] H := hP
  have hD : va_D (va_A (w0P h0) s.heap.size) [(h0, .inr (0, [.ref a0, .ref a1, .ref a2, .null, .null, .null, .int (nI 0), .int (nI 0), .int (nI 0), .int (nI 0), .int (nI 0), .int (nI 0), .int (nI 0), .int (nI 0), .null, .null, .null, .null, .int (nI 0), .null, .int (nI 0), .null, .null, .null])), (a0, .inl (cZ, 10, .inl (fun _ => nI 0))), (a1, .inl (cI, 10, .inl (fun _ => nI 0))), (a2, .inl (cI, 10, .inl (fun _ => nI 0)))] := hD
  refine lv_aload_n hx hb dX0_init_28 rfl (lv_at hl 0 rfl) ?_
  refine lv_bipush (v := nI 10) hx hb dX0_init_29 (by decide) ?_
  refine va_newa (atype := .int) (ty := .int) (N' := 10) (a0 := (10, .inl (fun _ => nI 0))) hx hb (hts _ q112) rfl hK hP hD hS hA (a0_i 10) (by decide) (by decide) (by decide) (Nat.le_of_ble_eq_true rfl) (Nat.le_of_ble_eq_true rfl) dX0_init_31 (fun a3 cA H hK hP hD hS => ?_)
  have ec := ra_int (c1 := cI) (c2 := cA) (i := 1) (j := 2) hK rfl rfl
  subst ec
  have hK := hK.sub (tys' := [(cZ, .boolean), (cI, .int)]) [0, 1] rfl
  have hP : va_P D vwCl [(h0, .inr (0, [.ref a0, .ref a1, .ref a2, .null, .null, .null, .int (nI 0), .int (nI 0), .int (nI 0), .int (nI 0), .int (nI 0), .int (nI 0), .int (nI 0), .int (nI 0), .null, .null, .null, .null, .int (nI 0), .null, .int (nI 0), .null, .null, .null])), (a0, .inl (cZ, 10, .inl (fun _ => nI 0))), (a1, .inl (cI, 10, .inl (fun _ => nI 0))), (a2, .inl (cI, 10, .inl (fun _ => nI 0))), (a3, .inl (cI, 10, .inl (fun _ => nI 0)))] H := hP
  have hD : va_D (va_A (w0P h0) s.heap.size) [(h0, .inr (0, [.ref a0, .ref a1, .ref a2, .null, .null, .null, .int (nI 0), .int (nI 0), .int (nI 0), .int (nI 0), .int (nI 0), .int (nI 0), .int (nI 0), .int (nI 0), .null, .null, .null, .null, .int (nI 0), .null, .int (nI 0), .null, .null, .null])), (a0, .inl (cZ, 10, .inl (fun _ => nI 0))), (a1, .inl (cI, 10, .inl (fun _ => nI 0))), (a2, .inl (cI, 10, .inl (fun _ => nI 0))), (a3, .inl (cI, 10, .inl (fun _ => nI 0)))] := hD
  refine W.widen (k := 4) (n := 40) (Nat.le_of_ble_eq_true rfl) (Nat.le_of_ble_eq_true rfl) ?_
  refine va_putF (ci := 0) (C := RX0) (T := TX0) (N := 24) (fs := [.ref a0, .ref a1, .ref a2, .null, .null, .null, .int (nI 0), .int (nI 0), .int (nI 0), .int (nI 0), .int (nI 0), .int (nI 0), .int (nI 0), .int (nI 0), .null, .null, .null, .null, .int (nI 0), .null, .int (nI 0), .null, .null, .null]) (ty := .array .int) (v := .ref a3) hx hb hts in_X0 tyX0 tyX0_ok nmX0 hown hK hP hD hS 0 rfl rfl 3 (by decide) (hts _ q41) (fun _ h9 => h9) rfl hin rfl (by decide +kernel) rfl rfl (Nat.le_of_ble_eq_true rfl) dX0_init_33 (fun H locs hP hD hS => ?_)
  have hP : va_P D vwCl [(h0, .inr (0, [.ref a0, .ref a1, .ref a2, .ref a3, .null, .null, .int (nI 0), .int (nI 0), .int (nI 0), .int (nI 0), .int (nI 0), .int (nI 0), .int (nI 0), .int (nI 0), .null, .null, .null, .null, .int (nI 0), .null, .int (nI 0), .null, .null, .null])), (a0, .inl (cZ, 10, .inl (fun _ => nI 0))), (a1, .inl (cI, 10, .inl (fun _ => nI 0))), (a2, .inl (cI, 10, .inl (fun _ => nI 0))), (a3, .inl (cI, 10, .inl (fun _ => nI 0)))] H := hP
  have hD : va_D (va_A (w0P h0) s.heap.size) [(h0, .inr (0, [.ref a0, .ref a1, .ref a2, .ref a3, .null, .null, .int (nI 0), .int (nI 0), .int (nI 0), .int (nI 0), .int (nI 0), .int (nI 0), .int (nI 0), .int (nI 0), .null, .null, .null, .null, .int (nI 0), .null, .int (nI 0), .null, .null, .null])), (a0, .inl (cZ, 10, .inl (fun _ => nI 0))), (a1, .inl (cI, 10, .inl (fun _ => nI 0))), (a2, .inl (cI, 10, .inl (fun _ => nI 0))), (a3, .inl (cI, 10, .inl (fun _ => nI 0)))] := hD
  refine lv_aload_n hx hb dX0_init_36 rfl (lv_at hl 0 rfl) ?_
  refine lv_bipush (v := nI 10) hx hb dX0_init_37 (by decide) ?_
  refine va_newa (atype := .int) (ty := .int) (N' := 10) (a0 := (10, .inl (fun _ => nI 0))) hx hb (hts _ q112) rfl hK hP hD hS hA (a0_i 10) (by decide) (by decide) (by decide) (Nat.le_of_ble_eq_true rfl) (Nat.le_of_ble_eq_true rfl) dX0_init_39 (fun a4 cA H hK hP hD hS => ?_)
  have ec := ra_int (c1 := cI) (c2 := cA) (i := 1) (j := 2) hK rfl rfl
  subst ec
  have hK := hK.sub (tys' := [(cZ, .boolean), (cI, .int)]) [0, 1] rfl
  have hP : va_P D vwCl [(h0, .inr (0, [.ref a0, .ref a1, .ref a2, .ref a3, .null, .null, .int (nI 0), .int (nI 0), .int (nI 0), .int (nI 0), .int (nI 0), .int (nI 0), .int (nI 0), .int (nI 0), .null, .null, .null, .null, .int (nI 0), .null, .int (nI 0), .null, .null, .null])), (a0, .inl (cZ, 10, .inl (fun _ => nI 0))), (a1, .inl (cI, 10, .inl (fun _ => nI 0))), (a2, .inl (cI, 10, .inl (fun _ => nI 0))), (a3, .inl (cI, 10, .inl (fun _ => nI 0))), (a4, .inl (cI, 10, .inl (fun _ => nI 0)))] H := hP
  have hD : va_D (va_A (w0P h0) s.heap.size) [(h0, .inr (0, [.ref a0, .ref a1, .ref a2, .ref a3, .null, .null, .int (nI 0), .int (nI 0), .int (nI 0), .int (nI 0), .int (nI 0), .int (nI 0), .int (nI 0), .int (nI 0), .null, .null, .null, .null, .int (nI 0), .null, .int (nI 0), .null, .null, .null])), (a0, .inl (cZ, 10, .inl (fun _ => nI 0))), (a1, .inl (cI, 10, .inl (fun _ => nI 0))), (a2, .inl (cI, 10, .inl (fun _ => nI 0))), (a3, .inl (cI, 10, .inl (fun _ => nI 0))), (a4, .inl (cI, 10, .inl (fun _ => nI 0)))] := hD
  refine W.widen (k := 5) (n := 50) (Nat.le_of_ble_eq_true rfl) (Nat.le_of_ble_eq_true rfl) ?_
  refine va_putF (ci := 0) (C := RX0) (T := TX0) (N := 24) (fs := [.ref a0, .ref a1, .ref a2, .ref a3, .null, .null, .int (nI 0), .int (nI 0), .int (nI 0), .int (nI 0), .int (nI 0), .int (nI 0), .int (nI 0), .int (nI 0), .null, .null, .null, .null, .int (nI 0), .null, .int (nI 0), .null, .null, .null]) (ty := .array .int) (v := .ref a4) hx hb hts in_X0 tyX0 tyX0_ok nmX0 hown hK hP hD hS 0 rfl rfl 4 (by decide) (hts _ q42) (fun _ h9 => h9) rfl hin rfl (by decide +kernel) rfl rfl (Nat.le_of_ble_eq_true rfl) dX0_init_41 (fun H locs hP hD hS => ?_)
  have hP : va_P D vwCl [(h0, .inr (0, [.ref a0, .ref a1, .ref a2, .ref a3, .ref a4, .null, .int (nI 0), .int (nI 0), .int (nI 0), .int (nI 0), .int (nI 0), .int (nI 0), .int (nI 0), .int (nI 0), .null, .null, .null, .null, .int (nI 0), .null, .int (nI 0), .null, .null, .null])), (a0, .inl (cZ, 10, .inl (fun _ => nI 0))), (a1, .inl (cI, 10, .inl (fun _ => nI 0))), (a2, .inl (cI, 10, .inl (fun _ => nI 0))), (a3, .inl (cI, 10, .inl (fun _ => nI 0))), (a4, .inl (cI, 10, .inl (fun _ => nI 0)))] H := hP
  have hD : va_D (va_A (w0P h0) s.heap.size) [(h0, .inr (0, [.ref a0, .ref a1, .ref a2, .ref a3, .ref a4, .null, .int (nI 0), .int (nI 0), .int (nI 0), .int (nI 0), .int (nI 0), .int (nI 0), .int (nI 0), .int (nI 0), .null, .null, .null, .null, .int (nI 0), .null, .int (nI 0), .null, .null, .null])), (a0, .inl (cZ, 10, .inl (fun _ => nI 0))), (a1, .inl (cI, 10, .inl (fun _ => nI 0))), (a2, .inl (cI, 10, .inl (fun _ => nI 0))), (a3, .inl (cI, 10, .inl (fun _ => nI 0))), (a4, .inl (cI, 10, .inl (fun _ => nI 0)))] := hD
  refine lv_aload_n hx hb dX0_init_44 rfl (lv_at hl 0 rfl) ?_
  refine lv_bipush (v := nI 10) hx hb dX0_init_45 (by decide) ?_
  refine va_newa (atype := .int) (ty := .int) (N' := 10) (a0 := (10, .inl (fun _ => nI 0))) hx hb (hts _ q112) rfl hK hP hD hS hA (a0_i 10) (by decide) (by decide) (by decide) (Nat.le_of_ble_eq_true rfl) (Nat.le_of_ble_eq_true rfl) dX0_init_47 (fun a5 cA H hK hP hD hS => ?_)
  have ec := ra_int (c1 := cI) (c2 := cA) (i := 1) (j := 2) hK rfl rfl
  subst ec
  have hK := hK.sub (tys' := [(cZ, .boolean), (cI, .int)]) [0, 1] rfl
  have hP : va_P D vwCl [(h0, .inr (0, [.ref a0, .ref a1, .ref a2, .ref a3, .ref a4, .null, .int (nI 0), .int (nI 0), .int (nI 0), .int (nI 0), .int (nI 0), .int (nI 0), .int (nI 0), .int (nI 0), .null, .null, .null, .null, .int (nI 0), .null, .int (nI 0), .null, .null, .null])), (a0, .inl (cZ, 10, .inl (fun _ => nI 0))), (a1, .inl (cI, 10, .inl (fun _ => nI 0))), (a2, .inl (cI, 10, .inl (fun _ => nI 0))), (a3, .inl (cI, 10, .inl (fun _ => nI 0))), (a4, .inl (cI, 10, .inl (fun _ => nI 0))), (a5, .inl (cI, 10, .inl (fun _ => nI 0)))] H := hP
  have hD : va_D (va_A (w0P h0) s.heap.size) [(h0, .inr (0, [.ref a0, .ref a1, .ref a2, .ref a3, .ref a4, .null, .int (nI 0), .int (nI 0), .int (nI 0), .int (nI 0), .int (nI 0), .int (nI 0), .int (nI 0), .int (nI 0), .null, .null, .null, .null, .int (nI 0), .null, .int (nI 0), .null, .null, .null])), (a0, .inl (cZ, 10, .inl (fun _ => nI 0))), (a1, .inl (cI, 10, .inl (fun _ => nI 0))), (a2, .inl (cI, 10, .inl (fun _ => nI 0))), (a3, .inl (cI, 10, .inl (fun _ => nI 0))), (a4, .inl (cI, 10, .inl (fun _ => nI 0))), (a5, .inl (cI, 10, .inl (fun _ => nI 0)))] := hD
  refine W.widen (k := 6) (n := 60) (Nat.le_of_ble_eq_true rfl) (Nat.le_of_ble_eq_true rfl) ?_
  refine va_putF (ci := 0) (C := RX0) (T := TX0) (N := 24) (fs := [.ref a0, .ref a1, .ref a2, .ref a3, .ref a4, .null, .int (nI 0), .int (nI 0), .int (nI 0), .int (nI 0), .int (nI 0), .int (nI 0), .int (nI 0), .int (nI 0), .null, .null, .null, .null, .int (nI 0), .null, .int (nI 0), .null, .null, .null]) (ty := .array .int) (v := .ref a5) hx hb hts in_X0 tyX0 tyX0_ok nmX0 hown hK hP hD hS 0 rfl rfl 5 (by decide) (hts _ q43) (fun _ h9 => h9) rfl hin rfl (by decide +kernel) rfl rfl (Nat.le_of_ble_eq_true rfl) dX0_init_49 (fun H locs hP hD hS => ?_)
  have hP : va_P D vwCl [(h0, .inr (0, [.ref a0, .ref a1, .ref a2, .ref a3, .ref a4, .ref a5, .int (nI 0), .int (nI 0), .int (nI 0), .int (nI 0), .int (nI 0), .int (nI 0), .int (nI 0), .int (nI 0), .null, .null, .null, .null, .int (nI 0), .null, .int (nI 0), .null, .null, .null])), (a0, .inl (cZ, 10, .inl (fun _ => nI 0))), (a1, .inl (cI, 10, .inl (fun _ => nI 0))), (a2, .inl (cI, 10, .inl (fun _ => nI 0))), (a3, .inl (cI, 10, .inl (fun _ => nI 0))), (a4, .inl (cI, 10, .inl (fun _ => nI 0))), (a5, .inl (cI, 10, .inl (fun _ => nI 0)))] H := hP
  have hD : va_D (va_A (w0P h0) s.heap.size) [(h0, .inr (0, [.ref a0, .ref a1, .ref a2, .ref a3, .ref a4, .ref a5, .int (nI 0), .int (nI 0), .int (nI 0), .int (nI 0), .int (nI 0), .int (nI 0), .int (nI 0), .int (nI 0), .null, .null, .null, .null, .int (nI 0), .null, .int (nI 0), .null, .null, .null])), (a0, .inl (cZ, 10, .inl (fun _ => nI 0))), (a1, .inl (cI, 10, .inl (fun _ => nI 0))), (a2, .inl (cI, 10, .inl (fun _ => nI 0))), (a3, .inl (cI, 10, .inl (fun _ => nI 0))), (a4, .inl (cI, 10, .inl (fun _ => nI 0))), (a5, .inl (cI, 10, .inl (fun _ => nI 0)))] := hD
  refine lv_aload_n hx hb dX0_init_52 rfl (lv_at hl 0 rfl) ?_
  refine lv_sipush (v := nI 256) hx hb dX0_init_53 (by decide) ?_
  refine va_newa (atype := .int) (ty := .int) (N' := 256) (a0 := (256, .inl (fun _ => nI 0))) hx hb (hts _ q112) rfl hK hP hD hS hA (a0_i 256) (by decide) (by decide) (by decide) (Nat.le_of_ble_eq_true rfl) (Nat.le_of_ble_eq_true rfl) dX0_init_56 (fun a14 cA H hK hP hD hS => ?_)
  have ec := ra_int (c1 := cI) (c2 := cA) (i := 1) (j := 2) hK rfl rfl
  subst ec
  have hK := hK.sub (tys' := [(cZ, .boolean), (cI, .int)]) [0, 1] rfl
  have hP : va_P D vwCl [(h0, .inr (0, [.ref a0, .ref a1, .ref a2, .ref a3, .ref a4, .ref a5, .int (nI 0), .int (nI 0), .int (nI 0), .int (nI 0), .int (nI 0), .int (nI 0), .int (nI 0), .int (nI 0), .null, .null, .null, .null, .int (nI 0), .null, .int (nI 0), .null, .null, .null])), (a0, .inl (cZ, 10, .inl (fun _ => nI 0))), (a1, .inl (cI, 10, .inl (fun _ => nI 0))), (a2, .inl (cI, 10, .inl (fun _ => nI 0))), (a3, .inl (cI, 10, .inl (fun _ => nI 0))), (a4, .inl (cI, 10, .inl (fun _ => nI 0))), (a5, .inl (cI, 10, .inl (fun _ => nI 0))), (a14, .inl (cI, 256, .inl (fun _ => nI 0)))] H := hP
  have hD : va_D (va_A (w0P h0) s.heap.size) [(h0, .inr (0, [.ref a0, .ref a1, .ref a2, .ref a3, .ref a4, .ref a5, .int (nI 0), .int (nI 0), .int (nI 0), .int (nI 0), .int (nI 0), .int (nI 0), .int (nI 0), .int (nI 0), .null, .null, .null, .null, .int (nI 0), .null, .int (nI 0), .null, .null, .null])), (a0, .inl (cZ, 10, .inl (fun _ => nI 0))), (a1, .inl (cI, 10, .inl (fun _ => nI 0))), (a2, .inl (cI, 10, .inl (fun _ => nI 0))), (a3, .inl (cI, 10, .inl (fun _ => nI 0))), (a4, .inl (cI, 10, .inl (fun _ => nI 0))), (a5, .inl (cI, 10, .inl (fun _ => nI 0))), (a14, .inl (cI, 256, .inl (fun _ => nI 0)))] := hD
  refine W.widen (k := 7) (n := 316) (Nat.le_of_ble_eq_true rfl) (Nat.le_of_ble_eq_true rfl) ?_
  refine va_putF (ci := 0) (C := RX0) (T := TX0) (N := 24) (fs := [.ref a0, .ref a1, .ref a2, .ref a3, .ref a4, .ref a5, .int (nI 0), .int (nI 0), .int (nI 0), .int (nI 0), .int (nI 0), .int (nI 0), .int (nI 0), .int (nI 0), .null, .null, .null, .null, .int (nI 0), .null, .int (nI 0), .null, .null, .null]) (ty := .array .int) (v := .ref a14) hx hb hts in_X0 tyX0 tyX0_ok nmX0 hown hK hP hD hS 0 rfl rfl 14 (by decide) (hts _ q52) (fun _ h9 => h9) rfl hin rfl (by decide +kernel) rfl rfl (Nat.le_of_ble_eq_true rfl) dX0_init_58 (fun H locs hP hD hS => ?_)
  have hP : va_P D vwCl [(h0, .inr (0, [.ref a0, .ref a1, .ref a2, .ref a3, .ref a4, .ref a5, .int (nI 0), .int (nI 0), .int (nI 0), .int (nI 0), .int (nI 0), .int (nI 0), .int (nI 0), .int (nI 0), .ref a14, .null, .null, .null, .int (nI 0), .null, .int (nI 0), .null, .null, .null])), (a0, .inl (cZ, 10, .inl (fun _ => nI 0))), (a1, .inl (cI, 10, .inl (fun _ => nI 0))), (a2, .inl (cI, 10, .inl (fun _ => nI 0))), (a3, .inl (cI, 10, .inl (fun _ => nI 0))), (a4, .inl (cI, 10, .inl (fun _ => nI 0))), (a5, .inl (cI, 10, .inl (fun _ => nI 0))), (a14, .inl (cI, 256, .inl (fun _ => nI 0)))] H := hP
  have hD : va_D (va_A (w0P h0) s.heap.size) [(h0, .inr (0, [.ref a0, .ref a1, .ref a2, .ref a3, .ref a4, .ref a5, .int (nI 0), .int (nI 0), .int (nI 0), .int (nI 0), .int (nI 0), .int (nI 0), .int (nI 0), .int (nI 0), .ref a14, .null, .null, .null, .int (nI 0), .null, .int (nI 0), .null, .null, .null])), (a0, .inl (cZ, 10, .inl (fun _ => nI 0))), (a1, .inl (cI, 10, .inl (fun _ => nI 0))), (a2, .inl (cI, 10, .inl (fun _ => nI 0))), (a3, .inl (cI, 10, .inl (fun _ => nI 0))), (a4, .inl (cI, 10, .inl (fun _ => nI 0))), (a5, .inl (cI, 10, .inl (fun _ => nI 0))), (a14, .inl (cI, 256, .inl (fun _ => nI 0)))] := hD
  refine lv_aload_n hx hb dX0_init_61 rfl (lv_at hl 0 rfl) ?_
  refine lv_sipush (v := nI 256) hx hb dX0_init_62 (by decide) ?_
  refine va_newa (atype := .int) (ty := .int) (N' := 256) (a0 := (256, .inl (fun _ => nI 0))) hx hb (hts _ q112) rfl hK hP hD hS hA (a0_i 256) (by decide) (by decide) (by decide) (Nat.le_of_ble_eq_true rfl) (Nat.le_of_ble_eq_true rfl) dX0_init_65 (fun a15 cA H hK hP hD hS => ?_)
  have ec := ra_int (c1 := cI) (c2 := cA) (i := 1) (j := 2) hK rfl rfl
  subst ec
  have hK := hK.sub (tys' := [(cZ, .boolean), (cI, .int)]) [0, 1] rfl
  have hP : va_P D vwCl [(h0, .inr (0, [.ref a0, .ref a1, .ref a2, .ref a3, .ref a4, .ref a5, .int (nI 0), .int (nI 0), .int (nI 0), .int (nI 0), .int (nI 0), .int (nI 0), .int (nI 0), .int (nI 0), .ref a14, .null, .null, .null, .int (nI 0), .null, .int (nI 0), .null, .null, .null])), (a0, .inl (cZ, 10, .inl (fun _ => nI 0))), (a1, .inl (cI, 10, .inl (fun _ => nI 0))), (a2, .inl (cI, 10, .inl (fun _ => nI 0))), (a3, .inl (cI, 10, .inl (fun _ => nI 0))), (a4, .inl (cI, 10, .inl (fun _ => nI 0))), (a5, .inl (cI, 10, .inl (fun _ => nI 0))), (a14, .inl (cI, 256, .inl (fun _ => nI 0))), (a15, .inl (cI, 256, .inl (fun _ => nI 0)))] H := hP
  have hD : va_D (va_A (w0P h0) s.heap.size) [(h0, .inr (0, [.ref a0, .ref a1, .ref a2, .ref a3, .ref a4, .ref a5, .int (nI 0), .int (nI 0), .int (nI 0), .int (nI 0), .int (nI 0), .int (nI 0), .int (nI 0), .int (nI 0), .ref a14, .null, .null, .null, .int (nI 0), .null, .int (nI 0), .null, .null, .null])), (a0, .inl (cZ, 10, .inl (fun _ => nI 0))), (a1, .inl (cI, 10, .inl (fun _ => nI 0))), (a2, .inl (cI, 10, .inl (fun _ => nI 0))), (a3, .inl (cI, 10, .inl (fun _ => nI 0))), (a4, .inl (cI, 10, .inl (fun _ => nI 0))), (a5, .inl (cI, 10, .inl (fun _ => nI 0))), (a14, .inl (cI, 256, .inl (fun _ => nI 0))), (a15, .inl (cI, 256, .inl (fun _ => nI 0)))] := hD
  refine W.widen (k := 8) (n := 572) (Nat.le_of_ble_eq_true rfl) (Nat.le_of_ble_eq_true rfl) ?_
  refine va_putF (ci := 0) (C := RX0) (T := TX0) (N := 24) (fs := [.ref a0, .ref a1, .ref a2, .ref a3, .ref a4, .ref a5, .int (nI 0), .int (nI 0), .int (nI 0), .int (nI 0), .int (nI 0), .int (nI 0), .int (nI 0), .int (nI 0), .ref a14, .null, .null, .null, .int (nI 0), .null, .int (nI 0), .null, .null, .null]) (ty := .array .int) (v := .ref a15) hx hb hts in_X0 tyX0 tyX0_ok nmX0 hown hK hP hD hS 0 rfl rfl 15 (by decide) (hts _ q53) (fun _ h9 => h9) rfl hin rfl (by decide +kernel) rfl rfl (Nat.le_of_ble_eq_true rfl) dX0_init_67 (fun H locs hP hD hS => ?_)
  have hP : va_P D vwCl [(h0, .inr (0, [.ref a0, .ref a1, .ref a2, .ref a3, .ref a4, .ref a5, .int (nI 0), .int (nI 0), .int (nI 0), .int (nI 0), .int (nI 0), .int (nI 0), .int (nI 0), .int (nI 0), .ref a14, .ref a15, .null, .null, .int (nI 0), .null, .int (nI 0), .null, .null, .null])), (a0, .inl (cZ, 10, .inl (fun _ => nI 0))), (a1, .inl (cI, 10, .inl (fun _ => nI 0))), (a2, .inl (cI, 10, .inl (fun _ => nI 0))), (a3, .inl (cI, 10, .inl (fun _ => nI 0))), (a4, .inl (cI, 10, .inl (fun _ => nI 0))), (a5, .inl (cI, 10, .inl (fun _ => nI 0))), (a14, .inl (cI, 256, .inl (fun _ => nI 0))), (a15, .inl (cI, 256, .inl (fun _ => nI 0)))] H := hP
  have hD : va_D (va_A (w0P h0) s.heap.size) [(h0, .inr (0, [.ref a0, .ref a1, .ref a2, .ref a3, .ref a4, .ref a5, .int (nI 0), .int (nI 0), .int (nI 0), .int (nI 0), .int (nI 0), .int (nI 0), .int (nI 0), .int (nI 0), .ref a14, .ref a15, .null, .null, .int (nI 0), .null, .int (nI 0), .null, .null, .null])), (a0, .inl (cZ, 10, .inl (fun _ => nI 0))), (a1, .inl (cI, 10, .inl (fun _ => nI 0))), (a2, .inl (cI, 10, .inl (fun _ => nI 0))), (a3, .inl (cI, 10, .inl (fun _ => nI 0))), (a4, .inl (cI, 10, .inl (fun _ => nI 0))), (a5, .inl (cI, 10, .inl (fun _ => nI 0))), (a14, .inl (cI, 256, .inl (fun _ => nI 0))), (a15, .inl (cI, 256, .inl (fun _ => nI 0)))] := hD
  refine lv_aload_n hx hb dX0_init_70 rfl (lv_at hl 0 rfl) ?_
  refine lv_sipush (v := nI 256) hx hb dX0_init_71 (by decide) ?_
  refine va_newa (atype := .int) (ty := .int) (N' := 256) (a0 := (256, .inl (fun _ => nI 2 - 2))) hx hb (hts _ q112) rfl hK hP hD hS hA (a0_p) (by decide) (by decide) (by decide) (Nat.le_of_ble_eq_true rfl) (Nat.le_of_ble_eq_true rfl) dX0_init_74 (fun a16 cA H hK hP hD hS => ?_)
  have ec := ra_int (c1 := cI) (c2 := cA) (i := 1) (j := 2) hK rfl rfl
  subst ec
  have hK := hK.sub (tys' := [(cZ, .boolean), (cI, .int)]) [0, 1] rfl
  have hP : va_P D vwCl [(h0, .inr (0, [.ref a0, .ref a1, .ref a2, .ref a3, .ref a4, .ref a5, .int (nI 0), .int (nI 0), .int (nI 0), .int (nI 0), .int (nI 0), .int (nI 0), .int (nI 0), .int (nI 0), .ref a14, .ref a15, .null, .null, .int (nI 0), .null, .int (nI 0), .null, .null, .null])), (a0, .inl (cZ, 10, .inl (fun _ => nI 0))), (a1, .inl (cI, 10, .inl (fun _ => nI 0))), (a2, .inl (cI, 10, .inl (fun _ => nI 0))), (a3, .inl (cI, 10, .inl (fun _ => nI 0))), (a4, .inl (cI, 10, .inl (fun _ => nI 0))), (a5, .inl (cI, 10, .inl (fun _ => nI 0))), (a14, .inl (cI, 256, .inl (fun _ => nI 0))), (a15, .inl (cI, 256, .inl (fun _ => nI 0))), (a16, .inl (cI, 256, .inl (fun _ => nI 2 - 2)))] H := hP
  have hD : va_D (va_A (w0P h0) s.heap.size) [(h0, .inr (0, [.ref a0, .ref a1, .ref a2, .ref a3, .ref a4, .ref a5, .int (nI 0), .int (nI 0), .int (nI 0), .int (nI 0), .int (nI 0), .int (nI 0), .int (nI 0), .int (nI 0), .ref a14, .ref a15, .null, .null, .int (nI 0), .null, .int (nI 0), .null, .null, .null])), (a0, .inl (cZ, 10, .inl (fun _ => nI 0))), (a1, .inl (cI, 10, .inl (fun _ => nI 0))), (a2, .inl (cI, 10, .inl (fun _ => nI 0))), (a3, .inl (cI, 10, .inl (fun _ => nI 0))), (a4, .inl (cI, 10, .inl (fun _ => nI 0))), (a5, .inl (cI, 10, .inl (fun _ => nI 0))), (a14, .inl (cI, 256, .inl (fun _ => nI 0))), (a15, .inl (cI, 256, .inl (fun _ => nI 0))), (a16, .inl (cI, 256, .inl (fun _ => nI 2 - 2)))] := hD
  refine W.widen (k := 9) (n := 828) (Nat.le_of_ble_eq_true rfl) (Nat.le_of_ble_eq_true rfl) ?_
  refine va_putF (ci := 0) (C := RX0) (T := TX0) (N := 24) (fs := [.ref a0, .ref a1, .ref a2, .ref a3, .ref a4, .ref a5, .int (nI 0), .int (nI 0), .int (nI 0), .int (nI 0), .int (nI 0), .int (nI 0), .int (nI 0), .int (nI 0), .ref a14, .ref a15, .null, .null, .int (nI 0), .null, .int (nI 0), .null, .null, .null]) (ty := .array .int) (v := .ref a16) hx hb hts in_X0 tyX0 tyX0_ok nmX0 hown hK hP hD hS 0 rfl rfl 16 (by decide) (hts _ q54) (fun _ h9 => h9) rfl hin rfl (by decide +kernel) rfl rfl (Nat.le_of_ble_eq_true rfl) dX0_init_76 (fun H locs hP hD hS => ?_)
  have hP : va_P D vwCl [(h0, .inr (0, [.ref a0, .ref a1, .ref a2, .ref a3, .ref a4, .ref a5, .int (nI 0), .int (nI 0), .int (nI 0), .int (nI 0), .int (nI 0), .int (nI 0), .int (nI 0), .int (nI 0), .ref a14, .ref a15, .ref a16, .null, .int (nI 0), .null, .int (nI 0), .null, .null, .null])), (a0, .inl (cZ, 10, .inl (fun _ => nI 0))), (a1, .inl (cI, 10, .inl (fun _ => nI 0))), (a2, .inl (cI, 10, .inl (fun _ => nI 0))), (a3, .inl (cI, 10, .inl (fun _ => nI 0))), (a4, .inl (cI, 10, .inl (fun _ => nI 0))), (a5, .inl (cI, 10, .inl (fun _ => nI 0))), (a14, .inl (cI, 256, .inl (fun _ => nI 0))), (a15, .inl (cI, 256, .inl (fun _ => nI 0))), (a16, .inl (cI, 256, .inl (fun _ => nI 2 - 2)))] H := hP
  have hD : va_D (va_A (w0P h0) s.heap.size) [(h0, .inr (0, [.ref a0, .ref a1, .ref a2, .ref a3, .ref a4, .ref a5, .int (nI 0), .int (nI 0), .int (nI 0), .int (nI 0), .int (nI 0), .int (nI 0), .int (nI 0), .int (nI 0), .ref a14, .ref a15, .ref a16, .null, .int (nI 0), .null, .int (nI 0), .null, .null, .null])), (a0, .inl (cZ, 10, .inl (fun _ => nI 0))), (a1, .inl (cI, 10, .inl (fun _ => nI 0))), (a2, .inl (cI, 10, .inl (fun _ => nI 0))), (a3, .inl (cI, 10, .inl (fun _ => nI 0))), (a4, .inl (cI, 10, .inl (fun _ => nI 0))), (a5, .inl (cI, 10, .inl (fun _ => nI 0))), (a14, .inl (cI, 256, .inl (fun _ => nI 0))), (a15, .inl (cI, 256, .inl (fun _ => nI 0))), (a16, .inl (cI, 256, .inl (fun _ => nI 2 - 2)))] := hD
  refine lv_aload_n hx hb dX0_init_79 rfl (lv_at hl 0 rfl) ?_
  refine lv_sipush (v := nI 256) hx hb dX0_init_80 (by decide) ?_
  refine va_newa (atype := .int) (ty := .int) (N' := 256) (a0 := (256, .inl (fun _ => nI 0))) hx hb (hts _ q112) rfl hK hP hD hS hA (a0_i 256) (by decide) (by decide) (by decide) (Nat.le_of_ble_eq_true rfl) (Nat.le_of_ble_eq_true rfl) dX0_init_83 (fun a17 cA H hK hP hD hS => ?_)
  have ec := ra_int (c1 := cI) (c2 := cA) (i := 1) (j := 2) hK rfl rfl
  subst ec
  have hK := hK.sub (tys' := [(cZ, .boolean), (cI, .int)]) [0, 1] rfl
  have hP : va_P D vwCl [(h0, .inr (0, [.ref a0, .ref a1, .ref a2, .ref a3, .ref a4, .ref a5, .int (nI 0), .int (nI 0), .int (nI 0), .int (nI 0), .int (nI 0), .int (nI 0), .int (nI 0), .int (nI 0), .ref a14, .ref a15, .ref a16, .null, .int (nI 0), .null, .int (nI 0), .null, .null, .null])), (a0, .inl (cZ, 10, .inl (fun _ => nI 0))), (a1, .inl (cI, 10, .inl (fun _ => nI 0))), (a2, .inl (cI, 10, .inl (fun _ => nI 0))), (a3, .inl (cI, 10, .inl (fun _ => nI 0))), (a4, .inl (cI, 10, .inl (fun _ => nI 0))), (a5, .inl (cI, 10, .inl (fun _ => nI 0))), (a14, .inl (cI, 256, .inl (fun _ => nI 0))), (a15, .inl (cI, 256, .inl (fun _ => nI 0))), (a16, .inl (cI, 256, .inl (fun _ => nI 2 - 2))), (a17, .inl (cI, 256, .inl (fun _ => nI 0)))] H := hP
  have hD : va_D (va_A (w0P h0) s.heap.size) [(h0, .inr (0, [.ref a0, .ref a1, .ref a2, .ref a3, .ref a4, .ref a5, .int (nI 0), .int (nI 0), .int (nI 0), .int (nI 0), .int (nI 0), .int (nI 0), .int (nI 0), .int (nI 0), .ref a14, .ref a15, .ref a16, .null, .int (nI 0), .null, .int (nI 0), .null, .null, .null])), (a0, .inl (cZ, 10, .inl (fun _ => nI 0))), (a1, .inl (cI, 10, .inl (fun _ => nI 0))), (a2, .inl (cI, 10, .inl (fun _ => nI 0))), (a3, .inl (cI, 10, .inl (fun _ => nI 0))), (a4, .inl (cI, 10, .inl (fun _ => nI 0))), (a5, .inl (cI, 10, .inl (fun _ => nI 0))), (a14, .inl (cI, 256, .inl (fun _ => nI 0))), (a15, .inl (cI, 256, .inl (fun _ => nI 0))), (a16, .inl (cI, 256, .inl (fun _ => nI 2 - 2))), (a17, .inl (cI, 256, .inl (fun _ => nI 0)))] := hD
  refine W.widen (k := 10) (n := 1084) (Nat.le_of_ble_eq_true rfl) (Nat.le_of_ble_eq_true rfl) ?_
  refine va_putF (ci := 0) (C := RX0) (T := TX0) (N := 24) (fs := [.ref a0, .ref a1, .ref a2, .ref a3, .ref a4, .ref a5, .int (nI 0), .int (nI 0), .int (nI 0), .int (nI 0), .int (nI 0), .int (nI 0), .int (nI 0), .int (nI 0), .ref a14, .ref a15, .ref a16, .null, .int (nI 0), .null, .int (nI 0), .null, .null, .null]) (ty := .array .int) (v := .ref a17) hx hb hts in_X0 tyX0 tyX0_ok nmX0 hown hK hP hD hS 0 rfl rfl 17 (by decide) (hts _ q55) (fun _ h9 => h9) rfl hin rfl (by decide +kernel) rfl rfl (Nat.le_of_ble_eq_true rfl) dX0_init_85 (fun H locs hP hD hS => ?_)
  have hP : va_P D vwCl [(h0, .inr (0, [.ref a0, .ref a1, .ref a2, .ref a3, .ref a4, .ref a5, .int (nI 0), .int (nI 0), .int (nI 0), .int (nI 0), .int (nI 0), .int (nI 0), .int (nI 0), .int (nI 0), .ref a14, .ref a15, .ref a16, .ref a17, .int (nI 0), .null, .int (nI 0), .null, .null, .null])), (a0, .inl (cZ, 10, .inl (fun _ => nI 0))), (a1, .inl (cI, 10, .inl (fun _ => nI 0))), (a2, .inl (cI, 10, .inl (fun _ => nI 0))), (a3, .inl (cI, 10, .inl (fun _ => nI 0))), (a4, .inl (cI, 10, .inl (fun _ => nI 0))), (a5, .inl (cI, 10, .inl (fun _ => nI 0))), (a14, .inl (cI, 256, .inl (fun _ => nI 0))), (a15, .inl (cI, 256, .inl (fun _ => nI 0))), (a16, .inl (cI, 256, .inl (fun _ => nI 2 - 2))), (a17, .inl (cI, 256, .inl (fun _ => nI 0)))] H := hP
  have hD : va_D (va_A (w0P h0) s.heap.size) [(h0, .inr (0, [.ref a0, .ref a1, .ref a2, .ref a3, .ref a4, .ref a5, .int (nI 0), .int (nI 0), .int (nI 0), .int (nI 0), .int (nI 0), .int (nI 0), .int (nI 0), .int (nI 0), .ref a14, .ref a15, .ref a16, .ref a17, .int (nI 0), .null, .int (nI 0), .null, .null, .null])), (a0, .inl (cZ, 10, .inl (fun _ => nI 0))), (a1, .inl (cI, 10, .inl (fun _ => nI 0))), (a2, .inl (cI, 10, .inl (fun _ => nI 0))), (a3, .inl (cI, 10, .inl (fun _ => nI 0))), (a4, .inl (cI, 10, .inl (fun _ => nI 0))), (a5, .inl (cI, 10, .inl (fun _ => nI 0))), (a14, .inl (cI, 256, .inl (fun _ => nI 0))), (a15, .inl (cI, 256, .inl (fun _ => nI 0))), (a16, .inl (cI, 256, .inl (fun _ => nI 2 - 2))), (a17, .inl (cI, 256, .inl (fun _ => nI 0)))] := hD
  refine lv_aload_n hx hb dX0_init_88 rfl (lv_at hl 0 rfl) ?_
  refine lv_sipush (v := nI 256) hx hb dX0_init_89 (by decide) ?_
  refine va_newa (atype := .int) (ty := .int) (N' := 256) (a0 := (256, .inl (fun _ => nI 0))) hx hb (hts _ q112) rfl hK hP hD hS hA (a0_i 256) (by decide) (by decide) (by decide) (Nat.le_of_ble_eq_true rfl) (Nat.le_of_ble_eq_true rfl) dX0_init_92 (fun a19 cA H hK hP hD hS => ?_)
  have ec := ra_int (c1 := cI) (c2 := cA) (i := 1) (j := 2) hK rfl rfl
  subst ec
  have hK := hK.sub (tys' := [(cZ, .boolean), (cI, .int)]) [0, 1] rfl
  have hP : va_P D vwCl [(h0, .inr (0, [.ref a0, .ref a1, .ref a2, .ref a3, .ref a4, .ref a5, .int (nI 0), .int (nI 0), .int (nI 0), .int (nI 0), .int (nI 0), .int (nI 0), .int (nI 0), .int (nI 0), .ref a14, .ref a15, .ref a16, .ref a17, .int (nI 0), .null, .int (nI 0), .null, .null, .null])), (a0, .inl (cZ, 10, .inl (fun _ => nI 0))), (a1, .inl (cI, 10, .inl (fun _ => nI 0))), (a2, .inl (cI, 10, .inl (fun _ => nI 0))), (a3, .inl (cI, 10, .inl (fun _ => nI 0))), (a4, .inl (cI, 10, .inl (fun _ => nI 0))), (a5, .inl (cI, 10, .inl (fun _ => nI 0))), (a14, .inl (cI, 256, .inl (fun _ => nI 0))), (a15, .inl (cI, 256, .inl (fun _ => nI 0))), (a16, .inl (cI, 256, .inl (fun _ => nI 2 - 2))), (a17, .inl (cI, 256, .inl (fun _ => nI 0))), (a19, .inl (cI, 256, .inl (fun _ => nI 0)))] H := hP
  have hD : va_D (va_A (w0P h0) s.heap.size) [(h0, .inr (0, [.ref a0, .ref a1, .ref a2, .ref a3, .ref a4, .ref a5, .int (nI 0), .int (nI 0), .int (nI 0), .int (nI 0), .int (nI 0), .int (nI 0), .int (nI 0), .int (nI 0), .ref a14, .ref a15, .ref a16, .ref a17, .int (nI 0), .null, .int (nI 0), .null, .null, .null])), (a0, .inl (cZ, 10, .inl (fun _ => nI 0))), (a1, .inl (cI, 10, .inl (fun _ => nI 0))), (a2, .inl (cI, 10, .inl (fun _ => nI 0))), (a3, .inl (cI, 10, .inl (fun _ => nI 0))), (a4, .inl (cI, 10, .inl (fun _ => nI 0))), (a5, .inl (cI, 10, .inl (fun _ => nI 0))), (a14, .inl (cI, 256, .inl (fun _ => nI 0))), (a15, .inl (cI, 256, .inl (fun _ => nI 0))), (a16, .inl (cI, 256, .inl (fun _ => nI 2 - 2))), (a17, .inl (cI, 256, .inl (fun _ => nI 0))), (a19, .inl (cI, 256, .inl (fun _ => nI 0)))] := hD
  refine W.widen (k := 11) (n := 1340) (Nat.le_of_ble_eq_true rfl) (Nat.le_of_ble_eq_true rfl) ?_
  refine va_putF (ci := 0) (C := RX0) (T := TX0) (N := 24) (fs := [.ref a0, .ref a1, .ref a2, .ref a3, .ref a4, .ref a5, .int (nI 0), .int (nI 0), .int (nI 0), .int (nI 0), .int (nI 0), .int (nI 0), .int (nI 0), .int (nI 0), .ref a14, .ref a15, .ref a16, .ref a17, .int (nI 0), .null, .int (nI 0), .null, .null, .null]) (ty := .array .int) (v := .ref a19) hx hb hts in_X0 tyX0 tyX0_ok nmX0 hown hK hP hD hS 0 rfl rfl 19 (by decide) (hts _ q57) (fun _ h9 => h9) rfl hin rfl (by decide +kernel) rfl rfl (Nat.le_of_ble_eq_true rfl) dX0_init_94 (fun H locs hP hD hS => ?_)
  have hP : va_P D vwCl [(h0, .inr (0, [.ref a0, .ref a1, .ref a2, .ref a3, .ref a4, .ref a5, .int (nI 0), .int (nI 0), .int (nI 0), .int (nI 0), .int (nI 0), .int (nI 0), .int (nI 0), .int (nI 0), .ref a14, .ref a15, .ref a16, .ref a17, .int (nI 0), .ref a19, .int (nI 0), .null, .null, .null])), (a0, .inl (cZ, 10, .inl (fun _ => nI 0))), (a1, .inl (cI, 10, .inl (fun _ => nI 0))), (a2, .inl (cI, 10, .inl (fun _ => nI 0))), (a3, .inl (cI, 10, .inl (fun _ => nI 0))), (a4, .inl (cI, 10, .inl (fun _ => nI 0))), (a5, .inl (cI, 10, .inl (fun _ => nI 0))), (a14, .inl (cI, 256, .inl (fun _ => nI 0))), (a15, .inl (cI, 256, .inl (fun _ => nI 0))), (a16, .inl (cI, 256, .inl (fun _ => nI 2 - 2))), (a17, .inl (cI, 256, .inl (fun _ => nI 0))), (a19, .inl (cI, 256, .inl (fun _ => nI 0)))] H := hP
  have hD : va_D (va_A (w0P h0) s.heap.size) [(h0, .inr (0, [.ref a0, .ref a1, .ref a2, .ref a3, .ref a4, .ref a5, .int (nI 0), .int (nI 0), .int (nI 0), .int (nI 0), .int (nI 0), .int (nI 0), .int (nI 0), .int (nI 0), .ref a14, .ref a15, .ref a16, .ref a17, .int (nI 0), .ref a19, .int (nI 0), .null, .null, .null])), (a0, .inl (cZ, 10, .inl (fun _ => nI 0))), (a1, .inl (cI, 10, .inl (fun _ => nI 0))), (a2, .inl (cI, 10, .inl (fun _ => nI 0))), (a3, .inl (cI, 10, .inl (fun _ => nI 0))), (a4, .inl (cI, 10, .inl (fun _ => nI 0))), (a5, .inl (cI, 10, .inl (fun _ => nI 0))), (a14, .inl (cI, 256, .inl (fun _ => nI 0))), (a15, .inl (cI, 256, .inl (fun _ => nI 0))), (a16, .inl (cI, 256, .inl (fun _ => nI 2 - 2))), (a17, .inl (cI, 256, .inl (fun _ => nI 0))), (a19, .inl (cI, 256, .inl (fun _ => nI 0)))] := hD
  refine lv_aload_n hx hb dX0_init_97 rfl (lv_at hl 0 rfl) ?_
  refine lv_sipush (v := nI 256) hx hb dX0_init_98 (by decide) ?_
  refine va_newa (atype := .boolean) (ty := .boolean) (N' := 256) (a0 := (256, .inl (fun _ => nI 0))) hx hb (hts _ q111) rfl hK hP hD hS hA (a0_z 256) (by decide) (by decide) (by decide) (Nat.le_of_ble_eq_true rfl) (Nat.le_of_ble_eq_true rfl) dX0_init_101 (fun a21 cA H hK hP hD hS => ?_)
  have ec := ra_bool (c1 := cZ) (c2 := cA) (i := 0) (j := 2) hK rfl rfl
  subst ec
  have hK := hK.sub (tys' := [(cZ, .boolean), (cI, .int)]) [0, 1] rfl
  have hP : va_P D vwCl [(h0, .inr (0, [.ref a0, .ref a1, .ref a2, .ref a3, .ref a4, .ref a5, .int (nI 0), .int (nI 0), .int (nI 0), .int (nI 0), .int (nI 0), .int (nI 0), .int (nI 0), .int (nI 0), .ref a14, .ref a15, .ref a16, .ref a17, .int (nI 0), .ref a19, .int (nI 0), .null, .null, .null])), (a0, .inl (cZ, 10, .inl (fun _ => nI 0))), (a1, .inl (cI, 10, .inl (fun _ => nI 0))), (a2, .inl (cI, 10, .inl (fun _ => nI 0))), (a3, .inl (cI, 10, .inl (fun _ => nI 0))), (a4, .inl (cI, 10, .inl (fun _ => nI 0))), (a5, .inl (cI, 10, .inl (fun _ => nI 0))), (a14, .inl (cI, 256, .inl (fun _ => nI 0))), (a15, .inl (cI, 256, .inl (fun _ => nI 0))), (a16, .inl (cI, 256, .inl (fun _ => nI 2 - 2))), (a17, .inl (cI, 256, .inl (fun _ => nI 0))), (a19, .inl (cI, 256, .inl (fun _ => nI 0))), (a21, .inl (cZ, 256, .inl (fun _ => nI 0)))] H := hP
  have hD : va_D (va_A (w0P h0) s.heap.size) [(h0, .inr (0, [.ref a0, .ref a1, .ref a2, .ref a3, .ref a4, .ref a5, .int (nI 0), .int (nI 0), .int (nI 0), .int (nI 0), .int (nI 0), .int (nI 0), .int (nI 0), .int (nI 0), .ref a14, .ref a15, .ref a16, .ref a17, .int (nI 0), .ref a19, .int (nI 0), .null, .null, .null])), (a0, .inl (cZ, 10, .inl (fun _ => nI 0))), (a1, .inl (cI, 10, .inl (fun _ => nI 0))), (a2, .inl (cI, 10, .inl (fun _ => nI 0))), (a3, .inl (cI, 10, .inl (fun _ => nI 0))), (a4, .inl (cI, 10, .inl (fun _ => nI 0))), (a5, .inl (cI, 10, .inl (fun _ => nI 0))), (a14, .inl (cI, 256, .inl (fun _ => nI 0))), (a15, .inl (cI, 256, .inl (fun _ => nI 0))), (a16, .inl (cI, 256, .inl (fun _ => nI 2 - 2))), (a17, .inl (cI, 256, .inl (fun _ => nI 0))), (a19, .inl (cI, 256, .inl (fun _ => nI 0))), (a21, .inl (cZ, 256, .inl (fun _ => nI 0)))] := hD
  refine W.widen (k := 12) (n := 1596) (Nat.le_of_ble_eq_true rfl) (Nat.le_of_ble_eq_true rfl) ?_
  refine va_putF (ci := 0) (C := RX0) (T := TX0) (N := 24) (fs := [.ref a0, .ref a1, .ref a2, .ref a3, .ref a4, .ref a5, .int (nI 0), .int (nI 0), .int (nI 0), .int (nI 0), .int (nI 0), .int (nI 0), .int (nI 0), .int (nI 0), .ref a14, .ref a15, .ref a16, .ref a17, .int (nI 0), .ref a19, .int (nI 0), .null, .null, .null]) (ty := .array .boolean) (v := .ref a21) hx hb hts in_X0 tyX0 tyX0_ok nmX0 hown hK hP hD hS 0 rfl rfl 21 (by decide) (hts _ q59) (fun _ h9 => h9) rfl hin rfl (by decide +kernel) rfl rfl (Nat.le_of_ble_eq_true rfl) dX0_init_103 (fun H locs hP hD hS => ?_)
  have hP : va_P D vwCl [(h0, .inr (0, [.ref a0, .ref a1, .ref a2, .ref a3, .ref a4, .ref a5, .int (nI 0), .int (nI 0), .int (nI 0), .int (nI 0), .int (nI 0), .int (nI 0), .int (nI 0), .int (nI 0), .ref a14, .ref a15, .ref a16, .ref a17, .int (nI 0), .ref a19, .int (nI 0), .ref a21, .null, .null])), (a0, .inl (cZ, 10, .inl (fun _ => nI 0))), (a1, .inl (cI, 10, .inl (fun _ => nI 0))), (a2, .inl (cI, 10, .inl (fun _ => nI 0))), (a3, .inl (cI, 10, .inl (fun _ => nI 0))), (a4, .inl (cI, 10, .inl (fun _ => nI 0))), (a5, .inl (cI, 10, .inl (fun _ => nI 0))), (a14, .inl (cI, 256, .inl (fun _ => nI 0))), (a15, .inl (cI, 256, .inl (fun _ => nI 0))), (a16, .inl (cI, 256, .inl (fun _ => nI 2 - 2))), (a17, .inl (cI, 256, .inl (fun _ => nI 0))), (a19, .inl (cI, 256, .inl (fun _ => nI 0))), (a21, .inl (cZ, 256, .inl (fun _ => nI 0)))] H := hP
  have hD : va_D (va_A (w0P h0) s.heap.size) [(h0, .inr (0, [.ref a0, .ref a1, .ref a2, .ref a3, .ref a4, .ref a5, .int (nI 0), .int (nI 0), .int (nI 0), .int (nI 0), .int (nI 0), .int (nI 0), .int (nI 0), .int (nI 0), .ref a14, .ref a15, .ref a16, .ref a17, .int (nI 0), .ref a19, .int (nI 0), .ref a21, .null, .null])), (a0, .inl (cZ, 10, .inl (fun _ => nI 0))), (a1, .inl (cI, 10, .inl (fun _ => nI 0))), (a2, .inl (cI, 10, .inl (fun _ => nI 0))), (a3, .inl (cI, 10, .inl (fun _ => nI 0))), (a4, .inl (cI, 10, .inl (fun _ => nI 0))), (a5, .inl (cI, 10, .inl (fun _ => nI 0))), (a14, .inl (cI, 256, .inl (fun _ => nI 0))), (a15, .inl (cI, 256, .inl (fun _ => nI 0))), (a16, .inl (cI, 256, .inl (fun _ => nI 2 - 2))), (a17, .inl (cI, 256, .inl (fun _ => nI 0))), (a19, .inl (cI, 256, .inl (fun _ => nI 0))), (a21, .inl (cZ, 256, .inl (fun _ => nI 0)))] := hD
  refine lv_aload_n hx hb dX0_init_106 rfl (lv_at hl 0 rfl) ?_
  refine lv_bipush (v := nI 8) hx hb dX0_init_107 (by decide) ?_
  refine va_newa (atype := .int) (ty := .int) (N' := 8) (a0 := (8, .inl (fun _ => nI 0))) hx hb (hts _ q112) rfl hK hP hD hS hA (a0_i 8) (by decide) (by decide) (by decide) (Nat.le_of_ble_eq_true rfl) (Nat.le_of_ble_eq_true rfl) dX0_init_109 (fun a22 cA H hK hP hD hS => ?_)
  have ec := ra_int (c1 := cI) (c2 := cA) (i := 1) (j := 2) hK rfl rfl
  subst ec
  have hK := hK.sub (tys' := [(cZ, .boolean), (cI, .int)]) [0, 1] rfl
  have hP : va_P D vwCl [(h0, .inr (0, [.ref a0, .ref a1, .ref a2, .ref a3, .ref a4, .ref a5, .int (nI 0), .int (nI 0), .int (nI 0), .int (nI 0), .int (nI 0), .int (nI 0), .int (nI 0), .int (nI 0), .ref a14, .ref a15, .ref a16, .ref a17, .int (nI 0), .ref a19, .int (nI 0), .ref a21, .null, .null])), (a0, .inl (cZ, 10, .inl (fun _ => nI 0))), (a1, .inl (cI, 10, .inl (fun _ => nI 0))), (a2, .inl (cI, 10, .inl (fun _ => nI 0))), (a3, .inl (cI, 10, .inl (fun _ => nI 0))), (a4, .inl (cI, 10, .inl (fun _ => nI 0))), (a5, .inl (cI, 10, .inl (fun _ => nI 0))), (a14, .inl (cI, 256, .inl (fun _ => nI 0))), (a15, .inl (cI, 256, .inl (fun _ => nI 0))), (a16, .inl (cI, 256, .inl (fun _ => nI 2 - 2))), (a17, .inl (cI, 256, .inl (fun _ => nI 0))), (a19, .inl (cI, 256, .inl (fun _ => nI 0))), (a21, .inl (cZ, 256, .inl (fun _ => nI 0))), (a22, .inl (cI, 8, .inl (fun _ => nI 0)))] H := hP
  have hD : va_D (va_A (w0P h0) s.heap.size) [(h0, .inr (0, [.ref a0, .ref a1, .ref a2, .ref a3, .ref a4, .ref a5, .int (nI 0), .int (nI 0), .int (nI 0), .int (nI 0), .int (nI 0), .int (nI 0), .int (nI 0), .int (nI 0), .ref a14, .ref a15, .ref a16, .ref a17, .int (nI 0), .ref a19, .int (nI 0), .ref a21, .null, .null])), (a0, .inl (cZ, 10, .inl (fun _ => nI 0))), (a1, .inl (cI, 10, .inl (fun _ => nI 0))), (a2, .inl (cI, 10, .inl (fun _ => nI 0))), (a3, .inl (cI, 10, .inl (fun _ => nI 0))), (a4, .inl (cI, 10, .inl (fun _ => nI 0))), (a5, .inl (cI, 10, .inl (fun _ => nI 0))), (a14, .inl (cI, 256, .inl (fun _ => nI 0))), (a15, .inl (cI, 256, .inl (fun _ => nI 0))), (a16, .inl (cI, 256, .inl (fun _ => nI 2 - 2))), (a17, .inl (cI, 256, .inl (fun _ => nI 0))), (a19, .inl (cI, 256, .inl (fun _ => nI 0))), (a21, .inl (cZ, 256, .inl (fun _ => nI 0))), (a22, .inl (cI, 8, .inl (fun _ => nI 0)))] := hD
  refine W.widen (k := 13) (n := 1604) (Nat.le_of_ble_eq_true rfl) (Nat.le_of_ble_eq_true rfl) ?_
  refine va_putF (ci := 0) (C := RX0) (T := TX0) (N := 24) (fs := [.ref a0, .ref a1, .ref a2, .ref a3, .ref a4, .ref a5, .int (nI 0), .int (nI 0), .int (nI 0), .int (nI 0), .int (nI 0), .int (nI 0), .int (nI 0), .int (nI 0), .ref a14, .ref a15, .ref a16, .ref a17, .int (nI 0), .ref a19, .int (nI 0), .ref a21, .null, .null]) (ty := .array .int) (v := .ref a22) hx hb hts in_X0 tyX0 tyX0_ok nmX0 hown hK hP hD hS 0 rfl rfl 22 (by decide) (hts _ q60) (fun _ h9 => h9) rfl hin rfl (by decide +kernel) rfl rfl (Nat.le_of_ble_eq_true rfl) dX0_init_111 (fun H locs hP hD hS => ?_)
  have hP : va_P D vwCl [(h0, .inr (0, [.ref a0, .ref a1, .ref a2, .ref a3, .ref a4, .ref a5, .int (nI 0), .int (nI 0), .int (nI 0), .int (nI 0), .int (nI 0), .int (nI 0), .int (nI 0), .int (nI 0), .ref a14, .ref a15, .ref a16, .ref a17, .int (nI 0), .ref a19, .int (nI 0), .ref a21, .ref a22, .null])), (a0, .inl (cZ, 10, .inl (fun _ => nI 0))), (a1, .inl (cI, 10, .inl (fun _ => nI 0))), (a2, .inl (cI, 10, .inl (fun _ => nI 0))), (a3, .inl (cI, 10, .inl (fun _ => nI 0))), (a4, .inl (cI, 10, .inl (fun _ => nI 0))), (a5, .inl (cI, 10, .inl (fun _ => nI 0))), (a14, .inl (cI, 256, .inl (fun _ => nI 0))), (a15, .inl (cI, 256, .inl (fun _ => nI 0))), (a16, .inl (cI, 256, .inl (fun _ => nI 2 - 2))), (a17, .inl (cI, 256, .inl (fun _ => nI 0))), (a19, .inl (cI, 256, .inl (fun _ => nI 0))), (a21, .inl (cZ, 256, .inl (fun _ => nI 0))), (a22, .inl (cI, 8, .inl (fun _ => nI 0)))] H := hP
  have hD : va_D (va_A (w0P h0) s.heap.size) [(h0, .inr (0, [.ref a0, .ref a1, .ref a2, .ref a3, .ref a4, .ref a5, .int (nI 0), .int (nI 0), .int (nI 0), .int (nI 0), .int (nI 0), .int (nI 0), .int (nI 0), .int (nI 0), .ref a14, .ref a15, .ref a16, .ref a17, .int (nI 0), .ref a19, .int (nI 0), .ref a21, .ref a22, .null])), (a0, .inl (cZ, 10, .inl (fun _ => nI 0))), (a1, .inl (cI, 10, .inl (fun _ => nI 0))), (a2, .inl (cI, 10, .inl (fun _ => nI 0))), (a3, .inl (cI, 10, .inl (fun _ => nI 0))), (a4, .inl (cI, 10, .inl (fun _ => nI 0))), (a5, .inl (cI, 10, .inl (fun _ => nI 0))), (a14, .inl (cI, 256, .inl (fun _ => nI 0))), (a15, .inl (cI, 256, .inl (fun _ => nI 0))), (a16, .inl (cI, 256, .inl (fun _ => nI 2 - 2))), (a17, .inl (cI, 256, .inl (fun _ => nI 0))), (a19, .inl (cI, 256, .inl (fun _ => nI 0))), (a21, .inl (cZ, 256, .inl (fun _ => nI 0))), (a22, .inl (cI, 8, .inl (fun _ => nI 0)))] := hD
  refine lv_aload_n hx hb dX0_init_114 rfl (lv_at hl 0 rfl) ?_
  refine lv_bipush (v := nI 8) hx hb dX0_init_115 (by decide) ?_
  refine va_newa (atype := .int) (ty := .int) (N' := 8) (a0 := (8, .inl (fun _ => nI 0))) hx hb (hts _ q112) rfl hK hP hD hS hA (a0_i 8) (by decide) (by decide) (by decide) (Nat.le_of_ble_eq_true rfl) (Nat.le_of_ble_eq_true rfl) dX0_init_117 (fun a23 cA H hK hP hD hS => ?_)
  have ec := ra_int (c1 := cI) (c2 := cA) (i := 1) (j := 2) hK rfl rfl
  subst ec
  have hK := hK.sub (tys' := [(cZ, .boolean), (cI, .int)]) [0, 1] rfl
  have hP : va_P D vwCl [(h0, .inr (0, [.ref a0, .ref a1, .ref a2, .ref a3, .ref a4, .ref a5, .int (nI 0), .int (nI 0), .int (nI 0), .int (nI 0), .int (nI 0), .int (nI 0), .int (nI 0), .int (nI 0), .ref a14, .ref a15, .ref a16, .ref a17, .int (nI 0), .ref a19, .int (nI 0), .ref a21, .ref a22, .null])), (a0, .inl (cZ, 10, .inl (fun _ => nI 0))), (a1, .inl (cI, 10, .inl (fun _ => nI 0))), (a2, .inl (cI, 10, .inl (fun _ => nI 0))), (a3, .inl (cI, 10, .inl (fun _ => nI 0))), (a4, .inl (cI, 10, .inl (fun _ => nI 0))), (a5, .inl (cI, 10, .inl (fun _ => nI 0))), (a14, .inl (cI, 256, .inl (fun _ => nI 0))), (a15, .inl (cI, 256, .inl (fun _ => nI 0))), (a16, .inl (cI, 256, .inl (fun _ => nI 2 - 2))), (a17, .inl (cI, 256, .inl (fun _ => nI 0))), (a19, .inl (cI, 256, .inl (fun _ => nI 0))), (a21, .inl (cZ, 256, .inl (fun _ => nI 0))), (a22, .inl (cI, 8, .inl (fun _ => nI 0))), (a23, .inl (cI, 8, .inl (fun _ => nI 0)))] H := hP
  have hD : va_D (va_A (w0P h0) s.heap.size) [(h0, .inr (0, [.ref a0, .ref a1, .ref a2, .ref a3, .ref a4, .ref a5, .int (nI 0), .int (nI 0), .int (nI 0), .int (nI 0), .int (nI 0), .int (nI 0), .int (nI 0), .int (nI 0), .ref a14, .ref a15, .ref a16, .ref a17, .int (nI 0), .ref a19, .int (nI 0), .ref a21, .ref a22, .null])), (a0, .inl (cZ, 10, .inl (fun _ => nI 0))), (a1, .inl (cI, 10, .inl (fun _ => nI 0))), (a2, .inl (cI, 10, .inl (fun _ => nI 0))), (a3, .inl (cI, 10, .inl (fun _ => nI 0))), (a4, .inl (cI, 10, .inl (fun _ => nI 0))), (a5, .inl (cI, 10, .inl (fun _ => nI 0))), (a14, .inl (cI, 256, .inl (fun _ => nI 0))), (a15, .inl (cI, 256, .inl (fun _ => nI 0))), (a16, .inl (cI, 256, .inl (fun _ => nI 2 - 2))), (a17, .inl (cI, 256, .inl (fun _ => nI 0))), (a19, .inl (cI, 256, .inl (fun _ => nI 0))), (a21, .inl (cZ, 256, .inl (fun _ => nI 0))), (a22, .inl (cI, 8, .inl (fun _ => nI 0))), (a23, .inl (cI, 8, .inl (fun _ => nI 0)))] := hD
  refine W.widen (k := 14) (n := 1612) (Nat.le_of_ble_eq_true rfl) (Nat.le_of_ble_eq_true rfl) ?_
  refine va_putF (ci := 0) (C := RX0) (T := TX0) (N := 24) (fs := [.ref a0, .ref a1, .ref a2, .ref a3, .ref a4, .ref a5, .int (nI 0), .int (nI 0), .int (nI 0), .int (nI 0), .int (nI 0), .int (nI 0), .int (nI 0), .int (nI 0), .ref a14, .ref a15, .ref a16, .ref a17, .int (nI 0), .ref a19, .int (nI 0), .ref a21, .ref a22, .null]) (ty := .array .int) (v := .ref a23) hx hb hts in_X0 tyX0 tyX0_ok nmX0 hown hK hP hD hS 0 rfl rfl 23 (by decide) (hts _ q61) (fun _ h9 => h9) rfl hin rfl (by decide +kernel) rfl rfl (Nat.le_of_ble_eq_true rfl) dX0_init_119 (fun H locs hP hD hS => ?_)
  have hP : va_P D vwCl [(h0, .inr (0, [.ref a0, .ref a1, .ref a2, .ref a3, .ref a4, .ref a5, .int (nI 0), .int (nI 0), .int (nI 0), .int (nI 0), .int (nI 0), .int (nI 0), .int (nI 0), .int (nI 0), .ref a14, .ref a15, .ref a16, .ref a17, .int (nI 0), .ref a19, .int (nI 0), .ref a21, .ref a22, .ref a23])), (a0, .inl (cZ, 10, .inl (fun _ => nI 0))), (a1, .inl (cI, 10, .inl (fun _ => nI 0))), (a2, .inl (cI, 10, .inl (fun _ => nI 0))), (a3, .inl (cI, 10, .inl (fun _ => nI 0))), (a4, .inl (cI, 10, .inl (fun _ => nI 0))), (a5, .inl (cI, 10, .inl (fun _ => nI 0))), (a14, .inl (cI, 256, .inl (fun _ => nI 0))), (a15, .inl (cI, 256, .inl (fun _ => nI 0))), (a16, .inl (cI, 256, .inl (fun _ => nI 2 - 2))), (a17, .inl (cI, 256, .inl (fun _ => nI 0))), (a19, .inl (cI, 256, .inl (fun _ => nI 0))), (a21, .inl (cZ, 256, .inl (fun _ => nI 0))), (a22, .inl (cI, 8, .inl (fun _ => nI 0))), (a23, .inl (cI, 8, .inl (fun _ => nI 0)))] H := hP
  have hD : va_D (va_A (w0P h0) s.heap.size) [(h0, .inr (0, [.ref a0, .ref a1, .ref a2, .ref a3, .ref a4, .ref a5, .int (nI 0), .int (nI 0), .int (nI 0), .int (nI 0), .int (nI 0), .int (nI 0), .int (nI 0), .int (nI 0), .ref a14, .ref a15, .ref a16, .ref a17, .int (nI 0), .ref a19, .int (nI 0), .ref a21, .ref a22, .ref a23])), (a0, .inl (cZ, 10, .inl (fun _ => nI 0))), (a1, .inl (cI, 10, .inl (fun _ => nI 0))), (a2, .inl (cI, 10, .inl (fun _ => nI 0))), (a3, .inl (cI, 10, .inl (fun _ => nI 0))), (a4, .inl (cI, 10, .inl (fun _ => nI 0))), (a5, .inl (cI, 10, .inl (fun _ => nI 0))), (a14, .inl (cI, 256, .inl (fun _ => nI 0))), (a15, .inl (cI, 256, .inl (fun _ => nI 0))), (a16, .inl (cI, 256, .inl (fun _ => nI 2 - 2))), (a17, .inl (cI, 256, .inl (fun _ => nI 0))), (a19, .inl (cI, 256, .inl (fun _ => nI 0))), (a21, .inl (cZ, 256, .inl (fun _ => nI 0))), (a22, .inl (cI, 8, .inl (fun _ => nI 0))), (a23, .inl (cI, 8, .inl (fun _ => nI 0)))] := hD
  have hK9 : va_K D vwCl (xT (D, h0, adP a0 a1 a2 a3 a4 a5 a14 a15 a16 a17 a19 a21 a22 a23, cI, cZ)) s := hK.sub (tys' := [(cI, .int), (cZ, .boolean)]) [1, 0] rfl
  exact W.vret hx hb hr (fun t ht hW => ⟨⟨(adP a0 a1 a2 a3 a4 a5 a14 a15 a16 a17 a19 a21 a22 a23, cI, cZ), rfl, trivial, by rw [ht]; exact hP, va_K.moved hW.alike hK9, hD⟩, hS.F ht⟩) hS.2.2 dX0_init_122 hlocks
end
section
abbrev w0M (h0 : Nat) : va_W := [(h0, .inr (1, [.int (nI 0), .int (nI 0), .int (nI 0), .null, .null, .null, .null, .null, .null, .null, .null]))]
def adM (a3 a4 a5 a6 a7 a8 a9 a10 : Nat) : Nat → Nat := fun k => match k with | 3 => a3 | 4 => a4 | 5 => a5 | 6 => a6 | 7 => a7 | 8 => a8 | 9 => a9 | _ => a10
set_option maxHeartbeats 4000000 in
set_option maxRecDepth 100000 in
theorem metM_init (l : Launch) (D : va_G) (h0 sz : Nat) : Met l yX1_init (ws_ yX1_init cX1_init 1 none) ({ frames := 1, cells := 8, slots := 572, locals := 12 }) (va_Pc [.ref h0] (fun U => U.heap.size = sz ∧ va_P D vwCl (w0M h0) U.heap ∧ va_K D vwCl [] U ∧ va_D (fun _ => True) (w0M h0)))
    (va_Qv (fun _ : (Nat → Nat) × ClassId × ClassId => True) (fun u t => va_P D vwCl (yw (D, h0, u) ν0) t.heap ∧ va_K D vwCl (xT (D, h0, u)) t ∧ va_D (va_A (w0M h0) sz) (yw (D, h0, u) ν0)) (va_A (w0M h0) sz)) 8 572 (va_A (w0M h0) sz) := by
  refine Met.ofW (cc := cX1_init) (maxL := 1) (ret := none) (by decide) rfl ?_
  intro p e s m args below meth c s₁ B hml hv
  obtain ⟨rfl, hsz, hP, hK, hD0⟩ := hv
  have hx := B.exec
  have hb := B.bytes
  have hr := B.returns
  have hts := atoms_spec (ws := ws_ yX1_init cX1_init 1 none) B.pre
  have hts : ∀ w ∈ lw_all, w.before _ s = true := fun w h => hts w (List.mem_cons_of_mem _ h)
  have hown : s.vm.findClass RX1 = some m.cls := findClass_of_methodNamed B.named
  have hlocks := B.notSynchronized
  have hin : meth.name = "<init>" := (name_of_methodNamed B.named B.method).1
  subst hsz
  have hD := hD0.self (sz := s.heap.size)
  have hA : ∀ q : Nat, s.heap.size ≤ q → va_A (w0M h0) s.heap.size q := fun q h => Or.inr h
  have hS : va_S (va_A (w0M h0) s.heap.size) s.heap s.heap [] := va_S.rf
  have hP : va_P D vwCl (w0M h0) s.heap := hP
  have hl := lv_entry ([.ref h0]) (n := 1) (Nat.le_of_ble_eq_true rfl)
  rw [lg_entry_eq]
  generalize (lg_sl ([.ref h0]) ++ List.replicate (1 - (lg_sl ([.ref h0])).length) Slot.unset).toArray = ls at hl ⊢
  have hl : lv_has ls 1 [(0, .ref h0)] := hl
  refine lv_aload_n hx hb dX1_init_0 rfl (lv_at hl 0 rfl) ?_
  refine W.objInit hx hb hown (hts _ q247) (hts _ q36) (hts _ q37) rfl (by rw [hml]; exact hl.1) rfl dX1_init_1 (Nat.le_of_ble_eq_true rfl) (Nat.le_of_ble_eq_true rfl) ?_
  refine W.eq (g2 := F0 m 4 ls []) rfl ?_
  refine lv_aload_n hx hb dX1_init_4 rfl (lv_at hl 0 rfl) ?_
  refine lv_bipush (v := nI 10) hx hb dX1_init_5 (by decide) ?_
  refine va_newa (atype := .boolean) (ty := .boolean) (N' := 10) (a0 := (10, .inl (fun _ => nI 0))) hx hb (hts _ q111) rfl hK hP hD hS hA (a0_z 10) (by decide) (by decide) (by decide) (Nat.le_of_ble_eq_true rfl) (Nat.le_of_ble_eq_true rfl) dX1_init_7 (fun a3 cZ H hK hP hD hS => ?_)
  have hP : va_P D vwCl [(h0, .inr (1, [.int (nI 0), .int (nI 0), .int (nI 0), .null, .null, .null, .null, .null, .null, .null, .null])), (a3, .inl (cZ, 10, .inl (fun _ => nI 0)))] H := hP
  have hD : va_D (va_A (w0M h0) s.heap.size) [(h0, .inr (1, [.int (nI 0), .int (nI 0), .int (nI 0), .null, .null, .null, .null, .null, .null, .null, .null])), (a3, .inl (cZ, 10, .inl (fun _ => nI 0)))] := hD
  refine W.widen (k := 1) (n := 10) (Nat.le_of_ble_eq_true rfl) (Nat.le_of_ble_eq_true rfl) ?_
  refine va_putF (ci := 1) (C := RX1) (T := TX1) (N := 11) (fs := [.int (nI 0), .int (nI 0), .int (nI 0), .null, .null, .null, .null, .null, .null, .null, .null]) (ty := .array .boolean) (v := .ref a3) hx hb hts in_X1 tyX1 tyX1_ok nmX1 hown hK hP hD hS 0 rfl rfl 3 (by decide) (hts _ q251) (fun _ h9 => h9) rfl hin rfl (by decide +kernel) rfl rfl (Nat.le_of_ble_eq_true rfl) dX1_init_9 (fun H locs hP hD hS => ?_)
  have hP : va_P D vwCl [(h0, .inr (1, [.int (nI 0), .int (nI 0), .int (nI 0), .ref a3, .null, .null, .null, .null, .null, .null, .null])), (a3, .inl (cZ, 10, .inl (fun _ => nI 0)))] H := hP
  have hD : va_D (va_A (w0M h0) s.heap.size) [(h0, .inr (1, [.int (nI 0), .int (nI 0), .int (nI 0), .ref a3, .null, .null, .null, .null, .null, .null, .null])), (a3, .inl (cZ, 10, .inl (fun _ => nI 0)))] := hD
  refine lv_aload_n hx hb dX1_init_12 rfl (lv_at hl 0 rfl) ?_
  refine lv_bipush (v := nI 10) hx hb dX1_init_13 (by decide) ?_
  refine va_newa (atype := .int) (ty := .int) (N' := 10) (a0 := (10, .inl (fun _ => nI 0))) hx hb (hts _ q112) rfl hK hP hD hS hA (a0_i 10) (by decide) (by decide) (by decide) (Nat.le_of_ble_eq_true rfl) (Nat.le_of_ble_eq_true rfl) dX1_init_15 (fun a4 cI H hK hP hD hS => ?_)
  have hP : va_P D vwCl [(h0, .inr (1, [.int (nI 0), .int (nI 0), .int (nI 0), .ref a3, .null, .null, .null, .null, .null, .null, .null])), (a3, .inl (cZ, 10, .inl (fun _ => nI 0))), (a4, .inl (cI, 10, .inl (fun _ => nI 0)))] H := hP
  have hD : va_D (va_A (w0M h0) s.heap.size) [(h0, .inr (1, [.int (nI 0), .int (nI 0), .int (nI 0), .ref a3, .null, .null, .null, .null, .null, .null, .null])), (a3, .inl (cZ, 10, .inl (fun _ => nI 0))), (a4, .inl (cI, 10, .inl (fun _ => nI 0)))] := hD
  refine W.widen (k := 2) (n := 20) (Nat.le_of_ble_eq_true rfl) (Nat.le_of_ble_eq_true rfl) ?_
  refine va_putF (ci := 1) (C := RX1) (T := TX1) (N := 11) (fs := [.int (nI 0), .int (nI 0), .int (nI 0), .ref a3, .null, .null, .null, .null, .null, .null, .null]) (ty := .array .int) (v := .ref a4) hx hb hts in_X1 tyX1 tyX1_ok nmX1 hown hK hP hD hS 0 rfl rfl 4 (by decide) (hts _ q252) (fun _ h9 => h9) rfl hin rfl (by decide +kernel) rfl rfl (Nat.le_of_ble_eq_true rfl) dX1_init_17 (fun H locs hP hD hS => ?_)
  have hP : va_P D vwCl [(h0, .inr (1, [.int (nI 0), .int (nI 0), .int (nI 0), .ref a3, .ref a4, .null, .null, .null, .null, .null, .null])), (a3, .inl (cZ, 10, .inl (fun _ => nI 0))), (a4, .inl (cI, 10, .inl (fun _ => nI 0)))] H := hP
  have hD : va_D (va_A (w0M h0) s.heap.size) [(h0, .inr (1, [.int (nI 0), .int (nI 0), .int (nI 0), .ref a3, .ref a4, .null, .null, .null, .null, .null, .null])), (a3, .inl (cZ, 10, .inl (fun _ => nI 0))), (a4, .inl (cI, 10, .inl (fun _ => nI 0)))] := hD
  refine lv_aload_n hx hb dX1_init_20 rfl (lv_at hl 0 rfl) ?_
  refine lv_bipush (v := nI 10) hx hb dX1_init_21 (by decide) ?_
  refine va_newa (atype := .int) (ty := .int) (N' := 10) (a0 := (10, .inl (fun _ => nI 0))) hx hb (hts _ q112) rfl hK hP hD hS hA (a0_i 10) (by decide) (by decide) (by decide) (Nat.le_of_ble_eq_true rfl) (Nat.le_of_ble_eq_true rfl) dX1_init_23 (fun a5 cA H hK hP hD hS => ?_)
  have ec := ra_int (c1 := cI) (c2 := cA) (i := 1) (j := 2) hK rfl rfl
  subst ec
  have hK := hK.sub (tys' := [(cZ, .boolean), (cI, .int)]) [0, 1] rfl
  have hP : va_P D vwCl [(h0, .inr (1, [.int (nI 0), .int (nI 0), .int (nI 0), .ref a3, .ref a4, .null, .null, .null, .null, .null, .null])), (a3, .inl (cZ, 10, .inl (fun _ => nI 0))), (a4, .inl (cI, 10, .inl (fun _ => nI 0))), (a5, .inl (cI, 10, .inl (fun _ => nI 0)))] H := hP
  have hD : va_D (va_A (w0M h0) s.heap.size) [(h0, .inr (1, [.int (nI 0), .int (nI 0), .int (nI 0), .ref a3, .ref a4, .null, .null, .null, .null, .null, .null])), (a3, .inl (cZ, 10, .inl (fun _ => nI 0))), (a4, .inl (cI, 10, .inl (fun _ => nI 0))), (a5, .inl (cI, 10, .inl (fun _ => nI 0)))] := hD
  refine W.widen (k := 3) (n := 30) (Nat.le_of_ble_eq_true rfl) (Nat.le_of_ble_eq_true rfl) ?_
  refine va_putF (ci := 1) (C := RX1) (T := TX1) (N := 11) (fs := [.int (nI 0), .int (nI 0), .int (nI 0), .ref a3, .ref a4, .null, .null, .null, .null, .null, .null]) (ty := .array .int) (v := .ref a5) hx hb hts in_X1 tyX1 tyX1_ok nmX1 hown hK hP hD hS 0 rfl rfl 5 (by decide) (hts _ q253) (fun _ h9 => h9) rfl hin rfl (by decide +kernel) rfl rfl (Nat.le_of_ble_eq_true rfl) dX1_init_25 (fun H locs hP hD hS => ?_)
  have hP : va_P D vwCl [(h0, .inr (1, [.int (nI 0), .int (nI 0), .int (nI 0), .ref a3, .ref a4, .ref a5, .null, .null, .null, .null, .null])), (a3, .inl (cZ, 10, .inl (fun _ => nI 0))), (a4, .inl (cI, 10, .inl (fun _ => nI 0))), (a5, .inl (cI, 10, .inl (fun _ => nI 0)))] H := hP
  have hD : va_D (va_A (w0M h0) s.heap.size) [(h0, .inr (1, [.int (nI 0), .int (nI 0), .int (nI 0), .ref a3, .ref a4, .ref a5, .null, .null, .null, .null, .null])), (a3, .inl (cZ, 10, .inl (fun _ => nI 0))), (a4, .inl (cI, 10, .inl (fun _ => nI 0))), (a5, .inl (cI, 10, .inl (fun _ => nI 0)))] := hD
  refine lv_aload_n hx hb dX1_init_28 rfl (lv_at hl 0 rfl) ?_
  refine lv_bipush (v := nI 10) hx hb dX1_init_29 (by decide) ?_
  refine va_newa (atype := .int) (ty := .int) (N' := 10) (a0 := (10, .inl (fun _ => nI 0))) hx hb (hts _ q112) rfl hK hP hD hS hA (a0_i 10) (by decide) (by decide) (by decide) (Nat.le_of_ble_eq_true rfl) (Nat.le_of_ble_eq_true rfl) dX1_init_31 (fun a6 cA H hK hP hD hS => ?_)
  have ec := ra_int (c1 := cI) (c2 := cA) (i := 1) (j := 2) hK rfl rfl
  subst ec
  have hK := hK.sub (tys' := [(cZ, .boolean), (cI, .int)]) [0, 1] rfl
  have hP : va_P D vwCl [(h0, .inr (1, [.int (nI 0), .int (nI 0), .int (nI 0), .ref a3, .ref a4, .ref a5, .null, .null, .null, .null, .null])), (a3, .inl (cZ, 10, .inl (fun _ => nI 0))), (a4, .inl (cI, 10, .inl (fun _ => nI 0))), (a5, .inl (cI, 10, .inl (fun _ => nI 0))), (a6, .inl (cI, 10, .inl (fun _ => nI 0)))] H := hP
  have hD : va_D (va_A (w0M h0) s.heap.size) [(h0, .inr (1, [.int (nI 0), .int (nI 0), .int (nI 0), .ref a3, .ref a4, .ref a5, .null, .null, .null, .null, .null])), (a3, .inl (cZ, 10, .inl (fun _ => nI 0))), (a4, .inl (cI, 10, .inl (fun _ => nI 0))), (a5, .inl (cI, 10, .inl (fun _ => nI 0))), (a6, .inl (cI, 10, .inl (fun _ => nI 0)))] := hD
  refine W.widen (k := 4) (n := 40) (Nat.le_of_ble_eq_true rfl) (Nat.le_of_ble_eq_true rfl) ?_
  refine va_putF (ci := 1) (C := RX1) (T := TX1) (N := 11) (fs := [.int (nI 0), .int (nI 0), .int (nI 0), .ref a3, .ref a4, .ref a5, .null, .null, .null, .null, .null]) (ty := .array .int) (v := .ref a6) hx hb hts in_X1 tyX1 tyX1_ok nmX1 hown hK hP hD hS 0 rfl rfl 6 (by decide) (hts _ q254) (fun _ h9 => h9) rfl hin rfl (by decide +kernel) rfl rfl (Nat.le_of_ble_eq_true rfl) dX1_init_33 (fun H locs hP hD hS => ?_)
  have hP : va_P D vwCl [(h0, .inr (1, [.int (nI 0), .int (nI 0), .int (nI 0), .ref a3, .ref a4, .ref a5, .ref a6, .null, .null, .null, .null])), (a3, .inl (cZ, 10, .inl (fun _ => nI 0))), (a4, .inl (cI, 10, .inl (fun _ => nI 0))), (a5, .inl (cI, 10, .inl (fun _ => nI 0))), (a6, .inl (cI, 10, .inl (fun _ => nI 0)))] H := hP
  have hD : va_D (va_A (w0M h0) s.heap.size) [(h0, .inr (1, [.int (nI 0), .int (nI 0), .int (nI 0), .ref a3, .ref a4, .ref a5, .ref a6, .null, .null, .null, .null])), (a3, .inl (cZ, 10, .inl (fun _ => nI 0))), (a4, .inl (cI, 10, .inl (fun _ => nI 0))), (a5, .inl (cI, 10, .inl (fun _ => nI 0))), (a6, .inl (cI, 10, .inl (fun _ => nI 0)))] := hD
  refine lv_aload_n hx hb dX1_init_36 rfl (lv_at hl 0 rfl) ?_
  refine lv_bipush (v := nI 10) hx hb dX1_init_37 (by decide) ?_
  refine va_newa (atype := .int) (ty := .int) (N' := 10) (a0 := (10, .inl (fun _ => nI 0))) hx hb (hts _ q112) rfl hK hP hD hS hA (a0_i 10) (by decide) (by decide) (by decide) (Nat.le_of_ble_eq_true rfl) (Nat.le_of_ble_eq_true rfl) dX1_init_39 (fun a7 cA H hK hP hD hS => ?_)
  have ec := ra_int (c1 := cI) (c2 := cA) (i := 1) (j := 2) hK rfl rfl
  subst ec
  have hK := hK.sub (tys' := [(cZ, .boolean), (cI, .int)]) [0, 1] rfl
  have hP : va_P D vwCl [(h0, .inr (1, [.int (nI 0), .int (nI 0), .int (nI 0), .ref a3, .ref a4, .ref a5, .ref a6, .null, .null, .null, .null])), (a3, .inl (cZ, 10, .inl (fun _ => nI 0))), (a4, .inl (cI, 10, .inl (fun _ => nI 0))), (a5, .inl (cI, 10, .inl (fun _ => nI 0))), (a6, .inl (cI, 10, .inl (fun _ => nI 0))), (a7, .inl (cI, 10, .inl (fun _ => nI 0)))] H := hP
  have hD : va_D (va_A (w0M h0) s.heap.size) [(h0, .inr (1, [.int (nI 0), .int (nI 0), .int (nI 0), .ref a3, .ref a4, .ref a5, .ref a6, .null, .null, .null, .null])), (a3, .inl (cZ, 10, .inl (fun _ => nI 0))), (a4, .inl (cI, 10, .inl (fun _ => nI 0))), (a5, .inl (cI, 10, .inl (fun _ => nI 0))), (a6, .inl (cI, 10, .inl (fun _ => nI 0))), (a7, .inl (cI, 10, .inl (fun _ => nI 0)))] := hD
  refine W.widen (k := 5) (n := 50) (Nat.le_of_ble_eq_true rfl) (Nat.le_of_ble_eq_true rfl) ?_
  refine va_putF (ci := 1) (C := RX1) (T := TX1) (N := 11) (fs := [.int (nI 0), .int (nI 0), .int (nI 0), .ref a3, .ref a4, .ref a5, .ref a6, .null, .null, .null, .null]) (ty := .array .int) (v := .ref a7) hx hb hts in_X1 tyX1 tyX1_ok nmX1 hown hK hP hD hS 0 rfl rfl 7 (by decide) (hts _ q255) (fun _ h9 => h9) rfl hin rfl (by decide +kernel) rfl rfl (Nat.le_of_ble_eq_true rfl) dX1_init_41 (fun H locs hP hD hS => ?_)
  have hP : va_P D vwCl [(h0, .inr (1, [.int (nI 0), .int (nI 0), .int (nI 0), .ref a3, .ref a4, .ref a5, .ref a6, .ref a7, .null, .null, .null])), (a3, .inl (cZ, 10, .inl (fun _ => nI 0))), (a4, .inl (cI, 10, .inl (fun _ => nI 0))), (a5, .inl (cI, 10, .inl (fun _ => nI 0))), (a6, .inl (cI, 10, .inl (fun _ => nI 0))), (a7, .inl (cI, 10, .inl (fun _ => nI 0)))] H := hP
  have hD : va_D (va_A (w0M h0) s.heap.size) [(h0, .inr (1, [.int (nI 0), .int (nI 0), .int (nI 0), .ref a3, .ref a4, .ref a5, .ref a6, .ref a7, .null, .null, .null])), (a3, .inl (cZ, 10, .inl (fun _ => nI 0))), (a4, .inl (cI, 10, .inl (fun _ => nI 0))), (a5, .inl (cI, 10, .inl (fun _ => nI 0))), (a6, .inl (cI, 10, .inl (fun _ => nI 0))), (a7, .inl (cI, 10, .inl (fun _ => nI 0)))] := hD
  refine lv_aload_n hx hb dX1_init_44 rfl (lv_at hl 0 rfl) ?_
  refine lv_bipush (v := nI 10) hx hb dX1_init_45 (by decide) ?_
  refine va_newa (atype := .int) (ty := .int) (N' := 10) (a0 := (10, .inl (fun _ => nI 0))) hx hb (hts _ q112) rfl hK hP hD hS hA (a0_i 10) (by decide) (by decide) (by decide) (Nat.le_of_ble_eq_true rfl) (Nat.le_of_ble_eq_true rfl) dX1_init_47 (fun a8 cA H hK hP hD hS => ?_)
  have ec := ra_int (c1 := cI) (c2 := cA) (i := 1) (j := 2) hK rfl rfl
  subst ec
  have hK := hK.sub (tys' := [(cZ, .boolean), (cI, .int)]) [0, 1] rfl
  have hP : va_P D vwCl [(h0, .inr (1, [.int (nI 0), .int (nI 0), .int (nI 0), .ref a3, .ref a4, .ref a5, .ref a6, .ref a7, .null, .null, .null])), (a3, .inl (cZ, 10, .inl (fun _ => nI 0))), (a4, .inl (cI, 10, .inl (fun _ => nI 0))), (a5, .inl (cI, 10, .inl (fun _ => nI 0))), (a6, .inl (cI, 10, .inl (fun _ => nI 0))), (a7, .inl (cI, 10, .inl (fun _ => nI 0))), (a8, .inl (cI, 10, .inl (fun _ => nI 0)))] H := hP
  have hD : va_D (va_A (w0M h0) s.heap.size) [(h0, .inr (1, [.int (nI 0), .int (nI 0), .int (nI 0), .ref a3, .ref a4, .ref a5, .ref a6, .ref a7, .null, .null, .null])), (a3, .inl (cZ, 10, .inl (fun _ => nI 0))), (a4, .inl (cI, 10, .inl (fun _ => nI 0))), (a5, .inl (cI, 10, .inl (fun _ => nI 0))), (a6, .inl (cI, 10, .inl (fun _ => nI 0))), (a7, .inl (cI, 10, .inl (fun _ => nI 0))), (a8, .inl (cI, 10, .inl (fun _ => nI 0)))] := hD
  refine W.widen (k := 6) (n := 60) (Nat.le_of_ble_eq_true rfl) (Nat.le_of_ble_eq_true rfl) ?_
  refine va_putF (ci := 1) (C := RX1) (T := TX1) (N := 11) (fs := [.int (nI 0), .int (nI 0), .int (nI 0), .ref a3, .ref a4, .ref a5, .ref a6, .ref a7, .null, .null, .null]) (ty := .array .int) (v := .ref a8) hx hb hts in_X1 tyX1 tyX1_ok nmX1 hown hK hP hD hS 0 rfl rfl 8 (by decide) (hts _ q256) (fun _ h9 => h9) rfl hin rfl (by decide +kernel) rfl rfl (Nat.le_of_ble_eq_true rfl) dX1_init_49 (fun H locs hP hD hS => ?_)
  have hP : va_P D vwCl [(h0, .inr (1, [.int (nI 0), .int (nI 0), .int (nI 0), .ref a3, .ref a4, .ref a5, .ref a6, .ref a7, .ref a8, .null, .null])), (a3, .inl (cZ, 10, .inl (fun _ => nI 0))), (a4, .inl (cI, 10, .inl (fun _ => nI 0))), (a5, .inl (cI, 10, .inl (fun _ => nI 0))), (a6, .inl (cI, 10, .inl (fun _ => nI 0))), (a7, .inl (cI, 10, .inl (fun _ => nI 0))), (a8, .inl (cI, 10, .inl (fun _ => nI 0)))] H := hP
  have hD : va_D (va_A (w0M h0) s.heap.size) [(h0, .inr (1, [.int (nI 0), .int (nI 0), .int (nI 0), .ref a3, .ref a4, .ref a5, .ref a6, .ref a7, .ref a8, .null, .null])), (a3, .inl (cZ, 10, .inl (fun _ => nI 0))), (a4, .inl (cI, 10, .inl (fun _ => nI 0))), (a5, .inl (cI, 10, .inl (fun _ => nI 0))), (a6, .inl (cI, 10, .inl (fun _ => nI 0))), (a7, .inl (cI, 10, .inl (fun _ => nI 0))), (a8, .inl (cI, 10, .inl (fun _ => nI 0)))] := hD
  refine lv_aload_n hx hb dX1_init_52 rfl (lv_at hl 0 rfl) ?_
  refine lv_sipush (v := nI 256) hx hb dX1_init_53 (by decide) ?_
  refine va_newa (atype := .int) (ty := .int) (N' := 256) (a0 := (256, .inl (fun _ => nI 0))) hx hb (hts _ q112) rfl hK hP hD hS hA (a0_i 256) (by decide) (by decide) (by decide) (Nat.le_of_ble_eq_true rfl) (Nat.le_of_ble_eq_true rfl) dX1_init_56 (fun a9 cA H hK hP hD hS => ?_)
  have ec := ra_int (c1 := cI) (c2 := cA) (i := 1) (j := 2) hK rfl rfl
  subst ec
  have hK := hK.sub (tys' := [(cZ, .boolean), (cI, .int)]) [0, 1] rfl
  have hP : va_P D vwCl [(h0, .inr (1, [.int (nI 0), .int (nI 0), .int (nI 0), .ref a3, .ref a4, .ref a5, .ref a6, .ref a7, .ref a8, .null, .null])), (a3, .inl (cZ, 10, .inl (fun _ => nI 0))), (a4, .inl (cI, 10, .inl (fun _ => nI 0))), (a5, .inl (cI, 10, .inl (fun _ => nI 0))), (a6, .inl (cI, 10, .inl (fun _ => nI 0))), (a7, .inl (cI, 10, .inl (fun _ => nI 0))), (a8, .inl (cI, 10, .inl (fun _ => nI 0))), (a9, .inl (cI, 256, .inl (fun _ => nI 0)))] H := hP
  have hD : va_D (va_A (w0M h0) s.heap.size) [(h0, .inr (1, [.int (nI 0), .int (nI 0), .int (nI 0), .ref a3, .ref a4, .ref a5, .ref a6, .ref a7, .ref a8, .null, .null])), (a3, .inl (cZ, 10, .inl (fun _ => nI 0))), (a4, .inl (cI, 10, .inl (fun _ => nI 0))), (a5, .inl (cI, 10, .inl (fun _ => nI 0))), (a6, .inl (cI, 10, .inl (fun _ => nI 0))), (a7, .inl (cI, 10, .inl (fun _ => nI 0))), (a8, .inl (cI, 10, .inl (fun _ => nI 0))), (a9, .inl (cI, 256, .inl (fun _ => nI 0)))] := hD
  refine W.widen (k := 7) (n := 316) (Nat.le_of_ble_eq_true rfl) (Nat.le_of_ble_eq_true rfl) ?_
  refine va_putF (ci := 1) (C := RX1) (T := TX1) (N := 11) (fs := [.int (nI 0), .int (nI 0), .int (nI 0), .ref a3, .ref a4, .ref a5, .ref a6, .ref a7, .ref a8, .null, .null]) (ty := .array .int) (v := .ref a9) hx hb hts in_X1 tyX1 tyX1_ok nmX1 hown hK hP hD hS 0 rfl rfl 9 (by decide) (hts _ q257) (fun _ h9 => h9) rfl hin rfl (by decide +kernel) rfl rfl (Nat.le_of_ble_eq_true rfl) dX1_init_58 (fun H locs hP hD hS => ?_)
  have hP : va_P D vwCl [(h0, .inr (1, [.int (nI 0), .int (nI 0), .int (nI 0), .ref a3, .ref a4, .ref a5, .ref a6, .ref a7, .ref a8, .ref a9, .null])), (a3, .inl (cZ, 10, .inl (fun _ => nI 0))), (a4, .inl (cI, 10, .inl (fun _ => nI 0))), (a5, .inl (cI, 10, .inl (fun _ => nI 0))), (a6, .inl (cI, 10, .inl (fun _ => nI 0))), (a7, .inl (cI, 10, .inl (fun _ => nI 0))), (a8, .inl (cI, 10, .inl (fun _ => nI 0))), (a9, .inl (cI, 256, .inl (fun _ => nI 0)))] H := hP
  have hD : va_D (va_A (w0M h0) s.heap.size) [(h0, .inr (1, [.int (nI 0), .int (nI 0), .int (nI 0), .ref a3, .ref a4, .ref a5, .ref a6, .ref a7, .ref a8, .ref a9, .null])), (a3, .inl (cZ, 10, .inl (fun _ => nI 0))), (a4, .inl (cI, 10, .inl (fun _ => nI 0))), (a5, .inl (cI, 10, .inl (fun _ => nI 0))), (a6, .inl (cI, 10, .inl (fun _ => nI 0))), (a7, .inl (cI, 10, .inl (fun _ => nI 0))), (a8, .inl (cI, 10, .inl (fun _ => nI 0))), (a9, .inl (cI, 256, .inl (fun _ => nI 0)))] := hD
  refine lv_aload_n hx hb dX1_init_61 rfl (lv_at hl 0 rfl) ?_
  refine lv_sipush (v := nI 256) hx hb dX1_init_62 (by decide) ?_
  refine va_newa (atype := .boolean) (ty := .boolean) (N' := 256) (a0 := (256, .inl (fun _ => nI 0))) hx hb (hts _ q111) rfl hK hP hD hS hA (a0_z 256) (by decide) (by decide) (by decide) (Nat.le_of_ble_eq_true rfl) (Nat.le_of_ble_eq_true rfl) dX1_init_65 (fun a10 cA H hK hP hD hS => ?_)
  have ec := ra_bool (c1 := cZ) (c2 := cA) (i := 0) (j := 2) hK rfl rfl
  subst ec
  have hK := hK.sub (tys' := [(cZ, .boolean), (cI, .int)]) [0, 1] rfl
  have hP : va_P D vwCl [(h0, .inr (1, [.int (nI 0), .int (nI 0), .int (nI 0), .ref a3, .ref a4, .ref a5, .ref a6, .ref a7, .ref a8, .ref a9, .null])), (a3, .inl (cZ, 10, .inl (fun _ => nI 0))), (a4, .inl (cI, 10, .inl (fun _ => nI 0))), (a5, .inl (cI, 10, .inl (fun _ => nI 0))), (a6, .inl (cI, 10, .inl (fun _ => nI 0))), (a7, .inl (cI, 10, .inl (fun _ => nI 0))), (a8, .inl (cI, 10, .inl (fun _ => nI 0))), (a9, .inl (cI, 256, .inl (fun _ => nI 0))), (a10, .inl (cZ, 256, .inl (fun _ => nI 0)))] H := hP
  have hD : va_D (va_A (w0M h0) s.heap.size) [(h0, .inr (1, [.int (nI 0), .int (nI 0), .int (nI 0), .ref a3, .ref a4, .ref a5, .ref a6, .ref a7, .ref a8, .ref a9, .null])), (a3, .inl (cZ, 10, .inl (fun _ => nI 0))), (a4, .inl (cI, 10, .inl (fun _ => nI 0))), (a5, .inl (cI, 10, .inl (fun _ => nI 0))), (a6, .inl (cI, 10, .inl (fun _ => nI 0))), (a7, .inl (cI, 10, .inl (fun _ => nI 0))), (a8, .inl (cI, 10, .inl (fun _ => nI 0))), (a9, .inl (cI, 256, .inl (fun _ => nI 0))), (a10, .inl (cZ, 256, .inl (fun _ => nI 0)))] := hD
  refine W.widen (k := 8) (n := 572) (Nat.le_of_ble_eq_true rfl) (Nat.le_of_ble_eq_true rfl) ?_
  refine va_putF (ci := 1) (C := RX1) (T := TX1) (N := 11) (fs := [.int (nI 0), .int (nI 0), .int (nI 0), .ref a3, .ref a4, .ref a5, .ref a6, .ref a7, .ref a8, .ref a9, .null]) (ty := .array .boolean) (v := .ref a10) hx hb hts in_X1 tyX1 tyX1_ok nmX1 hown hK hP hD hS 0 rfl rfl 10 (by decide) (hts _ q258) (fun _ h9 => h9) rfl hin rfl (by decide +kernel) rfl rfl (Nat.le_of_ble_eq_true rfl) dX1_init_67 (fun H locs hP hD hS => ?_)
  have hP : va_P D vwCl [(h0, .inr (1, [.int (nI 0), .int (nI 0), .int (nI 0), .ref a3, .ref a4, .ref a5, .ref a6, .ref a7, .ref a8, .ref a9, .ref a10])), (a3, .inl (cZ, 10, .inl (fun _ => nI 0))), (a4, .inl (cI, 10, .inl (fun _ => nI 0))), (a5, .inl (cI, 10, .inl (fun _ => nI 0))), (a6, .inl (cI, 10, .inl (fun _ => nI 0))), (a7, .inl (cI, 10, .inl (fun _ => nI 0))), (a8, .inl (cI, 10, .inl (fun _ => nI 0))), (a9, .inl (cI, 256, .inl (fun _ => nI 0))), (a10, .inl (cZ, 256, .inl (fun _ => nI 0)))] H := hP
  have hD : va_D (va_A (w0M h0) s.heap.size) [(h0, .inr (1, [.int (nI 0), .int (nI 0), .int (nI 0), .ref a3, .ref a4, .ref a5, .ref a6, .ref a7, .ref a8, .ref a9, .ref a10])), (a3, .inl (cZ, 10, .inl (fun _ => nI 0))), (a4, .inl (cI, 10, .inl (fun _ => nI 0))), (a5, .inl (cI, 10, .inl (fun _ => nI 0))), (a6, .inl (cI, 10, .inl (fun _ => nI 0))), (a7, .inl (cI, 10, .inl (fun _ => nI 0))), (a8, .inl (cI, 10, .inl (fun _ => nI 0))), (a9, .inl (cI, 256, .inl (fun _ => nI 0))), (a10, .inl (cZ, 256, .inl (fun _ => nI 0)))] := hD
  have hK9 : va_K D vwCl (xT (D, h0, adM a3 a4 a5 a6 a7 a8 a9 a10, cI, cZ)) s := hK.sub (tys' := [(cI, .int), (cZ, .boolean)]) [1, 0] rfl
  exact W.vret hx hb hr (fun t ht hW => ⟨⟨(adM a3 a4 a5 a6 a7 a8 a9 a10, cI, cZ), rfl, trivial, by rw [ht]; exact hP, va_K.moved hW.alike hK9, hD⟩, hS.F ht⟩) hS.2.2 dX1_init_70 hlocks
end
section
/-! THE LAW in plain words: both sides answer alike, and stay alike -/
def LV (μ ν : XS) : Prop := XInv μ ∧ pM ν = pX μ ∧ ν.1 0 = μ.1 8
theorem LV.m {μ ν : XS} (h : LV μ ν) : MInv ν := ⟨by rw [h.2.1]; exact h.1.1, by rw [h.2.2]; exact h.1.2.1⟩
theorem law_start : LV μ0 ν0 := by
  have hp : pX μ0 = fun _ _ => 0 := by
    funext k j
    unfold pX
    split
    · rename_i h
      have : k = 0 ∨ k = 1 ∨ k = 2 ∨ k = 3 ∨ k = 4 ∨ k = 5 := by omega
      rcases this with rfl | rfl | rfl | rfl | rfl | rfl <;> rfl
    · split <;> rfl
  have hm : pM ν0 = fun _ _ => 0 := by
    funext k j
    unfold pM
    split
    · rfl
    · split <;> rfl
  refine ⟨⟨?_, by decide, by decide, by decide, fun h => absurd rfl h⟩, by rw [hp, hm], rfl⟩
  rw [hp]
  exact ⟨fun a _ => ⟨Nat.zero_le 1, Nat.zero_lt_succ 255, Nat.zero_lt_succ 255, Nat.zero_lt_succ 255, Nat.zero_lt_succ 255, Nat.zero_le 50, fun h => absurd rfl h⟩, Nat.zero_lt_succ 255, Nat.zero_lt_succ 255⟩
theorem law_require {x r1 r2 : Int32} {μ ν μ' ν' : XS} {n b : Nat} (h : LV μ ν)
    (h1 : (∃ a, a < 10 ∧ x = nI a ∧ r1 = nI 0 ∧ XInv μ' ∧ pX μ' = reqP (pX μ) a n b ∧ μ'.1 8 = μ.1 8) ∨ ((∀ a, a < 10 → x ≠ nI a) ∧ r1 = -1 ∧ μ' = μ))
    (h2 : (∃ a, a < 10 ∧ x = nI a ∧ r2 = nI 0 ∧ pM ν' = reqP (pM ν) a n b ∧ ν'.1 0 = ν.1 0) ∨ ((∀ a, a < 10 → x ≠ nI a) ∧ r2 = -1 ∧ ν' = ν)) : r1 = r2 ∧ LV μ' ν' := by
  obtain ⟨hI, hp, hn⟩ := h
  rcases h1 with ⟨a, ha, ex, e1, q1, q2, q3⟩ | ⟨hno, e1, q1⟩
  · rcases h2 with ⟨a', ha', ex', e2, w2, w3⟩ | ⟨hno', -, -⟩
    · have e : a = a' := (nI_eq (by omega) (by omega)).mp (ex.symm.trans ex')
      subst e
      exact ⟨e1.trans e2.symm, q1, by rw [w2, q2, hp], by rw [w3, q3, hn]⟩
    · exact absurd ex (hno' a ha)
  · rcases h2 with ⟨a', ha', ex', -, -, -⟩ | ⟨-, e2, w1⟩
    · exact absurd ex' (hno a' ha')
    · rw [q1, w1]
      exact ⟨e1.trans e2.symm, hI, hp, hn⟩
theorem law_mod {f : PB → Nat → PB} {x r1 r2 : Int32} {μ ν μ' ν' : XS} (h : LV μ ν)
    (h1 : (∃ a, a < 10 ∧ x = nI a ∧ pX μ 0 a ≠ 0 ∧ r1 = nI 0 ∧ XInv μ' ∧ pX μ' = f (pX μ) a ∧ μ'.1 8 = μ.1 8) ∨ ((∀ a, a < 10 → x = nI a → pX μ 0 a = 0) ∧ r1 = -1 ∧ μ' = μ))
    (h2 : (∃ a, a < 10 ∧ x = nI a ∧ pM ν 0 a ≠ 0 ∧ r2 = nI 0 ∧ pM ν' = f (pM ν) a ∧ ν'.1 0 = ν.1 0) ∨ ((∀ a, a < 10 → x = nI a → pM ν 0 a = 0) ∧ r2 = -1 ∧ ν' = ν)) : r1 = r2 ∧ LV μ' ν' := by
  obtain ⟨hI, hp, hn⟩ := h
  rw [hp] at h2
  rcases h1 with ⟨a, ha, ex, hg, e1, q1, q2, q3⟩ | ⟨hno, e1, q1⟩
  · rcases h2 with ⟨a', ha', ex', hg', e2, w2, w3⟩ | ⟨hno', -, -⟩
    · have e : a = a' := (nI_eq (by omega) (by omega)).mp (ex.symm.trans ex')
      subst e
      exact ⟨e1.trans e2.symm, q1, by rw [w2, q2], by rw [w3, q3, hn]⟩
    · exact absurd (hno' a ha ex) hg
  · rcases h2 with ⟨a', ha', ex', hg', -, -, -⟩ | ⟨-, e2, w1⟩
    · exact absurd (hno a' ha' ex') hg'
    · rw [q1, w1]
      exact ⟨e1.trans e2.symm, hI, hp, hn⟩
theorem law_want {μ ν μ' ν' : XS} {x y : Nat} (h : LV μ ν) (h1 : XInv μ' ∧ pX μ' = wantP (pX μ) x y ∧ μ'.1 8 = μ.1 8) (h2 : pM ν' = wantP (pM ν) x y ∧ ν'.1 0 = ν.1 0) : LV μ' ν' :=
  ⟨h1.1, by rw [h2.1, h1.2.1, h.2.1], by rw [h2.2, h1.2.2, h.2.2]⟩
theorem law_observe {μ ν μ' ν' : XS} {x : Nat} (h : LV μ ν) (h1 : XInv μ' ∧ pX μ' = pX μ ∧ μ'.1 8 = x) (h2 : pM ν' = pM ν ∧ ν'.1 0 = x) : LV μ' ν' :=
  ⟨h1.1, by rw [h2.1, h1.2.1, h.2.1], by rw [h2.2, h1.2.2]⟩
theorem law_now {r1 r2 : Int32} {μ ν μ' ν' : XS} (h : LV μ ν) (h1 : μ' = μ ∧ r1 = nI (μ.1 8)) (h2 : ν' = ν ∧ r2 = nI (ν.1 0)) : r1 = r2 ∧ LV μ' ν' := by
  rw [h1.1, h2.1, h1.2, h2.2, h.2.2]
  exact ⟨rfl, h⟩
theorem LV.plan {μ ν μ' : XS} {L : Nat → Nat} (h : LV μ ν) (hq : QM μ μ') : LV μ' (sA ν 9 L) := ⟨hq.1, by rw [pM_sA ν (by decide) L, hq.2.2.1, h.2.1], by rw [hq.2.2.2]; exact h.2.2⟩
/-- what the plan says of the least prices -/
theorem LV.fix {μ ν μ' : XS} {L : Nat → Nat} (h : LV μ ν) (hq : QM μ μ') (hF : FixH (pM ν) L) : (μ'.1 10 = 0 → L (ν.1 0) = 1000000) ∧ (μ'.1 10 ≠ 0 → L (ν.1 0) < 1000000 ∧ μ'.1 13 = L (ν.1 0) ∧ ChainOK (pM ν) L (fun j => μ'.2 14 (μ'.1 12 + j)) (ν.1 0) (μ'.1 11 - μ'.1 12)) := by
  obtain ⟨-, -, -, -, hP⟩ := hq.1
  have h5 := (hP hq.2.1).2.2.2.2 L (by rw [hq.2.2.1, ← h.2.1]; exact hF)
  rw [hq.2.2.1, hq.2.2.2, ← h.2.1, ← h.2.2] at h5
  exact h5
theorem law_price {r1 r2 : Int32} {μ ν μ' ν' : XS} (h : LV μ ν) (h1 : QM μ μ' ∧ ((μ'.1 10 = 0 ∧ r1 = -1) ∨ (μ'.1 10 ≠ 0 ∧ r1 = nI (μ'.1 13))))
    (h2 : ∃ L, FixH (pM ν) L ∧ ν' = sA ν 9 L ∧ ((L (ν.1 0) < 1000000 ∧ r2 = nI (L (ν.1 0))) ∨ (1000000 ≤ L (ν.1 0) ∧ r2 = -1))) : r1 = r2 ∧ LV μ' ν' := by
  obtain ⟨hq, h1⟩ := h1
  obtain ⟨L, hF, rfl, h2⟩ := h2
  obtain ⟨f0, f1⟩ := h.fix hq hF
  refine ⟨?_, h.plan hq⟩
  rcases h1 with ⟨a, e1⟩ | ⟨a, e1⟩
  · have := f0 a
    rcases h2 with ⟨b, -⟩ | ⟨-, e2⟩
    · omega
    · exact e1.trans e2.symm
  · have q := f1 a
    rcases h2 with ⟨-, e2⟩ | ⟨b, -⟩
    · rw [e1, e2, q.2.1]
    · have := q.1
      omega
theorem law_steps {r1 r2 : Int32} {μ ν μ' ν' : XS} (h : LV μ ν) (h1 : QM μ μ' ∧ ((μ'.1 10 = 0 ∧ r1 = -1) ∨ (μ'.1 10 ≠ 0 ∧ r1 = nI (μ'.1 11 - μ'.1 12))))
    (h2 : ∃ L, FixH (pM ν) L ∧ ν' = sA ν 9 L ∧ ((1000000 ≤ L (ν.1 0) ∧ r2 = -1) ∨ (L (ν.1 0) < 1000000 ∧ ∃ pl n, n ≤ 255 ∧ ChainOK (pM ν) L pl (ν.1 0) n ∧ r2 = nI n))) : r1 = r2 ∧ LV μ' ν' := by
  obtain ⟨hq, h1⟩ := h1
  obtain ⟨L, hF, rfl, h2⟩ := h2
  obtain ⟨f0, f1⟩ := h.fix hq hF
  refine ⟨?_, h.plan hq⟩
  rcases h1 with ⟨a, e1⟩ | ⟨a, e1⟩
  · have := f0 a
    rcases h2 with ⟨-, e2⟩ | ⟨b, -⟩
    · exact e1.trans e2.symm
    · omega
  · have q := f1 a
    rcases h2 with ⟨b, -⟩ | ⟨-, pl, n, -, hc, e2⟩
    · have := q.1
      omega
    · rw [e1, e2, (chain_uniq q.2.2 hc).1]
theorem law_planned {x r1 r2 : Int32} {μ ν μ' ν' : XS} (h : LV μ ν) (h1 : QM μ μ' ∧ ((μ'.1 10 ≠ 0 ∧ ∃ j, j < μ'.1 11 - μ'.1 12 ∧ x = nI j ∧ r1 = nI (μ'.2 14 (μ'.1 12 + j))) ∨ ((μ'.1 10 = 0 ∨ ∀ j, j < μ'.1 11 - μ'.1 12 → x ≠ nI j) ∧ r1 = -1)))
    (h2 : ∃ L, FixH (pM ν) L ∧ ν' = sA ν 9 L ∧ ((1000000 ≤ L (ν.1 0) ∧ r2 = -1) ∨ (L (ν.1 0) < 1000000 ∧ ∃ pl n, n ≤ 255 ∧ ChainOK (pM ν) L pl (ν.1 0) n ∧ ((∃ j, j < n ∧ x = nI j ∧ r2 = nI (pl j)) ∨ ((∀ j, j < n → x ≠ nI j) ∧ r2 = -1))))) : r1 = r2 ∧ LV μ' ν' := by
  obtain ⟨hq, h1⟩ := h1
  obtain ⟨L, hF, rfl, h2⟩ := h2
  obtain ⟨f0, f1⟩ := h.fix hq hF
  have hlen := (hq.1.2.2.2.2 hq.2.1).2.2.1
  refine ⟨?_, h.plan hq⟩
  rcases h1 with ⟨a, j, hj, ex, e1⟩ | ⟨a, e1⟩
  · have q := f1 a
    rcases h2 with ⟨b, -⟩ | ⟨-, pl, n, hn, hc, h2⟩
    · have := q.1
      omega
    · obtain ⟨u1, u2⟩ := chain_uniq q.2.2 hc
      rcases h2 with ⟨j', hj', ex', e2⟩ | ⟨hno, -⟩
      · have e : j = j' := (nI_eq (by omega) (by omega)).mp (ex.symm.trans ex')
        subst e
        rw [e1, e2, ← u2 j hj]
      · exact absurd ex (hno j (by omega))
  · rcases h2 with ⟨-, e2⟩ | ⟨b, pl, n, hn, hc, h2⟩
    · exact e1.trans e2.symm
    · rcases h2 with ⟨j', hj', ex', e2⟩ | ⟨-, e2⟩
      · rcases a with a | a
        · have := f0 a
          omega
        · by_cases hz : μ'.1 10 = 0
          · have := f0 hz
            omega
          · have u1 := (chain_uniq (f1 hz).2.2 hc).1
            exact absurd ex' (a j' (by omega))
      · exact e1.trans e2.symm
theorem law_advance {r1 r2 : Int32} {μ ν μ' ν' : XS} (h : LV μ ν)
    (h1 : ∃ μ1, QM μ μ1 ∧ (((μ1.1 10 = 0 ∨ μ1.1 11 ≤ μ1.1 12) ∧ r1 = -1 ∧ μ' = μ1) ∨ (μ1.1 10 ≠ 0 ∧ μ1.1 12 < μ1.1 11 ∧ r1 = nI (μ1.2 14 (μ1.1 12)) ∧ XInv μ' ∧ pX μ' = pX μ ∧ μ'.1 8 = af (pX μ) (μ1.2 14 (μ1.1 12)) (μ.1 8))))
    (h2 : ∃ L, FixH (pM ν) L ∧ (((L (ν.1 0) = 0 ∨ 1000000 ≤ L (ν.1 0)) ∧ r2 = -1 ∧ ν' = sA ν 9 L) ∨ (L (ν.1 0) ≠ 0 ∧ L (ν.1 0) < 1000000 ∧ ∃ a, IsFirst (pM ν) L (ν.1 0) a ∧ r2 = nI a ∧ ν' = sS (sA ν 9 L) 0 (af (pM ν) a (ν.1 0))))) : r1 = r2 ∧ LV μ' ν' := by
  obtain ⟨μ1, hq, h1⟩ := h1
  obtain ⟨L, hF, h2⟩ := h2
  obtain ⟨f0, f1⟩ := h.fix hq hF
  rcases h1 with ⟨a, e1, e3⟩ | ⟨a, hlt, e1, q1, q2, q3⟩
  · rw [e3]
    rcases h2 with ⟨b, e2, e4⟩ | ⟨b1, b2, -⟩
    · rw [e4]
      exact ⟨e1.trans e2.symm, h.plan hq⟩
    · by_cases hz : μ1.1 10 = 0
      · have := f0 hz
        omega
      · rcases a with a | a
        · exact absurd a hz
        · have q := (f1 hz).2.2.2
          rw [show μ1.1 11 - μ1.1 12 = 0 by omega] at q
          exact absurd q b1
  · obtain ⟨c1, c2, c3⟩ := f1 a
    have q := c3.1 0 (by omega)
    have qn : L (ν.1 0) ≠ 0 := q.1
    have qf : IsFirst (pM ν) L (ν.1 0) (μ1.2 14 (μ1.1 12)) := q.2
    rcases h2 with ⟨b, -, -⟩ | ⟨-, -, c, hc, e2, rfl⟩
    · omega
    · have e := qf.uniq hc
      subst e
      refine ⟨e1.trans e2.symm, q1, ?_, ?_⟩
      · rw [pM_s0, pM_sA ν (by decide) L, q2, h.2.1]
      · show af (pM ν) (μ1.2 14 (μ1.1 12)) (ν.1 0) = μ'.1 8
        rw [q3, h.2.1, h.2.2]
theorem law_act {x r1 r2 : Int32} {μ ν μ' ν' : XS} (h : LV μ ν)
    (h1 : (∃ a, a < 10 ∧ x = nI a ∧ cd (pX μ) a (μ.1 8) = true ∧ r1 = nI 0 ∧ XInv μ' ∧ pX μ' = pX μ ∧ μ'.1 8 = af (pX μ) a (μ.1 8)) ∨ ((∀ a, a < 10 → x = nI a → cd (pX μ) a (μ.1 8) = false) ∧ r1 = -1 ∧ μ' = μ))
    (h2 : (∃ a, a < 10 ∧ x = nI a ∧ cd (pM ν) a (ν.1 0) = true ∧ r2 = nI 0 ∧ pM ν' = pM ν ∧ ν'.1 0 = af (pM ν) a (ν.1 0)) ∨ ((∀ a, a < 10 → x = nI a → cd (pM ν) a (ν.1 0) = false) ∧ r2 = -1 ∧ ν' = ν)) : r1 = r2 ∧ LV μ' ν' := by
  obtain ⟨hI, hp, hn⟩ := h
  rw [hp, hn] at h2
  rcases h1 with ⟨a, ha, ex, hg, e1, q1, q2, q3⟩ | ⟨hno, e1, q1⟩
  · rcases h2 with ⟨a', ha', ex', hg', e2, w2, w3⟩ | ⟨hno', -, -⟩
    · have e : a = a' := (nI_eq (by omega) (by omega)).mp (ex.symm.trans ex')
      subst e
      exact ⟨e1.trans e2.symm, q1, by rw [w2, q2], by rw [w3, q3]⟩
    · have := hno' a ha ex
      rw [this] at hg
      exact absurd hg (by decide)
  · rcases h2 with ⟨a', ha', ex', hg', -, -, -⟩ | ⟨-, e2, w1⟩
    · have := hno a' ha' ex'
      rw [this] at hg'
      exact absurd hg' (by decide)
    · rw [q1, w1]
      exact ⟨e1.trans e2.symm, hI, hp, hn⟩
theorem law_reachable {r1 r2 : Int32} {μ ν μ' ν' : XS} (h : LV μ ν)
    (h1 : ∃ ob, (∀ x, x < 256 → (ob x ≠ 0 ↔ Rch (pX μ) (μ.1 8) x)) ∧ r1 = nI (cn ob) ∧ XInv μ' ∧ pX μ' = pX μ ∧ μ'.1 8 = μ.1 8)
    (h2 : ∃ ob, (∀ x, x < 256 → (ob x ≠ 0 ↔ Rch (pM ν) (ν.1 0) x)) ∧ r2 = nI (cn ob) ∧ pM ν' = pM ν ∧ ν'.1 0 = ν.1 0) : r1 = r2 ∧ LV μ' ν' := by
  obtain ⟨ob, a1, e1, q1, q2, q3⟩ := h1
  obtain ⟨oc, b1, e2, w2, w3⟩ := h2
  refine ⟨?_, q1, by rw [w2, q2, h.2.1], by rw [w3, q3, h.2.2]⟩
  rw [e1, e2]
  refine congrArg nI (cnt_congr 256 fun x hx => ?_)
  have u := a1 x hx
  have v := b1 x hx
  rw [h.2.1, h.2.2] at v
  exact decide_eq_decide.mpr (u.trans v.symm)
end
section
/-! LAW LAYER: both worlds side by side; a call of the one leaves the other -/
abbrev XU : Type := (Nat → Nat) × ClassId × ClassId
def LW (D : va_G) (h1 h2 : Nat) (u1 u2 : XU) (z : XS × XS) : va_W := xw (D, h1, u1) z.1 ++ yw (D, h2, u2) z.2
abbrev lT (D : va_G) (h1 h2 : Nat) (u1 u2 : XU) : List (ClassId × FieldType) := xT (D, h1, u1) ++ xT (D, h2, u2)
/-- the law's script -/
def SX (K : XK) (b L : Nat) (xs : Nat → Int32) : Prop := va_X b L xs (kS K) (kS K).heap ∧ b < (kS K).heap.size ∧ ¬ kF K b
section LR
variable {α : Type} {Wd : α → va_W} {D : va_G} {tys : List (ClassId × FieldType)} {K : XK} {cm : ByteArray} {nL : Nat} {own : String} {rm : Room} {pc : Nat} {ll : List (Option Value)} {st st0 : List Value} {z : α}
theorem x_sld (C : XOk D tys K cm nL own rm) {b L i : Nat} {xs : Nat → Int32} (hX : SX K b L xs) (d : decode cm pc = .ok (.iaload, 1)) (hi : i < L) (hL : L ≤ 320) (kk : XAt Wd D K nL (pc + 1) ll (.int (xs i) :: st) z) : XAt Wd D K nL pc ll (.int (nI i) :: .ref b :: st) z :=
  fun H locs ls hP hD hS hl => va_sld C.x C.b hX.1 hX.2.1 hX.2.2 hS (vp_in_nI hi (by omega)) d (by rw [nI_clamp (by omega)]; exact kk H locs ls hP hD hS hl)
theorem x_slen (C : XOk D tys K cm nL own rm) {b L : Nat} {xs : Nat → Int32} (hX : SX K b L xs) (d : decode cm pc = .ok (.arraylength, 1)) (kk : XAt Wd D K nL (pc + 1) ll (.int (nI L) :: st) z) : XAt Wd D K nL pc ll (.ref b :: st) z :=
  fun H locs ls hP hD hS hl => va_slen C.x C.b hX.1 hX.2.1 hX.2.2 hS d (kk H locs ls hP hD hS hl)
theorem x_tabOut (C : XOk D tys K cm nL own rm) {dflt lo hi : Int} {offs : Array Int} {len : Nat} {x : Int32} (tgt : Nat) (d : decode cm pc = .ok (.tableswitch dflt lo hi offs, len)) (h : x.toInt < lo ∨ hi < x.toInt) (ht : (pc : Int) + dflt = (tgt : Int)) (kk : XAt Wd D K nL tgt ll st z) : XAt Wd D K nL pc ll (.int x :: st) z :=
  fun H locs ls hP hD hS hl => lv_tableOut C.x C.b d h ht (kk H locs ls hP hD hS hl)
theorem x_tabIn (C : XOk D tys K cm nL own rm) {dflt lo hi : Int} {offs : Array Int} {len : Nat} {x : Int32} (off : Int) (tgt : Nat) (d : decode cm pc = .ok (.tableswitch dflt lo hi offs, len)) (h1 : ¬ x.toInt < lo) (h2 : ¬ hi < x.toInt) (ho : offs[(x.toInt - lo).toNat]? = some off) (ht : (pc : Int) + off = (tgt : Int)) (kk : XAt Wd D K nL tgt ll st z) : XAt Wd D K nL pc ll (.int x :: st) z :=
  fun H locs ls hP hD hS hl => lv_tableIn C.x C.b d h1 h2 ho ht (kk H locs ls hP hD hS hl)
end LR
section LC
variable {D : va_G} {h1 h2 : Nat} {u1 u2 : XU} {K : XK} {cm cc : ByteArray} {nL maxL : Nat} {own : String} {rm rmm : Room} {pc : Nat} {ll : List (Option Value)} {st st0 : List Value} {μ ν : XS} {y : MethodName} {As : List Value}
theorem x_callPi {ret : Option FieldType} {idx : Nat} {post : Int32 → XS → Prop} (C : XOk D (lT D h1 h2 u1 u2) K cm nL own rm) (hM : GMi (xw (D, h1, u1)) D (xT (D, h1, u1)) (kL K) y cc maxL ret rmm (.ref h1 :: As) μ post) (cw : CW own idx y cc maxL ret As.length) (hq : RX0 = y.cls) (hR : rmm.frames + 1 ≤ rm.frames ∧ 8 + (maxL + 11) + rmm.locals ≤ rm.locals) (hz : rmm.cells = 0 ∧ rmm.slots = 0)
    (hst : (st.map fun v => v.category).sum ≤ 8) (hstk : st0 = As.reverse ++ .ref h1 :: st) (d : decode cm pc = .ok (.invokevirtual idx, 3)) (kk : ∀ (r : Int32) (w : XS), post r w → XAt (LW D h1 h2 u1 u2) D K nL (pc + 3) ll (.int r :: st) (w, ν)) : XAt (LW D h1 h2 u1 u2) D K nL pc ll st0 (μ, ν) := by
  intro H locs ls hP hD hS hl
  have hP : va_P D vwCl (xw (D, h1, u1) μ ++ yw (D, h2, u2) ν) H := hP
  have hD : va_D (kF K) (xw (D, h1, u1) μ ++ yw (D, h2, u2) ν) := hD
  have hPc : va_P D vwCl (xw (D, h1, u1) μ) H := hP.sub [0, 1, 2, 3, 4, 5, 6, 7, 8, 9, 10, 11, 12, 13, 14] rfl
  have hDc : va_D (kF K) (xw (D, h1, u1) μ) := hD.sub [0, 1, 2, 3, 4, 5, 6, 7, 8, 9, 10, 11, 12, 13, 14] (by decide) rfl
  have hKc : va_K D vwCl (xT (D, h1, u1)) (kS K) := C.k.sub [0, 1] rfl
  have hF := va_free (wc := xw (D, h1, u1) μ) hD hS C.a [0, 1, 2, 3, 4, 5, 6, 7, 8, 9, 10, 11, 12, 13, 14] rfl
  have hcs := C.cs
  have hr := C.r
  refine va_calli (va_runV (As := As) (rest := st) (Ts := lw_all) ⟨C.x, C.b, C.ml, C.o, C.ts⟩ (hM H.size) (cwV As.length C.ts cw.1 rfl hz.1 hz.2 cw.2 (by rw [hr]; exact hR)) ⟨GPre.blind, by rw [← hq]; exact va_recv hKc hPc (ci := 0) (q0 := 0) rfl rfl, fun U hU hW => ⟨rfl, by rw [hU], by rw [hU]; exact hPc, va_K.moved hW.alike hKc, hDc.weaken (fun _ _ _ _ => trivial)⟩⟩ rfl rfl hl.1 hstk (lv_room hst) d (by rw [hr]; exact hcs)) hS (fun q _ h => hF q h) hF (fun r u t H1 locs1 ht hvm hw hB hz1 hk1 hS1 => ?_)
  obtain ⟨hP1, hK1, hD1⟩ := hB
  rw [ht] at hP1
  obtain ⟨hP2, hD2⟩ := va_join (wr := yw (D, h2, u2) ν) (w1 := xw (D, h1, u1) u) hP hD [0, 1, 2, 3, 4, 5, 6, 7, 8, 9, 10, 11, 12, 13, 14] [15, 16, 17, 18, 19, 20, 21, 22, 23] rfl rfl (by decide) (by decide) hk1 hF hP1 hD1
  exact kk r u hw H1 locs1 ls (hP2.sub [9, 10, 11, 12, 13, 14, 15, 16, 17, 18, 19, 20, 21, 22, 23, 0, 1, 2, 3, 4, 5, 6, 7, 8] rfl) (hD2.sub [9, 10, 11, 12, 13, 14, 15, 16, 17, 18, 19, 20, 21, 22, 23, 0, 1, 2, 3, 4, 5, 6, 7, 8] (by decide) rfl) hS1 hl
theorem x_callPv {idx : Nat} {post : XS → Prop} (C : XOk D (lT D h1 h2 u1 u2) K cm nL own rm) (hM : GMv (xw (D, h1, u1)) D (xT (D, h1, u1)) (kL K) y cc maxL rmm (.ref h1 :: As) μ post) (cw : CW own idx y cc maxL none As.length) (hq : RX0 = y.cls) (hR : rmm.frames + 1 ≤ rm.frames ∧ 8 + (maxL + 11) + rmm.locals ≤ rm.locals) (hz : rmm.cells = 0 ∧ rmm.slots = 0)
    (hst : (st.map fun v => v.category).sum ≤ 8) (hstk : st0 = As.reverse ++ .ref h1 :: st) (d : decode cm pc = .ok (.invokevirtual idx, 3)) (kk : ∀ (w : XS), post w → XAt (LW D h1 h2 u1 u2) D K nL (pc + 3) ll st (w, ν)) : XAt (LW D h1 h2 u1 u2) D K nL pc ll st0 (μ, ν) := by
  intro H locs ls hP hD hS hl
  have hP : va_P D vwCl (xw (D, h1, u1) μ ++ yw (D, h2, u2) ν) H := hP
  have hD : va_D (kF K) (xw (D, h1, u1) μ ++ yw (D, h2, u2) ν) := hD
  have hPc : va_P D vwCl (xw (D, h1, u1) μ) H := hP.sub [0, 1, 2, 3, 4, 5, 6, 7, 8, 9, 10, 11, 12, 13, 14] rfl
  have hDc : va_D (kF K) (xw (D, h1, u1) μ) := hD.sub [0, 1, 2, 3, 4, 5, 6, 7, 8, 9, 10, 11, 12, 13, 14] (by decide) rfl
  have hKc : va_K D vwCl (xT (D, h1, u1)) (kS K) := C.k.sub [0, 1] rfl
  have hF := va_free (wc := xw (D, h1, u1) μ) hD hS C.a [0, 1, 2, 3, 4, 5, 6, 7, 8, 9, 10, 11, 12, 13, 14] rfl
  have hcs := C.cs
  have hr := C.r
  refine va_callv (va_runV (As := As) (rest := st) (Ts := lw_all) ⟨C.x, C.b, C.ml, C.o, C.ts⟩ (hM H.size) (cwV As.length C.ts cw.1 rfl hz.1 hz.2 cw.2 (by rw [hr]; exact hR)) ⟨GPre.blind, by rw [← hq]; exact va_recv hKc hPc (ci := 0) (q0 := 0) rfl rfl, fun U hU hW => ⟨rfl, by rw [hU], by rw [hU]; exact hPc, va_K.moved hW.alike hKc, hDc.weaken (fun _ _ _ _ => trivial)⟩⟩ rfl rfl hl.1 hstk (lv_room hst) d (by rw [hr]; exact hcs)) hS (fun q _ h => hF q h) hF (fun u t H1 locs1 ht hvm hw hB hz1 hk1 hS1 => ?_)
  obtain ⟨hP1, hK1, hD1⟩ := hB
  rw [ht] at hP1
  obtain ⟨hP2, hD2⟩ := va_join (wr := yw (D, h2, u2) ν) (w1 := xw (D, h1, u1) u) hP hD [0, 1, 2, 3, 4, 5, 6, 7, 8, 9, 10, 11, 12, 13, 14] [15, 16, 17, 18, 19, 20, 21, 22, 23] rfl rfl (by decide) (by decide) hk1 hF hP1 hD1
  exact kk u hw H1 locs1 ls (hP2.sub [9, 10, 11, 12, 13, 14, 15, 16, 17, 18, 19, 20, 21, 22, 23, 0, 1, 2, 3, 4, 5, 6, 7, 8] rfl) (hD2.sub [9, 10, 11, 12, 13, 14, 15, 16, 17, 18, 19, 20, 21, 22, 23, 0, 1, 2, 3, 4, 5, 6, 7, 8] (by decide) rfl) hS1 hl
theorem x_callMi {ret : Option FieldType} {idx : Nat} {post : Int32 → XS → Prop} (C : XOk D (lT D h1 h2 u1 u2) K cm nL own rm) (hM : GMi (yw (D, h2, u2)) D (xT (D, h2, u2)) (kL K) y cc maxL ret rmm (.ref h2 :: As) ν post) (cw : CW own idx y cc maxL ret As.length) (hq : RX1 = y.cls) (hR : rmm.frames + 1 ≤ rm.frames ∧ 8 + (maxL + 11) + rmm.locals ≤ rm.locals) (hz : rmm.cells = 0 ∧ rmm.slots = 0)
    (hst : (st.map fun v => v.category).sum ≤ 8) (hstk : st0 = As.reverse ++ .ref h2 :: st) (d : decode cm pc = .ok (.invokevirtual idx, 3)) (kk : ∀ (r : Int32) (w : XS), post r w → XAt (LW D h1 h2 u1 u2) D K nL (pc + 3) ll (.int r :: st) (μ, w)) : XAt (LW D h1 h2 u1 u2) D K nL pc ll st0 (μ, ν) := by
  intro H locs ls hP hD hS hl
  have hP : va_P D vwCl (xw (D, h1, u1) μ ++ yw (D, h2, u2) ν) H := hP
  have hD : va_D (kF K) (xw (D, h1, u1) μ ++ yw (D, h2, u2) ν) := hD
  have hPc : va_P D vwCl (yw (D, h2, u2) ν) H := hP.sub [15, 16, 17, 18, 19, 20, 21, 22, 23] rfl
  have hDc : va_D (kF K) (yw (D, h2, u2) ν) := hD.sub [15, 16, 17, 18, 19, 20, 21, 22, 23] (by decide) rfl
  have hKc : va_K D vwCl (xT (D, h2, u2)) (kS K) := C.k.sub [2, 3] rfl
  have hF := va_free (wc := yw (D, h2, u2) ν) hD hS C.a [15, 16, 17, 18, 19, 20, 21, 22, 23] rfl
  have hcs := C.cs
  have hr := C.r
  refine va_calli (va_runV (As := As) (rest := st) (Ts := lw_all) ⟨C.x, C.b, C.ml, C.o, C.ts⟩ (hM H.size) (cwV As.length C.ts cw.1 rfl hz.1 hz.2 cw.2 (by rw [hr]; exact hR)) ⟨GPre.blind, by rw [← hq]; exact va_recv hKc hPc (ci := 1) (q0 := 0) rfl rfl, fun U hU hW => ⟨rfl, by rw [hU], by rw [hU]; exact hPc, va_K.moved hW.alike hKc, hDc.weaken (fun _ _ _ _ => trivial)⟩⟩ rfl rfl hl.1 hstk (lv_room hst) d (by rw [hr]; exact hcs)) hS (fun q _ h => hF q h) hF (fun r u t H1 locs1 ht hvm hw hB hz1 hk1 hS1 => ?_)
  obtain ⟨hP1, hK1, hD1⟩ := hB
  rw [ht] at hP1
  obtain ⟨hP2, hD2⟩ := va_join (wr := xw (D, h1, u1) μ) (w1 := yw (D, h2, u2) u) hP hD [15, 16, 17, 18, 19, 20, 21, 22, 23] [0, 1, 2, 3, 4, 5, 6, 7, 8, 9, 10, 11, 12, 13, 14] rfl rfl (by decide) (by decide) hk1 hF hP1 hD1
  exact kk r u hw H1 locs1 ls hP2 hD2 hS1 hl
theorem x_callMv {idx : Nat} {post : XS → Prop} (C : XOk D (lT D h1 h2 u1 u2) K cm nL own rm) (hM : GMv (yw (D, h2, u2)) D (xT (D, h2, u2)) (kL K) y cc maxL rmm (.ref h2 :: As) ν post) (cw : CW own idx y cc maxL none As.length) (hq : RX1 = y.cls) (hR : rmm.frames + 1 ≤ rm.frames ∧ 8 + (maxL + 11) + rmm.locals ≤ rm.locals) (hz : rmm.cells = 0 ∧ rmm.slots = 0)
    (hst : (st.map fun v => v.category).sum ≤ 8) (hstk : st0 = As.reverse ++ .ref h2 :: st) (d : decode cm pc = .ok (.invokevirtual idx, 3)) (kk : ∀ (w : XS), post w → XAt (LW D h1 h2 u1 u2) D K nL (pc + 3) ll st (μ, w)) : XAt (LW D h1 h2 u1 u2) D K nL pc ll st0 (μ, ν) := by
  intro H locs ls hP hD hS hl
  have hP : va_P D vwCl (xw (D, h1, u1) μ ++ yw (D, h2, u2) ν) H := hP
  have hD : va_D (kF K) (xw (D, h1, u1) μ ++ yw (D, h2, u2) ν) := hD
  have hPc : va_P D vwCl (yw (D, h2, u2) ν) H := hP.sub [15, 16, 17, 18, 19, 20, 21, 22, 23] rfl
  have hDc : va_D (kF K) (yw (D, h2, u2) ν) := hD.sub [15, 16, 17, 18, 19, 20, 21, 22, 23] (by decide) rfl
  have hKc : va_K D vwCl (xT (D, h2, u2)) (kS K) := C.k.sub [2, 3] rfl
  have hF := va_free (wc := yw (D, h2, u2) ν) hD hS C.a [15, 16, 17, 18, 19, 20, 21, 22, 23] rfl
  have hcs := C.cs
  have hr := C.r
  refine va_callv (va_runV (As := As) (rest := st) (Ts := lw_all) ⟨C.x, C.b, C.ml, C.o, C.ts⟩ (hM H.size) (cwV As.length C.ts cw.1 rfl hz.1 hz.2 cw.2 (by rw [hr]; exact hR)) ⟨GPre.blind, by rw [← hq]; exact va_recv hKc hPc (ci := 1) (q0 := 0) rfl rfl, fun U hU hW => ⟨rfl, by rw [hU], by rw [hU]; exact hPc, va_K.moved hW.alike hKc, hDc.weaken (fun _ _ _ _ => trivial)⟩⟩ rfl rfl hl.1 hstk (lv_room hst) d (by rw [hr]; exact hcs)) hS (fun q _ h => hF q h) hF (fun u t H1 locs1 ht hvm hw hB hz1 hk1 hS1 => ?_)
  obtain ⟨hP1, hK1, hD1⟩ := hB
  rw [ht] at hP1
  obtain ⟨hP2, hD2⟩ := va_join (wr := xw (D, h1, u1) μ) (w1 := yw (D, h2, u2) u) hP hD [15, 16, 17, 18, 19, 20, 21, 22, 23] [0, 1, 2, 3, 4, 5, 6, 7, 8, 9, 10, 11, 12, 13, 14] rfl rfl (by decide) (by decide) hk1 hF hP1 hD1
  exact kk u hw H1 locs1 ls hP2 hD2 hS1 hl
end LC
end
section
/-! THE LAW's LOOP (the cases by program, prog/gen_law in the notes) -/
def m4 (x : Int32) : Nat := x.toBitVec.toNat % 2 ^ 4
theorem m4_lt (x : Int32) : m4 x < 16 := Nat.mod_lt _ (by decide)
theorem and_m4 (x : Int32) : x &&& nI 15 = nI (m4 x) := pk_and x (m := nI 15) 4 (by decide)
theorem sub5 {L : Nat} (h : L < 5) : nI L - nI 5 < nI 0 := by
  have : L = 0 ∨ L = 1 ∨ L = 2 ∨ L = 3 ∨ L = 4 := by omega
  rcases this with rfl | rfl | rfl | rfl | rfl <;> decide
section LL
variable {D : va_G} {h1 h2 b L : Nat} {u1 u2 : XU} {K : XK} {xs : Nat → Int32}
/-- the law's machine at pc, i ints read -/
abbrev LAt (D : va_G) (h1 h2 b : Nat) (u1 u2 : XU) (K : XK) (pc i : Nat) (μ ν : XS) : Prop := XAt (LW D h1 h2 u1 u2) D K 4 pc [some (.ref b), some (.ref h1), some (.ref h2), some (.int (nI i))] [] (μ, ν)
theorem case_require (C : XOk D (lT D h1 h2 u1 u2) K cL_law 4 "ActionPlannerLaw" room_1) (hX : SX K b L xs) (hL : L ≤ 320) {i : Nat} (hi : i + 5 ≤ L) {μ ν : XS} (hv : LV μ ν) (next : ∀ μ' ν' : XS, LV μ' ν' → LAt D h1 h2 b u1 u2 K 378 i μ' ν') : LAt D h1 h2 b u1 u2 K 96 i μ ν := by
  refine x_aload_n C dL_law_96 rfl ?_
  refine x_aload_n C dL_law_97 rfl ?_
  refine x_iload_n C dL_law_98 rfl ?_
  refine x_iconst C (nI 1) dL_law_99 (by decide) ?_
  refine x_iadd C dL_law_100 (nI_add _ _) ?_
  refine x_sld C hX dL_law_101 (by omega) hL ?_
  refine x_aload_n C dL_law_102 rfl ?_
  refine x_iload_n C dL_law_103 rfl ?_
  refine x_iconst C (nI 2) dL_law_104 (by decide) ?_
  refine x_iadd C dL_law_105 (nI_add _ _) ?_
  refine x_sld C hX dL_law_106 (by omega) hL ?_
  refine x_aload_n C dL_law_107 rfl ?_
  refine x_iload_n C dL_law_108 rfl ?_
  refine x_iconst C (nI 3) dL_law_109 (by decide) ?_
  refine x_iadd C dL_law_110 (nI_add _ _) ?_
  refine x_sld C hX dL_law_111 (by omega) hL ?_
  refine x_callPi C (metP_require (kL K) (D, h1, u1) μ (xs (i + 1)) (xs (i + 2)) (xs (i + 3)) hv.1) clp_require rfl (by decide) ⟨rfl, rfl⟩ (Nat.le_of_ble_eq_true rfl) rfl dL_law_112 (fun r1 μ2 q1 => ?_)
  refine x_aload_n C dL_law_115 rfl ?_
  refine x_aload_n C dL_law_116 rfl ?_
  refine x_iload_n C dL_law_117 rfl ?_
  refine x_iconst C (nI 1) dL_law_118 (by decide) ?_
  refine x_iadd C dL_law_119 (nI_add _ _) ?_
  refine x_sld C hX dL_law_120 (by omega) hL ?_
  refine x_aload_n C dL_law_121 rfl ?_
  refine x_iload_n C dL_law_122 rfl ?_
  refine x_iconst C (nI 2) dL_law_123 (by decide) ?_
  refine x_iadd C dL_law_124 (nI_add _ _) ?_
  refine x_sld C hX dL_law_125 (by omega) hL ?_
  refine x_aload_n C dL_law_126 rfl ?_
  refine x_iload_n C dL_law_127 rfl ?_
  refine x_iconst C (nI 3) dL_law_128 (by decide) ?_
  refine x_iadd C dL_law_129 (nI_add _ _) ?_
  refine x_sld C hX dL_law_130 (by omega) hL ?_
  refine x_callMi C (metM_require (kL K) (D, h2, u2) ν (xs (i + 1)) (xs (i + 2)) (xs (i + 3)) hv.m.1) clm_require rfl (by decide) ⟨rfl, rfl⟩ (Nat.le_of_ble_eq_true rfl) rfl dL_law_131 (fun r2 ν2 q2 => ?_)
  obtain ⟨er, hw⟩ := law_require hv q1 q2
  refine x_ic_eq C 378 dL_law_134 (by decide) (fun _ => next μ2 ν2 hw) (fun h => absurd er h)
theorem case_effect (C : XOk D (lT D h1 h2 u1 u2) K cL_law 4 "ActionPlannerLaw" room_1) (hX : SX K b L xs) (hL : L ≤ 320) {i : Nat} (hi : i + 5 ≤ L) {μ ν : XS} (hv : LV μ ν) (next : ∀ μ' ν' : XS, LV μ' ν' → LAt D h1 h2 b u1 u2 K 378 i μ' ν') : LAt D h1 h2 b u1 u2 K 139 i μ ν := by
  refine x_aload_n C dL_law_139 rfl ?_
  refine x_aload_n C dL_law_140 rfl ?_
  refine x_iload_n C dL_law_141 rfl ?_
  refine x_iconst C (nI 1) dL_law_142 (by decide) ?_
  refine x_iadd C dL_law_143 (nI_add _ _) ?_
  refine x_sld C hX dL_law_144 (by omega) hL ?_
  refine x_aload_n C dL_law_145 rfl ?_
  refine x_iload_n C dL_law_146 rfl ?_
  refine x_iconst C (nI 2) dL_law_147 (by decide) ?_
  refine x_iadd C dL_law_148 (nI_add _ _) ?_
  refine x_sld C hX dL_law_149 (by omega) hL ?_
  refine x_aload_n C dL_law_150 rfl ?_
  refine x_iload_n C dL_law_151 rfl ?_
  refine x_iconst C (nI 3) dL_law_152 (by decide) ?_
  refine x_iadd C dL_law_153 (nI_add _ _) ?_
  refine x_sld C hX dL_law_154 (by omega) hL ?_
  refine x_aload_n C dL_law_155 rfl ?_
  refine x_iload_n C dL_law_156 rfl ?_
  refine x_iconst C (nI 4) dL_law_157 (by decide) ?_
  refine x_iadd C dL_law_158 (nI_add _ _) ?_
  refine x_sld C hX dL_law_159 (by omega) hL ?_
  refine x_callPi C (metP_effect (kL K) (D, h1, u1) μ (xs (i + 1)) (xs (i + 2)) (xs (i + 3)) (xs (i + 4)) hv.1) clp_effect rfl (by decide) ⟨rfl, rfl⟩ (Nat.le_of_ble_eq_true rfl) rfl dL_law_160 (fun r1 μ2 q1 => ?_)
  refine x_aload_n C dL_law_163 rfl ?_
  refine x_aload_n C dL_law_164 rfl ?_
  refine x_iload_n C dL_law_165 rfl ?_
  refine x_iconst C (nI 1) dL_law_166 (by decide) ?_
  refine x_iadd C dL_law_167 (nI_add _ _) ?_
  refine x_sld C hX dL_law_168 (by omega) hL ?_
  refine x_aload_n C dL_law_169 rfl ?_
  refine x_iload_n C dL_law_170 rfl ?_
  refine x_iconst C (nI 2) dL_law_171 (by decide) ?_
  refine x_iadd C dL_law_172 (nI_add _ _) ?_
  refine x_sld C hX dL_law_173 (by omega) hL ?_
  refine x_aload_n C dL_law_174 rfl ?_
  refine x_iload_n C dL_law_175 rfl ?_
  refine x_iconst C (nI 3) dL_law_176 (by decide) ?_
  refine x_iadd C dL_law_177 (nI_add _ _) ?_
  refine x_sld C hX dL_law_178 (by omega) hL ?_
  refine x_aload_n C dL_law_179 rfl ?_
  refine x_iload_n C dL_law_180 rfl ?_
  refine x_iconst C (nI 4) dL_law_181 (by decide) ?_
  refine x_iadd C dL_law_182 (nI_add _ _) ?_
  refine x_sld C hX dL_law_183 (by omega) hL ?_
  refine x_callMi C (metM_effect (kL K) (D, h2, u2) ν (xs (i + 1)) (xs (i + 2)) (xs (i + 3)) (xs (i + 4)) hv.m.1) clm_effect rfl (by decide) ⟨rfl, rfl⟩ (Nat.le_of_ble_eq_true rfl) rfl dL_law_184 (fun r2 ν2 q2 => ?_)
  obtain ⟨er, hw⟩ := law_mod (f := fun P a => effP P a (m8 (xs (i + 2))) (m8 (xs (i + 3))) (cl50 (xs (i + 4)))) hv q1 q2
  refine x_ic_eq C 378 dL_law_187 (by decide) (fun _ => next μ2 ν2 hw) (fun h => absurd er h)
theorem case_forget (C : XOk D (lT D h1 h2 u1 u2) K cL_law 4 "ActionPlannerLaw" room_1) (hX : SX K b L xs) (hL : L ≤ 320) {i : Nat} (hi : i + 5 ≤ L) {μ ν : XS} (hv : LV μ ν) (next : ∀ μ' ν' : XS, LV μ' ν' → LAt D h1 h2 b u1 u2 K 378 i μ' ν') : LAt D h1 h2 b u1 u2 K 192 i μ ν := by
  refine x_aload_n C dL_law_192 rfl ?_
  refine x_aload_n C dL_law_193 rfl ?_
  refine x_iload_n C dL_law_194 rfl ?_
  refine x_iconst C (nI 1) dL_law_195 (by decide) ?_
  refine x_iadd C dL_law_196 (nI_add _ _) ?_
  refine x_sld C hX dL_law_197 (by omega) hL ?_
  refine x_callPi C (metP_forget (kL K) (D, h1, u1) μ (xs (i + 1)) hv.1) clp_forget rfl (by decide) ⟨rfl, rfl⟩ (Nat.le_of_ble_eq_true rfl) rfl dL_law_198 (fun r1 μ2 q1 => ?_)
  refine x_aload_n C dL_law_201 rfl ?_
  refine x_aload_n C dL_law_202 rfl ?_
  refine x_iload_n C dL_law_203 rfl ?_
  refine x_iconst C (nI 1) dL_law_204 (by decide) ?_
  refine x_iadd C dL_law_205 (nI_add _ _) ?_
  refine x_sld C hX dL_law_206 (by omega) hL ?_
  refine x_callMi C (metM_forget (kL K) (D, h2, u2) ν (xs (i + 1)) hv.m.1) clm_forget rfl (by decide) ⟨rfl, rfl⟩ (Nat.le_of_ble_eq_true rfl) rfl dL_law_207 (fun r2 ν2 q2 => ?_)
  obtain ⟨er, hw⟩ := law_mod (f := fgtP) hv q1 q2
  refine x_ic_eq C 378 dL_law_210 (by decide) (fun _ => next μ2 ν2 hw) (fun h => absurd er h)
theorem case_want (C : XOk D (lT D h1 h2 u1 u2) K cL_law 4 "ActionPlannerLaw" room_1) (hX : SX K b L xs) (hL : L ≤ 320) {i : Nat} (hi : i + 5 ≤ L) {μ ν : XS} (hv : LV μ ν) (next : ∀ μ' ν' : XS, LV μ' ν' → LAt D h1 h2 b u1 u2 K 378 i μ' ν') : LAt D h1 h2 b u1 u2 K 215 i μ ν := by
  refine x_aload_n C dL_law_215 rfl ?_
  refine x_aload_n C dL_law_216 rfl ?_
  refine x_iload_n C dL_law_217 rfl ?_
  refine x_iconst C (nI 1) dL_law_218 (by decide) ?_
  refine x_iadd C dL_law_219 (nI_add _ _) ?_
  refine x_sld C hX dL_law_220 (by omega) hL ?_
  refine x_aload_n C dL_law_221 rfl ?_
  refine x_iload_n C dL_law_222 rfl ?_
  refine x_iconst C (nI 2) dL_law_223 (by decide) ?_
  refine x_iadd C dL_law_224 (nI_add _ _) ?_
  refine x_sld C hX dL_law_225 (by omega) hL ?_
  refine x_callPv C (metP_want (kL K) (D, h1, u1) μ (xs (i + 1)) (xs (i + 2)) hv.1) clp_want rfl (by decide) ⟨rfl, rfl⟩ (Nat.le_of_ble_eq_true rfl) rfl dL_law_226 (fun μ2 q1 => ?_)
  refine x_aload_n C dL_law_229 rfl ?_
  refine x_aload_n C dL_law_230 rfl ?_
  refine x_iload_n C dL_law_231 rfl ?_
  refine x_iconst C (nI 1) dL_law_232 (by decide) ?_
  refine x_iadd C dL_law_233 (nI_add _ _) ?_
  refine x_sld C hX dL_law_234 (by omega) hL ?_
  refine x_aload_n C dL_law_235 rfl ?_
  refine x_iload_n C dL_law_236 rfl ?_
  refine x_iconst C (nI 2) dL_law_237 (by decide) ?_
  refine x_iadd C dL_law_238 (nI_add _ _) ?_
  refine x_sld C hX dL_law_239 (by omega) hL ?_
  refine x_callMv C (metM_want (kL K) (D, h2, u2) ν (xs (i + 1)) (xs (i + 2))) clm_want rfl (by decide) ⟨rfl, rfl⟩ (Nat.le_of_ble_eq_true rfl) rfl dL_law_240 (fun ν2 q2 => ?_)
  refine x_goto C 378 dL_law_243 (by decide) ?_
  exact next μ2 ν2 (law_want hv q1 q2)
theorem case_observe (C : XOk D (lT D h1 h2 u1 u2) K cL_law 4 "ActionPlannerLaw" room_1) (hX : SX K b L xs) (hL : L ≤ 320) {i : Nat} (hi : i + 5 ≤ L) {μ ν : XS} (hv : LV μ ν) (next : ∀ μ' ν' : XS, LV μ' ν' → LAt D h1 h2 b u1 u2 K 378 i μ' ν') : LAt D h1 h2 b u1 u2 K 246 i μ ν := by
  refine x_aload_n C dL_law_246 rfl ?_
  refine x_aload_n C dL_law_247 rfl ?_
  refine x_iload_n C dL_law_248 rfl ?_
  refine x_iconst C (nI 1) dL_law_249 (by decide) ?_
  refine x_iadd C dL_law_250 (nI_add _ _) ?_
  refine x_sld C hX dL_law_251 (by omega) hL ?_
  refine x_callPv C (metP_observe (kL K) (D, h1, u1) μ (xs (i + 1)) hv.1) clp_observe rfl (by decide) ⟨rfl, rfl⟩ (Nat.le_of_ble_eq_true rfl) rfl dL_law_252 (fun μ2 q1 => ?_)
  refine x_aload_n C dL_law_255 rfl ?_
  refine x_aload_n C dL_law_256 rfl ?_
  refine x_iload_n C dL_law_257 rfl ?_
  refine x_iconst C (nI 1) dL_law_258 (by decide) ?_
  refine x_iadd C dL_law_259 (nI_add _ _) ?_
  refine x_sld C hX dL_law_260 (by omega) hL ?_
  refine x_callMv C (metM_observe (kL K) (D, h2, u2) ν (xs (i + 1))) clm_observe rfl (by decide) ⟨rfl, rfl⟩ (Nat.le_of_ble_eq_true rfl) rfl dL_law_261 (fun ν2 q2 => ?_)
  refine x_goto C 378 dL_law_264 (by decide) ?_
  exact next μ2 ν2 (law_observe hv q1 q2)
theorem case_now (C : XOk D (lT D h1 h2 u1 u2) K cL_law 4 "ActionPlannerLaw" room_1) (hX : SX K b L xs) (hL : L ≤ 320) {i : Nat} (hi : i + 5 ≤ L) {μ ν : XS} (hv : LV μ ν) (next : ∀ μ' ν' : XS, LV μ' ν' → LAt D h1 h2 b u1 u2 K 378 i μ' ν') : LAt D h1 h2 b u1 u2 K 267 i μ ν := by
  refine x_aload_n C dL_law_267 rfl ?_
  refine x_callPi C (metP_now (kL K) (D, h1, u1) μ) clp_now rfl (by decide) ⟨rfl, rfl⟩ (Nat.le_of_ble_eq_true rfl) rfl dL_law_268 (fun r1 μ2 q1 => ?_)
  refine x_aload_n C dL_law_271 rfl ?_
  refine x_callMi C (metM_now (kL K) (D, h2, u2) ν) clm_now rfl (by decide) ⟨rfl, rfl⟩ (Nat.le_of_ble_eq_true rfl) rfl dL_law_272 (fun r2 ν2 q2 => ?_)
  obtain ⟨er, hw⟩ := law_now hv q1 q2
  refine x_ic_eq C 378 dL_law_275 (by decide) (fun _ => next μ2 ν2 hw) (fun h => absurd er h)
theorem case_price (C : XOk D (lT D h1 h2 u1 u2) K cL_law 4 "ActionPlannerLaw" room_1) (hX : SX K b L xs) (hL : L ≤ 320) {i : Nat} (hi : i + 5 ≤ L) {μ ν : XS} (hv : LV μ ν) (next : ∀ μ' ν' : XS, LV μ' ν' → LAt D h1 h2 b u1 u2 K 378 i μ' ν') : LAt D h1 h2 b u1 u2 K 280 i μ ν := by
  refine x_aload_n C dL_law_280 rfl ?_
  refine x_callPi C (metP_price (kL K) (D, h1, u1) μ  hv.1) clp_price rfl (by decide) ⟨rfl, rfl⟩ (Nat.le_of_ble_eq_true rfl) rfl dL_law_281 (fun r1 μ2 q1 => ?_)
  refine x_aload_n C dL_law_284 rfl ?_
  refine x_callMi C (metM_price (kL K) (D, h2, u2) ν  hv.m) clm_price rfl (by decide) ⟨rfl, rfl⟩ (Nat.le_of_ble_eq_true rfl) rfl dL_law_285 (fun r2 ν2 q2 => ?_)
  obtain ⟨er, hw⟩ := law_price hv q1 q2
  refine x_ic_eq C 378 dL_law_288 (by decide) (fun _ => next μ2 ν2 hw) (fun h => absurd er h)
theorem case_steps (C : XOk D (lT D h1 h2 u1 u2) K cL_law 4 "ActionPlannerLaw" room_1) (hX : SX K b L xs) (hL : L ≤ 320) {i : Nat} (hi : i + 5 ≤ L) {μ ν : XS} (hv : LV μ ν) (next : ∀ μ' ν' : XS, LV μ' ν' → LAt D h1 h2 b u1 u2 K 378 i μ' ν') : LAt D h1 h2 b u1 u2 K 293 i μ ν := by
  refine x_aload_n C dL_law_293 rfl ?_
  refine x_callPi C (metP_steps (kL K) (D, h1, u1) μ  hv.1) clp_steps rfl (by decide) ⟨rfl, rfl⟩ (Nat.le_of_ble_eq_true rfl) rfl dL_law_294 (fun r1 μ2 q1 => ?_)
  refine x_aload_n C dL_law_297 rfl ?_
  refine x_callMi C (metM_steps (kL K) (D, h2, u2) ν  hv.m) clm_steps rfl (by decide) ⟨rfl, rfl⟩ (Nat.le_of_ble_eq_true rfl) rfl dL_law_298 (fun r2 ν2 q2 => ?_)
  obtain ⟨er, hw⟩ := law_steps hv q1 q2
  refine x_ic_eq C 378 dL_law_301 (by decide) (fun _ => next μ2 ν2 hw) (fun h => absurd er h)
theorem case_planned (C : XOk D (lT D h1 h2 u1 u2) K cL_law 4 "ActionPlannerLaw" room_1) (hX : SX K b L xs) (hL : L ≤ 320) {i : Nat} (hi : i + 5 ≤ L) {μ ν : XS} (hv : LV μ ν) (next : ∀ μ' ν' : XS, LV μ' ν' → LAt D h1 h2 b u1 u2 K 378 i μ' ν') : LAt D h1 h2 b u1 u2 K 306 i μ ν := by
  refine x_aload_n C dL_law_306 rfl ?_
  refine x_aload_n C dL_law_307 rfl ?_
  refine x_iload_n C dL_law_308 rfl ?_
  refine x_iconst C (nI 1) dL_law_309 (by decide) ?_
  refine x_iadd C dL_law_310 (nI_add _ _) ?_
  refine x_sld C hX dL_law_311 (by omega) hL ?_
  refine x_callPi C (metP_planned (kL K) (D, h1, u1) μ (xs (i + 1)) hv.1) clp_planned rfl (by decide) ⟨rfl, rfl⟩ (Nat.le_of_ble_eq_true rfl) rfl dL_law_312 (fun r1 μ2 q1 => ?_)
  refine x_aload_n C dL_law_315 rfl ?_
  refine x_aload_n C dL_law_316 rfl ?_
  refine x_iload_n C dL_law_317 rfl ?_
  refine x_iconst C (nI 1) dL_law_318 (by decide) ?_
  refine x_iadd C dL_law_319 (nI_add _ _) ?_
  refine x_sld C hX dL_law_320 (by omega) hL ?_
  refine x_callMi C (metM_planned (kL K) (D, h2, u2) ν (xs (i + 1)) hv.m) clm_planned rfl (by decide) ⟨rfl, rfl⟩ (Nat.le_of_ble_eq_true rfl) rfl dL_law_321 (fun r2 ν2 q2 => ?_)
  obtain ⟨er, hw⟩ := law_planned hv q1 q2
  refine x_ic_eq C 378 dL_law_324 (by decide) (fun _ => next μ2 ν2 hw) (fun h => absurd er h)
theorem case_advance (C : XOk D (lT D h1 h2 u1 u2) K cL_law 4 "ActionPlannerLaw" room_1) (hX : SX K b L xs) (hL : L ≤ 320) {i : Nat} (hi : i + 5 ≤ L) {μ ν : XS} (hv : LV μ ν) (next : ∀ μ' ν' : XS, LV μ' ν' → LAt D h1 h2 b u1 u2 K 378 i μ' ν') : LAt D h1 h2 b u1 u2 K 329 i μ ν := by
  refine x_aload_n C dL_law_329 rfl ?_
  refine x_callPi C (metP_advance (kL K) (D, h1, u1) μ  hv.1) clp_advance rfl (by decide) ⟨rfl, rfl⟩ (Nat.le_of_ble_eq_true rfl) rfl dL_law_330 (fun r1 μ2 q1 => ?_)
  refine x_aload_n C dL_law_333 rfl ?_
  refine x_callMi C (metM_advance (kL K) (D, h2, u2) ν  hv.m) clm_advance rfl (by decide) ⟨rfl, rfl⟩ (Nat.le_of_ble_eq_true rfl) rfl dL_law_334 (fun r2 ν2 q2 => ?_)
  obtain ⟨er, hw⟩ := law_advance hv q1 q2
  refine x_ic_eq C 378 dL_law_337 (by decide) (fun _ => next μ2 ν2 hw) (fun h => absurd er h)
theorem case_act (C : XOk D (lT D h1 h2 u1 u2) K cL_law 4 "ActionPlannerLaw" room_1) (hX : SX K b L xs) (hL : L ≤ 320) {i : Nat} (hi : i + 5 ≤ L) {μ ν : XS} (hv : LV μ ν) (next : ∀ μ' ν' : XS, LV μ' ν' → LAt D h1 h2 b u1 u2 K 378 i μ' ν') : LAt D h1 h2 b u1 u2 K 342 i μ ν := by
  refine x_aload_n C dL_law_342 rfl ?_
  refine x_aload_n C dL_law_343 rfl ?_
  refine x_iload_n C dL_law_344 rfl ?_
  refine x_iconst C (nI 1) dL_law_345 (by decide) ?_
  refine x_iadd C dL_law_346 (nI_add _ _) ?_
  refine x_sld C hX dL_law_347 (by omega) hL ?_
  refine x_callPi C (metP_act (kL K) (D, h1, u1) μ (xs (i + 1)) hv.1) clp_act rfl (by decide) ⟨rfl, rfl⟩ (Nat.le_of_ble_eq_true rfl) rfl dL_law_348 (fun r1 μ2 q1 => ?_)
  refine x_aload_n C dL_law_351 rfl ?_
  refine x_aload_n C dL_law_352 rfl ?_
  refine x_iload_n C dL_law_353 rfl ?_
  refine x_iconst C (nI 1) dL_law_354 (by decide) ?_
  refine x_iadd C dL_law_355 (nI_add _ _) ?_
  refine x_sld C hX dL_law_356 (by omega) hL ?_
  refine x_callMi C (metM_act (kL K) (D, h2, u2) ν (xs (i + 1)) hv.m) clm_act rfl (by decide) ⟨rfl, rfl⟩ (Nat.le_of_ble_eq_true rfl) rfl dL_law_357 (fun r2 ν2 q2 => ?_)
  obtain ⟨er, hw⟩ := law_act hv q1 q2
  refine x_ic_eq C 378 dL_law_360 (by decide) (fun _ => next μ2 ν2 hw) (fun h => absurd er h)
theorem case_reachable (C : XOk D (lT D h1 h2 u1 u2) K cL_law 4 "ActionPlannerLaw" room_1) (hX : SX K b L xs) (hL : L ≤ 320) {i : Nat} (hi : i + 5 ≤ L) {μ ν : XS} (hv : LV μ ν) (next : ∀ μ' ν' : XS, LV μ' ν' → LAt D h1 h2 b u1 u2 K 378 i μ' ν') : LAt D h1 h2 b u1 u2 K 365 i μ ν := by
  refine x_aload_n C dL_law_365 rfl ?_
  refine x_callPi C (metP_reachable (kL K) (D, h1, u1) μ  hv.1) clp_reachable rfl (by decide) ⟨rfl, rfl⟩ (Nat.le_of_ble_eq_true rfl) rfl dL_law_366 (fun r1 μ2 q1 => ?_)
  refine x_aload_n C dL_law_369 rfl ?_
  refine x_callMi C (metM_reachable (kL K) (D, h2, u2) ν  hv.m) clm_reachable rfl (by decide) ⟨rfl, rfl⟩ (Nat.le_of_ble_eq_true rfl) rfl dL_law_370 (fun r2 ν2 q2 => ?_)
  obtain ⟨er, hw⟩ := law_reachable hv q1 q2
  refine x_ic_eq C 378 dL_law_373 (by decide) (fun _ => next μ2 ν2 hw) (fun h => absurd er h)
theorem law_loop (C : XOk D (lT D h1 h2 u1 u2) K cL_law 4 "ActionPlannerLaw" room_1) (hX : SX K b L xs) (hL : L ≤ 320)
    (hend : ∀ (ll : List (Option Value)) (z : XS × XS), XAt (LW D h1 h2 u1 u2) D K 4 385 ll [.int 1] z) : ∀ (n i : Nat) (μ ν : XS), L < i + n → i ≤ 320 → LV μ ν → LAt D h1 h2 b u1 u2 K 18 i μ ν := by
  have out : ∀ (i : Nat) (μ ν : XS), LAt D h1 h2 b u1 u2 K 384 i μ ν := by
    intro i μ ν
    refine x_iconst C 1 dL_law_384 (by decide) ?_
    exact hend _ _
  intro n
  induction n with
  | zero =>
    intro i μ ν hn hi hv
    refine x_iload_n C dL_law_18 rfl ?_
    refine x_aload_n C dL_law_19 rfl ?_
    refine x_slen C hX dL_law_20 ?_
    refine x_iconst C (nI 5) dL_law_21 (by decide) ?_
    by_cases h5 : 5 ≤ L
    · refine x_isub C dL_law_22 (pk_sub (by omega)) ?_
      refine xn_ic_gt C 384 dL_law_23 (by decide) (by omega) (by omega) (fun _ => out i μ ν) (fun h => by omega)
    · refine x_isub (v := nI L - nI 5) C dL_law_22 rfl ?_
      refine x_ic_gt C 384 dL_law_23 (by decide) (fun _ => out i μ ν) (fun h => absurd ?_ h)
      have h1 := sub5 (L := L) (by omega)
      rw [Int32.lt_iff_toInt_lt] at h1 ⊢
      rw [nI_toInt (by omega)] at h1 ⊢
      omega
  | succ n ih =>
    intro i μ ν hn hi hv
    refine x_iload_n C dL_law_18 rfl ?_
    refine x_aload_n C dL_law_19 rfl ?_
    refine x_slen C hX dL_law_20 ?_
    refine x_iconst C (nI 5) dL_law_21 (by decide) ?_
    by_cases h5 : 5 ≤ L
    · refine x_isub C dL_law_22 (pk_sub (by omega)) ?_
      refine xn_ic_gt C 384 dL_law_23 (by decide) (by omega) (by omega) (fun _ => out i μ ν) (fun hle => ?_)
      have hi5 : i + 5 ≤ L := by omega
      have next : ∀ μ' ν' : XS, LV μ' ν' → LAt D h1 h2 b u1 u2 K 378 i μ' ν' := by
        intro μ' ν' hv'
        refine x_iinc (v := nI (i + 5)) C dL_law_378 rfl (by rw [show Int32.ofInt 5 = nI 5 by decide, nI_add]) (by decide) ?_
        refine x_goto C 18 dL_law_381 (by decide) ?_
        exact ih (i + 5) μ' ν' (by omega) (by omega) hv'
      refine x_aload_n C dL_law_26 rfl ?_
      refine x_iload_n C dL_law_27 rfl ?_
      refine x_sld C hX dL_law_28 (by omega) hL ?_
      refine x_bipush C (nI 15) dL_law_29 (by decide) ?_
      refine x_iand C dL_law_31 (and_m4 (xs i)) ?_
      have hj := m4_lt (xs i)
      generalize m4 (xs i) = j at *
      have hcs : j = 0 ∨ j = 1 ∨ j = 2 ∨ j = 3 ∨ j = 4 ∨ j = 5 ∨ j = 6 ∨ j = 7 ∨ j = 8 ∨ j = 9 ∨ j = 10 ∨ j = 11 ∨ 12 ≤ j := by omega
      rcases hcs with rfl | rfl | rfl | rfl | rfl | rfl | rfl | rfl | rfl | rfl | rfl | rfl | hge
      · refine x_tabIn C 64 96 dL_law_32 (by decide) (by decide) rfl (by decide) ?_
        exact case_require C hX hL hi5 hv next
      · refine x_tabIn C 107 139 dL_law_32 (by decide) (by decide) rfl (by decide) ?_
        exact case_effect C hX hL hi5 hv next
      · refine x_tabIn C 160 192 dL_law_32 (by decide) (by decide) rfl (by decide) ?_
        exact case_forget C hX hL hi5 hv next
      · refine x_tabIn C 183 215 dL_law_32 (by decide) (by decide) rfl (by decide) ?_
        exact case_want C hX hL hi5 hv next
      · refine x_tabIn C 214 246 dL_law_32 (by decide) (by decide) rfl (by decide) ?_
        exact case_observe C hX hL hi5 hv next
      · refine x_tabIn C 235 267 dL_law_32 (by decide) (by decide) rfl (by decide) ?_
        exact case_now C hX hL hi5 hv next
      · refine x_tabIn C 248 280 dL_law_32 (by decide) (by decide) rfl (by decide) ?_
        exact case_price C hX hL hi5 hv next
      · refine x_tabIn C 261 293 dL_law_32 (by decide) (by decide) rfl (by decide) ?_
        exact case_steps C hX hL hi5 hv next
      · refine x_tabIn C 274 306 dL_law_32 (by decide) (by decide) rfl (by decide) ?_
        exact case_planned C hX hL hi5 hv next
      · refine x_tabIn C 297 329 dL_law_32 (by decide) (by decide) rfl (by decide) ?_
        exact case_advance C hX hL hi5 hv next
      · refine x_tabIn C 310 342 dL_law_32 (by decide) (by decide) rfl (by decide) ?_
        exact case_act C hX hL hi5 hv next
      · refine x_tabIn C 333 365 dL_law_32 (by decide) (by decide) rfl (by decide) ?_
        exact case_reachable C hX hL hi5 hv next
      · refine x_tabOut C 378 dL_law_32 (Or.inr (by rw [nI_toInt (by omega)]; omega)) (by decide) ?_
        exact next μ ν hv
    · refine x_isub (v := nI L - nI 5) C dL_law_22 rfl ?_
      refine x_ic_gt C 384 dL_law_23 (by decide) (fun _ => out i μ ν) (fun h => absurd ?_ h)
      have h1 := sub5 (L := L) (by omega)
      rw [Int32.lt_iff_toInt_lt] at h1 ⊢
      rw [nI_toInt (by omega)] at h1 ⊢
      omega
end LL
end
section
/-! THE CLAIM OUT OF ONE WALK OF THE LAW'S BODY. Your part is whole_start (and what it stands on); all else here is the same for every law, but numbers. -/
def R_law : String := "ActionPlannerLaw"
def lw_P (b : Addr) (xs : List Int32) (args : Array Value) (s : State) : Prop := args = #[.ref b] ∧ s.IntsAt b xs ∧ xs.length ≤ 320 ∧ (Jvm.Cond.and given_1 narrow_1).before args s = true
def lw_Q (_ : Array Value) (s : State) (o : Outcome) (t : State) : Prop := o = .returned (some (.int 1)) ∧ Framed s o t [] 600000 7290000
def lw_Z (below : List Frame) (a : Array Value) (s : State) : State → Prop := fun t => ∃ o, t.status = .running ∧ Ended t below o ∧ lw_Q a s o t
/-- the law's own end, with 1 on the stack, nothing written that was there before, its room as the claim has it -/
theorem lw_ret {p : Program} {l : Launch} {e : Env} {s : State} {m : MethodId} {below : List Frame} {meth : Method} {c : Code} {b : Nat} (hx : p.tables.exec = Jvm.exec) (hb : c.code = code) (hr : meth.sig.returnType = ret) (hlocks : meth.locks = false) {pc : Nat} {H : Heap} {ls : Array Slot} (hdg : decode code pc = .ok (.ireturn, 1)) : W p l e room_1 s m #[Value.ref b] below meth c H [] 600000 7290000 (lw_Z below #[Value.ref b] s) (F0 m pc ls [.int 1]) := by
  intro T hT X
  obtain ⟨fs, hret, hrun, hended, hW, hframe⟩ := X.leave (v := some (.int 1)) (hlocks := hlocks) (fun h => by rw [hr] at h; cases h)
  have hmeth' : T.vm.method? m = some meth := X.method'
  refine ⟨T.setFrames fs, ?_, .returned (some (.int 1)), hrun, hended, rfl, ⟨_, rfl⟩, hW, hframe⟩
  jvm_step X.here [X.here.top, hx, hb, hdg, hmeth', hr, ret, narrow_b1]
  (try refine ⟨rfl, ?_⟩); (try refine ⟨rfl, ?_⟩)
  first | (intro acts; rw [hret _ acts rfl rfl rfl]) | rw [hret _ _ rfl rfl rfl]
  exact Steps.refl _
/-- what holds at the law's entry: the machine, the code, the tables' words (any of lw_tbl by 'hts w (by decide +kernel)'), the script of L ints xs at the cell b, what the Statement gives of the start (any of its parts by flat_of_before) -/
def lw_At (p : Program) (s : State) (m : MethodId) (meth : Method) (c : Code) (b L : Nat) (xs : Nat → Int32) : Prop :=
  p.tables.exec = Jvm.exec ∧ c.code = code ∧ meth.sig.returnType = ret ∧ c.maxLocals = 4 ∧ s.vm.findClass R_law = some m.cls ∧ (∀ w ∈ lw_tbl, w.before #[Value.ref b] s = true) ∧ va_X b L xs s s.heap ∧ b < s.heap.size ∧ meth.locks = false ∧ (Jvm.Cond.and given_1 narrow_1).before #[Value.ref b] s = true
set_option maxHeartbeats 4000000 in
set_option maxRecDepth 100000 in
/-- THE LAW, from its entry -/
theorem whole_start {p : Program} {e : Env} {s : State} {m : MethodId} {below : List Frame} {meth : Method} {c : Code} (l : Launch) {b L : Nat} {xs : Nat → Int32} (hL : L ≤ 320) (C0 : lw_At p s m meth c b L xs) : W p l e room_1 s m #[Value.ref b] below meth c s.heap [] 0 0 (lw_Z below #[Value.ref b] s) (entryFrame m ([Value.ref b] : List Value).toArray 4) := by
  obtain ⟨hx, hb, hr, hml, hown, hts0, hX, hbl, hlocks, hgv⟩ := id C0
  have hts : ∀ w ∈ lw_all, w.before #[Value.ref b] s = true := fun w h => hts0 w (lw_all_tbl h)
  have hA : ∀ q : Nat, s.heap.size ≤ q → (fun q : Nat => s.heap.size ≤ q) q := fun _ h => h
  have hbA : ¬ (fun q : Nat => s.heap.size ≤ q) b := Nat.not_le.mpr hbl
  obtain ⟨c0, iS0, hKn0⟩ := u_known (C := RX0) (T := TX0) (N := 24) (n := 24) hts in_X0 (hts _ q31)
  obtain ⟨c1, iS1, hKn1⟩ := u_known (C := RX1) (T := TX1) (N := 11) (n := 11) hts in_X1 (hts _ q243)
  obtain ⟨D, hKc⟩ : ∃ D : va_G, ∀ (k : Nat) (q : vw_C), vwCl[k]? = some q → u_Kn s q.1 q.2.1 q.2.2 (D.1 k) (D.2 k) := by
    refine ⟨(fun k => if k = 0 then c0 else c1, fun k => if k = 0 then iS0 else iS1), ?_⟩
    intro k q hq
    match k, hq with
    | 0, hq => cases hq; exact hKn0
    | 1, hq => cases hq; exact hKn1
    | k + 2, hq => simp [vwCl] at hq
  have hS : va_S (fun q : Nat => s.heap.size ≤ q) s.heap s.heap [] := va_S.rf
  have hK : va_K D vwCl [] s := ⟨hKc, fun k q h => by simp at h⟩
  have hP : va_P D vwCl [] s.heap := fun k q h => by simp at h
  have hD : va_D (fun q : Nat => s.heap.size ≤ q) [] := ⟨fun i j p q h => by simp at h, fun k q h => by simp at h⟩
  have hl := XL.entry [.ref b] (n := 4) (cat_of rfl) (Nat.le_of_ble_eq_true rfl)
  rw [lg_entry_eq]
  generalize (lg_sl ([.ref b]) ++ List.replicate (4 - (lg_sl ([.ref b])).length) Slot.unset).toArray = ls at hl ⊢
  have hl : XL ls 4 [some (.ref b), none, none, none] := hl
  refine va_new (ci := 0) (fs := [.null, .null, .null, .null, .null, .null, .int (nI 0), .int (nI 0), .int (nI 0), .int (nI 0), .int (nI 0), .int (nI 0), .int (nI 0), .int (nI 0), .null, .null, .null, .null, .int (nI 0), .null, .int (nI 0), .null, .null, .null]) (C := RX0) (T := TX0) (N := 24) hx hb hts in_X0 tyX0 tyX0_ok hown (hts _ q30) (hts _ q31) (hts _ q28) hK hP hD hS hA rfl (fun j hj => by rcases (show j = 0 ∨ j = 1 ∨ j = 2 ∨ j = 3 ∨ j = 4 ∨ j = 5 ∨ j = 6 ∨ j = 7 ∨ j = 8 ∨ j = 9 ∨ j = 10 ∨ j = 11 ∨ j = 12 ∨ j = 13 ∨ j = 14 ∨ j = 15 ∨ j = 16 ∨ j = 17 ∨ j = 18 ∨ j = 19 ∨ j = 20 ∨ j = 21 ∨ j = 22 ∨ j = 23 by omega) with rfl | rfl | rfl | rfl | rfl | rfl | rfl | rfl | rfl | rfl | rfl | rfl | rfl | rfl | rfl | rfl | rfl | rfl | rfl | rfl | rfl | rfl | rfl | rfl <;> rfl) (Nat.le_of_ble_eq_true rfl) (Nat.le_of_ble_eq_true rfl) dL_law_0 (fun h1 H hP hD hS => ?_)
  have hP : va_P D vwCl (w0P h1) H := hP
  have hD : va_D (fun q : Nat => s.heap.size ≤ q) (w0P h1) := hD
  refine W.widen (k := 1) (n := 24) (Nat.le_of_ble_eq_true rfl) (Nat.le_of_ble_eq_true rfl) ?_
  refine lv_dup hx hb dL_law_3 rfl ?_
  have hFc := va_free (wc := w0P h1) hD hS hA [0] rfl
  refine va_callv (va_runI (As := []) (rest := [.ref h1]) ⟨hx, hb, hml, hown, hts⟩ (metP_init l D h1 H.size) (cwI 0 hts (lw_meth q34) rfl rfl rfl (hts _ q28) (hts _ q32) (hts _ q33) rfl (by decide +kernel) ⟨Nat.le_of_ble_eq_true rfl, Nat.le_of_ble_eq_true rfl⟩) ⟨fun a U g mk q => by obtain ⟨q0, q1, qP, qK, qD⟩ := q; exact ⟨q0, q1, qP, va_K.moved (u := U) (U := U.calling g mk a) (Vm.Alike.refl U.vm) qK, qD⟩, fun U hU hW => ⟨rfl, by rw [hU], by rw [hU]; exact hP, va_K.moved hW.alike hK, hD.weaken (fun _ _ _ _ => trivial)⟩⟩ rfl rfl hl.1 rfl (lv_room (Nat.le_of_ble_eq_true rfl)) dL_law_4 ⟨Nat.le_of_ble_eq_true rfl, Nat.le_of_ble_eq_true rfl⟩) hS (fun q _ h => hFc q h) hFc (fun u1 t H1 locs ht hvm hw hB hz1 hk1 hS => ?_)
  obtain ⟨hP1, hK1, hD1⟩ := hB
  rw [ht] at hP1
  have hK := va_K.moved hvm.symm hK1
  have hP := hP1
  have hD := hD1.weaken (fun _ q _ h => hFc q.1 h)
  generalize H1 = H at hP hS ⊢
  clear hP1 hD1 hK1 hFc hw hz1 hk1 ht hvm
  refine W.widen (k := 15) (n := 1636) (Nat.le_of_ble_eq_true rfl) (Nat.le_of_ble_eq_true rfl) ?_
  refine lv_astore_n (i := 1) hx hb dL_law_7 rfl hl.has (by decide) rfl (fun ls' hl' => ?_)
  have hl := hl.store (by decide) rfl hl'
  generalize ls' = ls at hl ⊢
  have hl : XL ls 4 [some (.ref b), some (.ref h1), none, none] := hl
  refine va_new (ci := 1) (fs := [.int (nI 0), .int (nI 0), .int (nI 0), .null, .null, .null, .null, .null, .null, .null, .null]) (C := RX1) (T := TX1) (N := 11) hx hb hts in_X1 tyX1 tyX1_ok hown (hts _ q242) (hts _ q243) (hts _ q29) hK hP hD hS hA rfl (fun j hj => by rcases (show j = 0 ∨ j = 1 ∨ j = 2 ∨ j = 3 ∨ j = 4 ∨ j = 5 ∨ j = 6 ∨ j = 7 ∨ j = 8 ∨ j = 9 ∨ j = 10 by omega) with rfl | rfl | rfl | rfl | rfl | rfl | rfl | rfl | rfl | rfl | rfl <;> rfl) (Nat.le_of_ble_eq_true rfl) (Nat.le_of_ble_eq_true rfl) dL_law_8 (fun h2 H hP hD hS => ?_)
  refine W.widen (k := 16) (n := 1647) (Nat.le_of_ble_eq_true rfl) (Nat.le_of_ble_eq_true rfl) ?_
  refine lv_dup hx hb dL_law_11 rfl ?_
  have hPc : va_P D vwCl (w0M h2) H := hP.sub [15] rfl
  have hDc : va_D (fun q : Nat => s.heap.size ≤ q) (w0M h2) := hD.sub [15] (by decide) rfl
  have hKc := hK.sub (tys' := []) [] rfl
  have hFc := va_free (wc := w0M h2) hD hS hA [15] rfl
  refine va_callv (va_runI (As := []) (rest := [.ref h2]) ⟨hx, hb, hml, hown, hts⟩ (metM_init l D h2 H.size) (cwI 0 hts (lw_meth q246) rfl rfl rfl (hts _ q29) (hts _ q244) (hts _ q245) rfl (by decide +kernel) ⟨Nat.le_of_ble_eq_true rfl, Nat.le_of_ble_eq_true rfl⟩) ⟨fun a U g mk q => by obtain ⟨q0, q1, qP, qK, qD⟩ := q; exact ⟨q0, q1, qP, va_K.moved (u := U) (U := U.calling g mk a) (Vm.Alike.refl U.vm) qK, qD⟩, fun U hU hW => ⟨rfl, by rw [hU], by rw [hU]; exact hPc, va_K.moved hW.alike hKc, hDc.weaken (fun _ _ _ _ => trivial)⟩⟩ rfl rfl hl.1 rfl (lv_room (Nat.le_of_ble_eq_true rfl)) dL_law_12 ⟨Nat.le_of_ble_eq_true rfl, Nat.le_of_ble_eq_true rfl⟩) hS (fun q _ h => hFc q h) hFc (fun u2 t H1 locs ht hvm hw hB hz1 hk1 hS => ?_)
  obtain ⟨hP1, hK1, hD1⟩ := hB
  rw [ht] at hP1
  have hK2 := va_K.moved hvm.symm hK1
  obtain ⟨hP, hD⟩ := va_join (wr := xw (D, h1, u1) μ0) (w1 := yw (D, h2, u2) ν0) hP hD [15] [0, 1, 2, 3, 4, 5, 6, 7, 8, 9, 10, 11, 12, 13, 14] rfl rfl (by decide) (by decide) hk1 hFc hP1 hD1
  have hK := hK.app hK2
  refine W.widen (k := 600000) (n := 7290000) (Nat.le_of_ble_eq_true rfl) (Nat.le_of_ble_eq_true rfl) ?_
  refine lv_astore_n (i := 2) hx hb dL_law_15 rfl hl.has (by decide) rfl (fun ls' hl' => ?_)
  have hl := hl.store (by decide) rfl hl'
  generalize ls' = ls at hl ⊢
  have hl : XL ls 4 [some (.ref b), some (.ref h1), some (.ref h2), none] := hl
  refine lv_iconst (v := nI 0) hx hb dL_law_16 (by decide) ?_
  refine lv_istore_n (i := 3) hx hb dL_law_17 rfl hl.has (by decide) rfl (fun ls' hl' => ?_)
  have hl := hl.store (by decide) rfl hl'
  generalize ls' = ls at hl ⊢
  have hl : XL ls 4 [some (.ref b), some (.ref h1), some (.ref h2), some (.int (nI 0))] := hl
  exact law_loop (D := D) (h1 := h1) (h2 := h2) (b := b) (L := L) (u1 := u1) (u2 := u2) (xs := xs)
    (K := (p, l, e, room_1, s, m, #[Value.ref b], below, meth, c, 600000, 7290000, lw_Z below #[Value.ref b] s, fun q : Nat => s.heap.size ≤ q))
    ⟨hx, hb, hml, hown, hts, hK, hA, hlocks, rfl, Nat.le_refl 600000, Nat.le_refl 7290000⟩ ⟨hX, hbl, hbA⟩ hL
    (fun ll z H locs ls hP hD hS hl => va_forget hS.2.2 (lw_ret hx hb hr hlocks dL_law_385)) (L + 1) 0 μ0 ν0 (by omega) (by omega) law_start _ _ ls hP hD hS hl
end
section
set_option maxHeartbeats 4000000 in
theorem lw_walk (l : Launch) (b : Addr) (xs : List Int32) : MetFree l x (headSpec (Jvm.Cond.code x code maxLocals ret :: tables_1) room_1) (lw_P b xs) (fun _ _ _ _ _ => True) lw_Q := by
  refine MetFree.of_bodyS (code := code) (maxLocals := maxLocals) (ret := ret) (by decide) ?_ ?_
  · intro args s m h hn
    obtain ⟨meth, c, h1, h2, h3, h4, h5, h6, -, -⟩ := Cond.code_spec hn (atoms_spec (ws := Jvm.Cond.code x code maxLocals ret :: tables_1) h _ List.mem_cons_self)
    exact ⟨meth, c, h1, h2, h3, h4, h5, h6⟩
  · intro p e s m args below meth c s₁ B hml0 hP _
    obtain ⟨rfl, hx, hbd, hgv⟩ := hP
    obtain ⟨scr, harrAt, hlist, hof, hsmall⟩ := hx
    obtain ⟨hcb, hkn, -, -⟩ := State.arrayAt?_spec harrAt
    have hown : s.vm.findClass R_law = some m.cls := findClass_of_methodNamed B.named
    have hts0 : ∀ c ∈ (Jvm.Cond.code x code maxLocals ret :: tables_1), c.before #[Value.ref b] s = true := atoms_spec (ws := Jvm.Cond.code x code maxLocals ret :: tables_1) B.pre
    have hts : ∀ w ∈ lw_tbl, w.before #[Value.ref b] s = true := k2_hts_sels lw_privs (fun w hw => hts0 w (List.mem_cons_of_mem _ hw)) lw_privs_ok
    have hml : c.maxLocals = 4 := B.maxLocals_eq (hts0 _ List.mem_cons_self)
    have X₀ : Stand p l e room_1 s m #[Value.ref b] below meth c s₁ [] 0 0 := Stand.of_body B
    have hh0 : s₁.heap = s.heap := by rw [B.state]; rfl
    have hsz : scr.slots.size = xs.length := by rw [← Array.length_toList, hlist, List.length_map]
    have hval : ∀ j : Nat, j < xs.length → scr.slots[j]? = some (.int (xs.getD j 0)) := fun j hj => by
      rw [← Array.getElem?_toList, hlist]
      simp [hj]
    have hbl : b < s.heap.size := (Array.getElem?_eq_some_iff.mp hcb).1
    have hX : va_X b xs.length (fun j => xs.getD j 0) s s.heap := ⟨scr, hcb, hof, hkn, hsz, hval⟩
    have K : W p l e room_1 s m #[Value.ref b] below meth c s₁.heap [] 0 0 (lw_Z below #[Value.ref b] s) (entryFrame m ([Value.ref b] : List Value).toArray 4) := by
      rw [hh0]
      exact whole_start l hbd ⟨B.exec, B.bytes, B.returns, hml, hown, hts, hX, hbl, B.notSynchronized, hgv⟩
    obtain ⟨t, a1, o, b1, b2, b3⟩ := K s₁ rfl X₀
    exact ⟨t, o, a1, b1, b2, b3⟩
theorem lw_pre_spec {args : Array Value} {s : State} (h : (Jvm.Cond.and given_1 narrow_1).before args s = true) (hr : rest_1_c.before args s = true) : ∃ (b : Addr) (xs : List Int32), lw_P b xs args s := by
  have hs := flat_of_before _ h
  have hq := flat_of_before _ hr
  have hc : (Cond.count 1).before args s = true := hs _ (by decide +kernel)
  have harr : (Cond.arrayOf (.arg 0) .int).before args s = true := hs _ (by decide +kernel)
  have hle : (Cond.le (.length (.arg 0)) (.int 320)).before args s = true := hs _ (by decide +kernel)
  have hlen : (Cond.isInt (.length (.arg 0))).before args s = true := hq _ (by decide +kernel)
  have hall : (Cond.all (.arg 0) (.isInt (.elem (.arg 0) (.index 0)))).before args s = true := hq _ (by decide +kernel)
  obtain ⟨b, xs, hb, hx⟩ := State.ints_of_pre rfl harr hlen hall
  have hsm : xs.length < 2 ^ 31 := hx.choose_spec.2.2.2
  have hev : (Term.length (.arg 0)).eval args s none [] s = some (.int xs.length.toInt32) := hx.length_eval hb
  have hv := Cond.le_ints hev (show (Term.int 320).eval args s none [] s = some (.int 320) from rfl)
  have hd : xs.length.toInt32 ≤ 320 := by
    simpa [Cond.before, Cond.holds, hv] using hle
  have hN : xs.length ≤ 320 := (Int32.ofNat_le_ofNat hsm (by decide)).mp (show Int32.ofNat xs.length ≤ Int32.ofNat 320 from hd)
  exact ⟨b, xs, Cond.one_arg hc (show args[0]? = some (.ref b) from hb), hx, hN, h⟩
theorem lw_comes (l : Launch) : Comes l x (Jvm.Cond.code x code maxLocals ret :: tables_1) room_1 (fun tb e args s => Calls_1 tb e args s ∧ rest_1 tb e args s ∧ Pre_1 tb e args s)
    (fun _ _ args s o t => lw_Q args s o t) := by
  intro p e ha hc hk s m args below hf hfit hheap happ hpre
  obtain ⟨b, xs, hP⟩ := lw_pre_spec hpre.2.2 hpre.2.1
  obtain ⟨k, o, h1, h2, h3, hQ⟩ := lw_walk l b xs p e ha hc hk s m args below hf ((Spec.applies_iff_loose hf).mp happ).1 hP trivial
  exact ⟨k, o, h1, h2, h3, hQ⟩
theorem lw_frame {s t : State} {o : Outcome} {args : Array Value} (h : Framed s o t [] 600000 7290000) :
    Framed s o t (fieldLocs frame_1_writes args s ++ arrayLocs frame_1_arrays args s ++ staticLocs frame_1_statics s) 600000 7290000 := h
theorem lw_limb (L : Cond) (hL : ∀ (args : Array Value) (s t : State), L.after args s (.returned (some (.int 1))) t = true) :
    ArmFor flags0 classFile x code maxLocals ret World_1 tables_1 room_1 Calls_1 rest_1 Pre_1
      (fun tb e a s o t => postC L tb e a s o t ∧ Framed s o t (fieldLocs frame_1_writes a s ++ arrayLocs frame_1_arrays a s ++ staticLocs frame_1_statics s) 600000 7290000) := by
  intro l _ _ _ p e ha hc hk s m args below hf hfit hheap happ hpre
  obtain ⟨k, o, h1, h2, h3, rfl, hF⟩ := lw_comes l p e ha hc hk s m args below hf hfit hheap happ hpre
  exact ⟨k, _, h1, h2, h3, hL args s _, lw_frame hF⟩
theorem i_vc : Claimed_1_1 ∧ Claimed_1_2 := ⟨lw_limb limb_1_1 (fun args s t => by simp [limb_1_1, Cond.after, Cond.holds, Cond.value]), lw_limb limb_1_2 (fun args s t => Cond.after_iff.mpr (by
  first | (rw [show limb_1_2 = Cond.eq .result (.int 1) from rfl, Cond.eq_ints (x := 1) (y := 1) rfl rfl]; simp; done) | (simp [limb_1_2, Cond.value, Term.eval]; done)))⟩
end
