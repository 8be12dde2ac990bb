section
-- ===== PART A: goes FIRST, ahead of the names: the tables' words, and 'selects' of the private methods out of them =====
/-- a private method of a class that the tables say can be made, by its rows of tables_1 -/
def lw_okq (q : MethodName × Nat) : Prop := (q.1.cls ≠ "java/lang/invoke/MethodHandle" ∧ q.1.cls ≠ "java/lang/invoke/VarHandle") ∧ Cond.instantiable q.1.cls q.2 ∈ tables_1 ∧ Cond.privateMethod q.1 ∈ tables_1 ∧ Cond.instanceMethod q.1 ∈ tables_1
set_option maxRecDepth 100000
theorem lw_t1 {w : Cond} (h : w ∈ tables_1_1) : w ∈ tables_1 := List.mem_append_left _ h
theorem lw_t2 {w : Cond} (h : w ∈ tables_1_2) : w ∈ tables_1 := List.mem_append_right _ h
theorem lw_p0 : lw_okq (⟨"CostmapNavigator", "bad", "(I)Z"⟩, 11) := ⟨⟨by decide +kernel, by decide +kernel⟩, lw_t1 (List.mem_of_getElem? (i := 4) rfl), lw_t1 (List.mem_of_getElem? (i := 53) rfl), lw_t1 (List.mem_of_getElem? (i := 54) rfl)⟩
theorem lw_p1 : lw_okq (⟨"CostmapNavigator", "put", "(IZ)I"⟩, 11) := ⟨⟨by decide +kernel, by decide +kernel⟩, lw_t1 (List.mem_of_getElem? (i := 4) rfl), lw_t1 (List.mem_of_getElem? (i := 57) rfl), lw_t1 (List.mem_of_getElem? (i := 58) rfl)⟩
theorem lw_p2 : lw_okq (⟨"CostmapNavigator", "change", "(IZ)V"⟩, 11) := ⟨⟨by decide +kernel, by decide +kernel⟩, lw_t1 (List.mem_of_getElem? (i := 4) rfl), lw_t1 (List.mem_of_getElem? (i := 61) rfl), lw_t1 (List.mem_of_getElem? (i := 62) rfl)⟩
theorem lw_p3 : lw_okq (⟨"CostmapNavigator", "raiseFrom", "(I)V"⟩, 11) := ⟨⟨by decide +kernel, by decide +kernel⟩, lw_t1 (List.mem_of_getElem? (i := 4) rfl), lw_t1 (List.mem_of_getElem? (i := 65) rfl), lw_t1 (List.mem_of_getElem? (i := 66) rfl)⟩
theorem lw_p4 : lw_okq (⟨"CostmapNavigator", "besideRaised", "(I)Z"⟩, 11) := ⟨⟨by decide +kernel, by decide +kernel⟩, lw_t1 (List.mem_of_getElem? (i := 4) rfl), lw_t1 (List.mem_of_getElem? (i := 69) rfl), lw_t1 (List.mem_of_getElem? (i := 70) rfl)⟩
theorem lw_p5 : lw_okq (⟨"CostmapNavigator", "around", "(II)I"⟩, 11) := ⟨⟨by decide +kernel, by decide +kernel⟩, lw_t1 (List.mem_of_getElem? (i := 4) rfl), lw_t1 (List.mem_of_getElem? (i := 73) rfl), lw_t1 (List.mem_of_getElem? (i := 74) rfl)⟩
theorem lw_p6 : lw_okq (⟨"CostmapNavigator", "lower", "()V"⟩, 11) := ⟨⟨by decide +kernel, by decide +kernel⟩, lw_t1 (List.mem_of_getElem? (i := 4) rfl), lw_t1 (List.mem_of_getElem? (i := 77) rfl), lw_t1 (List.mem_of_getElem? (i := 78) rfl)⟩
theorem lw_p7 : lw_okq (⟨"CostmapNavigator", "passOn", "(I)V"⟩, 11) := ⟨⟨by decide +kernel, by decide +kernel⟩, lw_t1 (List.mem_of_getElem? (i := 4) rfl), lw_t1 (List.mem_of_getElem? (i := 81) rfl), lw_t1 (List.mem_of_getElem? (i := 82) rfl)⟩
theorem lw_p8 : lw_okq (⟨"CostmapNavigator", "recost", "()V"⟩, 11) := ⟨⟨by decide +kernel, by decide +kernel⟩, lw_t1 (List.mem_of_getElem? (i := 4) rfl), lw_t1 (List.mem_of_getElem? (i := 85) rfl), lw_t1 (List.mem_of_getElem? (i := 86) rfl)⟩
theorem lw_p9 : lw_okq (⟨"CostmapNavigator", "costOf", "(I)I"⟩, 11) := ⟨⟨by decide +kernel, by decide +kernel⟩, lw_t1 (List.mem_of_getElem? (i := 4) rfl), lw_t1 (List.mem_of_getElem? (i := 89) rfl), lw_t1 (List.mem_of_getElem? (i := 90) rfl)⟩
theorem lw_p10 : lw_okq (⟨"CostmapNavigator", "ask", "(I)V"⟩, 11) := ⟨⟨by decide +kernel, by decide +kernel⟩, lw_t1 (List.mem_of_getElem? (i := 4) rfl), lw_t1 (List.mem_of_getElem? (i := 93) rfl), lw_t1 (List.mem_of_getElem? (i := 94) rfl)⟩
theorem lw_p11 : lw_okq (⟨"CostmapNavigator", "moved", "(II)I"⟩, 11) := ⟨⟨by decide +kernel, by decide +kernel⟩, lw_t1 (List.mem_of_getElem? (i := 4) rfl), lw_t1 (List.mem_of_getElem? (i := 97) rfl), lw_t1 (List.mem_of_getElem? (i := 98) rfl)⟩
theorem lw_p12 : lw_okq (⟨"CostmapNavigator", "askAround", "(I)V"⟩, 11) := ⟨⟨by decide +kernel, by decide +kernel⟩, lw_t1 (List.mem_of_getElem? (i := 4) rfl), lw_t1 (List.mem_of_getElem? (i := 101) rfl), lw_t1 (List.mem_of_getElem? (i := 102) rfl)⟩
theorem lw_p13 : lw_okq (⟨"CostmapNavigator", "settle", "()V"⟩, 11) := ⟨⟨by decide +kernel, by decide +kernel⟩, lw_t1 (List.mem_of_getElem? (i := 4) rfl), lw_t1 (List.mem_of_getElem? (i := 137) rfl), lw_t1 (List.mem_of_getElem? (i := 138) rfl)⟩
theorem lw_p14 : lw_okq (⟨"CostmapNavigator", "first", "()I"⟩, 11) := ⟨⟨by decide +kernel, by decide +kernel⟩, lw_t1 (List.mem_of_getElem? (i := 4) rfl), lw_t1 (List.mem_of_getElem? (i := 141) rfl), lw_t1 (List.mem_of_getElem? (i := 142) rfl)⟩
theorem lw_p15 : lw_okq (⟨"CostmapNavigator", "answer", "(I)I"⟩, 11) := ⟨⟨by decide +kernel, by decide +kernel⟩, lw_t1 (List.mem_of_getElem? (i := 4) rfl), lw_t1 (List.mem_of_getElem? (i := 146) rfl), lw_t1 (List.mem_of_getElem? (i := 147) rfl)⟩
def lw_privs_1 : List (MethodName × Nat) := [(⟨"CostmapNavigator", "bad", "(I)Z"⟩, 11), (⟨"CostmapNavigator", "put", "(IZ)I"⟩, 11), (⟨"CostmapNavigator", "change", "(IZ)V"⟩, 11), (⟨"CostmapNavigator", "raiseFrom", "(I)V"⟩, 11), (⟨"CostmapNavigator", "besideRaised", "(I)Z"⟩, 11), (⟨"CostmapNavigator", "around", "(II)I"⟩, 11), (⟨"CostmapNavigator", "lower", "()V"⟩, 11), (⟨"CostmapNavigator", "passOn", "(I)V"⟩, 11), (⟨"CostmapNavigator", "recost", "()V"⟩, 11), (⟨"CostmapNavigator", "costOf", "(I)I"⟩, 11), (⟨"CostmapNavigator", "ask", "(I)V"⟩, 11), (⟨"CostmapNavigator", "moved", "(II)I"⟩, 11), (⟨"CostmapNavigator", "askAround", "(I)V"⟩, 11), (⟨"CostmapNavigator", "settle", "()V"⟩, 11), (⟨"CostmapNavigator", "first", "()I"⟩, 11), (⟨"CostmapNavigator", "answer", "(I)I"⟩, 11)]
theorem lw_r1 : ∀ q ∈ lw_privs_1, lw_okq q := List.forall_mem_cons.mpr ⟨lw_p0, List.forall_mem_cons.mpr ⟨lw_p1, List.forall_mem_cons.mpr ⟨lw_p2, List.forall_mem_cons.mpr ⟨lw_p3, List.forall_mem_cons.mpr ⟨lw_p4, List.forall_mem_cons.mpr ⟨lw_p5, List.forall_mem_cons.mpr ⟨lw_p6, List.forall_mem_cons.mpr ⟨lw_p7, List.forall_mem_cons.mpr ⟨lw_p8, List.forall_mem_cons.mpr ⟨lw_p9, List.forall_mem_cons.mpr ⟨lw_p10, List.forall_mem_cons.mpr ⟨lw_p11, List.forall_mem_cons.mpr ⟨lw_p12, List.forall_mem_cons.mpr ⟨lw_p13, List.forall_mem_cons.mpr ⟨lw_p14, List.forall_mem_cons.mpr ⟨lw_p15, fun _ h => absurd h List.not_mem_nil⟩⟩⟩⟩⟩⟩⟩⟩⟩⟩⟩⟩⟩⟩⟩⟩
theorem lw_p16 : lw_okq (⟨"CostmapNavigator", "nextFrom", "(I)I"⟩, 11) := ⟨⟨by decide +kernel, by decide +kernel⟩, lw_t1 (List.mem_of_getElem? (i := 4) rfl), lw_t1 (List.mem_of_getElem? (i := 158) rfl), lw_t1 (List.mem_of_getElem? (i := 159) rfl)⟩
theorem lw_p17 : lw_okq (⟨"CostmapNavigatorModel", "isCell", "(I)Z"⟩, 7) := ⟨⟨by decide +kernel, by decide +kernel⟩, lw_t1 (List.mem_of_getElem? (i := 182) rfl), lw_t1 (List.mem_of_getElem? (i := 214) rfl), lw_t1 (List.mem_of_getElem? (i := 215) rfl)⟩
theorem lw_p18 : lw_okq (⟨"CostmapNavigatorModel", "findDistances", "()V"⟩, 7) := ⟨⟨by decide +kernel, by decide +kernel⟩, lw_t1 (List.mem_of_getElem? (i := 182) rfl), lw_t2 (List.mem_of_getElem? (i := 15) rfl), lw_t2 (List.mem_of_getElem? (i := 16) rfl)⟩
theorem lw_p19 : lw_okq (⟨"CostmapNavigatorModel", "relax", "(I)Z"⟩, 7) := ⟨⟨by decide +kernel, by decide +kernel⟩, lw_t1 (List.mem_of_getElem? (i := 182) rfl), lw_t2 (List.mem_of_getElem? (i := 21) rfl), lw_t2 (List.mem_of_getElem? (i := 22) rfl)⟩
theorem lw_p20 : lw_okq (⟨"CostmapNavigatorModel", "neighbour", "(II)I"⟩, 7) := ⟨⟨by decide +kernel, by decide +kernel⟩, lw_t1 (List.mem_of_getElem? (i := 182) rfl), lw_t2 (List.mem_of_getElem? (i := 25) rfl), lw_t2 (List.mem_of_getElem? (i := 26) rfl)⟩
theorem lw_p21 : lw_okq (⟨"CostmapNavigatorModel", "directionFrom", "(I)I"⟩, 7) := ⟨⟨by decide +kernel, by decide +kernel⟩, lw_t1 (List.mem_of_getElem? (i := 182) rfl), lw_t2 (List.mem_of_getElem? (i := 34) rfl), lw_t2 (List.mem_of_getElem? (i := 35) rfl)⟩
def lw_privs_2 : List (MethodName × Nat) := [(⟨"CostmapNavigator", "nextFrom", "(I)I"⟩, 11), (⟨"CostmapNavigatorModel", "isCell", "(I)Z"⟩, 7), (⟨"CostmapNavigatorModel", "findDistances", "()V"⟩, 7), (⟨"CostmapNavigatorModel", "relax", "(I)Z"⟩, 7), (⟨"CostmapNavigatorModel", "neighbour", "(II)I"⟩, 7), (⟨"CostmapNavigatorModel", "directionFrom", "(I)I"⟩, 7)]
theorem lw_r2 : ∀ q ∈ lw_privs_2, lw_okq q := List.forall_mem_cons.mpr ⟨lw_p16, List.forall_mem_cons.mpr ⟨lw_p17, List.forall_mem_cons.mpr ⟨lw_p18, List.forall_mem_cons.mpr ⟨lw_p19, List.forall_mem_cons.mpr ⟨lw_p20, List.forall_mem_cons.mpr ⟨lw_p21, fun _ h => absurd h List.not_mem_nil⟩⟩⟩⟩⟩⟩
def lw_privs : List (MethodName × Nat) := lw_privs_1 ++ (lw_privs_2)
def lw_tbl : List Cond := k2_sels lw_privs ++ tables_1
theorem lw_privs_ok : ∀ q ∈ lw_privs, lw_okq q := by
  show ∀ q ∈ lw_privs_1 ++ (lw_privs_2), lw_okq q
  exact List.forall_mem_append.mpr ⟨lw_r1, lw_r2⟩
-- ===== ONE list of words for every method: the tables' words that hold all through a run =====
def lw_all : List Cond := lw_tbl.filter goodWord
/-- a word of the tables by its place: claim/WORDS.tsv -/
theorem lw_w {w : Cond} (i : Nat) (h : lw_tbl[i]? = some w) (g : goodWord w = true) : w ∈ lw_all := List.mem_filter.mpr ⟨List.mem_of_getElem? h, g⟩
theorem lw_all_tbl {w : Cond} (h : w ∈ lw_all) : w ∈ lw_tbl := (List.mem_filter.mp h).1
theorem lw_self : GoodIn lw_all lw_all := fun w h => ⟨h, good_of_word (List.mem_filter.mp h).2⟩
/-- a class's field words, by their places -/
theorem lw_in (ws : List Cond) (ps : List Nat) (hp : ws = ps.filterMap (fun i => lw_tbl[i]?)) (hg : ws.all goodWord = true) : ∀ w ∈ ws, w ∈ lw_all := by
  intro w h
  have h1 := List.all_eq_true.mp hg w h
  rw [hp] at h
  obtain ⟨i, -, hi⟩ := List.mem_filterMap.mp h
  exact lw_w i hi h1
/-- the words of a contract for the method y with code b, L locals, answer r -/
abbrev ws_ (y : MethodName) (b : ByteArray) (L : Nat) (r : Option FieldType) : List Cond := Cond.code y b L r :: lw_all
theorem lw_meth {y : MethodName} {b : ByteArray} {L : Nat} {r : Option FieldType} (h : Cond.code y b L r ∈ lw_all) : GoodIn lw_all (ws_ y b L r) := by
  intro w hw
  rcases List.mem_cons.mp hw with e | e
  · rw [e]
    exact lw_self _ h
  · exact lw_self _ e
theorem lw_app {a c : List Cond} (ha : ∀ w ∈ a, w ∈ lw_all) (hc : GoodIn lw_all c) : GoodIn lw_all (a ++ c) := by
  intro w hw
  rcases List.mem_append.mp hw with e | e
  · exact lw_self w (ha w e)
  · exact hc w e
/-- what a call through an object asks: cwV n hts (lw_V ..) -/
theorem lw_V {own : String} {idx : Nat} {C : String} {y : MethodName} {b : ByteArray} {L : Nat} {r : Option FieldType} (h1 : Cond.methodLink own idx y ∈ lw_all) (h2 : Cond.instanceMethod y ∈ lw_all) (h3 : Cond.selects C y y ∈ lw_all) (h4 : Cond.initialized C ∈ lw_all) (h5 : Cond.code y b L r ∈ lw_all) : GoodIn lw_all (wsV own idx C y (ws_ y b L r)) := by
  refine lw_app ?_ (lw_meth h5)
  intro w hw
  simp only [List.mem_cons, List.not_mem_nil, or_false] at hw
  rcases hw with e | e | e | e
  · rw [e]; exact h1
  · rw [e]; exact h2
  · rw [e]; exact h3
  · rw [e]; exact h4
/-- what a static call asks: va_cwS n hts (lw_S ..) -/
theorem lw_S {own : String} {idx : Nat} {y : MethodName} {b : ByteArray} {L : Nat} {r : Option FieldType} (h1 : Cond.methodLink own idx y ∈ lw_all) (h2 : Cond.static y ∈ lw_all) (h3 : Cond.initialized y.cls ∈ lw_all) (h4 : Cond.code y b L r ∈ lw_all) : GoodIn lw_all (va_wsS own idx y (ws_ y b L r)) := by
  refine lw_app ?_ (lw_meth h4)
  intro w hw
  simp only [List.mem_cons, List.not_mem_nil, or_false] at hw
  rcases hw with e | e | e
  · rw [e]; exact h1
  · rw [e]; exact h2
  · rw [e]; exact h3
/-- the words of a contract for a method WITH HANDLERS (hh: its table) -/
abbrev wsW_ (y : MethodName) (b : ByteArray) (L : Nat) (r : Option FieldType) (hh : List (Nat × Nat × Nat × Nat)) : List Cond := Cond.codeWith y b L r hh :: lw_all
theorem lw_methW {y : MethodName} {b : ByteArray} {L : Nat} {r : Option FieldType} {hh : List (Nat × Nat × Nat × Nat)} (h : Cond.codeWith y b L r hh ∈ lw_all) : GoodIn lw_all (wsW_ y b L r hh) := by
  intro w hw
  rcases List.mem_cons.mp hw with e | e
  · rw [e]
    exact lw_self _ h
  · exact lw_self _ e
/-- any list of words by their places (lw_in), good -/
theorem lw_good {ws : List Cond} (h : ∀ w ∈ ws, w ∈ lw_all) : GoodIn lw_all ws := fun w hw => lw_self w (h w hw)
/-- what a call of a method with handlers asks: vx_cwVW n hts (lw_VW ..), vx_cwSW n hts (lw_SW ..) -/
theorem lw_VW {own : String} {idx : Nat} {C : String} {y : MethodName} {b : ByteArray} {L : Nat} {r : Option FieldType} {hh : List (Nat × Nat × Nat × Nat)} (h1 : Cond.methodLink own idx y ∈ lw_all) (h2 : Cond.instanceMethod y ∈ lw_all) (h3 : Cond.selects C y y ∈ lw_all) (h4 : Cond.initialized C ∈ lw_all) (h5 : Cond.codeWith y b L r hh ∈ lw_all) : GoodIn lw_all (wsV own idx C y (wsW_ y b L r hh)) := by
  refine lw_app ?_ (lw_methW h5)
  intro w hw
  simp only [List.mem_cons, List.not_mem_nil, or_false] at hw
  rcases hw with e | e | e | e
  · rw [e]; exact h1
  · rw [e]; exact h2
  · rw [e]; exact h3
  · rw [e]; exact h4
theorem lw_SW {own : String} {idx : Nat} {y : MethodName} {b : ByteArray} {L : Nat} {r : Option FieldType} {hh : List (Nat × Nat × Nat × Nat)} (h1 : Cond.methodLink own idx y ∈ lw_all) (h2 : Cond.static y ∈ lw_all) (h3 : Cond.initialized y.cls ∈ lw_all) (h4 : Cond.codeWith y b L r hh ∈ lw_all) : GoodIn lw_all (va_wsS own idx y (wsW_ y b L r hh)) := by
  refine lw_app ?_ (lw_methW h4)
  intro w hw
  simp only [List.mem_cons, List.not_mem_nil, or_false] at hw
  rcases hw with e | e | e
  · rw [e]; exact h1
  · rw [e]; exact h2
  · rw [e]; exact h3
/-- a word by its place in its run of the tables -/
theorem lw_at {r : List Cond} (hr : ∀ w ∈ r, w ∈ lw_tbl) {w : Cond} (i : Nat) (h : r[i]? = some w) : w ∈ lw_tbl := hr w (List.mem_of_getElem? h)
theorem lw_g {w : Cond} (h : w ∈ lw_tbl) (g : goodWord w = true) : w ∈ lw_all := List.mem_filter.mpr ⟨h, g⟩
theorem lw_ms : ∀ w ∈ k2_sels lw_privs, w ∈ lw_tbl := fun w h => show w ∈ k2_sels lw_privs ++ tables_1 from List.mem_append_left _ h
theorem lw_m1 : ∀ w ∈ tables_1_1, w ∈ lw_tbl := fun w h => show w ∈ k2_sels lw_privs ++ tables_1 from List.mem_append_right (k2_sels lw_privs) (show w ∈ tables_1 from List.mem_append_left _ h)
theorem lw_m2 : ∀ w ∈ tables_1_2, w ∈ lw_tbl := fun w h => show w ∈ k2_sels lw_privs ++ tables_1 from List.mem_append_right (k2_sels lw_privs) (show w ∈ tables_1 from List.mem_append_right _ h)
theorem qs0 : (Cond.selects "CostmapNavigator" ⟨"CostmapNavigator", "bad", "(I)Z"⟩ ⟨"CostmapNavigator", "bad", "(I)Z"⟩) ∈ lw_all := lw_g (lw_at lw_ms 0 rfl) rfl
theorem qs1 : (Cond.selects "CostmapNavigator" ⟨"CostmapNavigator", "put", "(IZ)I"⟩ ⟨"CostmapNavigator", "put", "(IZ)I"⟩) ∈ lw_all := lw_g (lw_at lw_ms 1 rfl) rfl
theorem qs2 : (Cond.selects "CostmapNavigator" ⟨"CostmapNavigator", "change", "(IZ)V"⟩ ⟨"CostmapNavigator", "change", "(IZ)V"⟩) ∈ lw_all := lw_g (lw_at lw_ms 2 rfl) rfl
theorem qs3 : (Cond.selects "CostmapNavigator" ⟨"CostmapNavigator", "raiseFrom", "(I)V"⟩ ⟨"CostmapNavigator", "raiseFrom", "(I)V"⟩) ∈ lw_all := lw_g (lw_at lw_ms 3 rfl) rfl
theorem qs4 : (Cond.selects "CostmapNavigator" ⟨"CostmapNavigator", "besideRaised", "(I)Z"⟩ ⟨"CostmapNavigator", "besideRaised", "(I)Z"⟩) ∈ lw_all := lw_g (lw_at lw_ms 4 rfl) rfl
theorem qs5 : (Cond.selects "CostmapNavigator" ⟨"CostmapNavigator", "around", "(II)I"⟩ ⟨"CostmapNavigator", "around", "(II)I"⟩) ∈ lw_all := lw_g (lw_at lw_ms 5 rfl) rfl
theorem qs6 : (Cond.selects "CostmapNavigator" ⟨"CostmapNavigator", "lower", "()V"⟩ ⟨"CostmapNavigator", "lower", "()V"⟩) ∈ lw_all := lw_g (lw_at lw_ms 6 rfl) rfl
theorem qs7 : (Cond.selects "CostmapNavigator" ⟨"CostmapNavigator", "passOn", "(I)V"⟩ ⟨"CostmapNavigator", "passOn", "(I)V"⟩) ∈ lw_all := lw_g (lw_at lw_ms 7 rfl) rfl
theorem qs8 : (Cond.selects "CostmapNavigator" ⟨"CostmapNavigator", "recost", "()V"⟩ ⟨"CostmapNavigator", "recost", "()V"⟩) ∈ lw_all := lw_g (lw_at lw_ms 8 rfl) rfl
theorem qs9 : (Cond.selects "CostmapNavigator" ⟨"CostmapNavigator", "costOf", "(I)I"⟩ ⟨"CostmapNavigator", "costOf", "(I)I"⟩) ∈ lw_all := lw_g (lw_at lw_ms 9 rfl) rfl
theorem qs10 : (Cond.selects "CostmapNavigator" ⟨"CostmapNavigator", "ask", "(I)V"⟩ ⟨"CostmapNavigator", "ask", "(I)V"⟩) ∈ lw_all := lw_g (lw_at lw_ms 10 rfl) rfl
theorem qs11 : (Cond.selects "CostmapNavigator" ⟨"CostmapNavigator", "moved", "(II)I"⟩ ⟨"CostmapNavigator", "moved", "(II)I"⟩) ∈ lw_all := lw_g (lw_at lw_ms 11 rfl) rfl
theorem qs12 : (Cond.selects "CostmapNavigator" ⟨"CostmapNavigator", "askAround", "(I)V"⟩ ⟨"CostmapNavigator", "askAround", "(I)V"⟩) ∈ lw_all := lw_g (lw_at lw_ms 12 rfl) rfl
theorem qs13 : (Cond.selects "CostmapNavigator" ⟨"CostmapNavigator", "settle", "()V"⟩ ⟨"CostmapNavigator", "settle", "()V"⟩) ∈ lw_all := lw_g (lw_at lw_ms 13 rfl) rfl
theorem qs14 : (Cond.selects "CostmapNavigator" ⟨"CostmapNavigator", "first", "()I"⟩ ⟨"CostmapNavigator", "first", "()I"⟩) ∈ lw_all := lw_g (lw_at lw_ms 14 rfl) rfl
theorem qs15 : (Cond.selects "CostmapNavigator" ⟨"CostmapNavigator", "answer", "(I)I"⟩ ⟨"CostmapNavigator", "answer", "(I)I"⟩) ∈ lw_all := lw_g (lw_at lw_ms 15 rfl) rfl
theorem qs16 : (Cond.selects "CostmapNavigator" ⟨"CostmapNavigator", "nextFrom", "(I)I"⟩ ⟨"CostmapNavigator", "nextFrom", "(I)I"⟩) ∈ lw_all := lw_g (lw_at lw_ms 16 rfl) rfl
theorem qs17 : (Cond.selects "CostmapNavigatorModel" ⟨"CostmapNavigatorModel", "isCell", "(I)Z"⟩ ⟨"CostmapNavigatorModel", "isCell", "(I)Z"⟩) ∈ lw_all := lw_g (lw_at lw_ms 17 rfl) rfl
theorem qs18 : (Cond.selects "CostmapNavigatorModel" ⟨"CostmapNavigatorModel", "findDistances", "()V"⟩ ⟨"CostmapNavigatorModel", "findDistances", "()V"⟩) ∈ lw_all := lw_g (lw_at lw_ms 18 rfl) rfl
theorem qs19 : (Cond.selects "CostmapNavigatorModel" ⟨"CostmapNavigatorModel", "relax", "(I)Z"⟩ ⟨"CostmapNavigatorModel", "relax", "(I)Z"⟩) ∈ lw_all := lw_g (lw_at lw_ms 19 rfl) rfl
theorem qs20 : (Cond.selects "CostmapNavigatorModel" ⟨"CostmapNavigatorModel", "neighbour", "(II)I"⟩ ⟨"CostmapNavigatorModel", "neighbour", "(II)I"⟩) ∈ lw_all := lw_g (lw_at lw_ms 20 rfl) rfl
theorem qs21 : (Cond.selects "CostmapNavigatorModel" ⟨"CostmapNavigatorModel", "directionFrom", "(I)I"⟩ ⟨"CostmapNavigatorModel", "directionFrom", "(I)I"⟩) ∈ lw_all := lw_g (lw_at lw_ms 21 rfl) rfl
end
section
set_option maxRecDepth 100000
def RX0 : String := "CostmapNavigator"
def TX0 : u_T := fun k => match k with
  | 0 => ("CostmapNavigator", "blocked", "[Z", true)
  | 1 => ("CostmapNavigator", "radius", "I", false)
  | 2 => ("CostmapNavigator", "gain", "I", false)
  | 3 => ("CostmapNavigator", "robot", "I", false)
  | 4 => ("CostmapNavigator", "goal", "I", false)
  | 5 => ("CostmapNavigator", "clear", "[I", true)
  | 6 => ("CostmapNavigator", "nearest", "[I", true)
  | 7 => ("CostmapNavigator", "fresh", "[Z", true)
  | 8 => ("CostmapNavigator", "costs", "[I", true)
  | 9 => ("CostmapNavigator", "known", "[I", true)
  | _ => ("CostmapNavigator", "due", "[I", true)
def tyX0 : Nat → FieldType := fun k => match k with
  | 0 => .array .boolean
  | 1 => .int
  | 2 => .int
  | 3 => .int
  | 4 => .int
  | 5 => .array .int
  | 6 => .array .int
  | 7 => .array .boolean
  | 8 => .array .int
  | 9 => .array .int
  | _ => .array .int
abbrev wsX00 : List Cond := u_ws RX0 TX0 11
theorem nmX0 : ∀ a, a < 11 → ∀ b, b < 11 → a ≠ b → (TX0 a).2.1 ≠ (TX0 b).2.1 := by decide +kernel
theorem tyX0_ok : ∀ k, k < 11 → parseFieldDescriptor (TX0 k).2.2.1 = some (tyX0 k) := by decide +kernel
abbrev cX0_init : ByteArray := prog_1_method_1_code
def yX0_init : MethodName := ⟨RX0, "<init>", "()V"⟩
abbrev cX0_block : ByteArray := prog_1_method_17_code
def yX0_block : MethodName := ⟨RX0, "block", "(II)I"⟩
abbrev cX0_bad : ByteArray := prog_1_method_2_code
def yX0_bad : MethodName := ⟨RX0, "bad", "(I)Z"⟩
abbrev cX0_put : ByteArray := prog_1_method_16_code
def yX0_put : MethodName := ⟨RX0, "put", "(IZ)I"⟩
abbrev cX0_change : ByteArray := prog_1_method_9_code
def yX0_change : MethodName := ⟨RX0, "change", "(IZ)V"⟩
abbrev cX0_raiseFrom : ByteArray := prog_1_method_7_code
def yX0_raiseFrom : MethodName := ⟨RX0, "raiseFrom", "(I)V"⟩
abbrev cX0_besideRaised : ByteArray := prog_1_method_8_code
def yX0_besideRaised : MethodName := ⟨RX0, "besideRaised", "(I)Z"⟩
abbrev cX0_around : ByteArray := prog_1_method_4_code
def yX0_around : MethodName := ⟨RX0, "around", "(II)I"⟩
abbrev cX0_lower : ByteArray := prog_1_method_5_code
def yX0_lower : MethodName := ⟨RX0, "lower", "()V"⟩
abbrev cX0_passOn : ByteArray := prog_1_method_6_code
def yX0_passOn : MethodName := ⟨RX0, "passOn", "(I)V"⟩
abbrev cX0_recost : ByteArray := prog_1_method_13_code
def yX0_recost : MethodName := ⟨RX0, "recost", "()V"⟩
abbrev cX0_costOf : ByteArray := prog_1_method_10_code
def yX0_costOf : MethodName := ⟨RX0, "costOf", "(I)I"⟩
abbrev cX0_ask : ByteArray := prog_1_method_11_code
def yX0_ask : MethodName := ⟨RX0, "ask", "(I)V"⟩
abbrev cX0_moved : ByteArray := prog_1_method_3_code
def yX0_moved : MethodName := ⟨RX0, "moved", "(II)I"⟩
abbrev cX0_askAround : ByteArray := prog_1_method_12_code
def yX0_askAround : MethodName := ⟨RX0, "askAround", "(I)V"⟩
abbrev cX0_wall : ByteArray := prog_1_method_18_code
def yX0_wall : MethodName := ⟨RX0, "wall", "(III)I"⟩
abbrev cX0_tune : ByteArray := prog_1_method_19_code
def yX0_tune : MethodName := ⟨RX0, "tune", "(II)I"⟩
abbrev cX0_place : ByteArray := prog_1_method_20_code
def yX0_place : MethodName := ⟨RX0, "place", "(I)I"⟩
abbrev cX0_goal : ByteArray := prog_1_method_21_code
def yX0_goal : MethodName := ⟨RX0, "goal", "(I)I"⟩
abbrev cX0_blocked : ByteArray := prog_1_method_22_code
def yX0_blocked : MethodName := ⟨RX0, "blocked", "(I)Z"⟩
abbrev cX0_clearance : ByteArray := prog_1_method_23_code
def yX0_clearance : MethodName := ⟨RX0, "clearance", "(I)I"⟩
abbrev cX0_cost : ByteArray := prog_1_method_24_code
def yX0_cost : MethodName := ⟨RX0, "cost", "(I)I"⟩
abbrev cX0_distance : ByteArray := prog_1_method_26_code
def yX0_distance : MethodName := ⟨RX0, "distance", "()I"⟩
abbrev cX0_settle : ByteArray := prog_1_method_15_code
def yX0_settle : MethodName := ⟨RX0, "settle", "()V"⟩
abbrev cX0_first : ByteArray := prog_1_method_14_code
def yX0_first : MethodName := ⟨RX0, "first", "()I"⟩
abbrev cX0_answer : ByteArray := prog_1_method_25_code
def yX0_answer : MethodName := ⟨RX0, "answer", "(I)I"⟩
abbrev cX0_distanceFrom : ByteArray := prog_1_method_27_code
def yX0_distanceFrom : MethodName := ⟨RX0, "distanceFrom", "(I)I"⟩
abbrev cX0_next : ByteArray := prog_1_method_29_code
def yX0_next : MethodName := ⟨RX0, "next", "()I"⟩
abbrev cX0_nextFrom : ByteArray := prog_1_method_28_code
def yX0_nextFrom : MethodName := ⟨RX0, "nextFrom", "(I)I"⟩
abbrev cX0_drive : ByteArray := prog_1_method_30_code
def yX0_drive : MethodName := ⟨RX0, "drive", "(I)I"⟩
abbrev cX0_where : ByteArray := prog_1_method_31_code
def yX0_where : MethodName := ⟨RX0, "where", "()I"⟩
abbrev cX0_moves : ByteArray := prog_1_method_32_code
def yX0_moves : MethodName := ⟨RX0, "moves", "()I"⟩
abbrev cX0_reached : ByteArray := prog_1_method_33_code
def yX0_reached : MethodName := ⟨RX0, "reached", "()I"⟩
abbrev cX0_farthest : ByteArray := prog_1_method_34_code
def yX0_farthest : MethodName := ⟨RX0, "farthest", "()I"⟩
def RX1 : String := "CostmapNavigatorModel"
def TX1 : u_T := fun k => match k with
  | 0 => ("CostmapNavigatorModel", "blocks", "[Z", true)
  | 1 => ("CostmapNavigatorModel", "robot", "I", false)
  | 2 => ("CostmapNavigatorModel", "goal", "I", false)
  | 3 => ("CostmapNavigatorModel", "radius", "I", false)
  | 4 => ("CostmapNavigatorModel", "gain", "I", false)
  | 5 => ("CostmapNavigatorModel", "costs", "[I", true)
  | _ => ("CostmapNavigatorModel", "distances", "[I", true)
def tyX1 : Nat → FieldType := fun k => match k with
  | 0 => .array .boolean
  | 1 => .int
  | 2 => .int
  | 3 => .int
  | 4 => .int
  | 5 => .array .int
  | _ => .array .int
abbrev wsX10 : List Cond := u_ws RX1 TX1 7
theorem nmX1 : ∀ a, a < 7 → ∀ b, b < 7 → a ≠ b → (TX1 a).2.1 ≠ (TX1 b).2.1 := by decide +kernel
theorem tyX1_ok : ∀ k, k < 7 → parseFieldDescriptor (TX1 k).2.2.1 = some (tyX1 k) := by decide +kernel
abbrev cX1_init : ByteArray := prog_3_method_1_code
def yX1_init : MethodName := ⟨RX1, "<init>", "()V"⟩
abbrev cX1_block : ByteArray := prog_3_method_3_code
def yX1_block : MethodName := ⟨RX1, "block", "(II)I"⟩
abbrev cX1_isCell : ByteArray := prog_3_method_2_code
def yX1_isCell : MethodName := ⟨RX1, "isCell", "(I)Z"⟩
abbrev cX1_wall : ByteArray := prog_3_method_4_code
def yX1_wall : MethodName := ⟨RX1, "wall", "(III)I"⟩
abbrev cX1_tune : ByteArray := prog_3_method_5_code
def yX1_tune : MethodName := ⟨RX1, "tune", "(II)I"⟩
abbrev cX1_place : ByteArray := prog_3_method_6_code
def yX1_place : MethodName := ⟨RX1, "place", "(I)I"⟩
abbrev cX1_goal : ByteArray := prog_3_method_7_code
def yX1_goal : MethodName := ⟨RX1, "goal", "(I)I"⟩
abbrev cX1_blocked : ByteArray := prog_3_method_8_code
def yX1_blocked : MethodName := ⟨RX1, "blocked", "(I)Z"⟩
abbrev cX1_clearance : ByteArray := prog_3_method_9_code
def yX1_clearance : MethodName := ⟨RX1, "clearance", "(I)I"⟩
abbrev cX1_cost : ByteArray := prog_3_method_10_code
def yX1_cost : MethodName := ⟨RX1, "cost", "(I)I"⟩
abbrev cX1_distance : ByteArray := prog_3_method_14_code
def yX1_distance : MethodName := ⟨RX1, "distance", "()I"⟩
abbrev cX1_distanceFrom : ByteArray := prog_3_method_15_code
def yX1_distanceFrom : MethodName := ⟨RX1, "distanceFrom", "(I)I"⟩
abbrev cX1_findDistances : ByteArray := prog_3_method_13_code
def yX1_findDistances : MethodName := ⟨RX1, "findDistances", "()V"⟩
abbrev cX1_relax : ByteArray := prog_3_method_12_code
def yX1_relax : MethodName := ⟨RX1, "relax", "(I)Z"⟩
abbrev cX1_neighbour : ByteArray := prog_3_method_11_code
def yX1_neighbour : MethodName := ⟨RX1, "neighbour", "(II)I"⟩
abbrev cX1_next : ByteArray := prog_3_method_17_code
def yX1_next : MethodName := ⟨RX1, "next", "()I"⟩
abbrev cX1_directionFrom : ByteArray := prog_3_method_16_code
def yX1_directionFrom : MethodName := ⟨RX1, "directionFrom", "(I)I"⟩
abbrev cX1_drive : ByteArray := prog_3_method_18_code
def yX1_drive : MethodName := ⟨RX1, "drive", "(I)I"⟩
abbrev cX1_where : ByteArray := prog_3_method_19_code
def yX1_where : MethodName := ⟨RX1, "where", "()I"⟩
abbrev cX1_moves : ByteArray := prog_3_method_20_code
def yX1_moves : MethodName := ⟨RX1, "moves", "()I"⟩
abbrev cX1_reached : ByteArray := prog_3_method_21_code
def yX1_reached : MethodName := ⟨RX1, "reached", "()I"⟩
abbrev cX1_farthest : ByteArray := prog_3_method_22_code
def yX1_farthest : MethodName := ⟨RX1, "farthest", "()I"⟩
def RJ0 : String := "java/lang/Object"
abbrev cJ0_init : ByteArray := object_method_1_code
def yJ0_init : MethodName := ⟨RJ0, "<init>", "()V"⟩
theorem dJ0_init_0 : decode cJ0_init 0 = .ok (.return_, 1) := by decide +kernel
theorem q31 : (Jvm.Cond.instanceMethod ({ cls := "java/lang/Object", name := "<init>", desc := "()V" } : Jvm.MethodName)) ∈ lw_all := lw_g (lw_at lw_m1 9 rfl) rfl
theorem q32 : (Jvm.Cond.code ({ cls := "java/lang/Object", name := "<init>", desc := "()V" } : Jvm.MethodName) object_method_1_code (1 : Nat) (Option.none : Option Jvm.ClassFile.FieldType)) ∈ lw_all := lw_g (lw_at lw_m1 10 rfl) rfl
theorem q68 : (Jvm.Cond.arrayClass Jvm.ClassFile.FieldType.boolean) ∈ lw_all := lw_g (lw_at lw_m1 46 rfl) rfl
theorem q69 : (Jvm.Cond.arrayClass Jvm.ClassFile.FieldType.int) ∈ lw_all := lw_g (lw_at lw_m1 47 rfl) rfl
theorem q23 : (Jvm.Cond.initialized "CostmapNavigator") ∈ lw_all := lw_g (lw_at lw_m1 1 rfl) rfl
theorem q26 : (Jvm.Cond.instantiable "CostmapNavigator" (11 : Nat)) ∈ lw_all := lw_g (lw_at lw_m1 4 rfl) rfl
theorem q28 : (Jvm.Cond.instanceMethod ({ cls := "CostmapNavigator", name := "<init>", desc := "()V" } : Jvm.MethodName)) ∈ lw_all := lw_g (lw_at lw_m1 6 rfl) rfl
theorem q29 : (Jvm.Cond.code ({ cls := "CostmapNavigator", name := "<init>", desc := "()V" } : Jvm.MethodName) prog_1_method_1_code (2 : Nat) (Option.none : Option Jvm.ClassFile.FieldType)) ∈ lw_all := lw_g (lw_at lw_m1 7 rfl) rfl
theorem q30 : (Jvm.Cond.methodLink "CostmapNavigator" (1 : Nat) ({ cls := "java/lang/Object", name := "<init>", desc := "()V" } : Jvm.MethodName)) ∈ lw_all := lw_g (lw_at lw_m1 8 rfl) rfl
theorem q33 : (Jvm.Cond.constant "CostmapNavigator" (42 : Nat) (100000 : Int32)) ∈ lw_all := lw_g (lw_at lw_m1 11 rfl) rfl
theorem q34 : (Jvm.Cond.fieldLink "CostmapNavigator" (7 : Nat) "CostmapNavigator" "blocked" "[Z") ∈ lw_all := lw_g (lw_at lw_m1 12 rfl) rfl
theorem q35 : (Jvm.Cond.fieldLink "CostmapNavigator" (32 : Nat) "CostmapNavigator" "radius" "I") ∈ lw_all := lw_g (lw_at lw_m1 13 rfl) rfl
theorem q36 : (Jvm.Cond.fieldLink "CostmapNavigator" (36 : Nat) "CostmapNavigator" "gain" "I") ∈ lw_all := lw_g (lw_at lw_m1 14 rfl) rfl
theorem q37 : (Jvm.Cond.fieldLink "CostmapNavigator" (93 : Nat) "CostmapNavigator" "robot" "I") ∈ lw_all := lw_g (lw_at lw_m1 15 rfl) rfl
theorem q38 : (Jvm.Cond.fieldLink "CostmapNavigator" (39 : Nat) "CostmapNavigator" "goal" "I") ∈ lw_all := lw_g (lw_at lw_m1 16 rfl) rfl
theorem q39 : (Jvm.Cond.fieldLink "CostmapNavigator" (13 : Nat) "CostmapNavigator" "clear" "[I") ∈ lw_all := lw_g (lw_at lw_m1 17 rfl) rfl
theorem q40 : (Jvm.Cond.fieldLink "CostmapNavigator" (17 : Nat) "CostmapNavigator" "nearest" "[I") ∈ lw_all := lw_g (lw_at lw_m1 18 rfl) rfl
theorem q41 : (Jvm.Cond.fieldLink "CostmapNavigator" (20 : Nat) "CostmapNavigator" "fresh" "[Z") ∈ lw_all := lw_g (lw_at lw_m1 19 rfl) rfl
theorem q42 : (Jvm.Cond.fieldLink "CostmapNavigator" (23 : Nat) "CostmapNavigator" "costs" "[I") ∈ lw_all := lw_g (lw_at lw_m1 20 rfl) rfl
theorem q43 : (Jvm.Cond.fieldLink "CostmapNavigator" (26 : Nat) "CostmapNavigator" "known" "[I") ∈ lw_all := lw_g (lw_at lw_m1 21 rfl) rfl
theorem q44 : (Jvm.Cond.fieldLink "CostmapNavigator" (29 : Nat) "CostmapNavigator" "due" "[I") ∈ lw_all := lw_g (lw_at lw_m1 22 rfl) rfl
theorem q45 : (Jvm.Cond.laysFinal "CostmapNavigator" "CostmapNavigator" "blocked" "[Z") ∈ lw_all := lw_g (lw_at lw_m1 23 rfl) rfl
theorem q46 : (Jvm.Cond.soleField "CostmapNavigator" "blocked") ∈ lw_all := lw_g (lw_at lw_m1 24 rfl) rfl
theorem q47 : (Jvm.Cond.lays "CostmapNavigator" "CostmapNavigator" "radius" "I") ∈ lw_all := lw_g (lw_at lw_m1 25 rfl) rfl
theorem q48 : (Jvm.Cond.soleField "CostmapNavigator" "radius") ∈ lw_all := lw_g (lw_at lw_m1 26 rfl) rfl
theorem q49 : (Jvm.Cond.lays "CostmapNavigator" "CostmapNavigator" "gain" "I") ∈ lw_all := lw_g (lw_at lw_m1 27 rfl) rfl
theorem q50 : (Jvm.Cond.soleField "CostmapNavigator" "gain") ∈ lw_all := lw_g (lw_at lw_m1 28 rfl) rfl
theorem q51 : (Jvm.Cond.lays "CostmapNavigator" "CostmapNavigator" "robot" "I") ∈ lw_all := lw_g (lw_at lw_m1 29 rfl) rfl
theorem q52 : (Jvm.Cond.soleField "CostmapNavigator" "robot") ∈ lw_all := lw_g (lw_at lw_m1 30 rfl) rfl
theorem q53 : (Jvm.Cond.lays "CostmapNavigator" "CostmapNavigator" "goal" "I") ∈ lw_all := lw_g (lw_at lw_m1 31 rfl) rfl
theorem q54 : (Jvm.Cond.soleField "CostmapNavigator" "goal") ∈ lw_all := lw_g (lw_at lw_m1 32 rfl) rfl
theorem q55 : (Jvm.Cond.laysFinal "CostmapNavigator" "CostmapNavigator" "clear" "[I") ∈ lw_all := lw_g (lw_at lw_m1 33 rfl) rfl
theorem q56 : (Jvm.Cond.soleField "CostmapNavigator" "clear") ∈ lw_all := lw_g (lw_at lw_m1 34 rfl) rfl
theorem q57 : (Jvm.Cond.laysFinal "CostmapNavigator" "CostmapNavigator" "nearest" "[I") ∈ lw_all := lw_g (lw_at lw_m1 35 rfl) rfl
theorem q58 : (Jvm.Cond.soleField "CostmapNavigator" "nearest") ∈ lw_all := lw_g (lw_at lw_m1 36 rfl) rfl
theorem q59 : (Jvm.Cond.laysFinal "CostmapNavigator" "CostmapNavigator" "fresh" "[Z") ∈ lw_all := lw_g (lw_at lw_m1 37 rfl) rfl
theorem q60 : (Jvm.Cond.soleField "CostmapNavigator" "fresh") ∈ lw_all := lw_g (lw_at lw_m1 38 rfl) rfl
theorem q61 : (Jvm.Cond.laysFinal "CostmapNavigator" "CostmapNavigator" "costs" "[I") ∈ lw_all := lw_g (lw_at lw_m1 39 rfl) rfl
theorem q62 : (Jvm.Cond.soleField "CostmapNavigator" "costs") ∈ lw_all := lw_g (lw_at lw_m1 40 rfl) rfl
theorem q63 : (Jvm.Cond.laysFinal "CostmapNavigator" "CostmapNavigator" "known" "[I") ∈ lw_all := lw_g (lw_at lw_m1 41 rfl) rfl
theorem q64 : (Jvm.Cond.soleField "CostmapNavigator" "known") ∈ lw_all := lw_g (lw_at lw_m1 42 rfl) rfl
theorem q65 : (Jvm.Cond.laysFinal "CostmapNavigator" "CostmapNavigator" "due" "[I") ∈ lw_all := lw_g (lw_at lw_m1 43 rfl) rfl
theorem q66 : (Jvm.Cond.soleField "CostmapNavigator" "due") ∈ lw_all := lw_g (lw_at lw_m1 44 rfl) rfl
theorem q67 : (Jvm.Cond.superclass "CostmapNavigator" "java/lang/Object") ∈ lw_all := lw_g (lw_at lw_m1 45 rfl) rfl
theorem q71 : (Jvm.Cond.instanceMethod ({ cls := "CostmapNavigator", name := "block", desc := "(II)I" } : Jvm.MethodName)) ∈ lw_all := lw_g (lw_at lw_m1 49 rfl) rfl
theorem q72 : (Jvm.Cond.selects "CostmapNavigator" ({ cls := "CostmapNavigator", name := "block", desc := "(II)I" } : Jvm.MethodName) ({ cls := "CostmapNavigator", name := "block", desc := "(II)I" } : Jvm.MethodName)) ∈ lw_all := lw_g (lw_at lw_m1 50 rfl) rfl
theorem q73 : (Jvm.Cond.code ({ cls := "CostmapNavigator", name := "block", desc := "(II)I" } : Jvm.MethodName) prog_1_method_17_code (4 : Nat) (Option.some Jvm.ClassFile.FieldType.int)) ∈ lw_all := lw_g (lw_at lw_m1 51 rfl) rfl
theorem q74 : (Jvm.Cond.methodLink "CostmapNavigator" (83 : Nat) ({ cls := "CostmapNavigator", name := "bad", desc := "(I)Z" } : Jvm.MethodName)) ∈ lw_all := lw_g (lw_at lw_m1 52 rfl) rfl
theorem q75 : (Jvm.Cond.privateMethod ({ cls := "CostmapNavigator", name := "bad", desc := "(I)Z" } : Jvm.MethodName)) ∈ lw_tbl := lw_at lw_m1 53 rfl
theorem q76 : (Jvm.Cond.instanceMethod ({ cls := "CostmapNavigator", name := "bad", desc := "(I)Z" } : Jvm.MethodName)) ∈ lw_all := lw_g (lw_at lw_m1 54 rfl) rfl
theorem q77 : (Jvm.Cond.code ({ cls := "CostmapNavigator", name := "bad", desc := "(I)Z" } : Jvm.MethodName) prog_1_method_2_code (2 : Nat) (Option.some Jvm.ClassFile.FieldType.boolean)) ∈ lw_all := lw_g (lw_at lw_m1 55 rfl) rfl
theorem q78 : (Jvm.Cond.methodLink "CostmapNavigator" (86 : Nat) ({ cls := "CostmapNavigator", name := "put", desc := "(IZ)I" } : Jvm.MethodName)) ∈ lw_all := lw_g (lw_at lw_m1 56 rfl) rfl
theorem q79 : (Jvm.Cond.privateMethod ({ cls := "CostmapNavigator", name := "put", desc := "(IZ)I" } : Jvm.MethodName)) ∈ lw_tbl := lw_at lw_m1 57 rfl
theorem q80 : (Jvm.Cond.instanceMethod ({ cls := "CostmapNavigator", name := "put", desc := "(IZ)I" } : Jvm.MethodName)) ∈ lw_all := lw_g (lw_at lw_m1 58 rfl) rfl
theorem q81 : (Jvm.Cond.code ({ cls := "CostmapNavigator", name := "put", desc := "(IZ)I" } : Jvm.MethodName) prog_1_method_16_code (3 : Nat) (Option.some Jvm.ClassFile.FieldType.int)) ∈ lw_all := lw_g (lw_at lw_m1 59 rfl) rfl
theorem q82 : (Jvm.Cond.methodLink "CostmapNavigator" (79 : Nat) ({ cls := "CostmapNavigator", name := "change", desc := "(IZ)V" } : Jvm.MethodName)) ∈ lw_all := lw_g (lw_at lw_m1 60 rfl) rfl
theorem q83 : (Jvm.Cond.privateMethod ({ cls := "CostmapNavigator", name := "change", desc := "(IZ)V" } : Jvm.MethodName)) ∈ lw_tbl := lw_at lw_m1 61 rfl
theorem q84 : (Jvm.Cond.instanceMethod ({ cls := "CostmapNavigator", name := "change", desc := "(IZ)V" } : Jvm.MethodName)) ∈ lw_all := lw_g (lw_at lw_m1 62 rfl) rfl
theorem q85 : (Jvm.Cond.code ({ cls := "CostmapNavigator", name := "change", desc := "(IZ)V" } : Jvm.MethodName) prog_1_method_9_code (3 : Nat) (Option.none : Option Jvm.ClassFile.FieldType)) ∈ lw_all := lw_g (lw_at lw_m1 63 rfl) rfl
theorem q86 : (Jvm.Cond.methodLink "CostmapNavigator" (55 : Nat) ({ cls := "CostmapNavigator", name := "raiseFrom", desc := "(I)V" } : Jvm.MethodName)) ∈ lw_all := lw_g (lw_at lw_m1 64 rfl) rfl
theorem q87 : (Jvm.Cond.privateMethod ({ cls := "CostmapNavigator", name := "raiseFrom", desc := "(I)V" } : Jvm.MethodName)) ∈ lw_tbl := lw_at lw_m1 65 rfl
theorem q88 : (Jvm.Cond.instanceMethod ({ cls := "CostmapNavigator", name := "raiseFrom", desc := "(I)V" } : Jvm.MethodName)) ∈ lw_all := lw_g (lw_at lw_m1 66 rfl) rfl
theorem q89 : (Jvm.Cond.code ({ cls := "CostmapNavigator", name := "raiseFrom", desc := "(I)V" } : Jvm.MethodName) prog_1_method_7_code (3 : Nat) (Option.none : Option Jvm.ClassFile.FieldType)) ∈ lw_all := lw_g (lw_at lw_m1 67 rfl) rfl
theorem q90 : (Jvm.Cond.methodLink "CostmapNavigator" (51 : Nat) ({ cls := "CostmapNavigator", name := "besideRaised", desc := "(I)Z" } : Jvm.MethodName)) ∈ lw_all := lw_g (lw_at lw_m1 68 rfl) rfl
theorem q91 : (Jvm.Cond.privateMethod ({ cls := "CostmapNavigator", name := "besideRaised", desc := "(I)Z" } : Jvm.MethodName)) ∈ lw_tbl := lw_at lw_m1 69 rfl
theorem q92 : (Jvm.Cond.instanceMethod ({ cls := "CostmapNavigator", name := "besideRaised", desc := "(I)Z" } : Jvm.MethodName)) ∈ lw_all := lw_g (lw_at lw_m1 70 rfl) rfl
theorem q93 : (Jvm.Cond.code ({ cls := "CostmapNavigator", name := "besideRaised", desc := "(I)Z" } : Jvm.MethodName) prog_1_method_8_code (5 : Nat) (Option.some Jvm.ClassFile.FieldType.boolean)) ∈ lw_all := lw_g (lw_at lw_m1 71 rfl) rfl
theorem q94 : (Jvm.Cond.methodLink "CostmapNavigator" (47 : Nat) ({ cls := "CostmapNavigator", name := "around", desc := "(II)I" } : Jvm.MethodName)) ∈ lw_all := lw_g (lw_at lw_m1 72 rfl) rfl
theorem q95 : (Jvm.Cond.privateMethod ({ cls := "CostmapNavigator", name := "around", desc := "(II)I" } : Jvm.MethodName)) ∈ lw_tbl := lw_at lw_m1 73 rfl
theorem q96 : (Jvm.Cond.instanceMethod ({ cls := "CostmapNavigator", name := "around", desc := "(II)I" } : Jvm.MethodName)) ∈ lw_all := lw_g (lw_at lw_m1 74 rfl) rfl
theorem q97 : (Jvm.Cond.code ({ cls := "CostmapNavigator", name := "around", desc := "(II)I" } : Jvm.MethodName) prog_1_method_4_code (5 : Nat) (Option.some Jvm.ClassFile.FieldType.int)) ∈ lw_all := lw_g (lw_at lw_m1 75 rfl) rfl
theorem q98 : (Jvm.Cond.methodLink "CostmapNavigator" (58 : Nat) ({ cls := "CostmapNavigator", name := "lower", desc := "()V" } : Jvm.MethodName)) ∈ lw_all := lw_g (lw_at lw_m1 76 rfl) rfl
theorem q99 : (Jvm.Cond.privateMethod ({ cls := "CostmapNavigator", name := "lower", desc := "()V" } : Jvm.MethodName)) ∈ lw_tbl := lw_at lw_m1 77 rfl
theorem q100 : (Jvm.Cond.instanceMethod ({ cls := "CostmapNavigator", name := "lower", desc := "()V" } : Jvm.MethodName)) ∈ lw_all := lw_g (lw_at lw_m1 78 rfl) rfl
theorem q101 : (Jvm.Cond.code ({ cls := "CostmapNavigator", name := "lower", desc := "()V" } : Jvm.MethodName) prog_1_method_5_code (3 : Nat) (Option.none : Option Jvm.ClassFile.FieldType)) ∈ lw_all := lw_g (lw_at lw_m1 79 rfl) rfl
theorem q102 : (Jvm.Cond.methodLink "CostmapNavigator" (43 : Nat) ({ cls := "CostmapNavigator", name := "passOn", desc := "(I)V" } : Jvm.MethodName)) ∈ lw_all := lw_g (lw_at lw_m1 80 rfl) rfl
theorem q103 : (Jvm.Cond.privateMethod ({ cls := "CostmapNavigator", name := "passOn", desc := "(I)V" } : Jvm.MethodName)) ∈ lw_tbl := lw_at lw_m1 81 rfl
theorem q104 : (Jvm.Cond.instanceMethod ({ cls := "CostmapNavigator", name := "passOn", desc := "(I)V" } : Jvm.MethodName)) ∈ lw_all := lw_g (lw_at lw_m1 82 rfl) rfl
theorem q105 : (Jvm.Cond.code ({ cls := "CostmapNavigator", name := "passOn", desc := "(I)V" } : Jvm.MethodName) prog_1_method_6_code (4 : Nat) (Option.none : Option Jvm.ClassFile.FieldType)) ∈ lw_all := lw_g (lw_at lw_m1 83 rfl) rfl
theorem q106 : (Jvm.Cond.methodLink "CostmapNavigator" (90 : Nat) ({ cls := "CostmapNavigator", name := "recost", desc := "()V" } : Jvm.MethodName)) ∈ lw_all := lw_g (lw_at lw_m1 84 rfl) rfl
theorem q107 : (Jvm.Cond.privateMethod ({ cls := "CostmapNavigator", name := "recost", desc := "()V" } : Jvm.MethodName)) ∈ lw_tbl := lw_at lw_m1 85 rfl
theorem q108 : (Jvm.Cond.instanceMethod ({ cls := "CostmapNavigator", name := "recost", desc := "()V" } : Jvm.MethodName)) ∈ lw_all := lw_g (lw_at lw_m1 86 rfl) rfl
theorem q109 : (Jvm.Cond.code ({ cls := "CostmapNavigator", name := "recost", desc := "()V" } : Jvm.MethodName) prog_1_method_13_code (3 : Nat) (Option.none : Option Jvm.ClassFile.FieldType)) ∈ lw_all := lw_g (lw_at lw_m1 87 rfl) rfl
theorem q110 : (Jvm.Cond.methodLink "CostmapNavigator" (67 : Nat) ({ cls := "CostmapNavigator", name := "costOf", desc := "(I)I" } : Jvm.MethodName)) ∈ lw_all := lw_g (lw_at lw_m1 88 rfl) rfl
theorem q111 : (Jvm.Cond.privateMethod ({ cls := "CostmapNavigator", name := "costOf", desc := "(I)I" } : Jvm.MethodName)) ∈ lw_tbl := lw_at lw_m1 89 rfl
theorem q112 : (Jvm.Cond.instanceMethod ({ cls := "CostmapNavigator", name := "costOf", desc := "(I)I" } : Jvm.MethodName)) ∈ lw_all := lw_g (lw_at lw_m1 90 rfl) rfl
theorem q113 : (Jvm.Cond.code ({ cls := "CostmapNavigator", name := "costOf", desc := "(I)I" } : Jvm.MethodName) prog_1_method_10_code (2 : Nat) (Option.some Jvm.ClassFile.FieldType.int)) ∈ lw_all := lw_g (lw_at lw_m1 91 rfl) rfl
theorem q114 : (Jvm.Cond.methodLink "CostmapNavigator" (64 : Nat) ({ cls := "CostmapNavigator", name := "ask", desc := "(I)V" } : Jvm.MethodName)) ∈ lw_all := lw_g (lw_at lw_m1 92 rfl) rfl
theorem q115 : (Jvm.Cond.privateMethod ({ cls := "CostmapNavigator", name := "ask", desc := "(I)V" } : Jvm.MethodName)) ∈ lw_tbl := lw_at lw_m1 93 rfl
theorem q116 : (Jvm.Cond.instanceMethod ({ cls := "CostmapNavigator", name := "ask", desc := "(I)V" } : Jvm.MethodName)) ∈ lw_all := lw_g (lw_at lw_m1 94 rfl) rfl
theorem q117 : (Jvm.Cond.code ({ cls := "CostmapNavigator", name := "ask", desc := "(I)V" } : Jvm.MethodName) prog_1_method_11_code (5 : Nat) (Option.none : Option Jvm.ClassFile.FieldType)) ∈ lw_all := lw_g (lw_at lw_m1 95 rfl) rfl
theorem q118 : (Jvm.Cond.methodLink "CostmapNavigator" (61 : Nat) ({ cls := "CostmapNavigator", name := "moved", desc := "(II)I" } : Jvm.MethodName)) ∈ lw_all := lw_g (lw_at lw_m1 96 rfl) rfl
theorem q119 : (Jvm.Cond.privateMethod ({ cls := "CostmapNavigator", name := "moved", desc := "(II)I" } : Jvm.MethodName)) ∈ lw_tbl := lw_at lw_m1 97 rfl
theorem q120 : (Jvm.Cond.instanceMethod ({ cls := "CostmapNavigator", name := "moved", desc := "(II)I" } : Jvm.MethodName)) ∈ lw_all := lw_g (lw_at lw_m1 98 rfl) rfl
theorem q121 : (Jvm.Cond.code ({ cls := "CostmapNavigator", name := "moved", desc := "(II)I" } : Jvm.MethodName) prog_1_method_3_code (4 : Nat) (Option.some Jvm.ClassFile.FieldType.int)) ∈ lw_all := lw_g (lw_at lw_m1 99 rfl) rfl
theorem q122 : (Jvm.Cond.methodLink "CostmapNavigator" (71 : Nat) ({ cls := "CostmapNavigator", name := "askAround", desc := "(I)V" } : Jvm.MethodName)) ∈ lw_all := lw_g (lw_at lw_m1 100 rfl) rfl
theorem q123 : (Jvm.Cond.privateMethod ({ cls := "CostmapNavigator", name := "askAround", desc := "(I)V" } : Jvm.MethodName)) ∈ lw_tbl := lw_at lw_m1 101 rfl
theorem q124 : (Jvm.Cond.instanceMethod ({ cls := "CostmapNavigator", name := "askAround", desc := "(I)V" } : Jvm.MethodName)) ∈ lw_all := lw_g (lw_at lw_m1 102 rfl) rfl
theorem q125 : (Jvm.Cond.code ({ cls := "CostmapNavigator", name := "askAround", desc := "(I)V" } : Jvm.MethodName) prog_1_method_12_code (4 : Nat) (Option.none : Option Jvm.ClassFile.FieldType)) ∈ lw_all := lw_g (lw_at lw_m1 103 rfl) rfl
theorem q127 : (Jvm.Cond.instanceMethod ({ cls := "CostmapNavigator", name := "wall", desc := "(III)I" } : Jvm.MethodName)) ∈ lw_all := lw_g (lw_at lw_m1 105 rfl) rfl
theorem q128 : (Jvm.Cond.selects "CostmapNavigator" ({ cls := "CostmapNavigator", name := "wall", desc := "(III)I" } : Jvm.MethodName) ({ cls := "CostmapNavigator", name := "wall", desc := "(III)I" } : Jvm.MethodName)) ∈ lw_all := lw_g (lw_at lw_m1 106 rfl) rfl
theorem q129 : (Jvm.Cond.code ({ cls := "CostmapNavigator", name := "wall", desc := "(III)I" } : Jvm.MethodName) prog_1_method_18_code (9 : Nat) (Option.some Jvm.ClassFile.FieldType.int)) ∈ lw_all := lw_g (lw_at lw_m1 107 rfl) rfl
theorem q131 : (Jvm.Cond.instanceMethod ({ cls := "CostmapNavigator", name := "tune", desc := "(II)I" } : Jvm.MethodName)) ∈ lw_all := lw_g (lw_at lw_m1 109 rfl) rfl
theorem q132 : (Jvm.Cond.selects "CostmapNavigator" ({ cls := "CostmapNavigator", name := "tune", desc := "(II)I" } : Jvm.MethodName) ({ cls := "CostmapNavigator", name := "tune", desc := "(II)I" } : Jvm.MethodName)) ∈ lw_all := lw_g (lw_at lw_m1 110 rfl) rfl
theorem q133 : (Jvm.Cond.code ({ cls := "CostmapNavigator", name := "tune", desc := "(II)I" } : Jvm.MethodName) prog_1_method_19_code (3 : Nat) (Option.some Jvm.ClassFile.FieldType.int)) ∈ lw_all := lw_g (lw_at lw_m1 111 rfl) rfl
theorem q135 : (Jvm.Cond.instanceMethod ({ cls := "CostmapNavigator", name := "place", desc := "(I)I" } : Jvm.MethodName)) ∈ lw_all := lw_g (lw_at lw_m1 113 rfl) rfl
theorem q136 : (Jvm.Cond.selects "CostmapNavigator" ({ cls := "CostmapNavigator", name := "place", desc := "(I)I" } : Jvm.MethodName) ({ cls := "CostmapNavigator", name := "place", desc := "(I)I" } : Jvm.MethodName)) ∈ lw_all := lw_g (lw_at lw_m1 114 rfl) rfl
theorem q137 : (Jvm.Cond.code ({ cls := "CostmapNavigator", name := "place", desc := "(I)I" } : Jvm.MethodName) prog_1_method_20_code (3 : Nat) (Option.some Jvm.ClassFile.FieldType.int)) ∈ lw_all := lw_g (lw_at lw_m1 115 rfl) rfl
theorem q139 : (Jvm.Cond.instanceMethod ({ cls := "CostmapNavigator", name := "goal", desc := "(I)I" } : Jvm.MethodName)) ∈ lw_all := lw_g (lw_at lw_m1 117 rfl) rfl
theorem q140 : (Jvm.Cond.selects "CostmapNavigator" ({ cls := "CostmapNavigator", name := "goal", desc := "(I)I" } : Jvm.MethodName) ({ cls := "CostmapNavigator", name := "goal", desc := "(I)I" } : Jvm.MethodName)) ∈ lw_all := lw_g (lw_at lw_m1 118 rfl) rfl
theorem q141 : (Jvm.Cond.code ({ cls := "CostmapNavigator", name := "goal", desc := "(I)I" } : Jvm.MethodName) prog_1_method_21_code (3 : Nat) (Option.some Jvm.ClassFile.FieldType.int)) ∈ lw_all := lw_g (lw_at lw_m1 119 rfl) rfl
theorem q143 : (Jvm.Cond.instanceMethod ({ cls := "CostmapNavigator", name := "blocked", desc := "(I)Z" } : Jvm.MethodName)) ∈ lw_all := lw_g (lw_at lw_m1 121 rfl) rfl
theorem q144 : (Jvm.Cond.selects "CostmapNavigator" ({ cls := "CostmapNavigator", name := "blocked", desc := "(I)Z" } : Jvm.MethodName) ({ cls := "CostmapNavigator", name := "blocked", desc := "(I)Z" } : Jvm.MethodName)) ∈ lw_all := lw_g (lw_at lw_m1 122 rfl) rfl
theorem q145 : (Jvm.Cond.code ({ cls := "CostmapNavigator", name := "blocked", desc := "(I)Z" } : Jvm.MethodName) prog_1_method_22_code (2 : Nat) (Option.some Jvm.ClassFile.FieldType.boolean)) ∈ lw_all := lw_g (lw_at lw_m1 123 rfl) rfl
theorem q147 : (Jvm.Cond.instanceMethod ({ cls := "CostmapNavigator", name := "clearance", desc := "(I)I" } : Jvm.MethodName)) ∈ lw_all := lw_g (lw_at lw_m1 125 rfl) rfl
theorem q148 : (Jvm.Cond.selects "CostmapNavigator" ({ cls := "CostmapNavigator", name := "clearance", desc := "(I)I" } : Jvm.MethodName) ({ cls := "CostmapNavigator", name := "clearance", desc := "(I)I" } : Jvm.MethodName)) ∈ lw_all := lw_g (lw_at lw_m1 126 rfl) rfl
theorem q149 : (Jvm.Cond.code ({ cls := "CostmapNavigator", name := "clearance", desc := "(I)I" } : Jvm.MethodName) prog_1_method_23_code (2 : Nat) (Option.some Jvm.ClassFile.FieldType.int)) ∈ lw_all := lw_g (lw_at lw_m1 127 rfl) rfl
theorem q151 : (Jvm.Cond.instanceMethod ({ cls := "CostmapNavigator", name := "cost", desc := "(I)I" } : Jvm.MethodName)) ∈ lw_all := lw_g (lw_at lw_m1 129 rfl) rfl
theorem q152 : (Jvm.Cond.selects "CostmapNavigator" ({ cls := "CostmapNavigator", name := "cost", desc := "(I)I" } : Jvm.MethodName) ({ cls := "CostmapNavigator", name := "cost", desc := "(I)I" } : Jvm.MethodName)) ∈ lw_all := lw_g (lw_at lw_m1 130 rfl) rfl
theorem q153 : (Jvm.Cond.code ({ cls := "CostmapNavigator", name := "cost", desc := "(I)I" } : Jvm.MethodName) prog_1_method_24_code (2 : Nat) (Option.some Jvm.ClassFile.FieldType.int)) ∈ lw_all := lw_g (lw_at lw_m1 131 rfl) rfl
theorem q155 : (Jvm.Cond.instanceMethod ({ cls := "CostmapNavigator", name := "distance", desc := "()I" } : Jvm.MethodName)) ∈ lw_all := lw_g (lw_at lw_m1 133 rfl) rfl
theorem q156 : (Jvm.Cond.selects "CostmapNavigator" ({ cls := "CostmapNavigator", name := "distance", desc := "()I" } : Jvm.MethodName) ({ cls := "CostmapNavigator", name := "distance", desc := "()I" } : Jvm.MethodName)) ∈ lw_all := lw_g (lw_at lw_m1 134 rfl) rfl
theorem q157 : (Jvm.Cond.code ({ cls := "CostmapNavigator", name := "distance", desc := "()I" } : Jvm.MethodName) prog_1_method_26_code (1 : Nat) (Option.some Jvm.ClassFile.FieldType.int)) ∈ lw_all := lw_g (lw_at lw_m1 135 rfl) rfl
theorem q158 : (Jvm.Cond.methodLink "CostmapNavigator" (96 : Nat) ({ cls := "CostmapNavigator", name := "settle", desc := "()V" } : Jvm.MethodName)) ∈ lw_all := lw_g (lw_at lw_m1 136 rfl) rfl
theorem q159 : (Jvm.Cond.privateMethod ({ cls := "CostmapNavigator", name := "settle", desc := "()V" } : Jvm.MethodName)) ∈ lw_tbl := lw_at lw_m1 137 rfl
theorem q160 : (Jvm.Cond.instanceMethod ({ cls := "CostmapNavigator", name := "settle", desc := "()V" } : Jvm.MethodName)) ∈ lw_all := lw_g (lw_at lw_m1 138 rfl) rfl
theorem q161 : (Jvm.Cond.code ({ cls := "CostmapNavigator", name := "settle", desc := "()V" } : Jvm.MethodName) prog_1_method_15_code (3 : Nat) (Option.none : Option Jvm.ClassFile.FieldType)) ∈ lw_all := lw_g (lw_at lw_m1 139 rfl) rfl
theorem q162 : (Jvm.Cond.methodLink "CostmapNavigator" (75 : Nat) ({ cls := "CostmapNavigator", name := "first", desc := "()I" } : Jvm.MethodName)) ∈ lw_all := lw_g (lw_at lw_m1 140 rfl) rfl
theorem q163 : (Jvm.Cond.privateMethod ({ cls := "CostmapNavigator", name := "first", desc := "()I" } : Jvm.MethodName)) ∈ lw_tbl := lw_at lw_m1 141 rfl
theorem q164 : (Jvm.Cond.instanceMethod ({ cls := "CostmapNavigator", name := "first", desc := "()I" } : Jvm.MethodName)) ∈ lw_all := lw_g (lw_at lw_m1 142 rfl) rfl
theorem q165 : (Jvm.Cond.code ({ cls := "CostmapNavigator", name := "first", desc := "()I" } : Jvm.MethodName) prog_1_method_14_code (5 : Nat) (Option.some Jvm.ClassFile.FieldType.int)) ∈ lw_all := lw_g (lw_at lw_m1 143 rfl) rfl
theorem q166 : (Jvm.Cond.constant "CostmapNavigator" (74 : Nat) (100001 : Int32)) ∈ lw_all := lw_g (lw_at lw_m1 144 rfl) rfl
theorem q167 : (Jvm.Cond.methodLink "CostmapNavigator" (99 : Nat) ({ cls := "CostmapNavigator", name := "answer", desc := "(I)I" } : Jvm.MethodName)) ∈ lw_all := lw_g (lw_at lw_m1 145 rfl) rfl
theorem q168 : (Jvm.Cond.privateMethod ({ cls := "CostmapNavigator", name := "answer", desc := "(I)I" } : Jvm.MethodName)) ∈ lw_tbl := lw_at lw_m1 146 rfl
theorem q169 : (Jvm.Cond.instanceMethod ({ cls := "CostmapNavigator", name := "answer", desc := "(I)I" } : Jvm.MethodName)) ∈ lw_all := lw_g (lw_at lw_m1 147 rfl) rfl
theorem q170 : (Jvm.Cond.code ({ cls := "CostmapNavigator", name := "answer", desc := "(I)I" } : Jvm.MethodName) prog_1_method_25_code (2 : Nat) (Option.some Jvm.ClassFile.FieldType.int)) ∈ lw_all := lw_g (lw_at lw_m1 148 rfl) rfl
theorem q172 : (Jvm.Cond.instanceMethod ({ cls := "CostmapNavigator", name := "distanceFrom", desc := "(I)I" } : Jvm.MethodName)) ∈ lw_all := lw_g (lw_at lw_m1 150 rfl) rfl
theorem q173 : (Jvm.Cond.selects "CostmapNavigator" ({ cls := "CostmapNavigator", name := "distanceFrom", desc := "(I)I" } : Jvm.MethodName) ({ cls := "CostmapNavigator", name := "distanceFrom", desc := "(I)I" } : Jvm.MethodName)) ∈ lw_all := lw_g (lw_at lw_m1 151 rfl) rfl
theorem q174 : (Jvm.Cond.code ({ cls := "CostmapNavigator", name := "distanceFrom", desc := "(I)I" } : Jvm.MethodName) prog_1_method_27_code (2 : Nat) (Option.some Jvm.ClassFile.FieldType.int)) ∈ lw_all := lw_g (lw_at lw_m1 152 rfl) rfl
theorem q176 : (Jvm.Cond.instanceMethod ({ cls := "CostmapNavigator", name := "next", desc := "()I" } : Jvm.MethodName)) ∈ lw_all := lw_g (lw_at lw_m1 154 rfl) rfl
theorem q177 : (Jvm.Cond.selects "CostmapNavigator" ({ cls := "CostmapNavigator", name := "next", desc := "()I" } : Jvm.MethodName) ({ cls := "CostmapNavigator", name := "next", desc := "()I" } : Jvm.MethodName)) ∈ lw_all := lw_g (lw_at lw_m1 155 rfl) rfl
theorem q178 : (Jvm.Cond.code ({ cls := "CostmapNavigator", name := "next", desc := "()I" } : Jvm.MethodName) prog_1_method_29_code (1 : Nat) (Option.some Jvm.ClassFile.FieldType.int)) ∈ lw_all := lw_g (lw_at lw_m1 156 rfl) rfl
theorem q179 : (Jvm.Cond.methodLink "CostmapNavigator" (102 : Nat) ({ cls := "CostmapNavigator", name := "nextFrom", desc := "(I)I" } : Jvm.MethodName)) ∈ lw_all := lw_g (lw_at lw_m1 157 rfl) rfl
theorem q180 : (Jvm.Cond.privateMethod ({ cls := "CostmapNavigator", name := "nextFrom", desc := "(I)I" } : Jvm.MethodName)) ∈ lw_tbl := lw_at lw_m1 158 rfl
theorem q181 : (Jvm.Cond.instanceMethod ({ cls := "CostmapNavigator", name := "nextFrom", desc := "(I)I" } : Jvm.MethodName)) ∈ lw_all := lw_g (lw_at lw_m1 159 rfl) rfl
theorem q182 : (Jvm.Cond.code ({ cls := "CostmapNavigator", name := "nextFrom", desc := "(I)I" } : Jvm.MethodName) prog_1_method_28_code (4 : Nat) (Option.some Jvm.ClassFile.FieldType.int)) ∈ lw_all := lw_g (lw_at lw_m1 160 rfl) rfl
theorem q184 : (Jvm.Cond.instanceMethod ({ cls := "CostmapNavigator", name := "drive", desc := "(I)I" } : Jvm.MethodName)) ∈ lw_all := lw_g (lw_at lw_m1 162 rfl) rfl
theorem q185 : (Jvm.Cond.selects "CostmapNavigator" ({ cls := "CostmapNavigator", name := "drive", desc := "(I)I" } : Jvm.MethodName) ({ cls := "CostmapNavigator", name := "drive", desc := "(I)I" } : Jvm.MethodName)) ∈ lw_all := lw_g (lw_at lw_m1 163 rfl) rfl
theorem q186 : (Jvm.Cond.code ({ cls := "CostmapNavigator", name := "drive", desc := "(I)I" } : Jvm.MethodName) prog_1_method_30_code (5 : Nat) (Option.some Jvm.ClassFile.FieldType.int)) ∈ lw_all := lw_g (lw_at lw_m1 164 rfl) rfl
theorem q188 : (Jvm.Cond.instanceMethod ({ cls := "CostmapNavigator", name := "where", desc := "()I" } : Jvm.MethodName)) ∈ lw_all := lw_g (lw_at lw_m1 166 rfl) rfl
theorem q189 : (Jvm.Cond.selects "CostmapNavigator" ({ cls := "CostmapNavigator", name := "where", desc := "()I" } : Jvm.MethodName) ({ cls := "CostmapNavigator", name := "where", desc := "()I" } : Jvm.MethodName)) ∈ lw_all := lw_g (lw_at lw_m1 167 rfl) rfl
theorem q190 : (Jvm.Cond.code ({ cls := "CostmapNavigator", name := "where", desc := "()I" } : Jvm.MethodName) prog_1_method_31_code (1 : Nat) (Option.some Jvm.ClassFile.FieldType.int)) ∈ lw_all := lw_g (lw_at lw_m1 168 rfl) rfl
theorem q192 : (Jvm.Cond.instanceMethod ({ cls := "CostmapNavigator", name := "moves", desc := "()I" } : Jvm.MethodName)) ∈ lw_all := lw_g (lw_at lw_m1 170 rfl) rfl
theorem q193 : (Jvm.Cond.selects "CostmapNavigator" ({ cls := "CostmapNavigator", name := "moves", desc := "()I" } : Jvm.MethodName) ({ cls := "CostmapNavigator", name := "moves", desc := "()I" } : Jvm.MethodName)) ∈ lw_all := lw_g (lw_at lw_m1 171 rfl) rfl
theorem q194 : (Jvm.Cond.code ({ cls := "CostmapNavigator", name := "moves", desc := "()I" } : Jvm.MethodName) prog_1_method_32_code (5 : Nat) (Option.some Jvm.ClassFile.FieldType.int)) ∈ lw_all := lw_g (lw_at lw_m1 172 rfl) rfl
theorem q196 : (Jvm.Cond.instanceMethod ({ cls := "CostmapNavigator", name := "reached", desc := "()I" } : Jvm.MethodName)) ∈ lw_all := lw_g (lw_at lw_m1 174 rfl) rfl
theorem q197 : (Jvm.Cond.selects "CostmapNavigator" ({ cls := "CostmapNavigator", name := "reached", desc := "()I" } : Jvm.MethodName) ({ cls := "CostmapNavigator", name := "reached", desc := "()I" } : Jvm.MethodName)) ∈ lw_all := lw_g (lw_at lw_m1 175 rfl) rfl
theorem q198 : (Jvm.Cond.code ({ cls := "CostmapNavigator", name := "reached", desc := "()I" } : Jvm.MethodName) prog_1_method_33_code (3 : Nat) (Option.some Jvm.ClassFile.FieldType.int)) ∈ lw_all := lw_g (lw_at lw_m1 176 rfl) rfl
theorem q200 : (Jvm.Cond.instanceMethod ({ cls := "CostmapNavigator", name := "farthest", desc := "()I" } : Jvm.MethodName)) ∈ lw_all := lw_g (lw_at lw_m1 178 rfl) rfl
theorem q201 : (Jvm.Cond.selects "CostmapNavigator" ({ cls := "CostmapNavigator", name := "farthest", desc := "()I" } : Jvm.MethodName) ({ cls := "CostmapNavigator", name := "farthest", desc := "()I" } : Jvm.MethodName)) ∈ lw_all := lw_g (lw_at lw_m1 179 rfl) rfl
theorem q202 : (Jvm.Cond.code ({ cls := "CostmapNavigator", name := "farthest", desc := "()I" } : Jvm.MethodName) prog_1_method_34_code (3 : Nat) (Option.some Jvm.ClassFile.FieldType.int)) ∈ lw_all := lw_g (lw_at lw_m1 180 rfl) rfl
theorem in_X0 : ∀ w ∈ wsX00, w ∈ lw_all := lw_in wsX00 [45, 47, 49, 51, 53, 55, 57, 59, 61, 63, 65] (by decide +kernel) (by decide +kernel)
theorem q24 : (Jvm.Cond.initialized "CostmapNavigatorModel") ∈ lw_all := lw_g (lw_at lw_m1 2 rfl) rfl
theorem q204 : (Jvm.Cond.instantiable "CostmapNavigatorModel" (7 : Nat)) ∈ lw_all := lw_g (lw_at lw_m1 182 rfl) rfl
theorem q206 : (Jvm.Cond.instanceMethod ({ cls := "CostmapNavigatorModel", name := "<init>", desc := "()V" } : Jvm.MethodName)) ∈ lw_all := lw_g (lw_at lw_m1 184 rfl) rfl
theorem q207 : (Jvm.Cond.code ({ cls := "CostmapNavigatorModel", name := "<init>", desc := "()V" } : Jvm.MethodName) prog_3_method_1_code (1 : Nat) (Option.none : Option Jvm.ClassFile.FieldType)) ∈ lw_all := lw_g (lw_at lw_m1 185 rfl) rfl
theorem q208 : (Jvm.Cond.methodLink "CostmapNavigatorModel" (1 : Nat) ({ cls := "java/lang/Object", name := "<init>", desc := "()V" } : Jvm.MethodName)) ∈ lw_all := lw_g (lw_at lw_m1 186 rfl) rfl
theorem q209 : (Jvm.Cond.fieldLink "CostmapNavigatorModel" (7 : Nat) "CostmapNavigatorModel" "blocks" "[Z") ∈ lw_all := lw_g (lw_at lw_m1 187 rfl) rfl
theorem q210 : (Jvm.Cond.fieldLink "CostmapNavigatorModel" (34 : Nat) "CostmapNavigatorModel" "robot" "I") ∈ lw_all := lw_g (lw_at lw_m1 188 rfl) rfl
theorem q211 : (Jvm.Cond.fieldLink "CostmapNavigatorModel" (20 : Nat) "CostmapNavigatorModel" "goal" "I") ∈ lw_all := lw_g (lw_at lw_m1 189 rfl) rfl
theorem q212 : (Jvm.Cond.fieldLink "CostmapNavigatorModel" (24 : Nat) "CostmapNavigatorModel" "radius" "I") ∈ lw_all := lw_g (lw_at lw_m1 190 rfl) rfl
theorem q213 : (Jvm.Cond.fieldLink "CostmapNavigatorModel" (27 : Nat) "CostmapNavigatorModel" "gain" "I") ∈ lw_all := lw_g (lw_at lw_m1 191 rfl) rfl
theorem q214 : (Jvm.Cond.fieldLink "CostmapNavigatorModel" (13 : Nat) "CostmapNavigatorModel" "costs" "[I") ∈ lw_all := lw_g (lw_at lw_m1 192 rfl) rfl
theorem q215 : (Jvm.Cond.fieldLink "CostmapNavigatorModel" (17 : Nat) "CostmapNavigatorModel" "distances" "[I") ∈ lw_all := lw_g (lw_at lw_m1 193 rfl) rfl
theorem q216 : (Jvm.Cond.laysFinal "CostmapNavigatorModel" "CostmapNavigatorModel" "blocks" "[Z") ∈ lw_all := lw_g (lw_at lw_m1 194 rfl) rfl
theorem q217 : (Jvm.Cond.soleField "CostmapNavigatorModel" "blocks") ∈ lw_all := lw_g (lw_at lw_m1 195 rfl) rfl
theorem q218 : (Jvm.Cond.lays "CostmapNavigatorModel" "CostmapNavigatorModel" "robot" "I") ∈ lw_all := lw_g (lw_at lw_m1 196 rfl) rfl
theorem q219 : (Jvm.Cond.soleField "CostmapNavigatorModel" "robot") ∈ lw_all := lw_g (lw_at lw_m1 197 rfl) rfl
theorem q220 : (Jvm.Cond.lays "CostmapNavigatorModel" "CostmapNavigatorModel" "goal" "I") ∈ lw_all := lw_g (lw_at lw_m1 198 rfl) rfl
theorem q221 : (Jvm.Cond.soleField "CostmapNavigatorModel" "goal") ∈ lw_all := lw_g (lw_at lw_m1 199 rfl) rfl
theorem q222 : (Jvm.Cond.lays "CostmapNavigatorModel" "CostmapNavigatorModel" "radius" "I") ∈ lw_all := lw_g (lw_at lw_m1 200 rfl) rfl
theorem q223 : (Jvm.Cond.soleField "CostmapNavigatorModel" "radius") ∈ lw_all := lw_g (lw_at lw_m1 201 rfl) rfl
theorem q224 : (Jvm.Cond.lays "CostmapNavigatorModel" "CostmapNavigatorModel" "gain" "I") ∈ lw_all := lw_g (lw_at lw_m1 202 rfl) rfl
theorem q225 : (Jvm.Cond.soleField "CostmapNavigatorModel" "gain") ∈ lw_all := lw_g (lw_at lw_m1 203 rfl) rfl
theorem q226 : (Jvm.Cond.laysFinal "CostmapNavigatorModel" "CostmapNavigatorModel" "costs" "[I") ∈ lw_all := lw_g (lw_at lw_m1 204 rfl) rfl
theorem q227 : (Jvm.Cond.soleField "CostmapNavigatorModel" "costs") ∈ lw_all := lw_g (lw_at lw_m1 205 rfl) rfl
theorem q228 : (Jvm.Cond.laysFinal "CostmapNavigatorModel" "CostmapNavigatorModel" "distances" "[I") ∈ lw_all := lw_g (lw_at lw_m1 206 rfl) rfl
theorem q229 : (Jvm.Cond.soleField "CostmapNavigatorModel" "distances") ∈ lw_all := lw_g (lw_at lw_m1 207 rfl) rfl
theorem q230 : (Jvm.Cond.superclass "CostmapNavigatorModel" "java/lang/Object") ∈ lw_all := lw_g (lw_at lw_m1 208 rfl) rfl
theorem q232 : (Jvm.Cond.instanceMethod ({ cls := "CostmapNavigatorModel", name := "block", desc := "(II)I" } : Jvm.MethodName)) ∈ lw_all := lw_g (lw_at lw_m1 210 rfl) rfl
theorem q233 : (Jvm.Cond.selects "CostmapNavigatorModel" ({ cls := "CostmapNavigatorModel", name := "block", desc := "(II)I" } : Jvm.MethodName) ({ cls := "CostmapNavigatorModel", name := "block", desc := "(II)I" } : Jvm.MethodName)) ∈ lw_all := lw_g (lw_at lw_m1 211 rfl) rfl
theorem q234 : (Jvm.Cond.code ({ cls := "CostmapNavigatorModel", name := "block", desc := "(II)I" } : Jvm.MethodName) prog_3_method_3_code (4 : Nat) (Option.some Jvm.ClassFile.FieldType.int)) ∈ lw_all := lw_g (lw_at lw_m1 212 rfl) rfl
theorem q235 : (Jvm.Cond.methodLink "CostmapNavigatorModel" (30 : Nat) ({ cls := "CostmapNavigatorModel", name := "isCell", desc := "(I)Z" } : Jvm.MethodName)) ∈ lw_all := lw_g (lw_at lw_m1 213 rfl) rfl
theorem q236 : (Jvm.Cond.privateMethod ({ cls := "CostmapNavigatorModel", name := "isCell", desc := "(I)Z" } : Jvm.MethodName)) ∈ lw_tbl := lw_at lw_m1 214 rfl
theorem q237 : (Jvm.Cond.instanceMethod ({ cls := "CostmapNavigatorModel", name := "isCell", desc := "(I)Z" } : Jvm.MethodName)) ∈ lw_all := lw_g (lw_at lw_m1 215 rfl) rfl
theorem q238 : (Jvm.Cond.code ({ cls := "CostmapNavigatorModel", name := "isCell", desc := "(I)Z" } : Jvm.MethodName) prog_3_method_2_code (2 : Nat) (Option.some Jvm.ClassFile.FieldType.boolean)) ∈ lw_all := lw_g (lw_at lw_m1 216 rfl) rfl
theorem q240 : (Jvm.Cond.instanceMethod ({ cls := "CostmapNavigatorModel", name := "wall", desc := "(III)I" } : Jvm.MethodName)) ∈ lw_all := lw_g (lw_at lw_m1 218 rfl) rfl
theorem q241 : (Jvm.Cond.selects "CostmapNavigatorModel" ({ cls := "CostmapNavigatorModel", name := "wall", desc := "(III)I" } : Jvm.MethodName) ({ cls := "CostmapNavigatorModel", name := "wall", desc := "(III)I" } : Jvm.MethodName)) ∈ lw_all := lw_g (lw_at lw_m1 219 rfl) rfl
theorem q242 : (Jvm.Cond.code ({ cls := "CostmapNavigatorModel", name := "wall", desc := "(III)I" } : Jvm.MethodName) prog_3_method_4_code (9 : Nat) (Option.some Jvm.ClassFile.FieldType.int)) ∈ lw_all := lw_g (lw_at lw_m1 220 rfl) rfl
theorem q244 : (Jvm.Cond.instanceMethod ({ cls := "CostmapNavigatorModel", name := "tune", desc := "(II)I" } : Jvm.MethodName)) ∈ lw_all := lw_g (lw_at lw_m1 222 rfl) rfl
theorem q245 : (Jvm.Cond.selects "CostmapNavigatorModel" ({ cls := "CostmapNavigatorModel", name := "tune", desc := "(II)I" } : Jvm.MethodName) ({ cls := "CostmapNavigatorModel", name := "tune", desc := "(II)I" } : Jvm.MethodName)) ∈ lw_all := lw_g (lw_at lw_m1 223 rfl) rfl
theorem q246 : (Jvm.Cond.code ({ cls := "CostmapNavigatorModel", name := "tune", desc := "(II)I" } : Jvm.MethodName) prog_3_method_5_code (3 : Nat) (Option.some Jvm.ClassFile.FieldType.int)) ∈ lw_all := lw_g (lw_at lw_m1 224 rfl) rfl
theorem q248 : (Jvm.Cond.instanceMethod ({ cls := "CostmapNavigatorModel", name := "place", desc := "(I)I" } : Jvm.MethodName)) ∈ lw_all := lw_g (lw_at lw_m1 226 rfl) rfl
theorem q249 : (Jvm.Cond.selects "CostmapNavigatorModel" ({ cls := "CostmapNavigatorModel", name := "place", desc := "(I)I" } : Jvm.MethodName) ({ cls := "CostmapNavigatorModel", name := "place", desc := "(I)I" } : Jvm.MethodName)) ∈ lw_all := lw_g (lw_at lw_m1 227 rfl) rfl
theorem q250 : (Jvm.Cond.code ({ cls := "CostmapNavigatorModel", name := "place", desc := "(I)I" } : Jvm.MethodName) prog_3_method_6_code (3 : Nat) (Option.some Jvm.ClassFile.FieldType.int)) ∈ lw_all := lw_g (lw_at lw_m1 228 rfl) rfl
theorem q252 : (Jvm.Cond.instanceMethod ({ cls := "CostmapNavigatorModel", name := "goal", desc := "(I)I" } : Jvm.MethodName)) ∈ lw_all := lw_g (lw_at lw_m1 230 rfl) rfl
theorem q253 : (Jvm.Cond.selects "CostmapNavigatorModel" ({ cls := "CostmapNavigatorModel", name := "goal", desc := "(I)I" } : Jvm.MethodName) ({ cls := "CostmapNavigatorModel", name := "goal", desc := "(I)I" } : Jvm.MethodName)) ∈ lw_all := lw_g (lw_at lw_m1 231 rfl) rfl
theorem q254 : (Jvm.Cond.code ({ cls := "CostmapNavigatorModel", name := "goal", desc := "(I)I" } : Jvm.MethodName) prog_3_method_7_code (3 : Nat) (Option.some Jvm.ClassFile.FieldType.int)) ∈ lw_all := lw_g (lw_at lw_m1 232 rfl) rfl
theorem q256 : (Jvm.Cond.instanceMethod ({ cls := "CostmapNavigatorModel", name := "blocked", desc := "(I)Z" } : Jvm.MethodName)) ∈ lw_all := lw_g (lw_at lw_m1 234 rfl) rfl
theorem q257 : (Jvm.Cond.selects "CostmapNavigatorModel" ({ cls := "CostmapNavigatorModel", name := "blocked", desc := "(I)Z" } : Jvm.MethodName) ({ cls := "CostmapNavigatorModel", name := "blocked", desc := "(I)Z" } : Jvm.MethodName)) ∈ lw_all := lw_g (lw_at lw_m1 235 rfl) rfl
theorem q258 : (Jvm.Cond.code ({ cls := "CostmapNavigatorModel", name := "blocked", desc := "(I)Z" } : Jvm.MethodName) prog_3_method_8_code (2 : Nat) (Option.some Jvm.ClassFile.FieldType.boolean)) ∈ lw_all := lw_g (lw_at lw_m1 236 rfl) rfl
theorem q260 : (Jvm.Cond.instanceMethod ({ cls := "CostmapNavigatorModel", name := "clearance", desc := "(I)I" } : Jvm.MethodName)) ∈ lw_all := lw_g (lw_at lw_m1 238 rfl) rfl
theorem q261 : (Jvm.Cond.selects "CostmapNavigatorModel" ({ cls := "CostmapNavigatorModel", name := "clearance", desc := "(I)I" } : Jvm.MethodName) ({ cls := "CostmapNavigatorModel", name := "clearance", desc := "(I)I" } : Jvm.MethodName)) ∈ lw_all := lw_g (lw_at lw_m1 239 rfl) rfl
theorem q262 : (Jvm.Cond.code ({ cls := "CostmapNavigatorModel", name := "clearance", desc := "(I)I" } : Jvm.MethodName) prog_3_method_9_code (7 : Nat) (Option.some Jvm.ClassFile.FieldType.int)) ∈ lw_all := lw_g (lw_at lw_m2 0 rfl) rfl
theorem q264 : (Jvm.Cond.instanceMethod ({ cls := "CostmapNavigatorModel", name := "cost", desc := "(I)I" } : Jvm.MethodName)) ∈ lw_all := lw_g (lw_at lw_m2 2 rfl) rfl
theorem q265 : (Jvm.Cond.selects "CostmapNavigatorModel" ({ cls := "CostmapNavigatorModel", name := "cost", desc := "(I)I" } : Jvm.MethodName) ({ cls := "CostmapNavigatorModel", name := "cost", desc := "(I)I" } : Jvm.MethodName)) ∈ lw_all := lw_g (lw_at lw_m2 3 rfl) rfl
theorem q266 : (Jvm.Cond.code ({ cls := "CostmapNavigatorModel", name := "cost", desc := "(I)I" } : Jvm.MethodName) prog_3_method_10_code (3 : Nat) (Option.some Jvm.ClassFile.FieldType.int)) ∈ lw_all := lw_g (lw_at lw_m2 4 rfl) rfl
theorem q267 : (Jvm.Cond.methodLink "CostmapNavigatorModel" (37 : Nat) ({ cls := "CostmapNavigatorModel", name := "clearance", desc := "(I)I" } : Jvm.MethodName)) ∈ lw_all := lw_g (lw_at lw_m2 5 rfl) rfl
theorem q269 : (Jvm.Cond.instanceMethod ({ cls := "CostmapNavigatorModel", name := "distance", desc := "()I" } : Jvm.MethodName)) ∈ lw_all := lw_g (lw_at lw_m2 7 rfl) rfl
theorem q270 : (Jvm.Cond.selects "CostmapNavigatorModel" ({ cls := "CostmapNavigatorModel", name := "distance", desc := "()I" } : Jvm.MethodName) ({ cls := "CostmapNavigatorModel", name := "distance", desc := "()I" } : Jvm.MethodName)) ∈ lw_all := lw_g (lw_at lw_m2 8 rfl) rfl
theorem q271 : (Jvm.Cond.code ({ cls := "CostmapNavigatorModel", name := "distance", desc := "()I" } : Jvm.MethodName) prog_3_method_14_code (1 : Nat) (Option.some Jvm.ClassFile.FieldType.int)) ∈ lw_all := lw_g (lw_at lw_m2 9 rfl) rfl
theorem q272 : (Jvm.Cond.methodLink "CostmapNavigatorModel" (52 : Nat) ({ cls := "CostmapNavigatorModel", name := "distanceFrom", desc := "(I)I" } : Jvm.MethodName)) ∈ lw_all := lw_g (lw_at lw_m2 10 rfl) rfl
theorem q273 : (Jvm.Cond.instanceMethod ({ cls := "CostmapNavigatorModel", name := "distanceFrom", desc := "(I)I" } : Jvm.MethodName)) ∈ lw_all := lw_g (lw_at lw_m2 11 rfl) rfl
theorem q274 : (Jvm.Cond.selects "CostmapNavigatorModel" ({ cls := "CostmapNavigatorModel", name := "distanceFrom", desc := "(I)I" } : Jvm.MethodName) ({ cls := "CostmapNavigatorModel", name := "distanceFrom", desc := "(I)I" } : Jvm.MethodName)) ∈ lw_all := lw_g (lw_at lw_m2 12 rfl) rfl
theorem q275 : (Jvm.Cond.code ({ cls := "CostmapNavigatorModel", name := "distanceFrom", desc := "(I)I" } : Jvm.MethodName) prog_3_method_15_code (2 : Nat) (Option.some Jvm.ClassFile.FieldType.int)) ∈ lw_all := lw_g (lw_at lw_m2 13 rfl) rfl
theorem q276 : (Jvm.Cond.methodLink "CostmapNavigatorModel" (55 : Nat) ({ cls := "CostmapNavigatorModel", name := "findDistances", desc := "()V" } : Jvm.MethodName)) ∈ lw_all := lw_g (lw_at lw_m2 14 rfl) rfl
theorem q277 : (Jvm.Cond.privateMethod ({ cls := "CostmapNavigatorModel", name := "findDistances", desc := "()V" } : Jvm.MethodName)) ∈ lw_tbl := lw_at lw_m2 15 rfl
theorem q278 : (Jvm.Cond.instanceMethod ({ cls := "CostmapNavigatorModel", name := "findDistances", desc := "()V" } : Jvm.MethodName)) ∈ lw_all := lw_g (lw_at lw_m2 16 rfl) rfl
theorem q279 : (Jvm.Cond.code ({ cls := "CostmapNavigatorModel", name := "findDistances", desc := "()V" } : Jvm.MethodName) prog_3_method_13_code (4 : Nat) (Option.none : Option Jvm.ClassFile.FieldType)) ∈ lw_all := lw_g (lw_at lw_m2 17 rfl) rfl
theorem q280 : (Jvm.Cond.methodLink "CostmapNavigatorModel" (46 : Nat) ({ cls := "CostmapNavigatorModel", name := "cost", desc := "(I)I" } : Jvm.MethodName)) ∈ lw_all := lw_g (lw_at lw_m2 18 rfl) rfl
theorem q281 : (Jvm.Cond.constant "CostmapNavigatorModel" (45 : Nat) (1000000 : Int32)) ∈ lw_all := lw_g (lw_at lw_m2 19 rfl) rfl
theorem q282 : (Jvm.Cond.methodLink "CostmapNavigatorModel" (49 : Nat) ({ cls := "CostmapNavigatorModel", name := "relax", desc := "(I)Z" } : Jvm.MethodName)) ∈ lw_all := lw_g (lw_at lw_m2 20 rfl) rfl
theorem q283 : (Jvm.Cond.privateMethod ({ cls := "CostmapNavigatorModel", name := "relax", desc := "(I)Z" } : Jvm.MethodName)) ∈ lw_tbl := lw_at lw_m2 21 rfl
theorem q284 : (Jvm.Cond.instanceMethod ({ cls := "CostmapNavigatorModel", name := "relax", desc := "(I)Z" } : Jvm.MethodName)) ∈ lw_all := lw_g (lw_at lw_m2 22 rfl) rfl
theorem q285 : (Jvm.Cond.code ({ cls := "CostmapNavigatorModel", name := "relax", desc := "(I)Z" } : Jvm.MethodName) prog_3_method_12_code (5 : Nat) (Option.some Jvm.ClassFile.FieldType.boolean)) ∈ lw_all := lw_g (lw_at lw_m2 23 rfl) rfl
theorem q286 : (Jvm.Cond.methodLink "CostmapNavigatorModel" (41 : Nat) ({ cls := "CostmapNavigatorModel", name := "neighbour", desc := "(II)I" } : Jvm.MethodName)) ∈ lw_all := lw_g (lw_at lw_m2 24 rfl) rfl
theorem q287 : (Jvm.Cond.privateMethod ({ cls := "CostmapNavigatorModel", name := "neighbour", desc := "(II)I" } : Jvm.MethodName)) ∈ lw_tbl := lw_at lw_m2 25 rfl
theorem q288 : (Jvm.Cond.instanceMethod ({ cls := "CostmapNavigatorModel", name := "neighbour", desc := "(II)I" } : Jvm.MethodName)) ∈ lw_all := lw_g (lw_at lw_m2 26 rfl) rfl
theorem q289 : (Jvm.Cond.code ({ cls := "CostmapNavigatorModel", name := "neighbour", desc := "(II)I" } : Jvm.MethodName) prog_3_method_11_code (3 : Nat) (Option.some Jvm.ClassFile.FieldType.int)) ∈ lw_all := lw_g (lw_at lw_m2 27 rfl) rfl
theorem q292 : (Jvm.Cond.instanceMethod ({ cls := "CostmapNavigatorModel", name := "next", desc := "()I" } : Jvm.MethodName)) ∈ lw_all := lw_g (lw_at lw_m2 30 rfl) rfl
theorem q293 : (Jvm.Cond.selects "CostmapNavigatorModel" ({ cls := "CostmapNavigatorModel", name := "next", desc := "()I" } : Jvm.MethodName) ({ cls := "CostmapNavigatorModel", name := "next", desc := "()I" } : Jvm.MethodName)) ∈ lw_all := lw_g (lw_at lw_m2 31 rfl) rfl
theorem q294 : (Jvm.Cond.code ({ cls := "CostmapNavigatorModel", name := "next", desc := "()I" } : Jvm.MethodName) prog_3_method_17_code (1 : Nat) (Option.some Jvm.ClassFile.FieldType.int)) ∈ lw_all := lw_g (lw_at lw_m2 32 rfl) rfl
theorem q295 : (Jvm.Cond.methodLink "CostmapNavigatorModel" (58 : Nat) ({ cls := "CostmapNavigatorModel", name := "directionFrom", desc := "(I)I" } : Jvm.MethodName)) ∈ lw_all := lw_g (lw_at lw_m2 33 rfl) rfl
theorem q296 : (Jvm.Cond.privateMethod ({ cls := "CostmapNavigatorModel", name := "directionFrom", desc := "(I)I" } : Jvm.MethodName)) ∈ lw_tbl := lw_at lw_m2 34 rfl
theorem q297 : (Jvm.Cond.instanceMethod ({ cls := "CostmapNavigatorModel", name := "directionFrom", desc := "(I)I" } : Jvm.MethodName)) ∈ lw_all := lw_g (lw_at lw_m2 35 rfl) rfl
theorem q298 : (Jvm.Cond.code ({ cls := "CostmapNavigatorModel", name := "directionFrom", desc := "(I)I" } : Jvm.MethodName) prog_3_method_16_code (4 : Nat) (Option.some Jvm.ClassFile.FieldType.int)) ∈ lw_all := lw_g (lw_at lw_m2 36 rfl) rfl
theorem q300 : (Jvm.Cond.instanceMethod ({ cls := "CostmapNavigatorModel", name := "drive", desc := "(I)I" } : Jvm.MethodName)) ∈ lw_all := lw_g (lw_at lw_m2 38 rfl) rfl
theorem q301 : (Jvm.Cond.selects "CostmapNavigatorModel" ({ cls := "CostmapNavigatorModel", name := "drive", desc := "(I)I" } : Jvm.MethodName) ({ cls := "CostmapNavigatorModel", name := "drive", desc := "(I)I" } : Jvm.MethodName)) ∈ lw_all := lw_g (lw_at lw_m2 39 rfl) rfl
theorem q302 : (Jvm.Cond.code ({ cls := "CostmapNavigatorModel", name := "drive", desc := "(I)I" } : Jvm.MethodName) prog_3_method_18_code (5 : Nat) (Option.some Jvm.ClassFile.FieldType.int)) ∈ lw_all := lw_g (lw_at lw_m2 40 rfl) rfl
theorem q304 : (Jvm.Cond.instanceMethod ({ cls := "CostmapNavigatorModel", name := "where", desc := "()I" } : Jvm.MethodName)) ∈ lw_all := lw_g (lw_at lw_m2 42 rfl) rfl
theorem q305 : (Jvm.Cond.selects "CostmapNavigatorModel" ({ cls := "CostmapNavigatorModel", name := "where", desc := "()I" } : Jvm.MethodName) ({ cls := "CostmapNavigatorModel", name := "where", desc := "()I" } : Jvm.MethodName)) ∈ lw_all := lw_g (lw_at lw_m2 43 rfl) rfl
theorem q306 : (Jvm.Cond.code ({ cls := "CostmapNavigatorModel", name := "where", desc := "()I" } : Jvm.MethodName) prog_3_method_19_code (1 : Nat) (Option.some Jvm.ClassFile.FieldType.int)) ∈ lw_all := lw_g (lw_at lw_m2 44 rfl) rfl
theorem q308 : (Jvm.Cond.instanceMethod ({ cls := "CostmapNavigatorModel", name := "moves", desc := "()I" } : Jvm.MethodName)) ∈ lw_all := lw_g (lw_at lw_m2 46 rfl) rfl
theorem q309 : (Jvm.Cond.selects "CostmapNavigatorModel" ({ cls := "CostmapNavigatorModel", name := "moves", desc := "()I" } : Jvm.MethodName) ({ cls := "CostmapNavigatorModel", name := "moves", desc := "()I" } : Jvm.MethodName)) ∈ lw_all := lw_g (lw_at lw_m2 47 rfl) rfl
theorem q310 : (Jvm.Cond.code ({ cls := "CostmapNavigatorModel", name := "moves", desc := "()I" } : Jvm.MethodName) prog_3_method_20_code (4 : Nat) (Option.some Jvm.ClassFile.FieldType.int)) ∈ lw_all := lw_g (lw_at lw_m2 48 rfl) rfl
theorem q312 : (Jvm.Cond.instanceMethod ({ cls := "CostmapNavigatorModel", name := "reached", desc := "()I" } : Jvm.MethodName)) ∈ lw_all := lw_g (lw_at lw_m2 50 rfl) rfl
theorem q313 : (Jvm.Cond.selects "CostmapNavigatorModel" ({ cls := "CostmapNavigatorModel", name := "reached", desc := "()I" } : Jvm.MethodName) ({ cls := "CostmapNavigatorModel", name := "reached", desc := "()I" } : Jvm.MethodName)) ∈ lw_all := lw_g (lw_at lw_m2 51 rfl) rfl
theorem q314 : (Jvm.Cond.code ({ cls := "CostmapNavigatorModel", name := "reached", desc := "()I" } : Jvm.MethodName) prog_3_method_21_code (3 : Nat) (Option.some Jvm.ClassFile.FieldType.int)) ∈ lw_all := lw_g (lw_at lw_m2 52 rfl) rfl
theorem q316 : (Jvm.Cond.instanceMethod ({ cls := "CostmapNavigatorModel", name := "farthest", desc := "()I" } : Jvm.MethodName)) ∈ lw_all := lw_g (lw_at lw_m2 54 rfl) rfl
theorem q317 : (Jvm.Cond.selects "CostmapNavigatorModel" ({ cls := "CostmapNavigatorModel", name := "farthest", desc := "()I" } : Jvm.MethodName) ({ cls := "CostmapNavigatorModel", name := "farthest", desc := "()I" } : Jvm.MethodName)) ∈ lw_all := lw_g (lw_at lw_m2 55 rfl) rfl
theorem q318 : (Jvm.Cond.code ({ cls := "CostmapNavigatorModel", name := "farthest", desc := "()I" } : Jvm.MethodName) prog_3_method_22_code (3 : Nat) (Option.some Jvm.ClassFile.FieldType.int)) ∈ lw_all := lw_g (lw_at lw_m2 56 rfl) rfl
theorem in_X1 : ∀ w ∈ wsX10, w ∈ lw_all := lw_in wsX10 [216, 218, 220, 222, 224, 226, 228] (by decide +kernel) (by decide +kernel)
theorem q22 : (Jvm.Cond.initialized "CostmapNavigatorLaw") ∈ lw_all := lw_g (lw_at lw_m1 0 rfl) rfl
theorem q25 : (Jvm.Cond.classLink "CostmapNavigatorLaw" (7 : Nat) "CostmapNavigator") ∈ lw_all := lw_g (lw_at lw_m1 3 rfl) rfl
theorem q27 : (Jvm.Cond.methodLink "CostmapNavigatorLaw" (9 : Nat) ({ cls := "CostmapNavigator", name := "<init>", desc := "()V" } : Jvm.MethodName)) ∈ lw_all := lw_g (lw_at lw_m1 5 rfl) rfl
theorem q70 : (Jvm.Cond.methodLink "CostmapNavigatorLaw" (13 : Nat) ({ cls := "CostmapNavigator", name := "block", desc := "(II)I" } : Jvm.MethodName)) ∈ lw_all := lw_g (lw_at lw_m1 48 rfl) rfl
theorem q126 : (Jvm.Cond.methodLink "CostmapNavigatorLaw" (18 : Nat) ({ cls := "CostmapNavigator", name := "wall", desc := "(III)I" } : Jvm.MethodName)) ∈ lw_all := lw_g (lw_at lw_m1 104 rfl) rfl
theorem q130 : (Jvm.Cond.methodLink "CostmapNavigatorLaw" (23 : Nat) ({ cls := "CostmapNavigator", name := "tune", desc := "(II)I" } : Jvm.MethodName)) ∈ lw_all := lw_g (lw_at lw_m1 108 rfl) rfl
theorem q134 : (Jvm.Cond.methodLink "CostmapNavigatorLaw" (27 : Nat) ({ cls := "CostmapNavigator", name := "place", desc := "(I)I" } : Jvm.MethodName)) ∈ lw_all := lw_g (lw_at lw_m1 112 rfl) rfl
theorem q138 : (Jvm.Cond.methodLink "CostmapNavigatorLaw" (32 : Nat) ({ cls := "CostmapNavigator", name := "goal", desc := "(I)I" } : Jvm.MethodName)) ∈ lw_all := lw_g (lw_at lw_m1 116 rfl) rfl
theorem q142 : (Jvm.Cond.methodLink "CostmapNavigatorLaw" (36 : Nat) ({ cls := "CostmapNavigator", name := "blocked", desc := "(I)Z" } : Jvm.MethodName)) ∈ lw_all := lw_g (lw_at lw_m1 120 rfl) rfl
theorem q146 : (Jvm.Cond.methodLink "CostmapNavigatorLaw" (41 : Nat) ({ cls := "CostmapNavigator", name := "clearance", desc := "(I)I" } : Jvm.MethodName)) ∈ lw_all := lw_g (lw_at lw_m1 124 rfl) rfl
theorem q150 : (Jvm.Cond.methodLink "CostmapNavigatorLaw" (45 : Nat) ({ cls := "CostmapNavigator", name := "cost", desc := "(I)I" } : Jvm.MethodName)) ∈ lw_all := lw_g (lw_at lw_m1 128 rfl) rfl
theorem q154 : (Jvm.Cond.methodLink "CostmapNavigatorLaw" (49 : Nat) ({ cls := "CostmapNavigator", name := "distance", desc := "()I" } : Jvm.MethodName)) ∈ lw_all := lw_g (lw_at lw_m1 132 rfl) rfl
theorem q171 : (Jvm.Cond.methodLink "CostmapNavigatorLaw" (54 : Nat) ({ cls := "CostmapNavigator", name := "distanceFrom", desc := "(I)I" } : Jvm.MethodName)) ∈ lw_all := lw_g (lw_at lw_m1 149 rfl) rfl
theorem q175 : (Jvm.Cond.methodLink "CostmapNavigatorLaw" (58 : Nat) ({ cls := "CostmapNavigator", name := "next", desc := "()I" } : Jvm.MethodName)) ∈ lw_all := lw_g (lw_at lw_m1 153 rfl) rfl
theorem q183 : (Jvm.Cond.methodLink "CostmapNavigatorLaw" (62 : Nat) ({ cls := "CostmapNavigator", name := "drive", desc := "(I)I" } : Jvm.MethodName)) ∈ lw_all := lw_g (lw_at lw_m1 161 rfl) rfl
theorem q187 : (Jvm.Cond.methodLink "CostmapNavigatorLaw" (66 : Nat) ({ cls := "CostmapNavigator", name := "where", desc := "()I" } : Jvm.MethodName)) ∈ lw_all := lw_g (lw_at lw_m1 165 rfl) rfl
theorem q191 : (Jvm.Cond.methodLink "CostmapNavigatorLaw" (70 : Nat) ({ cls := "CostmapNavigator", name := "moves", desc := "()I" } : Jvm.MethodName)) ∈ lw_all := lw_g (lw_at lw_m1 169 rfl) rfl
theorem q195 : (Jvm.Cond.methodLink "CostmapNavigatorLaw" (74 : Nat) ({ cls := "CostmapNavigator", name := "reached", desc := "()I" } : Jvm.MethodName)) ∈ lw_all := lw_g (lw_at lw_m1 173 rfl) rfl
theorem q199 : (Jvm.Cond.methodLink "CostmapNavigatorLaw" (78 : Nat) ({ cls := "CostmapNavigator", name := "farthest", desc := "()I" } : Jvm.MethodName)) ∈ lw_all := lw_g (lw_at lw_m1 177 rfl) rfl
theorem q203 : (Jvm.Cond.classLink "CostmapNavigatorLaw" (10 : Nat) "CostmapNavigatorModel") ∈ lw_all := lw_g (lw_at lw_m1 181 rfl) rfl
theorem q205 : (Jvm.Cond.methodLink "CostmapNavigatorLaw" (12 : Nat) ({ cls := "CostmapNavigatorModel", name := "<init>", desc := "()V" } : Jvm.MethodName)) ∈ lw_all := lw_g (lw_at lw_m1 183 rfl) rfl
theorem q231 : (Jvm.Cond.methodLink "CostmapNavigatorLaw" (17 : Nat) ({ cls := "CostmapNavigatorModel", name := "block", desc := "(II)I" } : Jvm.MethodName)) ∈ lw_all := lw_g (lw_at lw_m1 209 rfl) rfl
theorem q239 : (Jvm.Cond.methodLink "CostmapNavigatorLaw" (22 : Nat) ({ cls := "CostmapNavigatorModel", name := "wall", desc := "(III)I" } : Jvm.MethodName)) ∈ lw_all := lw_g (lw_at lw_m1 217 rfl) rfl
theorem q243 : (Jvm.Cond.methodLink "CostmapNavigatorLaw" (26 : Nat) ({ cls := "CostmapNavigatorModel", name := "tune", desc := "(II)I" } : Jvm.MethodName)) ∈ lw_all := lw_g (lw_at lw_m1 221 rfl) rfl
theorem q247 : (Jvm.Cond.methodLink "CostmapNavigatorLaw" (31 : Nat) ({ cls := "CostmapNavigatorModel", name := "place", desc := "(I)I" } : Jvm.MethodName)) ∈ lw_all := lw_g (lw_at lw_m1 225 rfl) rfl
theorem q251 : (Jvm.Cond.methodLink "CostmapNavigatorLaw" (35 : Nat) ({ cls := "CostmapNavigatorModel", name := "goal", desc := "(I)I" } : Jvm.MethodName)) ∈ lw_all := lw_g (lw_at lw_m1 229 rfl) rfl
theorem q255 : (Jvm.Cond.methodLink "CostmapNavigatorLaw" (40 : Nat) ({ cls := "CostmapNavigatorModel", name := "blocked", desc := "(I)Z" } : Jvm.MethodName)) ∈ lw_all := lw_g (lw_at lw_m1 233 rfl) rfl
theorem q259 : (Jvm.Cond.methodLink "CostmapNavigatorLaw" (44 : Nat) ({ cls := "CostmapNavigatorModel", name := "clearance", desc := "(I)I" } : Jvm.MethodName)) ∈ lw_all := lw_g (lw_at lw_m1 237 rfl) rfl
theorem q263 : (Jvm.Cond.methodLink "CostmapNavigatorLaw" (48 : Nat) ({ cls := "CostmapNavigatorModel", name := "cost", desc := "(I)I" } : Jvm.MethodName)) ∈ lw_all := lw_g (lw_at lw_m2 1 rfl) rfl
theorem q268 : (Jvm.Cond.methodLink "CostmapNavigatorLaw" (53 : Nat) ({ cls := "CostmapNavigatorModel", name := "distance", desc := "()I" } : Jvm.MethodName)) ∈ lw_all := lw_g (lw_at lw_m2 6 rfl) rfl
theorem q290 : (Jvm.Cond.methodLink "CostmapNavigatorLaw" (57 : Nat) ({ cls := "CostmapNavigatorModel", name := "distanceFrom", desc := "(I)I" } : Jvm.MethodName)) ∈ lw_all := lw_g (lw_at lw_m2 28 rfl) rfl
theorem q291 : (Jvm.Cond.methodLink "CostmapNavigatorLaw" (61 : Nat) ({ cls := "CostmapNavigatorModel", name := "next", desc := "()I" } : Jvm.MethodName)) ∈ lw_all := lw_g (lw_at lw_m2 29 rfl) rfl
theorem q299 : (Jvm.Cond.methodLink "CostmapNavigatorLaw" (65 : Nat) ({ cls := "CostmapNavigatorModel", name := "drive", desc := "(I)I" } : Jvm.MethodName)) ∈ lw_all := lw_g (lw_at lw_m2 37 rfl) rfl
theorem q303 : (Jvm.Cond.methodLink "CostmapNavigatorLaw" (69 : Nat) ({ cls := "CostmapNavigatorModel", name := "where", desc := "()I" } : Jvm.MethodName)) ∈ lw_all := lw_g (lw_at lw_m2 41 rfl) rfl
theorem q307 : (Jvm.Cond.methodLink "CostmapNavigatorLaw" (73 : Nat) ({ cls := "CostmapNavigatorModel", name := "moves", desc := "()I" } : Jvm.MethodName)) ∈ lw_all := lw_g (lw_at lw_m2 45 rfl) rfl
theorem q311 : (Jvm.Cond.methodLink "CostmapNavigatorLaw" (77 : Nat) ({ cls := "CostmapNavigatorModel", name := "reached", desc := "()I" } : Jvm.MethodName)) ∈ lw_all := lw_g (lw_at lw_m2 49 rfl) rfl
theorem q315 : (Jvm.Cond.methodLink "CostmapNavigatorLaw" (81 : Nat) ({ cls := "CostmapNavigatorModel", name := "farthest", desc := "()I" } : Jvm.MethodName)) ∈ lw_all := lw_g (lw_at lw_m2 53 rfl) rfl
abbrev cL_law : ByteArray := code
end
section
set_option maxRecDepth 100000
theorem dX0_init_0 : decode cX0_init 0 = .ok (.aload_n 0, 1) := by decide +kernel
theorem dX0_init_1 : decode cX0_init 1 = .ok (.invokespecial 1, 3) := by decide +kernel
theorem dX0_init_4 : decode cX0_init 4 = .ok (.aload_n 0, 1) := by decide +kernel
theorem dX0_init_5 : decode cX0_init 5 = .ok (.bipush 81, 2) := by decide +kernel
theorem dX0_init_7 : decode cX0_init 7 = .ok (.newarray .boolean, 2) := by decide +kernel
theorem dX0_init_9 : decode cX0_init 9 = .ok (.putfield 7, 3) := by decide +kernel
theorem dX0_init_12 : decode cX0_init 12 = .ok (.aload_n 0, 1) := by decide +kernel
theorem dX0_init_13 : decode cX0_init 13 = .ok (.bipush 81, 2) := by decide +kernel
theorem dX0_init_15 : decode cX0_init 15 = .ok (.newarray .int, 2) := by decide +kernel
theorem dX0_init_17 : decode cX0_init 17 = .ok (.putfield 13, 3) := by decide +kernel
theorem dX0_init_20 : decode cX0_init 20 = .ok (.aload_n 0, 1) := by decide +kernel
theorem dX0_init_21 : decode cX0_init 21 = .ok (.bipush 81, 2) := by decide +kernel
theorem dX0_init_23 : decode cX0_init 23 = .ok (.newarray .int, 2) := by decide +kernel
theorem dX0_init_25 : decode cX0_init 25 = .ok (.putfield 17, 3) := by decide +kernel
theorem dX0_init_28 : decode cX0_init 28 = .ok (.aload_n 0, 1) := by decide +kernel
theorem dX0_init_29 : decode cX0_init 29 = .ok (.bipush 81, 2) := by decide +kernel
theorem dX0_init_31 : decode cX0_init 31 = .ok (.newarray .boolean, 2) := by decide +kernel
theorem dX0_init_33 : decode cX0_init 33 = .ok (.putfield 20, 3) := by decide +kernel
theorem dX0_init_36 : decode cX0_init 36 = .ok (.aload_n 0, 1) := by decide +kernel
theorem dX0_init_37 : decode cX0_init 37 = .ok (.bipush 81, 2) := by decide +kernel
theorem dX0_init_39 : decode cX0_init 39 = .ok (.newarray .int, 2) := by decide +kernel
theorem dX0_init_41 : decode cX0_init 41 = .ok (.putfield 23, 3) := by decide +kernel
theorem dX0_init_44 : decode cX0_init 44 = .ok (.aload_n 0, 1) := by decide +kernel
theorem dX0_init_45 : decode cX0_init 45 = .ok (.bipush 81, 2) := by decide +kernel
theorem dX0_init_47 : decode cX0_init 47 = .ok (.newarray .int, 2) := by decide +kernel
theorem dX0_init_49 : decode cX0_init 49 = .ok (.putfield 26, 3) := by decide +kernel
theorem dX0_init_52 : decode cX0_init 52 = .ok (.aload_n 0, 1) := by decide +kernel
theorem dX0_init_53 : decode cX0_init 53 = .ok (.bipush 81, 2) := by decide +kernel
theorem dX0_init_55 : decode cX0_init 55 = .ok (.newarray .int, 2) := by decide +kernel
theorem dX0_init_57 : decode cX0_init 57 = .ok (.putfield 29, 3) := by decide +kernel
theorem dX0_init_60 : decode cX0_init 60 = .ok (.aload_n 0, 1) := by decide +kernel
theorem dX0_init_61 : decode cX0_init 61 = .ok (.iconst 1, 1) := by decide +kernel
theorem dX0_init_62 : decode cX0_init 62 = .ok (.putfield 32, 3) := by decide +kernel
theorem dX0_init_65 : decode cX0_init 65 = .ok (.aload_n 0, 1) := by decide +kernel
theorem dX0_init_66 : decode cX0_init 66 = .ok (.iconst 3, 1) := by decide +kernel
theorem dX0_init_67 : decode cX0_init 67 = .ok (.putfield 36, 3) := by decide +kernel
theorem dX0_init_70 : decode cX0_init 70 = .ok (.aload_n 0, 1) := by decide +kernel
theorem dX0_init_71 : decode cX0_init 71 = .ok (.bipush 80, 2) := by decide +kernel
theorem dX0_init_73 : decode cX0_init 73 = .ok (.putfield 39, 3) := by decide +kernel
theorem dX0_init_76 : decode cX0_init 76 = .ok (.iconst 0, 1) := by decide +kernel
theorem dX0_init_77 : decode cX0_init 77 = .ok (.istore_n 1, 1) := by decide +kernel
theorem dX0_init_78 : decode cX0_init 78 = .ok (.iload_n 1, 1) := by decide +kernel
theorem dX0_init_79 : decode cX0_init 79 = .ok (.bipush 81, 2) := by decide +kernel
theorem dX0_init_81 : decode cX0_init 81 = .ok (.if_icmp .ge 47, 3) := by decide +kernel
theorem dX0_init_84 : decode cX0_init 84 = .ok (.aload_n 0, 1) := by decide +kernel
theorem dX0_init_85 : decode cX0_init 85 = .ok (.getfield 13, 3) := by decide +kernel
theorem dX0_init_88 : decode cX0_init 88 = .ok (.iload_n 1, 1) := by decide +kernel
theorem dX0_init_89 : decode cX0_init 89 = .ok (.bipush 9, 2) := by decide +kernel
theorem dX0_init_91 : decode cX0_init 91 = .ok (.iastore, 1) := by decide +kernel
theorem dX0_init_92 : decode cX0_init 92 = .ok (.aload_n 0, 1) := by decide +kernel
theorem dX0_init_93 : decode cX0_init 93 = .ok (.getfield 17, 3) := by decide +kernel
theorem dX0_init_96 : decode cX0_init 96 = .ok (.iload_n 1, 1) := by decide +kernel
theorem dX0_init_97 : decode cX0_init 97 = .ok (.iconst (-1), 1) := by decide +kernel
theorem dX0_init_98 : decode cX0_init 98 = .ok (.iastore, 1) := by decide +kernel
theorem dX0_init_99 : decode cX0_init 99 = .ok (.aload_n 0, 1) := by decide +kernel
theorem dX0_init_100 : decode cX0_init 100 = .ok (.getfield 23, 3) := by decide +kernel
theorem dX0_init_103 : decode cX0_init 103 = .ok (.iload_n 1, 1) := by decide +kernel
theorem dX0_init_104 : decode cX0_init 104 = .ok (.iconst 1, 1) := by decide +kernel
theorem dX0_init_105 : decode cX0_init 105 = .ok (.iastore, 1) := by decide +kernel
theorem dX0_init_106 : decode cX0_init 106 = .ok (.aload_n 0, 1) := by decide +kernel
theorem dX0_init_107 : decode cX0_init 107 = .ok (.getfield 26, 3) := by decide +kernel
theorem dX0_init_110 : decode cX0_init 110 = .ok (.iload_n 1, 1) := by decide +kernel
theorem dX0_init_111 : decode cX0_init 111 = .ok (.ldc 42, 2) := by decide +kernel
theorem dX0_init_113 : decode cX0_init 113 = .ok (.iastore, 1) := by decide +kernel
theorem dX0_init_114 : decode cX0_init 114 = .ok (.aload_n 0, 1) := by decide +kernel
theorem dX0_init_115 : decode cX0_init 115 = .ok (.getfield 29, 3) := by decide +kernel
theorem dX0_init_118 : decode cX0_init 118 = .ok (.iload_n 1, 1) := by decide +kernel
theorem dX0_init_119 : decode cX0_init 119 = .ok (.ldc 42, 2) := by decide +kernel
theorem dX0_init_121 : decode cX0_init 121 = .ok (.iastore, 1) := by decide +kernel
theorem dX0_init_122 : decode cX0_init 122 = .ok (.iinc 1 1, 3) := by decide +kernel
theorem dX0_init_125 : decode cX0_init 125 = .ok (.goto (-47), 3) := by decide +kernel
theorem dX0_init_128 : decode cX0_init 128 = .ok (.aload_n 0, 1) := by decide +kernel
theorem dX0_init_129 : decode cX0_init 129 = .ok (.getfield 29, 3) := by decide +kernel
theorem dX0_init_132 : decode cX0_init 132 = .ok (.aload_n 0, 1) := by decide +kernel
theorem dX0_init_133 : decode cX0_init 133 = .ok (.getfield 39, 3) := by decide +kernel
theorem dX0_init_136 : decode cX0_init 136 = .ok (.iconst 0, 1) := by decide +kernel
theorem dX0_init_137 : decode cX0_init 137 = .ok (.iastore, 1) := by decide +kernel
theorem dX0_init_138 : decode cX0_init 138 = .ok (.return_, 1) := by decide +kernel
theorem dX0_block_0 : decode cX0_block 0 = .ok (.aload_n 0, 1) := by decide +kernel
theorem dX0_block_1 : decode cX0_block 1 = .ok (.iload_n 1, 1) := by decide +kernel
theorem dX0_block_2 : decode cX0_block 2 = .ok (.invokevirtual 83, 3) := by decide +kernel
theorem dX0_block_5 : decode cX0_block 5 = .ok (.ifCond .eq 5, 3) := by decide +kernel
theorem dX0_block_8 : decode cX0_block 8 = .ok (.iconst (-1), 1) := by decide +kernel
theorem dX0_block_9 : decode cX0_block 9 = .ok (.ireturn, 1) := by decide +kernel
theorem dX0_block_10 : decode cX0_block 10 = .ok (.aload_n 0, 1) := by decide +kernel
theorem dX0_block_11 : decode cX0_block 11 = .ok (.getfield 7, 3) := by decide +kernel
theorem dX0_block_14 : decode cX0_block 14 = .ok (.iload_n 1, 1) := by decide +kernel
theorem dX0_block_15 : decode cX0_block 15 = .ok (.baload, 1) := by decide +kernel
theorem dX0_block_16 : decode cX0_block 16 = .ok (.ifCond .eq 7, 3) := by decide +kernel
theorem dX0_block_19 : decode cX0_block 19 = .ok (.iconst 1, 1) := by decide +kernel
theorem dX0_block_20 : decode cX0_block 20 = .ok (.goto 4, 3) := by decide +kernel
theorem dX0_block_23 : decode cX0_block 23 = .ok (.iconst 0, 1) := by decide +kernel
theorem dX0_block_24 : decode cX0_block 24 = .ok (.istore_n 3, 1) := by decide +kernel
theorem dX0_block_25 : decode cX0_block 25 = .ok (.aload_n 0, 1) := by decide +kernel
theorem dX0_block_26 : decode cX0_block 26 = .ok (.iload_n 1, 1) := by decide +kernel
theorem dX0_block_27 : decode cX0_block 27 = .ok (.iload_n 2, 1) := by decide +kernel
theorem dX0_block_28 : decode cX0_block 28 = .ok (.ifCond .eq 7, 3) := by decide +kernel
theorem dX0_block_31 : decode cX0_block 31 = .ok (.iconst 1, 1) := by decide +kernel
theorem dX0_block_32 : decode cX0_block 32 = .ok (.goto 4, 3) := by decide +kernel
theorem dX0_block_35 : decode cX0_block 35 = .ok (.iconst 0, 1) := by decide +kernel
theorem dX0_block_36 : decode cX0_block 36 = .ok (.invokevirtual 86, 3) := by decide +kernel
theorem dX0_block_39 : decode cX0_block 39 = .ok (.pop, 1) := by decide +kernel
theorem dX0_block_40 : decode cX0_block 40 = .ok (.aload_n 0, 1) := by decide +kernel
theorem dX0_block_41 : decode cX0_block 41 = .ok (.invokevirtual 90, 3) := by decide +kernel
theorem dX0_block_44 : decode cX0_block 44 = .ok (.iload_n 3, 1) := by decide +kernel
theorem dX0_block_45 : decode cX0_block 45 = .ok (.ireturn, 1) := by decide +kernel
theorem dX0_bad_0 : decode cX0_bad 0 = .ok (.iload_n 1, 1) := by decide +kernel
theorem dX0_bad_1 : decode cX0_bad 1 = .ok (.ifCond .lt 9, 3) := by decide +kernel
theorem dX0_bad_4 : decode cX0_bad 4 = .ok (.iload_n 1, 1) := by decide +kernel
theorem dX0_bad_5 : decode cX0_bad 5 = .ok (.bipush 81, 2) := by decide +kernel
theorem dX0_bad_7 : decode cX0_bad 7 = .ok (.if_icmp .lt 7, 3) := by decide +kernel
theorem dX0_bad_10 : decode cX0_bad 10 = .ok (.iconst 1, 1) := by decide +kernel
theorem dX0_bad_11 : decode cX0_bad 11 = .ok (.goto 4, 3) := by decide +kernel
theorem dX0_bad_14 : decode cX0_bad 14 = .ok (.iconst 0, 1) := by decide +kernel
theorem dX0_bad_15 : decode cX0_bad 15 = .ok (.ireturn, 1) := by decide +kernel
theorem dX0_put_0 : decode cX0_put 0 = .ok (.aload_n 0, 1) := by decide +kernel
theorem dX0_put_1 : decode cX0_put 1 = .ok (.getfield 7, 3) := by decide +kernel
theorem dX0_put_4 : decode cX0_put 4 = .ok (.iload_n 1, 1) := by decide +kernel
theorem dX0_put_5 : decode cX0_put 5 = .ok (.baload, 1) := by decide +kernel
theorem dX0_put_6 : decode cX0_put 6 = .ok (.iload_n 2, 1) := by decide +kernel
theorem dX0_put_7 : decode cX0_put 7 = .ok (.if_icmp .ne 5, 3) := by decide +kernel
theorem dX0_put_10 : decode cX0_put 10 = .ok (.iconst 0, 1) := by decide +kernel
theorem dX0_put_11 : decode cX0_put 11 = .ok (.ireturn, 1) := by decide +kernel
theorem dX0_put_12 : decode cX0_put 12 = .ok (.aload_n 0, 1) := by decide +kernel
theorem dX0_put_13 : decode cX0_put 13 = .ok (.iload_n 1, 1) := by decide +kernel
theorem dX0_put_14 : decode cX0_put 14 = .ok (.iload_n 2, 1) := by decide +kernel
theorem dX0_put_15 : decode cX0_put 15 = .ok (.invokevirtual 79, 3) := by decide +kernel
theorem dX0_put_18 : decode cX0_put 18 = .ok (.iconst 1, 1) := by decide +kernel
theorem dX0_put_19 : decode cX0_put 19 = .ok (.ireturn, 1) := by decide +kernel
theorem dX0_change_0 : decode cX0_change 0 = .ok (.aload_n 0, 1) := by decide +kernel
theorem dX0_change_1 : decode cX0_change 1 = .ok (.getfield 7, 3) := by decide +kernel
theorem dX0_change_4 : decode cX0_change 4 = .ok (.iload_n 1, 1) := by decide +kernel
theorem dX0_change_5 : decode cX0_change 5 = .ok (.iload_n 2, 1) := by decide +kernel
theorem dX0_change_6 : decode cX0_change 6 = .ok (.bastore, 1) := by decide +kernel
theorem dX0_change_7 : decode cX0_change 7 = .ok (.iload_n 2, 1) := by decide +kernel
theorem dX0_change_8 : decode cX0_change 8 = .ok (.ifCond .eq 27, 3) := by decide +kernel
theorem dX0_change_11 : decode cX0_change 11 = .ok (.aload_n 0, 1) := by decide +kernel
theorem dX0_change_12 : decode cX0_change 12 = .ok (.getfield 13, 3) := by decide +kernel
theorem dX0_change_15 : decode cX0_change 15 = .ok (.iload_n 1, 1) := by decide +kernel
theorem dX0_change_16 : decode cX0_change 16 = .ok (.iconst 0, 1) := by decide +kernel
theorem dX0_change_17 : decode cX0_change 17 = .ok (.iastore, 1) := by decide +kernel
theorem dX0_change_18 : decode cX0_change 18 = .ok (.aload_n 0, 1) := by decide +kernel
theorem dX0_change_19 : decode cX0_change 19 = .ok (.getfield 17, 3) := by decide +kernel
theorem dX0_change_22 : decode cX0_change 22 = .ok (.iload_n 1, 1) := by decide +kernel
theorem dX0_change_23 : decode cX0_change 23 = .ok (.iload_n 1, 1) := by decide +kernel
theorem dX0_change_24 : decode cX0_change 24 = .ok (.iastore, 1) := by decide +kernel
theorem dX0_change_25 : decode cX0_change 25 = .ok (.aload_n 0, 1) := by decide +kernel
theorem dX0_change_26 : decode cX0_change 26 = .ok (.getfield 20, 3) := by decide +kernel
theorem dX0_change_29 : decode cX0_change 29 = .ok (.iload_n 1, 1) := by decide +kernel
theorem dX0_change_30 : decode cX0_change 30 = .ok (.iconst 1, 1) := by decide +kernel
theorem dX0_change_31 : decode cX0_change 31 = .ok (.bastore, 1) := by decide +kernel
theorem dX0_change_32 : decode cX0_change 32 = .ok (.goto 8, 3) := by decide +kernel
theorem dX0_change_35 : decode cX0_change 35 = .ok (.aload_n 0, 1) := by decide +kernel
theorem dX0_change_36 : decode cX0_change 36 = .ok (.iload_n 1, 1) := by decide +kernel
theorem dX0_change_37 : decode cX0_change 37 = .ok (.invokevirtual 55, 3) := by decide +kernel
theorem dX0_change_40 : decode cX0_change 40 = .ok (.aload_n 0, 1) := by decide +kernel
theorem dX0_change_41 : decode cX0_change 41 = .ok (.invokevirtual 58, 3) := by decide +kernel
theorem dX0_change_44 : decode cX0_change 44 = .ok (.return_, 1) := by decide +kernel
theorem dX0_raiseFrom_0 : decode cX0_raiseFrom 0 = .ok (.iconst 0, 1) := by decide +kernel
theorem dX0_raiseFrom_1 : decode cX0_raiseFrom 1 = .ok (.istore_n 2, 1) := by decide +kernel
theorem dX0_raiseFrom_2 : decode cX0_raiseFrom 2 = .ok (.iload_n 2, 1) := by decide +kernel
theorem dX0_raiseFrom_3 : decode cX0_raiseFrom 3 = .ok (.bipush 81, 2) := by decide +kernel
theorem dX0_raiseFrom_5 : decode cX0_raiseFrom 5 = .ok (.if_icmp .ge 34, 3) := by decide +kernel
theorem dX0_raiseFrom_8 : decode cX0_raiseFrom 8 = .ok (.aload_n 0, 1) := by decide +kernel
theorem dX0_raiseFrom_9 : decode cX0_raiseFrom 9 = .ok (.getfield 17, 3) := by decide +kernel
theorem dX0_raiseFrom_12 : decode cX0_raiseFrom 12 = .ok (.iload_n 2, 1) := by decide +kernel
theorem dX0_raiseFrom_13 : decode cX0_raiseFrom 13 = .ok (.iaload, 1) := by decide +kernel
theorem dX0_raiseFrom_14 : decode cX0_raiseFrom 14 = .ok (.iload_n 1, 1) := by decide +kernel
theorem dX0_raiseFrom_15 : decode cX0_raiseFrom 15 = .ok (.if_icmp .ne 18, 3) := by decide +kernel
theorem dX0_raiseFrom_18 : decode cX0_raiseFrom 18 = .ok (.aload_n 0, 1) := by decide +kernel
theorem dX0_raiseFrom_19 : decode cX0_raiseFrom 19 = .ok (.getfield 13, 3) := by decide +kernel
theorem dX0_raiseFrom_22 : decode cX0_raiseFrom 22 = .ok (.iload_n 2, 1) := by decide +kernel
theorem dX0_raiseFrom_23 : decode cX0_raiseFrom 23 = .ok (.bipush 9, 2) := by decide +kernel
theorem dX0_raiseFrom_25 : decode cX0_raiseFrom 25 = .ok (.iastore, 1) := by decide +kernel
theorem dX0_raiseFrom_26 : decode cX0_raiseFrom 26 = .ok (.aload_n 0, 1) := by decide +kernel
theorem dX0_raiseFrom_27 : decode cX0_raiseFrom 27 = .ok (.getfield 17, 3) := by decide +kernel
theorem dX0_raiseFrom_30 : decode cX0_raiseFrom 30 = .ok (.iload_n 2, 1) := by decide +kernel
theorem dX0_raiseFrom_31 : decode cX0_raiseFrom 31 = .ok (.iconst (-1), 1) := by decide +kernel
theorem dX0_raiseFrom_32 : decode cX0_raiseFrom 32 = .ok (.iastore, 1) := by decide +kernel
theorem dX0_raiseFrom_33 : decode cX0_raiseFrom 33 = .ok (.iinc 2 1, 3) := by decide +kernel
theorem dX0_raiseFrom_36 : decode cX0_raiseFrom 36 = .ok (.goto (-34), 3) := by decide +kernel
theorem dX0_raiseFrom_39 : decode cX0_raiseFrom 39 = .ok (.iconst 0, 1) := by decide +kernel
theorem dX0_raiseFrom_40 : decode cX0_raiseFrom 40 = .ok (.istore_n 2, 1) := by decide +kernel
theorem dX0_raiseFrom_41 : decode cX0_raiseFrom 41 = .ok (.iload_n 2, 1) := by decide +kernel
theorem dX0_raiseFrom_42 : decode cX0_raiseFrom 42 = .ok (.bipush 81, 2) := by decide +kernel
theorem dX0_raiseFrom_44 : decode cX0_raiseFrom 44 = .ok (.if_icmp .ge 37, 3) := by decide +kernel
theorem dX0_raiseFrom_47 : decode cX0_raiseFrom 47 = .ok (.aload_n 0, 1) := by decide +kernel
theorem dX0_raiseFrom_48 : decode cX0_raiseFrom 48 = .ok (.getfield 20, 3) := by decide +kernel
theorem dX0_raiseFrom_51 : decode cX0_raiseFrom 51 = .ok (.iload_n 2, 1) := by decide +kernel
theorem dX0_raiseFrom_52 : decode cX0_raiseFrom 52 = .ok (.aload_n 0, 1) := by decide +kernel
theorem dX0_raiseFrom_53 : decode cX0_raiseFrom 53 = .ok (.getfield 17, 3) := by decide +kernel
theorem dX0_raiseFrom_56 : decode cX0_raiseFrom 56 = .ok (.iload_n 2, 1) := by decide +kernel
theorem dX0_raiseFrom_57 : decode cX0_raiseFrom 57 = .ok (.iaload, 1) := by decide +kernel
theorem dX0_raiseFrom_58 : decode cX0_raiseFrom 58 = .ok (.ifCond .lt 15, 3) := by decide +kernel
theorem dX0_raiseFrom_61 : decode cX0_raiseFrom 61 = .ok (.aload_n 0, 1) := by decide +kernel
theorem dX0_raiseFrom_62 : decode cX0_raiseFrom 62 = .ok (.iload_n 2, 1) := by decide +kernel
theorem dX0_raiseFrom_63 : decode cX0_raiseFrom 63 = .ok (.invokevirtual 51, 3) := by decide +kernel
theorem dX0_raiseFrom_66 : decode cX0_raiseFrom 66 = .ok (.ifCond .eq 7, 3) := by decide +kernel
theorem dX0_raiseFrom_69 : decode cX0_raiseFrom 69 = .ok (.iconst 1, 1) := by decide +kernel
theorem dX0_raiseFrom_70 : decode cX0_raiseFrom 70 = .ok (.goto 4, 3) := by decide +kernel
theorem dX0_raiseFrom_73 : decode cX0_raiseFrom 73 = .ok (.iconst 0, 1) := by decide +kernel
theorem dX0_raiseFrom_74 : decode cX0_raiseFrom 74 = .ok (.bastore, 1) := by decide +kernel
theorem dX0_raiseFrom_75 : decode cX0_raiseFrom 75 = .ok (.iinc 2 1, 3) := by decide +kernel
theorem dX0_raiseFrom_78 : decode cX0_raiseFrom 78 = .ok (.goto (-37), 3) := by decide +kernel
theorem dX0_raiseFrom_81 : decode cX0_raiseFrom 81 = .ok (.return_, 1) := by decide +kernel
theorem dX0_besideRaised_0 : decode cX0_besideRaised 0 = .ok (.iconst 0, 1) := by decide +kernel
theorem dX0_besideRaised_1 : decode cX0_besideRaised 1 = .ok (.istore_n 2, 1) := by decide +kernel
theorem dX0_besideRaised_2 : decode cX0_besideRaised 2 = .ok (.iconst 0, 1) := by decide +kernel
theorem dX0_besideRaised_3 : decode cX0_besideRaised 3 = .ok (.istore_n 3, 1) := by decide +kernel
theorem dX0_besideRaised_4 : decode cX0_besideRaised 4 = .ok (.iload_n 3, 1) := by decide +kernel
theorem dX0_besideRaised_5 : decode cX0_besideRaised 5 = .ok (.bipush 9, 2) := by decide +kernel
theorem dX0_besideRaised_7 : decode cX0_besideRaised 7 = .ok (.if_icmp .ge 42, 3) := by decide +kernel
theorem dX0_besideRaised_10 : decode cX0_besideRaised 10 = .ok (.aload_n 0, 1) := by decide +kernel
theorem dX0_besideRaised_11 : decode cX0_besideRaised 11 = .ok (.iload_n 1, 1) := by decide +kernel
theorem dX0_besideRaised_12 : decode cX0_besideRaised 12 = .ok (.iload_n 3, 1) := by decide +kernel
theorem dX0_besideRaised_13 : decode cX0_besideRaised 13 = .ok (.invokevirtual 47, 3) := by decide +kernel
theorem dX0_besideRaised_16 : decode cX0_besideRaised 16 = .ok (.istore 4, 2) := by decide +kernel
theorem dX0_besideRaised_18 : decode cX0_besideRaised 18 = .ok (.iload_n 2, 1) := by decide +kernel
theorem dX0_besideRaised_19 : decode cX0_besideRaised 19 = .ok (.ifCond .ne 18, 3) := by decide +kernel
theorem dX0_besideRaised_22 : decode cX0_besideRaised 22 = .ok (.iload 4, 2) := by decide +kernel
theorem dX0_besideRaised_24 : decode cX0_besideRaised 24 = .ok (.ifCond .lt 17, 3) := by decide +kernel
theorem dX0_besideRaised_27 : decode cX0_besideRaised 27 = .ok (.aload_n 0, 1) := by decide +kernel
theorem dX0_besideRaised_28 : decode cX0_besideRaised 28 = .ok (.getfield 17, 3) := by decide +kernel
theorem dX0_besideRaised_31 : decode cX0_besideRaised 31 = .ok (.iload 4, 2) := by decide +kernel
theorem dX0_besideRaised_33 : decode cX0_besideRaised 33 = .ok (.iaload, 1) := by decide +kernel
theorem dX0_besideRaised_34 : decode cX0_besideRaised 34 = .ok (.ifCond .ge 7, 3) := by decide +kernel
theorem dX0_besideRaised_37 : decode cX0_besideRaised 37 = .ok (.iconst 1, 1) := by decide +kernel
theorem dX0_besideRaised_38 : decode cX0_besideRaised 38 = .ok (.goto 4, 3) := by decide +kernel
theorem dX0_besideRaised_41 : decode cX0_besideRaised 41 = .ok (.iconst 0, 1) := by decide +kernel
theorem dX0_besideRaised_42 : decode cX0_besideRaised 42 = .ok (.istore_n 2, 1) := by decide +kernel
theorem dX0_besideRaised_43 : decode cX0_besideRaised 43 = .ok (.iinc 3 1, 3) := by decide +kernel
theorem dX0_besideRaised_46 : decode cX0_besideRaised 46 = .ok (.goto (-42), 3) := by decide +kernel
theorem dX0_besideRaised_49 : decode cX0_besideRaised 49 = .ok (.iload_n 2, 1) := by decide +kernel
theorem dX0_besideRaised_50 : decode cX0_besideRaised 50 = .ok (.ireturn, 1) := by decide +kernel
theorem dX0_around_0 : decode cX0_around 0 = .ok (.iload_n 1, 1) := by decide +kernel
theorem dX0_around_1 : decode cX0_around 1 = .ok (.bipush 9, 2) := by decide +kernel
theorem dX0_around_3 : decode cX0_around 3 = .ok (.irem, 1) := by decide +kernel
theorem dX0_around_4 : decode cX0_around 4 = .ok (.iload_n 2, 1) := by decide +kernel
theorem dX0_around_5 : decode cX0_around 5 = .ok (.iconst 3, 1) := by decide +kernel
theorem dX0_around_6 : decode cX0_around 6 = .ok (.irem, 1) := by decide +kernel
theorem dX0_around_7 : decode cX0_around 7 = .ok (.iadd, 1) := by decide +kernel
theorem dX0_around_8 : decode cX0_around 8 = .ok (.iconst 1, 1) := by decide +kernel
theorem dX0_around_9 : decode cX0_around 9 = .ok (.isub, 1) := by decide +kernel
theorem dX0_around_10 : decode cX0_around 10 = .ok (.istore_n 3, 1) := by decide +kernel
theorem dX0_around_11 : decode cX0_around 11 = .ok (.iload_n 1, 1) := by decide +kernel
theorem dX0_around_12 : decode cX0_around 12 = .ok (.bipush 9, 2) := by decide +kernel
theorem dX0_around_14 : decode cX0_around 14 = .ok (.idiv, 1) := by decide +kernel
theorem dX0_around_15 : decode cX0_around 15 = .ok (.iload_n 2, 1) := by decide +kernel
theorem dX0_around_16 : decode cX0_around 16 = .ok (.iconst 3, 1) := by decide +kernel
theorem dX0_around_17 : decode cX0_around 17 = .ok (.idiv, 1) := by decide +kernel
theorem dX0_around_18 : decode cX0_around 18 = .ok (.iadd, 1) := by decide +kernel
theorem dX0_around_19 : decode cX0_around 19 = .ok (.iconst 1, 1) := by decide +kernel
theorem dX0_around_20 : decode cX0_around 20 = .ok (.isub, 1) := by decide +kernel
theorem dX0_around_21 : decode cX0_around 21 = .ok (.istore 4, 2) := by decide +kernel
theorem dX0_around_23 : decode cX0_around 23 = .ok (.iload_n 3, 1) := by decide +kernel
theorem dX0_around_24 : decode cX0_around 24 = .ok (.ifCond .lt 21, 3) := by decide +kernel
theorem dX0_around_27 : decode cX0_around 27 = .ok (.iload_n 3, 1) := by decide +kernel
theorem dX0_around_28 : decode cX0_around 28 = .ok (.bipush 9, 2) := by decide +kernel
theorem dX0_around_30 : decode cX0_around 30 = .ok (.if_icmp .ge 15, 3) := by decide +kernel
theorem dX0_around_33 : decode cX0_around 33 = .ok (.iload 4, 2) := by decide +kernel
theorem dX0_around_35 : decode cX0_around 35 = .ok (.ifCond .lt 10, 3) := by decide +kernel
theorem dX0_around_38 : decode cX0_around 38 = .ok (.iload 4, 2) := by decide +kernel
theorem dX0_around_40 : decode cX0_around 40 = .ok (.bipush 9, 2) := by decide +kernel
theorem dX0_around_42 : decode cX0_around 42 = .ok (.if_icmp .lt 5, 3) := by decide +kernel
theorem dX0_around_45 : decode cX0_around 45 = .ok (.iconst (-1), 1) := by decide +kernel
theorem dX0_around_46 : decode cX0_around 46 = .ok (.ireturn, 1) := by decide +kernel
theorem dX0_around_47 : decode cX0_around 47 = .ok (.iload 4, 2) := by decide +kernel
theorem dX0_around_49 : decode cX0_around 49 = .ok (.bipush 9, 2) := by decide +kernel
theorem dX0_around_51 : decode cX0_around 51 = .ok (.imul, 1) := by decide +kernel
theorem dX0_around_52 : decode cX0_around 52 = .ok (.iload_n 3, 1) := by decide +kernel
theorem dX0_around_53 : decode cX0_around 53 = .ok (.iadd, 1) := by decide +kernel
theorem dX0_around_54 : decode cX0_around 54 = .ok (.ireturn, 1) := by decide +kernel
theorem dX0_lower_0 : decode cX0_lower 0 = .ok (.iconst 0, 1) := by decide +kernel
theorem dX0_lower_1 : decode cX0_lower 1 = .ok (.istore_n 1, 1) := by decide +kernel
theorem dX0_lower_2 : decode cX0_lower 2 = .ok (.iload_n 1, 1) := by decide +kernel
theorem dX0_lower_3 : decode cX0_lower 3 = .ok (.bipush 9, 2) := by decide +kernel
theorem dX0_lower_5 : decode cX0_lower 5 = .ok (.if_icmp .ge 54, 3) := by decide +kernel
theorem dX0_lower_8 : decode cX0_lower 8 = .ok (.iconst 0, 1) := by decide +kernel
theorem dX0_lower_9 : decode cX0_lower 9 = .ok (.istore_n 2, 1) := by decide +kernel
theorem dX0_lower_10 : decode cX0_lower 10 = .ok (.iload_n 2, 1) := by decide +kernel
theorem dX0_lower_11 : decode cX0_lower 11 = .ok (.bipush 81, 2) := by decide +kernel
theorem dX0_lower_13 : decode cX0_lower 13 = .ok (.if_icmp .ge 40, 3) := by decide +kernel
theorem dX0_lower_16 : decode cX0_lower 16 = .ok (.aload_n 0, 1) := by decide +kernel
theorem dX0_lower_17 : decode cX0_lower 17 = .ok (.getfield 20, 3) := by decide +kernel
theorem dX0_lower_20 : decode cX0_lower 20 = .ok (.iload_n 2, 1) := by decide +kernel
theorem dX0_lower_21 : decode cX0_lower 21 = .ok (.baload, 1) := by decide +kernel
theorem dX0_lower_22 : decode cX0_lower 22 = .ok (.ifCond .eq 25, 3) := by decide +kernel
theorem dX0_lower_25 : decode cX0_lower 25 = .ok (.aload_n 0, 1) := by decide +kernel
theorem dX0_lower_26 : decode cX0_lower 26 = .ok (.getfield 13, 3) := by decide +kernel
theorem dX0_lower_29 : decode cX0_lower 29 = .ok (.iload_n 2, 1) := by decide +kernel
theorem dX0_lower_30 : decode cX0_lower 30 = .ok (.iaload, 1) := by decide +kernel
theorem dX0_lower_31 : decode cX0_lower 31 = .ok (.iload_n 1, 1) := by decide +kernel
theorem dX0_lower_32 : decode cX0_lower 32 = .ok (.if_icmp .ne 15, 3) := by decide +kernel
theorem dX0_lower_35 : decode cX0_lower 35 = .ok (.aload_n 0, 1) := by decide +kernel
theorem dX0_lower_36 : decode cX0_lower 36 = .ok (.getfield 20, 3) := by decide +kernel
theorem dX0_lower_39 : decode cX0_lower 39 = .ok (.iload_n 2, 1) := by decide +kernel
theorem dX0_lower_40 : decode cX0_lower 40 = .ok (.iconst 0, 1) := by decide +kernel
theorem dX0_lower_41 : decode cX0_lower 41 = .ok (.bastore, 1) := by decide +kernel
theorem dX0_lower_42 : decode cX0_lower 42 = .ok (.aload_n 0, 1) := by decide +kernel
theorem dX0_lower_43 : decode cX0_lower 43 = .ok (.iload_n 2, 1) := by decide +kernel
theorem dX0_lower_44 : decode cX0_lower 44 = .ok (.invokevirtual 43, 3) := by decide +kernel
theorem dX0_lower_47 : decode cX0_lower 47 = .ok (.iinc 2 1, 3) := by decide +kernel
theorem dX0_lower_50 : decode cX0_lower 50 = .ok (.goto (-40), 3) := by decide +kernel
theorem dX0_lower_53 : decode cX0_lower 53 = .ok (.iinc 1 1, 3) := by decide +kernel
theorem dX0_lower_56 : decode cX0_lower 56 = .ok (.goto (-54), 3) := by decide +kernel
theorem dX0_lower_59 : decode cX0_lower 59 = .ok (.return_, 1) := by decide +kernel
theorem dX0_passOn_0 : decode cX0_passOn 0 = .ok (.iconst 0, 1) := by decide +kernel
theorem dX0_passOn_1 : decode cX0_passOn 1 = .ok (.istore_n 2, 1) := by decide +kernel
theorem dX0_passOn_2 : decode cX0_passOn 2 = .ok (.iload_n 2, 1) := by decide +kernel
theorem dX0_passOn_3 : decode cX0_passOn 3 = .ok (.bipush 9, 2) := by decide +kernel
theorem dX0_passOn_5 : decode cX0_passOn 5 = .ok (.if_icmp .ge 70, 3) := by decide +kernel
theorem dX0_passOn_8 : decode cX0_passOn 8 = .ok (.aload_n 0, 1) := by decide +kernel
theorem dX0_passOn_9 : decode cX0_passOn 9 = .ok (.iload_n 1, 1) := by decide +kernel
theorem dX0_passOn_10 : decode cX0_passOn 10 = .ok (.iload_n 2, 1) := by decide +kernel
theorem dX0_passOn_11 : decode cX0_passOn 11 = .ok (.invokevirtual 47, 3) := by decide +kernel
theorem dX0_passOn_14 : decode cX0_passOn 14 = .ok (.istore_n 3, 1) := by decide +kernel
theorem dX0_passOn_15 : decode cX0_passOn 15 = .ok (.iload_n 3, 1) := by decide +kernel
theorem dX0_passOn_16 : decode cX0_passOn 16 = .ok (.ifCond .lt 53, 3) := by decide +kernel
theorem dX0_passOn_19 : decode cX0_passOn 19 = .ok (.aload_n 0, 1) := by decide +kernel
theorem dX0_passOn_20 : decode cX0_passOn 20 = .ok (.getfield 13, 3) := by decide +kernel
theorem dX0_passOn_23 : decode cX0_passOn 23 = .ok (.iload_n 3, 1) := by decide +kernel
theorem dX0_passOn_24 : decode cX0_passOn 24 = .ok (.iaload, 1) := by decide +kernel
theorem dX0_passOn_25 : decode cX0_passOn 25 = .ok (.aload_n 0, 1) := by decide +kernel
theorem dX0_passOn_26 : decode cX0_passOn 26 = .ok (.getfield 13, 3) := by decide +kernel
theorem dX0_passOn_29 : decode cX0_passOn 29 = .ok (.iload_n 1, 1) := by decide +kernel
theorem dX0_passOn_30 : decode cX0_passOn 30 = .ok (.iaload, 1) := by decide +kernel
theorem dX0_passOn_31 : decode cX0_passOn 31 = .ok (.iconst 1, 1) := by decide +kernel
theorem dX0_passOn_32 : decode cX0_passOn 32 = .ok (.iadd, 1) := by decide +kernel
theorem dX0_passOn_33 : decode cX0_passOn 33 = .ok (.if_icmp .le 36, 3) := by decide +kernel
theorem dX0_passOn_36 : decode cX0_passOn 36 = .ok (.aload_n 0, 1) := by decide +kernel
theorem dX0_passOn_37 : decode cX0_passOn 37 = .ok (.getfield 13, 3) := by decide +kernel
theorem dX0_passOn_40 : decode cX0_passOn 40 = .ok (.iload_n 3, 1) := by decide +kernel
theorem dX0_passOn_41 : decode cX0_passOn 41 = .ok (.aload_n 0, 1) := by decide +kernel
theorem dX0_passOn_42 : decode cX0_passOn 42 = .ok (.getfield 13, 3) := by decide +kernel
theorem dX0_passOn_45 : decode cX0_passOn 45 = .ok (.iload_n 1, 1) := by decide +kernel
theorem dX0_passOn_46 : decode cX0_passOn 46 = .ok (.iaload, 1) := by decide +kernel
theorem dX0_passOn_47 : decode cX0_passOn 47 = .ok (.iconst 1, 1) := by decide +kernel
theorem dX0_passOn_48 : decode cX0_passOn 48 = .ok (.iadd, 1) := by decide +kernel
theorem dX0_passOn_49 : decode cX0_passOn 49 = .ok (.iastore, 1) := by decide +kernel
theorem dX0_passOn_50 : decode cX0_passOn 50 = .ok (.aload_n 0, 1) := by decide +kernel
end
section
set_option maxRecDepth 100000
theorem dX0_passOn_51 : decode cX0_passOn 51 = .ok (.getfield 17, 3) := by decide +kernel
theorem dX0_passOn_54 : decode cX0_passOn 54 = .ok (.iload_n 3, 1) := by decide +kernel
theorem dX0_passOn_55 : decode cX0_passOn 55 = .ok (.aload_n 0, 1) := by decide +kernel
theorem dX0_passOn_56 : decode cX0_passOn 56 = .ok (.getfield 17, 3) := by decide +kernel
theorem dX0_passOn_59 : decode cX0_passOn 59 = .ok (.iload_n 1, 1) := by decide +kernel
theorem dX0_passOn_60 : decode cX0_passOn 60 = .ok (.iaload, 1) := by decide +kernel
theorem dX0_passOn_61 : decode cX0_passOn 61 = .ok (.iastore, 1) := by decide +kernel
theorem dX0_passOn_62 : decode cX0_passOn 62 = .ok (.aload_n 0, 1) := by decide +kernel
theorem dX0_passOn_63 : decode cX0_passOn 63 = .ok (.getfield 20, 3) := by decide +kernel
theorem dX0_passOn_66 : decode cX0_passOn 66 = .ok (.iload_n 3, 1) := by decide +kernel
theorem dX0_passOn_67 : decode cX0_passOn 67 = .ok (.iconst 1, 1) := by decide +kernel
theorem dX0_passOn_68 : decode cX0_passOn 68 = .ok (.bastore, 1) := by decide +kernel
theorem dX0_passOn_69 : decode cX0_passOn 69 = .ok (.iinc 2 1, 3) := by decide +kernel
theorem dX0_passOn_72 : decode cX0_passOn 72 = .ok (.goto (-70), 3) := by decide +kernel
theorem dX0_passOn_75 : decode cX0_passOn 75 = .ok (.return_, 1) := by decide +kernel
theorem dX0_recost_0 : decode cX0_recost 0 = .ok (.iconst 0, 1) := by decide +kernel
theorem dX0_recost_1 : decode cX0_recost 1 = .ok (.istore_n 1, 1) := by decide +kernel
theorem dX0_recost_2 : decode cX0_recost 2 = .ok (.iload_n 1, 1) := by decide +kernel
theorem dX0_recost_3 : decode cX0_recost 3 = .ok (.bipush 81, 2) := by decide +kernel
theorem dX0_recost_5 : decode cX0_recost 5 = .ok (.if_icmp .ge 42, 3) := by decide +kernel
theorem dX0_recost_8 : decode cX0_recost 8 = .ok (.aload_n 0, 1) := by decide +kernel
theorem dX0_recost_9 : decode cX0_recost 9 = .ok (.iload_n 1, 1) := by decide +kernel
theorem dX0_recost_10 : decode cX0_recost 10 = .ok (.invokevirtual 67, 3) := by decide +kernel
theorem dX0_recost_13 : decode cX0_recost 13 = .ok (.istore_n 2, 1) := by decide +kernel
theorem dX0_recost_14 : decode cX0_recost 14 = .ok (.iload_n 2, 1) := by decide +kernel
theorem dX0_recost_15 : decode cX0_recost 15 = .ok (.aload_n 0, 1) := by decide +kernel
theorem dX0_recost_16 : decode cX0_recost 16 = .ok (.getfield 23, 3) := by decide +kernel
theorem dX0_recost_19 : decode cX0_recost 19 = .ok (.iload_n 1, 1) := by decide +kernel
theorem dX0_recost_20 : decode cX0_recost 20 = .ok (.iaload, 1) := by decide +kernel
theorem dX0_recost_21 : decode cX0_recost 21 = .ok (.if_icmp .eq 20, 3) := by decide +kernel
theorem dX0_recost_24 : decode cX0_recost 24 = .ok (.aload_n 0, 1) := by decide +kernel
theorem dX0_recost_25 : decode cX0_recost 25 = .ok (.getfield 23, 3) := by decide +kernel
theorem dX0_recost_28 : decode cX0_recost 28 = .ok (.iload_n 1, 1) := by decide +kernel
theorem dX0_recost_29 : decode cX0_recost 29 = .ok (.iload_n 2, 1) := by decide +kernel
theorem dX0_recost_30 : decode cX0_recost 30 = .ok (.iastore, 1) := by decide +kernel
theorem dX0_recost_31 : decode cX0_recost 31 = .ok (.aload_n 0, 1) := by decide +kernel
theorem dX0_recost_32 : decode cX0_recost 32 = .ok (.iload_n 1, 1) := by decide +kernel
theorem dX0_recost_33 : decode cX0_recost 33 = .ok (.invokevirtual 64, 3) := by decide +kernel
theorem dX0_recost_36 : decode cX0_recost 36 = .ok (.aload_n 0, 1) := by decide +kernel
theorem dX0_recost_37 : decode cX0_recost 37 = .ok (.iload_n 1, 1) := by decide +kernel
theorem dX0_recost_38 : decode cX0_recost 38 = .ok (.invokevirtual 71, 3) := by decide +kernel
theorem dX0_recost_41 : decode cX0_recost 41 = .ok (.iinc 1 1, 3) := by decide +kernel
theorem dX0_recost_44 : decode cX0_recost 44 = .ok (.goto (-42), 3) := by decide +kernel
theorem dX0_recost_47 : decode cX0_recost 47 = .ok (.return_, 1) := by decide +kernel
theorem dX0_costOf_0 : decode cX0_costOf 0 = .ok (.aload_n 0, 1) := by decide +kernel
theorem dX0_costOf_1 : decode cX0_costOf 1 = .ok (.getfield 7, 3) := by decide +kernel
theorem dX0_costOf_4 : decode cX0_costOf 4 = .ok (.iload_n 1, 1) := by decide +kernel
theorem dX0_costOf_5 : decode cX0_costOf 5 = .ok (.baload, 1) := by decide +kernel
theorem dX0_costOf_6 : decode cX0_costOf 6 = .ok (.ifCond .eq 5, 3) := by decide +kernel
theorem dX0_costOf_9 : decode cX0_costOf 9 = .ok (.iconst (-1), 1) := by decide +kernel
theorem dX0_costOf_10 : decode cX0_costOf 10 = .ok (.ireturn, 1) := by decide +kernel
theorem dX0_costOf_11 : decode cX0_costOf 11 = .ok (.aload_n 0, 1) := by decide +kernel
theorem dX0_costOf_12 : decode cX0_costOf 12 = .ok (.getfield 13, 3) := by decide +kernel
theorem dX0_costOf_15 : decode cX0_costOf 15 = .ok (.iload_n 1, 1) := by decide +kernel
theorem dX0_costOf_16 : decode cX0_costOf 16 = .ok (.iaload, 1) := by decide +kernel
theorem dX0_costOf_17 : decode cX0_costOf 17 = .ok (.aload_n 0, 1) := by decide +kernel
theorem dX0_costOf_18 : decode cX0_costOf 18 = .ok (.getfield 32, 3) := by decide +kernel
theorem dX0_costOf_21 : decode cX0_costOf 21 = .ok (.if_icmp .le 7, 3) := by decide +kernel
theorem dX0_costOf_24 : decode cX0_costOf 24 = .ok (.iconst 1, 1) := by decide +kernel
theorem dX0_costOf_25 : decode cX0_costOf 25 = .ok (.goto 23, 3) := by decide +kernel
theorem dX0_costOf_28 : decode cX0_costOf 28 = .ok (.iconst 1, 1) := by decide +kernel
theorem dX0_costOf_29 : decode cX0_costOf 29 = .ok (.aload_n 0, 1) := by decide +kernel
theorem dX0_costOf_30 : decode cX0_costOf 30 = .ok (.getfield 36, 3) := by decide +kernel
theorem dX0_costOf_33 : decode cX0_costOf 33 = .ok (.aload_n 0, 1) := by decide +kernel
theorem dX0_costOf_34 : decode cX0_costOf 34 = .ok (.getfield 32, 3) := by decide +kernel
theorem dX0_costOf_37 : decode cX0_costOf 37 = .ok (.iconst 1, 1) := by decide +kernel
theorem dX0_costOf_38 : decode cX0_costOf 38 = .ok (.iadd, 1) := by decide +kernel
theorem dX0_costOf_39 : decode cX0_costOf 39 = .ok (.aload_n 0, 1) := by decide +kernel
theorem dX0_costOf_40 : decode cX0_costOf 40 = .ok (.getfield 13, 3) := by decide +kernel
theorem dX0_costOf_43 : decode cX0_costOf 43 = .ok (.iload_n 1, 1) := by decide +kernel
theorem dX0_costOf_44 : decode cX0_costOf 44 = .ok (.iaload, 1) := by decide +kernel
theorem dX0_costOf_45 : decode cX0_costOf 45 = .ok (.isub, 1) := by decide +kernel
theorem dX0_costOf_46 : decode cX0_costOf 46 = .ok (.imul, 1) := by decide +kernel
theorem dX0_costOf_47 : decode cX0_costOf 47 = .ok (.iadd, 1) := by decide +kernel
theorem dX0_costOf_48 : decode cX0_costOf 48 = .ok (.ireturn, 1) := by decide +kernel
theorem dX0_ask_0 : decode cX0_ask 0 = .ok (.ldc 42, 2) := by decide +kernel
theorem dX0_ask_2 : decode cX0_ask 2 = .ok (.istore_n 2, 1) := by decide +kernel
theorem dX0_ask_3 : decode cX0_ask 3 = .ok (.aload_n 0, 1) := by decide +kernel
theorem dX0_ask_4 : decode cX0_ask 4 = .ok (.getfield 23, 3) := by decide +kernel
theorem dX0_ask_7 : decode cX0_ask 7 = .ok (.iload_n 1, 1) := by decide +kernel
theorem dX0_ask_8 : decode cX0_ask 8 = .ok (.iaload, 1) := by decide +kernel
theorem dX0_ask_9 : decode cX0_ask 9 = .ok (.ifCond .lt 84, 3) := by decide +kernel
theorem dX0_ask_12 : decode cX0_ask 12 = .ok (.iconst 0, 1) := by decide +kernel
theorem dX0_ask_13 : decode cX0_ask 13 = .ok (.istore_n 3, 1) := by decide +kernel
theorem dX0_ask_14 : decode cX0_ask 14 = .ok (.iload_n 3, 1) := by decide +kernel
theorem dX0_ask_15 : decode cX0_ask 15 = .ok (.iconst 4, 1) := by decide +kernel
theorem dX0_ask_16 : decode cX0_ask 16 = .ok (.if_icmp .ge 67, 3) := by decide +kernel
theorem dX0_ask_19 : decode cX0_ask 19 = .ok (.aload_n 0, 1) := by decide +kernel
theorem dX0_ask_20 : decode cX0_ask 20 = .ok (.iload_n 1, 1) := by decide +kernel
theorem dX0_ask_21 : decode cX0_ask 21 = .ok (.iload_n 3, 1) := by decide +kernel
theorem dX0_ask_22 : decode cX0_ask 22 = .ok (.invokevirtual 61, 3) := by decide +kernel
theorem dX0_ask_25 : decode cX0_ask 25 = .ok (.istore 4, 2) := by decide +kernel
theorem dX0_ask_27 : decode cX0_ask 27 = .ok (.iload 4, 2) := by decide +kernel
theorem dX0_ask_29 : decode cX0_ask 29 = .ok (.ifCond .lt 48, 3) := by decide +kernel
theorem dX0_ask_32 : decode cX0_ask 32 = .ok (.aload_n 0, 1) := by decide +kernel
theorem dX0_ask_33 : decode cX0_ask 33 = .ok (.getfield 23, 3) := by decide +kernel
theorem dX0_ask_36 : decode cX0_ask 36 = .ok (.iload 4, 2) := by decide +kernel
theorem dX0_ask_38 : decode cX0_ask 38 = .ok (.iaload, 1) := by decide +kernel
theorem dX0_ask_39 : decode cX0_ask 39 = .ok (.ifCond .lt 38, 3) := by decide +kernel
theorem dX0_ask_42 : decode cX0_ask 42 = .ok (.aload_n 0, 1) := by decide +kernel
theorem dX0_ask_43 : decode cX0_ask 43 = .ok (.getfield 26, 3) := by decide +kernel
theorem dX0_ask_46 : decode cX0_ask 46 = .ok (.iload 4, 2) := by decide +kernel
theorem dX0_ask_48 : decode cX0_ask 48 = .ok (.iaload, 1) := by decide +kernel
theorem dX0_ask_49 : decode cX0_ask 49 = .ok (.aload_n 0, 1) := by decide +kernel
theorem dX0_ask_50 : decode cX0_ask 50 = .ok (.getfield 23, 3) := by decide +kernel
theorem dX0_ask_53 : decode cX0_ask 53 = .ok (.iload 4, 2) := by decide +kernel
theorem dX0_ask_55 : decode cX0_ask 55 = .ok (.iaload, 1) := by decide +kernel
theorem dX0_ask_56 : decode cX0_ask 56 = .ok (.iadd, 1) := by decide +kernel
theorem dX0_ask_57 : decode cX0_ask 57 = .ok (.iload_n 2, 1) := by decide +kernel
theorem dX0_ask_58 : decode cX0_ask 58 = .ok (.if_icmp .ge 19, 3) := by decide +kernel
theorem dX0_ask_61 : decode cX0_ask 61 = .ok (.aload_n 0, 1) := by decide +kernel
theorem dX0_ask_62 : decode cX0_ask 62 = .ok (.getfield 26, 3) := by decide +kernel
theorem dX0_ask_65 : decode cX0_ask 65 = .ok (.iload 4, 2) := by decide +kernel
theorem dX0_ask_67 : decode cX0_ask 67 = .ok (.iaload, 1) := by decide +kernel
theorem dX0_ask_68 : decode cX0_ask 68 = .ok (.aload_n 0, 1) := by decide +kernel
theorem dX0_ask_69 : decode cX0_ask 69 = .ok (.getfield 23, 3) := by decide +kernel
theorem dX0_ask_72 : decode cX0_ask 72 = .ok (.iload 4, 2) := by decide +kernel
theorem dX0_ask_74 : decode cX0_ask 74 = .ok (.iaload, 1) := by decide +kernel
theorem dX0_ask_75 : decode cX0_ask 75 = .ok (.iadd, 1) := by decide +kernel
theorem dX0_ask_76 : decode cX0_ask 76 = .ok (.istore_n 2, 1) := by decide +kernel
theorem dX0_ask_77 : decode cX0_ask 77 = .ok (.iinc 3 1, 3) := by decide +kernel
theorem dX0_ask_80 : decode cX0_ask 80 = .ok (.goto (-66), 3) := by decide +kernel
theorem dX0_ask_83 : decode cX0_ask 83 = .ok (.iload_n 1, 1) := by decide +kernel
theorem dX0_ask_84 : decode cX0_ask 84 = .ok (.aload_n 0, 1) := by decide +kernel
theorem dX0_ask_85 : decode cX0_ask 85 = .ok (.getfield 39, 3) := by decide +kernel
theorem dX0_ask_88 : decode cX0_ask 88 = .ok (.if_icmp .ne 5, 3) := by decide +kernel
theorem dX0_ask_91 : decode cX0_ask 91 = .ok (.iconst 0, 1) := by decide +kernel
theorem dX0_ask_92 : decode cX0_ask 92 = .ok (.istore_n 2, 1) := by decide +kernel
theorem dX0_ask_93 : decode cX0_ask 93 = .ok (.aload_n 0, 1) := by decide +kernel
theorem dX0_ask_94 : decode cX0_ask 94 = .ok (.getfield 29, 3) := by decide +kernel
theorem dX0_ask_97 : decode cX0_ask 97 = .ok (.iload_n 1, 1) := by decide +kernel
theorem dX0_ask_98 : decode cX0_ask 98 = .ok (.iload_n 2, 1) := by decide +kernel
theorem dX0_ask_99 : decode cX0_ask 99 = .ok (.iastore, 1) := by decide +kernel
theorem dX0_ask_100 : decode cX0_ask 100 = .ok (.return_, 1) := by decide +kernel
theorem dX0_moved_0 : decode cX0_moved 0 = .ok (.iload_n 1, 1) := by decide +kernel
theorem dX0_moved_1 : decode cX0_moved 1 = .ok (.bipush 9, 2) := by decide +kernel
theorem dX0_moved_3 : decode cX0_moved 3 = .ok (.irem, 1) := by decide +kernel
theorem dX0_moved_4 : decode cX0_moved 4 = .ok (.istore_n 3, 1) := by decide +kernel
theorem dX0_moved_5 : decode cX0_moved 5 = .ok (.iload_n 2, 1) := by decide +kernel
theorem dX0_moved_6 : decode cX0_moved 6 = .ok (.ifCond .ne 18, 3) := by decide +kernel
theorem dX0_moved_9 : decode cX0_moved 9 = .ok (.iload_n 1, 1) := by decide +kernel
theorem dX0_moved_10 : decode cX0_moved 10 = .ok (.bipush 9, 2) := by decide +kernel
theorem dX0_moved_12 : decode cX0_moved 12 = .ok (.if_icmp .ge 7, 3) := by decide +kernel
theorem dX0_moved_15 : decode cX0_moved 15 = .ok (.iconst (-1), 1) := by decide +kernel
theorem dX0_moved_16 : decode cX0_moved 16 = .ok (.goto 7, 3) := by decide +kernel
theorem dX0_moved_19 : decode cX0_moved 19 = .ok (.iload_n 1, 1) := by decide +kernel
theorem dX0_moved_20 : decode cX0_moved 20 = .ok (.bipush 9, 2) := by decide +kernel
theorem dX0_moved_22 : decode cX0_moved 22 = .ok (.isub, 1) := by decide +kernel
theorem dX0_moved_23 : decode cX0_moved 23 = .ok (.ireturn, 1) := by decide +kernel
theorem dX0_moved_24 : decode cX0_moved 24 = .ok (.iload_n 2, 1) := by decide +kernel
theorem dX0_moved_25 : decode cX0_moved 25 = .ok (.iconst 1, 1) := by decide +kernel
theorem dX0_moved_26 : decode cX0_moved 26 = .ok (.if_icmp .ne 17, 3) := by decide +kernel
theorem dX0_moved_29 : decode cX0_moved 29 = .ok (.iload_n 3, 1) := by decide +kernel
theorem dX0_moved_30 : decode cX0_moved 30 = .ok (.bipush 8, 2) := by decide +kernel
theorem dX0_moved_32 : decode cX0_moved 32 = .ok (.if_icmp .ne 7, 3) := by decide +kernel
theorem dX0_moved_35 : decode cX0_moved 35 = .ok (.iconst (-1), 1) := by decide +kernel
theorem dX0_moved_36 : decode cX0_moved 36 = .ok (.goto 6, 3) := by decide +kernel
theorem dX0_moved_39 : decode cX0_moved 39 = .ok (.iload_n 1, 1) := by decide +kernel
theorem dX0_moved_40 : decode cX0_moved 40 = .ok (.iconst 1, 1) := by decide +kernel
theorem dX0_moved_41 : decode cX0_moved 41 = .ok (.iadd, 1) := by decide +kernel
theorem dX0_moved_42 : decode cX0_moved 42 = .ok (.ireturn, 1) := by decide +kernel
theorem dX0_moved_43 : decode cX0_moved 43 = .ok (.iload_n 2, 1) := by decide +kernel
theorem dX0_moved_44 : decode cX0_moved 44 = .ok (.iconst 2, 1) := by decide +kernel
theorem dX0_moved_45 : decode cX0_moved 45 = .ok (.if_icmp .ne 21, 3) := by decide +kernel
theorem dX0_moved_48 : decode cX0_moved 48 = .ok (.iload_n 1, 1) := by decide +kernel
theorem dX0_moved_49 : decode cX0_moved 49 = .ok (.bipush 9, 2) := by decide +kernel
theorem dX0_moved_51 : decode cX0_moved 51 = .ok (.iadd, 1) := by decide +kernel
theorem dX0_moved_52 : decode cX0_moved 52 = .ok (.bipush 81, 2) := by decide +kernel
theorem dX0_moved_54 : decode cX0_moved 54 = .ok (.if_icmp .lt 7, 3) := by decide +kernel
theorem dX0_moved_57 : decode cX0_moved 57 = .ok (.iconst (-1), 1) := by decide +kernel
theorem dX0_moved_58 : decode cX0_moved 58 = .ok (.goto 7, 3) := by decide +kernel
theorem dX0_moved_61 : decode cX0_moved 61 = .ok (.iload_n 1, 1) := by decide +kernel
theorem dX0_moved_62 : decode cX0_moved 62 = .ok (.bipush 9, 2) := by decide +kernel
theorem dX0_moved_64 : decode cX0_moved 64 = .ok (.iadd, 1) := by decide +kernel
theorem dX0_moved_65 : decode cX0_moved 65 = .ok (.ireturn, 1) := by decide +kernel
theorem dX0_moved_66 : decode cX0_moved 66 = .ok (.iload_n 3, 1) := by decide +kernel
theorem dX0_moved_67 : decode cX0_moved 67 = .ok (.ifCond .ne 7, 3) := by decide +kernel
theorem dX0_moved_70 : decode cX0_moved 70 = .ok (.iconst (-1), 1) := by decide +kernel
theorem dX0_moved_71 : decode cX0_moved 71 = .ok (.goto 6, 3) := by decide +kernel
theorem dX0_moved_74 : decode cX0_moved 74 = .ok (.iload_n 1, 1) := by decide +kernel
theorem dX0_moved_75 : decode cX0_moved 75 = .ok (.iconst 1, 1) := by decide +kernel
theorem dX0_moved_76 : decode cX0_moved 76 = .ok (.isub, 1) := by decide +kernel
theorem dX0_moved_77 : decode cX0_moved 77 = .ok (.ireturn, 1) := by decide +kernel
theorem dX0_askAround_0 : decode cX0_askAround 0 = .ok (.iconst 0, 1) := by decide +kernel
theorem dX0_askAround_1 : decode cX0_askAround 1 = .ok (.istore_n 2, 1) := by decide +kernel
theorem dX0_askAround_2 : decode cX0_askAround 2 = .ok (.iload_n 2, 1) := by decide +kernel
theorem dX0_askAround_3 : decode cX0_askAround 3 = .ok (.iconst 4, 1) := by decide +kernel
theorem dX0_askAround_4 : decode cX0_askAround 4 = .ok (.if_icmp .ge 25, 3) := by decide +kernel
theorem dX0_askAround_7 : decode cX0_askAround 7 = .ok (.aload_n 0, 1) := by decide +kernel
theorem dX0_askAround_8 : decode cX0_askAround 8 = .ok (.iload_n 1, 1) := by decide +kernel
theorem dX0_askAround_9 : decode cX0_askAround 9 = .ok (.iload_n 2, 1) := by decide +kernel
theorem dX0_askAround_10 : decode cX0_askAround 10 = .ok (.invokevirtual 61, 3) := by decide +kernel
theorem dX0_askAround_13 : decode cX0_askAround 13 = .ok (.istore_n 3, 1) := by decide +kernel
theorem dX0_askAround_14 : decode cX0_askAround 14 = .ok (.iload_n 3, 1) := by decide +kernel
theorem dX0_askAround_15 : decode cX0_askAround 15 = .ok (.ifCond .lt 8, 3) := by decide +kernel
theorem dX0_askAround_18 : decode cX0_askAround 18 = .ok (.aload_n 0, 1) := by decide +kernel
theorem dX0_askAround_19 : decode cX0_askAround 19 = .ok (.iload_n 3, 1) := by decide +kernel
theorem dX0_askAround_20 : decode cX0_askAround 20 = .ok (.invokevirtual 64, 3) := by decide +kernel
theorem dX0_askAround_23 : decode cX0_askAround 23 = .ok (.iinc 2 1, 3) := by decide +kernel
theorem dX0_askAround_26 : decode cX0_askAround 26 = .ok (.goto (-24), 3) := by decide +kernel
theorem dX0_askAround_29 : decode cX0_askAround 29 = .ok (.return_, 1) := by decide +kernel
theorem dX0_wall_0 : decode cX0_wall 0 = .ok (.aload_n 0, 1) := by decide +kernel
theorem dX0_wall_1 : decode cX0_wall 1 = .ok (.iload_n 1, 1) := by decide +kernel
theorem dX0_wall_2 : decode cX0_wall 2 = .ok (.invokevirtual 83, 3) := by decide +kernel
theorem dX0_wall_5 : decode cX0_wall 5 = .ok (.ifCond .ne 15, 3) := by decide +kernel
theorem dX0_wall_8 : decode cX0_wall 8 = .ok (.iload_n 3, 1) := by decide +kernel
theorem dX0_wall_9 : decode cX0_wall 9 = .ok (.bipush (-9), 2) := by decide +kernel
theorem dX0_wall_11 : decode cX0_wall 11 = .ok (.if_icmp .lt 9, 3) := by decide +kernel
theorem dX0_wall_14 : decode cX0_wall 14 = .ok (.iload_n 3, 1) := by decide +kernel
theorem dX0_wall_15 : decode cX0_wall 15 = .ok (.bipush 9, 2) := by decide +kernel
theorem dX0_wall_17 : decode cX0_wall 17 = .ok (.if_icmp .le 5, 3) := by decide +kernel
theorem dX0_wall_20 : decode cX0_wall 20 = .ok (.iconst (-1), 1) := by decide +kernel
theorem dX0_wall_21 : decode cX0_wall 21 = .ok (.ireturn, 1) := by decide +kernel
theorem dX0_wall_22 : decode cX0_wall 22 = .ok (.iload_n 3, 1) := by decide +kernel
theorem dX0_wall_23 : decode cX0_wall 23 = .ok (.ifCond .ge 8, 3) := by decide +kernel
theorem dX0_wall_26 : decode cX0_wall 26 = .ok (.iload_n 3, 1) := by decide +kernel
theorem dX0_wall_27 : decode cX0_wall 27 = .ok (.ineg, 1) := by decide +kernel
theorem dX0_wall_28 : decode cX0_wall 28 = .ok (.goto 4, 3) := by decide +kernel
theorem dX0_wall_31 : decode cX0_wall 31 = .ok (.iload_n 3, 1) := by decide +kernel
theorem dX0_wall_32 : decode cX0_wall 32 = .ok (.istore 4, 2) := by decide +kernel
theorem dX0_wall_34 : decode cX0_wall 34 = .ok (.iconst 0, 1) := by decide +kernel
theorem dX0_wall_35 : decode cX0_wall 35 = .ok (.istore 5, 2) := by decide +kernel
theorem dX0_wall_37 : decode cX0_wall 37 = .ok (.iload_n 1, 1) := by decide +kernel
theorem dX0_wall_38 : decode cX0_wall 38 = .ok (.istore 6, 2) := by decide +kernel
theorem dX0_wall_40 : decode cX0_wall 40 = .ok (.iconst 0, 1) := by decide +kernel
theorem dX0_wall_41 : decode cX0_wall 41 = .ok (.istore 7, 2) := by decide +kernel
theorem dX0_wall_43 : decode cX0_wall 43 = .ok (.iload 7, 2) := by decide +kernel
theorem dX0_wall_45 : decode cX0_wall 45 = .ok (.iload 4, 2) := by decide +kernel
theorem dX0_wall_47 : decode cX0_wall 47 = .ok (.if_icmp .ge 55, 3) := by decide +kernel
theorem dX0_wall_50 : decode cX0_wall 50 = .ok (.iload 6, 2) := by decide +kernel
theorem dX0_wall_52 : decode cX0_wall 52 = .ok (.ifCond .lt 50, 3) := by decide +kernel
theorem dX0_wall_55 : decode cX0_wall 55 = .ok (.aload_n 0, 1) := by decide +kernel
theorem dX0_wall_56 : decode cX0_wall 56 = .ok (.iload 6, 2) := by decide +kernel
theorem dX0_wall_58 : decode cX0_wall 58 = .ok (.iload_n 3, 1) := by decide +kernel
theorem dX0_wall_59 : decode cX0_wall 59 = .ok (.ifCond .le 7, 3) := by decide +kernel
theorem dX0_wall_62 : decode cX0_wall 62 = .ok (.iconst 1, 1) := by decide +kernel
theorem dX0_wall_63 : decode cX0_wall 63 = .ok (.goto 4, 3) := by decide +kernel
theorem dX0_wall_66 : decode cX0_wall 66 = .ok (.iconst 0, 1) := by decide +kernel
theorem dX0_wall_67 : decode cX0_wall 67 = .ok (.invokevirtual 86, 3) := by decide +kernel
theorem dX0_wall_70 : decode cX0_wall 70 = .ok (.istore 8, 2) := by decide +kernel
theorem dX0_wall_72 : decode cX0_wall 72 = .ok (.iload 5, 2) := by decide +kernel
theorem dX0_wall_74 : decode cX0_wall 74 = .ok (.iload 8, 2) := by decide +kernel
theorem dX0_wall_76 : decode cX0_wall 76 = .ok (.iadd, 1) := by decide +kernel
theorem dX0_wall_77 : decode cX0_wall 77 = .ok (.istore 5, 2) := by decide +kernel
theorem dX0_wall_79 : decode cX0_wall 79 = .ok (.aload_n 0, 1) := by decide +kernel
theorem dX0_wall_80 : decode cX0_wall 80 = .ok (.iload 6, 2) := by decide +kernel
theorem dX0_wall_82 : decode cX0_wall 82 = .ok (.iload_n 2, 1) := by decide +kernel
theorem dX0_wall_83 : decode cX0_wall 83 = .ok (.ifCond .ne 7, 3) := by decide +kernel
theorem dX0_wall_86 : decode cX0_wall 86 = .ok (.iconst 1, 1) := by decide +kernel
theorem dX0_wall_87 : decode cX0_wall 87 = .ok (.goto 4, 3) := by decide +kernel
theorem dX0_wall_90 : decode cX0_wall 90 = .ok (.iconst 2, 1) := by decide +kernel
theorem dX0_wall_91 : decode cX0_wall 91 = .ok (.invokevirtual 61, 3) := by decide +kernel
theorem dX0_wall_94 : decode cX0_wall 94 = .ok (.istore 6, 2) := by decide +kernel
theorem dX0_wall_96 : decode cX0_wall 96 = .ok (.iinc 7 1, 3) := by decide +kernel
theorem dX0_wall_99 : decode cX0_wall 99 = .ok (.goto (-56), 3) := by decide +kernel
theorem dX0_wall_102 : decode cX0_wall 102 = .ok (.aload_n 0, 1) := by decide +kernel
theorem dX0_wall_103 : decode cX0_wall 103 = .ok (.invokevirtual 90, 3) := by decide +kernel
theorem dX0_wall_106 : decode cX0_wall 106 = .ok (.iload 5, 2) := by decide +kernel
theorem dX0_wall_108 : decode cX0_wall 108 = .ok (.ireturn, 1) := by decide +kernel
theorem dX0_tune_0 : decode cX0_tune 0 = .ok (.iload_n 1, 1) := by decide +kernel
theorem dX0_tune_1 : decode cX0_tune 1 = .ok (.ifCond .lt 18, 3) := by decide +kernel
theorem dX0_tune_4 : decode cX0_tune 4 = .ok (.iload_n 1, 1) := by decide +kernel
theorem dX0_tune_5 : decode cX0_tune 5 = .ok (.iconst 3, 1) := by decide +kernel
theorem dX0_tune_6 : decode cX0_tune 6 = .ok (.if_icmp .gt 13, 3) := by decide +kernel
theorem dX0_tune_9 : decode cX0_tune 9 = .ok (.iload_n 2, 1) := by decide +kernel
theorem dX0_tune_10 : decode cX0_tune 10 = .ok (.ifCond .lt 9, 3) := by decide +kernel
theorem dX0_tune_13 : decode cX0_tune 13 = .ok (.iload_n 2, 1) := by decide +kernel
theorem dX0_tune_14 : decode cX0_tune 14 = .ok (.bipush 9, 2) := by decide +kernel
theorem dX0_tune_16 : decode cX0_tune 16 = .ok (.if_icmp .le 5, 3) := by decide +kernel
theorem dX0_tune_19 : decode cX0_tune 19 = .ok (.iconst (-1), 1) := by decide +kernel
theorem dX0_tune_20 : decode cX0_tune 20 = .ok (.ireturn, 1) := by decide +kernel
theorem dX0_tune_21 : decode cX0_tune 21 = .ok (.aload_n 0, 1) := by decide +kernel
theorem dX0_tune_22 : decode cX0_tune 22 = .ok (.iload_n 1, 1) := by decide +kernel
theorem dX0_tune_23 : decode cX0_tune 23 = .ok (.putfield 32, 3) := by decide +kernel
theorem dX0_tune_26 : decode cX0_tune 26 = .ok (.aload_n 0, 1) := by decide +kernel
theorem dX0_tune_27 : decode cX0_tune 27 = .ok (.iload_n 2, 1) := by decide +kernel
theorem dX0_tune_28 : decode cX0_tune 28 = .ok (.putfield 36, 3) := by decide +kernel
theorem dX0_tune_31 : decode cX0_tune 31 = .ok (.aload_n 0, 1) := by decide +kernel
theorem dX0_tune_32 : decode cX0_tune 32 = .ok (.invokevirtual 90, 3) := by decide +kernel
theorem dX0_tune_35 : decode cX0_tune 35 = .ok (.iconst 0, 1) := by decide +kernel
theorem dX0_tune_36 : decode cX0_tune 36 = .ok (.ireturn, 1) := by decide +kernel
theorem dX0_place_0 : decode cX0_place 0 = .ok (.aload_n 0, 1) := by decide +kernel
theorem dX0_place_1 : decode cX0_place 1 = .ok (.iload_n 1, 1) := by decide +kernel
theorem dX0_place_2 : decode cX0_place 2 = .ok (.invokevirtual 83, 3) := by decide +kernel
theorem dX0_place_5 : decode cX0_place 5 = .ok (.ifCond .eq 5, 3) := by decide +kernel
theorem dX0_place_8 : decode cX0_place 8 = .ok (.iconst (-1), 1) := by decide +kernel
theorem dX0_place_9 : decode cX0_place 9 = .ok (.ireturn, 1) := by decide +kernel
theorem dX0_place_10 : decode cX0_place 10 = .ok (.aload_n 0, 1) := by decide +kernel
theorem dX0_place_11 : decode cX0_place 11 = .ok (.getfield 93, 3) := by decide +kernel
theorem dX0_place_14 : decode cX0_place 14 = .ok (.istore_n 2, 1) := by decide +kernel
theorem dX0_place_15 : decode cX0_place 15 = .ok (.aload_n 0, 1) := by decide +kernel
theorem dX0_place_16 : decode cX0_place 16 = .ok (.iload_n 1, 1) := by decide +kernel
theorem dX0_place_17 : decode cX0_place 17 = .ok (.putfield 93, 3) := by decide +kernel
theorem dX0_place_20 : decode cX0_place 20 = .ok (.iload_n 2, 1) := by decide +kernel
theorem dX0_place_21 : decode cX0_place 21 = .ok (.ireturn, 1) := by decide +kernel
theorem dX0_goal_0 : decode cX0_goal 0 = .ok (.aload_n 0, 1) := by decide +kernel
theorem dX0_goal_1 : decode cX0_goal 1 = .ok (.iload_n 1, 1) := by decide +kernel
theorem dX0_goal_2 : decode cX0_goal 2 = .ok (.invokevirtual 83, 3) := by decide +kernel
theorem dX0_goal_5 : decode cX0_goal 5 = .ok (.ifCond .eq 5, 3) := by decide +kernel
theorem dX0_goal_8 : decode cX0_goal 8 = .ok (.iconst (-1), 1) := by decide +kernel
theorem dX0_goal_9 : decode cX0_goal 9 = .ok (.ireturn, 1) := by decide +kernel
theorem dX0_goal_10 : decode cX0_goal 10 = .ok (.aload_n 0, 1) := by decide +kernel
theorem dX0_goal_11 : decode cX0_goal 11 = .ok (.getfield 39, 3) := by decide +kernel
theorem dX0_goal_14 : decode cX0_goal 14 = .ok (.istore_n 2, 1) := by decide +kernel
theorem dX0_goal_15 : decode cX0_goal 15 = .ok (.aload_n 0, 1) := by decide +kernel
theorem dX0_goal_16 : decode cX0_goal 16 = .ok (.iload_n 1, 1) := by decide +kernel
theorem dX0_goal_17 : decode cX0_goal 17 = .ok (.putfield 39, 3) := by decide +kernel
theorem dX0_goal_20 : decode cX0_goal 20 = .ok (.aload_n 0, 1) := by decide +kernel
theorem dX0_goal_21 : decode cX0_goal 21 = .ok (.iload_n 2, 1) := by decide +kernel
theorem dX0_goal_22 : decode cX0_goal 22 = .ok (.invokevirtual 64, 3) := by decide +kernel
theorem dX0_goal_25 : decode cX0_goal 25 = .ok (.aload_n 0, 1) := by decide +kernel
theorem dX0_goal_26 : decode cX0_goal 26 = .ok (.iload_n 1, 1) := by decide +kernel
theorem dX0_goal_27 : decode cX0_goal 27 = .ok (.invokevirtual 64, 3) := by decide +kernel
theorem dX0_goal_30 : decode cX0_goal 30 = .ok (.iload_n 2, 1) := by decide +kernel
theorem dX0_goal_31 : decode cX0_goal 31 = .ok (.ireturn, 1) := by decide +kernel
theorem dX0_blocked_0 : decode cX0_blocked 0 = .ok (.aload_n 0, 1) := by decide +kernel
theorem dX0_blocked_1 : decode cX0_blocked 1 = .ok (.iload_n 1, 1) := by decide +kernel
theorem dX0_blocked_2 : decode cX0_blocked 2 = .ok (.invokevirtual 83, 3) := by decide +kernel
theorem dX0_blocked_5 : decode cX0_blocked 5 = .ok (.ifCond .ne 16, 3) := by decide +kernel
theorem dX0_blocked_8 : decode cX0_blocked 8 = .ok (.aload_n 0, 1) := by decide +kernel
theorem dX0_blocked_9 : decode cX0_blocked 9 = .ok (.getfield 7, 3) := by decide +kernel
theorem dX0_blocked_12 : decode cX0_blocked 12 = .ok (.iload_n 1, 1) := by decide +kernel
theorem dX0_blocked_13 : decode cX0_blocked 13 = .ok (.baload, 1) := by decide +kernel
theorem dX0_blocked_14 : decode cX0_blocked 14 = .ok (.ifCond .eq 7, 3) := by decide +kernel
theorem dX0_blocked_17 : decode cX0_blocked 17 = .ok (.iconst 1, 1) := by decide +kernel
theorem dX0_blocked_18 : decode cX0_blocked 18 = .ok (.goto 4, 3) := by decide +kernel
theorem dX0_blocked_21 : decode cX0_blocked 21 = .ok (.iconst 0, 1) := by decide +kernel
theorem dX0_blocked_22 : decode cX0_blocked 22 = .ok (.ireturn, 1) := by decide +kernel
theorem dX0_clearance_0 : decode cX0_clearance 0 = .ok (.aload_n 0, 1) := by decide +kernel
theorem dX0_clearance_1 : decode cX0_clearance 1 = .ok (.iload_n 1, 1) := by decide +kernel
theorem dX0_clearance_2 : decode cX0_clearance 2 = .ok (.invokevirtual 83, 3) := by decide +kernel
theorem dX0_clearance_5 : decode cX0_clearance 5 = .ok (.ifCond .eq 7, 3) := by decide +kernel
theorem dX0_clearance_8 : decode cX0_clearance 8 = .ok (.iconst (-1), 1) := by decide +kernel
theorem dX0_clearance_9 : decode cX0_clearance 9 = .ok (.goto 9, 3) := by decide +kernel
theorem dX0_clearance_12 : decode cX0_clearance 12 = .ok (.aload_n 0, 1) := by decide +kernel
theorem dX0_clearance_13 : decode cX0_clearance 13 = .ok (.getfield 13, 3) := by decide +kernel
theorem dX0_clearance_16 : decode cX0_clearance 16 = .ok (.iload_n 1, 1) := by decide +kernel
theorem dX0_clearance_17 : decode cX0_clearance 17 = .ok (.iaload, 1) := by decide +kernel
theorem dX0_clearance_18 : decode cX0_clearance 18 = .ok (.ireturn, 1) := by decide +kernel
theorem dX0_cost_0 : decode cX0_cost 0 = .ok (.aload_n 0, 1) := by decide +kernel
end
section
set_option maxRecDepth 100000
theorem dX0_cost_1 : decode cX0_cost 1 = .ok (.iload_n 1, 1) := by decide +kernel
theorem dX0_cost_2 : decode cX0_cost 2 = .ok (.invokevirtual 83, 3) := by decide +kernel
theorem dX0_cost_5 : decode cX0_cost 5 = .ok (.ifCond .eq 5, 3) := by decide +kernel
theorem dX0_cost_8 : decode cX0_cost 8 = .ok (.iconst (-1), 1) := by decide +kernel
theorem dX0_cost_9 : decode cX0_cost 9 = .ok (.ireturn, 1) := by decide +kernel
theorem dX0_cost_10 : decode cX0_cost 10 = .ok (.aload_n 0, 1) := by decide +kernel
theorem dX0_cost_11 : decode cX0_cost 11 = .ok (.getfield 23, 3) := by decide +kernel
theorem dX0_cost_14 : decode cX0_cost 14 = .ok (.iload_n 1, 1) := by decide +kernel
theorem dX0_cost_15 : decode cX0_cost 15 = .ok (.iaload, 1) := by decide +kernel
theorem dX0_cost_16 : decode cX0_cost 16 = .ok (.ifCond .ge 8, 3) := by decide +kernel
theorem dX0_cost_19 : decode cX0_cost 19 = .ok (.bipush (-4), 2) := by decide +kernel
theorem dX0_cost_21 : decode cX0_cost 21 = .ok (.goto 9, 3) := by decide +kernel
theorem dX0_cost_24 : decode cX0_cost 24 = .ok (.aload_n 0, 1) := by decide +kernel
theorem dX0_cost_25 : decode cX0_cost 25 = .ok (.getfield 23, 3) := by decide +kernel
theorem dX0_cost_28 : decode cX0_cost 28 = .ok (.iload_n 1, 1) := by decide +kernel
theorem dX0_cost_29 : decode cX0_cost 29 = .ok (.iaload, 1) := by decide +kernel
theorem dX0_cost_30 : decode cX0_cost 30 = .ok (.ireturn, 1) := by decide +kernel
theorem dX0_distance_0 : decode cX0_distance 0 = .ok (.aload_n 0, 1) := by decide +kernel
theorem dX0_distance_1 : decode cX0_distance 1 = .ok (.invokevirtual 96, 3) := by decide +kernel
theorem dX0_distance_4 : decode cX0_distance 4 = .ok (.aload_n 0, 1) := by decide +kernel
theorem dX0_distance_5 : decode cX0_distance 5 = .ok (.aload_n 0, 1) := by decide +kernel
theorem dX0_distance_6 : decode cX0_distance 6 = .ok (.getfield 26, 3) := by decide +kernel
theorem dX0_distance_9 : decode cX0_distance 9 = .ok (.aload_n 0, 1) := by decide +kernel
theorem dX0_distance_10 : decode cX0_distance 10 = .ok (.getfield 93, 3) := by decide +kernel
theorem dX0_distance_13 : decode cX0_distance 13 = .ok (.iaload, 1) := by decide +kernel
theorem dX0_distance_14 : decode cX0_distance 14 = .ok (.invokevirtual 99, 3) := by decide +kernel
theorem dX0_distance_17 : decode cX0_distance 17 = .ok (.ireturn, 1) := by decide +kernel
theorem dX0_settle_0 : decode cX0_settle 0 = .ok (.aload_n 0, 1) := by decide +kernel
theorem dX0_settle_1 : decode cX0_settle 1 = .ok (.invokevirtual 75, 3) := by decide +kernel
theorem dX0_settle_4 : decode cX0_settle 4 = .ok (.istore_n 1, 1) := by decide +kernel
theorem dX0_settle_5 : decode cX0_settle 5 = .ok (.iconst 0, 1) := by decide +kernel
theorem dX0_settle_6 : decode cX0_settle 6 = .ok (.istore_n 2, 1) := by decide +kernel
theorem dX0_settle_7 : decode cX0_settle 7 = .ok (.iload_n 2, 1) := by decide +kernel
theorem dX0_settle_8 : decode cX0_settle 8 = .ok (.sipush 400, 3) := by decide +kernel
theorem dX0_settle_11 : decode cX0_settle 11 = .ok (.if_icmp .ge 66, 3) := by decide +kernel
theorem dX0_settle_14 : decode cX0_settle 14 = .ok (.iload_n 1, 1) := by decide +kernel
theorem dX0_settle_15 : decode cX0_settle 15 = .ok (.ifCond .lt 62, 3) := by decide +kernel
theorem dX0_settle_18 : decode cX0_settle 18 = .ok (.aload_n 0, 1) := by decide +kernel
theorem dX0_settle_19 : decode cX0_settle 19 = .ok (.getfield 26, 3) := by decide +kernel
theorem dX0_settle_22 : decode cX0_settle 22 = .ok (.iload_n 1, 1) := by decide +kernel
theorem dX0_settle_23 : decode cX0_settle 23 = .ok (.iaload, 1) := by decide +kernel
theorem dX0_settle_24 : decode cX0_settle 24 = .ok (.aload_n 0, 1) := by decide +kernel
theorem dX0_settle_25 : decode cX0_settle 25 = .ok (.getfield 29, 3) := by decide +kernel
theorem dX0_settle_28 : decode cX0_settle 28 = .ok (.iload_n 1, 1) := by decide +kernel
theorem dX0_settle_29 : decode cX0_settle 29 = .ok (.iaload, 1) := by decide +kernel
theorem dX0_settle_30 : decode cX0_settle 30 = .ok (.if_icmp .le 18, 3) := by decide +kernel
theorem dX0_settle_33 : decode cX0_settle 33 = .ok (.aload_n 0, 1) := by decide +kernel
theorem dX0_settle_34 : decode cX0_settle 34 = .ok (.getfield 26, 3) := by decide +kernel
theorem dX0_settle_37 : decode cX0_settle 37 = .ok (.iload_n 1, 1) := by decide +kernel
theorem dX0_settle_38 : decode cX0_settle 38 = .ok (.aload_n 0, 1) := by decide +kernel
theorem dX0_settle_39 : decode cX0_settle 39 = .ok (.getfield 29, 3) := by decide +kernel
theorem dX0_settle_42 : decode cX0_settle 42 = .ok (.iload_n 1, 1) := by decide +kernel
theorem dX0_settle_43 : decode cX0_settle 43 = .ok (.iaload, 1) := by decide +kernel
theorem dX0_settle_44 : decode cX0_settle 44 = .ok (.iastore, 1) := by decide +kernel
theorem dX0_settle_45 : decode cX0_settle 45 = .ok (.goto 16, 3) := by decide +kernel
theorem dX0_settle_48 : decode cX0_settle 48 = .ok (.aload_n 0, 1) := by decide +kernel
theorem dX0_settle_49 : decode cX0_settle 49 = .ok (.getfield 26, 3) := by decide +kernel
theorem dX0_settle_52 : decode cX0_settle 52 = .ok (.iload_n 1, 1) := by decide +kernel
theorem dX0_settle_53 : decode cX0_settle 53 = .ok (.ldc 42, 2) := by decide +kernel
theorem dX0_settle_55 : decode cX0_settle 55 = .ok (.iastore, 1) := by decide +kernel
theorem dX0_settle_56 : decode cX0_settle 56 = .ok (.aload_n 0, 1) := by decide +kernel
theorem dX0_settle_57 : decode cX0_settle 57 = .ok (.iload_n 1, 1) := by decide +kernel
theorem dX0_settle_58 : decode cX0_settle 58 = .ok (.invokevirtual 64, 3) := by decide +kernel
theorem dX0_settle_61 : decode cX0_settle 61 = .ok (.aload_n 0, 1) := by decide +kernel
theorem dX0_settle_62 : decode cX0_settle 62 = .ok (.iload_n 1, 1) := by decide +kernel
theorem dX0_settle_63 : decode cX0_settle 63 = .ok (.invokevirtual 71, 3) := by decide +kernel
theorem dX0_settle_66 : decode cX0_settle 66 = .ok (.aload_n 0, 1) := by decide +kernel
theorem dX0_settle_67 : decode cX0_settle 67 = .ok (.invokevirtual 75, 3) := by decide +kernel
theorem dX0_settle_70 : decode cX0_settle 70 = .ok (.istore_n 1, 1) := by decide +kernel
theorem dX0_settle_71 : decode cX0_settle 71 = .ok (.iinc 2 1, 3) := by decide +kernel
theorem dX0_settle_74 : decode cX0_settle 74 = .ok (.goto (-67), 3) := by decide +kernel
theorem dX0_settle_77 : decode cX0_settle 77 = .ok (.return_, 1) := by decide +kernel
theorem dX0_first_0 : decode cX0_first 0 = .ok (.iconst (-1), 1) := by decide +kernel
theorem dX0_first_1 : decode cX0_first 1 = .ok (.istore_n 1, 1) := by decide +kernel
theorem dX0_first_2 : decode cX0_first 2 = .ok (.ldc 74, 2) := by decide +kernel
theorem dX0_first_4 : decode cX0_first 4 = .ok (.istore_n 2, 1) := by decide +kernel
theorem dX0_first_5 : decode cX0_first 5 = .ok (.iconst 0, 1) := by decide +kernel
theorem dX0_first_6 : decode cX0_first 6 = .ok (.istore_n 3, 1) := by decide +kernel
theorem dX0_first_7 : decode cX0_first 7 = .ok (.iload_n 3, 1) := by decide +kernel
theorem dX0_first_8 : decode cX0_first 8 = .ok (.bipush 81, 2) := by decide +kernel
theorem dX0_first_10 : decode cX0_first 10 = .ok (.if_icmp .ge 67, 3) := by decide +kernel
theorem dX0_first_13 : decode cX0_first 13 = .ok (.aload_n 0, 1) := by decide +kernel
theorem dX0_first_14 : decode cX0_first 14 = .ok (.getfield 26, 3) := by decide +kernel
theorem dX0_first_17 : decode cX0_first 17 = .ok (.iload_n 3, 1) := by decide +kernel
theorem dX0_first_18 : decode cX0_first 18 = .ok (.iaload, 1) := by decide +kernel
theorem dX0_first_19 : decode cX0_first 19 = .ok (.aload_n 0, 1) := by decide +kernel
theorem dX0_first_20 : decode cX0_first 20 = .ok (.getfield 29, 3) := by decide +kernel
theorem dX0_first_23 : decode cX0_first 23 = .ok (.iload_n 3, 1) := by decide +kernel
theorem dX0_first_24 : decode cX0_first 24 = .ok (.iaload, 1) := by decide +kernel
theorem dX0_first_25 : decode cX0_first 25 = .ok (.if_icmp .ge 12, 3) := by decide +kernel
theorem dX0_first_28 : decode cX0_first 28 = .ok (.aload_n 0, 1) := by decide +kernel
theorem dX0_first_29 : decode cX0_first 29 = .ok (.getfield 26, 3) := by decide +kernel
theorem dX0_first_32 : decode cX0_first 32 = .ok (.iload_n 3, 1) := by decide +kernel
theorem dX0_first_33 : decode cX0_first 33 = .ok (.iaload, 1) := by decide +kernel
theorem dX0_first_34 : decode cX0_first 34 = .ok (.goto 9, 3) := by decide +kernel
theorem dX0_first_37 : decode cX0_first 37 = .ok (.aload_n 0, 1) := by decide +kernel
theorem dX0_first_38 : decode cX0_first 38 = .ok (.getfield 29, 3) := by decide +kernel
theorem dX0_first_41 : decode cX0_first 41 = .ok (.iload_n 3, 1) := by decide +kernel
theorem dX0_first_42 : decode cX0_first 42 = .ok (.iaload, 1) := by decide +kernel
theorem dX0_first_43 : decode cX0_first 43 = .ok (.istore 4, 2) := by decide +kernel
theorem dX0_first_45 : decode cX0_first 45 = .ok (.aload_n 0, 1) := by decide +kernel
theorem dX0_first_46 : decode cX0_first 46 = .ok (.getfield 26, 3) := by decide +kernel
theorem dX0_first_49 : decode cX0_first 49 = .ok (.iload_n 3, 1) := by decide +kernel
theorem dX0_first_50 : decode cX0_first 50 = .ok (.iaload, 1) := by decide +kernel
theorem dX0_first_51 : decode cX0_first 51 = .ok (.aload_n 0, 1) := by decide +kernel
theorem dX0_first_52 : decode cX0_first 52 = .ok (.getfield 29, 3) := by decide +kernel
theorem dX0_first_55 : decode cX0_first 55 = .ok (.iload_n 3, 1) := by decide +kernel
theorem dX0_first_56 : decode cX0_first 56 = .ok (.iaload, 1) := by decide +kernel
theorem dX0_first_57 : decode cX0_first 57 = .ok (.if_icmp .eq 14, 3) := by decide +kernel
theorem dX0_first_60 : decode cX0_first 60 = .ok (.iload 4, 2) := by decide +kernel
theorem dX0_first_62 : decode cX0_first 62 = .ok (.iload_n 2, 1) := by decide +kernel
theorem dX0_first_63 : decode cX0_first 63 = .ok (.if_icmp .ge 8, 3) := by decide +kernel
theorem dX0_first_66 : decode cX0_first 66 = .ok (.iload_n 3, 1) := by decide +kernel
theorem dX0_first_67 : decode cX0_first 67 = .ok (.istore_n 1, 1) := by decide +kernel
theorem dX0_first_68 : decode cX0_first 68 = .ok (.iload 4, 2) := by decide +kernel
theorem dX0_first_70 : decode cX0_first 70 = .ok (.istore_n 2, 1) := by decide +kernel
theorem dX0_first_71 : decode cX0_first 71 = .ok (.iinc 3 1, 3) := by decide +kernel
theorem dX0_first_74 : decode cX0_first 74 = .ok (.goto (-67), 3) := by decide +kernel
theorem dX0_first_77 : decode cX0_first 77 = .ok (.iload_n 1, 1) := by decide +kernel
theorem dX0_first_78 : decode cX0_first 78 = .ok (.ireturn, 1) := by decide +kernel
theorem dX0_answer_0 : decode cX0_answer 0 = .ok (.iload_n 1, 1) := by decide +kernel
theorem dX0_answer_1 : decode cX0_answer 1 = .ok (.ldc 42, 2) := by decide +kernel
theorem dX0_answer_3 : decode cX0_answer 3 = .ok (.if_icmp .lt 8, 3) := by decide +kernel
theorem dX0_answer_6 : decode cX0_answer 6 = .ok (.bipush (-4), 2) := by decide +kernel
theorem dX0_answer_8 : decode cX0_answer 8 = .ok (.goto 4, 3) := by decide +kernel
theorem dX0_answer_11 : decode cX0_answer 11 = .ok (.iload_n 1, 1) := by decide +kernel
theorem dX0_answer_12 : decode cX0_answer 12 = .ok (.ireturn, 1) := by decide +kernel
theorem dX0_distanceFrom_0 : decode cX0_distanceFrom 0 = .ok (.aload_n 0, 1) := by decide +kernel
theorem dX0_distanceFrom_1 : decode cX0_distanceFrom 1 = .ok (.iload_n 1, 1) := by decide +kernel
theorem dX0_distanceFrom_2 : decode cX0_distanceFrom 2 = .ok (.invokevirtual 83, 3) := by decide +kernel
theorem dX0_distanceFrom_5 : decode cX0_distanceFrom 5 = .ok (.ifCond .eq 5, 3) := by decide +kernel
theorem dX0_distanceFrom_8 : decode cX0_distanceFrom 8 = .ok (.iconst (-1), 1) := by decide +kernel
theorem dX0_distanceFrom_9 : decode cX0_distanceFrom 9 = .ok (.ireturn, 1) := by decide +kernel
theorem dX0_distanceFrom_10 : decode cX0_distanceFrom 10 = .ok (.aload_n 0, 1) := by decide +kernel
theorem dX0_distanceFrom_11 : decode cX0_distanceFrom 11 = .ok (.invokevirtual 96, 3) := by decide +kernel
theorem dX0_distanceFrom_14 : decode cX0_distanceFrom 14 = .ok (.aload_n 0, 1) := by decide +kernel
theorem dX0_distanceFrom_15 : decode cX0_distanceFrom 15 = .ok (.aload_n 0, 1) := by decide +kernel
theorem dX0_distanceFrom_16 : decode cX0_distanceFrom 16 = .ok (.getfield 26, 3) := by decide +kernel
theorem dX0_distanceFrom_19 : decode cX0_distanceFrom 19 = .ok (.iload_n 1, 1) := by decide +kernel
theorem dX0_distanceFrom_20 : decode cX0_distanceFrom 20 = .ok (.iaload, 1) := by decide +kernel
theorem dX0_distanceFrom_21 : decode cX0_distanceFrom 21 = .ok (.invokevirtual 99, 3) := by decide +kernel
theorem dX0_distanceFrom_24 : decode cX0_distanceFrom 24 = .ok (.ireturn, 1) := by decide +kernel
theorem dX0_next_0 : decode cX0_next 0 = .ok (.aload_n 0, 1) := by decide +kernel
theorem dX0_next_1 : decode cX0_next 1 = .ok (.invokevirtual 96, 3) := by decide +kernel
theorem dX0_next_4 : decode cX0_next 4 = .ok (.aload_n 0, 1) := by decide +kernel
theorem dX0_next_5 : decode cX0_next 5 = .ok (.aload_n 0, 1) := by decide +kernel
theorem dX0_next_6 : decode cX0_next 6 = .ok (.getfield 93, 3) := by decide +kernel
theorem dX0_next_9 : decode cX0_next 9 = .ok (.invokevirtual 102, 3) := by decide +kernel
theorem dX0_next_12 : decode cX0_next 12 = .ok (.ireturn, 1) := by decide +kernel
theorem dX0_nextFrom_0 : decode cX0_nextFrom 0 = .ok (.iload_n 1, 1) := by decide +kernel
theorem dX0_nextFrom_1 : decode cX0_nextFrom 1 = .ok (.aload_n 0, 1) := by decide +kernel
theorem dX0_nextFrom_2 : decode cX0_nextFrom 2 = .ok (.getfield 39, 3) := by decide +kernel
theorem dX0_nextFrom_5 : decode cX0_nextFrom 5 = .ok (.if_icmp .eq 14, 3) := by decide +kernel
theorem dX0_nextFrom_8 : decode cX0_nextFrom 8 = .ok (.aload_n 0, 1) := by decide +kernel
theorem dX0_nextFrom_9 : decode cX0_nextFrom 9 = .ok (.getfield 26, 3) := by decide +kernel
theorem dX0_nextFrom_12 : decode cX0_nextFrom 12 = .ok (.iload_n 1, 1) := by decide +kernel
theorem dX0_nextFrom_13 : decode cX0_nextFrom 13 = .ok (.iaload, 1) := by decide +kernel
theorem dX0_nextFrom_14 : decode cX0_nextFrom 14 = .ok (.ldc 42, 2) := by decide +kernel
theorem dX0_nextFrom_16 : decode cX0_nextFrom 16 = .ok (.if_icmp .lt 6, 3) := by decide +kernel
theorem dX0_nextFrom_19 : decode cX0_nextFrom 19 = .ok (.bipush (-4), 2) := by decide +kernel
theorem dX0_nextFrom_21 : decode cX0_nextFrom 21 = .ok (.ireturn, 1) := by decide +kernel
theorem dX0_nextFrom_22 : decode cX0_nextFrom 22 = .ok (.iconst 0, 1) := by decide +kernel
theorem dX0_nextFrom_23 : decode cX0_nextFrom 23 = .ok (.istore_n 2, 1) := by decide +kernel
theorem dX0_nextFrom_24 : decode cX0_nextFrom 24 = .ok (.iload_n 2, 1) := by decide +kernel
theorem dX0_nextFrom_25 : decode cX0_nextFrom 25 = .ok (.iconst 4, 1) := by decide +kernel
theorem dX0_nextFrom_26 : decode cX0_nextFrom 26 = .ok (.if_icmp .ge 53, 3) := by decide +kernel
theorem dX0_nextFrom_29 : decode cX0_nextFrom 29 = .ok (.aload_n 0, 1) := by decide +kernel
theorem dX0_nextFrom_30 : decode cX0_nextFrom 30 = .ok (.iload_n 1, 1) := by decide +kernel
theorem dX0_nextFrom_31 : decode cX0_nextFrom 31 = .ok (.iload_n 2, 1) := by decide +kernel
theorem dX0_nextFrom_32 : decode cX0_nextFrom 32 = .ok (.invokevirtual 61, 3) := by decide +kernel
theorem dX0_nextFrom_35 : decode cX0_nextFrom 35 = .ok (.istore_n 3, 1) := by decide +kernel
theorem dX0_nextFrom_36 : decode cX0_nextFrom 36 = .ok (.iload_n 3, 1) := by decide +kernel
theorem dX0_nextFrom_37 : decode cX0_nextFrom 37 = .ok (.ifCond .lt 36, 3) := by decide +kernel
theorem dX0_nextFrom_40 : decode cX0_nextFrom 40 = .ok (.aload_n 0, 1) := by decide +kernel
theorem dX0_nextFrom_41 : decode cX0_nextFrom 41 = .ok (.getfield 23, 3) := by decide +kernel
theorem dX0_nextFrom_44 : decode cX0_nextFrom 44 = .ok (.iload_n 3, 1) := by decide +kernel
theorem dX0_nextFrom_45 : decode cX0_nextFrom 45 = .ok (.iaload, 1) := by decide +kernel
theorem dX0_nextFrom_46 : decode cX0_nextFrom 46 = .ok (.ifCond .lt 27, 3) := by decide +kernel
theorem dX0_nextFrom_49 : decode cX0_nextFrom 49 = .ok (.aload_n 0, 1) := by decide +kernel
theorem dX0_nextFrom_50 : decode cX0_nextFrom 50 = .ok (.getfield 26, 3) := by decide +kernel
theorem dX0_nextFrom_53 : decode cX0_nextFrom 53 = .ok (.iload_n 3, 1) := by decide +kernel
theorem dX0_nextFrom_54 : decode cX0_nextFrom 54 = .ok (.iaload, 1) := by decide +kernel
theorem dX0_nextFrom_55 : decode cX0_nextFrom 55 = .ok (.aload_n 0, 1) := by decide +kernel
theorem dX0_nextFrom_56 : decode cX0_nextFrom 56 = .ok (.getfield 23, 3) := by decide +kernel
theorem dX0_nextFrom_59 : decode cX0_nextFrom 59 = .ok (.iload_n 3, 1) := by decide +kernel
theorem dX0_nextFrom_60 : decode cX0_nextFrom 60 = .ok (.iaload, 1) := by decide +kernel
theorem dX0_nextFrom_61 : decode cX0_nextFrom 61 = .ok (.iadd, 1) := by decide +kernel
theorem dX0_nextFrom_62 : decode cX0_nextFrom 62 = .ok (.aload_n 0, 1) := by decide +kernel
theorem dX0_nextFrom_63 : decode cX0_nextFrom 63 = .ok (.getfield 26, 3) := by decide +kernel
theorem dX0_nextFrom_66 : decode cX0_nextFrom 66 = .ok (.iload_n 1, 1) := by decide +kernel
theorem dX0_nextFrom_67 : decode cX0_nextFrom 67 = .ok (.iaload, 1) := by decide +kernel
theorem dX0_nextFrom_68 : decode cX0_nextFrom 68 = .ok (.if_icmp .ne 5, 3) := by decide +kernel
theorem dX0_nextFrom_71 : decode cX0_nextFrom 71 = .ok (.iload_n 2, 1) := by decide +kernel
theorem dX0_nextFrom_72 : decode cX0_nextFrom 72 = .ok (.ireturn, 1) := by decide +kernel
theorem dX0_nextFrom_73 : decode cX0_nextFrom 73 = .ok (.iinc 2 1, 3) := by decide +kernel
theorem dX0_nextFrom_76 : decode cX0_nextFrom 76 = .ok (.goto (-52), 3) := by decide +kernel
theorem dX0_nextFrom_79 : decode cX0_nextFrom 79 = .ok (.bipush (-4), 2) := by decide +kernel
theorem dX0_nextFrom_81 : decode cX0_nextFrom 81 = .ok (.ireturn, 1) := by decide +kernel
theorem dX0_drive_0 : decode cX0_drive 0 = .ok (.aload_n 0, 1) := by decide +kernel
theorem dX0_drive_1 : decode cX0_drive 1 = .ok (.invokevirtual 96, 3) := by decide +kernel
theorem dX0_drive_4 : decode cX0_drive 4 = .ok (.iconst 0, 1) := by decide +kernel
theorem dX0_drive_5 : decode cX0_drive 5 = .ok (.istore_n 2, 1) := by decide +kernel
theorem dX0_drive_6 : decode cX0_drive 6 = .ok (.aload_n 0, 1) := by decide +kernel
theorem dX0_drive_7 : decode cX0_drive 7 = .ok (.aload_n 0, 1) := by decide +kernel
theorem dX0_drive_8 : decode cX0_drive 8 = .ok (.getfield 93, 3) := by decide +kernel
theorem dX0_drive_11 : decode cX0_drive 11 = .ok (.invokevirtual 102, 3) := by decide +kernel
theorem dX0_drive_14 : decode cX0_drive 14 = .ok (.istore_n 3, 1) := by decide +kernel
theorem dX0_drive_15 : decode cX0_drive 15 = .ok (.iconst 0, 1) := by decide +kernel
theorem dX0_drive_16 : decode cX0_drive 16 = .ok (.istore 4, 2) := by decide +kernel
theorem dX0_drive_18 : decode cX0_drive 18 = .ok (.iload 4, 2) := by decide +kernel
theorem dX0_drive_20 : decode cX0_drive 20 = .ok (.iload_n 1, 1) := by decide +kernel
theorem dX0_drive_21 : decode cX0_drive 21 = .ok (.if_icmp .ge 45, 3) := by decide +kernel
theorem dX0_drive_24 : decode cX0_drive 24 = .ok (.iload 4, 2) := by decide +kernel
theorem dX0_drive_26 : decode cX0_drive 26 = .ok (.bipush 40, 2) := by decide +kernel
theorem dX0_drive_28 : decode cX0_drive 28 = .ok (.if_icmp .ge 38, 3) := by decide +kernel
theorem dX0_drive_31 : decode cX0_drive 31 = .ok (.iload_n 3, 1) := by decide +kernel
theorem dX0_drive_32 : decode cX0_drive 32 = .ok (.ifCond .lt 34, 3) := by decide +kernel
theorem dX0_drive_35 : decode cX0_drive 35 = .ok (.aload_n 0, 1) := by decide +kernel
theorem dX0_drive_36 : decode cX0_drive 36 = .ok (.aload_n 0, 1) := by decide +kernel
theorem dX0_drive_37 : decode cX0_drive 37 = .ok (.aload_n 0, 1) := by decide +kernel
theorem dX0_drive_38 : decode cX0_drive 38 = .ok (.getfield 93, 3) := by decide +kernel
theorem dX0_drive_41 : decode cX0_drive 41 = .ok (.iload_n 3, 1) := by decide +kernel
theorem dX0_drive_42 : decode cX0_drive 42 = .ok (.invokevirtual 61, 3) := by decide +kernel
theorem dX0_drive_45 : decode cX0_drive 45 = .ok (.putfield 93, 3) := by decide +kernel
theorem dX0_drive_48 : decode cX0_drive 48 = .ok (.iinc 2 1, 3) := by decide +kernel
theorem dX0_drive_51 : decode cX0_drive 51 = .ok (.aload_n 0, 1) := by decide +kernel
theorem dX0_drive_52 : decode cX0_drive 52 = .ok (.aload_n 0, 1) := by decide +kernel
theorem dX0_drive_53 : decode cX0_drive 53 = .ok (.getfield 93, 3) := by decide +kernel
theorem dX0_drive_56 : decode cX0_drive 56 = .ok (.invokevirtual 102, 3) := by decide +kernel
theorem dX0_drive_59 : decode cX0_drive 59 = .ok (.istore_n 3, 1) := by decide +kernel
theorem dX0_drive_60 : decode cX0_drive 60 = .ok (.iinc 4 1, 3) := by decide +kernel
theorem dX0_drive_63 : decode cX0_drive 63 = .ok (.goto (-45), 3) := by decide +kernel
theorem dX0_drive_66 : decode cX0_drive 66 = .ok (.iload_n 2, 1) := by decide +kernel
theorem dX0_drive_67 : decode cX0_drive 67 = .ok (.ireturn, 1) := by decide +kernel
theorem dX0_where_0 : decode cX0_where 0 = .ok (.aload_n 0, 1) := by decide +kernel
theorem dX0_where_1 : decode cX0_where 1 = .ok (.getfield 93, 3) := by decide +kernel
theorem dX0_where_4 : decode cX0_where 4 = .ok (.ireturn, 1) := by decide +kernel
theorem dX0_moves_0 : decode cX0_moves 0 = .ok (.aload_n 0, 1) := by decide +kernel
theorem dX0_moves_1 : decode cX0_moves 1 = .ok (.invokevirtual 96, 3) := by decide +kernel
theorem dX0_moves_4 : decode cX0_moves 4 = .ok (.aload_n 0, 1) := by decide +kernel
theorem dX0_moves_5 : decode cX0_moves 5 = .ok (.getfield 26, 3) := by decide +kernel
theorem dX0_moves_8 : decode cX0_moves 8 = .ok (.aload_n 0, 1) := by decide +kernel
theorem dX0_moves_9 : decode cX0_moves 9 = .ok (.getfield 93, 3) := by decide +kernel
theorem dX0_moves_12 : decode cX0_moves 12 = .ok (.iaload, 1) := by decide +kernel
theorem dX0_moves_13 : decode cX0_moves 13 = .ok (.ldc 42, 2) := by decide +kernel
theorem dX0_moves_15 : decode cX0_moves 15 = .ok (.if_icmp .lt 6, 3) := by decide +kernel
theorem dX0_moves_18 : decode cX0_moves 18 = .ok (.bipush (-4), 2) := by decide +kernel
theorem dX0_moves_20 : decode cX0_moves 20 = .ok (.ireturn, 1) := by decide +kernel
theorem dX0_moves_21 : decode cX0_moves 21 = .ok (.aload_n 0, 1) := by decide +kernel
theorem dX0_moves_22 : decode cX0_moves 22 = .ok (.getfield 93, 3) := by decide +kernel
theorem dX0_moves_25 : decode cX0_moves 25 = .ok (.istore_n 1, 1) := by decide +kernel
theorem dX0_moves_26 : decode cX0_moves 26 = .ok (.iconst 0, 1) := by decide +kernel
theorem dX0_moves_27 : decode cX0_moves 27 = .ok (.istore_n 2, 1) := by decide +kernel
theorem dX0_moves_28 : decode cX0_moves 28 = .ok (.aload_n 0, 1) := by decide +kernel
theorem dX0_moves_29 : decode cX0_moves 29 = .ok (.iload_n 1, 1) := by decide +kernel
theorem dX0_moves_30 : decode cX0_moves 30 = .ok (.invokevirtual 102, 3) := by decide +kernel
theorem dX0_moves_33 : decode cX0_moves 33 = .ok (.istore_n 3, 1) := by decide +kernel
theorem dX0_moves_34 : decode cX0_moves 34 = .ok (.iconst 0, 1) := by decide +kernel
theorem dX0_moves_35 : decode cX0_moves 35 = .ok (.istore 4, 2) := by decide +kernel
theorem dX0_moves_37 : decode cX0_moves 37 = .ok (.iload 4, 2) := by decide +kernel
theorem dX0_moves_39 : decode cX0_moves 39 = .ok (.bipush 81, 2) := by decide +kernel
theorem dX0_moves_41 : decode cX0_moves 41 = .ok (.if_icmp .ge 29, 3) := by decide +kernel
theorem dX0_moves_44 : decode cX0_moves 44 = .ok (.iload_n 3, 1) := by decide +kernel
theorem dX0_moves_45 : decode cX0_moves 45 = .ok (.ifCond .lt 25, 3) := by decide +kernel
theorem dX0_moves_48 : decode cX0_moves 48 = .ok (.aload_n 0, 1) := by decide +kernel
theorem dX0_moves_49 : decode cX0_moves 49 = .ok (.iload_n 1, 1) := by decide +kernel
theorem dX0_moves_50 : decode cX0_moves 50 = .ok (.iload_n 3, 1) := by decide +kernel
theorem dX0_moves_51 : decode cX0_moves 51 = .ok (.invokevirtual 61, 3) := by decide +kernel
theorem dX0_moves_54 : decode cX0_moves 54 = .ok (.istore_n 1, 1) := by decide +kernel
theorem dX0_moves_55 : decode cX0_moves 55 = .ok (.iinc 2 1, 3) := by decide +kernel
theorem dX0_moves_58 : decode cX0_moves 58 = .ok (.aload_n 0, 1) := by decide +kernel
theorem dX0_moves_59 : decode cX0_moves 59 = .ok (.iload_n 1, 1) := by decide +kernel
theorem dX0_moves_60 : decode cX0_moves 60 = .ok (.invokevirtual 102, 3) := by decide +kernel
theorem dX0_moves_63 : decode cX0_moves 63 = .ok (.istore_n 3, 1) := by decide +kernel
theorem dX0_moves_64 : decode cX0_moves 64 = .ok (.iinc 4 1, 3) := by decide +kernel
theorem dX0_moves_67 : decode cX0_moves 67 = .ok (.goto (-30), 3) := by decide +kernel
theorem dX0_moves_70 : decode cX0_moves 70 = .ok (.iload_n 2, 1) := by decide +kernel
theorem dX0_moves_71 : decode cX0_moves 71 = .ok (.ireturn, 1) := by decide +kernel
theorem dX0_reached_0 : decode cX0_reached 0 = .ok (.aload_n 0, 1) := by decide +kernel
theorem dX0_reached_1 : decode cX0_reached 1 = .ok (.invokevirtual 96, 3) := by decide +kernel
theorem dX0_reached_4 : decode cX0_reached 4 = .ok (.iconst 0, 1) := by decide +kernel
theorem dX0_reached_5 : decode cX0_reached 5 = .ok (.istore_n 1, 1) := by decide +kernel
theorem dX0_reached_6 : decode cX0_reached 6 = .ok (.iconst 0, 1) := by decide +kernel
theorem dX0_reached_7 : decode cX0_reached 7 = .ok (.istore_n 2, 1) := by decide +kernel
theorem dX0_reached_8 : decode cX0_reached 8 = .ok (.iload_n 2, 1) := by decide +kernel
theorem dX0_reached_9 : decode cX0_reached 9 = .ok (.bipush 81, 2) := by decide +kernel
theorem dX0_reached_11 : decode cX0_reached 11 = .ok (.if_icmp .ge 23, 3) := by decide +kernel
theorem dX0_reached_14 : decode cX0_reached 14 = .ok (.aload_n 0, 1) := by decide +kernel
theorem dX0_reached_15 : decode cX0_reached 15 = .ok (.getfield 26, 3) := by decide +kernel
theorem dX0_reached_18 : decode cX0_reached 18 = .ok (.iload_n 2, 1) := by decide +kernel
theorem dX0_reached_19 : decode cX0_reached 19 = .ok (.iaload, 1) := by decide +kernel
theorem dX0_reached_20 : decode cX0_reached 20 = .ok (.ldc 42, 2) := by decide +kernel
theorem dX0_reached_22 : decode cX0_reached 22 = .ok (.if_icmp .ge 6, 3) := by decide +kernel
theorem dX0_reached_25 : decode cX0_reached 25 = .ok (.iinc 1 1, 3) := by decide +kernel
theorem dX0_reached_28 : decode cX0_reached 28 = .ok (.iinc 2 1, 3) := by decide +kernel
theorem dX0_reached_31 : decode cX0_reached 31 = .ok (.goto (-23), 3) := by decide +kernel
theorem dX0_reached_34 : decode cX0_reached 34 = .ok (.iload_n 1, 1) := by decide +kernel
theorem dX0_reached_35 : decode cX0_reached 35 = .ok (.ireturn, 1) := by decide +kernel
theorem dX0_farthest_0 : decode cX0_farthest 0 = .ok (.aload_n 0, 1) := by decide +kernel
theorem dX0_farthest_1 : decode cX0_farthest 1 = .ok (.invokevirtual 96, 3) := by decide +kernel
theorem dX0_farthest_4 : decode cX0_farthest 4 = .ok (.bipush (-4), 2) := by decide +kernel
theorem dX0_farthest_6 : decode cX0_farthest 6 = .ok (.istore_n 1, 1) := by decide +kernel
theorem dX0_farthest_7 : decode cX0_farthest 7 = .ok (.iconst 0, 1) := by decide +kernel
theorem dX0_farthest_8 : decode cX0_farthest 8 = .ok (.istore_n 2, 1) := by decide +kernel
theorem dX0_farthest_9 : decode cX0_farthest 9 = .ok (.iload_n 2, 1) := by decide +kernel
theorem dX0_farthest_10 : decode cX0_farthest 10 = .ok (.bipush 81, 2) := by decide +kernel
theorem dX0_farthest_12 : decode cX0_farthest 12 = .ok (.if_icmp .ge 37, 3) := by decide +kernel
theorem dX0_farthest_15 : decode cX0_farthest 15 = .ok (.aload_n 0, 1) := by decide +kernel
theorem dX0_farthest_16 : decode cX0_farthest 16 = .ok (.getfield 26, 3) := by decide +kernel
theorem dX0_farthest_19 : decode cX0_farthest 19 = .ok (.iload_n 2, 1) := by decide +kernel
theorem dX0_farthest_20 : decode cX0_farthest 20 = .ok (.iaload, 1) := by decide +kernel
theorem dX0_farthest_21 : decode cX0_farthest 21 = .ok (.ldc 42, 2) := by decide +kernel
theorem dX0_farthest_23 : decode cX0_farthest 23 = .ok (.if_icmp .ge 20, 3) := by decide +kernel
theorem dX0_farthest_26 : decode cX0_farthest 26 = .ok (.aload_n 0, 1) := by decide +kernel
theorem dX0_farthest_27 : decode cX0_farthest 27 = .ok (.getfield 26, 3) := by decide +kernel
theorem dX0_farthest_30 : decode cX0_farthest 30 = .ok (.iload_n 2, 1) := by decide +kernel
theorem dX0_farthest_31 : decode cX0_farthest 31 = .ok (.iaload, 1) := by decide +kernel
theorem dX0_farthest_32 : decode cX0_farthest 32 = .ok (.iload_n 1, 1) := by decide +kernel
theorem dX0_farthest_33 : decode cX0_farthest 33 = .ok (.if_icmp .le 10, 3) := by decide +kernel
theorem dX0_farthest_36 : decode cX0_farthest 36 = .ok (.aload_n 0, 1) := by decide +kernel
theorem dX0_farthest_37 : decode cX0_farthest 37 = .ok (.getfield 26, 3) := by decide +kernel
theorem dX0_farthest_40 : decode cX0_farthest 40 = .ok (.iload_n 2, 1) := by decide +kernel
theorem dX0_farthest_41 : decode cX0_farthest 41 = .ok (.iaload, 1) := by decide +kernel
theorem dX0_farthest_42 : decode cX0_farthest 42 = .ok (.istore_n 1, 1) := by decide +kernel
theorem dX0_farthest_43 : decode cX0_farthest 43 = .ok (.iinc 2 1, 3) := by decide +kernel
theorem dX0_farthest_46 : decode cX0_farthest 46 = .ok (.goto (-37), 3) := by decide +kernel
theorem dX0_farthest_49 : decode cX0_farthest 49 = .ok (.iload_n 1, 1) := by decide +kernel
theorem dX0_farthest_50 : decode cX0_farthest 50 = .ok (.ireturn, 1) := by decide +kernel
end
section
set_option maxRecDepth 100000
theorem dX1_init_0 : decode cX1_init 0 = .ok (.aload_n 0, 1) := by decide +kernel
theorem dX1_init_1 : decode cX1_init 1 = .ok (.invokespecial 1, 3) := by decide +kernel
theorem dX1_init_4 : decode cX1_init 4 = .ok (.aload_n 0, 1) := by decide +kernel
theorem dX1_init_5 : decode cX1_init 5 = .ok (.bipush 81, 2) := by decide +kernel
theorem dX1_init_7 : decode cX1_init 7 = .ok (.newarray .boolean, 2) := by decide +kernel
theorem dX1_init_9 : decode cX1_init 9 = .ok (.putfield 7, 3) := by decide +kernel
theorem dX1_init_12 : decode cX1_init 12 = .ok (.aload_n 0, 1) := by decide +kernel
theorem dX1_init_13 : decode cX1_init 13 = .ok (.bipush 81, 2) := by decide +kernel
theorem dX1_init_15 : decode cX1_init 15 = .ok (.newarray .int, 2) := by decide +kernel
theorem dX1_init_17 : decode cX1_init 17 = .ok (.putfield 13, 3) := by decide +kernel
theorem dX1_init_20 : decode cX1_init 20 = .ok (.aload_n 0, 1) := by decide +kernel
theorem dX1_init_21 : decode cX1_init 21 = .ok (.bipush 81, 2) := by decide +kernel
theorem dX1_init_23 : decode cX1_init 23 = .ok (.newarray .int, 2) := by decide +kernel
theorem dX1_init_25 : decode cX1_init 25 = .ok (.putfield 17, 3) := by decide +kernel
theorem dX1_init_28 : decode cX1_init 28 = .ok (.aload_n 0, 1) := by decide +kernel
theorem dX1_init_29 : decode cX1_init 29 = .ok (.bipush 80, 2) := by decide +kernel
theorem dX1_init_31 : decode cX1_init 31 = .ok (.putfield 20, 3) := by decide +kernel
theorem dX1_init_34 : decode cX1_init 34 = .ok (.aload_n 0, 1) := by decide +kernel
theorem dX1_init_35 : decode cX1_init 35 = .ok (.iconst 1, 1) := by decide +kernel
theorem dX1_init_36 : decode cX1_init 36 = .ok (.putfield 24, 3) := by decide +kernel
theorem dX1_init_39 : decode cX1_init 39 = .ok (.aload_n 0, 1) := by decide +kernel
theorem dX1_init_40 : decode cX1_init 40 = .ok (.iconst 3, 1) := by decide +kernel
theorem dX1_init_41 : decode cX1_init 41 = .ok (.putfield 27, 3) := by decide +kernel
theorem dX1_init_44 : decode cX1_init 44 = .ok (.return_, 1) := by decide +kernel
theorem dX1_block_0 : decode cX1_block 0 = .ok (.aload_n 0, 1) := by decide +kernel
theorem dX1_block_1 : decode cX1_block 1 = .ok (.iload_n 1, 1) := by decide +kernel
theorem dX1_block_2 : decode cX1_block 2 = .ok (.invokevirtual 30, 3) := by decide +kernel
theorem dX1_block_5 : decode cX1_block 5 = .ok (.ifCond .ne 5, 3) := by decide +kernel
theorem dX1_block_8 : decode cX1_block 8 = .ok (.iconst (-1), 1) := by decide +kernel
theorem dX1_block_9 : decode cX1_block 9 = .ok (.ireturn, 1) := by decide +kernel
theorem dX1_block_10 : decode cX1_block 10 = .ok (.aload_n 0, 1) := by decide +kernel
theorem dX1_block_11 : decode cX1_block 11 = .ok (.getfield 7, 3) := by decide +kernel
theorem dX1_block_14 : decode cX1_block 14 = .ok (.iload_n 1, 1) := by decide +kernel
theorem dX1_block_15 : decode cX1_block 15 = .ok (.baload, 1) := by decide +kernel
theorem dX1_block_16 : decode cX1_block 16 = .ok (.ifCond .eq 7, 3) := by decide +kernel
theorem dX1_block_19 : decode cX1_block 19 = .ok (.iconst 1, 1) := by decide +kernel
theorem dX1_block_20 : decode cX1_block 20 = .ok (.goto 4, 3) := by decide +kernel
theorem dX1_block_23 : decode cX1_block 23 = .ok (.iconst 0, 1) := by decide +kernel
theorem dX1_block_24 : decode cX1_block 24 = .ok (.istore_n 3, 1) := by decide +kernel
theorem dX1_block_25 : decode cX1_block 25 = .ok (.aload_n 0, 1) := by decide +kernel
theorem dX1_block_26 : decode cX1_block 26 = .ok (.getfield 7, 3) := by decide +kernel
theorem dX1_block_29 : decode cX1_block 29 = .ok (.iload_n 1, 1) := by decide +kernel
theorem dX1_block_30 : decode cX1_block 30 = .ok (.iload_n 2, 1) := by decide +kernel
theorem dX1_block_31 : decode cX1_block 31 = .ok (.ifCond .eq 7, 3) := by decide +kernel
theorem dX1_block_34 : decode cX1_block 34 = .ok (.iconst 1, 1) := by decide +kernel
theorem dX1_block_35 : decode cX1_block 35 = .ok (.goto 4, 3) := by decide +kernel
theorem dX1_block_38 : decode cX1_block 38 = .ok (.iconst 0, 1) := by decide +kernel
theorem dX1_block_39 : decode cX1_block 39 = .ok (.bastore, 1) := by decide +kernel
theorem dX1_block_40 : decode cX1_block 40 = .ok (.iload_n 3, 1) := by decide +kernel
theorem dX1_block_41 : decode cX1_block 41 = .ok (.ireturn, 1) := by decide +kernel
theorem dX1_isCell_0 : decode cX1_isCell 0 = .ok (.iload_n 1, 1) := by decide +kernel
theorem dX1_isCell_1 : decode cX1_isCell 1 = .ok (.ifCond .lt 13, 3) := by decide +kernel
theorem dX1_isCell_4 : decode cX1_isCell 4 = .ok (.iload_n 1, 1) := by decide +kernel
theorem dX1_isCell_5 : decode cX1_isCell 5 = .ok (.bipush 80, 2) := by decide +kernel
theorem dX1_isCell_7 : decode cX1_isCell 7 = .ok (.if_icmp .gt 7, 3) := by decide +kernel
theorem dX1_isCell_10 : decode cX1_isCell 10 = .ok (.iconst 1, 1) := by decide +kernel
theorem dX1_isCell_11 : decode cX1_isCell 11 = .ok (.goto 4, 3) := by decide +kernel
theorem dX1_isCell_14 : decode cX1_isCell 14 = .ok (.iconst 0, 1) := by decide +kernel
theorem dX1_isCell_15 : decode cX1_isCell 15 = .ok (.ireturn, 1) := by decide +kernel
theorem dX1_wall_0 : decode cX1_wall 0 = .ok (.aload_n 0, 1) := by decide +kernel
theorem dX1_wall_1 : decode cX1_wall 1 = .ok (.iload_n 1, 1) := by decide +kernel
theorem dX1_wall_2 : decode cX1_wall 2 = .ok (.invokevirtual 30, 3) := by decide +kernel
theorem dX1_wall_5 : decode cX1_wall 5 = .ok (.ifCond .eq 15, 3) := by decide +kernel
theorem dX1_wall_8 : decode cX1_wall 8 = .ok (.iload_n 3, 1) := by decide +kernel
theorem dX1_wall_9 : decode cX1_wall 9 = .ok (.bipush (-9), 2) := by decide +kernel
theorem dX1_wall_11 : decode cX1_wall 11 = .ok (.if_icmp .lt 9, 3) := by decide +kernel
theorem dX1_wall_14 : decode cX1_wall 14 = .ok (.iload_n 3, 1) := by decide +kernel
theorem dX1_wall_15 : decode cX1_wall 15 = .ok (.bipush 9, 2) := by decide +kernel
theorem dX1_wall_17 : decode cX1_wall 17 = .ok (.if_icmp .le 5, 3) := by decide +kernel
theorem dX1_wall_20 : decode cX1_wall 20 = .ok (.iconst (-1), 1) := by decide +kernel
theorem dX1_wall_21 : decode cX1_wall 21 = .ok (.ireturn, 1) := by decide +kernel
theorem dX1_wall_22 : decode cX1_wall 22 = .ok (.iload_n 3, 1) := by decide +kernel
theorem dX1_wall_23 : decode cX1_wall 23 = .ok (.ifCond .ge 8, 3) := by decide +kernel
theorem dX1_wall_26 : decode cX1_wall 26 = .ok (.iload_n 3, 1) := by decide +kernel
theorem dX1_wall_27 : decode cX1_wall 27 = .ok (.ineg, 1) := by decide +kernel
theorem dX1_wall_28 : decode cX1_wall 28 = .ok (.goto 4, 3) := by decide +kernel
theorem dX1_wall_31 : decode cX1_wall 31 = .ok (.iload_n 3, 1) := by decide +kernel
theorem dX1_wall_32 : decode cX1_wall 32 = .ok (.istore 4, 2) := by decide +kernel
theorem dX1_wall_34 : decode cX1_wall 34 = .ok (.iconst 0, 1) := by decide +kernel
theorem dX1_wall_35 : decode cX1_wall 35 = .ok (.istore 5, 2) := by decide +kernel
theorem dX1_wall_37 : decode cX1_wall 37 = .ok (.iconst 0, 1) := by decide +kernel
theorem dX1_wall_38 : decode cX1_wall 38 = .ok (.istore 6, 2) := by decide +kernel
theorem dX1_wall_40 : decode cX1_wall 40 = .ok (.iload 6, 2) := by decide +kernel
theorem dX1_wall_42 : decode cX1_wall 42 = .ok (.iload 4, 2) := by decide +kernel
theorem dX1_wall_44 : decode cX1_wall 44 = .ok (.if_icmp .ge 115, 3) := by decide +kernel
theorem dX1_wall_47 : decode cX1_wall 47 = .ok (.iload_n 2, 1) := by decide +kernel
theorem dX1_wall_48 : decode cX1_wall 48 = .ok (.ifCond .eq 23, 3) := by decide +kernel
theorem dX1_wall_51 : decode cX1_wall 51 = .ok (.iload_n 1, 1) := by decide +kernel
theorem dX1_wall_52 : decode cX1_wall 52 = .ok (.bipush 9, 2) := by decide +kernel
theorem dX1_wall_54 : decode cX1_wall 54 = .ok (.idiv, 1) := by decide +kernel
theorem dX1_wall_55 : decode cX1_wall 55 = .ok (.iload 6, 2) := by decide +kernel
theorem dX1_wall_57 : decode cX1_wall 57 = .ok (.iadd, 1) := by decide +kernel
theorem dX1_wall_58 : decode cX1_wall 58 = .ok (.bipush 9, 2) := by decide +kernel
theorem dX1_wall_60 : decode cX1_wall 60 = .ok (.if_icmp .ge 7, 3) := by decide +kernel
theorem dX1_wall_63 : decode cX1_wall 63 = .ok (.iconst 1, 1) := by decide +kernel
theorem dX1_wall_64 : decode cX1_wall 64 = .ok (.goto 24, 3) := by decide +kernel
theorem dX1_wall_67 : decode cX1_wall 67 = .ok (.iconst 0, 1) := by decide +kernel
theorem dX1_wall_68 : decode cX1_wall 68 = .ok (.goto 20, 3) := by decide +kernel
theorem dX1_wall_71 : decode cX1_wall 71 = .ok (.iload_n 1, 1) := by decide +kernel
theorem dX1_wall_72 : decode cX1_wall 72 = .ok (.bipush 9, 2) := by decide +kernel
theorem dX1_wall_74 : decode cX1_wall 74 = .ok (.irem, 1) := by decide +kernel
theorem dX1_wall_75 : decode cX1_wall 75 = .ok (.iload 6, 2) := by decide +kernel
theorem dX1_wall_77 : decode cX1_wall 77 = .ok (.iadd, 1) := by decide +kernel
theorem dX1_wall_78 : decode cX1_wall 78 = .ok (.bipush 9, 2) := by decide +kernel
theorem dX1_wall_80 : decode cX1_wall 80 = .ok (.if_icmp .ge 7, 3) := by decide +kernel
theorem dX1_wall_83 : decode cX1_wall 83 = .ok (.iconst 1, 1) := by decide +kernel
theorem dX1_wall_84 : decode cX1_wall 84 = .ok (.goto 4, 3) := by decide +kernel
theorem dX1_wall_87 : decode cX1_wall 87 = .ok (.iconst 0, 1) := by decide +kernel
theorem dX1_wall_88 : decode cX1_wall 88 = .ok (.istore 7, 2) := by decide +kernel
theorem dX1_wall_90 : decode cX1_wall 90 = .ok (.iload_n 2, 1) := by decide +kernel
theorem dX1_wall_91 : decode cX1_wall 91 = .ok (.ifCond .eq 13, 3) := by decide +kernel
theorem dX1_wall_94 : decode cX1_wall 94 = .ok (.iload_n 1, 1) := by decide +kernel
theorem dX1_wall_95 : decode cX1_wall 95 = .ok (.bipush 9, 2) := by decide +kernel
theorem dX1_wall_97 : decode cX1_wall 97 = .ok (.iload 6, 2) := by decide +kernel
theorem dX1_wall_99 : decode cX1_wall 99 = .ok (.imul, 1) := by decide +kernel
theorem dX1_wall_100 : decode cX1_wall 100 = .ok (.iadd, 1) := by decide +kernel
theorem dX1_wall_101 : decode cX1_wall 101 = .ok (.goto 7, 3) := by decide +kernel
theorem dX1_wall_104 : decode cX1_wall 104 = .ok (.iload_n 1, 1) := by decide +kernel
theorem dX1_wall_105 : decode cX1_wall 105 = .ok (.iload 6, 2) := by decide +kernel
theorem dX1_wall_107 : decode cX1_wall 107 = .ok (.iadd, 1) := by decide +kernel
theorem dX1_wall_108 : decode cX1_wall 108 = .ok (.istore 8, 2) := by decide +kernel
theorem dX1_wall_110 : decode cX1_wall 110 = .ok (.iload 7, 2) := by decide +kernel
theorem dX1_wall_112 : decode cX1_wall 112 = .ok (.ifCond .eq 41, 3) := by decide +kernel
theorem dX1_wall_115 : decode cX1_wall 115 = .ok (.aload_n 0, 1) := by decide +kernel
theorem dX1_wall_116 : decode cX1_wall 116 = .ok (.getfield 7, 3) := by decide +kernel
theorem dX1_wall_119 : decode cX1_wall 119 = .ok (.iload 8, 2) := by decide +kernel
theorem dX1_wall_121 : decode cX1_wall 121 = .ok (.baload, 1) := by decide +kernel
theorem dX1_wall_122 : decode cX1_wall 122 = .ok (.iload_n 3, 1) := by decide +kernel
theorem dX1_wall_123 : decode cX1_wall 123 = .ok (.ifCond .le 7, 3) := by decide +kernel
theorem dX1_wall_126 : decode cX1_wall 126 = .ok (.iconst 1, 1) := by decide +kernel
theorem dX1_wall_127 : decode cX1_wall 127 = .ok (.goto 4, 3) := by decide +kernel
theorem dX1_wall_130 : decode cX1_wall 130 = .ok (.iconst 0, 1) := by decide +kernel
theorem dX1_wall_131 : decode cX1_wall 131 = .ok (.if_icmp .eq 22, 3) := by decide +kernel
theorem dX1_wall_134 : decode cX1_wall 134 = .ok (.aload_n 0, 1) := by decide +kernel
theorem dX1_wall_135 : decode cX1_wall 135 = .ok (.getfield 7, 3) := by decide +kernel
theorem dX1_wall_138 : decode cX1_wall 138 = .ok (.iload 8, 2) := by decide +kernel
theorem dX1_wall_140 : decode cX1_wall 140 = .ok (.iload_n 3, 1) := by decide +kernel
theorem dX1_wall_141 : decode cX1_wall 141 = .ok (.ifCond .le 7, 3) := by decide +kernel
theorem dX1_wall_144 : decode cX1_wall 144 = .ok (.iconst 1, 1) := by decide +kernel
theorem dX1_wall_145 : decode cX1_wall 145 = .ok (.goto 4, 3) := by decide +kernel
theorem dX1_wall_148 : decode cX1_wall 148 = .ok (.iconst 0, 1) := by decide +kernel
theorem dX1_wall_149 : decode cX1_wall 149 = .ok (.bastore, 1) := by decide +kernel
theorem dX1_wall_150 : decode cX1_wall 150 = .ok (.iinc 5 1, 3) := by decide +kernel
theorem dX1_wall_153 : decode cX1_wall 153 = .ok (.iinc 6 1, 3) := by decide +kernel
theorem dX1_wall_156 : decode cX1_wall 156 = .ok (.goto (-116), 3) := by decide +kernel
theorem dX1_wall_159 : decode cX1_wall 159 = .ok (.iload 5, 2) := by decide +kernel
theorem dX1_wall_161 : decode cX1_wall 161 = .ok (.ireturn, 1) := by decide +kernel
theorem dX1_tune_0 : decode cX1_tune 0 = .ok (.iload_n 1, 1) := by decide +kernel
theorem dX1_tune_1 : decode cX1_tune 1 = .ok (.ifCond .lt 18, 3) := by decide +kernel
theorem dX1_tune_4 : decode cX1_tune 4 = .ok (.iload_n 1, 1) := by decide +kernel
theorem dX1_tune_5 : decode cX1_tune 5 = .ok (.iconst 3, 1) := by decide +kernel
theorem dX1_tune_6 : decode cX1_tune 6 = .ok (.if_icmp .gt 13, 3) := by decide +kernel
theorem dX1_tune_9 : decode cX1_tune 9 = .ok (.iload_n 2, 1) := by decide +kernel
theorem dX1_tune_10 : decode cX1_tune 10 = .ok (.ifCond .lt 9, 3) := by decide +kernel
theorem dX1_tune_13 : decode cX1_tune 13 = .ok (.iload_n 2, 1) := by decide +kernel
theorem dX1_tune_14 : decode cX1_tune 14 = .ok (.bipush 9, 2) := by decide +kernel
theorem dX1_tune_16 : decode cX1_tune 16 = .ok (.if_icmp .le 5, 3) := by decide +kernel
theorem dX1_tune_19 : decode cX1_tune 19 = .ok (.iconst (-1), 1) := by decide +kernel
theorem dX1_tune_20 : decode cX1_tune 20 = .ok (.ireturn, 1) := by decide +kernel
theorem dX1_tune_21 : decode cX1_tune 21 = .ok (.aload_n 0, 1) := by decide +kernel
theorem dX1_tune_22 : decode cX1_tune 22 = .ok (.iload_n 1, 1) := by decide +kernel
theorem dX1_tune_23 : decode cX1_tune 23 = .ok (.putfield 24, 3) := by decide +kernel
theorem dX1_tune_26 : decode cX1_tune 26 = .ok (.aload_n 0, 1) := by decide +kernel
theorem dX1_tune_27 : decode cX1_tune 27 = .ok (.iload_n 2, 1) := by decide +kernel
theorem dX1_tune_28 : decode cX1_tune 28 = .ok (.putfield 27, 3) := by decide +kernel
theorem dX1_tune_31 : decode cX1_tune 31 = .ok (.iconst 0, 1) := by decide +kernel
theorem dX1_tune_32 : decode cX1_tune 32 = .ok (.ireturn, 1) := by decide +kernel
theorem dX1_place_0 : decode cX1_place 0 = .ok (.aload_n 0, 1) := by decide +kernel
theorem dX1_place_1 : decode cX1_place 1 = .ok (.iload_n 1, 1) := by decide +kernel
theorem dX1_place_2 : decode cX1_place 2 = .ok (.invokevirtual 30, 3) := by decide +kernel
theorem dX1_place_5 : decode cX1_place 5 = .ok (.ifCond .ne 5, 3) := by decide +kernel
theorem dX1_place_8 : decode cX1_place 8 = .ok (.iconst (-1), 1) := by decide +kernel
theorem dX1_place_9 : decode cX1_place 9 = .ok (.ireturn, 1) := by decide +kernel
theorem dX1_place_10 : decode cX1_place 10 = .ok (.aload_n 0, 1) := by decide +kernel
theorem dX1_place_11 : decode cX1_place 11 = .ok (.getfield 34, 3) := by decide +kernel
theorem dX1_place_14 : decode cX1_place 14 = .ok (.istore_n 2, 1) := by decide +kernel
theorem dX1_place_15 : decode cX1_place 15 = .ok (.aload_n 0, 1) := by decide +kernel
theorem dX1_place_16 : decode cX1_place 16 = .ok (.iload_n 1, 1) := by decide +kernel
theorem dX1_place_17 : decode cX1_place 17 = .ok (.putfield 34, 3) := by decide +kernel
theorem dX1_place_20 : decode cX1_place 20 = .ok (.iload_n 2, 1) := by decide +kernel
theorem dX1_place_21 : decode cX1_place 21 = .ok (.ireturn, 1) := by decide +kernel
theorem dX1_goal_0 : decode cX1_goal 0 = .ok (.aload_n 0, 1) := by decide +kernel
theorem dX1_goal_1 : decode cX1_goal 1 = .ok (.iload_n 1, 1) := by decide +kernel
theorem dX1_goal_2 : decode cX1_goal 2 = .ok (.invokevirtual 30, 3) := by decide +kernel
theorem dX1_goal_5 : decode cX1_goal 5 = .ok (.ifCond .ne 5, 3) := by decide +kernel
theorem dX1_goal_8 : decode cX1_goal 8 = .ok (.iconst (-1), 1) := by decide +kernel
theorem dX1_goal_9 : decode cX1_goal 9 = .ok (.ireturn, 1) := by decide +kernel
theorem dX1_goal_10 : decode cX1_goal 10 = .ok (.aload_n 0, 1) := by decide +kernel
theorem dX1_goal_11 : decode cX1_goal 11 = .ok (.getfield 20, 3) := by decide +kernel
theorem dX1_goal_14 : decode cX1_goal 14 = .ok (.istore_n 2, 1) := by decide +kernel
theorem dX1_goal_15 : decode cX1_goal 15 = .ok (.aload_n 0, 1) := by decide +kernel
theorem dX1_goal_16 : decode cX1_goal 16 = .ok (.iload_n 1, 1) := by decide +kernel
theorem dX1_goal_17 : decode cX1_goal 17 = .ok (.putfield 20, 3) := by decide +kernel
theorem dX1_goal_20 : decode cX1_goal 20 = .ok (.iload_n 2, 1) := by decide +kernel
theorem dX1_goal_21 : decode cX1_goal 21 = .ok (.ireturn, 1) := by decide +kernel
theorem dX1_blocked_0 : decode cX1_blocked 0 = .ok (.aload_n 0, 1) := by decide +kernel
theorem dX1_blocked_1 : decode cX1_blocked 1 = .ok (.iload_n 1, 1) := by decide +kernel
theorem dX1_blocked_2 : decode cX1_blocked 2 = .ok (.invokevirtual 30, 3) := by decide +kernel
theorem dX1_blocked_5 : decode cX1_blocked 5 = .ok (.ifCond .eq 16, 3) := by decide +kernel
theorem dX1_blocked_8 : decode cX1_blocked 8 = .ok (.aload_n 0, 1) := by decide +kernel
theorem dX1_blocked_9 : decode cX1_blocked 9 = .ok (.getfield 7, 3) := by decide +kernel
theorem dX1_blocked_12 : decode cX1_blocked 12 = .ok (.iload_n 1, 1) := by decide +kernel
theorem dX1_blocked_13 : decode cX1_blocked 13 = .ok (.baload, 1) := by decide +kernel
theorem dX1_blocked_14 : decode cX1_blocked 14 = .ok (.ifCond .eq 7, 3) := by decide +kernel
theorem dX1_blocked_17 : decode cX1_blocked 17 = .ok (.iconst 1, 1) := by decide +kernel
theorem dX1_blocked_18 : decode cX1_blocked 18 = .ok (.goto 4, 3) := by decide +kernel
theorem dX1_blocked_21 : decode cX1_blocked 21 = .ok (.iconst 0, 1) := by decide +kernel
theorem dX1_blocked_22 : decode cX1_blocked 22 = .ok (.ireturn, 1) := by decide +kernel
theorem dX1_clearance_0 : decode cX1_clearance 0 = .ok (.aload_n 0, 1) := by decide +kernel
theorem dX1_clearance_1 : decode cX1_clearance 1 = .ok (.iload_n 1, 1) := by decide +kernel
theorem dX1_clearance_2 : decode cX1_clearance 2 = .ok (.invokevirtual 30, 3) := by decide +kernel
theorem dX1_clearance_5 : decode cX1_clearance 5 = .ok (.ifCond .ne 5, 3) := by decide +kernel
theorem dX1_clearance_8 : decode cX1_clearance 8 = .ok (.iconst (-1), 1) := by decide +kernel
theorem dX1_clearance_9 : decode cX1_clearance 9 = .ok (.ireturn, 1) := by decide +kernel
theorem dX1_clearance_10 : decode cX1_clearance 10 = .ok (.bipush 9, 2) := by decide +kernel
theorem dX1_clearance_12 : decode cX1_clearance 12 = .ok (.istore_n 2, 1) := by decide +kernel
theorem dX1_clearance_13 : decode cX1_clearance 13 = .ok (.iconst 0, 1) := by decide +kernel
theorem dX1_clearance_14 : decode cX1_clearance 14 = .ok (.istore_n 3, 1) := by decide +kernel
theorem dX1_clearance_15 : decode cX1_clearance 15 = .ok (.iload_n 3, 1) := by decide +kernel
theorem dX1_clearance_16 : decode cX1_clearance 16 = .ok (.bipush 81, 2) := by decide +kernel
theorem dX1_clearance_18 : decode cX1_clearance 18 = .ok (.if_icmp .ge 115, 3) := by decide +kernel
theorem dX1_clearance_21 : decode cX1_clearance 21 = .ok (.aload_n 0, 1) := by decide +kernel
theorem dX1_clearance_22 : decode cX1_clearance 22 = .ok (.getfield 7, 3) := by decide +kernel
theorem dX1_clearance_25 : decode cX1_clearance 25 = .ok (.iload_n 3, 1) := by decide +kernel
theorem dX1_clearance_26 : decode cX1_clearance 26 = .ok (.baload, 1) := by decide +kernel
theorem dX1_clearance_27 : decode cX1_clearance 27 = .ok (.ifCond .eq 100, 3) := by decide +kernel
theorem dX1_clearance_30 : decode cX1_clearance 30 = .ok (.iload_n 1, 1) := by decide +kernel
theorem dX1_clearance_31 : decode cX1_clearance 31 = .ok (.bipush 9, 2) := by decide +kernel
theorem dX1_clearance_33 : decode cX1_clearance 33 = .ok (.irem, 1) := by decide +kernel
theorem dX1_clearance_34 : decode cX1_clearance 34 = .ok (.iload_n 3, 1) := by decide +kernel
theorem dX1_clearance_35 : decode cX1_clearance 35 = .ok (.bipush 9, 2) := by decide +kernel
theorem dX1_clearance_37 : decode cX1_clearance 37 = .ok (.irem, 1) := by decide +kernel
theorem dX1_clearance_38 : decode cX1_clearance 38 = .ok (.if_icmp .le 15, 3) := by decide +kernel
theorem dX1_clearance_41 : decode cX1_clearance 41 = .ok (.iload_n 1, 1) := by decide +kernel
theorem dX1_clearance_42 : decode cX1_clearance 42 = .ok (.bipush 9, 2) := by decide +kernel
theorem dX1_clearance_44 : decode cX1_clearance 44 = .ok (.irem, 1) := by decide +kernel
theorem dX1_clearance_45 : decode cX1_clearance 45 = .ok (.iload_n 3, 1) := by decide +kernel
theorem dX1_clearance_46 : decode cX1_clearance 46 = .ok (.bipush 9, 2) := by decide +kernel
theorem dX1_clearance_48 : decode cX1_clearance 48 = .ok (.irem, 1) := by decide +kernel
theorem dX1_clearance_49 : decode cX1_clearance 49 = .ok (.isub, 1) := by decide +kernel
theorem dX1_clearance_50 : decode cX1_clearance 50 = .ok (.goto 12, 3) := by decide +kernel
theorem dX1_clearance_53 : decode cX1_clearance 53 = .ok (.iload_n 3, 1) := by decide +kernel
theorem dX1_clearance_54 : decode cX1_clearance 54 = .ok (.bipush 9, 2) := by decide +kernel
theorem dX1_clearance_56 : decode cX1_clearance 56 = .ok (.irem, 1) := by decide +kernel
theorem dX1_clearance_57 : decode cX1_clearance 57 = .ok (.iload_n 1, 1) := by decide +kernel
theorem dX1_clearance_58 : decode cX1_clearance 58 = .ok (.bipush 9, 2) := by decide +kernel
theorem dX1_clearance_60 : decode cX1_clearance 60 = .ok (.irem, 1) := by decide +kernel
theorem dX1_clearance_61 : decode cX1_clearance 61 = .ok (.isub, 1) := by decide +kernel
theorem dX1_clearance_62 : decode cX1_clearance 62 = .ok (.istore 4, 2) := by decide +kernel
theorem dX1_clearance_64 : decode cX1_clearance 64 = .ok (.iload_n 1, 1) := by decide +kernel
theorem dX1_clearance_65 : decode cX1_clearance 65 = .ok (.bipush 9, 2) := by decide +kernel
theorem dX1_clearance_67 : decode cX1_clearance 67 = .ok (.idiv, 1) := by decide +kernel
theorem dX1_clearance_68 : decode cX1_clearance 68 = .ok (.iload_n 3, 1) := by decide +kernel
theorem dX1_clearance_69 : decode cX1_clearance 69 = .ok (.bipush 9, 2) := by decide +kernel
theorem dX1_clearance_71 : decode cX1_clearance 71 = .ok (.idiv, 1) := by decide +kernel
theorem dX1_clearance_72 : decode cX1_clearance 72 = .ok (.if_icmp .le 15, 3) := by decide +kernel
theorem dX1_clearance_75 : decode cX1_clearance 75 = .ok (.iload_n 1, 1) := by decide +kernel
theorem dX1_clearance_76 : decode cX1_clearance 76 = .ok (.bipush 9, 2) := by decide +kernel
theorem dX1_clearance_78 : decode cX1_clearance 78 = .ok (.idiv, 1) := by decide +kernel
theorem dX1_clearance_79 : decode cX1_clearance 79 = .ok (.iload_n 3, 1) := by decide +kernel
theorem dX1_clearance_80 : decode cX1_clearance 80 = .ok (.bipush 9, 2) := by decide +kernel
theorem dX1_clearance_82 : decode cX1_clearance 82 = .ok (.idiv, 1) := by decide +kernel
theorem dX1_clearance_83 : decode cX1_clearance 83 = .ok (.isub, 1) := by decide +kernel
theorem dX1_clearance_84 : decode cX1_clearance 84 = .ok (.goto 12, 3) := by decide +kernel
theorem dX1_clearance_87 : decode cX1_clearance 87 = .ok (.iload_n 3, 1) := by decide +kernel
theorem dX1_clearance_88 : decode cX1_clearance 88 = .ok (.bipush 9, 2) := by decide +kernel
theorem dX1_clearance_90 : decode cX1_clearance 90 = .ok (.idiv, 1) := by decide +kernel
theorem dX1_clearance_91 : decode cX1_clearance 91 = .ok (.iload_n 1, 1) := by decide +kernel
theorem dX1_clearance_92 : decode cX1_clearance 92 = .ok (.bipush 9, 2) := by decide +kernel
theorem dX1_clearance_94 : decode cX1_clearance 94 = .ok (.idiv, 1) := by decide +kernel
theorem dX1_clearance_95 : decode cX1_clearance 95 = .ok (.isub, 1) := by decide +kernel
theorem dX1_clearance_96 : decode cX1_clearance 96 = .ok (.istore 5, 2) := by decide +kernel
theorem dX1_clearance_98 : decode cX1_clearance 98 = .ok (.iload 4, 2) := by decide +kernel
theorem dX1_clearance_100 : decode cX1_clearance 100 = .ok (.iload 5, 2) := by decide +kernel
theorem dX1_clearance_102 : decode cX1_clearance 102 = .ok (.if_icmp .le 8, 3) := by decide +kernel
theorem dX1_clearance_105 : decode cX1_clearance 105 = .ok (.iload 4, 2) := by decide +kernel
theorem dX1_clearance_107 : decode cX1_clearance 107 = .ok (.goto 5, 3) := by decide +kernel
theorem dX1_clearance_110 : decode cX1_clearance 110 = .ok (.iload 5, 2) := by decide +kernel
theorem dX1_clearance_112 : decode cX1_clearance 112 = .ok (.istore 6, 2) := by decide +kernel
theorem dX1_clearance_114 : decode cX1_clearance 114 = .ok (.iload 6, 2) := by decide +kernel
theorem dX1_clearance_116 : decode cX1_clearance 116 = .ok (.iload_n 2, 1) := by decide +kernel
theorem dX1_clearance_117 : decode cX1_clearance 117 = .ok (.if_icmp .ge 8, 3) := by decide +kernel
theorem dX1_clearance_120 : decode cX1_clearance 120 = .ok (.iload 6, 2) := by decide +kernel
theorem dX1_clearance_122 : decode cX1_clearance 122 = .ok (.goto 4, 3) := by decide +kernel
theorem dX1_clearance_125 : decode cX1_clearance 125 = .ok (.iload_n 2, 1) := by decide +kernel
theorem dX1_clearance_126 : decode cX1_clearance 126 = .ok (.istore_n 2, 1) := by decide +kernel
theorem dX1_clearance_127 : decode cX1_clearance 127 = .ok (.iinc 3 1, 3) := by decide +kernel
theorem dX1_clearance_130 : decode cX1_clearance 130 = .ok (.goto (-115), 3) := by decide +kernel
theorem dX1_clearance_133 : decode cX1_clearance 133 = .ok (.iload_n 2, 1) := by decide +kernel
theorem dX1_clearance_134 : decode cX1_clearance 134 = .ok (.ireturn, 1) := by decide +kernel
theorem dX1_cost_0 : decode cX1_cost 0 = .ok (.aload_n 0, 1) := by decide +kernel
theorem dX1_cost_1 : decode cX1_cost 1 = .ok (.iload_n 1, 1) := by decide +kernel
theorem dX1_cost_2 : decode cX1_cost 2 = .ok (.invokevirtual 30, 3) := by decide +kernel
theorem dX1_cost_5 : decode cX1_cost 5 = .ok (.ifCond .ne 5, 3) := by decide +kernel
theorem dX1_cost_8 : decode cX1_cost 8 = .ok (.iconst (-1), 1) := by decide +kernel
theorem dX1_cost_9 : decode cX1_cost 9 = .ok (.ireturn, 1) := by decide +kernel
theorem dX1_cost_10 : decode cX1_cost 10 = .ok (.aload_n 0, 1) := by decide +kernel
theorem dX1_cost_11 : decode cX1_cost 11 = .ok (.getfield 7, 3) := by decide +kernel
theorem dX1_cost_14 : decode cX1_cost 14 = .ok (.iload_n 1, 1) := by decide +kernel
theorem dX1_cost_15 : decode cX1_cost 15 = .ok (.baload, 1) := by decide +kernel
theorem dX1_cost_16 : decode cX1_cost 16 = .ok (.ifCond .eq 6, 3) := by decide +kernel
theorem dX1_cost_19 : decode cX1_cost 19 = .ok (.bipush (-4), 2) := by decide +kernel
theorem dX1_cost_21 : decode cX1_cost 21 = .ok (.ireturn, 1) := by decide +kernel
theorem dX1_cost_22 : decode cX1_cost 22 = .ok (.aload_n 0, 1) := by decide +kernel
theorem dX1_cost_23 : decode cX1_cost 23 = .ok (.iload_n 1, 1) := by decide +kernel
theorem dX1_cost_24 : decode cX1_cost 24 = .ok (.invokevirtual 37, 3) := by decide +kernel
theorem dX1_cost_27 : decode cX1_cost 27 = .ok (.istore_n 2, 1) := by decide +kernel
theorem dX1_cost_28 : decode cX1_cost 28 = .ok (.iload_n 2, 1) := by decide +kernel
theorem dX1_cost_29 : decode cX1_cost 29 = .ok (.aload_n 0, 1) := by decide +kernel
theorem dX1_cost_30 : decode cX1_cost 30 = .ok (.getfield 24, 3) := by decide +kernel
theorem dX1_cost_33 : decode cX1_cost 33 = .ok (.if_icmp .le 7, 3) := by decide +kernel
theorem dX1_cost_36 : decode cX1_cost 36 = .ok (.iconst 1, 1) := by decide +kernel
theorem dX1_cost_37 : decode cX1_cost 37 = .ok (.goto 18, 3) := by decide +kernel
theorem dX1_cost_40 : decode cX1_cost 40 = .ok (.iconst 1, 1) := by decide +kernel
theorem dX1_cost_41 : decode cX1_cost 41 = .ok (.aload_n 0, 1) := by decide +kernel
theorem dX1_cost_42 : decode cX1_cost 42 = .ok (.getfield 27, 3) := by decide +kernel
theorem dX1_cost_45 : decode cX1_cost 45 = .ok (.aload_n 0, 1) := by decide +kernel
theorem dX1_cost_46 : decode cX1_cost 46 = .ok (.getfield 24, 3) := by decide +kernel
theorem dX1_cost_49 : decode cX1_cost 49 = .ok (.iconst 1, 1) := by decide +kernel
theorem dX1_cost_50 : decode cX1_cost 50 = .ok (.iadd, 1) := by decide +kernel
theorem dX1_cost_51 : decode cX1_cost 51 = .ok (.iload_n 2, 1) := by decide +kernel
theorem dX1_cost_52 : decode cX1_cost 52 = .ok (.isub, 1) := by decide +kernel
theorem dX1_cost_53 : decode cX1_cost 53 = .ok (.imul, 1) := by decide +kernel
theorem dX1_cost_54 : decode cX1_cost 54 = .ok (.iadd, 1) := by decide +kernel
theorem dX1_cost_55 : decode cX1_cost 55 = .ok (.ireturn, 1) := by decide +kernel
theorem dX1_distance_0 : decode cX1_distance 0 = .ok (.aload_n 0, 1) := by decide +kernel
theorem dX1_distance_1 : decode cX1_distance 1 = .ok (.aload_n 0, 1) := by decide +kernel
theorem dX1_distance_2 : decode cX1_distance 2 = .ok (.getfield 34, 3) := by decide +kernel
theorem dX1_distance_5 : decode cX1_distance 5 = .ok (.invokevirtual 52, 3) := by decide +kernel
theorem dX1_distance_8 : decode cX1_distance 8 = .ok (.ireturn, 1) := by decide +kernel
theorem dX1_distanceFrom_0 : decode cX1_distanceFrom 0 = .ok (.aload_n 0, 1) := by decide +kernel
theorem dX1_distanceFrom_1 : decode cX1_distanceFrom 1 = .ok (.iload_n 1, 1) := by decide +kernel
theorem dX1_distanceFrom_2 : decode cX1_distanceFrom 2 = .ok (.invokevirtual 30, 3) := by decide +kernel
theorem dX1_distanceFrom_5 : decode cX1_distanceFrom 5 = .ok (.ifCond .ne 5, 3) := by decide +kernel
theorem dX1_distanceFrom_8 : decode cX1_distanceFrom 8 = .ok (.iconst (-1), 1) := by decide +kernel
theorem dX1_distanceFrom_9 : decode cX1_distanceFrom 9 = .ok (.ireturn, 1) := by decide +kernel
theorem dX1_distanceFrom_10 : decode cX1_distanceFrom 10 = .ok (.aload_n 0, 1) := by decide +kernel
theorem dX1_distanceFrom_11 : decode cX1_distanceFrom 11 = .ok (.invokevirtual 55, 3) := by decide +kernel
theorem dX1_distanceFrom_14 : decode cX1_distanceFrom 14 = .ok (.aload_n 0, 1) := by decide +kernel
theorem dX1_distanceFrom_15 : decode cX1_distanceFrom 15 = .ok (.getfield 17, 3) := by decide +kernel
theorem dX1_distanceFrom_18 : decode cX1_distanceFrom 18 = .ok (.iload_n 1, 1) := by decide +kernel
theorem dX1_distanceFrom_19 : decode cX1_distanceFrom 19 = .ok (.iaload, 1) := by decide +kernel
theorem dX1_distanceFrom_20 : decode cX1_distanceFrom 20 = .ok (.ldc 45, 2) := by decide +kernel
theorem dX1_distanceFrom_22 : decode cX1_distanceFrom 22 = .ok (.if_icmp .ne 8, 3) := by decide +kernel
theorem dX1_distanceFrom_25 : decode cX1_distanceFrom 25 = .ok (.bipush (-4), 2) := by decide +kernel
theorem dX1_distanceFrom_27 : decode cX1_distanceFrom 27 = .ok (.goto 9, 3) := by decide +kernel
theorem dX1_distanceFrom_30 : decode cX1_distanceFrom 30 = .ok (.aload_n 0, 1) := by decide +kernel
theorem dX1_distanceFrom_31 : decode cX1_distanceFrom 31 = .ok (.getfield 17, 3) := by decide +kernel
theorem dX1_distanceFrom_34 : decode cX1_distanceFrom 34 = .ok (.iload_n 1, 1) := by decide +kernel
theorem dX1_distanceFrom_35 : decode cX1_distanceFrom 35 = .ok (.iaload, 1) := by decide +kernel
end
section
set_option maxRecDepth 100000
theorem dX1_distanceFrom_36 : decode cX1_distanceFrom 36 = .ok (.ireturn, 1) := by decide +kernel
theorem dX1_findDistances_0 : decode cX1_findDistances 0 = .ok (.iconst 0, 1) := by decide +kernel
theorem dX1_findDistances_1 : decode cX1_findDistances 1 = .ok (.istore_n 1, 1) := by decide +kernel
theorem dX1_findDistances_2 : decode cX1_findDistances 2 = .ok (.iload_n 1, 1) := by decide +kernel
theorem dX1_findDistances_3 : decode cX1_findDistances 3 = .ok (.bipush 81, 2) := by decide +kernel
theorem dX1_findDistances_5 : decode cX1_findDistances 5 = .ok (.if_icmp .ge 49, 3) := by decide +kernel
theorem dX1_findDistances_8 : decode cX1_findDistances 8 = .ok (.aload_n 0, 1) := by decide +kernel
theorem dX1_findDistances_9 : decode cX1_findDistances 9 = .ok (.getfield 13, 3) := by decide +kernel
theorem dX1_findDistances_12 : decode cX1_findDistances 12 = .ok (.iload_n 1, 1) := by decide +kernel
theorem dX1_findDistances_13 : decode cX1_findDistances 13 = .ok (.aload_n 0, 1) := by decide +kernel
theorem dX1_findDistances_14 : decode cX1_findDistances 14 = .ok (.iload_n 1, 1) := by decide +kernel
theorem dX1_findDistances_15 : decode cX1_findDistances 15 = .ok (.invokevirtual 46, 3) := by decide +kernel
theorem dX1_findDistances_18 : decode cX1_findDistances 18 = .ok (.iastore, 1) := by decide +kernel
theorem dX1_findDistances_19 : decode cX1_findDistances 19 = .ok (.aload_n 0, 1) := by decide +kernel
theorem dX1_findDistances_20 : decode cX1_findDistances 20 = .ok (.getfield 17, 3) := by decide +kernel
theorem dX1_findDistances_23 : decode cX1_findDistances 23 = .ok (.iload_n 1, 1) := by decide +kernel
theorem dX1_findDistances_24 : decode cX1_findDistances 24 = .ok (.iload_n 1, 1) := by decide +kernel
theorem dX1_findDistances_25 : decode cX1_findDistances 25 = .ok (.aload_n 0, 1) := by decide +kernel
theorem dX1_findDistances_26 : decode cX1_findDistances 26 = .ok (.getfield 20, 3) := by decide +kernel
theorem dX1_findDistances_29 : decode cX1_findDistances 29 = .ok (.if_icmp .ne 16, 3) := by decide +kernel
theorem dX1_findDistances_32 : decode cX1_findDistances 32 = .ok (.aload_n 0, 1) := by decide +kernel
theorem dX1_findDistances_33 : decode cX1_findDistances 33 = .ok (.getfield 7, 3) := by decide +kernel
theorem dX1_findDistances_36 : decode cX1_findDistances 36 = .ok (.iload_n 1, 1) := by decide +kernel
theorem dX1_findDistances_37 : decode cX1_findDistances 37 = .ok (.baload, 1) := by decide +kernel
theorem dX1_findDistances_38 : decode cX1_findDistances 38 = .ok (.ifCond .ne 7, 3) := by decide +kernel
theorem dX1_findDistances_41 : decode cX1_findDistances 41 = .ok (.iconst 0, 1) := by decide +kernel
theorem dX1_findDistances_42 : decode cX1_findDistances 42 = .ok (.goto 5, 3) := by decide +kernel
theorem dX1_findDistances_45 : decode cX1_findDistances 45 = .ok (.ldc 45, 2) := by decide +kernel
theorem dX1_findDistances_47 : decode cX1_findDistances 47 = .ok (.iastore, 1) := by decide +kernel
theorem dX1_findDistances_48 : decode cX1_findDistances 48 = .ok (.iinc 1 1, 3) := by decide +kernel
theorem dX1_findDistances_51 : decode cX1_findDistances 51 = .ok (.goto (-49), 3) := by decide +kernel
theorem dX1_findDistances_54 : decode cX1_findDistances 54 = .ok (.iconst 1, 1) := by decide +kernel
theorem dX1_findDistances_55 : decode cX1_findDistances 55 = .ok (.istore_n 1, 1) := by decide +kernel
theorem dX1_findDistances_56 : decode cX1_findDistances 56 = .ok (.iconst 0, 1) := by decide +kernel
theorem dX1_findDistances_57 : decode cX1_findDistances 57 = .ok (.istore_n 2, 1) := by decide +kernel
theorem dX1_findDistances_58 : decode cX1_findDistances 58 = .ok (.iload_n 2, 1) := by decide +kernel
theorem dX1_findDistances_59 : decode cX1_findDistances 59 = .ok (.bipush 81, 2) := by decide +kernel
theorem dX1_findDistances_61 : decode cX1_findDistances 61 = .ok (.if_icmp .ge 48, 3) := by decide +kernel
theorem dX1_findDistances_64 : decode cX1_findDistances 64 = .ok (.iload_n 1, 1) := by decide +kernel
theorem dX1_findDistances_65 : decode cX1_findDistances 65 = .ok (.ifCond .eq 44, 3) := by decide +kernel
theorem dX1_findDistances_68 : decode cX1_findDistances 68 = .ok (.iconst 0, 1) := by decide +kernel
theorem dX1_findDistances_69 : decode cX1_findDistances 69 = .ok (.istore_n 1, 1) := by decide +kernel
theorem dX1_findDistances_70 : decode cX1_findDistances 70 = .ok (.iconst 0, 1) := by decide +kernel
theorem dX1_findDistances_71 : decode cX1_findDistances 71 = .ok (.istore_n 3, 1) := by decide +kernel
theorem dX1_findDistances_72 : decode cX1_findDistances 72 = .ok (.iload_n 3, 1) := by decide +kernel
theorem dX1_findDistances_73 : decode cX1_findDistances 73 = .ok (.bipush 81, 2) := by decide +kernel
theorem dX1_findDistances_75 : decode cX1_findDistances 75 = .ok (.if_icmp .ge 28, 3) := by decide +kernel
theorem dX1_findDistances_78 : decode cX1_findDistances 78 = .ok (.aload_n 0, 1) := by decide +kernel
theorem dX1_findDistances_79 : decode cX1_findDistances 79 = .ok (.getfield 7, 3) := by decide +kernel
theorem dX1_findDistances_82 : decode cX1_findDistances 82 = .ok (.iload_n 3, 1) := by decide +kernel
theorem dX1_findDistances_83 : decode cX1_findDistances 83 = .ok (.baload, 1) := by decide +kernel
theorem dX1_findDistances_84 : decode cX1_findDistances 84 = .ok (.ifCond .ne 13, 3) := by decide +kernel
theorem dX1_findDistances_87 : decode cX1_findDistances 87 = .ok (.aload_n 0, 1) := by decide +kernel
theorem dX1_findDistances_88 : decode cX1_findDistances 88 = .ok (.iload_n 3, 1) := by decide +kernel
theorem dX1_findDistances_89 : decode cX1_findDistances 89 = .ok (.invokevirtual 49, 3) := by decide +kernel
theorem dX1_findDistances_92 : decode cX1_findDistances 92 = .ok (.ifCond .eq 5, 3) := by decide +kernel
theorem dX1_findDistances_95 : decode cX1_findDistances 95 = .ok (.iconst 1, 1) := by decide +kernel
theorem dX1_findDistances_96 : decode cX1_findDistances 96 = .ok (.istore_n 1, 1) := by decide +kernel
theorem dX1_findDistances_97 : decode cX1_findDistances 97 = .ok (.iinc 3 1, 3) := by decide +kernel
theorem dX1_findDistances_100 : decode cX1_findDistances 100 = .ok (.goto (-28), 3) := by decide +kernel
theorem dX1_findDistances_103 : decode cX1_findDistances 103 = .ok (.iinc 2 1, 3) := by decide +kernel
theorem dX1_findDistances_106 : decode cX1_findDistances 106 = .ok (.goto (-48), 3) := by decide +kernel
theorem dX1_findDistances_109 : decode cX1_findDistances 109 = .ok (.return_, 1) := by decide +kernel
theorem dX1_relax_0 : decode cX1_relax 0 = .ok (.iconst 0, 1) := by decide +kernel
theorem dX1_relax_1 : decode cX1_relax 1 = .ok (.istore_n 2, 1) := by decide +kernel
theorem dX1_relax_2 : decode cX1_relax 2 = .ok (.iconst 0, 1) := by decide +kernel
theorem dX1_relax_3 : decode cX1_relax 3 = .ok (.istore_n 3, 1) := by decide +kernel
theorem dX1_relax_4 : decode cX1_relax 4 = .ok (.iload_n 3, 1) := by decide +kernel
theorem dX1_relax_5 : decode cX1_relax 5 = .ok (.iconst 4, 1) := by decide +kernel
theorem dX1_relax_6 : decode cX1_relax 6 = .ok (.if_icmp .ge 83, 3) := by decide +kernel
theorem dX1_relax_9 : decode cX1_relax 9 = .ok (.aload_n 0, 1) := by decide +kernel
theorem dX1_relax_10 : decode cX1_relax 10 = .ok (.iload_n 1, 1) := by decide +kernel
theorem dX1_relax_11 : decode cX1_relax 11 = .ok (.iload_n 3, 1) := by decide +kernel
theorem dX1_relax_12 : decode cX1_relax 12 = .ok (.invokevirtual 41, 3) := by decide +kernel
theorem dX1_relax_15 : decode cX1_relax 15 = .ok (.istore 4, 2) := by decide +kernel
theorem dX1_relax_17 : decode cX1_relax 17 = .ok (.iload 4, 2) := by decide +kernel
theorem dX1_relax_19 : decode cX1_relax 19 = .ok (.bipush (-4), 2) := by decide +kernel
theorem dX1_relax_21 : decode cX1_relax 21 = .ok (.if_icmp .eq 62, 3) := by decide +kernel
theorem dX1_relax_24 : decode cX1_relax 24 = .ok (.aload_n 0, 1) := by decide +kernel
theorem dX1_relax_25 : decode cX1_relax 25 = .ok (.getfield 17, 3) := by decide +kernel
theorem dX1_relax_28 : decode cX1_relax 28 = .ok (.iload 4, 2) := by decide +kernel
theorem dX1_relax_30 : decode cX1_relax 30 = .ok (.iaload, 1) := by decide +kernel
theorem dX1_relax_31 : decode cX1_relax 31 = .ok (.ldc 45, 2) := by decide +kernel
theorem dX1_relax_33 : decode cX1_relax 33 = .ok (.if_icmp .ge 50, 3) := by decide +kernel
theorem dX1_relax_36 : decode cX1_relax 36 = .ok (.aload_n 0, 1) := by decide +kernel
theorem dX1_relax_37 : decode cX1_relax 37 = .ok (.getfield 17, 3) := by decide +kernel
theorem dX1_relax_40 : decode cX1_relax 40 = .ok (.iload 4, 2) := by decide +kernel
theorem dX1_relax_42 : decode cX1_relax 42 = .ok (.iaload, 1) := by decide +kernel
theorem dX1_relax_43 : decode cX1_relax 43 = .ok (.aload_n 0, 1) := by decide +kernel
theorem dX1_relax_44 : decode cX1_relax 44 = .ok (.getfield 13, 3) := by decide +kernel
theorem dX1_relax_47 : decode cX1_relax 47 = .ok (.iload 4, 2) := by decide +kernel
theorem dX1_relax_49 : decode cX1_relax 49 = .ok (.iaload, 1) := by decide +kernel
theorem dX1_relax_50 : decode cX1_relax 50 = .ok (.iadd, 1) := by decide +kernel
theorem dX1_relax_51 : decode cX1_relax 51 = .ok (.aload_n 0, 1) := by decide +kernel
theorem dX1_relax_52 : decode cX1_relax 52 = .ok (.getfield 17, 3) := by decide +kernel
theorem dX1_relax_55 : decode cX1_relax 55 = .ok (.iload_n 1, 1) := by decide +kernel
theorem dX1_relax_56 : decode cX1_relax 56 = .ok (.iaload, 1) := by decide +kernel
theorem dX1_relax_57 : decode cX1_relax 57 = .ok (.if_icmp .ge 26, 3) := by decide +kernel
theorem dX1_relax_60 : decode cX1_relax 60 = .ok (.aload_n 0, 1) := by decide +kernel
theorem dX1_relax_61 : decode cX1_relax 61 = .ok (.getfield 17, 3) := by decide +kernel
theorem dX1_relax_64 : decode cX1_relax 64 = .ok (.iload_n 1, 1) := by decide +kernel
theorem dX1_relax_65 : decode cX1_relax 65 = .ok (.aload_n 0, 1) := by decide +kernel
theorem dX1_relax_66 : decode cX1_relax 66 = .ok (.getfield 17, 3) := by decide +kernel
theorem dX1_relax_69 : decode cX1_relax 69 = .ok (.iload 4, 2) := by decide +kernel
theorem dX1_relax_71 : decode cX1_relax 71 = .ok (.iaload, 1) := by decide +kernel
theorem dX1_relax_72 : decode cX1_relax 72 = .ok (.aload_n 0, 1) := by decide +kernel
theorem dX1_relax_73 : decode cX1_relax 73 = .ok (.getfield 13, 3) := by decide +kernel
theorem dX1_relax_76 : decode cX1_relax 76 = .ok (.iload 4, 2) := by decide +kernel
theorem dX1_relax_78 : decode cX1_relax 78 = .ok (.iaload, 1) := by decide +kernel
theorem dX1_relax_79 : decode cX1_relax 79 = .ok (.iadd, 1) := by decide +kernel
theorem dX1_relax_80 : decode cX1_relax 80 = .ok (.iastore, 1) := by decide +kernel
theorem dX1_relax_81 : decode cX1_relax 81 = .ok (.iconst 1, 1) := by decide +kernel
theorem dX1_relax_82 : decode cX1_relax 82 = .ok (.istore_n 2, 1) := by decide +kernel
theorem dX1_relax_83 : decode cX1_relax 83 = .ok (.iinc 3 1, 3) := by decide +kernel
theorem dX1_relax_86 : decode cX1_relax 86 = .ok (.goto (-82), 3) := by decide +kernel
theorem dX1_relax_89 : decode cX1_relax 89 = .ok (.iload_n 2, 1) := by decide +kernel
theorem dX1_relax_90 : decode cX1_relax 90 = .ok (.ireturn, 1) := by decide +kernel
theorem dX1_neighbour_0 : decode cX1_neighbour 0 = .ok (.iload_n 2, 1) := by decide +kernel
theorem dX1_neighbour_1 : decode cX1_neighbour 1 = .ok (.ifCond .ne 19, 3) := by decide +kernel
theorem dX1_neighbour_4 : decode cX1_neighbour 4 = .ok (.iload_n 1, 1) := by decide +kernel
theorem dX1_neighbour_5 : decode cX1_neighbour 5 = .ok (.bipush 9, 2) := by decide +kernel
theorem dX1_neighbour_7 : decode cX1_neighbour 7 = .ok (.if_icmp .ge 8, 3) := by decide +kernel
theorem dX1_neighbour_10 : decode cX1_neighbour 10 = .ok (.bipush (-4), 2) := by decide +kernel
theorem dX1_neighbour_12 : decode cX1_neighbour 12 = .ok (.goto 7, 3) := by decide +kernel
theorem dX1_neighbour_15 : decode cX1_neighbour 15 = .ok (.iload_n 1, 1) := by decide +kernel
theorem dX1_neighbour_16 : decode cX1_neighbour 16 = .ok (.bipush 9, 2) := by decide +kernel
theorem dX1_neighbour_18 : decode cX1_neighbour 18 = .ok (.isub, 1) := by decide +kernel
theorem dX1_neighbour_19 : decode cX1_neighbour 19 = .ok (.ireturn, 1) := by decide +kernel
theorem dX1_neighbour_20 : decode cX1_neighbour 20 = .ok (.iload_n 2, 1) := by decide +kernel
theorem dX1_neighbour_21 : decode cX1_neighbour 21 = .ok (.iconst 1, 1) := by decide +kernel
theorem dX1_neighbour_22 : decode cX1_neighbour 22 = .ok (.if_icmp .ne 21, 3) := by decide +kernel
theorem dX1_neighbour_25 : decode cX1_neighbour 25 = .ok (.iload_n 1, 1) := by decide +kernel
theorem dX1_neighbour_26 : decode cX1_neighbour 26 = .ok (.bipush 9, 2) := by decide +kernel
theorem dX1_neighbour_28 : decode cX1_neighbour 28 = .ok (.irem, 1) := by decide +kernel
theorem dX1_neighbour_29 : decode cX1_neighbour 29 = .ok (.bipush 8, 2) := by decide +kernel
theorem dX1_neighbour_31 : decode cX1_neighbour 31 = .ok (.if_icmp .ne 8, 3) := by decide +kernel
theorem dX1_neighbour_34 : decode cX1_neighbour 34 = .ok (.bipush (-4), 2) := by decide +kernel
theorem dX1_neighbour_36 : decode cX1_neighbour 36 = .ok (.goto 6, 3) := by decide +kernel
theorem dX1_neighbour_39 : decode cX1_neighbour 39 = .ok (.iload_n 1, 1) := by decide +kernel
theorem dX1_neighbour_40 : decode cX1_neighbour 40 = .ok (.iconst 1, 1) := by decide +kernel
theorem dX1_neighbour_41 : decode cX1_neighbour 41 = .ok (.iadd, 1) := by decide +kernel
theorem dX1_neighbour_42 : decode cX1_neighbour 42 = .ok (.ireturn, 1) := by decide +kernel
theorem dX1_neighbour_43 : decode cX1_neighbour 43 = .ok (.iload_n 2, 1) := by decide +kernel
theorem dX1_neighbour_44 : decode cX1_neighbour 44 = .ok (.iconst 2, 1) := by decide +kernel
theorem dX1_neighbour_45 : decode cX1_neighbour 45 = .ok (.if_icmp .ne 19, 3) := by decide +kernel
theorem dX1_neighbour_48 : decode cX1_neighbour 48 = .ok (.iload_n 1, 1) := by decide +kernel
theorem dX1_neighbour_49 : decode cX1_neighbour 49 = .ok (.bipush 71, 2) := by decide +kernel
theorem dX1_neighbour_51 : decode cX1_neighbour 51 = .ok (.if_icmp .le 8, 3) := by decide +kernel
theorem dX1_neighbour_54 : decode cX1_neighbour 54 = .ok (.bipush (-4), 2) := by decide +kernel
theorem dX1_neighbour_56 : decode cX1_neighbour 56 = .ok (.goto 7, 3) := by decide +kernel
theorem dX1_neighbour_59 : decode cX1_neighbour 59 = .ok (.iload_n 1, 1) := by decide +kernel
theorem dX1_neighbour_60 : decode cX1_neighbour 60 = .ok (.bipush 9, 2) := by decide +kernel
theorem dX1_neighbour_62 : decode cX1_neighbour 62 = .ok (.iadd, 1) := by decide +kernel
theorem dX1_neighbour_63 : decode cX1_neighbour 63 = .ok (.ireturn, 1) := by decide +kernel
theorem dX1_neighbour_64 : decode cX1_neighbour 64 = .ok (.iload_n 1, 1) := by decide +kernel
theorem dX1_neighbour_65 : decode cX1_neighbour 65 = .ok (.bipush 9, 2) := by decide +kernel
theorem dX1_neighbour_67 : decode cX1_neighbour 67 = .ok (.irem, 1) := by decide +kernel
theorem dX1_neighbour_68 : decode cX1_neighbour 68 = .ok (.ifCond .ne 8, 3) := by decide +kernel
theorem dX1_neighbour_71 : decode cX1_neighbour 71 = .ok (.bipush (-4), 2) := by decide +kernel
theorem dX1_neighbour_73 : decode cX1_neighbour 73 = .ok (.goto 6, 3) := by decide +kernel
theorem dX1_neighbour_76 : decode cX1_neighbour 76 = .ok (.iload_n 1, 1) := by decide +kernel
theorem dX1_neighbour_77 : decode cX1_neighbour 77 = .ok (.iconst 1, 1) := by decide +kernel
theorem dX1_neighbour_78 : decode cX1_neighbour 78 = .ok (.isub, 1) := by decide +kernel
theorem dX1_neighbour_79 : decode cX1_neighbour 79 = .ok (.ireturn, 1) := by decide +kernel
theorem dX1_next_0 : decode cX1_next 0 = .ok (.aload_n 0, 1) := by decide +kernel
theorem dX1_next_1 : decode cX1_next 1 = .ok (.invokevirtual 55, 3) := by decide +kernel
theorem dX1_next_4 : decode cX1_next 4 = .ok (.aload_n 0, 1) := by decide +kernel
theorem dX1_next_5 : decode cX1_next 5 = .ok (.aload_n 0, 1) := by decide +kernel
theorem dX1_next_6 : decode cX1_next 6 = .ok (.getfield 34, 3) := by decide +kernel
theorem dX1_next_9 : decode cX1_next 9 = .ok (.invokevirtual 58, 3) := by decide +kernel
theorem dX1_next_12 : decode cX1_next 12 = .ok (.ireturn, 1) := by decide +kernel
theorem dX1_directionFrom_0 : decode cX1_directionFrom 0 = .ok (.iconst 0, 1) := by decide +kernel
theorem dX1_directionFrom_1 : decode cX1_directionFrom 1 = .ok (.istore_n 2, 1) := by decide +kernel
theorem dX1_directionFrom_2 : decode cX1_directionFrom 2 = .ok (.iload_n 2, 1) := by decide +kernel
theorem dX1_directionFrom_3 : decode cX1_directionFrom 3 = .ok (.iconst 4, 1) := by decide +kernel
theorem dX1_directionFrom_4 : decode cX1_directionFrom 4 = .ok (.if_icmp .ge 74, 3) := by decide +kernel
theorem dX1_directionFrom_7 : decode cX1_directionFrom 7 = .ok (.aload_n 0, 1) := by decide +kernel
theorem dX1_directionFrom_8 : decode cX1_directionFrom 8 = .ok (.iload_n 1, 1) := by decide +kernel
theorem dX1_directionFrom_9 : decode cX1_directionFrom 9 = .ok (.iload_n 2, 1) := by decide +kernel
theorem dX1_directionFrom_10 : decode cX1_directionFrom 10 = .ok (.invokevirtual 41, 3) := by decide +kernel
theorem dX1_directionFrom_13 : decode cX1_directionFrom 13 = .ok (.istore_n 3, 1) := by decide +kernel
theorem dX1_directionFrom_14 : decode cX1_directionFrom 14 = .ok (.iload_n 1, 1) := by decide +kernel
theorem dX1_directionFrom_15 : decode cX1_directionFrom 15 = .ok (.aload_n 0, 1) := by decide +kernel
theorem dX1_directionFrom_16 : decode cX1_directionFrom 16 = .ok (.getfield 20, 3) := by decide +kernel
theorem dX1_directionFrom_19 : decode cX1_directionFrom 19 = .ok (.if_icmp .eq 53, 3) := by decide +kernel
theorem dX1_directionFrom_22 : decode cX1_directionFrom 22 = .ok (.iload_n 3, 1) := by decide +kernel
theorem dX1_directionFrom_23 : decode cX1_directionFrom 23 = .ok (.bipush (-4), 2) := by decide +kernel
theorem dX1_directionFrom_25 : decode cX1_directionFrom 25 = .ok (.if_icmp .eq 47, 3) := by decide +kernel
theorem dX1_directionFrom_28 : decode cX1_directionFrom 28 = .ok (.aload_n 0, 1) := by decide +kernel
theorem dX1_directionFrom_29 : decode cX1_directionFrom 29 = .ok (.getfield 17, 3) := by decide +kernel
theorem dX1_directionFrom_32 : decode cX1_directionFrom 32 = .ok (.iload_n 1, 1) := by decide +kernel
theorem dX1_directionFrom_33 : decode cX1_directionFrom 33 = .ok (.iaload, 1) := by decide +kernel
theorem dX1_directionFrom_34 : decode cX1_directionFrom 34 = .ok (.ldc 45, 2) := by decide +kernel
theorem dX1_directionFrom_36 : decode cX1_directionFrom 36 = .ok (.if_icmp .ge 36, 3) := by decide +kernel
theorem dX1_directionFrom_39 : decode cX1_directionFrom 39 = .ok (.aload_n 0, 1) := by decide +kernel
theorem dX1_directionFrom_40 : decode cX1_directionFrom 40 = .ok (.getfield 7, 3) := by decide +kernel
theorem dX1_directionFrom_43 : decode cX1_directionFrom 43 = .ok (.iload_n 3, 1) := by decide +kernel
theorem dX1_directionFrom_44 : decode cX1_directionFrom 44 = .ok (.baload, 1) := by decide +kernel
theorem dX1_directionFrom_45 : decode cX1_directionFrom 45 = .ok (.ifCond .ne 27, 3) := by decide +kernel
theorem dX1_directionFrom_48 : decode cX1_directionFrom 48 = .ok (.aload_n 0, 1) := by decide +kernel
theorem dX1_directionFrom_49 : decode cX1_directionFrom 49 = .ok (.getfield 17, 3) := by decide +kernel
theorem dX1_directionFrom_52 : decode cX1_directionFrom 52 = .ok (.iload_n 3, 1) := by decide +kernel
theorem dX1_directionFrom_53 : decode cX1_directionFrom 53 = .ok (.iaload, 1) := by decide +kernel
theorem dX1_directionFrom_54 : decode cX1_directionFrom 54 = .ok (.aload_n 0, 1) := by decide +kernel
theorem dX1_directionFrom_55 : decode cX1_directionFrom 55 = .ok (.getfield 13, 3) := by decide +kernel
theorem dX1_directionFrom_58 : decode cX1_directionFrom 58 = .ok (.iload_n 3, 1) := by decide +kernel
theorem dX1_directionFrom_59 : decode cX1_directionFrom 59 = .ok (.iaload, 1) := by decide +kernel
theorem dX1_directionFrom_60 : decode cX1_directionFrom 60 = .ok (.iadd, 1) := by decide +kernel
theorem dX1_directionFrom_61 : decode cX1_directionFrom 61 = .ok (.aload_n 0, 1) := by decide +kernel
theorem dX1_directionFrom_62 : decode cX1_directionFrom 62 = .ok (.getfield 17, 3) := by decide +kernel
theorem dX1_directionFrom_65 : decode cX1_directionFrom 65 = .ok (.iload_n 1, 1) := by decide +kernel
theorem dX1_directionFrom_66 : decode cX1_directionFrom 66 = .ok (.iaload, 1) := by decide +kernel
theorem dX1_directionFrom_67 : decode cX1_directionFrom 67 = .ok (.if_icmp .ne 5, 3) := by decide +kernel
theorem dX1_directionFrom_70 : decode cX1_directionFrom 70 = .ok (.iload_n 2, 1) := by decide +kernel
theorem dX1_directionFrom_71 : decode cX1_directionFrom 71 = .ok (.ireturn, 1) := by decide +kernel
theorem dX1_directionFrom_72 : decode cX1_directionFrom 72 = .ok (.iinc 2 1, 3) := by decide +kernel
theorem dX1_directionFrom_75 : decode cX1_directionFrom 75 = .ok (.goto (-73), 3) := by decide +kernel
theorem dX1_directionFrom_78 : decode cX1_directionFrom 78 = .ok (.bipush (-4), 2) := by decide +kernel
theorem dX1_directionFrom_80 : decode cX1_directionFrom 80 = .ok (.ireturn, 1) := by decide +kernel
theorem dX1_drive_0 : decode cX1_drive 0 = .ok (.aload_n 0, 1) := by decide +kernel
theorem dX1_drive_1 : decode cX1_drive 1 = .ok (.invokevirtual 55, 3) := by decide +kernel
theorem dX1_drive_4 : decode cX1_drive 4 = .ok (.iconst 0, 1) := by decide +kernel
theorem dX1_drive_5 : decode cX1_drive 5 = .ok (.istore_n 2, 1) := by decide +kernel
theorem dX1_drive_6 : decode cX1_drive 6 = .ok (.iconst 0, 1) := by decide +kernel
theorem dX1_drive_7 : decode cX1_drive 7 = .ok (.istore_n 3, 1) := by decide +kernel
theorem dX1_drive_8 : decode cX1_drive 8 = .ok (.iload_n 3, 1) := by decide +kernel
theorem dX1_drive_9 : decode cX1_drive 9 = .ok (.bipush 40, 2) := by decide +kernel
theorem dX1_drive_11 : decode cX1_drive 11 = .ok (.if_icmp .ge 48, 3) := by decide +kernel
theorem dX1_drive_14 : decode cX1_drive 14 = .ok (.iload_n 3, 1) := by decide +kernel
theorem dX1_drive_15 : decode cX1_drive 15 = .ok (.iload_n 1, 1) := by decide +kernel
theorem dX1_drive_16 : decode cX1_drive 16 = .ok (.if_icmp .ge 43, 3) := by decide +kernel
theorem dX1_drive_19 : decode cX1_drive 19 = .ok (.aload_n 0, 1) := by decide +kernel
theorem dX1_drive_20 : decode cX1_drive 20 = .ok (.aload_n 0, 1) := by decide +kernel
theorem dX1_drive_21 : decode cX1_drive 21 = .ok (.getfield 34, 3) := by decide +kernel
theorem dX1_drive_24 : decode cX1_drive 24 = .ok (.invokevirtual 58, 3) := by decide +kernel
theorem dX1_drive_27 : decode cX1_drive 27 = .ok (.istore 4, 2) := by decide +kernel
theorem dX1_drive_29 : decode cX1_drive 29 = .ok (.iload 4, 2) := by decide +kernel
theorem dX1_drive_31 : decode cX1_drive 31 = .ok (.bipush (-4), 2) := by decide +kernel
theorem dX1_drive_33 : decode cX1_drive 33 = .ok (.if_icmp .eq 20, 3) := by decide +kernel
theorem dX1_drive_36 : decode cX1_drive 36 = .ok (.aload_n 0, 1) := by decide +kernel
theorem dX1_drive_37 : decode cX1_drive 37 = .ok (.aload_n 0, 1) := by decide +kernel
theorem dX1_drive_38 : decode cX1_drive 38 = .ok (.aload_n 0, 1) := by decide +kernel
theorem dX1_drive_39 : decode cX1_drive 39 = .ok (.getfield 34, 3) := by decide +kernel
theorem dX1_drive_42 : decode cX1_drive 42 = .ok (.iload 4, 2) := by decide +kernel
theorem dX1_drive_44 : decode cX1_drive 44 = .ok (.invokevirtual 41, 3) := by decide +kernel
theorem dX1_drive_47 : decode cX1_drive 47 = .ok (.putfield 34, 3) := by decide +kernel
theorem dX1_drive_50 : decode cX1_drive 50 = .ok (.iinc 2 1, 3) := by decide +kernel
theorem dX1_drive_53 : decode cX1_drive 53 = .ok (.iinc 3 1, 3) := by decide +kernel
theorem dX1_drive_56 : decode cX1_drive 56 = .ok (.goto (-48), 3) := by decide +kernel
theorem dX1_drive_59 : decode cX1_drive 59 = .ok (.iload_n 2, 1) := by decide +kernel
theorem dX1_drive_60 : decode cX1_drive 60 = .ok (.ireturn, 1) := by decide +kernel
theorem dX1_where_0 : decode cX1_where 0 = .ok (.aload_n 0, 1) := by decide +kernel
theorem dX1_where_1 : decode cX1_where 1 = .ok (.getfield 34, 3) := by decide +kernel
theorem dX1_where_4 : decode cX1_where 4 = .ok (.ireturn, 1) := by decide +kernel
theorem dX1_moves_0 : decode cX1_moves 0 = .ok (.aload_n 0, 1) := by decide +kernel
theorem dX1_moves_1 : decode cX1_moves 1 = .ok (.invokevirtual 55, 3) := by decide +kernel
theorem dX1_moves_4 : decode cX1_moves 4 = .ok (.aload_n 0, 1) := by decide +kernel
theorem dX1_moves_5 : decode cX1_moves 5 = .ok (.getfield 17, 3) := by decide +kernel
theorem dX1_moves_8 : decode cX1_moves 8 = .ok (.aload_n 0, 1) := by decide +kernel
theorem dX1_moves_9 : decode cX1_moves 9 = .ok (.getfield 34, 3) := by decide +kernel
theorem dX1_moves_12 : decode cX1_moves 12 = .ok (.iaload, 1) := by decide +kernel
theorem dX1_moves_13 : decode cX1_moves 13 = .ok (.ldc 45, 2) := by decide +kernel
theorem dX1_moves_15 : decode cX1_moves 15 = .ok (.if_icmp .ne 6, 3) := by decide +kernel
theorem dX1_moves_18 : decode cX1_moves 18 = .ok (.bipush (-4), 2) := by decide +kernel
theorem dX1_moves_20 : decode cX1_moves 20 = .ok (.ireturn, 1) := by decide +kernel
theorem dX1_moves_21 : decode cX1_moves 21 = .ok (.aload_n 0, 1) := by decide +kernel
theorem dX1_moves_22 : decode cX1_moves 22 = .ok (.getfield 34, 3) := by decide +kernel
theorem dX1_moves_25 : decode cX1_moves 25 = .ok (.istore_n 1, 1) := by decide +kernel
theorem dX1_moves_26 : decode cX1_moves 26 = .ok (.iconst 0, 1) := by decide +kernel
theorem dX1_moves_27 : decode cX1_moves 27 = .ok (.istore_n 2, 1) := by decide +kernel
theorem dX1_moves_28 : decode cX1_moves 28 = .ok (.iload_n 2, 1) := by decide +kernel
theorem dX1_moves_29 : decode cX1_moves 29 = .ok (.bipush 81, 2) := by decide +kernel
theorem dX1_moves_31 : decode cX1_moves 31 = .ok (.if_icmp .ge 30, 3) := by decide +kernel
theorem dX1_moves_34 : decode cX1_moves 34 = .ok (.iload_n 1, 1) := by decide +kernel
theorem dX1_moves_35 : decode cX1_moves 35 = .ok (.aload_n 0, 1) := by decide +kernel
theorem dX1_moves_36 : decode cX1_moves 36 = .ok (.getfield 20, 3) := by decide +kernel
theorem dX1_moves_39 : decode cX1_moves 39 = .ok (.if_icmp .eq 22, 3) := by decide +kernel
theorem dX1_moves_42 : decode cX1_moves 42 = .ok (.aload_n 0, 1) := by decide +kernel
theorem dX1_moves_43 : decode cX1_moves 43 = .ok (.iload_n 1, 1) := by decide +kernel
theorem dX1_moves_44 : decode cX1_moves 44 = .ok (.invokevirtual 58, 3) := by decide +kernel
theorem dX1_moves_47 : decode cX1_moves 47 = .ok (.istore_n 3, 1) := by decide +kernel
theorem dX1_moves_48 : decode cX1_moves 48 = .ok (.aload_n 0, 1) := by decide +kernel
theorem dX1_moves_49 : decode cX1_moves 49 = .ok (.iload_n 1, 1) := by decide +kernel
theorem dX1_moves_50 : decode cX1_moves 50 = .ok (.iload_n 3, 1) := by decide +kernel
theorem dX1_moves_51 : decode cX1_moves 51 = .ok (.invokevirtual 41, 3) := by decide +kernel
theorem dX1_moves_54 : decode cX1_moves 54 = .ok (.istore_n 1, 1) := by decide +kernel
theorem dX1_moves_55 : decode cX1_moves 55 = .ok (.iinc 2 1, 3) := by decide +kernel
theorem dX1_moves_58 : decode cX1_moves 58 = .ok (.goto (-30), 3) := by decide +kernel
theorem dX1_moves_61 : decode cX1_moves 61 = .ok (.iload_n 2, 1) := by decide +kernel
theorem dX1_moves_62 : decode cX1_moves 62 = .ok (.ireturn, 1) := by decide +kernel
theorem dX1_reached_0 : decode cX1_reached 0 = .ok (.aload_n 0, 1) := by decide +kernel
theorem dX1_reached_1 : decode cX1_reached 1 = .ok (.invokevirtual 55, 3) := by decide +kernel
theorem dX1_reached_4 : decode cX1_reached 4 = .ok (.iconst 0, 1) := by decide +kernel
theorem dX1_reached_5 : decode cX1_reached 5 = .ok (.istore_n 1, 1) := by decide +kernel
theorem dX1_reached_6 : decode cX1_reached 6 = .ok (.iconst 0, 1) := by decide +kernel
theorem dX1_reached_7 : decode cX1_reached 7 = .ok (.istore_n 2, 1) := by decide +kernel
theorem dX1_reached_8 : decode cX1_reached 8 = .ok (.iload_n 2, 1) := by decide +kernel
theorem dX1_reached_9 : decode cX1_reached 9 = .ok (.bipush 81, 2) := by decide +kernel
theorem dX1_reached_11 : decode cX1_reached 11 = .ok (.if_icmp .ge 28, 3) := by decide +kernel
theorem dX1_reached_14 : decode cX1_reached 14 = .ok (.aload_n 0, 1) := by decide +kernel
theorem dX1_reached_15 : decode cX1_reached 15 = .ok (.getfield 17, 3) := by decide +kernel
theorem dX1_reached_18 : decode cX1_reached 18 = .ok (.iload_n 2, 1) := by decide +kernel
theorem dX1_reached_19 : decode cX1_reached 19 = .ok (.iaload, 1) := by decide +kernel
theorem dX1_reached_20 : decode cX1_reached 20 = .ok (.ldc 45, 2) := by decide +kernel
theorem dX1_reached_22 : decode cX1_reached 22 = .ok (.if_icmp .ge 9, 3) := by decide +kernel
theorem dX1_reached_25 : decode cX1_reached 25 = .ok (.iload_n 1, 1) := by decide +kernel
theorem dX1_reached_26 : decode cX1_reached 26 = .ok (.iconst 1, 1) := by decide +kernel
theorem dX1_reached_27 : decode cX1_reached 27 = .ok (.iadd, 1) := by decide +kernel
theorem dX1_reached_28 : decode cX1_reached 28 = .ok (.goto 4, 3) := by decide +kernel
theorem dX1_reached_31 : decode cX1_reached 31 = .ok (.iload_n 1, 1) := by decide +kernel
theorem dX1_reached_32 : decode cX1_reached 32 = .ok (.istore_n 1, 1) := by decide +kernel
theorem dX1_reached_33 : decode cX1_reached 33 = .ok (.iinc 2 1, 3) := by decide +kernel
theorem dX1_reached_36 : decode cX1_reached 36 = .ok (.goto (-28), 3) := by decide +kernel
theorem dX1_reached_39 : decode cX1_reached 39 = .ok (.iload_n 1, 1) := by decide +kernel
theorem dX1_reached_40 : decode cX1_reached 40 = .ok (.ireturn, 1) := by decide +kernel
theorem dX1_farthest_0 : decode cX1_farthest 0 = .ok (.aload_n 0, 1) := by decide +kernel
theorem dX1_farthest_1 : decode cX1_farthest 1 = .ok (.invokevirtual 55, 3) := by decide +kernel
theorem dX1_farthest_4 : decode cX1_farthest 4 = .ok (.bipush (-4), 2) := by decide +kernel
theorem dX1_farthest_6 : decode cX1_farthest 6 = .ok (.istore_n 1, 1) := by decide +kernel
theorem dX1_farthest_7 : decode cX1_farthest 7 = .ok (.iconst 0, 1) := by decide +kernel
theorem dX1_farthest_8 : decode cX1_farthest 8 = .ok (.istore_n 2, 1) := by decide +kernel
theorem dX1_farthest_9 : decode cX1_farthest 9 = .ok (.iload_n 2, 1) := by decide +kernel
theorem dX1_farthest_10 : decode cX1_farthest 10 = .ok (.bipush 81, 2) := by decide +kernel
theorem dX1_farthest_12 : decode cX1_farthest 12 = .ok (.if_icmp .ge 41, 3) := by decide +kernel
theorem dX1_farthest_15 : decode cX1_farthest 15 = .ok (.aload_n 0, 1) := by decide +kernel
theorem dX1_farthest_16 : decode cX1_farthest 16 = .ok (.getfield 17, 3) := by decide +kernel
theorem dX1_farthest_19 : decode cX1_farthest 19 = .ok (.iload_n 2, 1) := by decide +kernel
theorem dX1_farthest_20 : decode cX1_farthest 20 = .ok (.iaload, 1) := by decide +kernel
theorem dX1_farthest_21 : decode cX1_farthest 21 = .ok (.ldc 45, 2) := by decide +kernel
theorem dX1_farthest_23 : decode cX1_farthest 23 = .ok (.if_icmp .ge 22, 3) := by decide +kernel
theorem dX1_farthest_26 : decode cX1_farthest 26 = .ok (.aload_n 0, 1) := by decide +kernel
theorem dX1_farthest_27 : decode cX1_farthest 27 = .ok (.getfield 17, 3) := by decide +kernel
theorem dX1_farthest_30 : decode cX1_farthest 30 = .ok (.iload_n 2, 1) := by decide +kernel
theorem dX1_farthest_31 : decode cX1_farthest 31 = .ok (.iaload, 1) := by decide +kernel
theorem dX1_farthest_32 : decode cX1_farthest 32 = .ok (.iload_n 1, 1) := by decide +kernel
theorem dX1_farthest_33 : decode cX1_farthest 33 = .ok (.if_icmp .le 12, 3) := by decide +kernel
theorem dX1_farthest_36 : decode cX1_farthest 36 = .ok (.aload_n 0, 1) := by decide +kernel
theorem dX1_farthest_37 : decode cX1_farthest 37 = .ok (.getfield 17, 3) := by decide +kernel
theorem dX1_farthest_40 : decode cX1_farthest 40 = .ok (.iload_n 2, 1) := by decide +kernel
theorem dX1_farthest_41 : decode cX1_farthest 41 = .ok (.iaload, 1) := by decide +kernel
theorem dX1_farthest_42 : decode cX1_farthest 42 = .ok (.goto 4, 3) := by decide +kernel
theorem dX1_farthest_45 : decode cX1_farthest 45 = .ok (.iload_n 1, 1) := by decide +kernel
theorem dX1_farthest_46 : decode cX1_farthest 46 = .ok (.istore_n 1, 1) := by decide +kernel
theorem dX1_farthest_47 : decode cX1_farthest 47 = .ok (.iinc 2 1, 3) := by decide +kernel
theorem dX1_farthest_50 : decode cX1_farthest 50 = .ok (.goto (-41), 3) := by decide +kernel
theorem dX1_farthest_53 : decode cX1_farthest 53 = .ok (.iload_n 1, 1) := by decide +kernel
theorem dX1_farthest_54 : decode cX1_farthest 54 = .ok (.ireturn, 1) := by decide +kernel
end
section
set_option maxRecDepth 100000
theorem dL_law_0 : decode cL_law 0 = .ok (.new 7, 3) := by decide +kernel
theorem dL_law_3 : decode cL_law 3 = .ok (.dup, 1) := by decide +kernel
theorem dL_law_4 : decode cL_law 4 = .ok (.invokespecial 9, 3) := by decide +kernel
theorem dL_law_7 : decode cL_law 7 = .ok (.astore_n 1, 1) := by decide +kernel
theorem dL_law_8 : decode cL_law 8 = .ok (.new 10, 3) := by decide +kernel
theorem dL_law_11 : decode cL_law 11 = .ok (.dup, 1) := by decide +kernel
theorem dL_law_12 : decode cL_law 12 = .ok (.invokespecial 12, 3) := by decide +kernel
theorem dL_law_15 : decode cL_law 15 = .ok (.astore_n 2, 1) := by decide +kernel
theorem dL_law_16 : decode cL_law 16 = .ok (.iconst 0, 1) := by decide +kernel
theorem dL_law_17 : decode cL_law 17 = .ok (.istore_n 3, 1) := by decide +kernel
theorem dL_law_18 : decode cL_law 18 = .ok (.iload_n 3, 1) := by decide +kernel
theorem dL_law_19 : decode cL_law 19 = .ok (.aload_n 0, 1) := by decide +kernel
theorem dL_law_20 : decode cL_law 20 = .ok (.arraylength, 1) := by decide +kernel
theorem dL_law_21 : decode cL_law 21 = .ok (.iconst 4, 1) := by decide +kernel
theorem dL_law_22 : decode cL_law 22 = .ok (.isub, 1) := by decide +kernel
theorem dL_law_23 : decode cL_law 23 = .ok (.if_icmp .gt 443, 3) := by decide +kernel
theorem dL_law_26 : decode cL_law 26 = .ok (.aload_n 0, 1) := by decide +kernel
theorem dL_law_27 : decode cL_law 27 = .ok (.iload_n 3, 1) := by decide +kernel
theorem dL_law_28 : decode cL_law 28 = .ok (.iaload, 1) := by decide +kernel
theorem dL_law_29 : decode cL_law 29 = .ok (.bipush 15, 2) := by decide +kernel
theorem dL_law_31 : decode cL_law 31 = .ok (.iand, 1) := by decide +kernel
theorem dL_law_32 : decode cL_law 32 = .ok (.tableswitch 428 0 15 #[80, 113, 156, 189, 212, 235, 258, 281, 304, 317, 340, 353, 376, 389, 402, 415], 80) := by decide +kernel
theorem dL_law_112 : decode cL_law 112 = .ok (.aload_n 1, 1) := by decide +kernel
theorem dL_law_113 : decode cL_law 113 = .ok (.aload_n 0, 1) := by decide +kernel
theorem dL_law_114 : decode cL_law 114 = .ok (.iload_n 3, 1) := by decide +kernel
theorem dL_law_115 : decode cL_law 115 = .ok (.iconst 1, 1) := by decide +kernel
theorem dL_law_116 : decode cL_law 116 = .ok (.iadd, 1) := by decide +kernel
theorem dL_law_117 : decode cL_law 117 = .ok (.iaload, 1) := by decide +kernel
theorem dL_law_118 : decode cL_law 118 = .ok (.aload_n 0, 1) := by decide +kernel
theorem dL_law_119 : decode cL_law 119 = .ok (.iload_n 3, 1) := by decide +kernel
theorem dL_law_120 : decode cL_law 120 = .ok (.iconst 2, 1) := by decide +kernel
theorem dL_law_121 : decode cL_law 121 = .ok (.iadd, 1) := by decide +kernel
theorem dL_law_122 : decode cL_law 122 = .ok (.iaload, 1) := by decide +kernel
theorem dL_law_123 : decode cL_law 123 = .ok (.invokevirtual 13, 3) := by decide +kernel
theorem dL_law_126 : decode cL_law 126 = .ok (.aload_n 2, 1) := by decide +kernel
theorem dL_law_127 : decode cL_law 127 = .ok (.aload_n 0, 1) := by decide +kernel
theorem dL_law_128 : decode cL_law 128 = .ok (.iload_n 3, 1) := by decide +kernel
theorem dL_law_129 : decode cL_law 129 = .ok (.iconst 1, 1) := by decide +kernel
theorem dL_law_130 : decode cL_law 130 = .ok (.iadd, 1) := by decide +kernel
theorem dL_law_131 : decode cL_law 131 = .ok (.iaload, 1) := by decide +kernel
theorem dL_law_132 : decode cL_law 132 = .ok (.aload_n 0, 1) := by decide +kernel
theorem dL_law_133 : decode cL_law 133 = .ok (.iload_n 3, 1) := by decide +kernel
theorem dL_law_134 : decode cL_law 134 = .ok (.iconst 2, 1) := by decide +kernel
theorem dL_law_135 : decode cL_law 135 = .ok (.iadd, 1) := by decide +kernel
theorem dL_law_136 : decode cL_law 136 = .ok (.iaload, 1) := by decide +kernel
theorem dL_law_137 : decode cL_law 137 = .ok (.invokevirtual 17, 3) := by decide +kernel
theorem dL_law_140 : decode cL_law 140 = .ok (.if_icmp .eq 320, 3) := by decide +kernel
theorem dL_law_143 : decode cL_law 143 = .ok (.iconst 0, 1) := by decide +kernel
theorem dL_law_144 : decode cL_law 144 = .ok (.ireturn, 1) := by decide +kernel
theorem dL_law_145 : decode cL_law 145 = .ok (.aload_n 1, 1) := by decide +kernel
theorem dL_law_146 : decode cL_law 146 = .ok (.aload_n 0, 1) := by decide +kernel
theorem dL_law_147 : decode cL_law 147 = .ok (.iload_n 3, 1) := by decide +kernel
theorem dL_law_148 : decode cL_law 148 = .ok (.iconst 1, 1) := by decide +kernel
theorem dL_law_149 : decode cL_law 149 = .ok (.iadd, 1) := by decide +kernel
theorem dL_law_150 : decode cL_law 150 = .ok (.iaload, 1) := by decide +kernel
theorem dL_law_151 : decode cL_law 151 = .ok (.aload_n 0, 1) := by decide +kernel
theorem dL_law_152 : decode cL_law 152 = .ok (.iload_n 3, 1) := by decide +kernel
theorem dL_law_153 : decode cL_law 153 = .ok (.iconst 2, 1) := by decide +kernel
theorem dL_law_154 : decode cL_law 154 = .ok (.iadd, 1) := by decide +kernel
theorem dL_law_155 : decode cL_law 155 = .ok (.iaload, 1) := by decide +kernel
theorem dL_law_156 : decode cL_law 156 = .ok (.aload_n 0, 1) := by decide +kernel
theorem dL_law_157 : decode cL_law 157 = .ok (.iload_n 3, 1) := by decide +kernel
theorem dL_law_158 : decode cL_law 158 = .ok (.iconst 3, 1) := by decide +kernel
theorem dL_law_159 : decode cL_law 159 = .ok (.iadd, 1) := by decide +kernel
theorem dL_law_160 : decode cL_law 160 = .ok (.iaload, 1) := by decide +kernel
theorem dL_law_161 : decode cL_law 161 = .ok (.invokevirtual 18, 3) := by decide +kernel
theorem dL_law_164 : decode cL_law 164 = .ok (.aload_n 2, 1) := by decide +kernel
theorem dL_law_165 : decode cL_law 165 = .ok (.aload_n 0, 1) := by decide +kernel
theorem dL_law_166 : decode cL_law 166 = .ok (.iload_n 3, 1) := by decide +kernel
theorem dL_law_167 : decode cL_law 167 = .ok (.iconst 1, 1) := by decide +kernel
theorem dL_law_168 : decode cL_law 168 = .ok (.iadd, 1) := by decide +kernel
theorem dL_law_169 : decode cL_law 169 = .ok (.iaload, 1) := by decide +kernel
theorem dL_law_170 : decode cL_law 170 = .ok (.aload_n 0, 1) := by decide +kernel
theorem dL_law_171 : decode cL_law 171 = .ok (.iload_n 3, 1) := by decide +kernel
theorem dL_law_172 : decode cL_law 172 = .ok (.iconst 2, 1) := by decide +kernel
theorem dL_law_173 : decode cL_law 173 = .ok (.iadd, 1) := by decide +kernel
theorem dL_law_174 : decode cL_law 174 = .ok (.iaload, 1) := by decide +kernel
theorem dL_law_175 : decode cL_law 175 = .ok (.aload_n 0, 1) := by decide +kernel
theorem dL_law_176 : decode cL_law 176 = .ok (.iload_n 3, 1) := by decide +kernel
theorem dL_law_177 : decode cL_law 177 = .ok (.iconst 3, 1) := by decide +kernel
theorem dL_law_178 : decode cL_law 178 = .ok (.iadd, 1) := by decide +kernel
theorem dL_law_179 : decode cL_law 179 = .ok (.iaload, 1) := by decide +kernel
theorem dL_law_180 : decode cL_law 180 = .ok (.invokevirtual 22, 3) := by decide +kernel
theorem dL_law_183 : decode cL_law 183 = .ok (.if_icmp .eq 277, 3) := by decide +kernel
theorem dL_law_186 : decode cL_law 186 = .ok (.iconst 0, 1) := by decide +kernel
theorem dL_law_187 : decode cL_law 187 = .ok (.ireturn, 1) := by decide +kernel
theorem dL_law_188 : decode cL_law 188 = .ok (.aload_n 1, 1) := by decide +kernel
theorem dL_law_189 : decode cL_law 189 = .ok (.aload_n 0, 1) := by decide +kernel
theorem dL_law_190 : decode cL_law 190 = .ok (.iload_n 3, 1) := by decide +kernel
theorem dL_law_191 : decode cL_law 191 = .ok (.iconst 1, 1) := by decide +kernel
theorem dL_law_192 : decode cL_law 192 = .ok (.iadd, 1) := by decide +kernel
theorem dL_law_193 : decode cL_law 193 = .ok (.iaload, 1) := by decide +kernel
theorem dL_law_194 : decode cL_law 194 = .ok (.aload_n 0, 1) := by decide +kernel
theorem dL_law_195 : decode cL_law 195 = .ok (.iload_n 3, 1) := by decide +kernel
theorem dL_law_196 : decode cL_law 196 = .ok (.iconst 2, 1) := by decide +kernel
theorem dL_law_197 : decode cL_law 197 = .ok (.iadd, 1) := by decide +kernel
theorem dL_law_198 : decode cL_law 198 = .ok (.iaload, 1) := by decide +kernel
theorem dL_law_199 : decode cL_law 199 = .ok (.invokevirtual 23, 3) := by decide +kernel
theorem dL_law_202 : decode cL_law 202 = .ok (.aload_n 2, 1) := by decide +kernel
theorem dL_law_203 : decode cL_law 203 = .ok (.aload_n 0, 1) := by decide +kernel
theorem dL_law_204 : decode cL_law 204 = .ok (.iload_n 3, 1) := by decide +kernel
theorem dL_law_205 : decode cL_law 205 = .ok (.iconst 1, 1) := by decide +kernel
theorem dL_law_206 : decode cL_law 206 = .ok (.iadd, 1) := by decide +kernel
theorem dL_law_207 : decode cL_law 207 = .ok (.iaload, 1) := by decide +kernel
theorem dL_law_208 : decode cL_law 208 = .ok (.aload_n 0, 1) := by decide +kernel
theorem dL_law_209 : decode cL_law 209 = .ok (.iload_n 3, 1) := by decide +kernel
theorem dL_law_210 : decode cL_law 210 = .ok (.iconst 2, 1) := by decide +kernel
theorem dL_law_211 : decode cL_law 211 = .ok (.iadd, 1) := by decide +kernel
theorem dL_law_212 : decode cL_law 212 = .ok (.iaload, 1) := by decide +kernel
theorem dL_law_213 : decode cL_law 213 = .ok (.invokevirtual 26, 3) := by decide +kernel
theorem dL_law_216 : decode cL_law 216 = .ok (.if_icmp .eq 244, 3) := by decide +kernel
theorem dL_law_219 : decode cL_law 219 = .ok (.iconst 0, 1) := by decide +kernel
theorem dL_law_220 : decode cL_law 220 = .ok (.ireturn, 1) := by decide +kernel
theorem dL_law_221 : decode cL_law 221 = .ok (.aload_n 1, 1) := by decide +kernel
theorem dL_law_222 : decode cL_law 222 = .ok (.aload_n 0, 1) := by decide +kernel
theorem dL_law_223 : decode cL_law 223 = .ok (.iload_n 3, 1) := by decide +kernel
theorem dL_law_224 : decode cL_law 224 = .ok (.iconst 1, 1) := by decide +kernel
theorem dL_law_225 : decode cL_law 225 = .ok (.iadd, 1) := by decide +kernel
theorem dL_law_226 : decode cL_law 226 = .ok (.iaload, 1) := by decide +kernel
theorem dL_law_227 : decode cL_law 227 = .ok (.invokevirtual 27, 3) := by decide +kernel
theorem dL_law_230 : decode cL_law 230 = .ok (.aload_n 2, 1) := by decide +kernel
theorem dL_law_231 : decode cL_law 231 = .ok (.aload_n 0, 1) := by decide +kernel
theorem dL_law_232 : decode cL_law 232 = .ok (.iload_n 3, 1) := by decide +kernel
theorem dL_law_233 : decode cL_law 233 = .ok (.iconst 1, 1) := by decide +kernel
theorem dL_law_234 : decode cL_law 234 = .ok (.iadd, 1) := by decide +kernel
theorem dL_law_235 : decode cL_law 235 = .ok (.iaload, 1) := by decide +kernel
theorem dL_law_236 : decode cL_law 236 = .ok (.invokevirtual 31, 3) := by decide +kernel
theorem dL_law_239 : decode cL_law 239 = .ok (.if_icmp .eq 221, 3) := by decide +kernel
theorem dL_law_242 : decode cL_law 242 = .ok (.iconst 0, 1) := by decide +kernel
theorem dL_law_243 : decode cL_law 243 = .ok (.ireturn, 1) := by decide +kernel
theorem dL_law_244 : decode cL_law 244 = .ok (.aload_n 1, 1) := by decide +kernel
theorem dL_law_245 : decode cL_law 245 = .ok (.aload_n 0, 1) := by decide +kernel
theorem dL_law_246 : decode cL_law 246 = .ok (.iload_n 3, 1) := by decide +kernel
theorem dL_law_247 : decode cL_law 247 = .ok (.iconst 1, 1) := by decide +kernel
theorem dL_law_248 : decode cL_law 248 = .ok (.iadd, 1) := by decide +kernel
theorem dL_law_249 : decode cL_law 249 = .ok (.iaload, 1) := by decide +kernel
theorem dL_law_250 : decode cL_law 250 = .ok (.invokevirtual 32, 3) := by decide +kernel
theorem dL_law_253 : decode cL_law 253 = .ok (.aload_n 2, 1) := by decide +kernel
theorem dL_law_254 : decode cL_law 254 = .ok (.aload_n 0, 1) := by decide +kernel
theorem dL_law_255 : decode cL_law 255 = .ok (.iload_n 3, 1) := by decide +kernel
theorem dL_law_256 : decode cL_law 256 = .ok (.iconst 1, 1) := by decide +kernel
theorem dL_law_257 : decode cL_law 257 = .ok (.iadd, 1) := by decide +kernel
theorem dL_law_258 : decode cL_law 258 = .ok (.iaload, 1) := by decide +kernel
theorem dL_law_259 : decode cL_law 259 = .ok (.invokevirtual 35, 3) := by decide +kernel
theorem dL_law_262 : decode cL_law 262 = .ok (.if_icmp .eq 198, 3) := by decide +kernel
theorem dL_law_265 : decode cL_law 265 = .ok (.iconst 0, 1) := by decide +kernel
theorem dL_law_266 : decode cL_law 266 = .ok (.ireturn, 1) := by decide +kernel
theorem dL_law_267 : decode cL_law 267 = .ok (.aload_n 1, 1) := by decide +kernel
theorem dL_law_268 : decode cL_law 268 = .ok (.aload_n 0, 1) := by decide +kernel
theorem dL_law_269 : decode cL_law 269 = .ok (.iload_n 3, 1) := by decide +kernel
theorem dL_law_270 : decode cL_law 270 = .ok (.iconst 1, 1) := by decide +kernel
theorem dL_law_271 : decode cL_law 271 = .ok (.iadd, 1) := by decide +kernel
theorem dL_law_272 : decode cL_law 272 = .ok (.iaload, 1) := by decide +kernel
theorem dL_law_273 : decode cL_law 273 = .ok (.invokevirtual 36, 3) := by decide +kernel
theorem dL_law_276 : decode cL_law 276 = .ok (.aload_n 2, 1) := by decide +kernel
theorem dL_law_277 : decode cL_law 277 = .ok (.aload_n 0, 1) := by decide +kernel
theorem dL_law_278 : decode cL_law 278 = .ok (.iload_n 3, 1) := by decide +kernel
theorem dL_law_279 : decode cL_law 279 = .ok (.iconst 1, 1) := by decide +kernel
theorem dL_law_280 : decode cL_law 280 = .ok (.iadd, 1) := by decide +kernel
theorem dL_law_281 : decode cL_law 281 = .ok (.iaload, 1) := by decide +kernel
theorem dL_law_282 : decode cL_law 282 = .ok (.invokevirtual 40, 3) := by decide +kernel
theorem dL_law_285 : decode cL_law 285 = .ok (.if_icmp .eq 175, 3) := by decide +kernel
theorem dL_law_288 : decode cL_law 288 = .ok (.iconst 0, 1) := by decide +kernel
theorem dL_law_289 : decode cL_law 289 = .ok (.ireturn, 1) := by decide +kernel
theorem dL_law_290 : decode cL_law 290 = .ok (.aload_n 1, 1) := by decide +kernel
theorem dL_law_291 : decode cL_law 291 = .ok (.aload_n 0, 1) := by decide +kernel
theorem dL_law_292 : decode cL_law 292 = .ok (.iload_n 3, 1) := by decide +kernel
theorem dL_law_293 : decode cL_law 293 = .ok (.iconst 1, 1) := by decide +kernel
theorem dL_law_294 : decode cL_law 294 = .ok (.iadd, 1) := by decide +kernel
theorem dL_law_295 : decode cL_law 295 = .ok (.iaload, 1) := by decide +kernel
theorem dL_law_296 : decode cL_law 296 = .ok (.invokevirtual 41, 3) := by decide +kernel
theorem dL_law_299 : decode cL_law 299 = .ok (.aload_n 2, 1) := by decide +kernel
theorem dL_law_300 : decode cL_law 300 = .ok (.aload_n 0, 1) := by decide +kernel
theorem dL_law_301 : decode cL_law 301 = .ok (.iload_n 3, 1) := by decide +kernel
theorem dL_law_302 : decode cL_law 302 = .ok (.iconst 1, 1) := by decide +kernel
theorem dL_law_303 : decode cL_law 303 = .ok (.iadd, 1) := by decide +kernel
theorem dL_law_304 : decode cL_law 304 = .ok (.iaload, 1) := by decide +kernel
theorem dL_law_305 : decode cL_law 305 = .ok (.invokevirtual 44, 3) := by decide +kernel
theorem dL_law_308 : decode cL_law 308 = .ok (.if_icmp .eq 152, 3) := by decide +kernel
theorem dL_law_311 : decode cL_law 311 = .ok (.iconst 0, 1) := by decide +kernel
theorem dL_law_312 : decode cL_law 312 = .ok (.ireturn, 1) := by decide +kernel
theorem dL_law_313 : decode cL_law 313 = .ok (.aload_n 1, 1) := by decide +kernel
theorem dL_law_314 : decode cL_law 314 = .ok (.aload_n 0, 1) := by decide +kernel
theorem dL_law_315 : decode cL_law 315 = .ok (.iload_n 3, 1) := by decide +kernel
theorem dL_law_316 : decode cL_law 316 = .ok (.iconst 1, 1) := by decide +kernel
theorem dL_law_317 : decode cL_law 317 = .ok (.iadd, 1) := by decide +kernel
theorem dL_law_318 : decode cL_law 318 = .ok (.iaload, 1) := by decide +kernel
theorem dL_law_319 : decode cL_law 319 = .ok (.invokevirtual 45, 3) := by decide +kernel
theorem dL_law_322 : decode cL_law 322 = .ok (.aload_n 2, 1) := by decide +kernel
theorem dL_law_323 : decode cL_law 323 = .ok (.aload_n 0, 1) := by decide +kernel
theorem dL_law_324 : decode cL_law 324 = .ok (.iload_n 3, 1) := by decide +kernel
theorem dL_law_325 : decode cL_law 325 = .ok (.iconst 1, 1) := by decide +kernel
theorem dL_law_326 : decode cL_law 326 = .ok (.iadd, 1) := by decide +kernel
theorem dL_law_327 : decode cL_law 327 = .ok (.iaload, 1) := by decide +kernel
theorem dL_law_328 : decode cL_law 328 = .ok (.invokevirtual 48, 3) := by decide +kernel
theorem dL_law_331 : decode cL_law 331 = .ok (.if_icmp .eq 129, 3) := by decide +kernel
theorem dL_law_334 : decode cL_law 334 = .ok (.iconst 0, 1) := by decide +kernel
theorem dL_law_335 : decode cL_law 335 = .ok (.ireturn, 1) := by decide +kernel
theorem dL_law_336 : decode cL_law 336 = .ok (.aload_n 1, 1) := by decide +kernel
theorem dL_law_337 : decode cL_law 337 = .ok (.invokevirtual 49, 3) := by decide +kernel
theorem dL_law_340 : decode cL_law 340 = .ok (.aload_n 2, 1) := by decide +kernel
theorem dL_law_341 : decode cL_law 341 = .ok (.invokevirtual 53, 3) := by decide +kernel
theorem dL_law_344 : decode cL_law 344 = .ok (.if_icmp .eq 116, 3) := by decide +kernel
theorem dL_law_347 : decode cL_law 347 = .ok (.iconst 0, 1) := by decide +kernel
theorem dL_law_348 : decode cL_law 348 = .ok (.ireturn, 1) := by decide +kernel
theorem dL_law_349 : decode cL_law 349 = .ok (.aload_n 1, 1) := by decide +kernel
theorem dL_law_350 : decode cL_law 350 = .ok (.aload_n 0, 1) := by decide +kernel
theorem dL_law_351 : decode cL_law 351 = .ok (.iload_n 3, 1) := by decide +kernel
theorem dL_law_352 : decode cL_law 352 = .ok (.iconst 1, 1) := by decide +kernel
theorem dL_law_353 : decode cL_law 353 = .ok (.iadd, 1) := by decide +kernel
theorem dL_law_354 : decode cL_law 354 = .ok (.iaload, 1) := by decide +kernel
theorem dL_law_355 : decode cL_law 355 = .ok (.invokevirtual 54, 3) := by decide +kernel
theorem dL_law_358 : decode cL_law 358 = .ok (.aload_n 2, 1) := by decide +kernel
theorem dL_law_359 : decode cL_law 359 = .ok (.aload_n 0, 1) := by decide +kernel
theorem dL_law_360 : decode cL_law 360 = .ok (.iload_n 3, 1) := by decide +kernel
theorem dL_law_361 : decode cL_law 361 = .ok (.iconst 1, 1) := by decide +kernel
theorem dL_law_362 : decode cL_law 362 = .ok (.iadd, 1) := by decide +kernel
theorem dL_law_363 : decode cL_law 363 = .ok (.iaload, 1) := by decide +kernel
theorem dL_law_364 : decode cL_law 364 = .ok (.invokevirtual 57, 3) := by decide +kernel
theorem dL_law_367 : decode cL_law 367 = .ok (.if_icmp .eq 93, 3) := by decide +kernel
theorem dL_law_370 : decode cL_law 370 = .ok (.iconst 0, 1) := by decide +kernel
theorem dL_law_371 : decode cL_law 371 = .ok (.ireturn, 1) := by decide +kernel
theorem dL_law_372 : decode cL_law 372 = .ok (.aload_n 1, 1) := by decide +kernel
theorem dL_law_373 : decode cL_law 373 = .ok (.invokevirtual 58, 3) := by decide +kernel
theorem dL_law_376 : decode cL_law 376 = .ok (.aload_n 2, 1) := by decide +kernel
theorem dL_law_377 : decode cL_law 377 = .ok (.invokevirtual 61, 3) := by decide +kernel
theorem dL_law_380 : decode cL_law 380 = .ok (.if_icmp .eq 80, 3) := by decide +kernel
theorem dL_law_383 : decode cL_law 383 = .ok (.iconst 0, 1) := by decide +kernel
theorem dL_law_384 : decode cL_law 384 = .ok (.ireturn, 1) := by decide +kernel
theorem dL_law_385 : decode cL_law 385 = .ok (.aload_n 1, 1) := by decide +kernel
theorem dL_law_386 : decode cL_law 386 = .ok (.aload_n 0, 1) := by decide +kernel
theorem dL_law_387 : decode cL_law 387 = .ok (.iload_n 3, 1) := by decide +kernel
theorem dL_law_388 : decode cL_law 388 = .ok (.iconst 1, 1) := by decide +kernel
theorem dL_law_389 : decode cL_law 389 = .ok (.iadd, 1) := by decide +kernel
theorem dL_law_390 : decode cL_law 390 = .ok (.iaload, 1) := by decide +kernel
theorem dL_law_391 : decode cL_law 391 = .ok (.invokevirtual 62, 3) := by decide +kernel
theorem dL_law_394 : decode cL_law 394 = .ok (.aload_n 2, 1) := by decide +kernel
theorem dL_law_395 : decode cL_law 395 = .ok (.aload_n 0, 1) := by decide +kernel
theorem dL_law_396 : decode cL_law 396 = .ok (.iload_n 3, 1) := by decide +kernel
theorem dL_law_397 : decode cL_law 397 = .ok (.iconst 1, 1) := by decide +kernel
theorem dL_law_398 : decode cL_law 398 = .ok (.iadd, 1) := by decide +kernel
theorem dL_law_399 : decode cL_law 399 = .ok (.iaload, 1) := by decide +kernel
theorem dL_law_400 : decode cL_law 400 = .ok (.invokevirtual 65, 3) := by decide +kernel
theorem dL_law_403 : decode cL_law 403 = .ok (.if_icmp .eq 57, 3) := by decide +kernel
theorem dL_law_406 : decode cL_law 406 = .ok (.iconst 0, 1) := by decide +kernel
theorem dL_law_407 : decode cL_law 407 = .ok (.ireturn, 1) := by decide +kernel
theorem dL_law_408 : decode cL_law 408 = .ok (.aload_n 1, 1) := by decide +kernel
theorem dL_law_409 : decode cL_law 409 = .ok (.invokevirtual 66, 3) := by decide +kernel
theorem dL_law_412 : decode cL_law 412 = .ok (.aload_n 2, 1) := by decide +kernel
theorem dL_law_413 : decode cL_law 413 = .ok (.invokevirtual 69, 3) := by decide +kernel
theorem dL_law_416 : decode cL_law 416 = .ok (.if_icmp .eq 44, 3) := by decide +kernel
theorem dL_law_419 : decode cL_law 419 = .ok (.iconst 0, 1) := by decide +kernel
theorem dL_law_420 : decode cL_law 420 = .ok (.ireturn, 1) := by decide +kernel
theorem dL_law_421 : decode cL_law 421 = .ok (.aload_n 1, 1) := by decide +kernel
theorem dL_law_422 : decode cL_law 422 = .ok (.invokevirtual 70, 3) := by decide +kernel
theorem dL_law_425 : decode cL_law 425 = .ok (.aload_n 2, 1) := by decide +kernel
theorem dL_law_426 : decode cL_law 426 = .ok (.invokevirtual 73, 3) := by decide +kernel
theorem dL_law_429 : decode cL_law 429 = .ok (.if_icmp .eq 31, 3) := by decide +kernel
theorem dL_law_432 : decode cL_law 432 = .ok (.iconst 0, 1) := by decide +kernel
theorem dL_law_433 : decode cL_law 433 = .ok (.ireturn, 1) := by decide +kernel
theorem dL_law_434 : decode cL_law 434 = .ok (.aload_n 1, 1) := by decide +kernel
theorem dL_law_435 : decode cL_law 435 = .ok (.invokevirtual 74, 3) := by decide +kernel
theorem dL_law_438 : decode cL_law 438 = .ok (.aload_n 2, 1) := by decide +kernel
theorem dL_law_439 : decode cL_law 439 = .ok (.invokevirtual 77, 3) := by decide +kernel
theorem dL_law_442 : decode cL_law 442 = .ok (.if_icmp .eq 18, 3) := by decide +kernel
theorem dL_law_445 : decode cL_law 445 = .ok (.iconst 0, 1) := by decide +kernel
theorem dL_law_446 : decode cL_law 446 = .ok (.ireturn, 1) := by decide +kernel
theorem dL_law_447 : decode cL_law 447 = .ok (.aload_n 1, 1) := by decide +kernel
theorem dL_law_448 : decode cL_law 448 = .ok (.invokevirtual 78, 3) := by decide +kernel
theorem dL_law_451 : decode cL_law 451 = .ok (.aload_n 2, 1) := by decide +kernel
theorem dL_law_452 : decode cL_law 452 = .ok (.invokevirtual 81, 3) := by decide +kernel
theorem dL_law_455 : decode cL_law 455 = .ok (.if_icmp .eq 5, 3) := by decide +kernel
theorem dL_law_458 : decode cL_law 458 = .ok (.iconst 0, 1) := by decide +kernel
theorem dL_law_459 : decode cL_law 459 = .ok (.ireturn, 1) := by decide +kernel
theorem dL_law_460 : decode cL_law 460 = .ok (.iinc 3 4, 3) := by decide +kernel
theorem dL_law_463 : decode cL_law 463 = .ok (.goto (-445), 3) := by decide +kernel
theorem dL_law_466 : decode cL_law 466 = .ok (.iconst 1, 1) := by decide +kernel
theorem dL_law_467 : decode cL_law 467 = .ok (.ireturn, 1) := by decide +kernel
end
section
set_option maxRecDepth 100000
/-! rows of mine: locals as a list of options; the state of an object as a function of field and place -/
abbrev vwCl : List vw_C := [(RX0, TX0, 11), (RX1, TX1, 7)]
abbrev cn_St : Type := Nat → Nat → Int32
def up2 (X : cn_St) (k j : Nat) (v : Int32) : cn_St := fun a => if a = k then upd (X a) j v else X a
theorem up2_k (X : cn_St) (k j : Nat) (v : Int32) : up2 X k j v k = upd (X k) j v := by simp [up2]
theorem up2_o (X : cn_St) {k a : Nat} (j : Nat) (v : Int32) (h : a ≠ k) : up2 X k j v a = X a := by simp [up2, h]
theorem up2_s (X : cn_St) (k j : Nat) (v : Int32) : up2 X k j v k j = v := by simp [up2, upd]
theorem up2_n (X : cn_St) (k : Nat) {j b : Nat} (v : Int32) (h : b ≠ j) : up2 X k j v k b = X k b := by simp [up2, upd, h]
def cn_lx (ls : Array Slot) (n : Nat) (f : List (Option Value)) : Prop := f.length = n ∧ ls.size = n ∧ lv_wf ls ∧ ∀ (i : Nat) (v : Value), f[i]? = some (some v) → v.category = 1 ∧ ls[i]? = some (.val v)
def cn_ll (f : List (Option Value)) (n : Nat) : List (Nat × Value) := (List.range n).filterMap (fun j => (f[j]?.join).map (fun v => (j, v)))
section CNA
variable {p : Program} {l : Launch} {e : Env} {R : Room} {s : State} {m : MethodId} {args : Array Value} {below : List Frame} {meth : Method} {c : Code} {H : Heap} {locs : List Loc} {cells slots : Nat} {Q : State → Prop}
variable {cc : ByteArray} {nL : Nat} {ret : Option FieldType} {pc : Nat} {ls : Array Slot} {rest : List Value} {f : List (Option Value)} {D : va_G} {G : Nat → Nat} {E : Nat → ClassId} {A : Nat → Prop} {H0 : Heap} {X : cn_St}
theorem lx_at (h : cn_lx ls nL f) (i : Nat) {v : Value} (hv : f[i]? = some (some v)) : ls[i]? = some (.val v) := (h.2.2.2 i v hv).2
theorem lx_sz (h : cn_lx ls nL f) : ls.size = nL := h.2.1
theorem lx_none (h : cn_lx ls nL f) (k : Nat) : cn_lx ls nL (f.set k none) := by
  refine ⟨by rw [List.length_set]; exact h.1, h.2.1, h.2.2.1, fun i v hv => h.2.2.2 i v ?_⟩
  by_cases hk : k = i
  · subst hk
    rw [List.getElem?_set] at hv
    rw [if_pos rfl] at hv
    split at hv
    · cases hv
    · cases hv
  · rwa [List.getElem?_set_ne hk] at hv
theorem lx_has (h : cn_lx ls nL f) : lv_has ls nL (cn_ll f nL) := by
  obtain ⟨h0, h1, h2, h3⟩ := h
  refine ⟨h1, h2, fun q hq => ?_⟩
  obtain ⟨j, -, hj⟩ := List.mem_filterMap.mp hq
  cases hf : f[j]? with
  | none => rw [hf] at hj; cases hj
  | some o =>
    cases o with
    | none => rw [hf] at hj; cases hj
    | some w => rw [hf] at hj; cases hj; exact (h3 j w hf).2
theorem lx_mem (h : cn_lx ls nL f) {j : Nat} {w : Value} (hj : f[j]? = some (some w)) : (j, w) ∈ cn_ll f nL :=
  List.mem_filterMap.mpr ⟨j, List.mem_range.mpr (by rw [← h.2.1]; exact lv_lt (h.2.2.2 j w hj).2), by rw [hj]; rfl⟩
theorem lx_set {ls' : Array Slot} {i : Nat} {v : Value} (h : cn_lx ls nL f) (hi : i < nL) (hc : v.category = 1) (g : lv_has ls' nL ((i, v) :: (cn_ll f nL).filter (fun q => !(q.1 == i) && !(q.1 + 1 == i && q.2.category == 2)))) : cn_lx ls' nL (f.set i (some v)) := by
  obtain ⟨g1, g2, g3⟩ := g
  refine ⟨by rw [List.length_set]; exact h.1, g1, g2, fun j w hj => ?_⟩
  by_cases hij : i = j
  · subst hij
    rw [List.getElem?_set_self (by rw [h.1]; exact hi)] at hj
    cases hj
    exact ⟨hc, g3 (i, v) List.mem_cons_self⟩
  · rw [List.getElem?_set_ne hij] at hj
    have k1 := (h.2.2.2 j w hj).1
    refine ⟨k1, g3 (j, w) (List.mem_cons_of_mem _ (List.mem_filter.mpr ⟨lx_mem h hj, ?_⟩))⟩
    simp [k1, Ne.symm hij]
theorem lx_istore_n {k : Fin 4} {i : Nat} {x : Int32} (hx : p.tables.exec = Jvm.exec) (hb : c.code = cc) (hdg : decode cc pc = .ok (.istore_n k, 1)) (hi : (k : Nat) = i) (h : cn_lx ls nL f) (hn : i < nL)
    (kk : ∀ ls' : Array Slot, cn_lx ls' nL (f.set i (some (.int x))) → W p l e R s m args below meth c H locs cells slots Q (F0 m (pc + 1) ls' rest)) : W p l e R s m args below meth c H locs cells slots Q (F0 m pc ls (.int x :: rest)) :=
  lv_istore_n hx hb hdg hi (lx_has h) hn rfl (fun ls' h' => kk ls' (lx_set h hn rfl h'))
theorem lx_istore {i : Nat} {x : Int32} (hx : p.tables.exec = Jvm.exec) (hb : c.code = cc) (hdg : decode cc pc = .ok (.istore i, 2)) (h : cn_lx ls nL f) (hn : i < nL)
    (kk : ∀ ls' : Array Slot, cn_lx ls' nL (f.set i (some (.int x))) → W p l e R s m args below meth c H locs cells slots Q (F0 m (pc + 2) ls' rest)) : W p l e R s m args below meth c H locs cells slots Q (F0 m pc ls (.int x :: rest)) :=
  lv_istore hx hb hdg (lx_has h) hn rfl (fun ls' h' => kk ls' (lx_set h hn rfl h'))
theorem lx_iinc {i : Nat} {n : Int} {x v : Int32} (hx : p.tables.exec = Jvm.exec) (hb : c.code = cc) (hdg : decode cc pc = .ok (.iinc i n, 3)) (h : cn_lx ls nL f) (hf : f[i]? = some (some (.int x))) (hv : x + Int32.ofInt n = v)
    (kk : ∀ ls' : Array Slot, cn_lx ls' nL (f.set i (some (.int v))) → W p l e R s m args below meth c H locs cells slots Q (F0 m (pc + 3) ls' rest)) : W p l e R s m args below meth c H locs cells slots Q (F0 m pc ls rest) := by
  have hn : i < nL := by rw [← h.2.1]; exact lv_lt (lx_at h i hf)
  obtain ⟨k, hk⟩ := List.getElem?_of_mem (lx_mem h hf)
  exact lv_iinc hx hb hdg (lx_has h) hk hv hn rfl (fun ls' h' => kk ls' (lx_set h hn rfl h'))
theorem lx_iinc1 {i j : Nat} (hx : p.tables.exec = Jvm.exec) (hb : c.code = cc) (hdg : decode cc pc = .ok (.iinc i 1, 3)) (h : cn_lx ls nL f) (hf : f[i]? = some (some (.int (nI j))))
    (kk : ∀ ls' : Array Slot, cn_lx ls' nL (f.set i (some (.int (nI (j + 1))))) → W p l e R s m args below meth c H locs cells slots Q (F0 m (pc + 3) ls' rest)) : W p l e R s m args below meth c H locs cells slots Q (F0 m pc ls rest) :=
  lx_iinc hx hb hdg h hf (nI_1 j) kk
theorem lx_iincp {i : Nat} {x : Int32} (hx : p.tables.exec = Jvm.exec) (hb : c.code = cc) (hdg : decode cc pc = .ok (.iinc i 1, 3)) (h : cn_lx ls nL f) (hf : f[i]? = some (some (.int x)))
    (kk : ∀ ls' : Array Slot, cn_lx ls' nL (f.set i (some (.int (x + 1)))) → W p l e R s m args below meth c H locs cells slots Q (F0 m (pc + 3) ls' rest)) : W p l e R s m args below meth c H locs cells slots Q (F0 m pc ls rest) :=
  lx_iinc hx hb hdg h hf rfl kk
theorem cn_args (vs : List Value) : ∀ (i : Nat), (∀ v ∈ vs, v.category = 1) → ∀ (j : Nat) (v : Value), vs[j]? = some v → (i + j, v) ∈ lv_args i vs := by
  induction vs with
  | nil => intro i _ j v h; simp at h
  | cons w vs ih =>
    intro i hc j v h
    have hw : w.category = 1 := hc w List.mem_cons_self
    have e : lv_args i (w :: vs) = (i, w) :: lv_args (i + 1) vs := by
      show (i, w) :: lv_args (if w.category = 2 then i + 2 else i + 1) vs = _
      rw [if_neg (by rw [hw]; decide)]
    rw [e]
    cases j with
    | zero =>
      rw [List.getElem?_cons_zero] at h
      cases h
      exact List.mem_cons_self
    | succ j =>
      rw [List.getElem?_cons_succ] at h
      have := ih (i + 1) (fun v hv => hc v (List.mem_cons_of_mem _ hv)) j v h
      rw [show i + (j + 1) = i + 1 + j by omega]
      exact List.mem_cons_of_mem _ this
theorem cn_entry {vs : List Value} {f0 : List (Option Value)} (hc : ∀ v ∈ vs, v.category = 1) (hf : f0 = vs.map some ++ List.replicate (nL - vs.length) none) (hn : vs.length ≤ nL) (h : lv_has ls nL (lv_args 0 vs)) : cn_lx ls nL f0 := by
  obtain ⟨h1, h2, h3⟩ := h
  subst hf
  refine ⟨by simp; omega, h1, h2, fun i v hv => ?_⟩
  by_cases hi : i < vs.length
  · rw [List.getElem?_append_left (by simpa using hi), List.getElem?_map] at hv
    cases hq : vs[i]? with
    | none => rw [hq] at hv; cases hv
    | some w =>
      rw [hq] at hv
      cases hv
      refine ⟨hc v (List.mem_of_getElem? hq), ?_⟩
      have := h3 (0 + i, v) (cn_args vs 0 hc i v hq)
      rw [Nat.zero_add] at this
      exact this
  · rw [List.getElem?_append_right (by simpa using hi)] at hv
    have := List.eq_of_mem_replicate (List.mem_of_getElem? hv)
    cases this
end CNA
def cn_C (own : String) (D : va_G) (tys : List (ClassId × FieldType)) (p : Program) (s : State) (m : MethodId) (args : Array Value) (meth : Method) (c : Code) (cc : ByteArray) (nL : Nat) (ret : Option FieldType) : Prop :=
  p.tables.exec = Jvm.exec ∧ c.code = cc ∧ c.maxLocals = nL ∧ s.vm.findClass own = some m.cls ∧ (∀ w ∈ lw_all, w.before args s = true) ∧ va_K D vwCl tys s ∧ meth.sig.returnType = ret ∧ meth.locks = false
def cn_V (D : va_G) (Wf : cn_St → va_W) (A : Nat → Prop) (H0 : Heap) (X : cn_St) (H : Heap) (locs : List Loc) : Prop :=
  va_P D vwCl (Wf X) H ∧ va_D A (Wf X) ∧ va_S A H0 H locs ∧ ∀ q : Nat, H0.size ≤ q → A q
abbrev cn_Fx (G : Nat → Nat) (X : cn_St) : List Value := [.ref (G 0), .int (X 1 0), .int (X 2 0), .int (X 3 0), .int (X 4 0), .ref (G 5), .ref (G 6), .ref (G 7), .ref (G 8), .ref (G 9), .ref (G 10)]
abbrev cn_Wx (G : Nat → Nat) (E : Nat → ClassId) (X : cn_St) : va_W := [(G 11, .inr (0, cn_Fx G X)), (G 0, .inl (E 0, 81, .inl (X 0))), (G 5, .inl (E 5, 81, .inl (X 5))), (G 6, .inl (E 6, 81, .inl (X 6))), (G 7, .inl (E 7, 81, .inl (X 7))), (G 8, .inl (E 8, 81, .inl (X 8))), (G 9, .inl (E 9, 81, .inl (X 9))), (G 10, .inl (E 10, 81, .inl (X 10)))]
abbrev cn_tx (E : Nat → ClassId) : List (ClassId × FieldType) := [(E 0, .boolean), (E 5, .int), (E 6, .int), (E 7, .boolean), (E 8, .int), (E 9, .int), (E 10, .int)]
def cn_Ax (G : Nat → Nat) (sz : Nat) : Nat → Prop := fun q => q ∈ [G 11, G 0, G 5, G 6, G 7, G 8, G 9, G 10] ∨ sz ≤ q
section CNx
variable {p : Program} {l : Launch} {e : Env} {R : Room} {s : State} {m : MethodId} {args : Array Value} {below : List Frame} {meth : Method} {c : Code} {H : Heap} {locs : List Loc} {cells slots : Nat} {Q : State → Prop}
variable {cc : ByteArray} {nL : Nat} {ret : Option FieldType} {pc : Nat} {ls : Array Slot} {rest : List Value} {f : List (Option Value)} {D : va_G} {G : Nat → Nat} {E : Nat → ClassId} {A : Nat → Prop} {H0 : Heap} {X : cn_St}
theorem xg_0 (C : cn_C RX0 D (cn_tx E) p s m args meth c cc nL ret) (hV : cn_V D (cn_Wx G E) A H0 X H locs) (hdg : decode cc pc = .ok (.getfield 7, 3)) (kk : W p l e R s m args below meth c H locs cells slots Q (F0 m (pc + 3) ls (.ref (G 0) :: rest))) : W p l e R s m args below meth c H locs cells slots Q (F0 m pc ls (.ref (G 11) :: rest)) :=
  va_get (D := D) (ci := 0) (v := .ref (G 0)) (C := RX0) (T := TX0) (N := 11) C.1 C.2.1 C.2.2.2.2.1 in_X0 C.2.2.2.1 C.2.2.2.2.2.1 hV.1 0 rfl rfl 0 (by decide) (C.2.2.2.2.1 _ q34) (fun _ h9 => h9) rfl hdg kk
theorem xl_0 (C : cn_C RX0 D (cn_tx E) p s m args meth c cc nL ret) (hV : cn_V D (cn_Wx G E) A H0 X H locs) {j : Nat} (hj : j < 81) (hdg : decode cc pc = .ok (.baload, 1)) (kk : W p l e R s m args below meth c H locs cells slots Q (F0 m (pc + 1) ls (.int (X 0 j) :: rest))) : W p l e R s m args below meth c H locs cells slots Q (F0 m pc ls (.int (nI j) :: .ref (G 0) :: rest)) :=
  va_zald C.1 C.2.1 C.2.2.2.2.2.1 hV.1 1 0 rfl rfl (vp_in_nI hj (by decide)) hdg (by rw [nI_clamp (Nat.lt_trans hj (by decide))]; exact kk)
theorem xs_0 (C : cn_C RX0 D (cn_tx E) p s m args meth c cc nL ret) (hV : cn_V D (cn_Wx G E) A H0 X H locs) {j : Nat} {x : Int32} (hj : j < 81) (hx : x = 0 ∨ x = 1) (hdg : decode cc pc = .ok (.bastore, 1)) (kk : ∀ (H1 : Heap) (locs1 : List Loc), cn_V D (cn_Wx G E) A H0 (up2 X 0 j x) H1 locs1 → W p l e R s m args below meth c H1 locs1 cells slots Q (F0 m (pc + 1) ls rest)) : W p l e R s m args below meth c H locs cells slots Q (F0 m pc ls (.int x :: .int (nI j) :: .ref (G 0) :: rest)) := by
  refine va_zast C.1 C.2.1 C.2.2.2.2.2.1 hV.1 hV.2.1 hV.2.2.1 1 0 rfl rfl (vp_in_nI hj (by decide)) hdg (fun H1 locs1 h1 h2 h3 => ?_)
  rw [nI_clamp (Nat.lt_trans hj (by decide)), show vp_nar .boolean x = x by rcases hx with rfl | rfl <;> rfl] at h1 h2
  exact kk H1 locs1 ⟨h1, h2, h3, hV.2.2.2⟩
theorem xg_1 (C : cn_C RX0 D (cn_tx E) p s m args meth c cc nL ret) (hV : cn_V D (cn_Wx G E) A H0 X H locs) (hdg : decode cc pc = .ok (.getfield 32, 3)) (kk : W p l e R s m args below meth c H locs cells slots Q (F0 m (pc + 3) ls (.int (X 1 0) :: rest))) : W p l e R s m args below meth c H locs cells slots Q (F0 m pc ls (.ref (G 11) :: rest)) :=
  va_get (D := D) (ci := 0) (v := .int (X 1 0)) (C := RX0) (T := TX0) (N := 11) C.1 C.2.1 C.2.2.2.2.1 in_X0 C.2.2.2.1 C.2.2.2.2.2.1 hV.1 0 rfl rfl 1 (by decide) (C.2.2.2.2.1 _ q35) (fun _ h9 => h9) rfl hdg kk
theorem xp_1 (C : cn_C RX0 D (cn_tx E) p s m args meth c cc nL ret) (hV : cn_V D (cn_Wx G E) A H0 X H locs) {x : Int32} (hdg : decode cc pc = .ok (.putfield 32, 3)) (kk : ∀ (H1 : Heap) (locs1 : List Loc), cn_V D (cn_Wx G E) A H0 (up2 X 1 0 x) H1 locs1 → W p l e R s m args below meth c H1 locs1 cells slots Q (F0 m (pc + 3) ls rest)) : W p l e R s m args below meth c H locs cells slots Q (F0 m pc ls (.int x :: .ref (G 11) :: rest)) :=
  va_put (D := D) (ci := 0) (v := .int x) (ty := .int) (C := RX0) (T := TX0) (N := 11) C.1 C.2.1 C.2.2.2.2.1 in_X0 tyX0 tyX0_ok nmX0 C.2.2.2.1 C.2.2.2.2.2.1 hV.1 hV.2.1 hV.2.2.1 0 rfl rfl 1 (by decide) (C.2.2.2.2.1 _ q35) (fun _ h9 => h9) rfl (by decide +kernel) rfl rfl (Nat.le_of_ble_eq_true rfl) hdg (fun H1 locs1 h1 h2 h3 => kk H1 locs1 ⟨h1, h2, h3, hV.2.2.2⟩)
theorem xg_2 (C : cn_C RX0 D (cn_tx E) p s m args meth c cc nL ret) (hV : cn_V D (cn_Wx G E) A H0 X H locs) (hdg : decode cc pc = .ok (.getfield 36, 3)) (kk : W p l e R s m args below meth c H locs cells slots Q (F0 m (pc + 3) ls (.int (X 2 0) :: rest))) : W p l e R s m args below meth c H locs cells slots Q (F0 m pc ls (.ref (G 11) :: rest)) :=
  va_get (D := D) (ci := 0) (v := .int (X 2 0)) (C := RX0) (T := TX0) (N := 11) C.1 C.2.1 C.2.2.2.2.1 in_X0 C.2.2.2.1 C.2.2.2.2.2.1 hV.1 0 rfl rfl 2 (by decide) (C.2.2.2.2.1 _ q36) (fun _ h9 => h9) rfl hdg kk
theorem xp_2 (C : cn_C RX0 D (cn_tx E) p s m args meth c cc nL ret) (hV : cn_V D (cn_Wx G E) A H0 X H locs) {x : Int32} (hdg : decode cc pc = .ok (.putfield 36, 3)) (kk : ∀ (H1 : Heap) (locs1 : List Loc), cn_V D (cn_Wx G E) A H0 (up2 X 2 0 x) H1 locs1 → W p l e R s m args below meth c H1 locs1 cells slots Q (F0 m (pc + 3) ls rest)) : W p l e R s m args below meth c H locs cells slots Q (F0 m pc ls (.int x :: .ref (G 11) :: rest)) :=
  va_put (D := D) (ci := 0) (v := .int x) (ty := .int) (C := RX0) (T := TX0) (N := 11) C.1 C.2.1 C.2.2.2.2.1 in_X0 tyX0 tyX0_ok nmX0 C.2.2.2.1 C.2.2.2.2.2.1 hV.1 hV.2.1 hV.2.2.1 0 rfl rfl 2 (by decide) (C.2.2.2.2.1 _ q36) (fun _ h9 => h9) rfl (by decide +kernel) rfl rfl (Nat.le_of_ble_eq_true rfl) hdg (fun H1 locs1 h1 h2 h3 => kk H1 locs1 ⟨h1, h2, h3, hV.2.2.2⟩)
theorem xg_3 (C : cn_C RX0 D (cn_tx E) p s m args meth c cc nL ret) (hV : cn_V D (cn_Wx G E) A H0 X H locs) (hdg : decode cc pc = .ok (.getfield 93, 3)) (kk : W p l e R s m args below meth c H locs cells slots Q (F0 m (pc + 3) ls (.int (X 3 0) :: rest))) : W p l e R s m args below meth c H locs cells slots Q (F0 m pc ls (.ref (G 11) :: rest)) :=
  va_get (D := D) (ci := 0) (v := .int (X 3 0)) (C := RX0) (T := TX0) (N := 11) C.1 C.2.1 C.2.2.2.2.1 in_X0 C.2.2.2.1 C.2.2.2.2.2.1 hV.1 0 rfl rfl 3 (by decide) (C.2.2.2.2.1 _ q37) (fun _ h9 => h9) rfl hdg kk
theorem xp_3 (C : cn_C RX0 D (cn_tx E) p s m args meth c cc nL ret) (hV : cn_V D (cn_Wx G E) A H0 X H locs) {x : Int32} (hdg : decode cc pc = .ok (.putfield 93, 3)) (kk : ∀ (H1 : Heap) (locs1 : List Loc), cn_V D (cn_Wx G E) A H0 (up2 X 3 0 x) H1 locs1 → W p l e R s m args below meth c H1 locs1 cells slots Q (F0 m (pc + 3) ls rest)) : W p l e R s m args below meth c H locs cells slots Q (F0 m pc ls (.int x :: .ref (G 11) :: rest)) :=
  va_put (D := D) (ci := 0) (v := .int x) (ty := .int) (C := RX0) (T := TX0) (N := 11) C.1 C.2.1 C.2.2.2.2.1 in_X0 tyX0 tyX0_ok nmX0 C.2.2.2.1 C.2.2.2.2.2.1 hV.1 hV.2.1 hV.2.2.1 0 rfl rfl 3 (by decide) (C.2.2.2.2.1 _ q37) (fun _ h9 => h9) rfl (by decide +kernel) rfl rfl (Nat.le_of_ble_eq_true rfl) hdg (fun H1 locs1 h1 h2 h3 => kk H1 locs1 ⟨h1, h2, h3, hV.2.2.2⟩)
theorem xg_4 (C : cn_C RX0 D (cn_tx E) p s m args meth c cc nL ret) (hV : cn_V D (cn_Wx G E) A H0 X H locs) (hdg : decode cc pc = .ok (.getfield 39, 3)) (kk : W p l e R s m args below meth c H locs cells slots Q (F0 m (pc + 3) ls (.int (X 4 0) :: rest))) : W p l e R s m args below meth c H locs cells slots Q (F0 m pc ls (.ref (G 11) :: rest)) :=
  va_get (D := D) (ci := 0) (v := .int (X 4 0)) (C := RX0) (T := TX0) (N := 11) C.1 C.2.1 C.2.2.2.2.1 in_X0 C.2.2.2.1 C.2.2.2.2.2.1 hV.1 0 rfl rfl 4 (by decide) (C.2.2.2.2.1 _ q38) (fun _ h9 => h9) rfl hdg kk
theorem xp_4 (C : cn_C RX0 D (cn_tx E) p s m args meth c cc nL ret) (hV : cn_V D (cn_Wx G E) A H0 X H locs) {x : Int32} (hdg : decode cc pc = .ok (.putfield 39, 3)) (kk : ∀ (H1 : Heap) (locs1 : List Loc), cn_V D (cn_Wx G E) A H0 (up2 X 4 0 x) H1 locs1 → W p l e R s m args below meth c H1 locs1 cells slots Q (F0 m (pc + 3) ls rest)) : W p l e R s m args below meth c H locs cells slots Q (F0 m pc ls (.int x :: .ref (G 11) :: rest)) :=
  va_put (D := D) (ci := 0) (v := .int x) (ty := .int) (C := RX0) (T := TX0) (N := 11) C.1 C.2.1 C.2.2.2.2.1 in_X0 tyX0 tyX0_ok nmX0 C.2.2.2.1 C.2.2.2.2.2.1 hV.1 hV.2.1 hV.2.2.1 0 rfl rfl 4 (by decide) (C.2.2.2.2.1 _ q38) (fun _ h9 => h9) rfl (by decide +kernel) rfl rfl (Nat.le_of_ble_eq_true rfl) hdg (fun H1 locs1 h1 h2 h3 => kk H1 locs1 ⟨h1, h2, h3, hV.2.2.2⟩)
theorem xg_5 (C : cn_C RX0 D (cn_tx E) p s m args meth c cc nL ret) (hV : cn_V D (cn_Wx G E) A H0 X H locs) (hdg : decode cc pc = .ok (.getfield 13, 3)) (kk : W p l e R s m args below meth c H locs cells slots Q (F0 m (pc + 3) ls (.ref (G 5) :: rest))) : W p l e R s m args below meth c H locs cells slots Q (F0 m pc ls (.ref (G 11) :: rest)) :=
  va_get (D := D) (ci := 0) (v := .ref (G 5)) (C := RX0) (T := TX0) (N := 11) C.1 C.2.1 C.2.2.2.2.1 in_X0 C.2.2.2.1 C.2.2.2.2.2.1 hV.1 0 rfl rfl 5 (by decide) (C.2.2.2.2.1 _ q39) (fun _ h9 => h9) rfl hdg kk
theorem xl_5 (C : cn_C RX0 D (cn_tx E) p s m args meth c cc nL ret) (hV : cn_V D (cn_Wx G E) A H0 X H locs) {j : Nat} (hj : j < 81) (hdg : decode cc pc = .ok (.iaload, 1)) (kk : W p l e R s m args below meth c H locs cells slots Q (F0 m (pc + 1) ls (.int (X 5 j) :: rest))) : W p l e R s m args below meth c H locs cells slots Q (F0 m pc ls (.int (nI j) :: .ref (G 5) :: rest)) :=
  va_iald C.1 C.2.1 C.2.2.2.2.2.1 hV.1 2 1 rfl rfl (vp_in_nI hj (by decide)) hdg (by rw [nI_clamp (Nat.lt_trans hj (by decide))]; exact kk)
theorem xs_5 (C : cn_C RX0 D (cn_tx E) p s m args meth c cc nL ret) (hV : cn_V D (cn_Wx G E) A H0 X H locs) {j : Nat} {x : Int32} (hj : j < 81) (hdg : decode cc pc = .ok (.iastore, 1)) (kk : ∀ (H1 : Heap) (locs1 : List Loc), cn_V D (cn_Wx G E) A H0 (up2 X 5 j x) H1 locs1 → W p l e R s m args below meth c H1 locs1 cells slots Q (F0 m (pc + 1) ls rest)) : W p l e R s m args below meth c H locs cells slots Q (F0 m pc ls (.int x :: .int (nI j) :: .ref (G 5) :: rest)) := by
  refine va_iast C.1 C.2.1 C.2.2.2.2.2.1 hV.1 hV.2.1 hV.2.2.1 2 1 rfl rfl (vp_in_nI hj (by decide)) hdg (fun H1 locs1 h1 h2 h3 => ?_)
  rw [nI_clamp (Nat.lt_trans hj (by decide))] at h1 h2
  exact kk H1 locs1 ⟨h1, h2, h3, hV.2.2.2⟩
theorem xg_6 (C : cn_C RX0 D (cn_tx E) p s m args meth c cc nL ret) (hV : cn_V D (cn_Wx G E) A H0 X H locs) (hdg : decode cc pc = .ok (.getfield 17, 3)) (kk : W p l e R s m args below meth c H locs cells slots Q (F0 m (pc + 3) ls (.ref (G 6) :: rest))) : W p l e R s m args below meth c H locs cells slots Q (F0 m pc ls (.ref (G 11) :: rest)) :=
  va_get (D := D) (ci := 0) (v := .ref (G 6)) (C := RX0) (T := TX0) (N := 11) C.1 C.2.1 C.2.2.2.2.1 in_X0 C.2.2.2.1 C.2.2.2.2.2.1 hV.1 0 rfl rfl 6 (by decide) (C.2.2.2.2.1 _ q40) (fun _ h9 => h9) rfl hdg kk
theorem xl_6 (C : cn_C RX0 D (cn_tx E) p s m args meth c cc nL ret) (hV : cn_V D (cn_Wx G E) A H0 X H locs) {j : Nat} (hj : j < 81) (hdg : decode cc pc = .ok (.iaload, 1)) (kk : W p l e R s m args below meth c H locs cells slots Q (F0 m (pc + 1) ls (.int (X 6 j) :: rest))) : W p l e R s m args below meth c H locs cells slots Q (F0 m pc ls (.int (nI j) :: .ref (G 6) :: rest)) :=
  va_iald C.1 C.2.1 C.2.2.2.2.2.1 hV.1 3 2 rfl rfl (vp_in_nI hj (by decide)) hdg (by rw [nI_clamp (Nat.lt_trans hj (by decide))]; exact kk)
theorem xs_6 (C : cn_C RX0 D (cn_tx E) p s m args meth c cc nL ret) (hV : cn_V D (cn_Wx G E) A H0 X H locs) {j : Nat} {x : Int32} (hj : j < 81) (hdg : decode cc pc = .ok (.iastore, 1)) (kk : ∀ (H1 : Heap) (locs1 : List Loc), cn_V D (cn_Wx G E) A H0 (up2 X 6 j x) H1 locs1 → W p l e R s m args below meth c H1 locs1 cells slots Q (F0 m (pc + 1) ls rest)) : W p l e R s m args below meth c H locs cells slots Q (F0 m pc ls (.int x :: .int (nI j) :: .ref (G 6) :: rest)) := by
  refine va_iast C.1 C.2.1 C.2.2.2.2.2.1 hV.1 hV.2.1 hV.2.2.1 3 2 rfl rfl (vp_in_nI hj (by decide)) hdg (fun H1 locs1 h1 h2 h3 => ?_)
  rw [nI_clamp (Nat.lt_trans hj (by decide))] at h1 h2
  exact kk H1 locs1 ⟨h1, h2, h3, hV.2.2.2⟩
theorem xg_7 (C : cn_C RX0 D (cn_tx E) p s m args meth c cc nL ret) (hV : cn_V D (cn_Wx G E) A H0 X H locs) (hdg : decode cc pc = .ok (.getfield 20, 3)) (kk : W p l e R s m args below meth c H locs cells slots Q (F0 m (pc + 3) ls (.ref (G 7) :: rest))) : W p l e R s m args below meth c H locs cells slots Q (F0 m pc ls (.ref (G 11) :: rest)) :=
  va_get (D := D) (ci := 0) (v := .ref (G 7)) (C := RX0) (T := TX0) (N := 11) C.1 C.2.1 C.2.2.2.2.1 in_X0 C.2.2.2.1 C.2.2.2.2.2.1 hV.1 0 rfl rfl 7 (by decide) (C.2.2.2.2.1 _ q41) (fun _ h9 => h9) rfl hdg kk
theorem xl_7 (C : cn_C RX0 D (cn_tx E) p s m args meth c cc nL ret) (hV : cn_V D (cn_Wx G E) A H0 X H locs) {j : Nat} (hj : j < 81) (hdg : decode cc pc = .ok (.baload, 1)) (kk : W p l e R s m args below meth c H locs cells slots Q (F0 m (pc + 1) ls (.int (X 7 j) :: rest))) : W p l e R s m args below meth c H locs cells slots Q (F0 m pc ls (.int (nI j) :: .ref (G 7) :: rest)) :=
  va_zald C.1 C.2.1 C.2.2.2.2.2.1 hV.1 4 3 rfl rfl (vp_in_nI hj (by decide)) hdg (by rw [nI_clamp (Nat.lt_trans hj (by decide))]; exact kk)
theorem xs_7 (C : cn_C RX0 D (cn_tx E) p s m args meth c cc nL ret) (hV : cn_V D (cn_Wx G E) A H0 X H locs) {j : Nat} {x : Int32} (hj : j < 81) (hx : x = 0 ∨ x = 1) (hdg : decode cc pc = .ok (.bastore, 1)) (kk : ∀ (H1 : Heap) (locs1 : List Loc), cn_V D (cn_Wx G E) A H0 (up2 X 7 j x) H1 locs1 → W p l e R s m args below meth c H1 locs1 cells slots Q (F0 m (pc + 1) ls rest)) : W p l e R s m args below meth c H locs cells slots Q (F0 m pc ls (.int x :: .int (nI j) :: .ref (G 7) :: rest)) := by
  refine va_zast C.1 C.2.1 C.2.2.2.2.2.1 hV.1 hV.2.1 hV.2.2.1 4 3 rfl rfl (vp_in_nI hj (by decide)) hdg (fun H1 locs1 h1 h2 h3 => ?_)
  rw [nI_clamp (Nat.lt_trans hj (by decide)), show vp_nar .boolean x = x by rcases hx with rfl | rfl <;> rfl] at h1 h2
  exact kk H1 locs1 ⟨h1, h2, h3, hV.2.2.2⟩
theorem xg_8 (C : cn_C RX0 D (cn_tx E) p s m args meth c cc nL ret) (hV : cn_V D (cn_Wx G E) A H0 X H locs) (hdg : decode cc pc = .ok (.getfield 23, 3)) (kk : W p l e R s m args below meth c H locs cells slots Q (F0 m (pc + 3) ls (.ref (G 8) :: rest))) : W p l e R s m args below meth c H locs cells slots Q (F0 m pc ls (.ref (G 11) :: rest)) :=
  va_get (D := D) (ci := 0) (v := .ref (G 8)) (C := RX0) (T := TX0) (N := 11) C.1 C.2.1 C.2.2.2.2.1 in_X0 C.2.2.2.1 C.2.2.2.2.2.1 hV.1 0 rfl rfl 8 (by decide) (C.2.2.2.2.1 _ q42) (fun _ h9 => h9) rfl hdg kk
theorem xl_8 (C : cn_C RX0 D (cn_tx E) p s m args meth c cc nL ret) (hV : cn_V D (cn_Wx G E) A H0 X H locs) {j : Nat} (hj : j < 81) (hdg : decode cc pc = .ok (.iaload, 1)) (kk : W p l e R s m args below meth c H locs cells slots Q (F0 m (pc + 1) ls (.int (X 8 j) :: rest))) : W p l e R s m args below meth c H locs cells slots Q (F0 m pc ls (.int (nI j) :: .ref (G 8) :: rest)) :=
  va_iald C.1 C.2.1 C.2.2.2.2.2.1 hV.1 5 4 rfl rfl (vp_in_nI hj (by decide)) hdg (by rw [nI_clamp (Nat.lt_trans hj (by decide))]; exact kk)
theorem xs_8 (C : cn_C RX0 D (cn_tx E) p s m args meth c cc nL ret) (hV : cn_V D (cn_Wx G E) A H0 X H locs) {j : Nat} {x : Int32} (hj : j < 81) (hdg : decode cc pc = .ok (.iastore, 1)) (kk : ∀ (H1 : Heap) (locs1 : List Loc), cn_V D (cn_Wx G E) A H0 (up2 X 8 j x) H1 locs1 → W p l e R s m args below meth c H1 locs1 cells slots Q (F0 m (pc + 1) ls rest)) : W p l e R s m args below meth c H locs cells slots Q (F0 m pc ls (.int x :: .int (nI j) :: .ref (G 8) :: rest)) := by
  refine va_iast C.1 C.2.1 C.2.2.2.2.2.1 hV.1 hV.2.1 hV.2.2.1 5 4 rfl rfl (vp_in_nI hj (by decide)) hdg (fun H1 locs1 h1 h2 h3 => ?_)
  rw [nI_clamp (Nat.lt_trans hj (by decide))] at h1 h2
  exact kk H1 locs1 ⟨h1, h2, h3, hV.2.2.2⟩
theorem xg_9 (C : cn_C RX0 D (cn_tx E) p s m args meth c cc nL ret) (hV : cn_V D (cn_Wx G E) A H0 X H locs) (hdg : decode cc pc = .ok (.getfield 26, 3)) (kk : W p l e R s m args below meth c H locs cells slots Q (F0 m (pc + 3) ls (.ref (G 9) :: rest))) : W p l e R s m args below meth c H locs cells slots Q (F0 m pc ls (.ref (G 11) :: rest)) :=
  va_get (D := D) (ci := 0) (v := .ref (G 9)) (C := RX0) (T := TX0) (N := 11) C.1 C.2.1 C.2.2.2.2.1 in_X0 C.2.2.2.1 C.2.2.2.2.2.1 hV.1 0 rfl rfl 9 (by decide) (C.2.2.2.2.1 _ q43) (fun _ h9 => h9) rfl hdg kk
theorem xl_9 (C : cn_C RX0 D (cn_tx E) p s m args meth c cc nL ret) (hV : cn_V D (cn_Wx G E) A H0 X H locs) {j : Nat} (hj : j < 81) (hdg : decode cc pc = .ok (.iaload, 1)) (kk : W p l e R s m args below meth c H locs cells slots Q (F0 m (pc + 1) ls (.int (X 9 j) :: rest))) : W p l e R s m args below meth c H locs cells slots Q (F0 m pc ls (.int (nI j) :: .ref (G 9) :: rest)) :=
  va_iald C.1 C.2.1 C.2.2.2.2.2.1 hV.1 6 5 rfl rfl (vp_in_nI hj (by decide)) hdg (by rw [nI_clamp (Nat.lt_trans hj (by decide))]; exact kk)
theorem xs_9 (C : cn_C RX0 D (cn_tx E) p s m args meth c cc nL ret) (hV : cn_V D (cn_Wx G E) A H0 X H locs) {j : Nat} {x : Int32} (hj : j < 81) (hdg : decode cc pc = .ok (.iastore, 1)) (kk : ∀ (H1 : Heap) (locs1 : List Loc), cn_V D (cn_Wx G E) A H0 (up2 X 9 j x) H1 locs1 → W p l e R s m args below meth c H1 locs1 cells slots Q (F0 m (pc + 1) ls rest)) : W p l e R s m args below meth c H locs cells slots Q (F0 m pc ls (.int x :: .int (nI j) :: .ref (G 9) :: rest)) := by
  refine va_iast C.1 C.2.1 C.2.2.2.2.2.1 hV.1 hV.2.1 hV.2.2.1 6 5 rfl rfl (vp_in_nI hj (by decide)) hdg (fun H1 locs1 h1 h2 h3 => ?_)
  rw [nI_clamp (Nat.lt_trans hj (by decide))] at h1 h2
  exact kk H1 locs1 ⟨h1, h2, h3, hV.2.2.2⟩
theorem xg_10 (C : cn_C RX0 D (cn_tx E) p s m args meth c cc nL ret) (hV : cn_V D (cn_Wx G E) A H0 X H locs) (hdg : decode cc pc = .ok (.getfield 29, 3)) (kk : W p l e R s m args below meth c H locs cells slots Q (F0 m (pc + 3) ls (.ref (G 10) :: rest))) : W p l e R s m args below meth c H locs cells slots Q (F0 m pc ls (.ref (G 11) :: rest)) :=
  va_get (D := D) (ci := 0) (v := .ref (G 10)) (C := RX0) (T := TX0) (N := 11) C.1 C.2.1 C.2.2.2.2.1 in_X0 C.2.2.2.1 C.2.2.2.2.2.1 hV.1 0 rfl rfl 10 (by decide) (C.2.2.2.2.1 _ q44) (fun _ h9 => h9) rfl hdg kk
theorem xl_10 (C : cn_C RX0 D (cn_tx E) p s m args meth c cc nL ret) (hV : cn_V D (cn_Wx G E) A H0 X H locs) {j : Nat} (hj : j < 81) (hdg : decode cc pc = .ok (.iaload, 1)) (kk : W p l e R s m args below meth c H locs cells slots Q (F0 m (pc + 1) ls (.int (X 10 j) :: rest))) : W p l e R s m args below meth c H locs cells slots Q (F0 m pc ls (.int (nI j) :: .ref (G 10) :: rest)) :=
  va_iald C.1 C.2.1 C.2.2.2.2.2.1 hV.1 7 6 rfl rfl (vp_in_nI hj (by decide)) hdg (by rw [nI_clamp (Nat.lt_trans hj (by decide))]; exact kk)
theorem xs_10 (C : cn_C RX0 D (cn_tx E) p s m args meth c cc nL ret) (hV : cn_V D (cn_Wx G E) A H0 X H locs) {j : Nat} {x : Int32} (hj : j < 81) (hdg : decode cc pc = .ok (.iastore, 1)) (kk : ∀ (H1 : Heap) (locs1 : List Loc), cn_V D (cn_Wx G E) A H0 (up2 X 10 j x) H1 locs1 → W p l e R s m args below meth c H1 locs1 cells slots Q (F0 m (pc + 1) ls rest)) : W p l e R s m args below meth c H locs cells slots Q (F0 m pc ls (.int x :: .int (nI j) :: .ref (G 10) :: rest)) := by
  refine va_iast C.1 C.2.1 C.2.2.2.2.2.1 hV.1 hV.2.1 hV.2.2.1 7 6 rfl rfl (vp_in_nI hj (by decide)) hdg (fun H1 locs1 h1 h2 h3 => ?_)
  rw [nI_clamp (Nat.lt_trans hj (by decide))] at h1 h2
  exact kk H1 locs1 ⟨h1, h2, h3, hV.2.2.2⟩
end CNx
theorem cn_Dx {G : Nat → Nat} {E : Nat → ClassId} {X : cn_St} {A : Nat → Prop} {sz : Nat} (h : va_D A (cn_Wx G E X)) : va_D (cn_Ax G sz) (cn_Wx G E X) := by
  refine ⟨h.1, fun k q hk => ?_⟩
  match k, hk with
  | 0, hk => cases hk; exact Or.inl (by simp)
  | 1, hk => cases hk; exact Or.inl (by simp)
  | 2, hk => cases hk; exact Or.inl (by simp)
  | 3, hk => cases hk; exact Or.inl (by simp)
  | 4, hk => cases hk; exact Or.inl (by simp)
  | 5, hk => cases hk; exact Or.inl (by simp)
  | 6, hk => cases hk; exact Or.inl (by simp)
  | 7, hk => cases hk; exact Or.inl (by simp)
  | k + 8, hk => simp at hk
theorem cn_freex {G : Nat → Nat} {E : Nat → ClassId} {X : cn_St} {A : Nat → Prop} {H0 H : Heap} {locs : List Loc} {D : va_G} (h : cn_V D (cn_Wx G E) A H0 X H locs) : ∀ q, cn_Ax G H.size q → A q := by
  intro q hq
  rcases hq with hq | hq
  · simp only [List.mem_cons, List.not_mem_nil, or_false] at hq
    rcases hq with rfl | rfl | rfl | rfl | rfl | rfl | rfl | rfl
    · exact h.2.1.2 0 _ rfl
    · exact h.2.1.2 1 _ rfl
    · exact h.2.1.2 2 _ rfl
    · exact h.2.1.2 3 _ rfl
    · exact h.2.1.2 4 _ rfl
    · exact h.2.1.2 5 _ rfl
    · exact h.2.1.2 6 _ rfl
    · exact h.2.1.2 7 _ rfl
  · exact h.2.2.2 q (Nat.le_trans h.2.2.1.1 hq)
def cn_xB (D : va_G) (G : Nat → Nat) (E : Nat → ClassId) (X : cn_St) (sz : Nat) (U : State) : Prop := U.heap.size = sz ∧ va_P D vwCl (cn_Wx G E X) U.heap ∧ va_K D vwCl (cn_tx E) U ∧ va_D (fun _ => True) (cn_Wx G E X)
def cn_xQ (D : va_G) (G : Nat → Nat) (E : Nat → ClassId) (A : Nat → Prop) (X : cn_St) (t : State) : Prop := va_P D vwCl (cn_Wx G E X) t.heap ∧ va_K D vwCl (cn_tx E) t ∧ va_D A (cn_Wx G E X)
/-- the contract of a method with an int (or boolean) answer: from X with the arguments As it answers r and leaves X' -/
def cn_xMi (l : Launch) (y : MethodName) (cc : ByteArray) (nL : Nat) (ret : Option FieldType) (rm : Room) (D : va_G) (G : Nat → Nat) (E : Nat → ClassId) (X : cn_St) (As : List Value) (r : Int32) (X' : cn_St) : Prop :=
  ∀ sz : Nat, Met l y (ws_ y cc nL ret) rm (va_Pc (.ref (G 11) :: As) (cn_xB D G E X sz)) (va_Qi (fun r1 X1 => r1 = r ∧ X1 = X') (cn_xQ D G E (cn_Ax G sz)) (cn_Ax G sz)) 0 0 (cn_Ax G sz)
def cn_xMv (l : Launch) (y : MethodName) (cc : ByteArray) (nL : Nat) (rm : Room) (D : va_G) (G : Nat → Nat) (E : Nat → ClassId) (X : cn_St) (As : List Value) (X' : cn_St) : Prop :=
  ∀ sz : Nat, Met l y (ws_ y cc nL none) rm (va_Pc (.ref (G 11) :: As) (cn_xB D G E X sz)) (va_Qv (fun X1 => X1 = X') (cn_xQ D G E (cn_Ax G sz)) (cn_Ax G sz)) 0 0 (cn_Ax G sz)
theorem cn_xbl {D : va_G} {G : Nat → Nat} {E : Nat → ClassId} {X : cn_St} {sz : Nat} {av : List Value} : FrameBlind (va_Pc av (cn_xB D G E X sz)) := fun a U g mk q => by
  obtain ⟨q0, q1, qP, qK, qD⟩ := q
  exact ⟨q0, q1, qP, va_K.moved (u := U) (U := U.calling g mk a) (Vm.Alike.refl U.vm) qK, qD⟩
section CNCx
variable {p : Program} {l : Launch} {e : Env} {R : Room} {s : State} {m : MethodId} {args : Array Value} {below : List Frame} {meth : Method} {c : Code} {H : Heap} {locs : List Loc} {cells slots : Nat} {Q : State → Prop}
variable {cc : ByteArray} {nL : Nat} {ret : Option FieldType} {pc : Nat} {ls : Array Slot} {rest : List Value} {f : List (Option Value)} {D : va_G} {G : Nat → Nat} {E : Nat → ClassId} {A : Nat → Prop} {H0 : Heap} {X : cn_St}
variable {y : MethodName} {bytes : ByteArray} {nC index : Nat} {rc : Option FieldType} {rm : Room} {As st0 : List Value} {r : Int32} {X' : cn_St}
theorem cn_xcalli (hM : cn_xMi l y bytes nC rc rm D G E X As r X') (C : cn_C RX0 D (cn_tx E) p s m args meth c cc nL ret) (hV : cn_V D (cn_Wx G E) A H0 X H locs) (hl : ls.size = nL) (hw : Cond.methodLink RX0 index y ∈ lw_all ∧ Cond.instanceMethod y ∈ lw_all ∧ Cond.selects RX0 y y ∈ lw_all ∧ Cond.code y bytes nC rc ∈ lw_all) (hd : y.cls = RX0 ∧ y.cls ≠ "java/lang/invoke/MethodHandle" ∧ y.cls ≠ "java/lang/invoke/VarHandle" ∧ (parseMethodDescriptor y.desc).map (fun d => d.parameters.length) = some As.length) (hrm : rm.cells = 0 ∧ rm.slots = 0) (hR : rm.frames + 1 ≤ R.frames ∧ 8 + (nC + 11) + rm.locals ≤ R.locals) (hst : st0 = As.reverse ++ .ref (G 11) :: rest) (hroom : (rest.map fun v => v.category).sum ≤ 8) (hcs : cells ≤ R.cells ∧ slots ≤ R.slots) (hdg : decode cc pc = .ok (.invokevirtual index, 3))
    (kk : ∀ (H1 : Heap) (locs1 : List Loc), cn_V D (cn_Wx G E) A H0 X' H1 locs1 → W p l e R s m args below meth c H1 locs1 cells slots Q (F0 m (pc + 3) ls (.int r :: rest))) : W p l e R s m args below meth c H locs cells slots Q (F0 m pc ls st0) := by
  obtain ⟨hx, hb, hml, hown, hts, hK, hrt, hlk⟩ := C
  have hFc := cn_freex hV
  refine va_calli (va_runV (As := As) (rest := rest) ⟨hx, hb, hml, hown, hts⟩ (hM H.size) (cwV As.length hts (lw_V hw.1 hw.2.1 hw.2.2.1 q23 hw.2.2.2) rfl hrm.1 hrm.2 hd hR) ⟨cn_xbl, va_recv hK hV.1 (ci := 0) (q0 := 0) rfl rfl, fun U hU hW => ⟨rfl, by rw [hU], by rw [hU]; exact hV.1, va_K.moved hW.alike hK, hV.2.1.weaken (fun _ _ _ _ => trivial)⟩⟩ rfl rfl hl hst (lv_room hroom) hdg ⟨hcs.1, hcs.2⟩) hV.2.2.1 (fun q _ h => hFc q h) hFc (fun r1 u t H1 locs1 ht hvm hw1 hB hz hk hS => ?_)
  obtain ⟨rfl, rfl⟩ := hw1
  obtain ⟨hP1, hK1, hD1⟩ := hB
  rw [ht] at hP1
  exact kk H1 locs1 ⟨hP1, hD1.weaken (fun k q _ h => hFc q.1 h), hS, hV.2.2.2⟩
theorem cn_xcallv (hM : cn_xMv l y bytes nC rm D G E X As X') (C : cn_C RX0 D (cn_tx E) p s m args meth c cc nL ret) (hV : cn_V D (cn_Wx G E) A H0 X H locs) (hl : ls.size = nL) (hw : Cond.methodLink RX0 index y ∈ lw_all ∧ Cond.instanceMethod y ∈ lw_all ∧ Cond.selects RX0 y y ∈ lw_all ∧ Cond.code y bytes nC none ∈ lw_all) (hd : y.cls = RX0 ∧ y.cls ≠ "java/lang/invoke/MethodHandle" ∧ y.cls ≠ "java/lang/invoke/VarHandle" ∧ (parseMethodDescriptor y.desc).map (fun d => d.parameters.length) = some As.length) (hrm : rm.cells = 0 ∧ rm.slots = 0) (hR : rm.frames + 1 ≤ R.frames ∧ 8 + (nC + 11) + rm.locals ≤ R.locals) (hst : st0 = As.reverse ++ .ref (G 11) :: rest) (hroom : (rest.map fun v => v.category).sum ≤ 8) (hcs : cells ≤ R.cells ∧ slots ≤ R.slots) (hdg : decode cc pc = .ok (.invokevirtual index, 3))
    (kk : ∀ (H1 : Heap) (locs1 : List Loc), cn_V D (cn_Wx G E) A H0 X' H1 locs1 → W p l e R s m args below meth c H1 locs1 cells slots Q (F0 m (pc + 3) ls rest)) : W p l e R s m args below meth c H locs cells slots Q (F0 m pc ls st0) := by
  obtain ⟨hx, hb, hml, hown, hts, hK, hrt, hlk⟩ := C
  have hFc := cn_freex hV
  refine va_callv (va_runV (As := As) (rest := rest) ⟨hx, hb, hml, hown, hts⟩ (hM H.size) (cwV As.length hts (lw_V hw.1 hw.2.1 hw.2.2.1 q23 hw.2.2.2) rfl hrm.1 hrm.2 hd hR) ⟨cn_xbl, va_recv hK hV.1 (ci := 0) (q0 := 0) rfl rfl, fun U hU hW => ⟨rfl, by rw [hU], by rw [hU]; exact hV.1, va_K.moved hW.alike hK, hV.2.1.weaken (fun _ _ _ _ => trivial)⟩⟩ rfl rfl hl hst (lv_room hroom) hdg ⟨hcs.1, hcs.2⟩) hV.2.2.1 (fun q _ h => hFc q h) hFc (fun u t H1 locs1 ht hvm hw1 hB hz hk hS => ?_)
  obtain rfl := hw1
  obtain ⟨hP1, hK1, hD1⟩ := hB
  rw [ht] at hP1
  exact kk H1 locs1 ⟨hP1, hD1.weaken (fun k q _ h => hFc q.1 h), hS, hV.2.2.2⟩
theorem cn_xofi {ty : FieldType} (hrc : rc = some ty) (hnar : narrow ty (.int r) = .int r) (f0 : List (Option Value)) (hy : plainName y.cls = true) (hcls : y.cls = RX0) (hlg : (lg_sl (Value.ref (G 11) :: As)).length ≤ nC) (hcat : ∀ v ∈ (Value.ref (G 11) :: As), v.category = 1) (hf0 : f0 = (Value.ref (G 11) :: As).map some ++ List.replicate (nC - (Value.ref (G 11) :: As).length) none) (hlen : (Value.ref (G 11) :: As).length ≤ nC)
    (body : ∀ (p : Program) (e : Env) (s : State) (m : MethodId) (args : Array Value) (below : List Frame) (meth : Method) (c : Code) (ls : Array Slot) (A : Nat → Prop) (Q : State → Prop) (H : Heap) (locs : List Loc), cn_C RX0 D (cn_tx E) p s m args meth c bytes nC rc → cn_V D (cn_Wx G E) A s.heap X H locs → cn_lx ls nC f0 → (∀ (H : Heap) (locs : List Loc) (ls : Array Slot) (pc : Nat) (r1 : Int32) (X1 : cn_St), r1 = r → X1 = X' → cn_V D (cn_Wx G E) A s.heap X1 H locs → decode bytes pc = .ok (.ireturn, 1) → W p l e rm s m args below meth c H locs 0 0 Q (F0 m pc ls [.int r1])) → W p l e rm s m args below meth c H locs 0 0 Q (F0 m 0 ls [])) : cn_xMi l y bytes nC rc rm D G E X As r X' := by
  intro sz
  refine Met.ofW (cc := bytes) (maxL := nC) (ret := rc) hy rfl ?_
  intro p e s m args below meth c s₁ B hml hv
  obtain ⟨rfl, hsz, hP, hK, hD0⟩ := hv
  have hts := atoms_spec (ws := ws_ y bytes nC rc) B.pre
  have hts : ∀ w ∈ lw_all, w.before _ s = true := fun w h => hts w (List.mem_cons_of_mem _ h)
  have hown : s.vm.findClass RX0 = some m.cls := by rw [← hcls]; exact findClass_of_methodNamed B.named
  subst hsz
  have hl := lv_entry (Value.ref (G 11) :: As) (n := nC) hlg
  rw [lg_entry_eq]
  generalize (lg_sl (Value.ref (G 11) :: As) ++ List.replicate (nC - (lg_sl (Value.ref (G 11) :: As)).length) Slot.unset).toArray = ls at hl ⊢
  refine body p e s m _ below meth c ls (cn_Ax G s.heap.size) _ _ _ ⟨B.exec, B.bytes, hml, hown, hts, hK, B.returns, B.notSynchronized⟩ ⟨hP, cn_Dx hD0, va_S.rf, fun q h => Or.inr h⟩ (cn_entry hcat hf0 hlen hl) ?_
  · intro H locs ls pc r1 X1 e1 e2 hV hdg
    subst e1
    subst e2
    exact W.zret (ty := ty) B.exec B.bytes (hrc ▸ B.returns) hnar (fun t ht hW => ⟨⟨r1, X1, rfl, ⟨rfl, rfl⟩, by rw [ht]; exact hV.1, va_K.moved hW.alike hK, hV.2.1⟩, hV.2.2.1.F ht⟩) hV.2.2.1.2.2 hdg B.notSynchronized
theorem cn_xofv (f0 : List (Option Value)) (hy : plainName y.cls = true) (hcls : y.cls = RX0) (hlg : (lg_sl (Value.ref (G 11) :: As)).length ≤ nC) (hcat : ∀ v ∈ (Value.ref (G 11) :: As), v.category = 1) (hf0 : f0 = (Value.ref (G 11) :: As).map some ++ List.replicate (nC - (Value.ref (G 11) :: As).length) none) (hlen : (Value.ref (G 11) :: As).length ≤ nC)
    (body : ∀ (p : Program) (e : Env) (s : State) (m : MethodId) (args : Array Value) (below : List Frame) (meth : Method) (c : Code) (ls : Array Slot) (A : Nat → Prop) (Q : State → Prop) (H : Heap) (locs : List Loc), cn_C RX0 D (cn_tx E) p s m args meth c bytes nC none → cn_V D (cn_Wx G E) A s.heap X H locs → cn_lx ls nC f0 → (∀ (H : Heap) (locs : List Loc) (ls : Array Slot) (pc : Nat) (X1 : cn_St), X1 = X' → cn_V D (cn_Wx G E) A s.heap X1 H locs → decode bytes pc = .ok (.return_, 1) → W p l e rm s m args below meth c H locs 0 0 Q (F0 m pc ls [])) → W p l e rm s m args below meth c H locs 0 0 Q (F0 m 0 ls [])) : cn_xMv l y bytes nC rm D G E X As X' := by
  intro sz
  refine Met.ofW (cc := bytes) (maxL := nC) (ret := none) hy rfl ?_
  intro p e s m args below meth c s₁ B hml hv
  obtain ⟨rfl, hsz, hP, hK, hD0⟩ := hv
  have hts := atoms_spec (ws := ws_ y bytes nC none) B.pre
  have hts : ∀ w ∈ lw_all, w.before _ s = true := fun w h => hts w (List.mem_cons_of_mem _ h)
  have hown : s.vm.findClass RX0 = some m.cls := by rw [← hcls]; exact findClass_of_methodNamed B.named
  subst hsz
  have hl := lv_entry (Value.ref (G 11) :: As) (n := nC) hlg
  rw [lg_entry_eq]
  generalize (lg_sl (Value.ref (G 11) :: As) ++ List.replicate (nC - (lg_sl (Value.ref (G 11) :: As)).length) Slot.unset).toArray = ls at hl ⊢
  refine body p e s m _ below meth c ls (cn_Ax G s.heap.size) _ _ _ ⟨B.exec, B.bytes, hml, hown, hts, hK, B.returns, B.notSynchronized⟩ ⟨hP, cn_Dx hD0, va_S.rf, fun q h => Or.inr h⟩ (cn_entry hcat hf0 hlen hl) ?_
  · intro H locs ls pc X1 e2 hV hdg
    subst e2
    exact W.vret B.exec B.bytes B.returns (fun t ht hW => ⟨⟨X1, rfl, rfl, by rw [ht]; exact hV.1, va_K.moved hW.alike hK, hV.2.1⟩, hV.2.2.1.F ht⟩) hV.2.2.1.2.2 hdg B.notSynchronized
end CNCx
abbrev cn_Fm (G : Nat → Nat) (X : cn_St) : List Value := [.ref (G 0), .int (X 1 0), .int (X 2 0), .int (X 3 0), .int (X 4 0), .ref (G 5), .ref (G 6)]
abbrev cn_Wm (G : Nat → Nat) (E : Nat → ClassId) (X : cn_St) : va_W := [(G 7, .inr (1, cn_Fm G X)), (G 0, .inl (E 0, 81, .inl (X 0))), (G 5, .inl (E 5, 81, .inl (X 5))), (G 6, .inl (E 6, 81, .inl (X 6)))]
abbrev cn_tm (E : Nat → ClassId) : List (ClassId × FieldType) := [(E 0, .boolean), (E 5, .int), (E 6, .int)]
def cn_Am (G : Nat → Nat) (sz : Nat) : Nat → Prop := fun q => q ∈ [G 7, G 0, G 5, G 6] ∨ sz ≤ q
section CNm
variable {p : Program} {l : Launch} {e : Env} {R : Room} {s : State} {m : MethodId} {args : Array Value} {below : List Frame} {meth : Method} {c : Code} {H : Heap} {locs : List Loc} {cells slots : Nat} {Q : State → Prop}
variable {cc : ByteArray} {nL : Nat} {ret : Option FieldType} {pc : Nat} {ls : Array Slot} {rest : List Value} {f : List (Option Value)} {D : va_G} {G : Nat → Nat} {E : Nat → ClassId} {A : Nat → Prop} {H0 : Heap} {X : cn_St}
theorem mg_0 (C : cn_C RX1 D (cn_tm E) p s m args meth c cc nL ret) (hV : cn_V D (cn_Wm G E) A H0 X H locs) (hdg : decode cc pc = .ok (.getfield 7, 3)) (kk : W p l e R s m args below meth c H locs cells slots Q (F0 m (pc + 3) ls (.ref (G 0) :: rest))) : W p l e R s m args below meth c H locs cells slots Q (F0 m pc ls (.ref (G 7) :: rest)) :=
  va_get (D := D) (ci := 1) (v := .ref (G 0)) (C := RX1) (T := TX1) (N := 7) C.1 C.2.1 C.2.2.2.2.1 in_X1 C.2.2.2.1 C.2.2.2.2.2.1 hV.1 0 rfl rfl 0 (by decide) (C.2.2.2.2.1 _ q209) (fun _ h9 => h9) rfl hdg kk
theorem ml_0 (C : cn_C RX1 D (cn_tm E) p s m args meth c cc nL ret) (hV : cn_V D (cn_Wm G E) A H0 X H locs) {j : Nat} (hj : j < 81) (hdg : decode cc pc = .ok (.baload, 1)) (kk : W p l e R s m args below meth c H locs cells slots Q (F0 m (pc + 1) ls (.int (X 0 j) :: rest))) : W p l e R s m args below meth c H locs cells slots Q (F0 m pc ls (.int (nI j) :: .ref (G 0) :: rest)) :=
  va_zald C.1 C.2.1 C.2.2.2.2.2.1 hV.1 1 0 rfl rfl (vp_in_nI hj (by decide)) hdg (by rw [nI_clamp (Nat.lt_trans hj (by decide))]; exact kk)
theorem ms_0 (C : cn_C RX1 D (cn_tm E) p s m args meth c cc nL ret) (hV : cn_V D (cn_Wm G E) A H0 X H locs) {j : Nat} {x : Int32} (hj : j < 81) (hx : x = 0 ∨ x = 1) (hdg : decode cc pc = .ok (.bastore, 1)) (kk : ∀ (H1 : Heap) (locs1 : List Loc), cn_V D (cn_Wm G E) A H0 (up2 X 0 j x) H1 locs1 → W p l e R s m args below meth c H1 locs1 cells slots Q (F0 m (pc + 1) ls rest)) : W p l e R s m args below meth c H locs cells slots Q (F0 m pc ls (.int x :: .int (nI j) :: .ref (G 0) :: rest)) := by
  refine va_zast C.1 C.2.1 C.2.2.2.2.2.1 hV.1 hV.2.1 hV.2.2.1 1 0 rfl rfl (vp_in_nI hj (by decide)) hdg (fun H1 locs1 h1 h2 h3 => ?_)
  rw [nI_clamp (Nat.lt_trans hj (by decide)), show vp_nar .boolean x = x by rcases hx with rfl | rfl <;> rfl] at h1 h2
  exact kk H1 locs1 ⟨h1, h2, h3, hV.2.2.2⟩
theorem mg_1 (C : cn_C RX1 D (cn_tm E) p s m args meth c cc nL ret) (hV : cn_V D (cn_Wm G E) A H0 X H locs) (hdg : decode cc pc = .ok (.getfield 34, 3)) (kk : W p l e R s m args below meth c H locs cells slots Q (F0 m (pc + 3) ls (.int (X 1 0) :: rest))) : W p l e R s m args below meth c H locs cells slots Q (F0 m pc ls (.ref (G 7) :: rest)) :=
  va_get (D := D) (ci := 1) (v := .int (X 1 0)) (C := RX1) (T := TX1) (N := 7) C.1 C.2.1 C.2.2.2.2.1 in_X1 C.2.2.2.1 C.2.2.2.2.2.1 hV.1 0 rfl rfl 1 (by decide) (C.2.2.2.2.1 _ q210) (fun _ h9 => h9) rfl hdg kk
theorem mp_1 (C : cn_C RX1 D (cn_tm E) p s m args meth c cc nL ret) (hV : cn_V D (cn_Wm G E) A H0 X H locs) {x : Int32} (hdg : decode cc pc = .ok (.putfield 34, 3)) (kk : ∀ (H1 : Heap) (locs1 : List Loc), cn_V D (cn_Wm G E) A H0 (up2 X 1 0 x) H1 locs1 → W p l e R s m args below meth c H1 locs1 cells slots Q (F0 m (pc + 3) ls rest)) : W p l e R s m args below meth c H locs cells slots Q (F0 m pc ls (.int x :: .ref (G 7) :: rest)) :=
  va_put (D := D) (ci := 1) (v := .int x) (ty := .int) (C := RX1) (T := TX1) (N := 7) C.1 C.2.1 C.2.2.2.2.1 in_X1 tyX1 tyX1_ok nmX1 C.2.2.2.1 C.2.2.2.2.2.1 hV.1 hV.2.1 hV.2.2.1 0 rfl rfl 1 (by decide) (C.2.2.2.2.1 _ q210) (fun _ h9 => h9) rfl (by decide +kernel) rfl rfl (Nat.le_of_ble_eq_true rfl) hdg (fun H1 locs1 h1 h2 h3 => kk H1 locs1 ⟨h1, h2, h3, hV.2.2.2⟩)
theorem mg_2 (C : cn_C RX1 D (cn_tm E) p s m args meth c cc nL ret) (hV : cn_V D (cn_Wm G E) A H0 X H locs) (hdg : decode cc pc = .ok (.getfield 20, 3)) (kk : W p l e R s m args below meth c H locs cells slots Q (F0 m (pc + 3) ls (.int (X 2 0) :: rest))) : W p l e R s m args below meth c H locs cells slots Q (F0 m pc ls (.ref (G 7) :: rest)) :=
  va_get (D := D) (ci := 1) (v := .int (X 2 0)) (C := RX1) (T := TX1) (N := 7) C.1 C.2.1 C.2.2.2.2.1 in_X1 C.2.2.2.1 C.2.2.2.2.2.1 hV.1 0 rfl rfl 2 (by decide) (C.2.2.2.2.1 _ q211) (fun _ h9 => h9) rfl hdg kk
theorem mp_2 (C : cn_C RX1 D (cn_tm E) p s m args meth c cc nL ret) (hV : cn_V D (cn_Wm G E) A H0 X H locs) {x : Int32} (hdg : decode cc pc = .ok (.putfield 20, 3)) (kk : ∀ (H1 : Heap) (locs1 : List Loc), cn_V D (cn_Wm G E) A H0 (up2 X 2 0 x) H1 locs1 → W p l e R s m args below meth c H1 locs1 cells slots Q (F0 m (pc + 3) ls rest)) : W p l e R s m args below meth c H locs cells slots Q (F0 m pc ls (.int x :: .ref (G 7) :: rest)) :=
  va_put (D := D) (ci := 1) (v := .int x) (ty := .int) (C := RX1) (T := TX1) (N := 7) C.1 C.2.1 C.2.2.2.2.1 in_X1 tyX1 tyX1_ok nmX1 C.2.2.2.1 C.2.2.2.2.2.1 hV.1 hV.2.1 hV.2.2.1 0 rfl rfl 2 (by decide) (C.2.2.2.2.1 _ q211) (fun _ h9 => h9) rfl (by decide +kernel) rfl rfl (Nat.le_of_ble_eq_true rfl) hdg (fun H1 locs1 h1 h2 h3 => kk H1 locs1 ⟨h1, h2, h3, hV.2.2.2⟩)
theorem mg_3 (C : cn_C RX1 D (cn_tm E) p s m args meth c cc nL ret) (hV : cn_V D (cn_Wm G E) A H0 X H locs) (hdg : decode cc pc = .ok (.getfield 24, 3)) (kk : W p l e R s m args below meth c H locs cells slots Q (F0 m (pc + 3) ls (.int (X 3 0) :: rest))) : W p l e R s m args below meth c H locs cells slots Q (F0 m pc ls (.ref (G 7) :: rest)) :=
  va_get (D := D) (ci := 1) (v := .int (X 3 0)) (C := RX1) (T := TX1) (N := 7) C.1 C.2.1 C.2.2.2.2.1 in_X1 C.2.2.2.1 C.2.2.2.2.2.1 hV.1 0 rfl rfl 3 (by decide) (C.2.2.2.2.1 _ q212) (fun _ h9 => h9) rfl hdg kk
theorem mp_3 (C : cn_C RX1 D (cn_tm E) p s m args meth c cc nL ret) (hV : cn_V D (cn_Wm G E) A H0 X H locs) {x : Int32} (hdg : decode cc pc = .ok (.putfield 24, 3)) (kk : ∀ (H1 : Heap) (locs1 : List Loc), cn_V D (cn_Wm G E) A H0 (up2 X 3 0 x) H1 locs1 → W p l e R s m args below meth c H1 locs1 cells slots Q (F0 m (pc + 3) ls rest)) : W p l e R s m args below meth c H locs cells slots Q (F0 m pc ls (.int x :: .ref (G 7) :: rest)) :=
  va_put (D := D) (ci := 1) (v := .int x) (ty := .int) (C := RX1) (T := TX1) (N := 7) C.1 C.2.1 C.2.2.2.2.1 in_X1 tyX1 tyX1_ok nmX1 C.2.2.2.1 C.2.2.2.2.2.1 hV.1 hV.2.1 hV.2.2.1 0 rfl rfl 3 (by decide) (C.2.2.2.2.1 _ q212) (fun _ h9 => h9) rfl (by decide +kernel) rfl rfl (Nat.le_of_ble_eq_true rfl) hdg (fun H1 locs1 h1 h2 h3 => kk H1 locs1 ⟨h1, h2, h3, hV.2.2.2⟩)
theorem mg_4 (C : cn_C RX1 D (cn_tm E) p s m args meth c cc nL ret) (hV : cn_V D (cn_Wm G E) A H0 X H locs) (hdg : decode cc pc = .ok (.getfield 27, 3)) (kk : W p l e R s m args below meth c H locs cells slots Q (F0 m (pc + 3) ls (.int (X 4 0) :: rest))) : W p l e R s m args below meth c H locs cells slots Q (F0 m pc ls (.ref (G 7) :: rest)) :=
  va_get (D := D) (ci := 1) (v := .int (X 4 0)) (C := RX1) (T := TX1) (N := 7) C.1 C.2.1 C.2.2.2.2.1 in_X1 C.2.2.2.1 C.2.2.2.2.2.1 hV.1 0 rfl rfl 4 (by decide) (C.2.2.2.2.1 _ q213) (fun _ h9 => h9) rfl hdg kk
theorem mp_4 (C : cn_C RX1 D (cn_tm E) p s m args meth c cc nL ret) (hV : cn_V D (cn_Wm G E) A H0 X H locs) {x : Int32} (hdg : decode cc pc = .ok (.putfield 27, 3)) (kk : ∀ (H1 : Heap) (locs1 : List Loc), cn_V D (cn_Wm G E) A H0 (up2 X 4 0 x) H1 locs1 → W p l e R s m args below meth c H1 locs1 cells slots Q (F0 m (pc + 3) ls rest)) : W p l e R s m args below meth c H locs cells slots Q (F0 m pc ls (.int x :: .ref (G 7) :: rest)) :=
  va_put (D := D) (ci := 1) (v := .int x) (ty := .int) (C := RX1) (T := TX1) (N := 7) C.1 C.2.1 C.2.2.2.2.1 in_X1 tyX1 tyX1_ok nmX1 C.2.2.2.1 C.2.2.2.2.2.1 hV.1 hV.2.1 hV.2.2.1 0 rfl rfl 4 (by decide) (C.2.2.2.2.1 _ q213) (fun _ h9 => h9) rfl (by decide +kernel) rfl rfl (Nat.le_of_ble_eq_true rfl) hdg (fun H1 locs1 h1 h2 h3 => kk H1 locs1 ⟨h1, h2, h3, hV.2.2.2⟩)
theorem mg_5 (C : cn_C RX1 D (cn_tm E) p s m args meth c cc nL ret) (hV : cn_V D (cn_Wm G E) A H0 X H locs) (hdg : decode cc pc = .ok (.getfield 13, 3)) (kk : W p l e R s m args below meth c H locs cells slots Q (F0 m (pc + 3) ls (.ref (G 5) :: rest))) : W p l e R s m args below meth c H locs cells slots Q (F0 m pc ls (.ref (G 7) :: rest)) :=
  va_get (D := D) (ci := 1) (v := .ref (G 5)) (C := RX1) (T := TX1) (N := 7) C.1 C.2.1 C.2.2.2.2.1 in_X1 C.2.2.2.1 C.2.2.2.2.2.1 hV.1 0 rfl rfl 5 (by decide) (C.2.2.2.2.1 _ q214) (fun _ h9 => h9) rfl hdg kk
theorem ml_5 (C : cn_C RX1 D (cn_tm E) p s m args meth c cc nL ret) (hV : cn_V D (cn_Wm G E) A H0 X H locs) {j : Nat} (hj : j < 81) (hdg : decode cc pc = .ok (.iaload, 1)) (kk : W p l e R s m args below meth c H locs cells slots Q (F0 m (pc + 1) ls (.int (X 5 j) :: rest))) : W p l e R s m args below meth c H locs cells slots Q (F0 m pc ls (.int (nI j) :: .ref (G 5) :: rest)) :=
  va_iald C.1 C.2.1 C.2.2.2.2.2.1 hV.1 2 1 rfl rfl (vp_in_nI hj (by decide)) hdg (by rw [nI_clamp (Nat.lt_trans hj (by decide))]; exact kk)
theorem ms_5 (C : cn_C RX1 D (cn_tm E) p s m args meth c cc nL ret) (hV : cn_V D (cn_Wm G E) A H0 X H locs) {j : Nat} {x : Int32} (hj : j < 81) (hdg : decode cc pc = .ok (.iastore, 1)) (kk : ∀ (H1 : Heap) (locs1 : List Loc), cn_V D (cn_Wm G E) A H0 (up2 X 5 j x) H1 locs1 → W p l e R s m args below meth c H1 locs1 cells slots Q (F0 m (pc + 1) ls rest)) : W p l e R s m args below meth c H locs cells slots Q (F0 m pc ls (.int x :: .int (nI j) :: .ref (G 5) :: rest)) := by
  refine va_iast C.1 C.2.1 C.2.2.2.2.2.1 hV.1 hV.2.1 hV.2.2.1 2 1 rfl rfl (vp_in_nI hj (by decide)) hdg (fun H1 locs1 h1 h2 h3 => ?_)
  rw [nI_clamp (Nat.lt_trans hj (by decide))] at h1 h2
  exact kk H1 locs1 ⟨h1, h2, h3, hV.2.2.2⟩
theorem mg_6 (C : cn_C RX1 D (cn_tm E) p s m args meth c cc nL ret) (hV : cn_V D (cn_Wm G E) A H0 X H locs) (hdg : decode cc pc = .ok (.getfield 17, 3)) (kk : W p l e R s m args below meth c H locs cells slots Q (F0 m (pc + 3) ls (.ref (G 6) :: rest))) : W p l e R s m args below meth c H locs cells slots Q (F0 m pc ls (.ref (G 7) :: rest)) :=
  va_get (D := D) (ci := 1) (v := .ref (G 6)) (C := RX1) (T := TX1) (N := 7) C.1 C.2.1 C.2.2.2.2.1 in_X1 C.2.2.2.1 C.2.2.2.2.2.1 hV.1 0 rfl rfl 6 (by decide) (C.2.2.2.2.1 _ q215) (fun _ h9 => h9) rfl hdg kk
theorem ml_6 (C : cn_C RX1 D (cn_tm E) p s m args meth c cc nL ret) (hV : cn_V D (cn_Wm G E) A H0 X H locs) {j : Nat} (hj : j < 81) (hdg : decode cc pc = .ok (.iaload, 1)) (kk : W p l e R s m args below meth c H locs cells slots Q (F0 m (pc + 1) ls (.int (X 6 j) :: rest))) : W p l e R s m args below meth c H locs cells slots Q (F0 m pc ls (.int (nI j) :: .ref (G 6) :: rest)) :=
  va_iald C.1 C.2.1 C.2.2.2.2.2.1 hV.1 3 2 rfl rfl (vp_in_nI hj (by decide)) hdg (by rw [nI_clamp (Nat.lt_trans hj (by decide))]; exact kk)
theorem ms_6 (C : cn_C RX1 D (cn_tm E) p s m args meth c cc nL ret) (hV : cn_V D (cn_Wm G E) A H0 X H locs) {j : Nat} {x : Int32} (hj : j < 81) (hdg : decode cc pc = .ok (.iastore, 1)) (kk : ∀ (H1 : Heap) (locs1 : List Loc), cn_V D (cn_Wm G E) A H0 (up2 X 6 j x) H1 locs1 → W p l e R s m args below meth c H1 locs1 cells slots Q (F0 m (pc + 1) ls rest)) : W p l e R s m args below meth c H locs cells slots Q (F0 m pc ls (.int x :: .int (nI j) :: .ref (G 6) :: rest)) := by
  refine va_iast C.1 C.2.1 C.2.2.2.2.2.1 hV.1 hV.2.1 hV.2.2.1 3 2 rfl rfl (vp_in_nI hj (by decide)) hdg (fun H1 locs1 h1 h2 h3 => ?_)
  rw [nI_clamp (Nat.lt_trans hj (by decide))] at h1 h2
  exact kk H1 locs1 ⟨h1, h2, h3, hV.2.2.2⟩
end CNm
theorem cn_Dm {G : Nat → Nat} {E : Nat → ClassId} {X : cn_St} {A : Nat → Prop} {sz : Nat} (h : va_D A (cn_Wm G E X)) : va_D (cn_Am G sz) (cn_Wm G E X) := by
  refine ⟨h.1, fun k q hk => ?_⟩
  match k, hk with
  | 0, hk => cases hk; exact Or.inl (by simp)
  | 1, hk => cases hk; exact Or.inl (by simp)
  | 2, hk => cases hk; exact Or.inl (by simp)
  | 3, hk => cases hk; exact Or.inl (by simp)
  | k + 4, hk => simp at hk
theorem cn_freem {G : Nat → Nat} {E : Nat → ClassId} {X : cn_St} {A : Nat → Prop} {H0 H : Heap} {locs : List Loc} {D : va_G} (h : cn_V D (cn_Wm G E) A H0 X H locs) : ∀ q, cn_Am G H.size q → A q := by
  intro q hq
  rcases hq with hq | hq
  · simp only [List.mem_cons, List.not_mem_nil, or_false] at hq
    rcases hq with rfl | rfl | rfl | rfl
    · exact h.2.1.2 0 _ rfl
    · exact h.2.1.2 1 _ rfl
    · exact h.2.1.2 2 _ rfl
    · exact h.2.1.2 3 _ rfl
  · exact h.2.2.2 q (Nat.le_trans h.2.2.1.1 hq)
def cn_mB (D : va_G) (G : Nat → Nat) (E : Nat → ClassId) (X : cn_St) (sz : Nat) (U : State) : Prop := U.heap.size = sz ∧ va_P D vwCl (cn_Wm G E X) U.heap ∧ va_K D vwCl (cn_tm E) U ∧ va_D (fun _ => True) (cn_Wm G E X)
def cn_mQ (D : va_G) (G : Nat → Nat) (E : Nat → ClassId) (A : Nat → Prop) (X : cn_St) (t : State) : Prop := va_P D vwCl (cn_Wm G E X) t.heap ∧ va_K D vwCl (cn_tm E) t ∧ va_D A (cn_Wm G E X)
/-- the contract of a method with an int (or boolean) answer: from X with the arguments As it answers r and leaves X' -/
def cn_mMi (l : Launch) (y : MethodName) (cc : ByteArray) (nL : Nat) (ret : Option FieldType) (rm : Room) (D : va_G) (G : Nat → Nat) (E : Nat → ClassId) (X : cn_St) (As : List Value) (r : Int32) (X' : cn_St) : Prop :=
  ∀ sz : Nat, Met l y (ws_ y cc nL ret) rm (va_Pc (.ref (G 7) :: As) (cn_mB D G E X sz)) (va_Qi (fun r1 X1 => r1 = r ∧ X1 = X') (cn_mQ D G E (cn_Am G sz)) (cn_Am G sz)) 0 0 (cn_Am G sz)
def cn_mMv (l : Launch) (y : MethodName) (cc : ByteArray) (nL : Nat) (rm : Room) (D : va_G) (G : Nat → Nat) (E : Nat → ClassId) (X : cn_St) (As : List Value) (X' : cn_St) : Prop :=
  ∀ sz : Nat, Met l y (ws_ y cc nL none) rm (va_Pc (.ref (G 7) :: As) (cn_mB D G E X sz)) (va_Qv (fun X1 => X1 = X') (cn_mQ D G E (cn_Am G sz)) (cn_Am G sz)) 0 0 (cn_Am G sz)
theorem cn_mbl {D : va_G} {G : Nat → Nat} {E : Nat → ClassId} {X : cn_St} {sz : Nat} {av : List Value} : FrameBlind (va_Pc av (cn_mB D G E X sz)) := fun a U g mk q => by
  obtain ⟨q0, q1, qP, qK, qD⟩ := q
  exact ⟨q0, q1, qP, va_K.moved (u := U) (U := U.calling g mk a) (Vm.Alike.refl U.vm) qK, qD⟩
section CNCm
variable {p : Program} {l : Launch} {e : Env} {R : Room} {s : State} {m : MethodId} {args : Array Value} {below : List Frame} {meth : Method} {c : Code} {H : Heap} {locs : List Loc} {cells slots : Nat} {Q : State → Prop}
variable {cc : ByteArray} {nL : Nat} {ret : Option FieldType} {pc : Nat} {ls : Array Slot} {rest : List Value} {f : List (Option Value)} {D : va_G} {G : Nat → Nat} {E : Nat → ClassId} {A : Nat → Prop} {H0 : Heap} {X : cn_St}
variable {y : MethodName} {bytes : ByteArray} {nC index : Nat} {rc : Option FieldType} {rm : Room} {As st0 : List Value} {r : Int32} {X' : cn_St}
theorem cn_mcalli (hM : cn_mMi l y bytes nC rc rm D G E X As r X') (C : cn_C RX1 D (cn_tm E) p s m args meth c cc nL ret) (hV : cn_V D (cn_Wm G E) A H0 X H locs) (hl : ls.size = nL) (hw : Cond.methodLink RX1 index y ∈ lw_all ∧ Cond.instanceMethod y ∈ lw_all ∧ Cond.selects RX1 y y ∈ lw_all ∧ Cond.code y bytes nC rc ∈ lw_all) (hd : y.cls = RX1 ∧ y.cls ≠ "java/lang/invoke/MethodHandle" ∧ y.cls ≠ "java/lang/invoke/VarHandle" ∧ (parseMethodDescriptor y.desc).map (fun d => d.parameters.length) = some As.length) (hrm : rm.cells = 0 ∧ rm.slots = 0) (hR : rm.frames + 1 ≤ R.frames ∧ 8 + (nC + 11) + rm.locals ≤ R.locals) (hst : st0 = As.reverse ++ .ref (G 7) :: rest) (hroom : (rest.map fun v => v.category).sum ≤ 8) (hcs : cells ≤ R.cells ∧ slots ≤ R.slots) (hdg : decode cc pc = .ok (.invokevirtual index, 3))
    (kk : ∀ (H1 : Heap) (locs1 : List Loc), cn_V D (cn_Wm G E) A H0 X' H1 locs1 → W p l e R s m args below meth c H1 locs1 cells slots Q (F0 m (pc + 3) ls (.int r :: rest))) : W p l e R s m args below meth c H locs cells slots Q (F0 m pc ls st0) := by
  obtain ⟨hx, hb, hml, hown, hts, hK, hrt, hlk⟩ := C
  have hFc := cn_freem hV
  refine va_calli (va_runV (As := As) (rest := rest) ⟨hx, hb, hml, hown, hts⟩ (hM H.size) (cwV As.length hts (lw_V hw.1 hw.2.1 hw.2.2.1 q24 hw.2.2.2) rfl hrm.1 hrm.2 hd hR) ⟨cn_mbl, va_recv hK hV.1 (ci := 1) (q0 := 0) rfl rfl, fun U hU hW => ⟨rfl, by rw [hU], by rw [hU]; exact hV.1, va_K.moved hW.alike hK, hV.2.1.weaken (fun _ _ _ _ => trivial)⟩⟩ rfl rfl hl hst (lv_room hroom) hdg ⟨hcs.1, hcs.2⟩) hV.2.2.1 (fun q _ h => hFc q h) hFc (fun r1 u t H1 locs1 ht hvm hw1 hB hz hk hS => ?_)
  obtain ⟨rfl, rfl⟩ := hw1
  obtain ⟨hP1, hK1, hD1⟩ := hB
  rw [ht] at hP1
  exact kk H1 locs1 ⟨hP1, hD1.weaken (fun k q _ h => hFc q.1 h), hS, hV.2.2.2⟩
theorem cn_mcallv (hM : cn_mMv l y bytes nC rm D G E X As X') (C : cn_C RX1 D (cn_tm E) p s m args meth c cc nL ret) (hV : cn_V D (cn_Wm G E) A H0 X H locs) (hl : ls.size = nL) (hw : Cond.methodLink RX1 index y ∈ lw_all ∧ Cond.instanceMethod y ∈ lw_all ∧ Cond.selects RX1 y y ∈ lw_all ∧ Cond.code y bytes nC none ∈ lw_all) (hd : y.cls = RX1 ∧ y.cls ≠ "java/lang/invoke/MethodHandle" ∧ y.cls ≠ "java/lang/invoke/VarHandle" ∧ (parseMethodDescriptor y.desc).map (fun d => d.parameters.length) = some As.length) (hrm : rm.cells = 0 ∧ rm.slots = 0) (hR : rm.frames + 1 ≤ R.frames ∧ 8 + (nC + 11) + rm.locals ≤ R.locals) (hst : st0 = As.reverse ++ .ref (G 7) :: rest) (hroom : (rest.map fun v => v.category).sum ≤ 8) (hcs : cells ≤ R.cells ∧ slots ≤ R.slots) (hdg : decode cc pc = .ok (.invokevirtual index, 3))
    (kk : ∀ (H1 : Heap) (locs1 : List Loc), cn_V D (cn_Wm G E) A H0 X' H1 locs1 → W p l e R s m args below meth c H1 locs1 cells slots Q (F0 m (pc + 3) ls rest)) : W p l e R s m args below meth c H locs cells slots Q (F0 m pc ls st0) := by
  obtain ⟨hx, hb, hml, hown, hts, hK, hrt, hlk⟩ := C
  have hFc := cn_freem hV
  refine va_callv (va_runV (As := As) (rest := rest) ⟨hx, hb, hml, hown, hts⟩ (hM H.size) (cwV As.length hts (lw_V hw.1 hw.2.1 hw.2.2.1 q24 hw.2.2.2) rfl hrm.1 hrm.2 hd hR) ⟨cn_mbl, va_recv hK hV.1 (ci := 1) (q0 := 0) rfl rfl, fun U hU hW => ⟨rfl, by rw [hU], by rw [hU]; exact hV.1, va_K.moved hW.alike hK, hV.2.1.weaken (fun _ _ _ _ => trivial)⟩⟩ rfl rfl hl hst (lv_room hroom) hdg ⟨hcs.1, hcs.2⟩) hV.2.2.1 (fun q _ h => hFc q h) hFc (fun u t H1 locs1 ht hvm hw1 hB hz hk hS => ?_)
  obtain rfl := hw1
  obtain ⟨hP1, hK1, hD1⟩ := hB
  rw [ht] at hP1
  exact kk H1 locs1 ⟨hP1, hD1.weaken (fun k q _ h => hFc q.1 h), hS, hV.2.2.2⟩
theorem cn_mofi {ty : FieldType} (hrc : rc = some ty) (hnar : narrow ty (.int r) = .int r) (f0 : List (Option Value)) (hy : plainName y.cls = true) (hcls : y.cls = RX1) (hlg : (lg_sl (Value.ref (G 7) :: As)).length ≤ nC) (hcat : ∀ v ∈ (Value.ref (G 7) :: As), v.category = 1) (hf0 : f0 = (Value.ref (G 7) :: As).map some ++ List.replicate (nC - (Value.ref (G 7) :: As).length) none) (hlen : (Value.ref (G 7) :: As).length ≤ nC)
    (body : ∀ (p : Program) (e : Env) (s : State) (m : MethodId) (args : Array Value) (below : List Frame) (meth : Method) (c : Code) (ls : Array Slot) (A : Nat → Prop) (Q : State → Prop) (H : Heap) (locs : List Loc), cn_C RX1 D (cn_tm E) p s m args meth c bytes nC rc → cn_V D (cn_Wm G E) A s.heap X H locs → cn_lx ls nC f0 → (∀ (H : Heap) (locs : List Loc) (ls : Array Slot) (pc : Nat) (r1 : Int32) (X1 : cn_St), r1 = r → X1 = X' → cn_V D (cn_Wm G E) A s.heap X1 H locs → decode bytes pc = .ok (.ireturn, 1) → W p l e rm s m args below meth c H locs 0 0 Q (F0 m pc ls [.int r1])) → W p l e rm s m args below meth c H locs 0 0 Q (F0 m 0 ls [])) : cn_mMi l y bytes nC rc rm D G E X As r X' := by
  intro sz
  refine Met.ofW (cc := bytes) (maxL := nC) (ret := rc) hy rfl ?_
  intro p e s m args below meth c s₁ B hml hv
  obtain ⟨rfl, hsz, hP, hK, hD0⟩ := hv
  have hts := atoms_spec (ws := ws_ y bytes nC rc) B.pre
  have hts : ∀ w ∈ lw_all, w.before _ s = true := fun w h => hts w (List.mem_cons_of_mem _ h)
  have hown : s.vm.findClass RX1 = some m.cls := by rw [← hcls]; exact findClass_of_methodNamed B.named
  subst hsz
  have hl := lv_entry (Value.ref (G 7) :: As) (n := nC) hlg
  rw [lg_entry_eq]
  generalize (lg_sl (Value.ref (G 7) :: As) ++ List.replicate (nC - (lg_sl (Value.ref (G 7) :: As)).length) Slot.unset).toArray = ls at hl ⊢
  refine body p e s m _ below meth c ls (cn_Am G s.heap.size) _ _ _ ⟨B.exec, B.bytes, hml, hown, hts, hK, B.returns, B.notSynchronized⟩ ⟨hP, cn_Dm hD0, va_S.rf, fun q h => Or.inr h⟩ (cn_entry hcat hf0 hlen hl) ?_
  · intro H locs ls pc r1 X1 e1 e2 hV hdg
    subst e1
    subst e2
    exact W.zret (ty := ty) B.exec B.bytes (hrc ▸ B.returns) hnar (fun t ht hW => ⟨⟨r1, X1, rfl, ⟨rfl, rfl⟩, by rw [ht]; exact hV.1, va_K.moved hW.alike hK, hV.2.1⟩, hV.2.2.1.F ht⟩) hV.2.2.1.2.2 hdg B.notSynchronized
theorem cn_mofv (f0 : List (Option Value)) (hy : plainName y.cls = true) (hcls : y.cls = RX1) (hlg : (lg_sl (Value.ref (G 7) :: As)).length ≤ nC) (hcat : ∀ v ∈ (Value.ref (G 7) :: As), v.category = 1) (hf0 : f0 = (Value.ref (G 7) :: As).map some ++ List.replicate (nC - (Value.ref (G 7) :: As).length) none) (hlen : (Value.ref (G 7) :: As).length ≤ nC)
    (body : ∀ (p : Program) (e : Env) (s : State) (m : MethodId) (args : Array Value) (below : List Frame) (meth : Method) (c : Code) (ls : Array Slot) (A : Nat → Prop) (Q : State → Prop) (H : Heap) (locs : List Loc), cn_C RX1 D (cn_tm E) p s m args meth c bytes nC none → cn_V D (cn_Wm G E) A s.heap X H locs → cn_lx ls nC f0 → (∀ (H : Heap) (locs : List Loc) (ls : Array Slot) (pc : Nat) (X1 : cn_St), X1 = X' → cn_V D (cn_Wm G E) A s.heap X1 H locs → decode bytes pc = .ok (.return_, 1) → W p l e rm s m args below meth c H locs 0 0 Q (F0 m pc ls [])) → W p l e rm s m args below meth c H locs 0 0 Q (F0 m 0 ls [])) : cn_mMv l y bytes nC rm D G E X As X' := by
  intro sz
  refine Met.ofW (cc := bytes) (maxL := nC) (ret := none) hy rfl ?_
  intro p e s m args below meth c s₁ B hml hv
  obtain ⟨rfl, hsz, hP, hK, hD0⟩ := hv
  have hts := atoms_spec (ws := ws_ y bytes nC none) B.pre
  have hts : ∀ w ∈ lw_all, w.before _ s = true := fun w h => hts w (List.mem_cons_of_mem _ h)
  have hown : s.vm.findClass RX1 = some m.cls := by rw [← hcls]; exact findClass_of_methodNamed B.named
  subst hsz
  have hl := lv_entry (Value.ref (G 7) :: As) (n := nC) hlg
  rw [lg_entry_eq]
  generalize (lg_sl (Value.ref (G 7) :: As) ++ List.replicate (nC - (lg_sl (Value.ref (G 7) :: As)).length) Slot.unset).toArray = ls at hl ⊢
  refine body p e s m _ below meth c ls (cn_Am G s.heap.size) _ _ _ ⟨B.exec, B.bytes, hml, hown, hts, hK, B.returns, B.notSynchronized⟩ ⟨hP, cn_Dm hD0, va_S.rf, fun q h => Or.inr h⟩ (cn_entry hcat hf0 hlen hl) ?_
  · intro H locs ls pc X1 e2 hV hdg
    subst e2
    exact W.vret B.exec B.bytes B.returns (fun t ht hW => ⟨⟨X1, rfl, rfl, by rw [ht]; exact hV.1, va_K.moved hW.alike hK, hV.2.1⟩, hV.2.2.1.F ht⟩) hV.2.2.1.2.2 hdg B.notSynchronized
end CNCm
end
section
set_option maxRecDepth 100000
/-! functional models of the methods, over a state (field, place) ↦ int; places are natural numbers, 81 is 'no cell', 4 'no direction' -/
def kx_lp {α : Type} (f : Nat → α → α) : Nat → α → α
  | 0, a => a
  | n + 1, a => f n (kx_lp f n a)
theorem kx_lp_s {α : Type} (f : Nat → α → α) (n : Nat) (a : α) : kx_lp f (n + 1) a = f n (kx_lp f n a) := rfl
def kx_oI (t : Nat) : Int32 := if t < 81 then nI t else -1
theorem kx_oI_pos {t : Nat} (h : t < 81) : kx_oI t = nI t := if_pos h
theorem kx_oI_neg {t : Nat} (h : ¬ t < 81) : kx_oI t = -1 := if_neg h
def kx_oN (t : Nat) : Int32 := if t < 81 then nI t else -4
theorem kx_oN_pos {t : Nat} (h : t < 81) : kx_oN t = nI t := if_pos h
theorem kx_oN_neg {t : Nat} (h : ¬ t < 81) : kx_oN t = -4 := if_neg h
def kx_oD (t : Nat) : Int32 := if t < 4 then nI t else -4
theorem kx_oD_pos {t : Nat} (h : t < 4) : kx_oD t = nI t := if_pos h
theorem kx_oD_neg {t : Nat} (h : ¬ t < 4) : kx_oD t = -4 := if_neg h
def kx_bad (c : Int32) : Int32 := if c < 0 then 1 else if c < 81 then 0 else 1
theorem kx_bad_0 {c : Int32} (h : kx_bad c = 0) : ∃ a : Nat, a < 81 ∧ c = nI a := by
  rcases pk_ix c (n := 81) (by decide) with h1 | h1 | h1
  · exfalso
    rw [kx_bad, if_pos h1] at h
    exact absurd h (by decide)
  · exfalso
    rw [kx_bad] at h
    split at h
    · exact absurd h (by decide)
    · split at h
      · next h2 => exact absurd h2 (Int32.not_lt.mpr h1)
      · exact absurd h (by decide)
  · exact h1
theorem kx_bad_in {a : Nat} (h : a < 81) : kx_bad (nI a) = 0 := by
  rw [kx_bad, if_neg (nI_pos (by omega)), if_pos]
  exact nI_lt (b := 81) h (by decide)
def kx_mvJ (c d : Int32) : Int32 := if d = 0 then (if 9 ≤ c then c - 9 else -1) else if d = 1 then (if c - c / 9 * 9 = 8 then -1 else c + 1) else if d = 2 then (if c + 9 < 81 then c + 9 else -1) else (if c - c / 9 * 9 = 0 then -1 else c - 1)
def kx_nbJ (c d : Int32) : Int32 := if d = 0 then (if 9 ≤ c then c - 9 else -4) else if d = 1 then (if c - c / 9 * 9 = 8 then -4 else c + 1) else if d = 2 then (if c ≤ 71 then c + 9 else -4) else (if c - c / 9 * 9 = 0 then -4 else c - 1)
/-- the cell to which a move leads; 81: none -/
def kx_mv (c d : Nat) : Nat := if d = 0 then (if c < 9 then 81 else c - 9) else if d = 1 then (if c % 9 = 8 then 81 else c + 1) else if d = 2 then (if 72 ≤ c then 81 else c + 9) else (if c % 9 = 0 then 81 else c - 1)
theorem kx_mv_tab : ∀ c, c < 81 → ∀ d, d < 4 → kx_mvJ (nI c) (nI d) = kx_oI (kx_mv c d) := by decide +kernel
theorem kx_nb_tab : ∀ c, c < 81 → ∀ d, d < 4 → kx_nbJ (nI c) (nI d) = kx_oN (kx_mv c d) := by decide +kernel
def kx_arJ (c k : Int32) : Int32 := if c - c / 9 * 9 + (k - k / 3 * 3) - 1 < 0 then -1 else if 9 ≤ c - c / 9 * 9 + (k - k / 3 * 3) - 1 then -1 else if c / 9 + k / 3 - 1 < 0 then -1 else if c / 9 + k / 3 - 1 < 9 then (c / 9 + k / 3 - 1) * 9 + (c - c / 9 * 9 + (k - k / 3 * 3) - 1) else -1
/-- the neighbour in one of eight directions (or the cell itself); 81: none -/
def kx_ar (c k : Nat) : Nat := if 1 ≤ c % 9 + k % 3 ∧ c % 9 + k % 3 ≤ 9 ∧ 1 ≤ c / 9 + k / 3 ∧ c / 9 + k / 3 ≤ 9 then (c / 9 + k / 3 - 1) * 9 + (c % 9 + k % 3 - 1) else 81
theorem kx_ar_tab : ∀ c, c < 81 → ∀ k, k < 9 → kx_arJ (nI c) (nI k) = kx_oI (kx_ar c k) := by decide +kernel
-- clearance
def kx_p1 (a k : Nat) (X : cn_St) : cn_St := if kx_ar a k < 81 then (if X 5 (kx_ar a k) ≤ X 5 a + 1 then X else up2 (up2 (up2 X 5 (kx_ar a k) (X 5 a + 1)) 6 (kx_ar a k) (X 6 a)) 7 (kx_ar a k) 1) else X
def kx_po (a : Nat) (X : cn_St) : cn_St := kx_lp (kx_p1 a) 9 X
def kx_l1 (d a : Nat) (X : cn_St) : cn_St := if X 7 a = 0 then X else if X 5 a = nI d then kx_po a (up2 X 7 a 0) else X
def kx_l2 (d : Nat) (X : cn_St) : cn_St := kx_lp (kx_l1 d) 81 X
def kx_lw (X : cn_St) : cn_St := kx_lp kx_l2 9 X
def kx_b1 (X : cn_St) (a k : Nat) (b : Int32) : Int32 := if b = 0 then (if kx_ar a k < 81 then (if 0 ≤ X 6 (kx_ar a k) then 0 else 1) else 0) else 1
def kx_br (X : cn_St) (a : Nat) : Int32 := kx_lp (kx_b1 X a) 9 0
def kx_r1 (a k : Nat) (X : cn_St) : cn_St := if X 6 k = nI a then up2 (up2 X 5 k 9) 6 k (-1) else X
def kx_r2 (k : Nat) (X : cn_St) : cn_St := up2 X 7 k (if X 6 k < 0 then 0 else if kx_br X k = 0 then 0 else 1)
def kx_rf (a : Nat) (X : cn_St) : cn_St := kx_lp kx_r2 81 (kx_lp (kx_r1 a) 81 X)
def kx_ch (a : Nat) (on : Int32) (X : cn_St) : cn_St := kx_lw (if on = 0 then kx_rf a (up2 X 0 a on) else up2 (up2 (up2 (up2 X 0 a on) 5 a 0) 6 a (nI a)) 7 a 1)
-- costs and distances
def kx_co (X : cn_St) (a : Nat) : Int32 := if X 0 a = 0 then (if X 5 a ≤ X 1 0 then 1 + X 2 0 * (X 1 0 + 1 - X 5 a) else 1) else -1
def kx_s1 (X : cn_St) (a d : Nat) (b : Int32) : Int32 := if kx_mv a d < 81 then (if X 8 (kx_mv a d) < 0 then b else if b ≤ X 9 (kx_mv a d) + X 8 (kx_mv a d) then b else X 9 (kx_mv a d) + X 8 (kx_mv a d)) else b
def kx_av (X : cn_St) (a : Nat) : Int32 := if X 8 a < 0 then 100000 else if nI a = X 4 0 then 0 else kx_lp (kx_s1 X a) 4 100000
def kx_ask (a : Nat) (X : cn_St) : cn_St := up2 X 10 a (kx_av X a)
def kx_a1 (a d : Nat) (X : cn_St) : cn_St := if kx_mv a d < 81 then kx_ask (kx_mv a d) X else X
def kx_aa (a : Nat) (X : cn_St) : cn_St := kx_lp (kx_a1 a) 4 X
def kx_c1 (a : Nat) (X : cn_St) : cn_St := if kx_co X a = X 8 a then X else kx_aa a (kx_ask a (up2 X 8 a (kx_co X a)))
def kx_rc (X : cn_St) : cn_St := kx_lp kx_c1 81 X
def kx_key (X : cn_St) (a : Nat) : Int32 := if X 10 a ≤ X 9 a then X 10 a else X 9 a
def kx_f1 (X : cn_St) (a : Nat) (q : Nat × Int32) : Nat × Int32 := if X 9 a = X 10 a then q else if q.2 ≤ kx_key X a then q else (a, kx_key X a)
def kx_fl (X : cn_St) (n : Nat) : Nat × Int32 := kx_lp (kx_f1 X) n (81, 100001)
theorem kx_fl_s (X : cn_St) (n : Nat) : kx_fl X (n + 1) = kx_f1 X n (kx_fl X n) := rfl
def kx_fi (X : cn_St) : Nat := (kx_fl X 81).1
def kx_e1 (a : Nat) (X : cn_St) : cn_St := if X 9 a ≤ X 10 a then kx_aa a (kx_ask a (up2 X 9 a 100000)) else kx_aa a (up2 X 9 a (X 10 a))
def kx_se : Nat → cn_St → cn_St
  | 0, X => X
  | n + 1, X => if kx_fi X < 81 then kx_se n (kx_e1 (kx_fi X) X) else X
theorem kx_se_t {n : Nat} {X : cn_St} (h : kx_fi X < 81) : kx_se (n + 1) X = kx_se n (kx_e1 (kx_fi X) X) := if_pos h
theorem kx_se_f {n : Nat} {X : cn_St} (h : ¬ kx_fi X < 81) : kx_se (n + 1) X = X := if_neg h
-- the class's own methods
def kx_put (a : Nat) (on : Int32) (X : cn_St) : Int32 × cn_St := if X 0 a = on then (0, X) else (1, kx_ch a on X)
def kx_blk (c on : Int32) (X : cn_St) : Int32 × cn_St := if kx_bad c = 0 then (if X 0 c.toNatClampNeg = 0 then 0 else 1, kx_rc (kx_put c.toNatClampNeg (if on = 0 then 0 else 1) X).2) else (-1, X)
def kx_wl (on : Int32) (d : Nat) : Nat → Nat → Int32 → cn_St → Int32 × cn_St
  | 0, _, ch, X => (ch, X)
  | n + 1, a, ch, X => if a < 81 then kx_wl on d n (kx_mv a d) (ch + (kx_put a on X).1) (kx_put a on X).2 else (ch, X)
def kx_wall (c down n : Int32) (X : cn_St) : Int32 × cn_St := if kx_bad c = 0 then (if n < -9 then (-1, X) else if n ≤ 9 then ((kx_wl (if n ≤ 0 then 0 else 1) (if down = 0 then 1 else 2) (if 0 ≤ n then n else -n).toNatClampNeg c.toNatClampNeg 0 X).1, kx_rc (kx_wl (if n ≤ 0 then 0 else 1) (if down = 0 then 1 else 2) (if 0 ≤ n then n else -n).toNatClampNeg c.toNatClampNeg 0 X).2) else (-1, X)) else (-1, X)
def kx_tune (r g : Int32) (X : cn_St) : Int32 × cn_St := if r < 0 then (-1, X) else if 3 < r then (-1, X) else if g < 0 then (-1, X) else if g ≤ 9 then (0, kx_rc (up2 (up2 X 1 0 r) 2 0 g)) else (-1, X)
def kx_plc (c : Int32) (X : cn_St) : Int32 × cn_St := if kx_bad c = 0 then (X 3 0, up2 X 3 0 c) else (-1, X)
def kx_goal (c : Int32) (g : Nat) (X : cn_St) : Int32 × cn_St := if kx_bad c = 0 then (nI g, kx_ask c.toNatClampNeg (kx_ask g (up2 X 4 0 c))) else (-1, X)
def kx_bld (c : Int32) (X : cn_St) : Int32 := if kx_bad c = 0 then (if X 0 c.toNatClampNeg = 0 then 0 else 1) else 0
def kx_clr (c : Int32) (X : cn_St) : Int32 := if kx_bad c = 0 then X 5 c.toNatClampNeg else -1
def kx_cst (c : Int32) (X : cn_St) : Int32 := if kx_bad c = 0 then (if 0 ≤ X 8 c.toNatClampNeg then X 8 c.toNatClampNeg else -4) else -1
def kx_ans (d : Int32) : Int32 := if d < 100000 then d else -4
def kx_dfr (c : Int32) (X : cn_St) : Int32 × cn_St := if kx_bad c = 0 then (kx_ans (kx_se 400 X 9 c.toNatClampNeg), kx_se 400 X) else (-1, X)
def kx_nl (X : cn_St) (a : Nat) : Nat → Nat → Nat
  | 0, _ => 4
  | n + 1, d => if kx_mv a d < 81 then (if X 8 (kx_mv a d) < 0 then kx_nl X a n (d + 1) else if X 9 (kx_mv a d) + X 8 (kx_mv a d) = X 9 a then d else kx_nl X a n (d + 1)) else kx_nl X a n (d + 1)
def kx_nx (X : cn_St) (a : Nat) : Nat := if nI a = X 4 0 then 4 else if X 9 a < 100000 then kx_nl X a 4 0 else 4
def kx_dr (n : Int32) : Nat → Nat → Nat → Int32 → cn_St → Int32 × cn_St
  | 0, _, _, ch, X => (ch, X)
  | k + 1, i, r, ch, X => if n ≤ nI i then (ch, X) else if kx_nx X r < 4 then kx_dr n k (i + 1) (kx_mv r (kx_nx X r)) (ch + 1) (up2 X 3 0 (nI (kx_mv r (kx_nx X r)))) else (ch, X)
def kx_ms (X : cn_St) : Nat → Nat → Int32 → Int32
  | 0, _, ch => ch
  | k + 1, a, ch => if kx_nx X a < 4 then kx_ms X k (kx_mv a (kx_nx X a)) (ch + 1) else ch
def kx_mvs (X : cn_St) (r : Nat) : Int32 := if X 9 r < 100000 then kx_ms X 81 r 0 else -4
def kx_n1 (X : cn_St) (a : Nat) (b : Int32) : Int32 := if 100000 ≤ X 9 a then b else b + 1
def kx_h1 (X : cn_St) (a : Nat) (b : Int32) : Int32 := if 100000 ≤ X 9 a then b else if X 9 a ≤ b then b else X 9 a
theorem kx_nl_mv (X : cn_St) (a : Nat) : ∀ n d, kx_nl X a n d < 4 → kx_mv a (kx_nl X a n d) < 81 := by
  intro n
  induction n with
  | zero => intro d h; exact absurd h (by simp [kx_nl])
  | succ n ih =>
    intro d h
    by_cases h1 : kx_mv a d < 81
    · by_cases h2 : X 8 (kx_mv a d) < 0
      · rw [kx_nl, if_pos h1, if_pos h2] at h ⊢
        exact ih _ h
      · by_cases h3 : X 9 (kx_mv a d) + X 8 (kx_mv a d) = X 9 a
        · rw [kx_nl, if_pos h1, if_neg h2, if_pos h3] at h ⊢
          exact h1
        · rw [kx_nl, if_pos h1, if_neg h2, if_neg h3] at h ⊢
          exact ih _ h
    · rw [kx_nl, if_neg h1] at h ⊢
      exact ih _ h
theorem kx_nx_mv {X : cn_St} {a : Nat} (h : kx_nx X a < 4) : kx_mv a (kx_nx X a) < 81 := by
  by_cases h1 : nI a = X 4 0
  · rw [kx_nx, if_pos h1] at h
    omega
  · by_cases h2 : X 9 a < 100000
    · rw [kx_nx, if_neg h1, if_pos h2] at h ⊢
      exact kx_nl_mv X a 4 0 h
    · rw [kx_nx, if_neg h1, if_neg h2] at h
      omega
end
section
set_option maxRecDepth 100000
/-! functional models of the reference's methods; fields: 0 blocks, 1 robot, 2 goal, 3 radius, 4 gain, 5 costs, 6 distances -/
def km_ic (c : Int32) : Int32 := if c < 0 then 0 else if 80 < c then 0 else 1
theorem km_ic_bad (c : Int32) : km_ic c = if kx_bad c = 0 then 1 else 0 := by
  rcases pk_ix c (n := 81) (by decide) with h1 | h1 | h1
  · rw [km_ic, if_pos h1, kx_bad, if_pos h1]
    rfl
  · have h2 : ¬ c < 0 := Int32.not_lt.mpr (Int32.le_trans (by decide) h1)
    have h3 : (80 : Int32) < c := Int32.lt_of_lt_of_le (by decide) h1
    have h4 : ¬ c < 81 := Int32.not_lt.mpr h1
    rw [km_ic, if_neg h2, if_pos h3, kx_bad, if_neg h2, if_neg h4]
    rfl
  · obtain ⟨j, hj, rfl⟩ := h1
    rw [kx_bad_in hj, km_ic, if_neg (nI_pos (by omega)), if_neg, if_pos rfl]
    exact Int32.not_lt.mpr (nI_le (b := 80) (by omega) (by decide))
theorem km_ic_1 {c : Int32} (h : ¬ km_ic c = 0) : ∃ a : Nat, a < 81 ∧ c = nI a := by
  rw [km_ic_bad] at h
  by_cases h1 : kx_bad c = 0
  · exact kx_bad_0 h1
  · rw [if_neg h1] at h
    exact absurd rfl h
theorem km_ic_in {a : Nat} (h : a < 81) : km_ic (nI a) = 1 := by rw [km_ic_bad, if_pos (kx_bad_in h)]
theorem km_ne4 {t : Nat} (h : t < 81) : ¬ nI t = -4 := fun e => absurd (show nI t < 0 by rw [e]; decide) (nI_pos (by omega))
def km_blk (c on : Int32) (Y : cn_St) : Int32 × cn_St := if km_ic c = 0 then (-1, Y) else (if Y 0 c.toNatClampNeg = 0 then 0 else 1, up2 Y 0 c.toNatClampNeg (if on = 0 then 0 else 1))
def km_wc (down : Int32) (a i : Nat) : Nat := if down = 0 then (if a % 9 + i < 9 then a + i else 81) else (if a / 9 + i < 9 then a + 9 * i else 81)
def km_w1 (on down : Int32) (a i : Nat) (q : Int32 × cn_St) : Int32 × cn_St := if km_wc down a i < 81 then (if q.2 0 (km_wc down a i) = on then q else (q.1 + 1, up2 q.2 0 (km_wc down a i) on)) else q
def km_wall (c down n : Int32) (Y : cn_St) : Int32 × cn_St := if km_ic c = 0 then (-1, Y) else if n < -9 then (-1, Y) else if n ≤ 9 then kx_lp (km_w1 (if n ≤ 0 then 0 else 1) down c.toNatClampNeg) (if 0 ≤ n then n else -n).toNatClampNeg (0, Y) else (-1, Y)
def km_tune (r g : Int32) (Y : cn_St) : Int32 × cn_St := if r < 0 then (-1, Y) else if 3 < r then (-1, Y) else if g < 0 then (-1, Y) else if g ≤ 9 then (0, up2 (up2 Y 3 0 r) 4 0 g) else (-1, Y)
def km_plc (c : Int32) (Y : cn_St) : Int32 × cn_St := if km_ic c = 0 then (-1, Y) else (Y 1 0, up2 Y 1 0 c)
def km_goal (c : Int32) (Y : cn_St) : Int32 × cn_St := if km_ic c = 0 then (-1, Y) else (Y 2 0, up2 Y 2 0 c)
def km_bld (c : Int32) (Y : cn_St) : Int32 := if km_ic c = 0 then 0 else if Y 0 c.toNatClampNeg = 0 then 0 else 1
/-- Chebyshev distance of two cells -/
def km_cb (c d : Nat) : Nat := max (max (c % 9 - d % 9) (d % 9 - c % 9)) (max (c / 9 - d / 9) (d / 9 - c / 9))
theorem km_rem9 {a : Nat} (h : a < 81) : nI a - nI a / 9 * 9 = nI (a % 9) := pk_rem (a := a) (d := 9) (by omega) (by decide) (by decide)
theorem km_div9 {a : Nat} (h : a < 81) : nI a / 9 = nI (a / 9) := pk_div (a := a) (d := 9) (by omega) (by decide) (by decide)
theorem km_abs {a b : Nat} (ha : a < 2 ^ 31) (hb : b < 2 ^ 31) : (if nI a ≤ nI b then nI b - nI a else nI a - nI b) = nI (max (a - b) (b - a)) := by
  by_cases h : a ≤ b
  · rw [if_pos (nI_le h hb), pk_sub h]
    congr 1
    omega
  · rw [if_neg (nI_ge (by omega) ha), pk_sub (by omega)]
    congr 1
    omega
theorem km_max {a b : Nat} (ha : a < 2 ^ 31) (hb : b < 2 ^ 31) : (if nI a ≤ nI b then nI b else nI a) = nI (max a b) := by
  by_cases h : a ≤ b
  · rw [if_pos (nI_le h hb)]
    congr 1
    omega
  · rw [if_neg (nI_ge (by omega) ha)]
    congr 1
    omega
def km_l1 (Y : cn_St) (a d : Nat) (b : Int32) : Int32 := if Y 0 d = 0 then b else if b ≤ nI (km_cb a d) then b else nI (km_cb a d)
def km_cl (Y : cn_St) (a : Nat) : Int32 := kx_lp (km_l1 Y a) 81 9
def km_clr (c : Int32) (Y : cn_St) : Int32 := if km_ic c = 0 then -1 else km_cl Y c.toNatClampNeg
theorem km_clr_in {a : Nat} (h : a < 81) (Y : cn_St) : km_clr (nI a) Y = km_cl Y a := by
  rw [km_clr, km_ic_in h, nI_clamp (by omega)]
  rfl
def km_co (Y : cn_St) (a : Nat) : Int32 := if Y 0 a = 0 then (if km_cl Y a ≤ Y 3 0 then 1 + Y 4 0 * (Y 3 0 + 1 - km_cl Y a) else 1) else -4
def km_cst (c : Int32) (Y : cn_St) : Int32 := if km_ic c = 0 then -1 else km_co Y c.toNatClampNeg
theorem km_cst_in {a : Nat} (h : a < 81) (Y : cn_St) : km_cst (nI a) Y = km_co Y a := by
  rw [km_cst, km_ic_in h, nI_clamp (by omega)]
  rfl
def km_x1 (a d : Nat) (q : Int32 × cn_St) : Int32 × cn_St := if kx_mv a d < 81 then (if 1000000 ≤ q.2 6 (kx_mv a d) then q else if q.2 6 a ≤ q.2 6 (kx_mv a d) + q.2 5 (kx_mv a d) then q else (1, up2 q.2 6 a (q.2 6 (kx_mv a d) + q.2 5 (kx_mv a d)))) else q
def km_rl (a : Nat) (Y : cn_St) (n : Nat) : Int32 × cn_St := kx_lp (km_x1 a) n (0, Y)
def km_rx (a : Nat) (Y : cn_St) : Int32 × cn_St := km_rl a Y 4
theorem km_rl_01 (a : Nat) (Y : cn_St) : ∀ n, (km_rl a Y n).1 = 0 ∨ (km_rl a Y n).1 = 1 := by
  intro n
  induction n with
  | zero => exact Or.inl rfl
  | succ n ih =>
    rw [km_rl, kx_lp_s, km_x1]
    split
    · split
      · exact ih
      · split
        · exact ih
        · exact Or.inr rfl
    · exact ih
theorem km_rx_nar (a : Nat) (Y : cn_St) : narrow .boolean (.int (km_rx a Y).1) = .int (km_rx a Y).1 := by
  rcases km_rl_01 a Y 4 with h | h
  · rw [km_rx, h]; rfl
  · rw [km_rx, h]; rfl
def km_d1 (a : Nat) (Y : cn_St) : cn_St := up2 (up2 Y 5 a (km_co Y a)) 6 a (if nI a = Y 2 0 then (if Y 0 a = 0 then 0 else 1000000) else 1000000)
def km_k1 (a : Nat) (q : Int32 × cn_St) : Int32 × cn_St := if q.2 0 a = 0 then (if (km_rx a q.2).1 = 0 then (q.1, (km_rx a q.2).2) else (1, (km_rx a q.2).2)) else q
def km_rd (Y : cn_St) : Int32 × cn_St := kx_lp km_k1 81 (0, Y)
def km_fl : Nat → Int32 → cn_St → cn_St
  | 0, _, Y => Y
  | n + 1, b, Y => if b = 0 then Y else km_fl n (km_rd Y).1 (km_rd Y).2
theorem km_fl_t {n : Nat} {b : Int32} {Y : cn_St} (h : b = 0) : km_fl (n + 1) b Y = Y := if_pos h
theorem km_fl_f {n : Nat} {b : Int32} {Y : cn_St} (h : ¬ b = 0) : km_fl (n + 1) b Y = km_fl n (km_rd Y).1 (km_rd Y).2 := if_neg h
def km_fd (Y : cn_St) : cn_St := km_fl 81 1 (kx_lp km_d1 81 Y)
def km_dfr (c : Int32) (Y : cn_St) : Int32 × cn_St := if km_ic c = 0 then (-1, Y) else (if km_fd Y 6 c.toNatClampNeg = 1000000 then -4 else km_fd Y 6 c.toNatClampNeg, km_fd Y)
def km_nl (Y : cn_St) (a : Nat) : Nat → Nat → Nat
  | 0, _ => 4
  | n + 1, d => if nI a = Y 2 0 then km_nl Y a n (d + 1) else if kx_mv a d < 81 then (if 1000000 ≤ Y 6 a then km_nl Y a n (d + 1) else if Y 0 (kx_mv a d) = 0 then (if Y 6 (kx_mv a d) + Y 5 (kx_mv a d) = Y 6 a then d else km_nl Y a n (d + 1)) else km_nl Y a n (d + 1)) else km_nl Y a n (d + 1)
def km_nx (Y : cn_St) (a : Nat) : Nat := km_nl Y a 4 0
theorem km_nl_mv (Y : cn_St) (a : Nat) : ∀ n d, km_nl Y a n d < 4 → kx_mv a (km_nl Y a n d) < 81 := by
  intro n
  induction n with
  | zero => intro d h; exact absurd h (by simp [km_nl])
  | succ n ih =>
    intro d h
    rw [km_nl] at h ⊢
    split
    · rename_i h1
      rw [if_pos h1] at h
      exact ih _ h
    · rename_i h1
      rw [if_neg h1] at h
      split
      · rename_i h2
        rw [if_pos h2] at h
        split
        · rename_i h3
          rw [if_pos h3] at h
          exact ih _ h
        · rename_i h3
          rw [if_neg h3] at h
          split
          · rename_i h4
            rw [if_pos h4] at h
            split
            · exact h2
            · rename_i h5
              rw [if_neg h5] at h
              exact ih _ h
          · rename_i h4
            rw [if_neg h4] at h
            exact ih _ h
      · rename_i h2
        rw [if_neg h2] at h
        exact ih _ h
theorem km_nx_mv {Y : cn_St} {a : Nat} (h : km_nx Y a < 4) : kx_mv a (km_nx Y a) < 81 := km_nl_mv Y a 4 0 h
def km_dr (n : Int32) : Nat → Nat → Nat → Int32 → cn_St → Int32 × cn_St
  | 0, _, _, ch, Y => (ch, Y)
  | k + 1, i, r, ch, Y => if n ≤ nI i then (ch, Y) else if km_nx Y r < 4 then km_dr n k (i + 1) (kx_mv r (km_nx Y r)) (ch + 1) (up2 Y 1 0 (nI (kx_mv r (km_nx Y r)))) else km_dr n k (i + 1) r ch Y
def km_ms (Y : cn_St) : Nat → Nat → Nat → Int32
  | 0, i, _ => nI i
  | k + 1, i, a => if nI a = Y 2 0 then nI i else km_ms Y k (i + 1) (kx_mv a (km_nx Y a))
def km_mvs (Y : cn_St) (r : Nat) : Int32 := if Y 6 r = 1000000 then -4 else km_ms Y 81 0 r
def km_n1 (Y : cn_St) (a : Nat) (b : Int32) : Int32 := if 1000000 ≤ Y 6 a then b else b + 1
def km_h1 (Y : cn_St) (a : Nat) (b : Int32) : Int32 := if 1000000 ≤ Y 6 a then b else if Y 6 a ≤ b then b else Y 6 a
end
section
set_option maxRecDepth 100000
set_option maxHeartbeats 4000000 in
set_option maxRecDepth 100000 in
theorem xt_bad (l : Launch) (D : va_G) (G : Nat → Nat) (E : Nat → ClassId) (X : cn_St) (c0 : Int32)  : cn_xMi l yX0_bad cX0_bad 2 (some .boolean) ({ frames := 0, cells := 0, slots := 0, locals := 0 } : Room) D G E X [.int (c0)] (kx_bad c0) (X) := by
  refine cn_xofi (ty := .boolean) rfl (by unfold kx_bad; split; rfl; split <;> rfl) [some (.ref (G 11)), some (.int (c0))] (by decide) rfl (Nat.le_of_ble_eq_true rfl) (by intro v hv; simp only [List.mem_cons, List.not_mem_nil, or_false] at hv; rcases hv with rfl | rfl <;> rfl) rfl (Nat.le_of_ble_eq_true rfl) ?_
  intro p e s m args below meth c ls A Q H locs C hV hl hret
  obtain ⟨hx, hb, hml, hown, hts, hK, hrt, hlk⟩ := id C
  refine lv_iload_n hx hb dX0_bad_0 rfl (lx_at hl 1 rfl) ?_
  refine lv_if_lt (tgt := 10) hx hb dX0_bad_1 (by decide) (fun c1 => ?_) (fun c1 => ?_)
  · refine lv_iconst (v := 1) hx hb dX0_bad_10 (by decide) ?_
    refine lv_goto (tgt := 15) hx hb dX0_bad_11 (by decide) ?_
    exact hret _ _ _ _ _ _ (by simp [kx_bad, c1]) (rfl) hV dX0_bad_15
  · refine lv_iload_n hx hb dX0_bad_4 rfl (lx_at hl 1 rfl) ?_
    refine lv_bipush (v := 81) hx hb dX0_bad_5 (by decide) ?_
    refine lv_icmp_lt (tgt := 14) hx hb dX0_bad_7 (by decide) (fun c7 => ?_) (fun c7 => ?_)
    · refine lv_iconst (v := 0) hx hb dX0_bad_14 (by decide) ?_
      exact hret _ _ _ _ _ _ (by simp [kx_bad, c1, c7]) (rfl) hV dX0_bad_15
    · refine lv_iconst (v := 1) hx hb dX0_bad_10 (by decide) ?_
      refine lv_goto (tgt := 15) hx hb dX0_bad_11 (by decide) ?_
      exact hret _ _ _ _ _ _ (by simp [kx_bad, c1, c7]) (rfl) hV dX0_bad_15
theorem xc_bad {p : Program} {l : Launch} {e : Env} {R : Room} {s : State} {m : MethodId} {args : Array Value} {below : List Frame} {meth : Method} {c : Code} {H : Heap} {locs : List Loc} {cells slots : Nat} {Q : State → Prop} {cc : ByteArray} {nL : Nat} {ret : Option FieldType} {pc : Nat} {ls : Array Slot} {rest : List Value} {D : va_G} {G : Nat → Nat} {E : Nat → ClassId} {A : Nat → Prop} {H0 : Heap} {X : cn_St} {c0 : Int32} (C : cn_C RX0 D (cn_tx E) p s m args meth c cc nL ret) (hV : cn_V D (cn_Wx G E) A H0 X H locs) (hl : ls.size = nL)  (hR : 0 + 1 ≤ R.frames ∧ 8 + (2 + 11) + 0 ≤ R.locals) (hroom : (rest.map fun v => v.category).sum ≤ 8) (hcs : cells ≤ R.cells ∧ slots ≤ R.slots) (hdg : decode cc pc = .ok (.invokevirtual 83, 3))
    (kk : ∀ (H1 : Heap) (locs1 : List Loc), cn_V D (cn_Wx G E) A H0 (X) H1 locs1 → W p l e R s m args below meth c H1 locs1 cells slots Q (F0 m (pc + 3) ls (.int (kx_bad c0) :: rest))) : W p l e R s m args below meth c H locs cells slots Q (F0 m pc ls (.int (c0) :: .ref (G 11) :: rest)) :=
  cn_xcalli (As := [.int (c0)]) (xt_bad l D G E X c0) C hV hl ⟨q74, q76, qs0, q77⟩ (show yX0_bad.cls = RX0 ∧ yX0_bad.cls ≠ "java/lang/invoke/MethodHandle" ∧ yX0_bad.cls ≠ "java/lang/invoke/VarHandle" ∧ (parseMethodDescriptor yX0_bad.desc).map (fun d => d.parameters.length) = some 1 by decide +kernel) ⟨rfl, rfl⟩ hR rfl hroom hcs hdg kk

set_option maxHeartbeats 4000000 in
set_option maxRecDepth 100000 in
theorem xt_moved (l : Launch) (D : va_G) (G : Nat → Nat) (E : Nat → ClassId) (X : cn_St) (a d : Nat) (ha : a < 81) (hd : d < 4) : cn_xMi l yX0_moved cX0_moved 4 (some .int) ({ frames := 0, cells := 0, slots := 0, locals := 0 } : Room) D G E X [.int (nI a), .int (nI d)] (kx_oI (kx_mv a d)) (X) := by
  refine cn_xofi (ty := .int) rfl (vp_nar_int _) [some (.ref (G 11)), some (.int (nI a)), some (.int (nI d)), none] (by decide) rfl (Nat.le_of_ble_eq_true rfl) (by intro v hv; simp only [List.mem_cons, List.not_mem_nil, or_false] at hv; rcases hv with rfl | rfl | rfl <;> rfl) rfl (Nat.le_of_ble_eq_true rfl) ?_
  intro p e s m args below meth c ls A Q H locs C hV hl hret
  obtain ⟨hx, hb, hml, hown, hts, hK, hrt, hlk⟩ := id C
  refine lv_iload_n hx hb dX0_moved_0 rfl (lx_at hl 1 rfl) ?_
  refine lv_bipush (v := 9) hx hb dX0_moved_1 (by decide) ?_
  refine lv_irem hx hb dX0_moved_3 (by decide) ?_
  refine lx_istore_n (i := 3) hx hb dX0_moved_4 rfl hl (by decide) (fun ls hl => ?_)
  refine lv_iload_n hx hb dX0_moved_5 rfl (lx_at hl 2 rfl) ?_
  refine lv_if_ne (tgt := 24) hx hb dX0_moved_6 (by decide) (fun c6 => ?_) (fun c6 => ?_)
  · refine lv_iload_n hx hb dX0_moved_24 rfl (lx_at hl 2 rfl) ?_
    refine lv_iconst (v := 1) hx hb dX0_moved_25 (by decide) ?_
    refine lv_icmp_ne (tgt := 43) hx hb dX0_moved_26 (by decide) (fun c26 => ?_) (fun c26 => ?_)
    · refine lv_iload_n hx hb dX0_moved_43 rfl (lx_at hl 2 rfl) ?_
      refine lv_iconst (v := 2) hx hb dX0_moved_44 (by decide) ?_
      refine lv_icmp_ne (tgt := 66) hx hb dX0_moved_45 (by decide) (fun c45 => ?_) (fun c45 => ?_)
      · refine lv_iload_n hx hb dX0_moved_66 rfl (lx_at hl 3 rfl) ?_
        refine lv_if_ne (tgt := 74) hx hb dX0_moved_67 (by decide) (fun c67 => ?_) (fun c67 => ?_)
        · refine lv_iload_n hx hb dX0_moved_74 rfl (lx_at hl 1 rfl) ?_
          refine lv_iconst (v := 1) hx hb dX0_moved_75 (by decide) ?_
          refine lv_isub hx hb dX0_moved_76 ?_
          exact hret _ _ _ _ _ _ (by rw [← kx_mv_tab a ha d hd]; simp [kx_mvJ, c6, c26, c45, c67]) (rfl) hV dX0_moved_77
        · refine lv_iconst (v := (-1)) hx hb dX0_moved_70 (by decide) ?_
          refine lv_goto (tgt := 77) hx hb dX0_moved_71 (by decide) ?_
          exact hret _ _ _ _ _ _ (by rw [← kx_mv_tab a ha d hd]; simp [kx_mvJ, c6, c26, c45, c67]) (rfl) hV dX0_moved_77
      · refine lv_iload_n hx hb dX0_moved_48 rfl (lx_at hl 1 rfl) ?_
        refine lv_bipush (v := 9) hx hb dX0_moved_49 (by decide) ?_
        refine lv_iadd hx hb dX0_moved_51 ?_
        refine lv_bipush (v := 81) hx hb dX0_moved_52 (by decide) ?_
        refine lv_icmp_lt (tgt := 61) hx hb dX0_moved_54 (by decide) (fun c54 => ?_) (fun c54 => ?_)
        · refine lv_iload_n hx hb dX0_moved_61 rfl (lx_at hl 1 rfl) ?_
          refine lv_bipush (v := 9) hx hb dX0_moved_62 (by decide) ?_
          refine lv_iadd hx hb dX0_moved_64 ?_
          exact hret _ _ _ _ _ _ (by rw [← kx_mv_tab a ha d hd]; simp [kx_mvJ, c6, c26, c45, c54]) (rfl) hV dX0_moved_65
        · refine lv_iconst (v := (-1)) hx hb dX0_moved_57 (by decide) ?_
          refine lv_goto (tgt := 65) hx hb dX0_moved_58 (by decide) ?_
          exact hret _ _ _ _ _ _ (by rw [← kx_mv_tab a ha d hd]; simp [kx_mvJ, c6, c26, c45, c54]) (rfl) hV dX0_moved_65
    · refine lv_iload_n hx hb dX0_moved_29 rfl (lx_at hl 3 rfl) ?_
      refine lv_bipush (v := 8) hx hb dX0_moved_30 (by decide) ?_
      refine lv_icmp_ne (tgt := 39) hx hb dX0_moved_32 (by decide) (fun c32 => ?_) (fun c32 => ?_)
      · refine lv_iload_n hx hb dX0_moved_39 rfl (lx_at hl 1 rfl) ?_
        refine lv_iconst (v := 1) hx hb dX0_moved_40 (by decide) ?_
        refine lv_iadd hx hb dX0_moved_41 ?_
        exact hret _ _ _ _ _ _ (by rw [← kx_mv_tab a ha d hd]; simp [kx_mvJ, c6, c26, c32]) (rfl) hV dX0_moved_42
      · refine lv_iconst (v := (-1)) hx hb dX0_moved_35 (by decide) ?_
        refine lv_goto (tgt := 42) hx hb dX0_moved_36 (by decide) ?_
        exact hret _ _ _ _ _ _ (by rw [← kx_mv_tab a ha d hd]; simp [kx_mvJ, c6, c26, c32]) (rfl) hV dX0_moved_42
  · refine lv_iload_n hx hb dX0_moved_9 rfl (lx_at hl 1 rfl) ?_
    refine lv_bipush (v := 9) hx hb dX0_moved_10 (by decide) ?_
    refine lv_icmp_ge (tgt := 19) hx hb dX0_moved_12 (by decide) (fun c12 => ?_) (fun c12 => ?_)
    · refine lv_iload_n hx hb dX0_moved_19 rfl (lx_at hl 1 rfl) ?_
      refine lv_bipush (v := 9) hx hb dX0_moved_20 (by decide) ?_
      refine lv_isub hx hb dX0_moved_22 ?_
      exact hret _ _ _ _ _ _ (by rw [← kx_mv_tab a ha d hd]; simp [kx_mvJ, c6, c12]) (rfl) hV dX0_moved_23
    · refine lv_iconst (v := (-1)) hx hb dX0_moved_15 (by decide) ?_
      refine lv_goto (tgt := 23) hx hb dX0_moved_16 (by decide) ?_
      exact hret _ _ _ _ _ _ (by rw [← kx_mv_tab a ha d hd]; simp [kx_mvJ, c6, c12]) (rfl) hV dX0_moved_23
theorem xc_moved {p : Program} {l : Launch} {e : Env} {R : Room} {s : State} {m : MethodId} {args : Array Value} {below : List Frame} {meth : Method} {c : Code} {H : Heap} {locs : List Loc} {cells slots : Nat} {Q : State → Prop} {cc : ByteArray} {nL : Nat} {ret : Option FieldType} {pc : Nat} {ls : Array Slot} {rest : List Value} {D : va_G} {G : Nat → Nat} {E : Nat → ClassId} {A : Nat → Prop} {H0 : Heap} {X : cn_St} {a d : Nat} (C : cn_C RX0 D (cn_tx E) p s m args meth c cc nL ret) (hV : cn_V D (cn_Wx G E) A H0 X H locs) (hl : ls.size = nL) (ha : a < 81) (hd : d < 4) (hR : 0 + 1 ≤ R.frames ∧ 8 + (4 + 11) + 0 ≤ R.locals) (hroom : (rest.map fun v => v.category).sum ≤ 8) (hcs : cells ≤ R.cells ∧ slots ≤ R.slots) (hdg : decode cc pc = .ok (.invokevirtual 61, 3))
    (kk : ∀ (H1 : Heap) (locs1 : List Loc), cn_V D (cn_Wx G E) A H0 (X) H1 locs1 → W p l e R s m args below meth c H1 locs1 cells slots Q (F0 m (pc + 3) ls (.int (kx_oI (kx_mv a d)) :: rest))) : W p l e R s m args below meth c H locs cells slots Q (F0 m pc ls (.int (nI d) :: .int (nI a) :: .ref (G 11) :: rest)) :=
  cn_xcalli (As := [.int (nI a), .int (nI d)]) (xt_moved l D G E X a d ha hd) C hV hl ⟨q118, q120, qs11, q121⟩ (show yX0_moved.cls = RX0 ∧ yX0_moved.cls ≠ "java/lang/invoke/MethodHandle" ∧ yX0_moved.cls ≠ "java/lang/invoke/VarHandle" ∧ (parseMethodDescriptor yX0_moved.desc).map (fun d => d.parameters.length) = some 2 by decide +kernel) ⟨rfl, rfl⟩ hR rfl hroom hcs hdg kk

set_option maxHeartbeats 4000000 in
set_option maxRecDepth 100000 in
theorem xt_around (l : Launch) (D : va_G) (G : Nat → Nat) (E : Nat → ClassId) (X : cn_St) (a k : Nat) (ha : a < 81) (hk : k < 9) : cn_xMi l yX0_around cX0_around 5 (some .int) ({ frames := 0, cells := 0, slots := 0, locals := 0 } : Room) D G E X [.int (nI a), .int (nI k)] (kx_oI (kx_ar a k)) (X) := by
  refine cn_xofi (ty := .int) rfl (vp_nar_int _) [some (.ref (G 11)), some (.int (nI a)), some (.int (nI k)), none, none] (by decide) rfl (Nat.le_of_ble_eq_true rfl) (by intro v hv; simp only [List.mem_cons, List.not_mem_nil, or_false] at hv; rcases hv with rfl | rfl | rfl <;> rfl) rfl (Nat.le_of_ble_eq_true rfl) ?_
  intro p e s m args below meth c ls A Q H locs C hV hl hret
  obtain ⟨hx, hb, hml, hown, hts, hK, hrt, hlk⟩ := id C
  refine lv_iload_n hx hb dX0_around_0 rfl (lx_at hl 1 rfl) ?_
  refine lv_bipush (v := 9) hx hb dX0_around_1 (by decide) ?_
  refine lv_irem hx hb dX0_around_3 (by decide) ?_
  refine lv_iload_n hx hb dX0_around_4 rfl (lx_at hl 2 rfl) ?_
  refine lv_iconst (v := 3) hx hb dX0_around_5 (by decide) ?_
  refine lv_irem hx hb dX0_around_6 (by decide) ?_
  refine lv_iadd hx hb dX0_around_7 ?_
  refine lv_iconst (v := 1) hx hb dX0_around_8 (by decide) ?_
  refine lv_isub hx hb dX0_around_9 ?_
  refine lx_istore_n (i := 3) hx hb dX0_around_10 rfl hl (by decide) (fun ls hl => ?_)
  refine lv_iload_n hx hb dX0_around_11 rfl (lx_at hl 1 rfl) ?_
  refine lv_bipush (v := 9) hx hb dX0_around_12 (by decide) ?_
  refine lv_idiv hx hb dX0_around_14 (by decide) ?_
  refine lv_iload_n hx hb dX0_around_15 rfl (lx_at hl 2 rfl) ?_
  refine lv_iconst (v := 3) hx hb dX0_around_16 (by decide) ?_
  refine lv_idiv hx hb dX0_around_17 (by decide) ?_
  refine lv_iadd hx hb dX0_around_18 ?_
  refine lv_iconst (v := 1) hx hb dX0_around_19 (by decide) ?_
  refine lv_isub hx hb dX0_around_20 ?_
  refine lx_istore hx hb dX0_around_21 hl (by decide) (fun ls hl => ?_)
  refine lv_iload_n hx hb dX0_around_23 rfl (lx_at hl 3 rfl) ?_
  refine lv_if_lt (tgt := 45) hx hb dX0_around_24 (by decide) (fun c24 => ?_) (fun c24 => ?_)
  · refine lv_iconst (v := (-1)) hx hb dX0_around_45 (by decide) ?_
    exact hret _ _ _ _ _ _ (by rw [← kx_ar_tab a ha k hk]; simp [kx_arJ, c24]) (rfl) hV dX0_around_46
  · refine lv_iload_n hx hb dX0_around_27 rfl (lx_at hl 3 rfl) ?_
    refine lv_bipush (v := 9) hx hb dX0_around_28 (by decide) ?_
    refine lv_icmp_ge (tgt := 45) hx hb dX0_around_30 (by decide) (fun c30 => ?_) (fun c30 => ?_)
    · refine lv_iconst (v := (-1)) hx hb dX0_around_45 (by decide) ?_
      exact hret _ _ _ _ _ _ (by rw [← kx_ar_tab a ha k hk]; simp [kx_arJ, c24, c30]) (rfl) hV dX0_around_46
    · refine lv_iload hx hb dX0_around_33 (lx_at hl 4 rfl) ?_
      refine lv_if_lt (tgt := 45) hx hb dX0_around_35 (by decide) (fun c35 => ?_) (fun c35 => ?_)
      · refine lv_iconst (v := (-1)) hx hb dX0_around_45 (by decide) ?_
        exact hret _ _ _ _ _ _ (by rw [← kx_ar_tab a ha k hk]; simp [kx_arJ, c24, c30, c35]) (rfl) hV dX0_around_46
      · refine lv_iload hx hb dX0_around_38 (lx_at hl 4 rfl) ?_
        refine lv_bipush (v := 9) hx hb dX0_around_40 (by decide) ?_
        refine lv_icmp_lt (tgt := 47) hx hb dX0_around_42 (by decide) (fun c42 => ?_) (fun c42 => ?_)
        · refine lv_iload hx hb dX0_around_47 (lx_at hl 4 rfl) ?_
          refine lv_bipush (v := 9) hx hb dX0_around_49 (by decide) ?_
          refine lv_imul hx hb dX0_around_51 ?_
          refine lv_iload_n hx hb dX0_around_52 rfl (lx_at hl 3 rfl) ?_
          refine lv_iadd hx hb dX0_around_53 ?_
          exact hret _ _ _ _ _ _ (by rw [← kx_ar_tab a ha k hk]; simp [kx_arJ, c24, c30, c35, c42]) (rfl) hV dX0_around_54
        · refine lv_iconst (v := (-1)) hx hb dX0_around_45 (by decide) ?_
          exact hret _ _ _ _ _ _ (by rw [← kx_ar_tab a ha k hk]; simp [kx_arJ, c24, c30, c35, c42]) (rfl) hV dX0_around_46
theorem xc_around {p : Program} {l : Launch} {e : Env} {R : Room} {s : State} {m : MethodId} {args : Array Value} {below : List Frame} {meth : Method} {c : Code} {H : Heap} {locs : List Loc} {cells slots : Nat} {Q : State → Prop} {cc : ByteArray} {nL : Nat} {ret : Option FieldType} {pc : Nat} {ls : Array Slot} {rest : List Value} {D : va_G} {G : Nat → Nat} {E : Nat → ClassId} {A : Nat → Prop} {H0 : Heap} {X : cn_St} {a k : Nat} (C : cn_C RX0 D (cn_tx E) p s m args meth c cc nL ret) (hV : cn_V D (cn_Wx G E) A H0 X H locs) (hl : ls.size = nL) (ha : a < 81) (hk : k < 9) (hR : 0 + 1 ≤ R.frames ∧ 8 + (5 + 11) + 0 ≤ R.locals) (hroom : (rest.map fun v => v.category).sum ≤ 8) (hcs : cells ≤ R.cells ∧ slots ≤ R.slots) (hdg : decode cc pc = .ok (.invokevirtual 47, 3))
    (kk : ∀ (H1 : Heap) (locs1 : List Loc), cn_V D (cn_Wx G E) A H0 (X) H1 locs1 → W p l e R s m args below meth c H1 locs1 cells slots Q (F0 m (pc + 3) ls (.int (kx_oI (kx_ar a k)) :: rest))) : W p l e R s m args below meth c H locs cells slots Q (F0 m pc ls (.int (nI k) :: .int (nI a) :: .ref (G 11) :: rest)) :=
  cn_xcalli (As := [.int (nI a), .int (nI k)]) (xt_around l D G E X a k ha hk) C hV hl ⟨q94, q96, qs5, q97⟩ (show yX0_around.cls = RX0 ∧ yX0_around.cls ≠ "java/lang/invoke/MethodHandle" ∧ yX0_around.cls ≠ "java/lang/invoke/VarHandle" ∧ (parseMethodDescriptor yX0_around.desc).map (fun d => d.parameters.length) = some 2 by decide +kernel) ⟨rfl, rfl⟩ hR rfl hroom hcs hdg kk

set_option maxHeartbeats 4000000 in
set_option maxRecDepth 100000 in
theorem xt_answer (l : Launch) (D : va_G) (G : Nat → Nat) (E : Nat → ClassId) (X : cn_St) (c0 : Int32)  : cn_xMi l yX0_answer cX0_answer 2 (some .int) ({ frames := 0, cells := 0, slots := 0, locals := 0 } : Room) D G E X [.int (c0)] (kx_ans c0) (X) := by
  refine cn_xofi (ty := .int) rfl (vp_nar_int _) [some (.ref (G 11)), some (.int (c0))] (by decide) rfl (Nat.le_of_ble_eq_true rfl) (by intro v hv; simp only [List.mem_cons, List.not_mem_nil, or_false] at hv; rcases hv with rfl | rfl <;> rfl) rfl (Nat.le_of_ble_eq_true rfl) ?_
  intro p e s m args below meth c ls A Q H locs C hV hl hret
  obtain ⟨hx, hb, hml, hown, hts, hK, hrt, hlk⟩ := id C
  refine lv_iload_n hx hb dX0_answer_0 rfl (lx_at hl 1 rfl) ?_
  refine lv_ldc (v := 100000) hx hb hown (hts _ q33) dX0_answer_1 ?_
  refine lv_icmp_lt (tgt := 11) hx hb dX0_answer_3 (by decide) (fun c3 => ?_) (fun c3 => ?_)
  · refine lv_iload_n hx hb dX0_answer_11 rfl (lx_at hl 1 rfl) ?_
    exact hret _ _ _ _ _ _ (by simp [kx_ans, c3]) (rfl) hV dX0_answer_12
  · refine lv_bipush (v := (-4)) hx hb dX0_answer_6 (by decide) ?_
    refine lv_goto (tgt := 12) hx hb dX0_answer_8 (by decide) ?_
    exact hret _ _ _ _ _ _ (by simp [kx_ans, c3]) (rfl) hV dX0_answer_12
theorem xc_answer {p : Program} {l : Launch} {e : Env} {R : Room} {s : State} {m : MethodId} {args : Array Value} {below : List Frame} {meth : Method} {c : Code} {H : Heap} {locs : List Loc} {cells slots : Nat} {Q : State → Prop} {cc : ByteArray} {nL : Nat} {ret : Option FieldType} {pc : Nat} {ls : Array Slot} {rest : List Value} {D : va_G} {G : Nat → Nat} {E : Nat → ClassId} {A : Nat → Prop} {H0 : Heap} {X : cn_St} {c0 : Int32} (C : cn_C RX0 D (cn_tx E) p s m args meth c cc nL ret) (hV : cn_V D (cn_Wx G E) A H0 X H locs) (hl : ls.size = nL)  (hR : 0 + 1 ≤ R.frames ∧ 8 + (2 + 11) + 0 ≤ R.locals) (hroom : (rest.map fun v => v.category).sum ≤ 8) (hcs : cells ≤ R.cells ∧ slots ≤ R.slots) (hdg : decode cc pc = .ok (.invokevirtual 99, 3))
    (kk : ∀ (H1 : Heap) (locs1 : List Loc), cn_V D (cn_Wx G E) A H0 (X) H1 locs1 → W p l e R s m args below meth c H1 locs1 cells slots Q (F0 m (pc + 3) ls (.int (kx_ans c0) :: rest))) : W p l e R s m args below meth c H locs cells slots Q (F0 m pc ls (.int (c0) :: .ref (G 11) :: rest)) :=
  cn_xcalli (As := [.int (c0)]) (xt_answer l D G E X c0) C hV hl ⟨q167, q169, qs15, q170⟩ (show yX0_answer.cls = RX0 ∧ yX0_answer.cls ≠ "java/lang/invoke/MethodHandle" ∧ yX0_answer.cls ≠ "java/lang/invoke/VarHandle" ∧ (parseMethodDescriptor yX0_answer.desc).map (fun d => d.parameters.length) = some 1 by decide +kernel) ⟨rfl, rfl⟩ hR rfl hroom hcs hdg kk

set_option maxHeartbeats 4000000 in
set_option maxRecDepth 100000 in
theorem xt_where (l : Launch) (D : va_G) (G : Nat → Nat) (E : Nat → ClassId) (X : cn_St)   : cn_xMi l yX0_where cX0_where 1 (some .int) ({ frames := 0, cells := 0, slots := 0, locals := 0 } : Room) D G E X [] (X 3 0) (X) := by
  refine cn_xofi (ty := .int) rfl (vp_nar_int _) [some (.ref (G 11))] (by decide) rfl (Nat.le_of_ble_eq_true rfl) (by intro v hv; simp only [List.mem_cons, List.not_mem_nil, or_false] at hv; rcases hv with rfl <;> rfl) rfl (Nat.le_of_ble_eq_true rfl) ?_
  intro p e s m args below meth c ls A Q H locs C hV hl hret
  obtain ⟨hx, hb, hml, hown, hts, hK, hrt, hlk⟩ := id C
  refine lv_aload_n hx hb dX0_where_0 rfl (lx_at hl 0 rfl) ?_
  refine xg_3 C hV dX0_where_1 ?_
  exact hret _ _ _ _ _ _ (rfl) (rfl) hV dX0_where_4

set_option maxHeartbeats 4000000 in
set_option maxRecDepth 100000 in
theorem xt_costOf (l : Launch) (D : va_G) (G : Nat → Nat) (E : Nat → ClassId) (X : cn_St) (a : Nat) (ha : a < 81) : cn_xMi l yX0_costOf cX0_costOf 2 (some .int) ({ frames := 0, cells := 0, slots := 0, locals := 0 } : Room) D G E X [.int (nI a)] (kx_co X a) (X) := by
  refine cn_xofi (ty := .int) rfl (vp_nar_int _) [some (.ref (G 11)), some (.int (nI a))] (by decide) rfl (Nat.le_of_ble_eq_true rfl) (by intro v hv; simp only [List.mem_cons, List.not_mem_nil, or_false] at hv; rcases hv with rfl | rfl <;> rfl) rfl (Nat.le_of_ble_eq_true rfl) ?_
  intro p e s m args below meth c ls A Q H locs C hV hl hret
  obtain ⟨hx, hb, hml, hown, hts, hK, hrt, hlk⟩ := id C
  refine lv_aload_n hx hb dX0_costOf_0 rfl (lx_at hl 0 rfl) ?_
  refine xg_0 C hV dX0_costOf_1 ?_
  refine lv_iload_n hx hb dX0_costOf_4 rfl (lx_at hl 1 rfl) ?_
  refine xl_0 C hV (by assumption) dX0_costOf_5 ?_
  refine lv_if_eq (tgt := 11) hx hb dX0_costOf_6 (by decide) (fun c6 => ?_) (fun c6 => ?_)
  · refine lv_aload_n hx hb dX0_costOf_11 rfl (lx_at hl 0 rfl) ?_
    refine xg_5 C hV dX0_costOf_12 ?_
    refine lv_iload_n hx hb dX0_costOf_15 rfl (lx_at hl 1 rfl) ?_
    refine xl_5 C hV (by assumption) dX0_costOf_16 ?_
    refine lv_aload_n hx hb dX0_costOf_17 rfl (lx_at hl 0 rfl) ?_
    refine xg_1 C hV dX0_costOf_18 ?_
    refine lv_icmp_le (tgt := 28) hx hb dX0_costOf_21 (by decide) (fun c21 => ?_) (fun c21 => ?_)
    · refine lv_iconst (v := 1) hx hb dX0_costOf_28 (by decide) ?_
      refine lv_aload_n hx hb dX0_costOf_29 rfl (lx_at hl 0 rfl) ?_
      refine xg_2 C hV dX0_costOf_30 ?_
      refine lv_aload_n hx hb dX0_costOf_33 rfl (lx_at hl 0 rfl) ?_
      refine xg_1 C hV dX0_costOf_34 ?_
      refine lv_iconst (v := 1) hx hb dX0_costOf_37 (by decide) ?_
      refine lv_iadd hx hb dX0_costOf_38 ?_
      refine lv_aload_n hx hb dX0_costOf_39 rfl (lx_at hl 0 rfl) ?_
      refine xg_5 C hV dX0_costOf_40 ?_
      refine lv_iload_n hx hb dX0_costOf_43 rfl (lx_at hl 1 rfl) ?_
      refine xl_5 C hV (by assumption) dX0_costOf_44 ?_
      refine lv_isub hx hb dX0_costOf_45 ?_
      refine lv_imul hx hb dX0_costOf_46 ?_
      refine lv_iadd hx hb dX0_costOf_47 ?_
      exact hret _ _ _ _ _ _ (by simp [kx_co, c6, c21]) (rfl) hV dX0_costOf_48
    · refine lv_iconst (v := 1) hx hb dX0_costOf_24 (by decide) ?_
      refine lv_goto (tgt := 48) hx hb dX0_costOf_25 (by decide) ?_
      exact hret _ _ _ _ _ _ (by simp [kx_co, c6, c21]) (rfl) hV dX0_costOf_48
  · refine lv_iconst (v := (-1)) hx hb dX0_costOf_9 (by decide) ?_
    exact hret _ _ _ _ _ _ (by simp [kx_co, c6]) (rfl) hV dX0_costOf_10
theorem xc_costOf {p : Program} {l : Launch} {e : Env} {R : Room} {s : State} {m : MethodId} {args : Array Value} {below : List Frame} {meth : Method} {c : Code} {H : Heap} {locs : List Loc} {cells slots : Nat} {Q : State → Prop} {cc : ByteArray} {nL : Nat} {ret : Option FieldType} {pc : Nat} {ls : Array Slot} {rest : List Value} {D : va_G} {G : Nat → Nat} {E : Nat → ClassId} {A : Nat → Prop} {H0 : Heap} {X : cn_St} {a : Nat} (C : cn_C RX0 D (cn_tx E) p s m args meth c cc nL ret) (hV : cn_V D (cn_Wx G E) A H0 X H locs) (hl : ls.size = nL) (ha : a < 81) (hR : 0 + 1 ≤ R.frames ∧ 8 + (2 + 11) + 0 ≤ R.locals) (hroom : (rest.map fun v => v.category).sum ≤ 8) (hcs : cells ≤ R.cells ∧ slots ≤ R.slots) (hdg : decode cc pc = .ok (.invokevirtual 67, 3))
    (kk : ∀ (H1 : Heap) (locs1 : List Loc), cn_V D (cn_Wx G E) A H0 (X) H1 locs1 → W p l e R s m args below meth c H1 locs1 cells slots Q (F0 m (pc + 3) ls (.int (kx_co X a) :: rest))) : W p l e R s m args below meth c H locs cells slots Q (F0 m pc ls (.int (nI a) :: .ref (G 11) :: rest)) :=
  cn_xcalli (As := [.int (nI a)]) (xt_costOf l D G E X a ha) C hV hl ⟨q110, q112, qs9, q113⟩ (show yX0_costOf.cls = RX0 ∧ yX0_costOf.cls ≠ "java/lang/invoke/MethodHandle" ∧ yX0_costOf.cls ≠ "java/lang/invoke/VarHandle" ∧ (parseMethodDescriptor yX0_costOf.desc).map (fun d => d.parameters.length) = some 1 by decide +kernel) ⟨rfl, rfl⟩ hR rfl hroom hcs hdg kk
end
section
set_option maxRecDepth 100000
theorem kx_br_nar (X : cn_St) (a : Nat) : narrow .boolean (.int (kx_br X a)) = .int (kx_br X a) := by
  unfold kx_br
  rw [kx_lp_s, kx_b1]
  split
  · split
    · split <;> rfl
    · rfl
  · rfl
set_option maxHeartbeats 4000000 in
set_option maxRecDepth 100000 in
theorem xt_passOn (l : Launch) (D : va_G) (G : Nat → Nat) (E : Nat → ClassId) (X : cn_St) (a : Nat) (ha : a < 81) : cn_xMv l yX0_passOn cX0_passOn 4 ({ frames := 1, cells := 0, slots := 0, locals := 24 } : Room) D G E X [.int (nI a)] (kx_po a X) := by
  refine cn_xofv [some (.ref (G 11)), some (.int (nI a)), none, none] (by decide) rfl (Nat.le_of_ble_eq_true rfl) (by intro v hv; simp only [List.mem_cons, List.not_mem_nil, or_false] at hv; rcases hv with rfl | rfl <;> rfl) rfl (Nat.le_of_ble_eq_true rfl) ?_
  intro p e s m args below meth c ls A Q H locs C hV hl hret
  obtain ⟨hx, hb, hml, hown, hts, hK, hrt, hlk⟩ := id C
  refine lv_iconst (v := 0) hx hb dX0_passOn_0 (by decide) ?_
  refine lx_istore_n (i := 2) hx hb dX0_passOn_1 rfl hl (by decide) (fun ls hl => ?_)
  have loop2 : ∀ (n : Nat) (k : Nat) (Y : cn_St) (H : Heap) (locs : List Loc) (ls : Array Slot), k + n = 9 → Y = kx_lp (kx_p1 a) k X → cn_V D (cn_Wx G E) A s.heap (Y) H locs → cn_lx ls 4 [some (.ref (G 11)), some (.int (nI a)), some (.int (nI k)), none] → W p l e ({ frames := 1, cells := 0, slots := 0, locals := 24 } : Room) s m args below meth c H locs 0 0 Q (F0 m 2 ls []) := by
    intro n
    induction n with
    | zero =>
      intro k Y H locs ls hn hY hV hl
      obtain rfl : k = 9 := by omega
      refine lv_iload_n hx hb dX0_passOn_2 rfl (lx_at hl 2 rfl) ?_
      refine lv_bipush (v := 9) hx hb dX0_passOn_3 (by decide) ?_
      refine lv_icmp_ge (tgt := 75) hx hb dX0_passOn_5 (by decide) (fun c5 => ?_) (fun c5 => absurd (by decide) c5)
      exact hret _ _ _ _ _ (hY) hV dX0_passOn_75
    | succ n ih2 =>
      intro k Y H locs ls hn hY hV hl
      have h_k : k < 9 := by omega
      refine lv_iload_n hx hb dX0_passOn_2 rfl (lx_at hl 2 rfl) ?_
      refine lv_bipush (v := 9) hx hb dX0_passOn_3 (by decide) ?_
      refine lv_icmp_ge (tgt := 75) hx hb dX0_passOn_5 (by decide) (fun c5 => absurd c5 (nI_ge (b := 9) h_k (by decide))) (fun c5 => ?_)
      refine lv_aload_n hx hb dX0_passOn_8 rfl (lx_at hl 0 rfl) ?_
      refine lv_iload_n hx hb dX0_passOn_9 rfl (lx_at hl 1 rfl) ?_
      refine lv_iload_n hx hb dX0_passOn_10 rfl (lx_at hl 2 rfl) ?_
      refine xc_around C hV (lx_sz hl) (by assumption) (by assumption) ⟨by decide, by decide⟩ (Nat.le_of_ble_eq_true rfl) ⟨by decide, by decide⟩ dX0_passOn_11 (fun H locs hV => ?_)
      by_cases ht : kx_ar a k < 81
      · rw [kx_oI_pos ht]
        refine lx_istore_n (i := 3) hx hb dX0_passOn_14 rfl hl (by decide) (fun ls hl => ?_)
        refine lv_iload_n hx hb dX0_passOn_15 rfl (lx_at hl 3 rfl) ?_
        refine lv_if_lt (tgt := 69) hx hb dX0_passOn_16 (by decide) (fun c16 => absurd c16 (nI_pos (by omega))) (fun c16 => ?_)
        refine lv_aload_n hx hb dX0_passOn_19 rfl (lx_at hl 0 rfl) ?_
        refine xg_5 C hV dX0_passOn_20 ?_
        refine lv_iload_n hx hb dX0_passOn_23 rfl (lx_at hl 3 rfl) ?_
        refine xl_5 C hV (by assumption) dX0_passOn_24 ?_
        refine lv_aload_n hx hb dX0_passOn_25 rfl (lx_at hl 0 rfl) ?_
        refine xg_5 C hV dX0_passOn_26 ?_
        refine lv_iload_n hx hb dX0_passOn_29 rfl (lx_at hl 1 rfl) ?_
        refine xl_5 C hV (by assumption) dX0_passOn_30 ?_
        refine lv_iconst (v := 1) hx hb dX0_passOn_31 (by decide) ?_
        refine lv_iadd hx hb dX0_passOn_32 ?_
        refine lv_icmp_le (tgt := 69) hx hb dX0_passOn_33 (by decide) (fun c33 => ?_) (fun c33 => ?_)
        · refine lx_iinc1 hx hb dX0_passOn_69 hl rfl (fun ls hl => ?_)
          refine lv_goto (tgt := 2) hx hb dX0_passOn_72 (by decide) ?_
          exact ih2 (k + 1) (_) (_) (_) (_) (by omega) (by rw [kx_lp_s, ← hY]; simp [kx_p1, ht, up2_o, c33]) hV (lx_none hl 3)
        · refine lv_aload_n hx hb dX0_passOn_36 rfl (lx_at hl 0 rfl) ?_
          refine xg_5 C hV dX0_passOn_37 ?_
          refine lv_iload_n hx hb dX0_passOn_40 rfl (lx_at hl 3 rfl) ?_
          refine lv_aload_n hx hb dX0_passOn_41 rfl (lx_at hl 0 rfl) ?_
          refine xg_5 C hV dX0_passOn_42 ?_
          refine lv_iload_n hx hb dX0_passOn_45 rfl (lx_at hl 1 rfl) ?_
          refine xl_5 C hV (by assumption) dX0_passOn_46 ?_
          refine lv_iconst (v := 1) hx hb dX0_passOn_47 (by decide) ?_
          refine lv_iadd hx hb dX0_passOn_48 ?_
          refine xs_5 C hV (by assumption) dX0_passOn_49 (fun H locs hV => ?_)
          refine lv_aload_n hx hb dX0_passOn_50 rfl (lx_at hl 0 rfl) ?_
          refine xg_6 C hV dX0_passOn_51 ?_
          refine lv_iload_n hx hb dX0_passOn_54 rfl (lx_at hl 3 rfl) ?_
          refine lv_aload_n hx hb dX0_passOn_55 rfl (lx_at hl 0 rfl) ?_
          refine xg_6 C hV dX0_passOn_56 ?_
          refine lv_iload_n hx hb dX0_passOn_59 rfl (lx_at hl 1 rfl) ?_
          refine xl_6 C hV (by assumption) dX0_passOn_60 ?_
          refine xs_6 C hV (by assumption) dX0_passOn_61 (fun H locs hV => ?_)
          refine lv_aload_n hx hb dX0_passOn_62 rfl (lx_at hl 0 rfl) ?_
          refine xg_7 C hV dX0_passOn_63 ?_
          refine lv_iload_n hx hb dX0_passOn_66 rfl (lx_at hl 3 rfl) ?_
          refine lv_iconst (v := 1) hx hb dX0_passOn_67 (by decide) ?_
          refine xs_7 C hV (by assumption) (by first | exact Or.inl rfl | exact Or.inr rfl | assumption) dX0_passOn_68 (fun H locs hV => ?_)
          refine lx_iinc1 hx hb dX0_passOn_69 hl rfl (fun ls hl => ?_)
          refine lv_goto (tgt := 2) hx hb dX0_passOn_72 (by decide) ?_
          exact ih2 (k + 1) (_) (_) (_) (_) (by omega) (by rw [kx_lp_s, ← hY]; simp [kx_p1, ht, up2_o, c33]) hV (lx_none hl 3)
      · rw [kx_oI_neg ht]
        refine lx_istore_n (i := 3) hx hb dX0_passOn_14 rfl hl (by decide) (fun ls hl => ?_)
        refine lv_iload_n hx hb dX0_passOn_15 rfl (lx_at hl 3 rfl) ?_
        refine lv_if_lt (tgt := 69) hx hb dX0_passOn_16 (by decide) (fun c16 => ?_) (fun c16 => absurd (by decide) c16)
        refine lx_iinc1 hx hb dX0_passOn_69 hl rfl (fun ls hl => ?_)
        refine lv_goto (tgt := 2) hx hb dX0_passOn_72 (by decide) ?_
        exact ih2 (k + 1) (_) (_) (_) (_) (by omega) (by rw [kx_lp_s, ← hY]; simp [kx_p1, ht, up2_o, ]) hV (lx_none hl 3)
  exact loop2 9 (0) (X) (_) (_) (_) (rfl) (rfl) hV hl
theorem xc_passOn {p : Program} {l : Launch} {e : Env} {R : Room} {s : State} {m : MethodId} {args : Array Value} {below : List Frame} {meth : Method} {c : Code} {H : Heap} {locs : List Loc} {cells slots : Nat} {Q : State → Prop} {cc : ByteArray} {nL : Nat} {ret : Option FieldType} {pc : Nat} {ls : Array Slot} {rest : List Value} {D : va_G} {G : Nat → Nat} {E : Nat → ClassId} {A : Nat → Prop} {H0 : Heap} {X : cn_St} {a : Nat} (C : cn_C RX0 D (cn_tx E) p s m args meth c cc nL ret) (hV : cn_V D (cn_Wx G E) A H0 X H locs) (hl : ls.size = nL) (ha : a < 81) (hR : 1 + 1 ≤ R.frames ∧ 8 + (4 + 11) + 24 ≤ R.locals) (hroom : (rest.map fun v => v.category).sum ≤ 8) (hcs : cells ≤ R.cells ∧ slots ≤ R.slots) (hdg : decode cc pc = .ok (.invokevirtual 43, 3))
    (kk : ∀ (H1 : Heap) (locs1 : List Loc), cn_V D (cn_Wx G E) A H0 (kx_po a X) H1 locs1 → W p l e R s m args below meth c H1 locs1 cells slots Q (F0 m (pc + 3) ls rest)) : W p l e R s m args below meth c H locs cells slots Q (F0 m pc ls (.int (nI a) :: .ref (G 11) :: rest)) :=
  cn_xcallv (As := [.int (nI a)]) (xt_passOn l D G E X a ha) C hV hl ⟨q102, q104, qs7, q105⟩ (show yX0_passOn.cls = RX0 ∧ yX0_passOn.cls ≠ "java/lang/invoke/MethodHandle" ∧ yX0_passOn.cls ≠ "java/lang/invoke/VarHandle" ∧ (parseMethodDescriptor yX0_passOn.desc).map (fun d => d.parameters.length) = some 1 by decide +kernel) ⟨rfl, rfl⟩ hR rfl hroom hcs hdg kk

set_option maxHeartbeats 4000000 in
set_option maxRecDepth 100000 in
theorem xt_lower (l : Launch) (D : va_G) (G : Nat → Nat) (E : Nat → ClassId) (X : cn_St)   : cn_xMv l yX0_lower cX0_lower 3 ({ frames := 2, cells := 0, slots := 0, locals := 47 } : Room) D G E X [] (kx_lw X) := by
  refine cn_xofv [some (.ref (G 11)), none, none] (by decide) rfl (Nat.le_of_ble_eq_true rfl) (by intro v hv; simp only [List.mem_cons, List.not_mem_nil, or_false] at hv; rcases hv with rfl <;> rfl) rfl (Nat.le_of_ble_eq_true rfl) ?_
  intro p e s m args below meth c ls A Q H locs C hV hl hret
  obtain ⟨hx, hb, hml, hown, hts, hK, hrt, hlk⟩ := id C
  refine lv_iconst (v := 0) hx hb dX0_lower_0 (by decide) ?_
  refine lx_istore_n (i := 1) hx hb dX0_lower_1 rfl hl (by decide) (fun ls hl => ?_)
  have loop2 : ∀ (n : Nat) (d : Nat) (Y : cn_St) (H : Heap) (locs : List Loc) (ls : Array Slot), d + n = 9 → Y = kx_lp kx_l2 d X → cn_V D (cn_Wx G E) A s.heap (Y) H locs → cn_lx ls 3 [some (.ref (G 11)), some (.int (nI d)), none] → W p l e ({ frames := 2, cells := 0, slots := 0, locals := 47 } : Room) s m args below meth c H locs 0 0 Q (F0 m 2 ls []) := by
    intro n
    induction n with
    | zero =>
      intro d Y H locs ls hn hY hV hl
      obtain rfl : d = 9 := by omega
      refine lv_iload_n hx hb dX0_lower_2 rfl (lx_at hl 1 rfl) ?_
      refine lv_bipush (v := 9) hx hb dX0_lower_3 (by decide) ?_
      refine lv_icmp_ge (tgt := 59) hx hb dX0_lower_5 (by decide) (fun c5 => ?_) (fun c5 => absurd (by decide) c5)
      exact hret _ _ _ _ _ (hY) hV dX0_lower_59
    | succ n ih2 =>
      intro d Y H locs ls hn hY hV hl
      have h_d : d < 9 := by omega
      refine lv_iload_n hx hb dX0_lower_2 rfl (lx_at hl 1 rfl) ?_
      refine lv_bipush (v := 9) hx hb dX0_lower_3 (by decide) ?_
      refine lv_icmp_ge (tgt := 59) hx hb dX0_lower_5 (by decide) (fun c5 => absurd c5 (nI_ge (b := 9) h_d (by decide))) (fun c5 => ?_)
      refine lv_iconst (v := 0) hx hb dX0_lower_8 (by decide) ?_
      refine lx_istore_n (i := 2) hx hb dX0_lower_9 rfl hl (by decide) (fun ls hl => ?_)
      have loop10 : ∀ (n : Nat) (a : Nat) (Z : cn_St) (H : Heap) (locs : List Loc) (ls : Array Slot), a + n = 81 → Z = kx_lp (kx_l1 d) a Y → cn_V D (cn_Wx G E) A s.heap (Z) H locs → cn_lx ls 3 [some (.ref (G 11)), some (.int (nI d)), some (.int (nI a))] → W p l e ({ frames := 2, cells := 0, slots := 0, locals := 47 } : Room) s m args below meth c H locs 0 0 Q (F0 m 10 ls []) := by
        intro n
        induction n with
        | zero =>
          intro a Z H locs ls hm hZ hV hl
          obtain rfl : a = 81 := by omega
          refine lv_iload_n hx hb dX0_lower_10 rfl (lx_at hl 2 rfl) ?_
          refine lv_bipush (v := 81) hx hb dX0_lower_11 (by decide) ?_
          refine lv_icmp_ge (tgt := 53) hx hb dX0_lower_13 (by decide) (fun c13 => ?_) (fun c13 => absurd (by decide) c13)
          refine lx_iinc1 hx hb dX0_lower_53 hl rfl (fun ls hl => ?_)
          refine lv_goto (tgt := 2) hx hb dX0_lower_56 (by decide) ?_
          exact ih2 (d + 1) (_) (_) (_) (_) (by omega) (by rw [kx_lp_s, ← hY]; exact hZ) hV (lx_none hl 2)
        | succ n ih10 =>
          intro a Z H locs ls hm hZ hV hl
          have h_a : a < 81 := by omega
          refine lv_iload_n hx hb dX0_lower_10 rfl (lx_at hl 2 rfl) ?_
          refine lv_bipush (v := 81) hx hb dX0_lower_11 (by decide) ?_
          refine lv_icmp_ge (tgt := 53) hx hb dX0_lower_13 (by decide) (fun c13 => absurd c13 (nI_ge (b := 81) h_a (by decide))) (fun c13 => ?_)
          refine lv_aload_n hx hb dX0_lower_16 rfl (lx_at hl 0 rfl) ?_
          refine xg_7 C hV dX0_lower_17 ?_
          refine lv_iload_n hx hb dX0_lower_20 rfl (lx_at hl 2 rfl) ?_
          refine xl_7 C hV (by assumption) dX0_lower_21 ?_
          refine lv_if_eq (tgt := 47) hx hb dX0_lower_22 (by decide) (fun c22 => ?_) (fun c22 => ?_)
          · refine lx_iinc1 hx hb dX0_lower_47 hl rfl (fun ls hl => ?_)
            refine lv_goto (tgt := 10) hx hb dX0_lower_50 (by decide) ?_
            exact ih10 (a + 1) (_) (_) (_) (_) (by omega) (by rw [kx_lp_s, ← hZ]; simp [kx_l1, c22]) hV hl
          · refine lv_aload_n hx hb dX0_lower_25 rfl (lx_at hl 0 rfl) ?_
            refine xg_5 C hV dX0_lower_26 ?_
            refine lv_iload_n hx hb dX0_lower_29 rfl (lx_at hl 2 rfl) ?_
            refine xl_5 C hV (by assumption) dX0_lower_30 ?_
            refine lv_iload_n hx hb dX0_lower_31 rfl (lx_at hl 1 rfl) ?_
            refine lv_icmp_ne (tgt := 47) hx hb dX0_lower_32 (by decide) (fun c32 => ?_) (fun c32 => ?_)
            · refine lx_iinc1 hx hb dX0_lower_47 hl rfl (fun ls hl => ?_)
              refine lv_goto (tgt := 10) hx hb dX0_lower_50 (by decide) ?_
              exact ih10 (a + 1) (_) (_) (_) (_) (by omega) (by rw [kx_lp_s, ← hZ]; simp [kx_l1, c22, c32]) hV hl
            · refine lv_aload_n hx hb dX0_lower_35 rfl (lx_at hl 0 rfl) ?_
              refine xg_7 C hV dX0_lower_36 ?_
              refine lv_iload_n hx hb dX0_lower_39 rfl (lx_at hl 2 rfl) ?_
              refine lv_iconst (v := 0) hx hb dX0_lower_40 (by decide) ?_
              refine xs_7 C hV (by assumption) (by first | exact Or.inl rfl | exact Or.inr rfl | assumption) dX0_lower_41 (fun H locs hV => ?_)
              refine lv_aload_n hx hb dX0_lower_42 rfl (lx_at hl 0 rfl) ?_
              refine lv_iload_n hx hb dX0_lower_43 rfl (lx_at hl 2 rfl) ?_
              refine xc_passOn C hV (lx_sz hl) (by assumption) ⟨by decide, by decide⟩ (Nat.le_of_ble_eq_true rfl) ⟨by decide, by decide⟩ dX0_lower_44 (fun H locs hV => ?_)
              refine lx_iinc1 hx hb dX0_lower_47 hl rfl (fun ls hl => ?_)
              refine lv_goto (tgt := 10) hx hb dX0_lower_50 (by decide) ?_
              exact ih10 (a + 1) (_) (_) (_) (_) (by omega) (by rw [kx_lp_s, ← hZ]; simp [kx_l1, c22, c32]) hV hl
      exact loop10 81 (0) (Y) (_) (_) (_) (rfl) (rfl) hV hl
  exact loop2 9 (0) (X) (_) (_) (_) (rfl) (rfl) hV hl
theorem xc_lower {p : Program} {l : Launch} {e : Env} {R : Room} {s : State} {m : MethodId} {args : Array Value} {below : List Frame} {meth : Method} {c : Code} {H : Heap} {locs : List Loc} {cells slots : Nat} {Q : State → Prop} {cc : ByteArray} {nL : Nat} {ret : Option FieldType} {pc : Nat} {ls : Array Slot} {rest : List Value} {D : va_G} {G : Nat → Nat} {E : Nat → ClassId} {A : Nat → Prop} {H0 : Heap} {X : cn_St}  (C : cn_C RX0 D (cn_tx E) p s m args meth c cc nL ret) (hV : cn_V D (cn_Wx G E) A H0 X H locs) (hl : ls.size = nL)  (hR : 2 + 1 ≤ R.frames ∧ 8 + (3 + 11) + 47 ≤ R.locals) (hroom : (rest.map fun v => v.category).sum ≤ 8) (hcs : cells ≤ R.cells ∧ slots ≤ R.slots) (hdg : decode cc pc = .ok (.invokevirtual 58, 3))
    (kk : ∀ (H1 : Heap) (locs1 : List Loc), cn_V D (cn_Wx G E) A H0 (kx_lw X) H1 locs1 → W p l e R s m args below meth c H1 locs1 cells slots Q (F0 m (pc + 3) ls rest)) : W p l e R s m args below meth c H locs cells slots Q (F0 m pc ls (.ref (G 11) :: rest)) :=
  cn_xcallv (As := []) (xt_lower l D G E X ) C hV hl ⟨q98, q100, qs6, q101⟩ (show yX0_lower.cls = RX0 ∧ yX0_lower.cls ≠ "java/lang/invoke/MethodHandle" ∧ yX0_lower.cls ≠ "java/lang/invoke/VarHandle" ∧ (parseMethodDescriptor yX0_lower.desc).map (fun d => d.parameters.length) = some 0 by decide +kernel) ⟨rfl, rfl⟩ hR rfl hroom hcs hdg kk

set_option maxHeartbeats 4000000 in
set_option maxRecDepth 100000 in
theorem xt_besideRaised (l : Launch) (D : va_G) (G : Nat → Nat) (E : Nat → ClassId) (X : cn_St) (a : Nat) (ha : a < 81) : cn_xMi l yX0_besideRaised cX0_besideRaised 5 (some .boolean) ({ frames := 1, cells := 0, slots := 0, locals := 24 } : Room) D G E X [.int (nI a)] (kx_br X a) (X) := by
  refine cn_xofi (ty := .boolean) rfl (kx_br_nar X a) [some (.ref (G 11)), some (.int (nI a)), none, none, none] (by decide) rfl (Nat.le_of_ble_eq_true rfl) (by intro v hv; simp only [List.mem_cons, List.not_mem_nil, or_false] at hv; rcases hv with rfl | rfl <;> rfl) rfl (Nat.le_of_ble_eq_true rfl) ?_
  intro p e s m args below meth c ls A Q H locs C hV hl hret
  obtain ⟨hx, hb, hml, hown, hts, hK, hrt, hlk⟩ := id C
  refine lv_iconst (v := 0) hx hb dX0_besideRaised_0 (by decide) ?_
  refine lx_istore_n (i := 2) hx hb dX0_besideRaised_1 rfl hl (by decide) (fun ls hl => ?_)
  refine lv_iconst (v := 0) hx hb dX0_besideRaised_2 (by decide) ?_
  refine lx_istore_n (i := 3) hx hb dX0_besideRaised_3 rfl hl (by decide) (fun ls hl => ?_)
  have loop4 : ∀ (n : Nat) (k : Nat) (b : Int32) (H : Heap) (locs : List Loc) (ls : Array Slot), k + n = 9 → b = kx_lp (kx_b1 X a) k 0 → cn_V D (cn_Wx G E) A s.heap (X) H locs → cn_lx ls 5 [some (.ref (G 11)), some (.int (nI a)), some (.int b), some (.int (nI k)), none] → W p l e ({ frames := 1, cells := 0, slots := 0, locals := 24 } : Room) s m args below meth c H locs 0 0 Q (F0 m 4 ls []) := by
    intro n
    induction n with
    | zero =>
      intro k b H locs ls hn hY hV hl
      obtain rfl : k = 9 := by omega
      refine lv_iload_n hx hb dX0_besideRaised_4 rfl (lx_at hl 3 rfl) ?_
      refine lv_bipush (v := 9) hx hb dX0_besideRaised_5 (by decide) ?_
      refine lv_icmp_ge (tgt := 49) hx hb dX0_besideRaised_7 (by decide) (fun c7 => ?_) (fun c7 => absurd (by decide) c7)
      refine lv_iload_n hx hb dX0_besideRaised_49 rfl (lx_at hl 2 rfl) ?_
      exact hret _ _ _ _ _ _ (hY) (rfl) hV dX0_besideRaised_50
    | succ n ih4 =>
      intro k b H locs ls hn hY hV hl
      have h_k : k < 9 := by omega
      refine lv_iload_n hx hb dX0_besideRaised_4 rfl (lx_at hl 3 rfl) ?_
      refine lv_bipush (v := 9) hx hb dX0_besideRaised_5 (by decide) ?_
      refine lv_icmp_ge (tgt := 49) hx hb dX0_besideRaised_7 (by decide) (fun c7 => absurd c7 (nI_ge (b := 9) h_k (by decide))) (fun c7 => ?_)
      refine lv_aload_n hx hb dX0_besideRaised_10 rfl (lx_at hl 0 rfl) ?_
      refine lv_iload_n hx hb dX0_besideRaised_11 rfl (lx_at hl 1 rfl) ?_
      refine lv_iload_n hx hb dX0_besideRaised_12 rfl (lx_at hl 3 rfl) ?_
      refine xc_around C hV (lx_sz hl) (by assumption) (by assumption) ⟨by decide, by decide⟩ (Nat.le_of_ble_eq_true rfl) ⟨by decide, by decide⟩ dX0_besideRaised_13 (fun H locs hV => ?_)
      by_cases ht : kx_ar a k < 81
      · rw [kx_oI_pos ht]
        refine lx_istore hx hb dX0_besideRaised_16 hl (by decide) (fun ls hl => ?_)
        refine lv_iload_n hx hb dX0_besideRaised_18 rfl (lx_at hl 2 rfl) ?_
        refine lv_if_ne (tgt := 37) hx hb dX0_besideRaised_19 (by decide) (fun c19 => ?_) (fun c19 => ?_)
        · refine lv_iconst (v := 1) hx hb dX0_besideRaised_37 (by decide) ?_
          refine lv_goto (tgt := 42) hx hb dX0_besideRaised_38 (by decide) ?_
          refine lx_istore_n (i := 2) hx hb dX0_besideRaised_42 rfl hl (by decide) (fun ls hl => ?_)
          refine lx_iinc1 hx hb dX0_besideRaised_43 hl rfl (fun ls hl => ?_)
          refine lv_goto (tgt := 4) hx hb dX0_besideRaised_46 (by decide) ?_
          exact ih4 (k + 1) (_) (_) (_) (_) (by omega) (by rw [kx_lp_s, ← hY]; simp [kx_b1, ht, c19]) hV (lx_none hl 4)
        · refine lv_iload hx hb dX0_besideRaised_22 (lx_at hl 4 rfl) ?_
          refine lv_if_lt (tgt := 41) hx hb dX0_besideRaised_24 (by decide) (fun c24 => absurd c24 (nI_pos (by omega))) (fun c24 => ?_)
          refine lv_aload_n hx hb dX0_besideRaised_27 rfl (lx_at hl 0 rfl) ?_
          refine xg_6 C hV dX0_besideRaised_28 ?_
          refine lv_iload hx hb dX0_besideRaised_31 (lx_at hl 4 rfl) ?_
          refine xl_6 C hV (by assumption) dX0_besideRaised_33 ?_
          refine lv_if_ge (tgt := 41) hx hb dX0_besideRaised_34 (by decide) (fun c34 => ?_) (fun c34 => ?_)
          · refine lv_iconst (v := 0) hx hb dX0_besideRaised_41 (by decide) ?_
            refine lx_istore_n (i := 2) hx hb dX0_besideRaised_42 rfl hl (by decide) (fun ls hl => ?_)
            refine lx_iinc1 hx hb dX0_besideRaised_43 hl rfl (fun ls hl => ?_)
            refine lv_goto (tgt := 4) hx hb dX0_besideRaised_46 (by decide) ?_
            exact ih4 (k + 1) (_) (_) (_) (_) (by omega) (by rw [kx_lp_s, ← hY]; simp [kx_b1, ht, c19, c34]) hV (lx_none hl 4)
          · refine lv_iconst (v := 1) hx hb dX0_besideRaised_37 (by decide) ?_
            refine lv_goto (tgt := 42) hx hb dX0_besideRaised_38 (by decide) ?_
            refine lx_istore_n (i := 2) hx hb dX0_besideRaised_42 rfl hl (by decide) (fun ls hl => ?_)
            refine lx_iinc1 hx hb dX0_besideRaised_43 hl rfl (fun ls hl => ?_)
            refine lv_goto (tgt := 4) hx hb dX0_besideRaised_46 (by decide) ?_
            exact ih4 (k + 1) (_) (_) (_) (_) (by omega) (by rw [kx_lp_s, ← hY]; simp [kx_b1, ht, c19, c34]) hV (lx_none hl 4)
      · rw [kx_oI_neg ht]
        refine lx_istore hx hb dX0_besideRaised_16 hl (by decide) (fun ls hl => ?_)
        refine lv_iload_n hx hb dX0_besideRaised_18 rfl (lx_at hl 2 rfl) ?_
        refine lv_if_ne (tgt := 37) hx hb dX0_besideRaised_19 (by decide) (fun c19 => ?_) (fun c19 => ?_)
        · refine lv_iconst (v := 1) hx hb dX0_besideRaised_37 (by decide) ?_
          refine lv_goto (tgt := 42) hx hb dX0_besideRaised_38 (by decide) ?_
          refine lx_istore_n (i := 2) hx hb dX0_besideRaised_42 rfl hl (by decide) (fun ls hl => ?_)
          refine lx_iinc1 hx hb dX0_besideRaised_43 hl rfl (fun ls hl => ?_)
          refine lv_goto (tgt := 4) hx hb dX0_besideRaised_46 (by decide) ?_
          exact ih4 (k + 1) (_) (_) (_) (_) (by omega) (by rw [kx_lp_s, ← hY]; simp [kx_b1, ht, c19]) hV (lx_none hl 4)
        · refine lv_iload hx hb dX0_besideRaised_22 (lx_at hl 4 rfl) ?_
          refine lv_if_lt (tgt := 41) hx hb dX0_besideRaised_24 (by decide) (fun c24 => ?_) (fun c24 => absurd (by decide) c24)
          refine lv_iconst (v := 0) hx hb dX0_besideRaised_41 (by decide) ?_
          refine lx_istore_n (i := 2) hx hb dX0_besideRaised_42 rfl hl (by decide) (fun ls hl => ?_)
          refine lx_iinc1 hx hb dX0_besideRaised_43 hl rfl (fun ls hl => ?_)
          refine lv_goto (tgt := 4) hx hb dX0_besideRaised_46 (by decide) ?_
          exact ih4 (k + 1) (_) (_) (_) (_) (by omega) (by rw [kx_lp_s, ← hY]; simp [kx_b1, ht, c19]) hV (lx_none hl 4)
  exact loop4 9 (0) (0) (_) (_) (_) (rfl) (rfl) hV hl
theorem xc_besideRaised {p : Program} {l : Launch} {e : Env} {R : Room} {s : State} {m : MethodId} {args : Array Value} {below : List Frame} {meth : Method} {c : Code} {H : Heap} {locs : List Loc} {cells slots : Nat} {Q : State → Prop} {cc : ByteArray} {nL : Nat} {ret : Option FieldType} {pc : Nat} {ls : Array Slot} {rest : List Value} {D : va_G} {G : Nat → Nat} {E : Nat → ClassId} {A : Nat → Prop} {H0 : Heap} {X : cn_St} {a : Nat} (C : cn_C RX0 D (cn_tx E) p s m args meth c cc nL ret) (hV : cn_V D (cn_Wx G E) A H0 X H locs) (hl : ls.size = nL) (ha : a < 81) (hR : 1 + 1 ≤ R.frames ∧ 8 + (5 + 11) + 24 ≤ R.locals) (hroom : (rest.map fun v => v.category).sum ≤ 8) (hcs : cells ≤ R.cells ∧ slots ≤ R.slots) (hdg : decode cc pc = .ok (.invokevirtual 51, 3))
    (kk : ∀ (H1 : Heap) (locs1 : List Loc), cn_V D (cn_Wx G E) A H0 (X) H1 locs1 → W p l e R s m args below meth c H1 locs1 cells slots Q (F0 m (pc + 3) ls (.int (kx_br X a) :: rest))) : W p l e R s m args below meth c H locs cells slots Q (F0 m pc ls (.int (nI a) :: .ref (G 11) :: rest)) :=
  cn_xcalli (As := [.int (nI a)]) (xt_besideRaised l D G E X a ha) C hV hl ⟨q90, q92, qs4, q93⟩ (show yX0_besideRaised.cls = RX0 ∧ yX0_besideRaised.cls ≠ "java/lang/invoke/MethodHandle" ∧ yX0_besideRaised.cls ≠ "java/lang/invoke/VarHandle" ∧ (parseMethodDescriptor yX0_besideRaised.desc).map (fun d => d.parameters.length) = some 1 by decide +kernel) ⟨rfl, rfl⟩ hR rfl hroom hcs hdg kk

set_option maxHeartbeats 4000000 in
set_option maxRecDepth 100000 in
theorem xt_raiseFrom (l : Launch) (D : va_G) (G : Nat → Nat) (E : Nat → ClassId) (X : cn_St) (a : Nat) (ha : a < 81) : cn_xMv l yX0_raiseFrom cX0_raiseFrom 3 ({ frames := 2, cells := 0, slots := 0, locals := 48 } : Room) D G E X [.int (nI a)] (kx_rf a X) := by
  refine cn_xofv [some (.ref (G 11)), some (.int (nI a)), none] (by decide) rfl (Nat.le_of_ble_eq_true rfl) (by intro v hv; simp only [List.mem_cons, List.not_mem_nil, or_false] at hv; rcases hv with rfl | rfl <;> rfl) rfl (Nat.le_of_ble_eq_true rfl) ?_
  intro p e s m args below meth c ls A Q H locs C hV hl hret
  obtain ⟨hx, hb, hml, hown, hts, hK, hrt, hlk⟩ := id C
  refine lv_iconst (v := 0) hx hb dX0_raiseFrom_0 (by decide) ?_
  refine lx_istore_n (i := 2) hx hb dX0_raiseFrom_1 rfl hl (by decide) (fun ls hl => ?_)
  have loop2 : ∀ (n : Nat) (k : Nat) (Y : cn_St) (H : Heap) (locs : List Loc) (ls : Array Slot), k + n = 81 → Y = kx_lp (kx_r1 a) k X → cn_V D (cn_Wx G E) A s.heap (Y) H locs → cn_lx ls 3 [some (.ref (G 11)), some (.int (nI a)), some (.int (nI k))] → W p l e ({ frames := 2, cells := 0, slots := 0, locals := 48 } : Room) s m args below meth c H locs 0 0 Q (F0 m 2 ls []) := by
    intro n
    induction n with
    | zero =>
      intro k Y H locs ls hn hY hV hl
      obtain rfl : k = 81 := by omega
      refine lv_iload_n hx hb dX0_raiseFrom_2 rfl (lx_at hl 2 rfl) ?_
      refine lv_bipush (v := 81) hx hb dX0_raiseFrom_3 (by decide) ?_
      refine lv_icmp_ge (tgt := 39) hx hb dX0_raiseFrom_5 (by decide) (fun c5 => ?_) (fun c5 => absurd (by decide) c5)
      refine lv_iconst (v := 0) hx hb dX0_raiseFrom_39 (by decide) ?_
      refine lx_istore_n (i := 2) hx hb dX0_raiseFrom_40 rfl hl (by decide) (fun ls hl => ?_)
      have loop41 : ∀ (n : Nat) (k : Nat) (Z : cn_St) (H : Heap) (locs : List Loc) (ls : Array Slot), k + n = 81 → Z = kx_lp kx_r2 k Y → cn_V D (cn_Wx G E) A s.heap (Z) H locs → cn_lx ls 3 [some (.ref (G 11)), some (.int (nI a)), some (.int (nI k))] → W p l e ({ frames := 2, cells := 0, slots := 0, locals := 48 } : Room) s m args below meth c H locs 0 0 Q (F0 m 41 ls []) := by
        intro n
        induction n with
        | zero =>
          intro k Z H locs ls hm hZ hV hl
          obtain rfl : k = 81 := by omega
          refine lv_iload_n hx hb dX0_raiseFrom_41 rfl (lx_at hl 2 rfl) ?_
          refine lv_bipush (v := 81) hx hb dX0_raiseFrom_42 (by decide) ?_
          refine lv_icmp_ge (tgt := 81) hx hb dX0_raiseFrom_44 (by decide) (fun c44 => ?_) (fun c44 => absurd (by decide) c44)
          exact hret _ _ _ _ _ (by rw [hZ, hY]; rfl) hV dX0_raiseFrom_81
        | succ n ih41 =>
          intro k Z H locs ls hm hZ hV hl
          have h_k : k < 81 := by omega
          refine lv_iload_n hx hb dX0_raiseFrom_41 rfl (lx_at hl 2 rfl) ?_
          refine lv_bipush (v := 81) hx hb dX0_raiseFrom_42 (by decide) ?_
          refine lv_icmp_ge (tgt := 81) hx hb dX0_raiseFrom_44 (by decide) (fun c44 => absurd c44 (nI_ge (b := 81) h_k (by decide))) (fun c44 => ?_)
          refine lv_aload_n hx hb dX0_raiseFrom_47 rfl (lx_at hl 0 rfl) ?_
          refine xg_7 C hV dX0_raiseFrom_48 ?_
          refine lv_iload_n hx hb dX0_raiseFrom_51 rfl (lx_at hl 2 rfl) ?_
          refine lv_aload_n hx hb dX0_raiseFrom_52 rfl (lx_at hl 0 rfl) ?_
          refine xg_6 C hV dX0_raiseFrom_53 ?_
          refine lv_iload_n hx hb dX0_raiseFrom_56 rfl (lx_at hl 2 rfl) ?_
          refine xl_6 C hV (by assumption) dX0_raiseFrom_57 ?_
          refine lv_if_lt (tgt := 73) hx hb dX0_raiseFrom_58 (by decide) (fun c58 => ?_) (fun c58 => ?_)
          · refine lv_iconst (v := 0) hx hb dX0_raiseFrom_73 (by decide) ?_
            refine xs_7 C hV (by assumption) (by first | exact Or.inl rfl | exact Or.inr rfl | assumption) dX0_raiseFrom_74 (fun H locs hV => ?_)
            refine lx_iinc1 hx hb dX0_raiseFrom_75 hl rfl (fun ls hl => ?_)
            refine lv_goto (tgt := 41) hx hb dX0_raiseFrom_78 (by decide) ?_
            exact ih41 (k + 1) (_) (_) (_) (_) (by omega) (by rw [kx_lp_s, ← hZ]; simp [kx_r2, c58]) hV hl
          · refine lv_aload_n hx hb dX0_raiseFrom_61 rfl (lx_at hl 0 rfl) ?_
            refine lv_iload_n hx hb dX0_raiseFrom_62 rfl (lx_at hl 2 rfl) ?_
            refine xc_besideRaised C hV (lx_sz hl) (by assumption) ⟨by decide, by decide⟩ (Nat.le_of_ble_eq_true rfl) ⟨by decide, by decide⟩ dX0_raiseFrom_63 (fun H locs hV => ?_)
            refine lv_if_eq (tgt := 73) hx hb dX0_raiseFrom_66 (by decide) (fun c66 => ?_) (fun c66 => ?_)
            · refine lv_iconst (v := 0) hx hb dX0_raiseFrom_73 (by decide) ?_
              refine xs_7 C hV (by assumption) (by first | exact Or.inl rfl | exact Or.inr rfl | assumption) dX0_raiseFrom_74 (fun H locs hV => ?_)
              refine lx_iinc1 hx hb dX0_raiseFrom_75 hl rfl (fun ls hl => ?_)
              refine lv_goto (tgt := 41) hx hb dX0_raiseFrom_78 (by decide) ?_
              exact ih41 (k + 1) (_) (_) (_) (_) (by omega) (by rw [kx_lp_s, ← hZ]; simp [kx_r2, c58, c66]) hV hl
            · refine lv_iconst (v := 1) hx hb dX0_raiseFrom_69 (by decide) ?_
              refine lv_goto (tgt := 74) hx hb dX0_raiseFrom_70 (by decide) ?_
              refine xs_7 C hV (by assumption) (by first | exact Or.inl rfl | exact Or.inr rfl | assumption) dX0_raiseFrom_74 (fun H locs hV => ?_)
              refine lx_iinc1 hx hb dX0_raiseFrom_75 hl rfl (fun ls hl => ?_)
              refine lv_goto (tgt := 41) hx hb dX0_raiseFrom_78 (by decide) ?_
              exact ih41 (k + 1) (_) (_) (_) (_) (by omega) (by rw [kx_lp_s, ← hZ]; simp [kx_r2, c58, c66]) hV hl
      exact loop41 81 (0) (Y) (_) (_) (_) (rfl) (rfl) hV hl
    | succ n ih2 =>
      intro k Y H locs ls hn hY hV hl
      have h_k : k < 81 := by omega
      refine lv_iload_n hx hb dX0_raiseFrom_2 rfl (lx_at hl 2 rfl) ?_
      refine lv_bipush (v := 81) hx hb dX0_raiseFrom_3 (by decide) ?_
      refine lv_icmp_ge (tgt := 39) hx hb dX0_raiseFrom_5 (by decide) (fun c5 => absurd c5 (nI_ge (b := 81) h_k (by decide))) (fun c5 => ?_)
      refine lv_aload_n hx hb dX0_raiseFrom_8 rfl (lx_at hl 0 rfl) ?_
      refine xg_6 C hV dX0_raiseFrom_9 ?_
      refine lv_iload_n hx hb dX0_raiseFrom_12 rfl (lx_at hl 2 rfl) ?_
      refine xl_6 C hV (by assumption) dX0_raiseFrom_13 ?_
      refine lv_iload_n hx hb dX0_raiseFrom_14 rfl (lx_at hl 1 rfl) ?_
      refine lv_icmp_ne (tgt := 33) hx hb dX0_raiseFrom_15 (by decide) (fun c15 => ?_) (fun c15 => ?_)
      · refine lx_iinc1 hx hb dX0_raiseFrom_33 hl rfl (fun ls hl => ?_)
        refine lv_goto (tgt := 2) hx hb dX0_raiseFrom_36 (by decide) ?_
        exact ih2 (k + 1) (_) (_) (_) (_) (by omega) (by rw [kx_lp_s, ← hY]; simp [kx_r1, up2_o, c15]) hV hl
      · refine lv_aload_n hx hb dX0_raiseFrom_18 rfl (lx_at hl 0 rfl) ?_
        refine xg_5 C hV dX0_raiseFrom_19 ?_
        refine lv_iload_n hx hb dX0_raiseFrom_22 rfl (lx_at hl 2 rfl) ?_
        refine lv_bipush (v := 9) hx hb dX0_raiseFrom_23 (by decide) ?_
        refine xs_5 C hV (by assumption) dX0_raiseFrom_25 (fun H locs hV => ?_)
        refine lv_aload_n hx hb dX0_raiseFrom_26 rfl (lx_at hl 0 rfl) ?_
        refine xg_6 C hV dX0_raiseFrom_27 ?_
        refine lv_iload_n hx hb dX0_raiseFrom_30 rfl (lx_at hl 2 rfl) ?_
        refine lv_iconst (v := (-1)) hx hb dX0_raiseFrom_31 (by decide) ?_
        refine xs_6 C hV (by assumption) dX0_raiseFrom_32 (fun H locs hV => ?_)
        refine lx_iinc1 hx hb dX0_raiseFrom_33 hl rfl (fun ls hl => ?_)
        refine lv_goto (tgt := 2) hx hb dX0_raiseFrom_36 (by decide) ?_
        exact ih2 (k + 1) (_) (_) (_) (_) (by omega) (by rw [kx_lp_s, ← hY]; simp [kx_r1, up2_o, c15]) hV hl
  exact loop2 81 (0) (X) (_) (_) (_) (rfl) (rfl) hV hl
theorem xc_raiseFrom {p : Program} {l : Launch} {e : Env} {R : Room} {s : State} {m : MethodId} {args : Array Value} {below : List Frame} {meth : Method} {c : Code} {H : Heap} {locs : List Loc} {cells slots : Nat} {Q : State → Prop} {cc : ByteArray} {nL : Nat} {ret : Option FieldType} {pc : Nat} {ls : Array Slot} {rest : List Value} {D : va_G} {G : Nat → Nat} {E : Nat → ClassId} {A : Nat → Prop} {H0 : Heap} {X : cn_St} {a : Nat} (C : cn_C RX0 D (cn_tx E) p s m args meth c cc nL ret) (hV : cn_V D (cn_Wx G E) A H0 X H locs) (hl : ls.size = nL) (ha : a < 81) (hR : 2 + 1 ≤ R.frames ∧ 8 + (3 + 11) + 48 ≤ R.locals) (hroom : (rest.map fun v => v.category).sum ≤ 8) (hcs : cells ≤ R.cells ∧ slots ≤ R.slots) (hdg : decode cc pc = .ok (.invokevirtual 55, 3))
    (kk : ∀ (H1 : Heap) (locs1 : List Loc), cn_V D (cn_Wx G E) A H0 (kx_rf a X) H1 locs1 → W p l e R s m args below meth c H1 locs1 cells slots Q (F0 m (pc + 3) ls rest)) : W p l e R s m args below meth c H locs cells slots Q (F0 m pc ls (.int (nI a) :: .ref (G 11) :: rest)) :=
  cn_xcallv (As := [.int (nI a)]) (xt_raiseFrom l D G E X a ha) C hV hl ⟨q86, q88, qs3, q89⟩ (show yX0_raiseFrom.cls = RX0 ∧ yX0_raiseFrom.cls ≠ "java/lang/invoke/MethodHandle" ∧ yX0_raiseFrom.cls ≠ "java/lang/invoke/VarHandle" ∧ (parseMethodDescriptor yX0_raiseFrom.desc).map (fun d => d.parameters.length) = some 1 by decide +kernel) ⟨rfl, rfl⟩ hR rfl hroom hcs hdg kk

set_option maxHeartbeats 4000000 in
set_option maxRecDepth 100000 in
theorem xt_change (l : Launch) (D : va_G) (G : Nat → Nat) (E : Nat → ClassId) (X : cn_St) (a : Nat) (on : Int32) (ha : a < 81) (ho : on = 0 ∨ on = 1) : cn_xMv l yX0_change cX0_change 3 ({ frames := 3, cells := 0, slots := 0, locals := 70 } : Room) D G E X [.int (nI a), .int (on)] (kx_ch a on X) := by
  refine cn_xofv [some (.ref (G 11)), some (.int (nI a)), some (.int (on))] (by decide) rfl (Nat.le_of_ble_eq_true rfl) (by intro v hv; simp only [List.mem_cons, List.not_mem_nil, or_false] at hv; rcases hv with rfl | rfl | rfl <;> rfl) rfl (Nat.le_of_ble_eq_true rfl) ?_
  intro p e s m args below meth c ls A Q H locs C hV hl hret
  obtain ⟨hx, hb, hml, hown, hts, hK, hrt, hlk⟩ := id C
  refine lv_aload_n hx hb dX0_change_0 rfl (lx_at hl 0 rfl) ?_
  refine xg_0 C hV dX0_change_1 ?_
  refine lv_iload_n hx hb dX0_change_4 rfl (lx_at hl 1 rfl) ?_
  refine lv_iload_n hx hb dX0_change_5 rfl (lx_at hl 2 rfl) ?_
  refine xs_0 C hV (by assumption) (by first | exact Or.inl rfl | exact Or.inr rfl | assumption) dX0_change_6 (fun H locs hV => ?_)
  refine lv_iload_n hx hb dX0_change_7 rfl (lx_at hl 2 rfl) ?_
  refine lv_if_eq (tgt := 35) hx hb dX0_change_8 (by decide) (fun c8 => ?_) (fun c8 => ?_)
  · refine lv_aload_n hx hb dX0_change_35 rfl (lx_at hl 0 rfl) ?_
    refine lv_iload_n hx hb dX0_change_36 rfl (lx_at hl 1 rfl) ?_
    refine xc_raiseFrom C hV (lx_sz hl) (by assumption) ⟨by decide, by decide⟩ (Nat.le_of_ble_eq_true rfl) ⟨by decide, by decide⟩ dX0_change_37 (fun H locs hV => ?_)
    refine lv_aload_n hx hb dX0_change_40 rfl (lx_at hl 0 rfl) ?_
    refine xc_lower C hV (lx_sz hl)  ⟨by decide, by decide⟩ (Nat.le_of_ble_eq_true rfl) ⟨by decide, by decide⟩ dX0_change_41 (fun H locs hV => ?_)
    exact hret _ _ _ _ _ (by simp [kx_ch, c8]) hV dX0_change_44
  · refine lv_aload_n hx hb dX0_change_11 rfl (lx_at hl 0 rfl) ?_
    refine xg_5 C hV dX0_change_12 ?_
    refine lv_iload_n hx hb dX0_change_15 rfl (lx_at hl 1 rfl) ?_
    refine lv_iconst (v := 0) hx hb dX0_change_16 (by decide) ?_
    refine xs_5 C hV (by assumption) dX0_change_17 (fun H locs hV => ?_)
    refine lv_aload_n hx hb dX0_change_18 rfl (lx_at hl 0 rfl) ?_
    refine xg_6 C hV dX0_change_19 ?_
    refine lv_iload_n hx hb dX0_change_22 rfl (lx_at hl 1 rfl) ?_
    refine lv_iload_n hx hb dX0_change_23 rfl (lx_at hl 1 rfl) ?_
    refine xs_6 C hV (by assumption) dX0_change_24 (fun H locs hV => ?_)
    refine lv_aload_n hx hb dX0_change_25 rfl (lx_at hl 0 rfl) ?_
    refine xg_7 C hV dX0_change_26 ?_
    refine lv_iload_n hx hb dX0_change_29 rfl (lx_at hl 1 rfl) ?_
    refine lv_iconst (v := 1) hx hb dX0_change_30 (by decide) ?_
    refine xs_7 C hV (by assumption) (by first | exact Or.inl rfl | exact Or.inr rfl | assumption) dX0_change_31 (fun H locs hV => ?_)
    refine lv_goto (tgt := 40) hx hb dX0_change_32 (by decide) ?_
    refine lv_aload_n hx hb dX0_change_40 rfl (lx_at hl 0 rfl) ?_
    refine xc_lower C hV (lx_sz hl)  ⟨by decide, by decide⟩ (Nat.le_of_ble_eq_true rfl) ⟨by decide, by decide⟩ dX0_change_41 (fun H locs hV => ?_)
    exact hret _ _ _ _ _ (by simp [kx_ch, c8]) hV dX0_change_44
theorem xc_change {p : Program} {l : Launch} {e : Env} {R : Room} {s : State} {m : MethodId} {args : Array Value} {below : List Frame} {meth : Method} {c : Code} {H : Heap} {locs : List Loc} {cells slots : Nat} {Q : State → Prop} {cc : ByteArray} {nL : Nat} {ret : Option FieldType} {pc : Nat} {ls : Array Slot} {rest : List Value} {D : va_G} {G : Nat → Nat} {E : Nat → ClassId} {A : Nat → Prop} {H0 : Heap} {X : cn_St} {a : Nat} {on : Int32} (C : cn_C RX0 D (cn_tx E) p s m args meth c cc nL ret) (hV : cn_V D (cn_Wx G E) A H0 X H locs) (hl : ls.size = nL) (ha : a < 81) (ho : on = 0 ∨ on = 1) (hR : 3 + 1 ≤ R.frames ∧ 8 + (3 + 11) + 70 ≤ R.locals) (hroom : (rest.map fun v => v.category).sum ≤ 8) (hcs : cells ≤ R.cells ∧ slots ≤ R.slots) (hdg : decode cc pc = .ok (.invokevirtual 79, 3))
    (kk : ∀ (H1 : Heap) (locs1 : List Loc), cn_V D (cn_Wx G E) A H0 (kx_ch a on X) H1 locs1 → W p l e R s m args below meth c H1 locs1 cells slots Q (F0 m (pc + 3) ls rest)) : W p l e R s m args below meth c H locs cells slots Q (F0 m pc ls (.int (on) :: .int (nI a) :: .ref (G 11) :: rest)) :=
  cn_xcallv (As := [.int (nI a), .int (on)]) (xt_change l D G E X a on ha ho) C hV hl ⟨q82, q84, qs2, q85⟩ (show yX0_change.cls = RX0 ∧ yX0_change.cls ≠ "java/lang/invoke/MethodHandle" ∧ yX0_change.cls ≠ "java/lang/invoke/VarHandle" ∧ (parseMethodDescriptor yX0_change.desc).map (fun d => d.parameters.length) = some 2 by decide +kernel) ⟨rfl, rfl⟩ hR rfl hroom hcs hdg kk
end
section
set_option maxRecDepth 100000
set_option maxHeartbeats 4000000 in
set_option maxRecDepth 100000 in
theorem xt_ask (l : Launch) (D : va_G) (G : Nat → Nat) (E : Nat → ClassId) (X : cn_St) (a : Nat) (ha : a < 81) : cn_xMv l yX0_ask cX0_ask 5 ({ frames := 1, cells := 0, slots := 0, locals := 23 } : Room) D G E X [.int (nI a)] (kx_ask a X) := by
  refine cn_xofv [some (.ref (G 11)), some (.int (nI a)), none, none, none] (by decide) rfl (Nat.le_of_ble_eq_true rfl) (by intro v hv; simp only [List.mem_cons, List.not_mem_nil, or_false] at hv; rcases hv with rfl | rfl <;> rfl) rfl (Nat.le_of_ble_eq_true rfl) ?_
  intro p e s m args below meth c ls A Q H locs C hV hl hret
  obtain ⟨hx, hb, hml, hown, hts, hK, hrt, hlk⟩ := id C
  refine lv_ldc (v := 100000) hx hb hown (hts _ q33) dX0_ask_0 ?_
  refine lx_istore_n (i := 2) hx hb dX0_ask_2 rfl hl (by decide) (fun ls hl => ?_)
  refine lv_aload_n hx hb dX0_ask_3 rfl (lx_at hl 0 rfl) ?_
  refine xg_8 C hV dX0_ask_4 ?_
  refine lv_iload_n hx hb dX0_ask_7 rfl (lx_at hl 1 rfl) ?_
  refine xl_8 C hV (by assumption) dX0_ask_8 ?_
  refine lv_if_lt (tgt := 93) hx hb dX0_ask_9 (by decide) (fun c9 => ?_) (fun c9 => ?_)
  · refine lv_aload_n hx hb dX0_ask_93 rfl (lx_at hl 0 rfl) ?_
    refine xg_10 C hV dX0_ask_94 ?_
    refine lv_iload_n hx hb dX0_ask_97 rfl (lx_at hl 1 rfl) ?_
    refine lv_iload_n hx hb dX0_ask_98 rfl (lx_at hl 2 rfl) ?_
    refine xs_10 C hV (by assumption) dX0_ask_99 (fun H locs hV => ?_)
    exact hret _ _ _ _ _ (by simp [kx_ask, kx_av, c9]) hV dX0_ask_100
  · refine lv_iconst (v := 0) hx hb dX0_ask_12 (by decide) ?_
    refine lx_istore_n (i := 3) hx hb dX0_ask_13 rfl hl (by decide) (fun ls hl => ?_)
    have loop14 : ∀ (n : Nat) (d : Nat) (b : Int32) (H : Heap) (locs : List Loc) (ls : Array Slot), d + n = 4 → b = kx_lp (kx_s1 X a) d 100000 → cn_V D (cn_Wx G E) A s.heap (X) H locs → cn_lx ls 5 [some (.ref (G 11)), some (.int (nI a)), some (.int b), some (.int (nI d)), none] → W p l e ({ frames := 1, cells := 0, slots := 0, locals := 23 } : Room) s m args below meth c H locs 0 0 Q (F0 m 14 ls []) := by
      intro n
      induction n with
      | zero =>
        intro d b H locs ls hn hY hV hl
        obtain rfl : d = 4 := by omega
        refine lv_iload_n hx hb dX0_ask_14 rfl (lx_at hl 3 rfl) ?_
        refine lv_iconst (v := 4) hx hb dX0_ask_15 (by decide) ?_
        refine lv_icmp_ge (tgt := 83) hx hb dX0_ask_16 (by decide) (fun c16 => ?_) (fun c16 => absurd (by decide) c16)
        refine lv_iload_n hx hb dX0_ask_83 rfl (lx_at hl 1 rfl) ?_
        refine lv_aload_n hx hb dX0_ask_84 rfl (lx_at hl 0 rfl) ?_
        refine xg_4 C hV dX0_ask_85 ?_
        refine lv_icmp_ne (tgt := 93) hx hb dX0_ask_88 (by decide) (fun c88 => ?_) (fun c88 => ?_)
        · refine lv_aload_n hx hb dX0_ask_93 rfl (lx_at hl 0 rfl) ?_
          refine xg_10 C hV dX0_ask_94 ?_
          refine lv_iload_n hx hb dX0_ask_97 rfl (lx_at hl 1 rfl) ?_
          refine lv_iload_n hx hb dX0_ask_98 rfl (lx_at hl 2 rfl) ?_
          refine xs_10 C hV (by assumption) dX0_ask_99 (fun H locs hV => ?_)
          exact hret _ _ _ _ _ (by simp [kx_ask, kx_av, c9, c88, hY]) hV dX0_ask_100
        · refine lv_iconst (v := 0) hx hb dX0_ask_91 (by decide) ?_
          refine lx_istore_n (i := 2) hx hb dX0_ask_92 rfl hl (by decide) (fun ls hl => ?_)
          refine lv_aload_n hx hb dX0_ask_93 rfl (lx_at hl 0 rfl) ?_
          refine xg_10 C hV dX0_ask_94 ?_
          refine lv_iload_n hx hb dX0_ask_97 rfl (lx_at hl 1 rfl) ?_
          refine lv_iload_n hx hb dX0_ask_98 rfl (lx_at hl 2 rfl) ?_
          refine xs_10 C hV (by assumption) dX0_ask_99 (fun H locs hV => ?_)
          exact hret _ _ _ _ _ (by simp [kx_ask, kx_av, c9, c88, hY]) hV dX0_ask_100
      | succ n ih14 =>
        intro d b H locs ls hn hY hV hl
        have h_d : d < 4 := by omega
        refine lv_iload_n hx hb dX0_ask_14 rfl (lx_at hl 3 rfl) ?_
        refine lv_iconst (v := 4) hx hb dX0_ask_15 (by decide) ?_
        refine lv_icmp_ge (tgt := 83) hx hb dX0_ask_16 (by decide) (fun c16 => absurd c16 (nI_ge (b := 4) h_d (by decide))) (fun c16 => ?_)
        refine lv_aload_n hx hb dX0_ask_19 rfl (lx_at hl 0 rfl) ?_
        refine lv_iload_n hx hb dX0_ask_20 rfl (lx_at hl 1 rfl) ?_
        refine lv_iload_n hx hb dX0_ask_21 rfl (lx_at hl 3 rfl) ?_
        refine xc_moved C hV (lx_sz hl) (by assumption) (by assumption) ⟨by decide, by decide⟩ (Nat.le_of_ble_eq_true rfl) ⟨by decide, by decide⟩ dX0_ask_22 (fun H locs hV => ?_)
        by_cases ht : kx_mv a d < 81
        · rw [kx_oI_pos ht]
          refine lx_istore hx hb dX0_ask_25 hl (by decide) (fun ls hl => ?_)
          refine lv_iload hx hb dX0_ask_27 (lx_at hl 4 rfl) ?_
          refine lv_if_lt (tgt := 77) hx hb dX0_ask_29 (by decide) (fun c29 => absurd c29 (nI_pos (by omega))) (fun c29 => ?_)
          refine lv_aload_n hx hb dX0_ask_32 rfl (lx_at hl 0 rfl) ?_
          refine xg_8 C hV dX0_ask_33 ?_
          refine lv_iload hx hb dX0_ask_36 (lx_at hl 4 rfl) ?_
          refine xl_8 C hV (by assumption) dX0_ask_38 ?_
          refine lv_if_lt (tgt := 77) hx hb dX0_ask_39 (by decide) (fun c39 => ?_) (fun c39 => ?_)
          · refine lx_iinc1 hx hb dX0_ask_77 hl rfl (fun ls hl => ?_)
            refine lv_goto (tgt := 14) hx hb dX0_ask_80 (by decide) ?_
            exact ih14 (d + 1) (_) (_) (_) (_) (by omega) (by rw [kx_lp_s, ← hY]; simp [kx_s1, ht, c9, c39]) hV (lx_none hl 4)
          · refine lv_aload_n hx hb dX0_ask_42 rfl (lx_at hl 0 rfl) ?_
            refine xg_9 C hV dX0_ask_43 ?_
            refine lv_iload hx hb dX0_ask_46 (lx_at hl 4 rfl) ?_
            refine xl_9 C hV (by assumption) dX0_ask_48 ?_
            refine lv_aload_n hx hb dX0_ask_49 rfl (lx_at hl 0 rfl) ?_
            refine xg_8 C hV dX0_ask_50 ?_
            refine lv_iload hx hb dX0_ask_53 (lx_at hl 4 rfl) ?_
            refine xl_8 C hV (by assumption) dX0_ask_55 ?_
            refine lv_iadd hx hb dX0_ask_56 ?_
            refine lv_iload_n hx hb dX0_ask_57 rfl (lx_at hl 2 rfl) ?_
            refine lv_icmp_ge (tgt := 77) hx hb dX0_ask_58 (by decide) (fun c58 => ?_) (fun c58 => ?_)
            · refine lx_iinc1 hx hb dX0_ask_77 hl rfl (fun ls hl => ?_)
              refine lv_goto (tgt := 14) hx hb dX0_ask_80 (by decide) ?_
              exact ih14 (d + 1) (_) (_) (_) (_) (by omega) (by rw [kx_lp_s, ← hY]; simp [kx_s1, ht, c9, c39, c58]) hV (lx_none hl 4)
            · refine lv_aload_n hx hb dX0_ask_61 rfl (lx_at hl 0 rfl) ?_
              refine xg_9 C hV dX0_ask_62 ?_
              refine lv_iload hx hb dX0_ask_65 (lx_at hl 4 rfl) ?_
              refine xl_9 C hV (by assumption) dX0_ask_67 ?_
              refine lv_aload_n hx hb dX0_ask_68 rfl (lx_at hl 0 rfl) ?_
              refine xg_8 C hV dX0_ask_69 ?_
              refine lv_iload hx hb dX0_ask_72 (lx_at hl 4 rfl) ?_
              refine xl_8 C hV (by assumption) dX0_ask_74 ?_
              refine lv_iadd hx hb dX0_ask_75 ?_
              refine lx_istore_n (i := 2) hx hb dX0_ask_76 rfl hl (by decide) (fun ls hl => ?_)
              refine lx_iinc1 hx hb dX0_ask_77 hl rfl (fun ls hl => ?_)
              refine lv_goto (tgt := 14) hx hb dX0_ask_80 (by decide) ?_
              exact ih14 (d + 1) (_) (_) (_) (_) (by omega) (by rw [kx_lp_s, ← hY]; simp [kx_s1, ht, c9, c39, c58]) hV (lx_none hl 4)
        · rw [kx_oI_neg ht]
          refine lx_istore hx hb dX0_ask_25 hl (by decide) (fun ls hl => ?_)
          refine lv_iload hx hb dX0_ask_27 (lx_at hl 4 rfl) ?_
          refine lv_if_lt (tgt := 77) hx hb dX0_ask_29 (by decide) (fun c29 => ?_) (fun c29 => absurd (by decide) c29)
          refine lx_iinc1 hx hb dX0_ask_77 hl rfl (fun ls hl => ?_)
          refine lv_goto (tgt := 14) hx hb dX0_ask_80 (by decide) ?_
          exact ih14 (d + 1) (_) (_) (_) (_) (by omega) (by rw [kx_lp_s, ← hY]; simp [kx_s1, ht, c9]) hV (lx_none hl 4)
    exact loop14 4 (0) (100000) (_) (_) (_) (rfl) (rfl) hV hl
theorem xc_ask {p : Program} {l : Launch} {e : Env} {R : Room} {s : State} {m : MethodId} {args : Array Value} {below : List Frame} {meth : Method} {c : Code} {H : Heap} {locs : List Loc} {cells slots : Nat} {Q : State → Prop} {cc : ByteArray} {nL : Nat} {ret : Option FieldType} {pc : Nat} {ls : Array Slot} {rest : List Value} {D : va_G} {G : Nat → Nat} {E : Nat → ClassId} {A : Nat → Prop} {H0 : Heap} {X : cn_St} {a : Nat} (C : cn_C RX0 D (cn_tx E) p s m args meth c cc nL ret) (hV : cn_V D (cn_Wx G E) A H0 X H locs) (hl : ls.size = nL) (ha : a < 81) (hR : 1 + 1 ≤ R.frames ∧ 8 + (5 + 11) + 23 ≤ R.locals) (hroom : (rest.map fun v => v.category).sum ≤ 8) (hcs : cells ≤ R.cells ∧ slots ≤ R.slots) (hdg : decode cc pc = .ok (.invokevirtual 64, 3))
    (kk : ∀ (H1 : Heap) (locs1 : List Loc), cn_V D (cn_Wx G E) A H0 (kx_ask a X) H1 locs1 → W p l e R s m args below meth c H1 locs1 cells slots Q (F0 m (pc + 3) ls rest)) : W p l e R s m args below meth c H locs cells slots Q (F0 m pc ls (.int (nI a) :: .ref (G 11) :: rest)) :=
  cn_xcallv (As := [.int (nI a)]) (xt_ask l D G E X a ha) C hV hl ⟨q114, q116, qs10, q117⟩ (show yX0_ask.cls = RX0 ∧ yX0_ask.cls ≠ "java/lang/invoke/MethodHandle" ∧ yX0_ask.cls ≠ "java/lang/invoke/VarHandle" ∧ (parseMethodDescriptor yX0_ask.desc).map (fun d => d.parameters.length) = some 1 by decide +kernel) ⟨rfl, rfl⟩ hR rfl hroom hcs hdg kk

set_option maxHeartbeats 4000000 in
set_option maxRecDepth 100000 in
theorem xt_askAround (l : Launch) (D : va_G) (G : Nat → Nat) (E : Nat → ClassId) (X : cn_St) (a : Nat) (ha : a < 81) : cn_xMv l yX0_askAround cX0_askAround 4 ({ frames := 2, cells := 0, slots := 0, locals := 47 } : Room) D G E X [.int (nI a)] (kx_aa a X) := by
  refine cn_xofv [some (.ref (G 11)), some (.int (nI a)), none, none] (by decide) rfl (Nat.le_of_ble_eq_true rfl) (by intro v hv; simp only [List.mem_cons, List.not_mem_nil, or_false] at hv; rcases hv with rfl | rfl <;> rfl) rfl (Nat.le_of_ble_eq_true rfl) ?_
  intro p e s m args below meth c ls A Q H locs C hV hl hret
  obtain ⟨hx, hb, hml, hown, hts, hK, hrt, hlk⟩ := id C
  refine lv_iconst (v := 0) hx hb dX0_askAround_0 (by decide) ?_
  refine lx_istore_n (i := 2) hx hb dX0_askAround_1 rfl hl (by decide) (fun ls hl => ?_)
  have loop2 : ∀ (n : Nat) (d : Nat) (Y : cn_St) (H : Heap) (locs : List Loc) (ls : Array Slot), d + n = 4 → Y = kx_lp (kx_a1 a) d X → cn_V D (cn_Wx G E) A s.heap (Y) H locs → cn_lx ls 4 [some (.ref (G 11)), some (.int (nI a)), some (.int (nI d)), none] → W p l e ({ frames := 2, cells := 0, slots := 0, locals := 47 } : Room) s m args below meth c H locs 0 0 Q (F0 m 2 ls []) := by
    intro n
    induction n with
    | zero =>
      intro d Y H locs ls hn hY hV hl
      obtain rfl : d = 4 := by omega
      refine lv_iload_n hx hb dX0_askAround_2 rfl (lx_at hl 2 rfl) ?_
      refine lv_iconst (v := 4) hx hb dX0_askAround_3 (by decide) ?_
      refine lv_icmp_ge (tgt := 29) hx hb dX0_askAround_4 (by decide) (fun c4 => ?_) (fun c4 => absurd (by decide) c4)
      exact hret _ _ _ _ _ (hY) hV dX0_askAround_29
    | succ n ih2 =>
      intro d Y H locs ls hn hY hV hl
      have h_d : d < 4 := by omega
      refine lv_iload_n hx hb dX0_askAround_2 rfl (lx_at hl 2 rfl) ?_
      refine lv_iconst (v := 4) hx hb dX0_askAround_3 (by decide) ?_
      refine lv_icmp_ge (tgt := 29) hx hb dX0_askAround_4 (by decide) (fun c4 => absurd c4 (nI_ge (b := 4) h_d (by decide))) (fun c4 => ?_)
      refine lv_aload_n hx hb dX0_askAround_7 rfl (lx_at hl 0 rfl) ?_
      refine lv_iload_n hx hb dX0_askAround_8 rfl (lx_at hl 1 rfl) ?_
      refine lv_iload_n hx hb dX0_askAround_9 rfl (lx_at hl 2 rfl) ?_
      refine xc_moved C hV (lx_sz hl) (by assumption) (by assumption) ⟨by decide, by decide⟩ (Nat.le_of_ble_eq_true rfl) ⟨by decide, by decide⟩ dX0_askAround_10 (fun H locs hV => ?_)
      by_cases ht : kx_mv a d < 81
      · rw [kx_oI_pos ht]
        refine lx_istore_n (i := 3) hx hb dX0_askAround_13 rfl hl (by decide) (fun ls hl => ?_)
        refine lv_iload_n hx hb dX0_askAround_14 rfl (lx_at hl 3 rfl) ?_
        refine lv_if_lt (tgt := 23) hx hb dX0_askAround_15 (by decide) (fun c15 => absurd c15 (nI_pos (by omega))) (fun c15 => ?_)
        refine lv_aload_n hx hb dX0_askAround_18 rfl (lx_at hl 0 rfl) ?_
        refine lv_iload_n hx hb dX0_askAround_19 rfl (lx_at hl 3 rfl) ?_
        refine xc_ask C hV (lx_sz hl) (by assumption) ⟨by decide, by decide⟩ (Nat.le_of_ble_eq_true rfl) ⟨by decide, by decide⟩ dX0_askAround_20 (fun H locs hV => ?_)
        refine lx_iinc1 hx hb dX0_askAround_23 hl rfl (fun ls hl => ?_)
        refine lv_goto (tgt := 2) hx hb dX0_askAround_26 (by decide) ?_
        exact ih2 (d + 1) (_) (_) (_) (_) (by omega) (by rw [kx_lp_s, ← hY]; simp [kx_a1, ht]) hV (lx_none hl 3)
      · rw [kx_oI_neg ht]
        refine lx_istore_n (i := 3) hx hb dX0_askAround_13 rfl hl (by decide) (fun ls hl => ?_)
        refine lv_iload_n hx hb dX0_askAround_14 rfl (lx_at hl 3 rfl) ?_
        refine lv_if_lt (tgt := 23) hx hb dX0_askAround_15 (by decide) (fun c15 => ?_) (fun c15 => absurd (by decide) c15)
        refine lx_iinc1 hx hb dX0_askAround_23 hl rfl (fun ls hl => ?_)
        refine lv_goto (tgt := 2) hx hb dX0_askAround_26 (by decide) ?_
        exact ih2 (d + 1) (_) (_) (_) (_) (by omega) (by rw [kx_lp_s, ← hY]; simp [kx_a1, ht]) hV (lx_none hl 3)
  exact loop2 4 (0) (X) (_) (_) (_) (rfl) (rfl) hV hl
theorem xc_askAround {p : Program} {l : Launch} {e : Env} {R : Room} {s : State} {m : MethodId} {args : Array Value} {below : List Frame} {meth : Method} {c : Code} {H : Heap} {locs : List Loc} {cells slots : Nat} {Q : State → Prop} {cc : ByteArray} {nL : Nat} {ret : Option FieldType} {pc : Nat} {ls : Array Slot} {rest : List Value} {D : va_G} {G : Nat → Nat} {E : Nat → ClassId} {A : Nat → Prop} {H0 : Heap} {X : cn_St} {a : Nat} (C : cn_C RX0 D (cn_tx E) p s m args meth c cc nL ret) (hV : cn_V D (cn_Wx G E) A H0 X H locs) (hl : ls.size = nL) (ha : a < 81) (hR : 2 + 1 ≤ R.frames ∧ 8 + (4 + 11) + 47 ≤ R.locals) (hroom : (rest.map fun v => v.category).sum ≤ 8) (hcs : cells ≤ R.cells ∧ slots ≤ R.slots) (hdg : decode cc pc = .ok (.invokevirtual 71, 3))
    (kk : ∀ (H1 : Heap) (locs1 : List Loc), cn_V D (cn_Wx G E) A H0 (kx_aa a X) H1 locs1 → W p l e R s m args below meth c H1 locs1 cells slots Q (F0 m (pc + 3) ls rest)) : W p l e R s m args below meth c H locs cells slots Q (F0 m pc ls (.int (nI a) :: .ref (G 11) :: rest)) :=
  cn_xcallv (As := [.int (nI a)]) (xt_askAround l D G E X a ha) C hV hl ⟨q122, q124, qs12, q125⟩ (show yX0_askAround.cls = RX0 ∧ yX0_askAround.cls ≠ "java/lang/invoke/MethodHandle" ∧ yX0_askAround.cls ≠ "java/lang/invoke/VarHandle" ∧ (parseMethodDescriptor yX0_askAround.desc).map (fun d => d.parameters.length) = some 1 by decide +kernel) ⟨rfl, rfl⟩ hR rfl hroom hcs hdg kk

set_option maxHeartbeats 4000000 in
set_option maxRecDepth 100000 in
theorem xt_recost (l : Launch) (D : va_G) (G : Nat → Nat) (E : Nat → ClassId) (X : cn_St)   : cn_xMv l yX0_recost cX0_recost 3 ({ frames := 3, cells := 0, slots := 0, locals := 70 } : Room) D G E X [] (kx_rc X) := by
  refine cn_xofv [some (.ref (G 11)), none, none] (by decide) rfl (Nat.le_of_ble_eq_true rfl) (by intro v hv; simp only [List.mem_cons, List.not_mem_nil, or_false] at hv; rcases hv with rfl <;> rfl) rfl (Nat.le_of_ble_eq_true rfl) ?_
  intro p e s m args below meth c ls A Q H locs C hV hl hret
  obtain ⟨hx, hb, hml, hown, hts, hK, hrt, hlk⟩ := id C
  refine lv_iconst (v := 0) hx hb dX0_recost_0 (by decide) ?_
  refine lx_istore_n (i := 1) hx hb dX0_recost_1 rfl hl (by decide) (fun ls hl => ?_)
  have loop2 : ∀ (n : Nat) (a : Nat) (Y : cn_St) (H : Heap) (locs : List Loc) (ls : Array Slot), a + n = 81 → Y = kx_lp kx_c1 a X → cn_V D (cn_Wx G E) A s.heap (Y) H locs → cn_lx ls 3 [some (.ref (G 11)), some (.int (nI a)), none] → W p l e ({ frames := 3, cells := 0, slots := 0, locals := 70 } : Room) s m args below meth c H locs 0 0 Q (F0 m 2 ls []) := by
    intro n
    induction n with
    | zero =>
      intro a Y H locs ls hn hY hV hl
      obtain rfl : a = 81 := by omega
      refine lv_iload_n hx hb dX0_recost_2 rfl (lx_at hl 1 rfl) ?_
      refine lv_bipush (v := 81) hx hb dX0_recost_3 (by decide) ?_
      refine lv_icmp_ge (tgt := 47) hx hb dX0_recost_5 (by decide) (fun c5 => ?_) (fun c5 => absurd (by decide) c5)
      exact hret _ _ _ _ _ (hY) hV dX0_recost_47
    | succ n ih2 =>
      intro a Y H locs ls hn hY hV hl
      have h_a : a < 81 := by omega
      refine lv_iload_n hx hb dX0_recost_2 rfl (lx_at hl 1 rfl) ?_
      refine lv_bipush (v := 81) hx hb dX0_recost_3 (by decide) ?_
      refine lv_icmp_ge (tgt := 47) hx hb dX0_recost_5 (by decide) (fun c5 => absurd c5 (nI_ge (b := 81) h_a (by decide))) (fun c5 => ?_)
      refine lv_aload_n hx hb dX0_recost_8 rfl (lx_at hl 0 rfl) ?_
      refine lv_iload_n hx hb dX0_recost_9 rfl (lx_at hl 1 rfl) ?_
      refine xc_costOf C hV (lx_sz hl) (by assumption) ⟨by decide, by decide⟩ (Nat.le_of_ble_eq_true rfl) ⟨by decide, by decide⟩ dX0_recost_10 (fun H locs hV => ?_)
      refine lx_istore_n (i := 2) hx hb dX0_recost_13 rfl hl (by decide) (fun ls hl => ?_)
      refine lv_iload_n hx hb dX0_recost_14 rfl (lx_at hl 2 rfl) ?_
      refine lv_aload_n hx hb dX0_recost_15 rfl (lx_at hl 0 rfl) ?_
      refine xg_8 C hV dX0_recost_16 ?_
      refine lv_iload_n hx hb dX0_recost_19 rfl (lx_at hl 1 rfl) ?_
      refine xl_8 C hV (by assumption) dX0_recost_20 ?_
      refine lv_icmp_eq (tgt := 41) hx hb dX0_recost_21 (by decide) (fun c21 => ?_) (fun c21 => ?_)
      · refine lx_iinc1 hx hb dX0_recost_41 hl rfl (fun ls hl => ?_)
        refine lv_goto (tgt := 2) hx hb dX0_recost_44 (by decide) ?_
        exact ih2 (a + 1) (_) (_) (_) (_) (by omega) (by rw [kx_lp_s, ← hY]; simp [kx_c1, c21]) hV (lx_none hl 2)
      · refine lv_aload_n hx hb dX0_recost_24 rfl (lx_at hl 0 rfl) ?_
        refine xg_8 C hV dX0_recost_25 ?_
        refine lv_iload_n hx hb dX0_recost_28 rfl (lx_at hl 1 rfl) ?_
        refine lv_iload_n hx hb dX0_recost_29 rfl (lx_at hl 2 rfl) ?_
        refine xs_8 C hV (by assumption) dX0_recost_30 (fun H locs hV => ?_)
        refine lv_aload_n hx hb dX0_recost_31 rfl (lx_at hl 0 rfl) ?_
        refine lv_iload_n hx hb dX0_recost_32 rfl (lx_at hl 1 rfl) ?_
        refine xc_ask C hV (lx_sz hl) (by assumption) ⟨by decide, by decide⟩ (Nat.le_of_ble_eq_true rfl) ⟨by decide, by decide⟩ dX0_recost_33 (fun H locs hV => ?_)
        refine lv_aload_n hx hb dX0_recost_36 rfl (lx_at hl 0 rfl) ?_
        refine lv_iload_n hx hb dX0_recost_37 rfl (lx_at hl 1 rfl) ?_
        refine xc_askAround C hV (lx_sz hl) (by assumption) ⟨by decide, by decide⟩ (Nat.le_of_ble_eq_true rfl) ⟨by decide, by decide⟩ dX0_recost_38 (fun H locs hV => ?_)
        refine lx_iinc1 hx hb dX0_recost_41 hl rfl (fun ls hl => ?_)
        refine lv_goto (tgt := 2) hx hb dX0_recost_44 (by decide) ?_
        exact ih2 (a + 1) (_) (_) (_) (_) (by omega) (by rw [kx_lp_s, ← hY]; simp [kx_c1, c21]) hV (lx_none hl 2)
  exact loop2 81 (0) (X) (_) (_) (_) (rfl) (rfl) hV hl
theorem xc_recost {p : Program} {l : Launch} {e : Env} {R : Room} {s : State} {m : MethodId} {args : Array Value} {below : List Frame} {meth : Method} {c : Code} {H : Heap} {locs : List Loc} {cells slots : Nat} {Q : State → Prop} {cc : ByteArray} {nL : Nat} {ret : Option FieldType} {pc : Nat} {ls : Array Slot} {rest : List Value} {D : va_G} {G : Nat → Nat} {E : Nat → ClassId} {A : Nat → Prop} {H0 : Heap} {X : cn_St}  (C : cn_C RX0 D (cn_tx E) p s m args meth c cc nL ret) (hV : cn_V D (cn_Wx G E) A H0 X H locs) (hl : ls.size = nL)  (hR : 3 + 1 ≤ R.frames ∧ 8 + (3 + 11) + 70 ≤ R.locals) (hroom : (rest.map fun v => v.category).sum ≤ 8) (hcs : cells ≤ R.cells ∧ slots ≤ R.slots) (hdg : decode cc pc = .ok (.invokevirtual 90, 3))
    (kk : ∀ (H1 : Heap) (locs1 : List Loc), cn_V D (cn_Wx G E) A H0 (kx_rc X) H1 locs1 → W p l e R s m args below meth c H1 locs1 cells slots Q (F0 m (pc + 3) ls rest)) : W p l e R s m args below meth c H locs cells slots Q (F0 m pc ls (.ref (G 11) :: rest)) :=
  cn_xcallv (As := []) (xt_recost l D G E X ) C hV hl ⟨q106, q108, qs8, q109⟩ (show yX0_recost.cls = RX0 ∧ yX0_recost.cls ≠ "java/lang/invoke/MethodHandle" ∧ yX0_recost.cls ≠ "java/lang/invoke/VarHandle" ∧ (parseMethodDescriptor yX0_recost.desc).map (fun d => d.parameters.length) = some 0 by decide +kernel) ⟨rfl, rfl⟩ hR rfl hroom hcs hdg kk

set_option maxHeartbeats 4000000 in
set_option maxRecDepth 100000 in
theorem xt_first (l : Launch) (D : va_G) (G : Nat → Nat) (E : Nat → ClassId) (X : cn_St)   : cn_xMi l yX0_first cX0_first 5 (some .int) ({ frames := 0, cells := 0, slots := 0, locals := 0 } : Room) D G E X [] (kx_oI (kx_fi X)) (X) := by
  refine cn_xofi (ty := .int) rfl (vp_nar_int _) [some (.ref (G 11)), none, none, none, none] (by decide) rfl (Nat.le_of_ble_eq_true rfl) (by intro v hv; simp only [List.mem_cons, List.not_mem_nil, or_false] at hv; rcases hv with rfl <;> rfl) rfl (Nat.le_of_ble_eq_true rfl) ?_
  intro p e s m args below meth c ls A Q H locs C hV hl hret
  obtain ⟨hx, hb, hml, hown, hts, hK, hrt, hlk⟩ := id C
  refine lv_iconst (v := (-1)) hx hb dX0_first_0 (by decide) ?_
  refine lx_istore_n (i := 1) hx hb dX0_first_1 rfl hl (by decide) (fun ls hl => ?_)
  refine lv_ldc (v := 100001) hx hb hown (hts _ q166) dX0_first_2 ?_
  refine lx_istore_n (i := 2) hx hb dX0_first_4 rfl hl (by decide) (fun ls hl => ?_)
  refine lv_iconst (v := 0) hx hb dX0_first_5 (by decide) ?_
  refine lx_istore_n (i := 3) hx hb dX0_first_6 rfl hl (by decide) (fun ls hl => ?_)
  have loop7 : ∀ (n : Nat) (a : Nat) (b g : Int32) (H : Heap) (locs : List Loc) (ls : Array Slot), a + n = 81 → b = kx_oI (kx_fl X a).1 → g = (kx_fl X a).2 → cn_V D (cn_Wx G E) A s.heap (X) H locs → cn_lx ls 5 [some (.ref (G 11)), some (.int b), some (.int g), some (.int (nI a)), none] → W p l e ({ frames := 0, cells := 0, slots := 0, locals := 0 } : Room) s m args below meth c H locs 0 0 Q (F0 m 7 ls []) := by
    intro n
    induction n with
    | zero =>
      intro a b g H locs ls hn hY hZ hV hl
      obtain rfl : a = 81 := by omega
      refine lv_iload_n hx hb dX0_first_7 rfl (lx_at hl 3 rfl) ?_
      refine lv_bipush (v := 81) hx hb dX0_first_8 (by decide) ?_
      refine lv_icmp_ge (tgt := 77) hx hb dX0_first_10 (by decide) (fun c10 => ?_) (fun c10 => absurd (by decide) c10)
      refine lv_iload_n hx hb dX0_first_77 rfl (lx_at hl 1 rfl) ?_
      exact hret _ _ _ _ _ _ (hY) (rfl) hV dX0_first_78
    | succ n ih7 =>
      intro a b g H locs ls hn hY hZ hV hl
      have h_a : a < 81 := by omega
      refine lv_iload_n hx hb dX0_first_7 rfl (lx_at hl 3 rfl) ?_
      refine lv_bipush (v := 81) hx hb dX0_first_8 (by decide) ?_
      refine lv_icmp_ge (tgt := 77) hx hb dX0_first_10 (by decide) (fun c10 => absurd c10 (nI_ge (b := 81) h_a (by decide))) (fun c10 => ?_)
      refine lv_aload_n hx hb dX0_first_13 rfl (lx_at hl 0 rfl) ?_
      refine xg_9 C hV dX0_first_14 ?_
      refine lv_iload_n hx hb dX0_first_17 rfl (lx_at hl 3 rfl) ?_
      refine xl_9 C hV (by assumption) dX0_first_18 ?_
      refine lv_aload_n hx hb dX0_first_19 rfl (lx_at hl 0 rfl) ?_
      refine xg_10 C hV dX0_first_20 ?_
      refine lv_iload_n hx hb dX0_first_23 rfl (lx_at hl 3 rfl) ?_
      refine xl_10 C hV (by assumption) dX0_first_24 ?_
      refine lv_icmp_ge (tgt := 37) hx hb dX0_first_25 (by decide) (fun c25 => ?_) (fun c25 => ?_)
      · refine lv_aload_n hx hb dX0_first_37 rfl (lx_at hl 0 rfl) ?_
        refine xg_10 C hV dX0_first_38 ?_
        refine lv_iload_n hx hb dX0_first_41 rfl (lx_at hl 3 rfl) ?_
        refine xl_10 C hV (by assumption) dX0_first_42 ?_
        refine lx_istore hx hb dX0_first_43 hl (by decide) (fun ls hl => ?_)
        refine lv_aload_n hx hb dX0_first_45 rfl (lx_at hl 0 rfl) ?_
        refine xg_9 C hV dX0_first_46 ?_
        refine lv_iload_n hx hb dX0_first_49 rfl (lx_at hl 3 rfl) ?_
        refine xl_9 C hV (by assumption) dX0_first_50 ?_
        refine lv_aload_n hx hb dX0_first_51 rfl (lx_at hl 0 rfl) ?_
        refine xg_10 C hV dX0_first_52 ?_
        refine lv_iload_n hx hb dX0_first_55 rfl (lx_at hl 3 rfl) ?_
        refine xl_10 C hV (by assumption) dX0_first_56 ?_
        refine lv_icmp_eq (tgt := 71) hx hb dX0_first_57 (by decide) (fun c57 => ?_) (fun c57 => ?_)
        · refine lx_iinc1 hx hb dX0_first_71 hl rfl (fun ls hl => ?_)
          refine lv_goto (tgt := 7) hx hb dX0_first_74 (by decide) ?_
          exact ih7 (a + 1) (_) (_) (_) (_) (_) (by omega) (by rw [kx_fl_s, kx_f1, ← hZ]; simp [kx_key, hY, kx_oI_pos h_a, c25, c57]) (by rw [kx_fl_s, kx_f1, ← hZ]; simp [kx_key, ← hZ, c25, c57]) hV (lx_none hl 4)
        · refine lv_iload hx hb dX0_first_60 (lx_at hl 4 rfl) ?_
          refine lv_iload_n hx hb dX0_first_62 rfl (lx_at hl 2 rfl) ?_
          refine lv_icmp_ge (tgt := 71) hx hb dX0_first_63 (by decide) (fun c63 => ?_) (fun c63 => ?_)
          · refine lx_iinc1 hx hb dX0_first_71 hl rfl (fun ls hl => ?_)
            refine lv_goto (tgt := 7) hx hb dX0_first_74 (by decide) ?_
            exact ih7 (a + 1) (_) (_) (_) (_) (_) (by omega) (by rw [kx_fl_s, kx_f1, ← hZ]; simp [kx_key, hY, kx_oI_pos h_a, c25, c57, c63]) (by rw [kx_fl_s, kx_f1, ← hZ]; simp [kx_key, ← hZ, c25, c57, c63]) hV (lx_none hl 4)
          · refine lv_iload_n hx hb dX0_first_66 rfl (lx_at hl 3 rfl) ?_
            refine lx_istore_n (i := 1) hx hb dX0_first_67 rfl hl (by decide) (fun ls hl => ?_)
            refine lv_iload hx hb dX0_first_68 (lx_at hl 4 rfl) ?_
            refine lx_istore_n (i := 2) hx hb dX0_first_70 rfl hl (by decide) (fun ls hl => ?_)
            refine lx_iinc1 hx hb dX0_first_71 hl rfl (fun ls hl => ?_)
            refine lv_goto (tgt := 7) hx hb dX0_first_74 (by decide) ?_
            exact ih7 (a + 1) (_) (_) (_) (_) (_) (by omega) (by rw [kx_fl_s, kx_f1, ← hZ]; simp [kx_key, hY, kx_oI_pos h_a, c25, c57, c63]) (by rw [kx_fl_s, kx_f1, ← hZ]; simp [kx_key, ← hZ, c25, c57, c63]) hV (lx_none hl 4)
      · refine lv_aload_n hx hb dX0_first_28 rfl (lx_at hl 0 rfl) ?_
        refine xg_9 C hV dX0_first_29 ?_
        refine lv_iload_n hx hb dX0_first_32 rfl (lx_at hl 3 rfl) ?_
        refine xl_9 C hV (by assumption) dX0_first_33 ?_
        refine lv_goto (tgt := 43) hx hb dX0_first_34 (by decide) ?_
        refine lx_istore hx hb dX0_first_43 hl (by decide) (fun ls hl => ?_)
        refine lv_aload_n hx hb dX0_first_45 rfl (lx_at hl 0 rfl) ?_
        refine xg_9 C hV dX0_first_46 ?_
        refine lv_iload_n hx hb dX0_first_49 rfl (lx_at hl 3 rfl) ?_
        refine xl_9 C hV (by assumption) dX0_first_50 ?_
        refine lv_aload_n hx hb dX0_first_51 rfl (lx_at hl 0 rfl) ?_
        refine xg_10 C hV dX0_first_52 ?_
        refine lv_iload_n hx hb dX0_first_55 rfl (lx_at hl 3 rfl) ?_
        refine xl_10 C hV (by assumption) dX0_first_56 ?_
        refine lv_icmp_eq (tgt := 71) hx hb dX0_first_57 (by decide) (fun c57 => ?_) (fun c57 => ?_)
        · refine lx_iinc1 hx hb dX0_first_71 hl rfl (fun ls hl => ?_)
          refine lv_goto (tgt := 7) hx hb dX0_first_74 (by decide) ?_
          exact ih7 (a + 1) (_) (_) (_) (_) (_) (by omega) (by rw [kx_fl_s, kx_f1, ← hZ]; simp [kx_key, hY, kx_oI_pos h_a, c25, c57]) (by rw [kx_fl_s, kx_f1, ← hZ]; simp [kx_key, ← hZ, c25, c57]) hV (lx_none hl 4)
        · refine lv_iload hx hb dX0_first_60 (lx_at hl 4 rfl) ?_
          refine lv_iload_n hx hb dX0_first_62 rfl (lx_at hl 2 rfl) ?_
          refine lv_icmp_ge (tgt := 71) hx hb dX0_first_63 (by decide) (fun c63 => ?_) (fun c63 => ?_)
          · refine lx_iinc1 hx hb dX0_first_71 hl rfl (fun ls hl => ?_)
            refine lv_goto (tgt := 7) hx hb dX0_first_74 (by decide) ?_
            exact ih7 (a + 1) (_) (_) (_) (_) (_) (by omega) (by rw [kx_fl_s, kx_f1, ← hZ]; simp [kx_key, hY, kx_oI_pos h_a, c25, c57, c63]) (by rw [kx_fl_s, kx_f1, ← hZ]; simp [kx_key, ← hZ, c25, c57, c63]) hV (lx_none hl 4)
          · refine lv_iload_n hx hb dX0_first_66 rfl (lx_at hl 3 rfl) ?_
            refine lx_istore_n (i := 1) hx hb dX0_first_67 rfl hl (by decide) (fun ls hl => ?_)
            refine lv_iload hx hb dX0_first_68 (lx_at hl 4 rfl) ?_
            refine lx_istore_n (i := 2) hx hb dX0_first_70 rfl hl (by decide) (fun ls hl => ?_)
            refine lx_iinc1 hx hb dX0_first_71 hl rfl (fun ls hl => ?_)
            refine lv_goto (tgt := 7) hx hb dX0_first_74 (by decide) ?_
            exact ih7 (a + 1) (_) (_) (_) (_) (_) (by omega) (by rw [kx_fl_s, kx_f1, ← hZ]; simp [kx_key, hY, kx_oI_pos h_a, c25, c57, c63]) (by rw [kx_fl_s, kx_f1, ← hZ]; simp [kx_key, ← hZ, c25, c57, c63]) hV (lx_none hl 4)
  exact loop7 81 (0) (-1) (100001) (_) (_) (_) (rfl) (rfl) (rfl) hV hl
theorem xc_first {p : Program} {l : Launch} {e : Env} {R : Room} {s : State} {m : MethodId} {args : Array Value} {below : List Frame} {meth : Method} {c : Code} {H : Heap} {locs : List Loc} {cells slots : Nat} {Q : State → Prop} {cc : ByteArray} {nL : Nat} {ret : Option FieldType} {pc : Nat} {ls : Array Slot} {rest : List Value} {D : va_G} {G : Nat → Nat} {E : Nat → ClassId} {A : Nat → Prop} {H0 : Heap} {X : cn_St}  (C : cn_C RX0 D (cn_tx E) p s m args meth c cc nL ret) (hV : cn_V D (cn_Wx G E) A H0 X H locs) (hl : ls.size = nL)  (hR : 0 + 1 ≤ R.frames ∧ 8 + (5 + 11) + 0 ≤ R.locals) (hroom : (rest.map fun v => v.category).sum ≤ 8) (hcs : cells ≤ R.cells ∧ slots ≤ R.slots) (hdg : decode cc pc = .ok (.invokevirtual 75, 3))
    (kk : ∀ (H1 : Heap) (locs1 : List Loc), cn_V D (cn_Wx G E) A H0 (X) H1 locs1 → W p l e R s m args below meth c H1 locs1 cells slots Q (F0 m (pc + 3) ls (.int (kx_oI (kx_fi X)) :: rest))) : W p l e R s m args below meth c H locs cells slots Q (F0 m pc ls (.ref (G 11) :: rest)) :=
  cn_xcalli (As := []) (xt_first l D G E X ) C hV hl ⟨q162, q164, qs14, q165⟩ (show yX0_first.cls = RX0 ∧ yX0_first.cls ≠ "java/lang/invoke/MethodHandle" ∧ yX0_first.cls ≠ "java/lang/invoke/VarHandle" ∧ (parseMethodDescriptor yX0_first.desc).map (fun d => d.parameters.length) = some 0 by decide +kernel) ⟨rfl, rfl⟩ hR rfl hroom hcs hdg kk

set_option maxHeartbeats 4000000 in
set_option maxRecDepth 100000 in
theorem xt_settle (l : Launch) (D : va_G) (G : Nat → Nat) (E : Nat → ClassId) (X : cn_St)   : cn_xMv l yX0_settle cX0_settle 3 ({ frames := 3, cells := 0, slots := 0, locals := 70 } : Room) D G E X [] (kx_se 400 X) := by
  refine cn_xofv [some (.ref (G 11)), none, none] (by decide) rfl (Nat.le_of_ble_eq_true rfl) (by intro v hv; simp only [List.mem_cons, List.not_mem_nil, or_false] at hv; rcases hv with rfl <;> rfl) rfl (Nat.le_of_ble_eq_true rfl) ?_
  intro p e s m args below meth c ls A Q H locs C hV hl hret
  obtain ⟨hx, hb, hml, hown, hts, hK, hrt, hlk⟩ := id C
  refine lv_aload_n hx hb dX0_settle_0 rfl (lx_at hl 0 rfl) ?_
  refine xc_first C hV (lx_sz hl)  ⟨by decide, by decide⟩ (Nat.le_of_ble_eq_true rfl) ⟨by decide, by decide⟩ dX0_settle_1 (fun H locs hV => ?_)
  refine lx_istore_n (i := 1) hx hb dX0_settle_4 rfl hl (by decide) (fun ls hl => ?_)
  refine lv_iconst (v := 0) hx hb dX0_settle_5 (by decide) ?_
  refine lx_istore_n (i := 2) hx hb dX0_settle_6 rfl hl (by decide) (fun ls hl => ?_)
  have loop7 : ∀ (n : Nat) (r : Nat) (Y : cn_St) (H : Heap) (locs : List Loc) (ls : Array Slot), r + n = 400 → kx_se n Y = kx_se 400 X → cn_V D (cn_Wx G E) A s.heap (Y) H locs → cn_lx ls 3 [some (.ref (G 11)), some (.int (kx_oI (kx_fi Y))), some (.int (nI r))] → W p l e ({ frames := 3, cells := 0, slots := 0, locals := 70 } : Room) s m args below meth c H locs 0 0 Q (F0 m 7 ls []) := by
    intro n
    induction n with
    | zero =>
      intro r Y H locs ls hn hY hV hl
      obtain rfl : r = 400 := by omega
      refine lv_iload_n hx hb dX0_settle_7 rfl (lx_at hl 2 rfl) ?_
      refine lv_sipush (v := 400) hx hb dX0_settle_8 (by decide) ?_
      refine lv_icmp_ge (tgt := 77) hx hb dX0_settle_11 (by decide) (fun c11 => ?_) (fun c11 => absurd (by decide) c11)
      exact hret _ _ _ _ _ (by first | exact hY | (rw [← hY]; exact (kx_se_f hf).symm)) hV dX0_settle_77
    | succ n ih7 =>
      intro r Y H locs ls hn hY hV hl
      have h_r : r < 400 := by omega
      refine lv_iload_n hx hb dX0_settle_7 rfl (lx_at hl 2 rfl) ?_
      refine lv_sipush (v := 400) hx hb dX0_settle_8 (by decide) ?_
      refine lv_icmp_ge (tgt := 77) hx hb dX0_settle_11 (by decide) (fun c11 => absurd c11 (nI_ge (b := 400) h_r (by decide))) (fun c11 => ?_)
      by_cases hf : kx_fi Y < 81
      · rw [kx_oI_pos hf] at hl
        refine lv_iload_n hx hb dX0_settle_14 rfl (lx_at hl 1 rfl) ?_
        refine lv_if_lt (tgt := 77) hx hb dX0_settle_15 (by decide) (fun c15 => absurd c15 (nI_pos (by omega))) (fun c15 => ?_)
        refine lv_aload_n hx hb dX0_settle_18 rfl (lx_at hl 0 rfl) ?_
        refine xg_9 C hV dX0_settle_19 ?_
        refine lv_iload_n hx hb dX0_settle_22 rfl (lx_at hl 1 rfl) ?_
        refine xl_9 C hV (by assumption) dX0_settle_23 ?_
        refine lv_aload_n hx hb dX0_settle_24 rfl (lx_at hl 0 rfl) ?_
        refine xg_10 C hV dX0_settle_25 ?_
        refine lv_iload_n hx hb dX0_settle_28 rfl (lx_at hl 1 rfl) ?_
        refine xl_10 C hV (by assumption) dX0_settle_29 ?_
        refine lv_icmp_le (tgt := 48) hx hb dX0_settle_30 (by decide) (fun c30 => ?_) (fun c30 => ?_)
        · refine lv_aload_n hx hb dX0_settle_48 rfl (lx_at hl 0 rfl) ?_
          refine xg_9 C hV dX0_settle_49 ?_
          refine lv_iload_n hx hb dX0_settle_52 rfl (lx_at hl 1 rfl) ?_
          refine lv_ldc (v := 100000) hx hb hown (hts _ q33) dX0_settle_53 ?_
          refine xs_9 C hV (by assumption) dX0_settle_55 (fun H locs hV => ?_)
          refine lv_aload_n hx hb dX0_settle_56 rfl (lx_at hl 0 rfl) ?_
          refine lv_iload_n hx hb dX0_settle_57 rfl (lx_at hl 1 rfl) ?_
          refine xc_ask C hV (lx_sz hl) (by assumption) ⟨by decide, by decide⟩ (Nat.le_of_ble_eq_true rfl) ⟨by decide, by decide⟩ dX0_settle_58 (fun H locs hV => ?_)
          refine lv_aload_n hx hb dX0_settle_61 rfl (lx_at hl 0 rfl) ?_
          refine lv_iload_n hx hb dX0_settle_62 rfl (lx_at hl 1 rfl) ?_
          refine xc_askAround C hV (lx_sz hl) (by assumption) ⟨by decide, by decide⟩ (Nat.le_of_ble_eq_true rfl) ⟨by decide, by decide⟩ dX0_settle_63 (fun H locs hV => ?_)
          refine lv_aload_n hx hb dX0_settle_66 rfl (lx_at hl 0 rfl) ?_
          refine xc_first C hV (lx_sz hl)  ⟨by decide, by decide⟩ (Nat.le_of_ble_eq_true rfl) ⟨by decide, by decide⟩ dX0_settle_67 (fun H locs hV => ?_)
          refine lx_istore_n (i := 1) hx hb dX0_settle_70 rfl hl (by decide) (fun ls hl => ?_)
          refine lx_iinc1 hx hb dX0_settle_71 hl rfl (fun ls hl => ?_)
          refine lv_goto (tgt := 7) hx hb dX0_settle_74 (by decide) ?_
          exact ih7 (r + 1) (_) (_) (_) (_) (by omega) (by rw [← hY, kx_se_t hf]; simp [kx_e1, c30]) hV hl
        · refine lv_aload_n hx hb dX0_settle_33 rfl (lx_at hl 0 rfl) ?_
          refine xg_9 C hV dX0_settle_34 ?_
          refine lv_iload_n hx hb dX0_settle_37 rfl (lx_at hl 1 rfl) ?_
          refine lv_aload_n hx hb dX0_settle_38 rfl (lx_at hl 0 rfl) ?_
          refine xg_10 C hV dX0_settle_39 ?_
          refine lv_iload_n hx hb dX0_settle_42 rfl (lx_at hl 1 rfl) ?_
          refine xl_10 C hV (by assumption) dX0_settle_43 ?_
          refine xs_9 C hV (by assumption) dX0_settle_44 (fun H locs hV => ?_)
          refine lv_goto (tgt := 61) hx hb dX0_settle_45 (by decide) ?_
          refine lv_aload_n hx hb dX0_settle_61 rfl (lx_at hl 0 rfl) ?_
          refine lv_iload_n hx hb dX0_settle_62 rfl (lx_at hl 1 rfl) ?_
          refine xc_askAround C hV (lx_sz hl) (by assumption) ⟨by decide, by decide⟩ (Nat.le_of_ble_eq_true rfl) ⟨by decide, by decide⟩ dX0_settle_63 (fun H locs hV => ?_)
          refine lv_aload_n hx hb dX0_settle_66 rfl (lx_at hl 0 rfl) ?_
          refine xc_first C hV (lx_sz hl)  ⟨by decide, by decide⟩ (Nat.le_of_ble_eq_true rfl) ⟨by decide, by decide⟩ dX0_settle_67 (fun H locs hV => ?_)
          refine lx_istore_n (i := 1) hx hb dX0_settle_70 rfl hl (by decide) (fun ls hl => ?_)
          refine lx_iinc1 hx hb dX0_settle_71 hl rfl (fun ls hl => ?_)
          refine lv_goto (tgt := 7) hx hb dX0_settle_74 (by decide) ?_
          exact ih7 (r + 1) (_) (_) (_) (_) (by omega) (by rw [← hY, kx_se_t hf]; simp [kx_e1, c30]) hV hl
      · rw [kx_oI_neg hf] at hl
        refine lv_iload_n hx hb dX0_settle_14 rfl (lx_at hl 1 rfl) ?_
        refine lv_if_lt (tgt := 77) hx hb dX0_settle_15 (by decide) (fun c15 => ?_) (fun c15 => absurd (by decide) c15)
        exact hret _ _ _ _ _ (by first | exact hY | (rw [← hY]; exact (kx_se_f hf).symm)) hV dX0_settle_77
  exact loop7 400 (0) (X) (_) (_) (_) (rfl) (rfl) hV hl
theorem xc_settle {p : Program} {l : Launch} {e : Env} {R : Room} {s : State} {m : MethodId} {args : Array Value} {below : List Frame} {meth : Method} {c : Code} {H : Heap} {locs : List Loc} {cells slots : Nat} {Q : State → Prop} {cc : ByteArray} {nL : Nat} {ret : Option FieldType} {pc : Nat} {ls : Array Slot} {rest : List Value} {D : va_G} {G : Nat → Nat} {E : Nat → ClassId} {A : Nat → Prop} {H0 : Heap} {X : cn_St}  (C : cn_C RX0 D (cn_tx E) p s m args meth c cc nL ret) (hV : cn_V D (cn_Wx G E) A H0 X H locs) (hl : ls.size = nL)  (hR : 3 + 1 ≤ R.frames ∧ 8 + (3 + 11) + 70 ≤ R.locals) (hroom : (rest.map fun v => v.category).sum ≤ 8) (hcs : cells ≤ R.cells ∧ slots ≤ R.slots) (hdg : decode cc pc = .ok (.invokevirtual 96, 3))
    (kk : ∀ (H1 : Heap) (locs1 : List Loc), cn_V D (cn_Wx G E) A H0 (kx_se 400 X) H1 locs1 → W p l e R s m args below meth c H1 locs1 cells slots Q (F0 m (pc + 3) ls rest)) : W p l e R s m args below meth c H locs cells slots Q (F0 m pc ls (.ref (G 11) :: rest)) :=
  cn_xcallv (As := []) (xt_settle l D G E X ) C hV hl ⟨q158, q160, qs13, q161⟩ (show yX0_settle.cls = RX0 ∧ yX0_settle.cls ≠ "java/lang/invoke/MethodHandle" ∧ yX0_settle.cls ≠ "java/lang/invoke/VarHandle" ∧ (parseMethodDescriptor yX0_settle.desc).map (fun d => d.parameters.length) = some 0 by decide +kernel) ⟨rfl, rfl⟩ hR rfl hroom hcs hdg kk
end
section
set_option maxRecDepth 100000
set_option maxHeartbeats 4000000 in
set_option maxRecDepth 100000 in
theorem xt_put (l : Launch) (D : va_G) (G : Nat → Nat) (E : Nat → ClassId) (X : cn_St) (a : Nat) (on : Int32) (ha : a < 81) (ho : on = 0 ∨ on = 1) : cn_xMi l yX0_put cX0_put 3 (some .int) ({ frames := 4, cells := 0, slots := 0, locals := 92 } : Room) D G E X [.int (nI a), .int (on)] ((kx_put a on X).1) ((kx_put a on X).2) := by
  refine cn_xofi (ty := .int) rfl (vp_nar_int _) [some (.ref (G 11)), some (.int (nI a)), some (.int (on))] (by decide) rfl (Nat.le_of_ble_eq_true rfl) (by intro v hv; simp only [List.mem_cons, List.not_mem_nil, or_false] at hv; rcases hv with rfl | rfl | rfl <;> rfl) rfl (Nat.le_of_ble_eq_true rfl) ?_
  intro p e s m args below meth c ls A Q H locs C hV hl hret
  obtain ⟨hx, hb, hml, hown, hts, hK, hrt, hlk⟩ := id C
  refine lv_aload_n hx hb dX0_put_0 rfl (lx_at hl 0 rfl) ?_
  refine xg_0 C hV dX0_put_1 ?_
  refine lv_iload_n hx hb dX0_put_4 rfl (lx_at hl 1 rfl) ?_
  refine xl_0 C hV (by assumption) dX0_put_5 ?_
  refine lv_iload_n hx hb dX0_put_6 rfl (lx_at hl 2 rfl) ?_
  refine lv_icmp_ne (tgt := 12) hx hb dX0_put_7 (by decide) (fun c7 => ?_) (fun c7 => ?_)
  · refine lv_aload_n hx hb dX0_put_12 rfl (lx_at hl 0 rfl) ?_
    refine lv_iload_n hx hb dX0_put_13 rfl (lx_at hl 1 rfl) ?_
    refine lv_iload_n hx hb dX0_put_14 rfl (lx_at hl 2 rfl) ?_
    refine xc_change C hV (lx_sz hl) (by assumption) (by assumption) ⟨by decide, by decide⟩ (Nat.le_of_ble_eq_true rfl) ⟨by decide, by decide⟩ dX0_put_15 (fun H locs hV => ?_)
    refine lv_iconst (v := 1) hx hb dX0_put_18 (by decide) ?_
    exact hret _ _ _ _ _ _ (by simp [kx_put, c7]) (by simp [kx_put, c7]) hV dX0_put_19
  · refine lv_iconst (v := 0) hx hb dX0_put_10 (by decide) ?_
    exact hret _ _ _ _ _ _ (by simp [kx_put, c7]) (by simp [kx_put, c7]) hV dX0_put_11
theorem xc_put {p : Program} {l : Launch} {e : Env} {R : Room} {s : State} {m : MethodId} {args : Array Value} {below : List Frame} {meth : Method} {c : Code} {H : Heap} {locs : List Loc} {cells slots : Nat} {Q : State → Prop} {cc : ByteArray} {nL : Nat} {ret : Option FieldType} {pc : Nat} {ls : Array Slot} {rest : List Value} {D : va_G} {G : Nat → Nat} {E : Nat → ClassId} {A : Nat → Prop} {H0 : Heap} {X : cn_St} {a : Nat} {on : Int32} (C : cn_C RX0 D (cn_tx E) p s m args meth c cc nL ret) (hV : cn_V D (cn_Wx G E) A H0 X H locs) (hl : ls.size = nL) (ha : a < 81) (ho : on = 0 ∨ on = 1) (hR : 4 + 1 ≤ R.frames ∧ 8 + (3 + 11) + 92 ≤ R.locals) (hroom : (rest.map fun v => v.category).sum ≤ 8) (hcs : cells ≤ R.cells ∧ slots ≤ R.slots) (hdg : decode cc pc = .ok (.invokevirtual 86, 3))
    (kk : ∀ (H1 : Heap) (locs1 : List Loc), cn_V D (cn_Wx G E) A H0 ((kx_put a on X).2) H1 locs1 → W p l e R s m args below meth c H1 locs1 cells slots Q (F0 m (pc + 3) ls (.int ((kx_put a on X).1) :: rest))) : W p l e R s m args below meth c H locs cells slots Q (F0 m pc ls (.int (on) :: .int (nI a) :: .ref (G 11) :: rest)) :=
  cn_xcalli (As := [.int (nI a), .int (on)]) (xt_put l D G E X a on ha ho) C hV hl ⟨q78, q80, qs1, q81⟩ (show yX0_put.cls = RX0 ∧ yX0_put.cls ≠ "java/lang/invoke/MethodHandle" ∧ yX0_put.cls ≠ "java/lang/invoke/VarHandle" ∧ (parseMethodDescriptor yX0_put.desc).map (fun d => d.parameters.length) = some 2 by decide +kernel) ⟨rfl, rfl⟩ hR rfl hroom hcs hdg kk

set_option maxHeartbeats 4000000 in
set_option maxRecDepth 100000 in
theorem xt_block (l : Launch) (D : va_G) (G : Nat → Nat) (E : Nat → ClassId) (X : cn_St) (c0 on : Int32)  : cn_xMi l yX0_block cX0_block 4 (some .int) ({ frames := 5, cells := 0, slots := 0, locals := 114 } : Room) D G E X [.int (c0), .int (on)] ((kx_blk c0 on X).1) ((kx_blk c0 on X).2) := by
  refine cn_xofi (ty := .int) rfl (vp_nar_int _) [some (.ref (G 11)), some (.int (c0)), some (.int (on)), none] (by decide) rfl (Nat.le_of_ble_eq_true rfl) (by intro v hv; simp only [List.mem_cons, List.not_mem_nil, or_false] at hv; rcases hv with rfl | rfl | rfl <;> rfl) rfl (Nat.le_of_ble_eq_true rfl) ?_
  intro p e s m args below meth c ls A Q H locs C hV hl hret
  obtain ⟨hx, hb, hml, hown, hts, hK, hrt, hlk⟩ := id C
  refine lv_aload_n hx hb dX0_block_0 rfl (lx_at hl 0 rfl) ?_
  refine lv_iload_n hx hb dX0_block_1 rfl (lx_at hl 1 rfl) ?_
  refine xc_bad C hV (lx_sz hl)  ⟨by decide, by decide⟩ (Nat.le_of_ble_eq_true rfl) ⟨by decide, by decide⟩ dX0_block_2 (fun H locs hV => ?_)
  refine lv_if_eq (tgt := 10) hx hb dX0_block_5 (by decide) (fun c5 => ?_) (fun c5 => ?_)
  · obtain ⟨a, ha, rfl⟩ := kx_bad_0 c5
    have hq : (nI a).toNatClampNeg = a := nI_clamp (by omega)
    refine lv_aload_n hx hb dX0_block_10 rfl (lx_at hl 0 rfl) ?_
    refine xg_0 C hV dX0_block_11 ?_
    refine lv_iload_n hx hb dX0_block_14 rfl (lx_at hl 1 rfl) ?_
    refine xl_0 C hV (by assumption) dX0_block_15 ?_
    refine lv_if_eq (tgt := 23) hx hb dX0_block_16 (by decide) (fun c16 => ?_) (fun c16 => ?_)
    · refine lv_iconst (v := 0) hx hb dX0_block_23 (by decide) ?_
      refine lx_istore_n (i := 3) hx hb dX0_block_24 rfl hl (by decide) (fun ls hl => ?_)
      refine lv_aload_n hx hb dX0_block_25 rfl (lx_at hl 0 rfl) ?_
      refine lv_iload_n hx hb dX0_block_26 rfl (lx_at hl 1 rfl) ?_
      refine lv_iload_n hx hb dX0_block_27 rfl (lx_at hl 2 rfl) ?_
      refine lv_if_eq (tgt := 35) hx hb dX0_block_28 (by decide) (fun c28 => ?_) (fun c28 => ?_)
      · refine lv_iconst (v := 0) hx hb dX0_block_35 (by decide) ?_
        refine xc_put C hV (lx_sz hl) (by assumption) (by first | exact Or.inl rfl | exact Or.inr rfl) ⟨by decide, by decide⟩ (Nat.le_of_ble_eq_true rfl) ⟨by decide, by decide⟩ dX0_block_36 (fun H locs hV => ?_)
        refine lv_pop hx hb dX0_block_39 rfl ?_
        refine lv_aload_n hx hb dX0_block_40 rfl (lx_at hl 0 rfl) ?_
        refine xc_recost C hV (lx_sz hl)  ⟨by decide, by decide⟩ (Nat.le_of_ble_eq_true rfl) ⟨by decide, by decide⟩ dX0_block_41 (fun H locs hV => ?_)
        refine lv_iload_n hx hb dX0_block_44 rfl (lx_at hl 3 rfl) ?_
        exact hret _ _ _ _ _ _ (by simp [kx_blk, c5, c16, c28, hq]) (by simp [kx_blk, c5, c16, c28, hq]) hV dX0_block_45
      · refine lv_iconst (v := 1) hx hb dX0_block_31 (by decide) ?_
        refine lv_goto (tgt := 36) hx hb dX0_block_32 (by decide) ?_
        refine xc_put C hV (lx_sz hl) (by assumption) (by first | exact Or.inl rfl | exact Or.inr rfl) ⟨by decide, by decide⟩ (Nat.le_of_ble_eq_true rfl) ⟨by decide, by decide⟩ dX0_block_36 (fun H locs hV => ?_)
        refine lv_pop hx hb dX0_block_39 rfl ?_
        refine lv_aload_n hx hb dX0_block_40 rfl (lx_at hl 0 rfl) ?_
        refine xc_recost C hV (lx_sz hl)  ⟨by decide, by decide⟩ (Nat.le_of_ble_eq_true rfl) ⟨by decide, by decide⟩ dX0_block_41 (fun H locs hV => ?_)
        refine lv_iload_n hx hb dX0_block_44 rfl (lx_at hl 3 rfl) ?_
        exact hret _ _ _ _ _ _ (by simp [kx_blk, c5, c16, c28, hq]) (by simp [kx_blk, c5, c16, c28, hq]) hV dX0_block_45
    · refine lv_iconst (v := 1) hx hb dX0_block_19 (by decide) ?_
      refine lv_goto (tgt := 24) hx hb dX0_block_20 (by decide) ?_
      refine lx_istore_n (i := 3) hx hb dX0_block_24 rfl hl (by decide) (fun ls hl => ?_)
      refine lv_aload_n hx hb dX0_block_25 rfl (lx_at hl 0 rfl) ?_
      refine lv_iload_n hx hb dX0_block_26 rfl (lx_at hl 1 rfl) ?_
      refine lv_iload_n hx hb dX0_block_27 rfl (lx_at hl 2 rfl) ?_
      refine lv_if_eq (tgt := 35) hx hb dX0_block_28 (by decide) (fun c28 => ?_) (fun c28 => ?_)
      · refine lv_iconst (v := 0) hx hb dX0_block_35 (by decide) ?_
        refine xc_put C hV (lx_sz hl) (by assumption) (by first | exact Or.inl rfl | exact Or.inr rfl) ⟨by decide, by decide⟩ (Nat.le_of_ble_eq_true rfl) ⟨by decide, by decide⟩ dX0_block_36 (fun H locs hV => ?_)
        refine lv_pop hx hb dX0_block_39 rfl ?_
        refine lv_aload_n hx hb dX0_block_40 rfl (lx_at hl 0 rfl) ?_
        refine xc_recost C hV (lx_sz hl)  ⟨by decide, by decide⟩ (Nat.le_of_ble_eq_true rfl) ⟨by decide, by decide⟩ dX0_block_41 (fun H locs hV => ?_)
        refine lv_iload_n hx hb dX0_block_44 rfl (lx_at hl 3 rfl) ?_
        exact hret _ _ _ _ _ _ (by simp [kx_blk, c5, c16, c28, hq]) (by simp [kx_blk, c5, c16, c28, hq]) hV dX0_block_45
      · refine lv_iconst (v := 1) hx hb dX0_block_31 (by decide) ?_
        refine lv_goto (tgt := 36) hx hb dX0_block_32 (by decide) ?_
        refine xc_put C hV (lx_sz hl) (by assumption) (by first | exact Or.inl rfl | exact Or.inr rfl) ⟨by decide, by decide⟩ (Nat.le_of_ble_eq_true rfl) ⟨by decide, by decide⟩ dX0_block_36 (fun H locs hV => ?_)
        refine lv_pop hx hb dX0_block_39 rfl ?_
        refine lv_aload_n hx hb dX0_block_40 rfl (lx_at hl 0 rfl) ?_
        refine xc_recost C hV (lx_sz hl)  ⟨by decide, by decide⟩ (Nat.le_of_ble_eq_true rfl) ⟨by decide, by decide⟩ dX0_block_41 (fun H locs hV => ?_)
        refine lv_iload_n hx hb dX0_block_44 rfl (lx_at hl 3 rfl) ?_
        exact hret _ _ _ _ _ _ (by simp [kx_blk, c5, c16, c28, hq]) (by simp [kx_blk, c5, c16, c28, hq]) hV dX0_block_45
  · refine lv_iconst (v := (-1)) hx hb dX0_block_8 (by decide) ?_
    exact hret _ _ _ _ _ _ (by simp [kx_blk, c5]) (by simp [kx_blk, c5]) hV dX0_block_9

set_option maxHeartbeats 4000000 in
set_option maxRecDepth 100000 in
theorem xt_tune (l : Launch) (D : va_G) (G : Nat → Nat) (E : Nat → ClassId) (X : cn_St) (c0 g0 : Int32)  : cn_xMi l yX0_tune cX0_tune 3 (some .int) ({ frames := 4, cells := 0, slots := 0, locals := 92 } : Room) D G E X [.int (c0), .int (g0)] ((kx_tune c0 g0 X).1) ((kx_tune c0 g0 X).2) := by
  refine cn_xofi (ty := .int) rfl (vp_nar_int _) [some (.ref (G 11)), some (.int (c0)), some (.int (g0))] (by decide) rfl (Nat.le_of_ble_eq_true rfl) (by intro v hv; simp only [List.mem_cons, List.not_mem_nil, or_false] at hv; rcases hv with rfl | rfl | rfl <;> rfl) rfl (Nat.le_of_ble_eq_true rfl) ?_
  intro p e s m args below meth c ls A Q H locs C hV hl hret
  obtain ⟨hx, hb, hml, hown, hts, hK, hrt, hlk⟩ := id C
  refine lv_iload_n hx hb dX0_tune_0 rfl (lx_at hl 1 rfl) ?_
  refine lv_if_lt (tgt := 19) hx hb dX0_tune_1 (by decide) (fun c1 => ?_) (fun c1 => ?_)
  · refine lv_iconst (v := (-1)) hx hb dX0_tune_19 (by decide) ?_
    exact hret _ _ _ _ _ _ (by simp [kx_tune, c1]) (by simp [kx_tune, c1]) hV dX0_tune_20
  · refine lv_iload_n hx hb dX0_tune_4 rfl (lx_at hl 1 rfl) ?_
    refine lv_iconst (v := 3) hx hb dX0_tune_5 (by decide) ?_
    refine lv_icmp_gt (tgt := 19) hx hb dX0_tune_6 (by decide) (fun c6 => ?_) (fun c6 => ?_)
    · refine lv_iconst (v := (-1)) hx hb dX0_tune_19 (by decide) ?_
      exact hret _ _ _ _ _ _ (by simp [kx_tune, c1, c6]) (by simp [kx_tune, c1, c6]) hV dX0_tune_20
    · refine lv_iload_n hx hb dX0_tune_9 rfl (lx_at hl 2 rfl) ?_
      refine lv_if_lt (tgt := 19) hx hb dX0_tune_10 (by decide) (fun c10 => ?_) (fun c10 => ?_)
      · refine lv_iconst (v := (-1)) hx hb dX0_tune_19 (by decide) ?_
        exact hret _ _ _ _ _ _ (by simp [kx_tune, c1, c6, c10]) (by simp [kx_tune, c1, c6, c10]) hV dX0_tune_20
      · refine lv_iload_n hx hb dX0_tune_13 rfl (lx_at hl 2 rfl) ?_
        refine lv_bipush (v := 9) hx hb dX0_tune_14 (by decide) ?_
        refine lv_icmp_le (tgt := 21) hx hb dX0_tune_16 (by decide) (fun c16 => ?_) (fun c16 => ?_)
        · refine lv_aload_n hx hb dX0_tune_21 rfl (lx_at hl 0 rfl) ?_
          refine lv_iload_n hx hb dX0_tune_22 rfl (lx_at hl 1 rfl) ?_
          refine xp_1 C hV dX0_tune_23 (fun H locs hV => ?_)
          refine lv_aload_n hx hb dX0_tune_26 rfl (lx_at hl 0 rfl) ?_
          refine lv_iload_n hx hb dX0_tune_27 rfl (lx_at hl 2 rfl) ?_
          refine xp_2 C hV dX0_tune_28 (fun H locs hV => ?_)
          refine lv_aload_n hx hb dX0_tune_31 rfl (lx_at hl 0 rfl) ?_
          refine xc_recost C hV (lx_sz hl)  ⟨by decide, by decide⟩ (Nat.le_of_ble_eq_true rfl) ⟨by decide, by decide⟩ dX0_tune_32 (fun H locs hV => ?_)
          refine lv_iconst (v := 0) hx hb dX0_tune_35 (by decide) ?_
          exact hret _ _ _ _ _ _ (by simp [kx_tune, c1, c6, c10, c16]) (by simp [kx_tune, c1, c6, c10, c16]) hV dX0_tune_36
        · refine lv_iconst (v := (-1)) hx hb dX0_tune_19 (by decide) ?_
          exact hret _ _ _ _ _ _ (by simp [kx_tune, c1, c6, c10, c16]) (by simp [kx_tune, c1, c6, c10, c16]) hV dX0_tune_20

set_option maxHeartbeats 4000000 in
set_option maxRecDepth 100000 in
theorem xt_place (l : Launch) (D : va_G) (G : Nat → Nat) (E : Nat → ClassId) (X : cn_St) (c0 : Int32)  : cn_xMi l yX0_place cX0_place 3 (some .int) ({ frames := 1, cells := 0, slots := 0, locals := 21 } : Room) D G E X [.int (c0)] ((kx_plc c0 X).1) ((kx_plc c0 X).2) := by
  refine cn_xofi (ty := .int) rfl (vp_nar_int _) [some (.ref (G 11)), some (.int (c0)), none] (by decide) rfl (Nat.le_of_ble_eq_true rfl) (by intro v hv; simp only [List.mem_cons, List.not_mem_nil, or_false] at hv; rcases hv with rfl | rfl <;> rfl) rfl (Nat.le_of_ble_eq_true rfl) ?_
  intro p e s m args below meth c ls A Q H locs C hV hl hret
  obtain ⟨hx, hb, hml, hown, hts, hK, hrt, hlk⟩ := id C
  refine lv_aload_n hx hb dX0_place_0 rfl (lx_at hl 0 rfl) ?_
  refine lv_iload_n hx hb dX0_place_1 rfl (lx_at hl 1 rfl) ?_
  refine xc_bad C hV (lx_sz hl)  ⟨by decide, by decide⟩ (Nat.le_of_ble_eq_true rfl) ⟨by decide, by decide⟩ dX0_place_2 (fun H locs hV => ?_)
  refine lv_if_eq (tgt := 10) hx hb dX0_place_5 (by decide) (fun c5 => ?_) (fun c5 => ?_)
  · refine lv_aload_n hx hb dX0_place_10 rfl (lx_at hl 0 rfl) ?_
    refine xg_3 C hV dX0_place_11 ?_
    refine lx_istore_n (i := 2) hx hb dX0_place_14 rfl hl (by decide) (fun ls hl => ?_)
    refine lv_aload_n hx hb dX0_place_15 rfl (lx_at hl 0 rfl) ?_
    refine lv_iload_n hx hb dX0_place_16 rfl (lx_at hl 1 rfl) ?_
    refine xp_3 C hV dX0_place_17 (fun H locs hV => ?_)
    refine lv_iload_n hx hb dX0_place_20 rfl (lx_at hl 2 rfl) ?_
    exact hret _ _ _ _ _ _ (by simp [kx_plc, c5]) (by simp [kx_plc, c5]) hV dX0_place_21
  · refine lv_iconst (v := (-1)) hx hb dX0_place_8 (by decide) ?_
    exact hret _ _ _ _ _ _ (by simp [kx_plc, c5]) (by simp [kx_plc, c5]) hV dX0_place_9

set_option maxHeartbeats 4000000 in
set_option maxRecDepth 100000 in
theorem xt_goal (l : Launch) (D : va_G) (G : Nat → Nat) (E : Nat → ClassId) (X : cn_St) (c0 : Int32) (g : Nat) (hg : g < 81) (hg0 : X 4 0 = nI g) : cn_xMi l yX0_goal cX0_goal 3 (some .int) ({ frames := 2, cells := 0, slots := 0, locals := 47 } : Room) D G E X [.int (c0)] ((kx_goal c0 g X).1) ((kx_goal c0 g X).2) := by
  refine cn_xofi (ty := .int) rfl (vp_nar_int _) [some (.ref (G 11)), some (.int (c0)), none] (by decide) rfl (Nat.le_of_ble_eq_true rfl) (by intro v hv; simp only [List.mem_cons, List.not_mem_nil, or_false] at hv; rcases hv with rfl | rfl <;> rfl) rfl (Nat.le_of_ble_eq_true rfl) ?_
  intro p e s m args below meth c ls A Q H locs C hV hl hret
  obtain ⟨hx, hb, hml, hown, hts, hK, hrt, hlk⟩ := id C
  refine lv_aload_n hx hb dX0_goal_0 rfl (lx_at hl 0 rfl) ?_
  refine lv_iload_n hx hb dX0_goal_1 rfl (lx_at hl 1 rfl) ?_
  refine xc_bad C hV (lx_sz hl)  ⟨by decide, by decide⟩ (Nat.le_of_ble_eq_true rfl) ⟨by decide, by decide⟩ dX0_goal_2 (fun H locs hV => ?_)
  refine lv_if_eq (tgt := 10) hx hb dX0_goal_5 (by decide) (fun c5 => ?_) (fun c5 => ?_)
  · obtain ⟨a, ha, rfl⟩ := kx_bad_0 c5
    have hq : (nI a).toNatClampNeg = a := nI_clamp (by omega)
    refine lv_aload_n hx hb dX0_goal_10 rfl (lx_at hl 0 rfl) ?_
    refine xg_4 C hV dX0_goal_11 ?_
    rw [hg0]
    refine lx_istore_n (i := 2) hx hb dX0_goal_14 rfl hl (by decide) (fun ls hl => ?_)
    refine lv_aload_n hx hb dX0_goal_15 rfl (lx_at hl 0 rfl) ?_
    refine lv_iload_n hx hb dX0_goal_16 rfl (lx_at hl 1 rfl) ?_
    refine xp_4 C hV dX0_goal_17 (fun H locs hV => ?_)
    refine lv_aload_n hx hb dX0_goal_20 rfl (lx_at hl 0 rfl) ?_
    refine lv_iload_n hx hb dX0_goal_21 rfl (lx_at hl 2 rfl) ?_
    refine xc_ask C hV (lx_sz hl) (by assumption) ⟨by decide, by decide⟩ (Nat.le_of_ble_eq_true rfl) ⟨by decide, by decide⟩ dX0_goal_22 (fun H locs hV => ?_)
    refine lv_aload_n hx hb dX0_goal_25 rfl (lx_at hl 0 rfl) ?_
    refine lv_iload_n hx hb dX0_goal_26 rfl (lx_at hl 1 rfl) ?_
    refine xc_ask C hV (lx_sz hl) (by assumption) ⟨by decide, by decide⟩ (Nat.le_of_ble_eq_true rfl) ⟨by decide, by decide⟩ dX0_goal_27 (fun H locs hV => ?_)
    refine lv_iload_n hx hb dX0_goal_30 rfl (lx_at hl 2 rfl) ?_
    exact hret _ _ _ _ _ _ (by simp [kx_goal, c5, hq]) (by simp [kx_goal, c5, hq]) hV dX0_goal_31
  · refine lv_iconst (v := (-1)) hx hb dX0_goal_8 (by decide) ?_
    exact hret _ _ _ _ _ _ (by simp [kx_goal, c5]) (by simp [kx_goal, c5]) hV dX0_goal_9

set_option maxHeartbeats 4000000 in
set_option maxRecDepth 100000 in
theorem xt_blocked (l : Launch) (D : va_G) (G : Nat → Nat) (E : Nat → ClassId) (X : cn_St) (c0 : Int32)  : cn_xMi l yX0_blocked cX0_blocked 2 (some .boolean) ({ frames := 1, cells := 0, slots := 0, locals := 21 } : Room) D G E X [.int (c0)] (kx_bld c0 X) (X) := by
  refine cn_xofi (ty := .boolean) rfl (by unfold kx_bld; split; split <;> rfl; rfl) [some (.ref (G 11)), some (.int (c0))] (by decide) rfl (Nat.le_of_ble_eq_true rfl) (by intro v hv; simp only [List.mem_cons, List.not_mem_nil, or_false] at hv; rcases hv with rfl | rfl <;> rfl) rfl (Nat.le_of_ble_eq_true rfl) ?_
  intro p e s m args below meth c ls A Q H locs C hV hl hret
  obtain ⟨hx, hb, hml, hown, hts, hK, hrt, hlk⟩ := id C
  refine lv_aload_n hx hb dX0_blocked_0 rfl (lx_at hl 0 rfl) ?_
  refine lv_iload_n hx hb dX0_blocked_1 rfl (lx_at hl 1 rfl) ?_
  refine xc_bad C hV (lx_sz hl)  ⟨by decide, by decide⟩ (Nat.le_of_ble_eq_true rfl) ⟨by decide, by decide⟩ dX0_blocked_2 (fun H locs hV => ?_)
  refine lv_if_ne (tgt := 21) hx hb dX0_blocked_5 (by decide) (fun c5 => ?_) (fun c5 => ?_)
  · refine lv_iconst (v := 0) hx hb dX0_blocked_21 (by decide) ?_
    exact hret _ _ _ _ _ _ (by simp [kx_bld, c5]) (rfl) hV dX0_blocked_22
  · obtain ⟨a, ha, rfl⟩ := kx_bad_0 c5
    have hq : (nI a).toNatClampNeg = a := nI_clamp (by omega)
    refine lv_aload_n hx hb dX0_blocked_8 rfl (lx_at hl 0 rfl) ?_
    refine xg_0 C hV dX0_blocked_9 ?_
    refine lv_iload_n hx hb dX0_blocked_12 rfl (lx_at hl 1 rfl) ?_
    refine xl_0 C hV (by assumption) dX0_blocked_13 ?_
    refine lv_if_eq (tgt := 21) hx hb dX0_blocked_14 (by decide) (fun c14 => ?_) (fun c14 => ?_)
    · refine lv_iconst (v := 0) hx hb dX0_blocked_21 (by decide) ?_
      exact hret _ _ _ _ _ _ (by simp [kx_bld, c5, c14, hq]) (rfl) hV dX0_blocked_22
    · refine lv_iconst (v := 1) hx hb dX0_blocked_17 (by decide) ?_
      refine lv_goto (tgt := 22) hx hb dX0_blocked_18 (by decide) ?_
      exact hret _ _ _ _ _ _ (by simp [kx_bld, c5, c14, hq]) (rfl) hV dX0_blocked_22

set_option maxHeartbeats 4000000 in
set_option maxRecDepth 100000 in
theorem xt_clearance (l : Launch) (D : va_G) (G : Nat → Nat) (E : Nat → ClassId) (X : cn_St) (c0 : Int32)  : cn_xMi l yX0_clearance cX0_clearance 2 (some .int) ({ frames := 1, cells := 0, slots := 0, locals := 21 } : Room) D G E X [.int (c0)] (kx_clr c0 X) (X) := by
  refine cn_xofi (ty := .int) rfl (vp_nar_int _) [some (.ref (G 11)), some (.int (c0))] (by decide) rfl (Nat.le_of_ble_eq_true rfl) (by intro v hv; simp only [List.mem_cons, List.not_mem_nil, or_false] at hv; rcases hv with rfl | rfl <;> rfl) rfl (Nat.le_of_ble_eq_true rfl) ?_
  intro p e s m args below meth c ls A Q H locs C hV hl hret
  obtain ⟨hx, hb, hml, hown, hts, hK, hrt, hlk⟩ := id C
  refine lv_aload_n hx hb dX0_clearance_0 rfl (lx_at hl 0 rfl) ?_
  refine lv_iload_n hx hb dX0_clearance_1 rfl (lx_at hl 1 rfl) ?_
  refine xc_bad C hV (lx_sz hl)  ⟨by decide, by decide⟩ (Nat.le_of_ble_eq_true rfl) ⟨by decide, by decide⟩ dX0_clearance_2 (fun H locs hV => ?_)
  refine lv_if_eq (tgt := 12) hx hb dX0_clearance_5 (by decide) (fun c5 => ?_) (fun c5 => ?_)
  · obtain ⟨a, ha, rfl⟩ := kx_bad_0 c5
    have hq : (nI a).toNatClampNeg = a := nI_clamp (by omega)
    refine lv_aload_n hx hb dX0_clearance_12 rfl (lx_at hl 0 rfl) ?_
    refine xg_5 C hV dX0_clearance_13 ?_
    refine lv_iload_n hx hb dX0_clearance_16 rfl (lx_at hl 1 rfl) ?_
    refine xl_5 C hV (by assumption) dX0_clearance_17 ?_
    exact hret _ _ _ _ _ _ (by first | (simp [kx_clr, c5]; done) | simp [kx_clr, c5, hq]) (rfl) hV dX0_clearance_18
  · refine lv_iconst (v := (-1)) hx hb dX0_clearance_8 (by decide) ?_
    refine lv_goto (tgt := 18) hx hb dX0_clearance_9 (by decide) ?_
    exact hret _ _ _ _ _ _ (by first | (simp [kx_clr, c5]; done) | simp [kx_clr, c5, hq]) (rfl) hV dX0_clearance_18

set_option maxHeartbeats 4000000 in
set_option maxRecDepth 100000 in
theorem xt_cost (l : Launch) (D : va_G) (G : Nat → Nat) (E : Nat → ClassId) (X : cn_St) (c0 : Int32)  : cn_xMi l yX0_cost cX0_cost 2 (some .int) ({ frames := 1, cells := 0, slots := 0, locals := 21 } : Room) D G E X [.int (c0)] (kx_cst c0 X) (X) := by
  refine cn_xofi (ty := .int) rfl (vp_nar_int _) [some (.ref (G 11)), some (.int (c0))] (by decide) rfl (Nat.le_of_ble_eq_true rfl) (by intro v hv; simp only [List.mem_cons, List.not_mem_nil, or_false] at hv; rcases hv with rfl | rfl <;> rfl) rfl (Nat.le_of_ble_eq_true rfl) ?_
  intro p e s m args below meth c ls A Q H locs C hV hl hret
  obtain ⟨hx, hb, hml, hown, hts, hK, hrt, hlk⟩ := id C
  refine lv_aload_n hx hb dX0_cost_0 rfl (lx_at hl 0 rfl) ?_
  refine lv_iload_n hx hb dX0_cost_1 rfl (lx_at hl 1 rfl) ?_
  refine xc_bad C hV (lx_sz hl)  ⟨by decide, by decide⟩ (Nat.le_of_ble_eq_true rfl) ⟨by decide, by decide⟩ dX0_cost_2 (fun H locs hV => ?_)
  refine lv_if_eq (tgt := 10) hx hb dX0_cost_5 (by decide) (fun c5 => ?_) (fun c5 => ?_)
  · obtain ⟨a, ha, rfl⟩ := kx_bad_0 c5
    have hq : (nI a).toNatClampNeg = a := nI_clamp (by omega)
    refine lv_aload_n hx hb dX0_cost_10 rfl (lx_at hl 0 rfl) ?_
    refine xg_8 C hV dX0_cost_11 ?_
    refine lv_iload_n hx hb dX0_cost_14 rfl (lx_at hl 1 rfl) ?_
    refine xl_8 C hV (by assumption) dX0_cost_15 ?_
    refine lv_if_ge (tgt := 24) hx hb dX0_cost_16 (by decide) (fun c16 => ?_) (fun c16 => ?_)
    · refine lv_aload_n hx hb dX0_cost_24 rfl (lx_at hl 0 rfl) ?_
      refine xg_8 C hV dX0_cost_25 ?_
      refine lv_iload_n hx hb dX0_cost_28 rfl (lx_at hl 1 rfl) ?_
      refine xl_8 C hV (by assumption) dX0_cost_29 ?_
      exact hret _ _ _ _ _ _ (by simp [kx_cst, c5, c16, hq]) (rfl) hV dX0_cost_30
    · refine lv_bipush (v := (-4)) hx hb dX0_cost_19 (by decide) ?_
      refine lv_goto (tgt := 30) hx hb dX0_cost_21 (by decide) ?_
      exact hret _ _ _ _ _ _ (by simp [kx_cst, c5, c16, hq]) (rfl) hV dX0_cost_30
  · refine lv_iconst (v := (-1)) hx hb dX0_cost_8 (by decide) ?_
    exact hret _ _ _ _ _ _ (by simp [kx_cst, c5]) (rfl) hV dX0_cost_9

set_option maxHeartbeats 4000000 in
set_option maxRecDepth 100000 in
theorem xt_distance (l : Launch) (D : va_G) (G : Nat → Nat) (E : Nat → ClassId) (X : cn_St) (r : Nat) (hr : r < 81) (hr0 : kx_se 400 X 3 0 = nI r) : cn_xMi l yX0_distance cX0_distance 1 (some .int) ({ frames := 4, cells := 0, slots := 0, locals := 92 } : Room) D G E X [] (kx_ans (kx_se 400 X 9 r)) (kx_se 400 X) := by
  refine cn_xofi (ty := .int) rfl (vp_nar_int _) [some (.ref (G 11))] (by decide) rfl (Nat.le_of_ble_eq_true rfl) (by intro v hv; simp only [List.mem_cons, List.not_mem_nil, or_false] at hv; rcases hv with rfl <;> rfl) rfl (Nat.le_of_ble_eq_true rfl) ?_
  intro p e s m args below meth c ls A Q H locs C hV hl hret
  obtain ⟨hx, hb, hml, hown, hts, hK, hrt, hlk⟩ := id C
  refine lv_aload_n hx hb dX0_distance_0 rfl (lx_at hl 0 rfl) ?_
  refine xc_settle C hV (lx_sz hl)  ⟨by decide, by decide⟩ (Nat.le_of_ble_eq_true rfl) ⟨by decide, by decide⟩ dX0_distance_1 (fun H locs hV => ?_)
  refine lv_aload_n hx hb dX0_distance_4 rfl (lx_at hl 0 rfl) ?_
  refine lv_aload_n hx hb dX0_distance_5 rfl (lx_at hl 0 rfl) ?_
  refine xg_9 C hV dX0_distance_6 ?_
  refine lv_aload_n hx hb dX0_distance_9 rfl (lx_at hl 0 rfl) ?_
  refine xg_3 C hV dX0_distance_10 ?_
  rw [hr0]
  refine xl_9 C hV (by assumption) dX0_distance_13 ?_
  refine xc_answer C hV (lx_sz hl)  ⟨by decide, by decide⟩ (Nat.le_of_ble_eq_true rfl) ⟨by decide, by decide⟩ dX0_distance_14 (fun H locs hV => ?_)
  exact hret _ _ _ _ _ _ (rfl) (rfl) hV dX0_distance_17

set_option maxHeartbeats 4000000 in
set_option maxRecDepth 100000 in
theorem xt_distanceFrom (l : Launch) (D : va_G) (G : Nat → Nat) (E : Nat → ClassId) (X : cn_St) (c0 : Int32)  : cn_xMi l yX0_distanceFrom cX0_distanceFrom 2 (some .int) ({ frames := 4, cells := 0, slots := 0, locals := 92 } : Room) D G E X [.int (c0)] ((kx_dfr c0 X).1) ((kx_dfr c0 X).2) := by
  refine cn_xofi (ty := .int) rfl (vp_nar_int _) [some (.ref (G 11)), some (.int (c0))] (by decide) rfl (Nat.le_of_ble_eq_true rfl) (by intro v hv; simp only [List.mem_cons, List.not_mem_nil, or_false] at hv; rcases hv with rfl | rfl <;> rfl) rfl (Nat.le_of_ble_eq_true rfl) ?_
  intro p e s m args below meth c ls A Q H locs C hV hl hret
  obtain ⟨hx, hb, hml, hown, hts, hK, hrt, hlk⟩ := id C
  refine lv_aload_n hx hb dX0_distanceFrom_0 rfl (lx_at hl 0 rfl) ?_
  refine lv_iload_n hx hb dX0_distanceFrom_1 rfl (lx_at hl 1 rfl) ?_
  refine xc_bad C hV (lx_sz hl)  ⟨by decide, by decide⟩ (Nat.le_of_ble_eq_true rfl) ⟨by decide, by decide⟩ dX0_distanceFrom_2 (fun H locs hV => ?_)
  refine lv_if_eq (tgt := 10) hx hb dX0_distanceFrom_5 (by decide) (fun c5 => ?_) (fun c5 => ?_)
  · obtain ⟨a, ha, rfl⟩ := kx_bad_0 c5
    have hq : (nI a).toNatClampNeg = a := nI_clamp (by omega)
    refine lv_aload_n hx hb dX0_distanceFrom_10 rfl (lx_at hl 0 rfl) ?_
    refine xc_settle C hV (lx_sz hl)  ⟨by decide, by decide⟩ (Nat.le_of_ble_eq_true rfl) ⟨by decide, by decide⟩ dX0_distanceFrom_11 (fun H locs hV => ?_)
    refine lv_aload_n hx hb dX0_distanceFrom_14 rfl (lx_at hl 0 rfl) ?_
    refine lv_aload_n hx hb dX0_distanceFrom_15 rfl (lx_at hl 0 rfl) ?_
    refine xg_9 C hV dX0_distanceFrom_16 ?_
    refine lv_iload_n hx hb dX0_distanceFrom_19 rfl (lx_at hl 1 rfl) ?_
    refine xl_9 C hV (by assumption) dX0_distanceFrom_20 ?_
    refine xc_answer C hV (lx_sz hl)  ⟨by decide, by decide⟩ (Nat.le_of_ble_eq_true rfl) ⟨by decide, by decide⟩ dX0_distanceFrom_21 (fun H locs hV => ?_)
    exact hret _ _ _ _ _ _ (by simp [kx_dfr, c5, hq]) (by simp [kx_dfr, c5, hq]) hV dX0_distanceFrom_24
  · refine lv_iconst (v := (-1)) hx hb dX0_distanceFrom_8 (by decide) ?_
    exact hret _ _ _ _ _ _ (by simp [kx_dfr, c5]) (by simp [kx_dfr, c5]) hV dX0_distanceFrom_9

set_option maxHeartbeats 4000000 in
set_option maxRecDepth 100000 in
theorem xt_nextFrom (l : Launch) (D : va_G) (G : Nat → Nat) (E : Nat → ClassId) (X : cn_St) (a : Nat) (ha : a < 81) : cn_xMi l yX0_nextFrom cX0_nextFrom 4 (some .int) ({ frames := 1, cells := 0, slots := 0, locals := 23 } : Room) D G E X [.int (nI a)] (kx_oD (kx_nx X a)) (X) := by
  refine cn_xofi (ty := .int) rfl (vp_nar_int _) [some (.ref (G 11)), some (.int (nI a)), none, none] (by decide) rfl (Nat.le_of_ble_eq_true rfl) (by intro v hv; simp only [List.mem_cons, List.not_mem_nil, or_false] at hv; rcases hv with rfl | rfl <;> rfl) rfl (Nat.le_of_ble_eq_true rfl) ?_
  intro p e s m args below meth c ls A Q H locs C hV hl hret
  obtain ⟨hx, hb, hml, hown, hts, hK, hrt, hlk⟩ := id C
  refine lv_iload_n hx hb dX0_nextFrom_0 rfl (lx_at hl 1 rfl) ?_
  refine lv_aload_n hx hb dX0_nextFrom_1 rfl (lx_at hl 0 rfl) ?_
  refine xg_4 C hV dX0_nextFrom_2 ?_
  refine lv_icmp_eq (tgt := 19) hx hb dX0_nextFrom_5 (by decide) (fun c5 => ?_) (fun c5 => ?_)
  · refine lv_bipush (v := (-4)) hx hb dX0_nextFrom_19 (by decide) ?_
    exact hret _ _ _ _ _ _ (by simp [kx_nx, kx_oD, c5]) (rfl) hV dX0_nextFrom_21
  · refine lv_aload_n hx hb dX0_nextFrom_8 rfl (lx_at hl 0 rfl) ?_
    refine xg_9 C hV dX0_nextFrom_9 ?_
    refine lv_iload_n hx hb dX0_nextFrom_12 rfl (lx_at hl 1 rfl) ?_
    refine xl_9 C hV (by assumption) dX0_nextFrom_13 ?_
    refine lv_ldc (v := 100000) hx hb hown (hts _ q33) dX0_nextFrom_14 ?_
    refine lv_icmp_lt (tgt := 22) hx hb dX0_nextFrom_16 (by decide) (fun c16 => ?_) (fun c16 => ?_)
    · refine lv_iconst (v := 0) hx hb dX0_nextFrom_22 (by decide) ?_
      refine lx_istore_n (i := 2) hx hb dX0_nextFrom_23 rfl hl (by decide) (fun ls hl => ?_)
      have loop24 : ∀ (n : Nat) (d : Nat) (H : Heap) (locs : List Loc) (ls : Array Slot), d + n = 4 → kx_nl X a n d = kx_nl X a 4 0 → cn_V D (cn_Wx G E) A s.heap (X) H locs → cn_lx ls 4 [some (.ref (G 11)), some (.int (nI a)), some (.int (nI d)), none] → W p l e ({ frames := 1, cells := 0, slots := 0, locals := 23 } : Room) s m args below meth c H locs 0 0 Q (F0 m 24 ls []) := by
        intro n
        induction n with
        | zero =>
          intro d H locs ls hn hY hV hl
          obtain rfl : d = 4 := by omega
          refine lv_iload_n hx hb dX0_nextFrom_24 rfl (lx_at hl 2 rfl) ?_
          refine lv_iconst (v := 4) hx hb dX0_nextFrom_25 (by decide) ?_
          refine lv_icmp_ge (tgt := 79) hx hb dX0_nextFrom_26 (by decide) (fun c26 => ?_) (fun c26 => absurd (by decide) c26)
          refine lv_bipush (v := (-4)) hx hb dX0_nextFrom_79 (by decide) ?_
          exact hret _ _ _ _ _ _ (by simp only [kx_nx, c5, c16, if_true, if_false]; rw [← hY]; rfl) (rfl) hV dX0_nextFrom_81
        | succ n ih24 =>
          intro d H locs ls hn hY hV hl
          have h_d : d < 4 := by omega
          refine lv_iload_n hx hb dX0_nextFrom_24 rfl (lx_at hl 2 rfl) ?_
          refine lv_iconst (v := 4) hx hb dX0_nextFrom_25 (by decide) ?_
          refine lv_icmp_ge (tgt := 79) hx hb dX0_nextFrom_26 (by decide) (fun c26 => absurd c26 (nI_ge (b := 4) h_d (by decide))) (fun c26 => ?_)
          refine lv_aload_n hx hb dX0_nextFrom_29 rfl (lx_at hl 0 rfl) ?_
          refine lv_iload_n hx hb dX0_nextFrom_30 rfl (lx_at hl 1 rfl) ?_
          refine lv_iload_n hx hb dX0_nextFrom_31 rfl (lx_at hl 2 rfl) ?_
          refine xc_moved C hV (lx_sz hl) (by assumption) (by assumption) ⟨by decide, by decide⟩ (Nat.le_of_ble_eq_true rfl) ⟨by decide, by decide⟩ dX0_nextFrom_32 (fun H locs hV => ?_)
          by_cases ht : kx_mv a d < 81
          · rw [kx_oI_pos ht]
            refine lx_istore_n (i := 3) hx hb dX0_nextFrom_35 rfl hl (by decide) (fun ls hl => ?_)
            refine lv_iload_n hx hb dX0_nextFrom_36 rfl (lx_at hl 3 rfl) ?_
            refine lv_if_lt (tgt := 73) hx hb dX0_nextFrom_37 (by decide) (fun c37 => absurd c37 (nI_pos (by omega))) (fun c37 => ?_)
            refine lv_aload_n hx hb dX0_nextFrom_40 rfl (lx_at hl 0 rfl) ?_
            refine xg_8 C hV dX0_nextFrom_41 ?_
            refine lv_iload_n hx hb dX0_nextFrom_44 rfl (lx_at hl 3 rfl) ?_
            refine xl_8 C hV (by assumption) dX0_nextFrom_45 ?_
            refine lv_if_lt (tgt := 73) hx hb dX0_nextFrom_46 (by decide) (fun c46 => ?_) (fun c46 => ?_)
            · refine lx_iinc1 hx hb dX0_nextFrom_73 hl rfl (fun ls hl => ?_)
              refine lv_goto (tgt := 24) hx hb dX0_nextFrom_76 (by decide) ?_
              exact ih24 (d + 1) (_) (_) (_) (by omega) (by rw [← hY]; simp [kx_nl, ht, c5, c16, c46]) hV (lx_none hl 3)
            · refine lv_aload_n hx hb dX0_nextFrom_49 rfl (lx_at hl 0 rfl) ?_
              refine xg_9 C hV dX0_nextFrom_50 ?_
              refine lv_iload_n hx hb dX0_nextFrom_53 rfl (lx_at hl 3 rfl) ?_
              refine xl_9 C hV (by assumption) dX0_nextFrom_54 ?_
              refine lv_aload_n hx hb dX0_nextFrom_55 rfl (lx_at hl 0 rfl) ?_
              refine xg_8 C hV dX0_nextFrom_56 ?_
              refine lv_iload_n hx hb dX0_nextFrom_59 rfl (lx_at hl 3 rfl) ?_
              refine xl_8 C hV (by assumption) dX0_nextFrom_60 ?_
              refine lv_iadd hx hb dX0_nextFrom_61 ?_
              refine lv_aload_n hx hb dX0_nextFrom_62 rfl (lx_at hl 0 rfl) ?_
              refine xg_9 C hV dX0_nextFrom_63 ?_
              refine lv_iload_n hx hb dX0_nextFrom_66 rfl (lx_at hl 1 rfl) ?_
              refine xl_9 C hV (by assumption) dX0_nextFrom_67 ?_
              refine lv_icmp_ne (tgt := 73) hx hb dX0_nextFrom_68 (by decide) (fun c68 => ?_) (fun c68 => ?_)
              · refine lx_iinc1 hx hb dX0_nextFrom_73 hl rfl (fun ls hl => ?_)
                refine lv_goto (tgt := 24) hx hb dX0_nextFrom_76 (by decide) ?_
                exact ih24 (d + 1) (_) (_) (_) (by omega) (by rw [← hY]; simp [kx_nl, ht, c5, c16, c46, c68]) hV (lx_none hl 3)
              · refine lv_iload_n hx hb dX0_nextFrom_71 rfl (lx_at hl 2 rfl) ?_
                exact hret _ _ _ _ _ _ (by simp only [kx_nx, c5, c16, if_true, if_false]; rw [← hY]; simp [kx_nl, ht, kx_oD, h_d, c5, c16, c46, c68]) (rfl) hV dX0_nextFrom_72
          · rw [kx_oI_neg ht]
            refine lx_istore_n (i := 3) hx hb dX0_nextFrom_35 rfl hl (by decide) (fun ls hl => ?_)
            refine lv_iload_n hx hb dX0_nextFrom_36 rfl (lx_at hl 3 rfl) ?_
            refine lv_if_lt (tgt := 73) hx hb dX0_nextFrom_37 (by decide) (fun c37 => ?_) (fun c37 => absurd (by decide) c37)
            refine lx_iinc1 hx hb dX0_nextFrom_73 hl rfl (fun ls hl => ?_)
            refine lv_goto (tgt := 24) hx hb dX0_nextFrom_76 (by decide) ?_
            exact ih24 (d + 1) (_) (_) (_) (by omega) (by rw [← hY]; simp [kx_nl, ht, c5, c16]) hV (lx_none hl 3)
      exact loop24 4 (0) (_) (_) (_) (rfl) (rfl) hV hl
    · refine lv_bipush (v := (-4)) hx hb dX0_nextFrom_19 (by decide) ?_
      exact hret _ _ _ _ _ _ (by simp [kx_nx, kx_oD, c5, c16]) (rfl) hV dX0_nextFrom_21
theorem xc_nextFrom {p : Program} {l : Launch} {e : Env} {R : Room} {s : State} {m : MethodId} {args : Array Value} {below : List Frame} {meth : Method} {c : Code} {H : Heap} {locs : List Loc} {cells slots : Nat} {Q : State → Prop} {cc : ByteArray} {nL : Nat} {ret : Option FieldType} {pc : Nat} {ls : Array Slot} {rest : List Value} {D : va_G} {G : Nat → Nat} {E : Nat → ClassId} {A : Nat → Prop} {H0 : Heap} {X : cn_St} {a : Nat} (C : cn_C RX0 D (cn_tx E) p s m args meth c cc nL ret) (hV : cn_V D (cn_Wx G E) A H0 X H locs) (hl : ls.size = nL) (ha : a < 81) (hR : 1 + 1 ≤ R.frames ∧ 8 + (4 + 11) + 23 ≤ R.locals) (hroom : (rest.map fun v => v.category).sum ≤ 8) (hcs : cells ≤ R.cells ∧ slots ≤ R.slots) (hdg : decode cc pc = .ok (.invokevirtual 102, 3))
    (kk : ∀ (H1 : Heap) (locs1 : List Loc), cn_V D (cn_Wx G E) A H0 (X) H1 locs1 → W p l e R s m args below meth c H1 locs1 cells slots Q (F0 m (pc + 3) ls (.int (kx_oD (kx_nx X a)) :: rest))) : W p l e R s m args below meth c H locs cells slots Q (F0 m pc ls (.int (nI a) :: .ref (G 11) :: rest)) :=
  cn_xcalli (As := [.int (nI a)]) (xt_nextFrom l D G E X a ha) C hV hl ⟨q179, q181, qs16, q182⟩ (show yX0_nextFrom.cls = RX0 ∧ yX0_nextFrom.cls ≠ "java/lang/invoke/MethodHandle" ∧ yX0_nextFrom.cls ≠ "java/lang/invoke/VarHandle" ∧ (parseMethodDescriptor yX0_nextFrom.desc).map (fun d => d.parameters.length) = some 1 by decide +kernel) ⟨rfl, rfl⟩ hR rfl hroom hcs hdg kk

set_option maxHeartbeats 4000000 in
set_option maxRecDepth 100000 in
theorem xt_next (l : Launch) (D : va_G) (G : Nat → Nat) (E : Nat → ClassId) (X : cn_St) (r : Nat) (hr : r < 81) (hr0 : kx_se 400 X 3 0 = nI r) : cn_xMi l yX0_next cX0_next 1 (some .int) ({ frames := 4, cells := 0, slots := 0, locals := 92 } : Room) D G E X [] (kx_oD (kx_nx (kx_se 400 X) r)) (kx_se 400 X) := by
  refine cn_xofi (ty := .int) rfl (vp_nar_int _) [some (.ref (G 11))] (by decide) rfl (Nat.le_of_ble_eq_true rfl) (by intro v hv; simp only [List.mem_cons, List.not_mem_nil, or_false] at hv; rcases hv with rfl <;> rfl) rfl (Nat.le_of_ble_eq_true rfl) ?_
  intro p e s m args below meth c ls A Q H locs C hV hl hret
  obtain ⟨hx, hb, hml, hown, hts, hK, hrt, hlk⟩ := id C
  refine lv_aload_n hx hb dX0_next_0 rfl (lx_at hl 0 rfl) ?_
  refine xc_settle C hV (lx_sz hl)  ⟨by decide, by decide⟩ (Nat.le_of_ble_eq_true rfl) ⟨by decide, by decide⟩ dX0_next_1 (fun H locs hV => ?_)
  refine lv_aload_n hx hb dX0_next_4 rfl (lx_at hl 0 rfl) ?_
  refine lv_aload_n hx hb dX0_next_5 rfl (lx_at hl 0 rfl) ?_
  refine xg_3 C hV dX0_next_6 ?_
  rw [hr0]
  refine xc_nextFrom C hV (lx_sz hl) (by assumption) ⟨by decide, by decide⟩ (Nat.le_of_ble_eq_true rfl) ⟨by decide, by decide⟩ dX0_next_9 (fun H locs hV => ?_)
  exact hret _ _ _ _ _ _ (rfl) (rfl) hV dX0_next_12
end
section
set_option maxRecDepth 100000
set_option maxHeartbeats 4000000 in
set_option maxRecDepth 100000 in
theorem xt_drive (l : Launch) (D : va_G) (G : Nat → Nat) (E : Nat → ClassId) (X : cn_St) (n0 : Int32) (r : Nat) (hr : r < 81) (hr0 : kx_se 400 X 3 0 = nI r) : cn_xMi l yX0_drive cX0_drive 5 (some .int) ({ frames := 4, cells := 0, slots := 0, locals := 92 } : Room) D G E X [.int (n0)] ((kx_dr n0 40 0 r 0 (kx_se 400 X)).1) ((kx_dr n0 40 0 r 0 (kx_se 400 X)).2) := by
  refine cn_xofi (ty := .int) rfl (vp_nar_int _) [some (.ref (G 11)), some (.int (n0)), none, none, none] (by decide) rfl (Nat.le_of_ble_eq_true rfl) (by intro v hv; simp only [List.mem_cons, List.not_mem_nil, or_false] at hv; rcases hv with rfl | rfl <;> rfl) rfl (Nat.le_of_ble_eq_true rfl) ?_
  intro p e s m args below meth c ls A Q H locs C hV hl hret
  obtain ⟨hx, hb, hml, hown, hts, hK, hrt, hlk⟩ := id C
  refine lv_aload_n hx hb dX0_drive_0 rfl (lx_at hl 0 rfl) ?_
  refine xc_settle C hV (lx_sz hl)  ⟨by decide, by decide⟩ (Nat.le_of_ble_eq_true rfl) ⟨by decide, by decide⟩ dX0_drive_1 (fun H locs hV => ?_)
  refine lv_iconst (v := 0) hx hb dX0_drive_4 (by decide) ?_
  refine lx_istore_n (i := 2) hx hb dX0_drive_5 rfl hl (by decide) (fun ls hl => ?_)
  refine lv_aload_n hx hb dX0_drive_6 rfl (lx_at hl 0 rfl) ?_
  refine lv_aload_n hx hb dX0_drive_7 rfl (lx_at hl 0 rfl) ?_
  refine xg_3 C hV dX0_drive_8 ?_
  rw [hr0]
  refine xc_nextFrom C hV (lx_sz hl) (by assumption) ⟨by decide, by decide⟩ (Nat.le_of_ble_eq_true rfl) ⟨by decide, by decide⟩ dX0_drive_11 (fun H locs hV => ?_)
  refine lx_istore_n (i := 3) hx hb dX0_drive_14 rfl hl (by decide) (fun ls hl => ?_)
  refine lv_iconst (v := 0) hx hb dX0_drive_15 (by decide) ?_
  refine lx_istore hx hb dX0_drive_16 hl (by decide) (fun ls hl => ?_)
  have loop18 : ∀ (n : Nat) (i r1 : Nat) (b : Int32) (Y : cn_St) (H : Heap) (locs : List Loc) (ls : Array Slot), i + n = 40 → r1 < 81 → Y 3 0 = nI r1 → kx_dr n0 n i r1 b Y = kx_dr n0 40 0 r 0 (kx_se 400 X) → cn_V D (cn_Wx G E) A s.heap (Y) H locs → cn_lx ls 5 [some (.ref (G 11)), some (.int n0), some (.int b), some (.int (kx_oD (kx_nx Y r1))), some (.int (nI i))] → W p l e ({ frames := 4, cells := 0, slots := 0, locals := 92 } : Room) s m args below meth c H locs 0 0 Q (F0 m 18 ls []) := by
    intro n
    induction n with
    | zero =>
      intro i r1 b Y H locs ls hn h81 hy0 hY hV hl
      obtain rfl : i = 40 := by omega
      refine lv_iload hx hb dX0_drive_18 (lx_at hl 4 rfl) ?_
      refine lv_iload_n hx hb dX0_drive_20 rfl (lx_at hl 1 rfl) ?_
      refine lv_icmp_ge (tgt := 66) hx hb dX0_drive_21 (by decide) (fun c21 => ?_) (fun c21 => ?_)
      · refine lv_iload_n hx hb dX0_drive_66 rfl (lx_at hl 2 rfl) ?_
        exact hret _ _ _ _ _ _ (by rw [← hY]; first | (rfl; done) | (simp [kx_dr, c21]; done) | (simp [kx_dr, hf, c21]; done)) (by rw [← hY]; first | (rfl; done) | (simp [kx_dr, c21]; done) | (simp [kx_dr, hf, c21]; done)) hV dX0_drive_67
      · refine lv_iload hx hb dX0_drive_24 (lx_at hl 4 rfl) ?_
        refine lv_bipush (v := 40) hx hb dX0_drive_26 (by decide) ?_
        refine lv_icmp_ge (tgt := 66) hx hb dX0_drive_28 (by decide) (fun c28 => ?_) (fun c28 => absurd (by decide) c28)
        refine lv_iload_n hx hb dX0_drive_66 rfl (lx_at hl 2 rfl) ?_
        exact hret _ _ _ _ _ _ (by rw [← hY]; first | (rfl; done) | (simp [kx_dr, c21]; done) | (simp [kx_dr, hf, c21]; done)) (by rw [← hY]; first | (rfl; done) | (simp [kx_dr, c21]; done) | (simp [kx_dr, hf, c21]; done)) hV dX0_drive_67
    | succ n ih18 =>
      intro i r1 b Y H locs ls hn h81 hy0 hY hV hl
      have h_i : i < 40 := by omega
      refine lv_iload hx hb dX0_drive_18 (lx_at hl 4 rfl) ?_
      refine lv_iload_n hx hb dX0_drive_20 rfl (lx_at hl 1 rfl) ?_
      refine lv_icmp_ge (tgt := 66) hx hb dX0_drive_21 (by decide) (fun c21 => ?_) (fun c21 => ?_)
      · refine lv_iload_n hx hb dX0_drive_66 rfl (lx_at hl 2 rfl) ?_
        exact hret _ _ _ _ _ _ (by rw [← hY]; first | (rfl; done) | (simp [kx_dr, c21]; done) | (simp [kx_dr, hf, c21]; done)) (by rw [← hY]; first | (rfl; done) | (simp [kx_dr, c21]; done) | (simp [kx_dr, hf, c21]; done)) hV dX0_drive_67
      · refine lv_iload hx hb dX0_drive_24 (lx_at hl 4 rfl) ?_
        refine lv_bipush (v := 40) hx hb dX0_drive_26 (by decide) ?_
        refine lv_icmp_ge (tgt := 66) hx hb dX0_drive_28 (by decide) (fun c28 => absurd c28 (nI_ge (b := 40) h_i (by decide))) (fun c28 => ?_)
        by_cases hf : kx_nx Y r1 < 4
        · rw [kx_oD_pos hf] at hl
          have hm := kx_nx_mv hf
          refine lv_iload_n hx hb dX0_drive_31 rfl (lx_at hl 3 rfl) ?_
          refine lv_if_lt (tgt := 66) hx hb dX0_drive_32 (by decide) (fun c32 => absurd c32 (nI_pos (by omega))) (fun c32 => ?_)
          refine lv_aload_n hx hb dX0_drive_35 rfl (lx_at hl 0 rfl) ?_
          refine lv_aload_n hx hb dX0_drive_36 rfl (lx_at hl 0 rfl) ?_
          refine lv_aload_n hx hb dX0_drive_37 rfl (lx_at hl 0 rfl) ?_
          refine xg_3 C hV dX0_drive_38 ?_
          rw [hy0]
          refine lv_iload_n hx hb dX0_drive_41 rfl (lx_at hl 3 rfl) ?_
          refine xc_moved C hV (lx_sz hl) (by assumption) (by assumption) ⟨by decide, by decide⟩ (Nat.le_of_ble_eq_true rfl) ⟨by decide, by decide⟩ dX0_drive_42 (fun H locs hV => ?_)
          rw [kx_oI_pos hm]
          refine xp_3 C hV dX0_drive_45 (fun H locs hV => ?_)
          refine lx_iincp hx hb dX0_drive_48 hl rfl (fun ls hl => ?_)
          refine lv_aload_n hx hb dX0_drive_51 rfl (lx_at hl 0 rfl) ?_
          refine lv_aload_n hx hb dX0_drive_52 rfl (lx_at hl 0 rfl) ?_
          refine xg_3 C hV dX0_drive_53 ?_
          rw [up2_s]
          refine xc_nextFrom C hV (lx_sz hl) (by assumption) ⟨by decide, by decide⟩ (Nat.le_of_ble_eq_true rfl) ⟨by decide, by decide⟩ dX0_drive_56 (fun H locs hV => ?_)
          refine lx_istore_n (i := 3) hx hb dX0_drive_59 rfl hl (by decide) (fun ls hl => ?_)
          refine lx_iinc1 hx hb dX0_drive_60 hl rfl (fun ls hl => ?_)
          refine lv_goto (tgt := 18) hx hb dX0_drive_63 (by decide) ?_
          exact ih18 (i + 1) (kx_mv r1 (kx_nx Y r1)) (b + 1) (_) (_) (_) (_) (by omega) (hm) (up2_s _ _ _ _) (by rw [← hY]; simp [kx_dr, hf, c21]) hV hl
        · rw [kx_oD_neg hf] at hl
          refine lv_iload_n hx hb dX0_drive_31 rfl (lx_at hl 3 rfl) ?_
          refine lv_if_lt (tgt := 66) hx hb dX0_drive_32 (by decide) (fun c32 => ?_) (fun c32 => absurd (by decide) c32)
          refine lv_iload_n hx hb dX0_drive_66 rfl (lx_at hl 2 rfl) ?_
          exact hret _ _ _ _ _ _ (by rw [← hY]; first | (rfl; done) | (simp [kx_dr, c21]; done) | (simp [kx_dr, hf, c21]; done)) (by rw [← hY]; first | (rfl; done) | (simp [kx_dr, c21]; done) | (simp [kx_dr, hf, c21]; done)) hV dX0_drive_67
  exact loop18 40 (0) (r) (0) (_) (_) (_) (_) (rfl) (hr) (hr0) (rfl) hV hl

set_option maxHeartbeats 4000000 in
set_option maxRecDepth 100000 in
theorem xt_moves (l : Launch) (D : va_G) (G : Nat → Nat) (E : Nat → ClassId) (X : cn_St) (r : Nat) (hr : r < 81) (hr0 : kx_se 400 X 3 0 = nI r) : cn_xMi l yX0_moves cX0_moves 5 (some .int) ({ frames := 4, cells := 0, slots := 0, locals := 92 } : Room) D G E X [] (kx_mvs (kx_se 400 X) r) (kx_se 400 X) := by
  refine cn_xofi (ty := .int) rfl (vp_nar_int _) [some (.ref (G 11)), none, none, none, none] (by decide) rfl (Nat.le_of_ble_eq_true rfl) (by intro v hv; simp only [List.mem_cons, List.not_mem_nil, or_false] at hv; rcases hv with rfl <;> rfl) rfl (Nat.le_of_ble_eq_true rfl) ?_
  intro p e s m args below meth c ls A Q H locs C hV hl hret
  obtain ⟨hx, hb, hml, hown, hts, hK, hrt, hlk⟩ := id C
  refine lv_aload_n hx hb dX0_moves_0 rfl (lx_at hl 0 rfl) ?_
  refine xc_settle C hV (lx_sz hl)  ⟨by decide, by decide⟩ (Nat.le_of_ble_eq_true rfl) ⟨by decide, by decide⟩ dX0_moves_1 (fun H locs hV => ?_)
  refine lv_aload_n hx hb dX0_moves_4 rfl (lx_at hl 0 rfl) ?_
  refine xg_9 C hV dX0_moves_5 ?_
  refine lv_aload_n hx hb dX0_moves_8 rfl (lx_at hl 0 rfl) ?_
  refine xg_3 C hV dX0_moves_9 ?_
  rw [hr0]
  refine xl_9 C hV (by assumption) dX0_moves_12 ?_
  refine lv_ldc (v := 100000) hx hb hown (hts _ q33) dX0_moves_13 ?_
  refine lv_icmp_lt (tgt := 21) hx hb dX0_moves_15 (by decide) (fun c15 => ?_) (fun c15 => ?_)
  · refine lv_aload_n hx hb dX0_moves_21 rfl (lx_at hl 0 rfl) ?_
    refine xg_3 C hV dX0_moves_22 ?_
    rw [hr0]
    refine lx_istore_n (i := 1) hx hb dX0_moves_25 rfl hl (by decide) (fun ls hl => ?_)
    refine lv_iconst (v := 0) hx hb dX0_moves_26 (by decide) ?_
    refine lx_istore_n (i := 2) hx hb dX0_moves_27 rfl hl (by decide) (fun ls hl => ?_)
    refine lv_aload_n hx hb dX0_moves_28 rfl (lx_at hl 0 rfl) ?_
    refine lv_iload_n hx hb dX0_moves_29 rfl (lx_at hl 1 rfl) ?_
    refine xc_nextFrom C hV (lx_sz hl) (by assumption) ⟨by decide, by decide⟩ (Nat.le_of_ble_eq_true rfl) ⟨by decide, by decide⟩ dX0_moves_30 (fun H locs hV => ?_)
    refine lx_istore_n (i := 3) hx hb dX0_moves_33 rfl hl (by decide) (fun ls hl => ?_)
    refine lv_iconst (v := 0) hx hb dX0_moves_34 (by decide) ?_
    refine lx_istore hx hb dX0_moves_35 hl (by decide) (fun ls hl => ?_)
    have loop37 : ∀ (n : Nat) (i r1 : Nat) (b : Int32) (H : Heap) (locs : List Loc) (ls : Array Slot), i + n = 81 → r1 < 81 → kx_ms (kx_se 400 X) n r1 b = kx_ms (kx_se 400 X) 81 r 0 → cn_V D (cn_Wx G E) A s.heap (kx_se 400 X) H locs → cn_lx ls 5 [some (.ref (G 11)), some (.int (nI r1)), some (.int b), some (.int (kx_oD (kx_nx (kx_se 400 X) r1))), some (.int (nI i))] → W p l e ({ frames := 4, cells := 0, slots := 0, locals := 92 } : Room) s m args below meth c H locs 0 0 Q (F0 m 37 ls []) := by
      intro n
      induction n with
      | zero =>
        intro i r1 b H locs ls hn h81 hY hV hl
        obtain rfl : i = 81 := by omega
        refine lv_iload hx hb dX0_moves_37 (lx_at hl 4 rfl) ?_
        refine lv_bipush (v := 81) hx hb dX0_moves_39 (by decide) ?_
        refine lv_icmp_ge (tgt := 70) hx hb dX0_moves_41 (by decide) (fun c41 => ?_) (fun c41 => absurd (by decide) c41)
        refine lv_iload_n hx hb dX0_moves_70 rfl (lx_at hl 2 rfl) ?_
        exact hret _ _ _ _ _ _ (by simp only [kx_mvs, c15, if_true]; rw [← hY]; first | rfl | simp [kx_ms, hf]) (rfl) hV dX0_moves_71
      | succ n ih37 =>
        intro i r1 b H locs ls hn h81 hY hV hl
        have h_i : i < 81 := by omega
        refine lv_iload hx hb dX0_moves_37 (lx_at hl 4 rfl) ?_
        refine lv_bipush (v := 81) hx hb dX0_moves_39 (by decide) ?_
        refine lv_icmp_ge (tgt := 70) hx hb dX0_moves_41 (by decide) (fun c41 => absurd c41 (nI_ge (b := 81) h_i (by decide))) (fun c41 => ?_)
        by_cases hf : kx_nx (kx_se 400 X) r1 < 4
        · rw [kx_oD_pos hf] at hl
          have hm := kx_nx_mv hf
          refine lv_iload_n hx hb dX0_moves_44 rfl (lx_at hl 3 rfl) ?_
          refine lv_if_lt (tgt := 70) hx hb dX0_moves_45 (by decide) (fun c45 => absurd c45 (nI_pos (by omega))) (fun c45 => ?_)
          refine lv_aload_n hx hb dX0_moves_48 rfl (lx_at hl 0 rfl) ?_
          refine lv_iload_n hx hb dX0_moves_49 rfl (lx_at hl 1 rfl) ?_
          refine lv_iload_n hx hb dX0_moves_50 rfl (lx_at hl 3 rfl) ?_
          refine xc_moved C hV (lx_sz hl) (by assumption) (by assumption) ⟨by decide, by decide⟩ (Nat.le_of_ble_eq_true rfl) ⟨by decide, by decide⟩ dX0_moves_51 (fun H locs hV => ?_)
          rw [kx_oI_pos hm]
          refine lx_istore_n (i := 1) hx hb dX0_moves_54 rfl hl (by decide) (fun ls hl => ?_)
          refine lx_iincp hx hb dX0_moves_55 hl rfl (fun ls hl => ?_)
          refine lv_aload_n hx hb dX0_moves_58 rfl (lx_at hl 0 rfl) ?_
          refine lv_iload_n hx hb dX0_moves_59 rfl (lx_at hl 1 rfl) ?_
          refine xc_nextFrom C hV (lx_sz hl) (by assumption) ⟨by decide, by decide⟩ (Nat.le_of_ble_eq_true rfl) ⟨by decide, by decide⟩ dX0_moves_60 (fun H locs hV => ?_)
          refine lx_istore_n (i := 3) hx hb dX0_moves_63 rfl hl (by decide) (fun ls hl => ?_)
          refine lx_iinc1 hx hb dX0_moves_64 hl rfl (fun ls hl => ?_)
          refine lv_goto (tgt := 37) hx hb dX0_moves_67 (by decide) ?_
          exact ih37 (i + 1) (kx_mv r1 (kx_nx (kx_se 400 X) r1)) (b + 1) (_) (_) (_) (by omega) (hm) (by rw [← hY]; simp [kx_ms, hf]) hV hl
        · rw [kx_oD_neg hf] at hl
          refine lv_iload_n hx hb dX0_moves_44 rfl (lx_at hl 3 rfl) ?_
          refine lv_if_lt (tgt := 70) hx hb dX0_moves_45 (by decide) (fun c45 => ?_) (fun c45 => absurd (by decide) c45)
          refine lv_iload_n hx hb dX0_moves_70 rfl (lx_at hl 2 rfl) ?_
          exact hret _ _ _ _ _ _ (by simp only [kx_mvs, c15, if_true]; rw [← hY]; first | rfl | simp [kx_ms, hf]) (rfl) hV dX0_moves_71
    exact loop37 81 (0) (r) (0) (_) (_) (_) (rfl) (hr) (rfl) hV hl
  · refine lv_bipush (v := (-4)) hx hb dX0_moves_18 (by decide) ?_
    exact hret _ _ _ _ _ _ (by simp [kx_mvs, c15]) (rfl) hV dX0_moves_20

set_option maxHeartbeats 4000000 in
set_option maxRecDepth 100000 in
theorem xt_reached (l : Launch) (D : va_G) (G : Nat → Nat) (E : Nat → ClassId) (X : cn_St)   : cn_xMi l yX0_reached cX0_reached 3 (some .int) ({ frames := 4, cells := 0, slots := 0, locals := 92 } : Room) D G E X [] (kx_lp (kx_n1 (kx_se 400 X)) 81 0) (kx_se 400 X) := by
  refine cn_xofi (ty := .int) rfl (vp_nar_int _) [some (.ref (G 11)), none, none] (by decide) rfl (Nat.le_of_ble_eq_true rfl) (by intro v hv; simp only [List.mem_cons, List.not_mem_nil, or_false] at hv; rcases hv with rfl <;> rfl) rfl (Nat.le_of_ble_eq_true rfl) ?_
  intro p e s m args below meth c ls A Q H locs C hV hl hret
  obtain ⟨hx, hb, hml, hown, hts, hK, hrt, hlk⟩ := id C
  refine lv_aload_n hx hb dX0_reached_0 rfl (lx_at hl 0 rfl) ?_
  refine xc_settle C hV (lx_sz hl)  ⟨by decide, by decide⟩ (Nat.le_of_ble_eq_true rfl) ⟨by decide, by decide⟩ dX0_reached_1 (fun H locs hV => ?_)
  refine lv_iconst (v := 0) hx hb dX0_reached_4 (by decide) ?_
  refine lx_istore_n (i := 1) hx hb dX0_reached_5 rfl hl (by decide) (fun ls hl => ?_)
  refine lv_iconst (v := 0) hx hb dX0_reached_6 (by decide) ?_
  refine lx_istore_n (i := 2) hx hb dX0_reached_7 rfl hl (by decide) (fun ls hl => ?_)
  have loop8 : ∀ (n : Nat) (a : Nat) (b : Int32) (H : Heap) (locs : List Loc) (ls : Array Slot), a + n = 81 → b = kx_lp (kx_n1 (kx_se 400 X)) a 0 → cn_V D (cn_Wx G E) A s.heap (kx_se 400 X) H locs → cn_lx ls 3 [some (.ref (G 11)), some (.int b), some (.int (nI a))] → W p l e ({ frames := 4, cells := 0, slots := 0, locals := 92 } : Room) s m args below meth c H locs 0 0 Q (F0 m 8 ls []) := by
    intro n
    induction n with
    | zero =>
      intro a b H locs ls hn hY hV hl
      obtain rfl : a = 81 := by omega
      refine lv_iload_n hx hb dX0_reached_8 rfl (lx_at hl 2 rfl) ?_
      refine lv_bipush (v := 81) hx hb dX0_reached_9 (by decide) ?_
      refine lv_icmp_ge (tgt := 34) hx hb dX0_reached_11 (by decide) (fun c11 => ?_) (fun c11 => absurd (by decide) c11)
      refine lv_iload_n hx hb dX0_reached_34 rfl (lx_at hl 1 rfl) ?_
      exact hret _ _ _ _ _ _ (hY) (rfl) hV dX0_reached_35
    | succ n ih8 =>
      intro a b H locs ls hn hY hV hl
      have h_a : a < 81 := by omega
      refine lv_iload_n hx hb dX0_reached_8 rfl (lx_at hl 2 rfl) ?_
      refine lv_bipush (v := 81) hx hb dX0_reached_9 (by decide) ?_
      refine lv_icmp_ge (tgt := 34) hx hb dX0_reached_11 (by decide) (fun c11 => absurd c11 (nI_ge (b := 81) h_a (by decide))) (fun c11 => ?_)
      refine lv_aload_n hx hb dX0_reached_14 rfl (lx_at hl 0 rfl) ?_
      refine xg_9 C hV dX0_reached_15 ?_
      refine lv_iload_n hx hb dX0_reached_18 rfl (lx_at hl 2 rfl) ?_
      refine xl_9 C hV (by assumption) dX0_reached_19 ?_
      refine lv_ldc (v := 100000) hx hb hown (hts _ q33) dX0_reached_20 ?_
      refine lv_icmp_ge (tgt := 28) hx hb dX0_reached_22 (by decide) (fun c22 => ?_) (fun c22 => ?_)
      · refine lx_iinc1 hx hb dX0_reached_28 hl rfl (fun ls hl => ?_)
        refine lv_goto (tgt := 8) hx hb dX0_reached_31 (by decide) ?_
        exact ih8 (a + 1) (_) (_) (_) (_) (by omega) (by rw [kx_lp_s, ← hY]; simp [kx_n1, c22]) hV hl
      · refine lx_iincp hx hb dX0_reached_25 hl rfl (fun ls hl => ?_)
        refine lx_iinc1 hx hb dX0_reached_28 hl rfl (fun ls hl => ?_)
        refine lv_goto (tgt := 8) hx hb dX0_reached_31 (by decide) ?_
        exact ih8 (a + 1) (_) (_) (_) (_) (by omega) (by rw [kx_lp_s, ← hY]; simp [kx_n1, c22]) hV hl
  exact loop8 81 (0) (0) (_) (_) (_) (rfl) (rfl) hV hl

set_option maxHeartbeats 4000000 in
set_option maxRecDepth 100000 in
theorem xt_farthest (l : Launch) (D : va_G) (G : Nat → Nat) (E : Nat → ClassId) (X : cn_St)   : cn_xMi l yX0_farthest cX0_farthest 3 (some .int) ({ frames := 4, cells := 0, slots := 0, locals := 92 } : Room) D G E X [] (kx_lp (kx_h1 (kx_se 400 X)) 81 (-4)) (kx_se 400 X) := by
  refine cn_xofi (ty := .int) rfl (vp_nar_int _) [some (.ref (G 11)), none, none] (by decide) rfl (Nat.le_of_ble_eq_true rfl) (by intro v hv; simp only [List.mem_cons, List.not_mem_nil, or_false] at hv; rcases hv with rfl <;> rfl) rfl (Nat.le_of_ble_eq_true rfl) ?_
  intro p e s m args below meth c ls A Q H locs C hV hl hret
  obtain ⟨hx, hb, hml, hown, hts, hK, hrt, hlk⟩ := id C
  refine lv_aload_n hx hb dX0_farthest_0 rfl (lx_at hl 0 rfl) ?_
  refine xc_settle C hV (lx_sz hl)  ⟨by decide, by decide⟩ (Nat.le_of_ble_eq_true rfl) ⟨by decide, by decide⟩ dX0_farthest_1 (fun H locs hV => ?_)
  refine lv_bipush (v := (-4)) hx hb dX0_farthest_4 (by decide) ?_
  refine lx_istore_n (i := 1) hx hb dX0_farthest_6 rfl hl (by decide) (fun ls hl => ?_)
  refine lv_iconst (v := 0) hx hb dX0_farthest_7 (by decide) ?_
  refine lx_istore_n (i := 2) hx hb dX0_farthest_8 rfl hl (by decide) (fun ls hl => ?_)
  have loop9 : ∀ (n : Nat) (a : Nat) (b : Int32) (H : Heap) (locs : List Loc) (ls : Array Slot), a + n = 81 → b = kx_lp (kx_h1 (kx_se 400 X)) a (-4) → cn_V D (cn_Wx G E) A s.heap (kx_se 400 X) H locs → cn_lx ls 3 [some (.ref (G 11)), some (.int b), some (.int (nI a))] → W p l e ({ frames := 4, cells := 0, slots := 0, locals := 92 } : Room) s m args below meth c H locs 0 0 Q (F0 m 9 ls []) := by
    intro n
    induction n with
    | zero =>
      intro a b H locs ls hn hY hV hl
      obtain rfl : a = 81 := by omega
      refine lv_iload_n hx hb dX0_farthest_9 rfl (lx_at hl 2 rfl) ?_
      refine lv_bipush (v := 81) hx hb dX0_farthest_10 (by decide) ?_
      refine lv_icmp_ge (tgt := 49) hx hb dX0_farthest_12 (by decide) (fun c12 => ?_) (fun c12 => absurd (by decide) c12)
      refine lv_iload_n hx hb dX0_farthest_49 rfl (lx_at hl 1 rfl) ?_
      exact hret _ _ _ _ _ _ (hY) (rfl) hV dX0_farthest_50
    | succ n ih9 =>
      intro a b H locs ls hn hY hV hl
      have h_a : a < 81 := by omega
      refine lv_iload_n hx hb dX0_farthest_9 rfl (lx_at hl 2 rfl) ?_
      refine lv_bipush (v := 81) hx hb dX0_farthest_10 (by decide) ?_
      refine lv_icmp_ge (tgt := 49) hx hb dX0_farthest_12 (by decide) (fun c12 => absurd c12 (nI_ge (b := 81) h_a (by decide))) (fun c12 => ?_)
      refine lv_aload_n hx hb dX0_farthest_15 rfl (lx_at hl 0 rfl) ?_
      refine xg_9 C hV dX0_farthest_16 ?_
      refine lv_iload_n hx hb dX0_farthest_19 rfl (lx_at hl 2 rfl) ?_
      refine xl_9 C hV (by assumption) dX0_farthest_20 ?_
      refine lv_ldc (v := 100000) hx hb hown (hts _ q33) dX0_farthest_21 ?_
      refine lv_icmp_ge (tgt := 43) hx hb dX0_farthest_23 (by decide) (fun c23 => ?_) (fun c23 => ?_)
      · refine lx_iinc1 hx hb dX0_farthest_43 hl rfl (fun ls hl => ?_)
        refine lv_goto (tgt := 9) hx hb dX0_farthest_46 (by decide) ?_
        exact ih9 (a + 1) (_) (_) (_) (_) (by omega) (by rw [kx_lp_s, ← hY]; simp [kx_h1, c23]) hV hl
      · refine lv_aload_n hx hb dX0_farthest_26 rfl (lx_at hl 0 rfl) ?_
        refine xg_9 C hV dX0_farthest_27 ?_
        refine lv_iload_n hx hb dX0_farthest_30 rfl (lx_at hl 2 rfl) ?_
        refine xl_9 C hV (by assumption) dX0_farthest_31 ?_
        refine lv_iload_n hx hb dX0_farthest_32 rfl (lx_at hl 1 rfl) ?_
        refine lv_icmp_le (tgt := 43) hx hb dX0_farthest_33 (by decide) (fun c33 => ?_) (fun c33 => ?_)
        · refine lx_iinc1 hx hb dX0_farthest_43 hl rfl (fun ls hl => ?_)
          refine lv_goto (tgt := 9) hx hb dX0_farthest_46 (by decide) ?_
          exact ih9 (a + 1) (_) (_) (_) (_) (by omega) (by rw [kx_lp_s, ← hY]; simp [kx_h1, c23, c33]) hV hl
        · refine lv_aload_n hx hb dX0_farthest_36 rfl (lx_at hl 0 rfl) ?_
          refine xg_9 C hV dX0_farthest_37 ?_
          refine lv_iload_n hx hb dX0_farthest_40 rfl (lx_at hl 2 rfl) ?_
          refine xl_9 C hV (by assumption) dX0_farthest_41 ?_
          refine lx_istore_n (i := 1) hx hb dX0_farthest_42 rfl hl (by decide) (fun ls hl => ?_)
          refine lx_iinc1 hx hb dX0_farthest_43 hl rfl (fun ls hl => ?_)
          refine lv_goto (tgt := 9) hx hb dX0_farthest_46 (by decide) ?_
          exact ih9 (a + 1) (_) (_) (_) (_) (by omega) (by rw [kx_lp_s, ← hY]; simp [kx_h1, c23, c33]) hV hl
  exact loop9 81 (0) (-4) (_) (_) (_) (rfl) (rfl) hV hl
end
section
set_option maxRecDepth 100000
theorem kx_many_tab : ∀ j, j < 19 → (if 0 ≤ nI j - 9 then nI j - 9 else -(nI j - 9)).toNatClampNeg ≤ 9 ∧ (if 0 ≤ nI j - 9 then nI j - 9 else -(nI j - 9)) = nI (if 0 ≤ nI j - 9 then nI j - 9 else -(nI j - 9)).toNatClampNeg := by decide +kernel
theorem kx_n19 {n : Int32} (h1 : ¬ n < -9) (h2 : n ≤ 9) : ∃ j : Nat, j < 19 ∧ n = nI j - 9 := by
  have e1 : ¬ n.toInt < -9 := fun h => h1 (Int32.lt_iff_toInt_lt.mpr h)
  have e2 : n.toInt ≤ 9 := Int32.le_iff_toInt_le.mp h2
  refine ⟨(n.toInt + 9).toNat, by omega, ?_⟩
  apply Int32.toInt_inj.mp
  have e3 := pk_sub_toInt (a := (n.toInt + 9).toNat) (b := 9) (by omega) (by decide)
  rw [show nI 9 = (9 : Int32) from rfl] at e3
  rw [e3]
  omega
theorem kx_many {n : Int32} (h1 : ¬ n < -9) (h2 : n ≤ 9) : ∃ N : Nat, N ≤ 9 ∧ (if 0 ≤ n then n else -n) = nI N := by
  obtain ⟨j, hj, rfl⟩ := kx_n19 h1 h2
  exact ⟨_, (kx_many_tab j hj).1, (kx_many_tab j hj).2⟩
set_option maxHeartbeats 4000000 in
set_option maxRecDepth 100000 in
theorem xt_wall (l : Launch) (D : va_G) (G : Nat → Nat) (E : Nat → ClassId) (X : cn_St) (c0 down n0 : Int32)  : cn_xMi l yX0_wall cX0_wall 9 (some .int) ({ frames := 5, cells := 0, slots := 0, locals := 114 } : Room) D G E X [.int (c0), .int (down), .int (n0)] ((kx_wall c0 down n0 X).1) ((kx_wall c0 down n0 X).2) := by
  refine cn_xofi (ty := .int) rfl (vp_nar_int _) [some (.ref (G 11)), some (.int (c0)), some (.int (down)), some (.int (n0)), none, none, none, none, none] (by decide) rfl (Nat.le_of_ble_eq_true rfl) (by intro v hv; simp only [List.mem_cons, List.not_mem_nil, or_false] at hv; rcases hv with rfl | rfl | rfl | rfl <;> rfl) rfl (Nat.le_of_ble_eq_true rfl) ?_
  intro p e s m args below meth c ls A Q H locs C hV hl hret
  obtain ⟨hx, hb, hml, hown, hts, hK, hrt, hlk⟩ := id C
  refine lv_aload_n hx hb dX0_wall_0 rfl (lx_at hl 0 rfl) ?_
  refine lv_iload_n hx hb dX0_wall_1 rfl (lx_at hl 1 rfl) ?_
  refine xc_bad C hV (lx_sz hl)  ⟨by decide, by decide⟩ (Nat.le_of_ble_eq_true rfl) ⟨by decide, by decide⟩ dX0_wall_2 (fun H locs hV => ?_)
  refine lv_if_ne (tgt := 20) hx hb dX0_wall_5 (by decide) (fun c5 => ?_) (fun c5 => ?_)
  · refine lv_iconst (v := (-1)) hx hb dX0_wall_20 (by decide) ?_
    exact hret _ _ _ _ _ _ (by simp [kx_wall, c5]) (by simp [kx_wall, c5]) hV dX0_wall_21
  · refine lv_iload_n hx hb dX0_wall_8 rfl (lx_at hl 3 rfl) ?_
    refine lv_bipush (v := (-9)) hx hb dX0_wall_9 (by decide) ?_
    refine lv_icmp_lt (tgt := 20) hx hb dX0_wall_11 (by decide) (fun c11 => ?_) (fun c11 => ?_)
    · refine lv_iconst (v := (-1)) hx hb dX0_wall_20 (by decide) ?_
      exact hret _ _ _ _ _ _ (by simp [kx_wall, c5, c11]) (by simp [kx_wall, c5, c11]) hV dX0_wall_21
    · refine lv_iload_n hx hb dX0_wall_14 rfl (lx_at hl 3 rfl) ?_
      refine lv_bipush (v := 9) hx hb dX0_wall_15 (by decide) ?_
      refine lv_icmp_le (tgt := 22) hx hb dX0_wall_17 (by decide) (fun c17 => ?_) (fun c17 => ?_)
      · obtain ⟨a, ha, rfl⟩ := kx_bad_0 c5
        have hq : (nI a).toNatClampNeg = a := nI_clamp (by omega)
        obtain ⟨N, hN9, hN⟩ := kx_many c11 c17
        have hWl : kx_wall (nI a) down n0 X = ((kx_wl (if n0 ≤ 0 then 0 else 1) (if down = 0 then 1 else 2) N a 0 X).1, kx_rc (kx_wl (if n0 ≤ 0 then 0 else 1) (if down = 0 then 1 else 2) N a 0 X).2) := by
          rw [kx_wall, if_pos c5, if_neg c11, if_pos c17, hN, hq, nI_clamp (n := N) (by omega)]
        refine lv_iload_n hx hb dX0_wall_22 rfl (lx_at hl 3 rfl) ?_
        refine lv_if_ge (tgt := 31) hx hb dX0_wall_23 (by decide) (fun c23 => ?_) (fun c23 => ?_)
        · refine lv_iload_n hx hb dX0_wall_31 rfl (lx_at hl 3 rfl) ?_
          have hN1 := hN
          first | rw [if_pos c23] at hN1 | rw [if_neg c23] at hN1
          rw [hN1]
          refine lx_istore hx hb dX0_wall_32 hl (by decide) (fun ls hl => ?_)
          refine lv_iconst (v := 0) hx hb dX0_wall_34 (by decide) ?_
          refine lx_istore hx hb dX0_wall_35 hl (by decide) (fun ls hl => ?_)
          refine lv_iload_n hx hb dX0_wall_37 rfl (lx_at hl 1 rfl) ?_
          rw [← kx_oI_pos ha]
          refine lx_istore hx hb dX0_wall_38 hl (by decide) (fun ls hl => ?_)
          refine lv_iconst (v := 0) hx hb dX0_wall_40 (by decide) ?_
          refine lx_istore hx hb dX0_wall_41 hl (by decide) (fun ls hl => ?_)
          have loop43 : ∀ (n : Nat) (i a1 : Nat) (ch : Int32) (Y : cn_St) (H : Heap) (locs : List Loc) (ls : Array Slot), i + n = N → kx_wl (if n0 ≤ 0 then 0 else 1) (if down = 0 then 1 else 2) n a1 ch Y = kx_wl (if n0 ≤ 0 then 0 else 1) (if down = 0 then 1 else 2) N a 0 X → cn_V D (cn_Wx G E) A s.heap (Y) H locs → cn_lx ls 9 [some (.ref (G 11)), some (.int (nI a)), some (.int down), some (.int n0), some (.int (nI N)), some (.int ch), some (.int (kx_oI a1)), some (.int (nI i)), none] → W p l e ({ frames := 5, cells := 0, slots := 0, locals := 114 } : Room) s m args below meth c H locs 0 0 Q (F0 m 43 ls []) := by
            intro n
            induction n with
            | zero =>
              intro i a1 ch Y H locs ls hn hY hV hl
              refine lv_iload hx hb dX0_wall_43 (lx_at hl 7 rfl) ?_
              refine lv_iload hx hb dX0_wall_45 (lx_at hl 4 rfl) ?_
              refine lv_icmp_ge (tgt := 102) hx hb dX0_wall_47 (by decide) (fun c47 => ?_) (fun c47 => absurd (by rw [show i = N by omega]; exact nI_le (Nat.le_refl _) (by omega)) c47)
              refine lv_aload_n hx hb dX0_wall_102 rfl (lx_at hl 0 rfl) ?_
              refine xc_recost C hV (lx_sz hl)  ⟨by decide, by decide⟩ (Nat.le_of_ble_eq_true rfl) ⟨by decide, by decide⟩ dX0_wall_103 (fun H locs hV => ?_)
              refine lv_iload hx hb dX0_wall_106 (lx_at hl 5 rfl) ?_
              exact hret _ _ _ _ _ _ (by rw [hWl, ← hY]; first | (simp [kx_wl]; done) | (simp [kx_wl, hf]; done)) (by rw [hWl, ← hY]; first | (simp [kx_wl]; done) | (simp [kx_wl, hf]; done)) hV dX0_wall_108
            | succ n ih43 =>
              intro i a1 ch Y H locs ls hn hY hV hl
              have h_i : i < N := by omega
              refine lv_iload hx hb dX0_wall_43 (lx_at hl 7 rfl) ?_
              refine lv_iload hx hb dX0_wall_45 (lx_at hl 4 rfl) ?_
              refine lv_icmp_ge (tgt := 102) hx hb dX0_wall_47 (by decide) (fun c47 => absurd c47 (nI_ge h_i (by omega))) (fun c47 => ?_)
              by_cases hf : a1 < 81
              · rw [kx_oI_pos hf] at hl
                refine lv_iload hx hb dX0_wall_50 (lx_at hl 6 rfl) ?_
                refine lv_if_lt (tgt := 102) hx hb dX0_wall_52 (by decide) (fun c52 => absurd c52 (nI_pos (by omega))) (fun c52 => ?_)
                refine lv_aload_n hx hb dX0_wall_55 rfl (lx_at hl 0 rfl) ?_
                refine lv_iload hx hb dX0_wall_56 (lx_at hl 6 rfl) ?_
                refine lv_iload_n hx hb dX0_wall_58 rfl (lx_at hl 3 rfl) ?_
                refine lv_if_le (tgt := 66) hx hb dX0_wall_59 (by decide) (fun c59 => ?_) (fun c59 => ?_)
                · refine lv_iconst (v := 0) hx hb dX0_wall_66 (by decide) ?_
                  refine xc_put C hV (lx_sz hl) (by assumption) (by first | exact Or.inl rfl | exact Or.inr rfl) ⟨by decide, by decide⟩ (Nat.le_of_ble_eq_true rfl) ⟨by decide, by decide⟩ dX0_wall_67 (fun H locs hV => ?_)
                  refine lx_istore hx hb dX0_wall_70 hl (by decide) (fun ls hl => ?_)
                  refine lv_iload hx hb dX0_wall_72 (lx_at hl 5 rfl) ?_
                  refine lv_iload hx hb dX0_wall_74 (lx_at hl 8 rfl) ?_
                  refine lv_iadd hx hb dX0_wall_76 ?_
                  refine lx_istore hx hb dX0_wall_77 hl (by decide) (fun ls hl => ?_)
                  refine lv_aload_n hx hb dX0_wall_79 rfl (lx_at hl 0 rfl) ?_
                  refine lv_iload hx hb dX0_wall_80 (lx_at hl 6 rfl) ?_
                  refine lv_iload_n hx hb dX0_wall_82 rfl (lx_at hl 2 rfl) ?_
                  refine lv_if_ne (tgt := 90) hx hb dX0_wall_83 (by decide) (fun c83 => ?_) (fun c83 => ?_)
                  · refine lv_iconst (v := 2) hx hb dX0_wall_90 (by decide) ?_
                    try rw [show (2 : Int32) = nI 2 from rfl]
                    refine xc_moved C hV (lx_sz hl) (by assumption) (by decide) ⟨by decide, by decide⟩ (Nat.le_of_ble_eq_true rfl) ⟨by decide, by decide⟩ dX0_wall_91 (fun H locs hV => ?_)
                    refine lx_istore hx hb dX0_wall_94 hl (by decide) (fun ls hl => ?_)
                    refine lx_iinc1 hx hb dX0_wall_96 hl rfl (fun ls hl => ?_)
                    refine lv_goto (tgt := 43) hx hb dX0_wall_99 (by decide) ?_
                    exact ih43 (i + 1) (_) (_) (_) (_) (_) (_) (by omega) (by rw [← hY]; simp [kx_wl, hf, c5, c11, c17, c23, c59, c83]) hV (lx_none hl 8)
                  · refine lv_iconst (v := 1) hx hb dX0_wall_86 (by decide) ?_
                    rw [show (1 : Int32) = nI 1 from rfl]
                    refine lv_goto (tgt := 91) hx hb dX0_wall_87 (by decide) ?_
                    try rw [show (2 : Int32) = nI 2 from rfl]
                    refine xc_moved C hV (lx_sz hl) (by assumption) (by decide) ⟨by decide, by decide⟩ (Nat.le_of_ble_eq_true rfl) ⟨by decide, by decide⟩ dX0_wall_91 (fun H locs hV => ?_)
                    refine lx_istore hx hb dX0_wall_94 hl (by decide) (fun ls hl => ?_)
                    refine lx_iinc1 hx hb dX0_wall_96 hl rfl (fun ls hl => ?_)
                    refine lv_goto (tgt := 43) hx hb dX0_wall_99 (by decide) ?_
                    exact ih43 (i + 1) (_) (_) (_) (_) (_) (_) (by omega) (by rw [← hY]; simp [kx_wl, hf, c5, c11, c17, c23, c59, c83]) hV (lx_none hl 8)
                · refine lv_iconst (v := 1) hx hb dX0_wall_62 (by decide) ?_
                  refine lv_goto (tgt := 67) hx hb dX0_wall_63 (by decide) ?_
                  refine xc_put C hV (lx_sz hl) (by assumption) (by first | exact Or.inl rfl | exact Or.inr rfl) ⟨by decide, by decide⟩ (Nat.le_of_ble_eq_true rfl) ⟨by decide, by decide⟩ dX0_wall_67 (fun H locs hV => ?_)
                  refine lx_istore hx hb dX0_wall_70 hl (by decide) (fun ls hl => ?_)
                  refine lv_iload hx hb dX0_wall_72 (lx_at hl 5 rfl) ?_
                  refine lv_iload hx hb dX0_wall_74 (lx_at hl 8 rfl) ?_
                  refine lv_iadd hx hb dX0_wall_76 ?_
                  refine lx_istore hx hb dX0_wall_77 hl (by decide) (fun ls hl => ?_)
                  refine lv_aload_n hx hb dX0_wall_79 rfl (lx_at hl 0 rfl) ?_
                  refine lv_iload hx hb dX0_wall_80 (lx_at hl 6 rfl) ?_
                  refine lv_iload_n hx hb dX0_wall_82 rfl (lx_at hl 2 rfl) ?_
                  refine lv_if_ne (tgt := 90) hx hb dX0_wall_83 (by decide) (fun c83 => ?_) (fun c83 => ?_)
                  · refine lv_iconst (v := 2) hx hb dX0_wall_90 (by decide) ?_
                    try rw [show (2 : Int32) = nI 2 from rfl]
                    refine xc_moved C hV (lx_sz hl) (by assumption) (by decide) ⟨by decide, by decide⟩ (Nat.le_of_ble_eq_true rfl) ⟨by decide, by decide⟩ dX0_wall_91 (fun H locs hV => ?_)
                    refine lx_istore hx hb dX0_wall_94 hl (by decide) (fun ls hl => ?_)
                    refine lx_iinc1 hx hb dX0_wall_96 hl rfl (fun ls hl => ?_)
                    refine lv_goto (tgt := 43) hx hb dX0_wall_99 (by decide) ?_
                    exact ih43 (i + 1) (_) (_) (_) (_) (_) (_) (by omega) (by rw [← hY]; simp [kx_wl, hf, c5, c11, c17, c23, c59, c83]) hV (lx_none hl 8)
                  · refine lv_iconst (v := 1) hx hb dX0_wall_86 (by decide) ?_
                    rw [show (1 : Int32) = nI 1 from rfl]
                    refine lv_goto (tgt := 91) hx hb dX0_wall_87 (by decide) ?_
                    try rw [show (2 : Int32) = nI 2 from rfl]
                    refine xc_moved C hV (lx_sz hl) (by assumption) (by decide) ⟨by decide, by decide⟩ (Nat.le_of_ble_eq_true rfl) ⟨by decide, by decide⟩ dX0_wall_91 (fun H locs hV => ?_)
                    refine lx_istore hx hb dX0_wall_94 hl (by decide) (fun ls hl => ?_)
                    refine lx_iinc1 hx hb dX0_wall_96 hl rfl (fun ls hl => ?_)
                    refine lv_goto (tgt := 43) hx hb dX0_wall_99 (by decide) ?_
                    exact ih43 (i + 1) (_) (_) (_) (_) (_) (_) (by omega) (by rw [← hY]; simp [kx_wl, hf, c5, c11, c17, c23, c59, c83]) hV (lx_none hl 8)
              · rw [kx_oI_neg hf] at hl
                refine lv_iload hx hb dX0_wall_50 (lx_at hl 6 rfl) ?_
                refine lv_if_lt (tgt := 102) hx hb dX0_wall_52 (by decide) (fun c52 => ?_) (fun c52 => absurd (by decide) c52)
                refine lv_aload_n hx hb dX0_wall_102 rfl (lx_at hl 0 rfl) ?_
                refine xc_recost C hV (lx_sz hl)  ⟨by decide, by decide⟩ (Nat.le_of_ble_eq_true rfl) ⟨by decide, by decide⟩ dX0_wall_103 (fun H locs hV => ?_)
                refine lv_iload hx hb dX0_wall_106 (lx_at hl 5 rfl) ?_
                exact hret _ _ _ _ _ _ (by rw [hWl, ← hY]; first | (simp [kx_wl]; done) | (simp [kx_wl, hf]; done)) (by rw [hWl, ← hY]; first | (simp [kx_wl]; done) | (simp [kx_wl, hf]; done)) hV dX0_wall_108
          exact loop43 N (0) (a) (0) (_) (_) (_) (_) (by omega) (rfl) hV hl
        · refine lv_iload_n hx hb dX0_wall_26 rfl (lx_at hl 3 rfl) ?_
          refine lv_ineg hx hb dX0_wall_27 ?_
          refine lv_goto (tgt := 32) hx hb dX0_wall_28 (by decide) ?_
          have hN1 := hN
          first | rw [if_pos c23] at hN1 | rw [if_neg c23] at hN1
          rw [hN1]
          refine lx_istore hx hb dX0_wall_32 hl (by decide) (fun ls hl => ?_)
          refine lv_iconst (v := 0) hx hb dX0_wall_34 (by decide) ?_
          refine lx_istore hx hb dX0_wall_35 hl (by decide) (fun ls hl => ?_)
          refine lv_iload_n hx hb dX0_wall_37 rfl (lx_at hl 1 rfl) ?_
          rw [← kx_oI_pos ha]
          refine lx_istore hx hb dX0_wall_38 hl (by decide) (fun ls hl => ?_)
          refine lv_iconst (v := 0) hx hb dX0_wall_40 (by decide) ?_
          refine lx_istore hx hb dX0_wall_41 hl (by decide) (fun ls hl => ?_)
          have loop43 : ∀ (n : Nat) (i a1 : Nat) (ch : Int32) (Y : cn_St) (H : Heap) (locs : List Loc) (ls : Array Slot), i + n = N → kx_wl (if n0 ≤ 0 then 0 else 1) (if down = 0 then 1 else 2) n a1 ch Y = kx_wl (if n0 ≤ 0 then 0 else 1) (if down = 0 then 1 else 2) N a 0 X → cn_V D (cn_Wx G E) A s.heap (Y) H locs → cn_lx ls 9 [some (.ref (G 11)), some (.int (nI a)), some (.int down), some (.int n0), some (.int (nI N)), some (.int ch), some (.int (kx_oI a1)), some (.int (nI i)), none] → W p l e ({ frames := 5, cells := 0, slots := 0, locals := 114 } : Room) s m args below meth c H locs 0 0 Q (F0 m 43 ls []) := by
            intro n
            induction n with
            | zero =>
              intro i a1 ch Y H locs ls hn hY hV hl
              refine lv_iload hx hb dX0_wall_43 (lx_at hl 7 rfl) ?_
              refine lv_iload hx hb dX0_wall_45 (lx_at hl 4 rfl) ?_
              refine lv_icmp_ge (tgt := 102) hx hb dX0_wall_47 (by decide) (fun c47 => ?_) (fun c47 => absurd (by rw [show i = N by omega]; exact nI_le (Nat.le_refl _) (by omega)) c47)
              refine lv_aload_n hx hb dX0_wall_102 rfl (lx_at hl 0 rfl) ?_
              refine xc_recost C hV (lx_sz hl)  ⟨by decide, by decide⟩ (Nat.le_of_ble_eq_true rfl) ⟨by decide, by decide⟩ dX0_wall_103 (fun H locs hV => ?_)
              refine lv_iload hx hb dX0_wall_106 (lx_at hl 5 rfl) ?_
              exact hret _ _ _ _ _ _ (by rw [hWl, ← hY]; first | (simp [kx_wl]; done) | (simp [kx_wl, hf]; done)) (by rw [hWl, ← hY]; first | (simp [kx_wl]; done) | (simp [kx_wl, hf]; done)) hV dX0_wall_108
            | succ n ih43 =>
              intro i a1 ch Y H locs ls hn hY hV hl
              have h_i : i < N := by omega
              refine lv_iload hx hb dX0_wall_43 (lx_at hl 7 rfl) ?_
              refine lv_iload hx hb dX0_wall_45 (lx_at hl 4 rfl) ?_
              refine lv_icmp_ge (tgt := 102) hx hb dX0_wall_47 (by decide) (fun c47 => absurd c47 (nI_ge h_i (by omega))) (fun c47 => ?_)
              by_cases hf : a1 < 81
              · rw [kx_oI_pos hf] at hl
                refine lv_iload hx hb dX0_wall_50 (lx_at hl 6 rfl) ?_
                refine lv_if_lt (tgt := 102) hx hb dX0_wall_52 (by decide) (fun c52 => absurd c52 (nI_pos (by omega))) (fun c52 => ?_)
                refine lv_aload_n hx hb dX0_wall_55 rfl (lx_at hl 0 rfl) ?_
                refine lv_iload hx hb dX0_wall_56 (lx_at hl 6 rfl) ?_
                refine lv_iload_n hx hb dX0_wall_58 rfl (lx_at hl 3 rfl) ?_
                refine lv_if_le (tgt := 66) hx hb dX0_wall_59 (by decide) (fun c59 => ?_) (fun c59 => ?_)
                · refine lv_iconst (v := 0) hx hb dX0_wall_66 (by decide) ?_
                  refine xc_put C hV (lx_sz hl) (by assumption) (by first | exact Or.inl rfl | exact Or.inr rfl) ⟨by decide, by decide⟩ (Nat.le_of_ble_eq_true rfl) ⟨by decide, by decide⟩ dX0_wall_67 (fun H locs hV => ?_)
                  refine lx_istore hx hb dX0_wall_70 hl (by decide) (fun ls hl => ?_)
                  refine lv_iload hx hb dX0_wall_72 (lx_at hl 5 rfl) ?_
                  refine lv_iload hx hb dX0_wall_74 (lx_at hl 8 rfl) ?_
                  refine lv_iadd hx hb dX0_wall_76 ?_
                  refine lx_istore hx hb dX0_wall_77 hl (by decide) (fun ls hl => ?_)
                  refine lv_aload_n hx hb dX0_wall_79 rfl (lx_at hl 0 rfl) ?_
                  refine lv_iload hx hb dX0_wall_80 (lx_at hl 6 rfl) ?_
                  refine lv_iload_n hx hb dX0_wall_82 rfl (lx_at hl 2 rfl) ?_
                  refine lv_if_ne (tgt := 90) hx hb dX0_wall_83 (by decide) (fun c83 => ?_) (fun c83 => ?_)
                  · refine lv_iconst (v := 2) hx hb dX0_wall_90 (by decide) ?_
                    try rw [show (2 : Int32) = nI 2 from rfl]
                    refine xc_moved C hV (lx_sz hl) (by assumption) (by decide) ⟨by decide, by decide⟩ (Nat.le_of_ble_eq_true rfl) ⟨by decide, by decide⟩ dX0_wall_91 (fun H locs hV => ?_)
                    refine lx_istore hx hb dX0_wall_94 hl (by decide) (fun ls hl => ?_)
                    refine lx_iinc1 hx hb dX0_wall_96 hl rfl (fun ls hl => ?_)
                    refine lv_goto (tgt := 43) hx hb dX0_wall_99 (by decide) ?_
                    exact ih43 (i + 1) (_) (_) (_) (_) (_) (_) (by omega) (by rw [← hY]; simp [kx_wl, hf, c5, c11, c17, c23, c59, c83]) hV (lx_none hl 8)
                  · refine lv_iconst (v := 1) hx hb dX0_wall_86 (by decide) ?_
                    rw [show (1 : Int32) = nI 1 from rfl]
                    refine lv_goto (tgt := 91) hx hb dX0_wall_87 (by decide) ?_
                    try rw [show (2 : Int32) = nI 2 from rfl]
                    refine xc_moved C hV (lx_sz hl) (by assumption) (by decide) ⟨by decide, by decide⟩ (Nat.le_of_ble_eq_true rfl) ⟨by decide, by decide⟩ dX0_wall_91 (fun H locs hV => ?_)
                    refine lx_istore hx hb dX0_wall_94 hl (by decide) (fun ls hl => ?_)
                    refine lx_iinc1 hx hb dX0_wall_96 hl rfl (fun ls hl => ?_)
                    refine lv_goto (tgt := 43) hx hb dX0_wall_99 (by decide) ?_
                    exact ih43 (i + 1) (_) (_) (_) (_) (_) (_) (by omega) (by rw [← hY]; simp [kx_wl, hf, c5, c11, c17, c23, c59, c83]) hV (lx_none hl 8)
                · refine lv_iconst (v := 1) hx hb dX0_wall_62 (by decide) ?_
                  refine lv_goto (tgt := 67) hx hb dX0_wall_63 (by decide) ?_
                  refine xc_put C hV (lx_sz hl) (by assumption) (by first | exact Or.inl rfl | exact Or.inr rfl) ⟨by decide, by decide⟩ (Nat.le_of_ble_eq_true rfl) ⟨by decide, by decide⟩ dX0_wall_67 (fun H locs hV => ?_)
                  refine lx_istore hx hb dX0_wall_70 hl (by decide) (fun ls hl => ?_)
                  refine lv_iload hx hb dX0_wall_72 (lx_at hl 5 rfl) ?_
                  refine lv_iload hx hb dX0_wall_74 (lx_at hl 8 rfl) ?_
                  refine lv_iadd hx hb dX0_wall_76 ?_
                  refine lx_istore hx hb dX0_wall_77 hl (by decide) (fun ls hl => ?_)
                  refine lv_aload_n hx hb dX0_wall_79 rfl (lx_at hl 0 rfl) ?_
                  refine lv_iload hx hb dX0_wall_80 (lx_at hl 6 rfl) ?_
                  refine lv_iload_n hx hb dX0_wall_82 rfl (lx_at hl 2 rfl) ?_
                  refine lv_if_ne (tgt := 90) hx hb dX0_wall_83 (by decide) (fun c83 => ?_) (fun c83 => ?_)
                  · refine lv_iconst (v := 2) hx hb dX0_wall_90 (by decide) ?_
                    try rw [show (2 : Int32) = nI 2 from rfl]
                    refine xc_moved C hV (lx_sz hl) (by assumption) (by decide) ⟨by decide, by decide⟩ (Nat.le_of_ble_eq_true rfl) ⟨by decide, by decide⟩ dX0_wall_91 (fun H locs hV => ?_)
                    refine lx_istore hx hb dX0_wall_94 hl (by decide) (fun ls hl => ?_)
                    refine lx_iinc1 hx hb dX0_wall_96 hl rfl (fun ls hl => ?_)
                    refine lv_goto (tgt := 43) hx hb dX0_wall_99 (by decide) ?_
                    exact ih43 (i + 1) (_) (_) (_) (_) (_) (_) (by omega) (by rw [← hY]; simp [kx_wl, hf, c5, c11, c17, c23, c59, c83]) hV (lx_none hl 8)
                  · refine lv_iconst (v := 1) hx hb dX0_wall_86 (by decide) ?_
                    rw [show (1 : Int32) = nI 1 from rfl]
                    refine lv_goto (tgt := 91) hx hb dX0_wall_87 (by decide) ?_
                    try rw [show (2 : Int32) = nI 2 from rfl]
                    refine xc_moved C hV (lx_sz hl) (by assumption) (by decide) ⟨by decide, by decide⟩ (Nat.le_of_ble_eq_true rfl) ⟨by decide, by decide⟩ dX0_wall_91 (fun H locs hV => ?_)
                    refine lx_istore hx hb dX0_wall_94 hl (by decide) (fun ls hl => ?_)
                    refine lx_iinc1 hx hb dX0_wall_96 hl rfl (fun ls hl => ?_)
                    refine lv_goto (tgt := 43) hx hb dX0_wall_99 (by decide) ?_
                    exact ih43 (i + 1) (_) (_) (_) (_) (_) (_) (by omega) (by rw [← hY]; simp [kx_wl, hf, c5, c11, c17, c23, c59, c83]) hV (lx_none hl 8)
              · rw [kx_oI_neg hf] at hl
                refine lv_iload hx hb dX0_wall_50 (lx_at hl 6 rfl) ?_
                refine lv_if_lt (tgt := 102) hx hb dX0_wall_52 (by decide) (fun c52 => ?_) (fun c52 => absurd (by decide) c52)
                refine lv_aload_n hx hb dX0_wall_102 rfl (lx_at hl 0 rfl) ?_
                refine xc_recost C hV (lx_sz hl)  ⟨by decide, by decide⟩ (Nat.le_of_ble_eq_true rfl) ⟨by decide, by decide⟩ dX0_wall_103 (fun H locs hV => ?_)
                refine lv_iload hx hb dX0_wall_106 (lx_at hl 5 rfl) ?_
                exact hret _ _ _ _ _ _ (by rw [hWl, ← hY]; first | (simp [kx_wl]; done) | (simp [kx_wl, hf]; done)) (by rw [hWl, ← hY]; first | (simp [kx_wl]; done) | (simp [kx_wl, hf]; done)) hV dX0_wall_108
          exact loop43 N (0) (a) (0) (_) (_) (_) (_) (by omega) (rfl) hV hl
      · refine lv_iconst (v := (-1)) hx hb dX0_wall_20 (by decide) ?_
        exact hret _ _ _ _ _ _ (by simp [kx_wall, c5, c11, c17]) (by simp [kx_wall, c5, c11, c17]) hV dX0_wall_21
end
section
set_option maxRecDepth 100000
set_option maxHeartbeats 4000000 in
set_option maxRecDepth 100000 in
theorem mt_isCell (l : Launch) (D : va_G) (G : Nat → Nat) (E : Nat → ClassId) (X : cn_St) (c0 : Int32)  : cn_mMi l yX1_isCell cX1_isCell 2 (some .boolean) ({ frames := 0, cells := 0, slots := 0, locals := 0 } : Room) D G E X [.int (c0)] (km_ic c0) (X) := by
  refine cn_mofi (ty := .boolean) rfl (by unfold km_ic; split; rfl; split <;> rfl) [some (.ref (G 7)), some (.int (c0))] (by decide) rfl (Nat.le_of_ble_eq_true rfl) (by intro v hv; simp only [List.mem_cons, List.not_mem_nil, or_false] at hv; rcases hv with rfl | rfl <;> rfl) rfl (Nat.le_of_ble_eq_true rfl) ?_
  intro p e s m args below meth c ls A Q H locs C hV hl hret
  obtain ⟨hx, hb, hml, hown, hts, hK, hrt, hlk⟩ := id C
  refine lv_iload_n hx hb dX1_isCell_0 rfl (lx_at hl 1 rfl) ?_
  refine lv_if_lt (tgt := 14) hx hb dX1_isCell_1 (by decide) (fun c1 => ?_) (fun c1 => ?_)
  · refine lv_iconst (v := 0) hx hb dX1_isCell_14 (by decide) ?_
    exact hret _ _ _ _ _ _ (by simp [km_ic, c1]) (rfl) hV dX1_isCell_15
  · refine lv_iload_n hx hb dX1_isCell_4 rfl (lx_at hl 1 rfl) ?_
    refine lv_bipush (v := 80) hx hb dX1_isCell_5 (by decide) ?_
    refine lv_icmp_gt (tgt := 14) hx hb dX1_isCell_7 (by decide) (fun c7 => ?_) (fun c7 => ?_)
    · refine lv_iconst (v := 0) hx hb dX1_isCell_14 (by decide) ?_
      exact hret _ _ _ _ _ _ (by simp [km_ic, c1, c7]) (rfl) hV dX1_isCell_15
    · refine lv_iconst (v := 1) hx hb dX1_isCell_10 (by decide) ?_
      refine lv_goto (tgt := 15) hx hb dX1_isCell_11 (by decide) ?_
      exact hret _ _ _ _ _ _ (by simp [km_ic, c1, c7]) (rfl) hV dX1_isCell_15
theorem mc_isCell {p : Program} {l : Launch} {e : Env} {R : Room} {s : State} {m : MethodId} {args : Array Value} {below : List Frame} {meth : Method} {c : Code} {H : Heap} {locs : List Loc} {cells slots : Nat} {Q : State → Prop} {cc : ByteArray} {nL : Nat} {ret : Option FieldType} {pc : Nat} {ls : Array Slot} {rest : List Value} {D : va_G} {G : Nat → Nat} {E : Nat → ClassId} {A : Nat → Prop} {H0 : Heap} {X : cn_St} {c0 : Int32} (C : cn_C RX1 D (cn_tm E) p s m args meth c cc nL ret) (hV : cn_V D (cn_Wm G E) A H0 X H locs) (hl : ls.size = nL)  (hR : 0 + 1 ≤ R.frames ∧ 8 + (2 + 11) + 0 ≤ R.locals) (hroom : (rest.map fun v => v.category).sum ≤ 8) (hcs : cells ≤ R.cells ∧ slots ≤ R.slots) (hdg : decode cc pc = .ok (.invokevirtual 30, 3))
    (kk : ∀ (H1 : Heap) (locs1 : List Loc), cn_V D (cn_Wm G E) A H0 (X) H1 locs1 → W p l e R s m args below meth c H1 locs1 cells slots Q (F0 m (pc + 3) ls (.int (km_ic c0) :: rest))) : W p l e R s m args below meth c H locs cells slots Q (F0 m pc ls (.int (c0) :: .ref (G 7) :: rest)) :=
  cn_mcalli (As := [.int (c0)]) (mt_isCell l D G E X c0) C hV hl ⟨q235, q237, qs17, q238⟩ (show yX1_isCell.cls = RX1 ∧ yX1_isCell.cls ≠ "java/lang/invoke/MethodHandle" ∧ yX1_isCell.cls ≠ "java/lang/invoke/VarHandle" ∧ (parseMethodDescriptor yX1_isCell.desc).map (fun d => d.parameters.length) = some 1 by decide +kernel) ⟨rfl, rfl⟩ hR rfl hroom hcs hdg kk

set_option maxHeartbeats 4000000 in
set_option maxRecDepth 100000 in
theorem mt_neighbour (l : Launch) (D : va_G) (G : Nat → Nat) (E : Nat → ClassId) (X : cn_St) (a d : Nat) (ha : a < 81) (hd : d < 4) : cn_mMi l yX1_neighbour cX1_neighbour 3 (some .int) ({ frames := 0, cells := 0, slots := 0, locals := 0 } : Room) D G E X [.int (nI a), .int (nI d)] (kx_oN (kx_mv a d)) (X) := by
  refine cn_mofi (ty := .int) rfl (vp_nar_int _) [some (.ref (G 7)), some (.int (nI a)), some (.int (nI d))] (by decide) rfl (Nat.le_of_ble_eq_true rfl) (by intro v hv; simp only [List.mem_cons, List.not_mem_nil, or_false] at hv; rcases hv with rfl | rfl | rfl <;> rfl) rfl (Nat.le_of_ble_eq_true rfl) ?_
  intro p e s m args below meth c ls A Q H locs C hV hl hret
  obtain ⟨hx, hb, hml, hown, hts, hK, hrt, hlk⟩ := id C
  refine lv_iload_n hx hb dX1_neighbour_0 rfl (lx_at hl 2 rfl) ?_
  refine lv_if_ne (tgt := 20) hx hb dX1_neighbour_1 (by decide) (fun c1 => ?_) (fun c1 => ?_)
  · refine lv_iload_n hx hb dX1_neighbour_20 rfl (lx_at hl 2 rfl) ?_
    refine lv_iconst (v := 1) hx hb dX1_neighbour_21 (by decide) ?_
    refine lv_icmp_ne (tgt := 43) hx hb dX1_neighbour_22 (by decide) (fun c22 => ?_) (fun c22 => ?_)
    · refine lv_iload_n hx hb dX1_neighbour_43 rfl (lx_at hl 2 rfl) ?_
      refine lv_iconst (v := 2) hx hb dX1_neighbour_44 (by decide) ?_
      refine lv_icmp_ne (tgt := 64) hx hb dX1_neighbour_45 (by decide) (fun c45 => ?_) (fun c45 => ?_)
      · refine lv_iload_n hx hb dX1_neighbour_64 rfl (lx_at hl 1 rfl) ?_
        refine lv_bipush (v := 9) hx hb dX1_neighbour_65 (by decide) ?_
        refine lv_irem hx hb dX1_neighbour_67 (by decide) ?_
        refine lv_if_ne (tgt := 76) hx hb dX1_neighbour_68 (by decide) (fun c68 => ?_) (fun c68 => ?_)
        · refine lv_iload_n hx hb dX1_neighbour_76 rfl (lx_at hl 1 rfl) ?_
          refine lv_iconst (v := 1) hx hb dX1_neighbour_77 (by decide) ?_
          refine lv_isub hx hb dX1_neighbour_78 ?_
          exact hret _ _ _ _ _ _ (by rw [← kx_nb_tab a ha d hd]; simp [kx_nbJ, c1, c22, c45, c68]) (rfl) hV dX1_neighbour_79
        · refine lv_bipush (v := (-4)) hx hb dX1_neighbour_71 (by decide) ?_
          refine lv_goto (tgt := 79) hx hb dX1_neighbour_73 (by decide) ?_
          exact hret _ _ _ _ _ _ (by rw [← kx_nb_tab a ha d hd]; simp [kx_nbJ, c1, c22, c45, c68]) (rfl) hV dX1_neighbour_79
      · refine lv_iload_n hx hb dX1_neighbour_48 rfl (lx_at hl 1 rfl) ?_
        refine lv_bipush (v := 71) hx hb dX1_neighbour_49 (by decide) ?_
        refine lv_icmp_le (tgt := 59) hx hb dX1_neighbour_51 (by decide) (fun c51 => ?_) (fun c51 => ?_)
        · refine lv_iload_n hx hb dX1_neighbour_59 rfl (lx_at hl 1 rfl) ?_
          refine lv_bipush (v := 9) hx hb dX1_neighbour_60 (by decide) ?_
          refine lv_iadd hx hb dX1_neighbour_62 ?_
          exact hret _ _ _ _ _ _ (by rw [← kx_nb_tab a ha d hd]; simp [kx_nbJ, c1, c22, c45, c51]) (rfl) hV dX1_neighbour_63
        · refine lv_bipush (v := (-4)) hx hb dX1_neighbour_54 (by decide) ?_
          refine lv_goto (tgt := 63) hx hb dX1_neighbour_56 (by decide) ?_
          exact hret _ _ _ _ _ _ (by rw [← kx_nb_tab a ha d hd]; simp [kx_nbJ, c1, c22, c45, c51]) (rfl) hV dX1_neighbour_63
    · refine lv_iload_n hx hb dX1_neighbour_25 rfl (lx_at hl 1 rfl) ?_
      refine lv_bipush (v := 9) hx hb dX1_neighbour_26 (by decide) ?_
      refine lv_irem hx hb dX1_neighbour_28 (by decide) ?_
      refine lv_bipush (v := 8) hx hb dX1_neighbour_29 (by decide) ?_
      refine lv_icmp_ne (tgt := 39) hx hb dX1_neighbour_31 (by decide) (fun c31 => ?_) (fun c31 => ?_)
      · refine lv_iload_n hx hb dX1_neighbour_39 rfl (lx_at hl 1 rfl) ?_
        refine lv_iconst (v := 1) hx hb dX1_neighbour_40 (by decide) ?_
        refine lv_iadd hx hb dX1_neighbour_41 ?_
        exact hret _ _ _ _ _ _ (by rw [← kx_nb_tab a ha d hd]; simp [kx_nbJ, c1, c22, c31]) (rfl) hV dX1_neighbour_42
      · refine lv_bipush (v := (-4)) hx hb dX1_neighbour_34 (by decide) ?_
        refine lv_goto (tgt := 42) hx hb dX1_neighbour_36 (by decide) ?_
        exact hret _ _ _ _ _ _ (by rw [← kx_nb_tab a ha d hd]; simp [kx_nbJ, c1, c22, c31]) (rfl) hV dX1_neighbour_42
  · refine lv_iload_n hx hb dX1_neighbour_4 rfl (lx_at hl 1 rfl) ?_
    refine lv_bipush (v := 9) hx hb dX1_neighbour_5 (by decide) ?_
    refine lv_icmp_ge (tgt := 15) hx hb dX1_neighbour_7 (by decide) (fun c7 => ?_) (fun c7 => ?_)
    · refine lv_iload_n hx hb dX1_neighbour_15 rfl (lx_at hl 1 rfl) ?_
      refine lv_bipush (v := 9) hx hb dX1_neighbour_16 (by decide) ?_
      refine lv_isub hx hb dX1_neighbour_18 ?_
      exact hret _ _ _ _ _ _ (by rw [← kx_nb_tab a ha d hd]; simp [kx_nbJ, c1, c7]) (rfl) hV dX1_neighbour_19
    · refine lv_bipush (v := (-4)) hx hb dX1_neighbour_10 (by decide) ?_
      refine lv_goto (tgt := 19) hx hb dX1_neighbour_12 (by decide) ?_
      exact hret _ _ _ _ _ _ (by rw [← kx_nb_tab a ha d hd]; simp [kx_nbJ, c1, c7]) (rfl) hV dX1_neighbour_19
theorem mc_neighbour {p : Program} {l : Launch} {e : Env} {R : Room} {s : State} {m : MethodId} {args : Array Value} {below : List Frame} {meth : Method} {c : Code} {H : Heap} {locs : List Loc} {cells slots : Nat} {Q : State → Prop} {cc : ByteArray} {nL : Nat} {ret : Option FieldType} {pc : Nat} {ls : Array Slot} {rest : List Value} {D : va_G} {G : Nat → Nat} {E : Nat → ClassId} {A : Nat → Prop} {H0 : Heap} {X : cn_St} {a d : Nat} (C : cn_C RX1 D (cn_tm E) p s m args meth c cc nL ret) (hV : cn_V D (cn_Wm G E) A H0 X H locs) (hl : ls.size = nL) (ha : a < 81) (hd : d < 4) (hR : 0 + 1 ≤ R.frames ∧ 8 + (3 + 11) + 0 ≤ R.locals) (hroom : (rest.map fun v => v.category).sum ≤ 8) (hcs : cells ≤ R.cells ∧ slots ≤ R.slots) (hdg : decode cc pc = .ok (.invokevirtual 41, 3))
    (kk : ∀ (H1 : Heap) (locs1 : List Loc), cn_V D (cn_Wm G E) A H0 (X) H1 locs1 → W p l e R s m args below meth c H1 locs1 cells slots Q (F0 m (pc + 3) ls (.int (kx_oN (kx_mv a d)) :: rest))) : W p l e R s m args below meth c H locs cells slots Q (F0 m pc ls (.int (nI d) :: .int (nI a) :: .ref (G 7) :: rest)) :=
  cn_mcalli (As := [.int (nI a), .int (nI d)]) (mt_neighbour l D G E X a d ha hd) C hV hl ⟨q286, q288, qs20, q289⟩ (show yX1_neighbour.cls = RX1 ∧ yX1_neighbour.cls ≠ "java/lang/invoke/MethodHandle" ∧ yX1_neighbour.cls ≠ "java/lang/invoke/VarHandle" ∧ (parseMethodDescriptor yX1_neighbour.desc).map (fun d => d.parameters.length) = some 2 by decide +kernel) ⟨rfl, rfl⟩ hR rfl hroom hcs hdg kk

set_option maxHeartbeats 4000000 in
set_option maxRecDepth 100000 in
theorem mt_where (l : Launch) (D : va_G) (G : Nat → Nat) (E : Nat → ClassId) (X : cn_St)   : cn_mMi l yX1_where cX1_where 1 (some .int) ({ frames := 0, cells := 0, slots := 0, locals := 0 } : Room) D G E X [] (X 1 0) (X) := by
  refine cn_mofi (ty := .int) rfl (vp_nar_int _) [some (.ref (G 7))] (by decide) rfl (Nat.le_of_ble_eq_true rfl) (by intro v hv; simp only [List.mem_cons, List.not_mem_nil, or_false] at hv; rcases hv with rfl <;> rfl) rfl (Nat.le_of_ble_eq_true rfl) ?_
  intro p e s m args below meth c ls A Q H locs C hV hl hret
  obtain ⟨hx, hb, hml, hown, hts, hK, hrt, hlk⟩ := id C
  refine lv_aload_n hx hb dX1_where_0 rfl (lx_at hl 0 rfl) ?_
  refine mg_1 C hV dX1_where_1 ?_
  exact hret _ _ _ _ _ _ (rfl) (rfl) hV dX1_where_4

set_option maxHeartbeats 4000000 in
set_option maxRecDepth 100000 in
theorem mt_tune (l : Launch) (D : va_G) (G : Nat → Nat) (E : Nat → ClassId) (X : cn_St) (c0 g0 : Int32)  : cn_mMi l yX1_tune cX1_tune 3 (some .int) ({ frames := 0, cells := 0, slots := 0, locals := 0 } : Room) D G E X [.int (c0), .int (g0)] ((km_tune c0 g0 X).1) ((km_tune c0 g0 X).2) := by
  refine cn_mofi (ty := .int) rfl (vp_nar_int _) [some (.ref (G 7)), some (.int (c0)), some (.int (g0))] (by decide) rfl (Nat.le_of_ble_eq_true rfl) (by intro v hv; simp only [List.mem_cons, List.not_mem_nil, or_false] at hv; rcases hv with rfl | rfl | rfl <;> rfl) rfl (Nat.le_of_ble_eq_true rfl) ?_
  intro p e s m args below meth c ls A Q H locs C hV hl hret
  obtain ⟨hx, hb, hml, hown, hts, hK, hrt, hlk⟩ := id C
  refine lv_iload_n hx hb dX1_tune_0 rfl (lx_at hl 1 rfl) ?_
  refine lv_if_lt (tgt := 19) hx hb dX1_tune_1 (by decide) (fun c1 => ?_) (fun c1 => ?_)
  · refine lv_iconst (v := (-1)) hx hb dX1_tune_19 (by decide) ?_
    exact hret _ _ _ _ _ _ (by simp [km_tune, c1]) (by simp [km_tune, c1]) hV dX1_tune_20
  · refine lv_iload_n hx hb dX1_tune_4 rfl (lx_at hl 1 rfl) ?_
    refine lv_iconst (v := 3) hx hb dX1_tune_5 (by decide) ?_
    refine lv_icmp_gt (tgt := 19) hx hb dX1_tune_6 (by decide) (fun c6 => ?_) (fun c6 => ?_)
    · refine lv_iconst (v := (-1)) hx hb dX1_tune_19 (by decide) ?_
      exact hret _ _ _ _ _ _ (by simp [km_tune, c1, c6]) (by simp [km_tune, c1, c6]) hV dX1_tune_20
    · refine lv_iload_n hx hb dX1_tune_9 rfl (lx_at hl 2 rfl) ?_
      refine lv_if_lt (tgt := 19) hx hb dX1_tune_10 (by decide) (fun c10 => ?_) (fun c10 => ?_)
      · refine lv_iconst (v := (-1)) hx hb dX1_tune_19 (by decide) ?_
        exact hret _ _ _ _ _ _ (by simp [km_tune, c1, c6, c10]) (by simp [km_tune, c1, c6, c10]) hV dX1_tune_20
      · refine lv_iload_n hx hb dX1_tune_13 rfl (lx_at hl 2 rfl) ?_
        refine lv_bipush (v := 9) hx hb dX1_tune_14 (by decide) ?_
        refine lv_icmp_le (tgt := 21) hx hb dX1_tune_16 (by decide) (fun c16 => ?_) (fun c16 => ?_)
        · refine lv_aload_n hx hb dX1_tune_21 rfl (lx_at hl 0 rfl) ?_
          refine lv_iload_n hx hb dX1_tune_22 rfl (lx_at hl 1 rfl) ?_
          refine mp_3 C hV dX1_tune_23 (fun H locs hV => ?_)
          refine lv_aload_n hx hb dX1_tune_26 rfl (lx_at hl 0 rfl) ?_
          refine lv_iload_n hx hb dX1_tune_27 rfl (lx_at hl 2 rfl) ?_
          refine mp_4 C hV dX1_tune_28 (fun H locs hV => ?_)
          refine lv_iconst (v := 0) hx hb dX1_tune_31 (by decide) ?_
          exact hret _ _ _ _ _ _ (by simp [km_tune, c1, c6, c10, c16]) (by simp [km_tune, c1, c6, c10, c16]) hV dX1_tune_32
        · refine lv_iconst (v := (-1)) hx hb dX1_tune_19 (by decide) ?_
          exact hret _ _ _ _ _ _ (by simp [km_tune, c1, c6, c10, c16]) (by simp [km_tune, c1, c6, c10, c16]) hV dX1_tune_20

set_option maxHeartbeats 4000000 in
set_option maxRecDepth 100000 in
theorem mt_place (l : Launch) (D : va_G) (G : Nat → Nat) (E : Nat → ClassId) (X : cn_St) (c0 : Int32)  : cn_mMi l yX1_place cX1_place 3 (some .int) ({ frames := 1, cells := 0, slots := 0, locals := 21 } : Room) D G E X [.int (c0)] ((km_plc c0 X).1) ((km_plc c0 X).2) := by
  refine cn_mofi (ty := .int) rfl (vp_nar_int _) [some (.ref (G 7)), some (.int (c0)), none] (by decide) rfl (Nat.le_of_ble_eq_true rfl) (by intro v hv; simp only [List.mem_cons, List.not_mem_nil, or_false] at hv; rcases hv with rfl | rfl <;> rfl) rfl (Nat.le_of_ble_eq_true rfl) ?_
  intro p e s m args below meth c ls A Q H locs C hV hl hret
  obtain ⟨hx, hb, hml, hown, hts, hK, hrt, hlk⟩ := id C
  refine lv_aload_n hx hb dX1_place_0 rfl (lx_at hl 0 rfl) ?_
  refine lv_iload_n hx hb dX1_place_1 rfl (lx_at hl 1 rfl) ?_
  refine mc_isCell C hV (lx_sz hl)  ⟨by decide, by decide⟩ (Nat.le_of_ble_eq_true rfl) ⟨by decide, by decide⟩ dX1_place_2 (fun H locs hV => ?_)
  refine lv_if_ne (tgt := 10) hx hb dX1_place_5 (by decide) (fun c5 => ?_) (fun c5 => ?_)
  · refine lv_aload_n hx hb dX1_place_10 rfl (lx_at hl 0 rfl) ?_
    refine mg_1 C hV dX1_place_11 ?_
    refine lx_istore_n (i := 2) hx hb dX1_place_14 rfl hl (by decide) (fun ls hl => ?_)
    refine lv_aload_n hx hb dX1_place_15 rfl (lx_at hl 0 rfl) ?_
    refine lv_iload_n hx hb dX1_place_16 rfl (lx_at hl 1 rfl) ?_
    refine mp_1 C hV dX1_place_17 (fun H locs hV => ?_)
    refine lv_iload_n hx hb dX1_place_20 rfl (lx_at hl 2 rfl) ?_
    exact hret _ _ _ _ _ _ (by simp [km_plc, c5]) (by simp [km_plc, c5]) hV dX1_place_21
  · refine lv_iconst (v := (-1)) hx hb dX1_place_8 (by decide) ?_
    exact hret _ _ _ _ _ _ (by simp [km_plc, c5]) (by simp [km_plc, c5]) hV dX1_place_9

set_option maxHeartbeats 4000000 in
set_option maxRecDepth 100000 in
theorem mt_goal (l : Launch) (D : va_G) (G : Nat → Nat) (E : Nat → ClassId) (X : cn_St) (c0 : Int32)  : cn_mMi l yX1_goal cX1_goal 3 (some .int) ({ frames := 1, cells := 0, slots := 0, locals := 21 } : Room) D G E X [.int (c0)] ((km_goal c0 X).1) ((km_goal c0 X).2) := by
  refine cn_mofi (ty := .int) rfl (vp_nar_int _) [some (.ref (G 7)), some (.int (c0)), none] (by decide) rfl (Nat.le_of_ble_eq_true rfl) (by intro v hv; simp only [List.mem_cons, List.not_mem_nil, or_false] at hv; rcases hv with rfl | rfl <;> rfl) rfl (Nat.le_of_ble_eq_true rfl) ?_
  intro p e s m args below meth c ls A Q H locs C hV hl hret
  obtain ⟨hx, hb, hml, hown, hts, hK, hrt, hlk⟩ := id C
  refine lv_aload_n hx hb dX1_goal_0 rfl (lx_at hl 0 rfl) ?_
  refine lv_iload_n hx hb dX1_goal_1 rfl (lx_at hl 1 rfl) ?_
  refine mc_isCell C hV (lx_sz hl)  ⟨by decide, by decide⟩ (Nat.le_of_ble_eq_true rfl) ⟨by decide, by decide⟩ dX1_goal_2 (fun H locs hV => ?_)
  refine lv_if_ne (tgt := 10) hx hb dX1_goal_5 (by decide) (fun c5 => ?_) (fun c5 => ?_)
  · refine lv_aload_n hx hb dX1_goal_10 rfl (lx_at hl 0 rfl) ?_
    refine mg_2 C hV dX1_goal_11 ?_
    refine lx_istore_n (i := 2) hx hb dX1_goal_14 rfl hl (by decide) (fun ls hl => ?_)
    refine lv_aload_n hx hb dX1_goal_15 rfl (lx_at hl 0 rfl) ?_
    refine lv_iload_n hx hb dX1_goal_16 rfl (lx_at hl 1 rfl) ?_
    refine mp_2 C hV dX1_goal_17 (fun H locs hV => ?_)
    refine lv_iload_n hx hb dX1_goal_20 rfl (lx_at hl 2 rfl) ?_
    exact hret _ _ _ _ _ _ (by simp [km_goal, c5]) (by simp [km_goal, c5]) hV dX1_goal_21
  · refine lv_iconst (v := (-1)) hx hb dX1_goal_8 (by decide) ?_
    exact hret _ _ _ _ _ _ (by simp [km_goal, c5]) (by simp [km_goal, c5]) hV dX1_goal_9

set_option maxHeartbeats 4000000 in
set_option maxRecDepth 100000 in
theorem mt_blocked (l : Launch) (D : va_G) (G : Nat → Nat) (E : Nat → ClassId) (X : cn_St) (c0 : Int32)  : cn_mMi l yX1_blocked cX1_blocked 2 (some .boolean) ({ frames := 1, cells := 0, slots := 0, locals := 21 } : Room) D G E X [.int (c0)] (km_bld c0 X) (X) := by
  refine cn_mofi (ty := .boolean) rfl (by unfold km_bld; split; rfl; split <;> rfl) [some (.ref (G 7)), some (.int (c0))] (by decide) rfl (Nat.le_of_ble_eq_true rfl) (by intro v hv; simp only [List.mem_cons, List.not_mem_nil, or_false] at hv; rcases hv with rfl | rfl <;> rfl) rfl (Nat.le_of_ble_eq_true rfl) ?_
  intro p e s m args below meth c ls A Q H locs C hV hl hret
  obtain ⟨hx, hb, hml, hown, hts, hK, hrt, hlk⟩ := id C
  refine lv_aload_n hx hb dX1_blocked_0 rfl (lx_at hl 0 rfl) ?_
  refine lv_iload_n hx hb dX1_blocked_1 rfl (lx_at hl 1 rfl) ?_
  refine mc_isCell C hV (lx_sz hl)  ⟨by decide, by decide⟩ (Nat.le_of_ble_eq_true rfl) ⟨by decide, by decide⟩ dX1_blocked_2 (fun H locs hV => ?_)
  refine lv_if_eq (tgt := 21) hx hb dX1_blocked_5 (by decide) (fun c5 => ?_) (fun c5 => ?_)
  · refine lv_iconst (v := 0) hx hb dX1_blocked_21 (by decide) ?_
    exact hret _ _ _ _ _ _ (by simp [km_bld, c5]) (rfl) hV dX1_blocked_22
  · obtain ⟨a, ha, rfl⟩ := km_ic_1 c5
    have hq : (nI a).toNatClampNeg = a := nI_clamp (by omega)
    refine lv_aload_n hx hb dX1_blocked_8 rfl (lx_at hl 0 rfl) ?_
    refine mg_0 C hV dX1_blocked_9 ?_
    refine lv_iload_n hx hb dX1_blocked_12 rfl (lx_at hl 1 rfl) ?_
    refine ml_0 C hV (by assumption) dX1_blocked_13 ?_
    refine lv_if_eq (tgt := 21) hx hb dX1_blocked_14 (by decide) (fun c14 => ?_) (fun c14 => ?_)
    · refine lv_iconst (v := 0) hx hb dX1_blocked_21 (by decide) ?_
      exact hret _ _ _ _ _ _ (by simp [km_bld, c5, c14, hq]) (rfl) hV dX1_blocked_22
    · refine lv_iconst (v := 1) hx hb dX1_blocked_17 (by decide) ?_
      refine lv_goto (tgt := 22) hx hb dX1_blocked_18 (by decide) ?_
      exact hret _ _ _ _ _ _ (by simp [km_bld, c5, c14, hq]) (rfl) hV dX1_blocked_22

set_option maxHeartbeats 4000000 in
set_option maxRecDepth 100000 in
theorem mt_block (l : Launch) (D : va_G) (G : Nat → Nat) (E : Nat → ClassId) (X : cn_St) (c0 on : Int32)  : cn_mMi l yX1_block cX1_block 4 (some .int) ({ frames := 1, cells := 0, slots := 0, locals := 21 } : Room) D G E X [.int (c0), .int (on)] ((km_blk c0 on X).1) ((km_blk c0 on X).2) := by
  refine cn_mofi (ty := .int) rfl (vp_nar_int _) [some (.ref (G 7)), some (.int (c0)), some (.int (on)), none] (by decide) rfl (Nat.le_of_ble_eq_true rfl) (by intro v hv; simp only [List.mem_cons, List.not_mem_nil, or_false] at hv; rcases hv with rfl | rfl | rfl <;> rfl) rfl (Nat.le_of_ble_eq_true rfl) ?_
  intro p e s m args below meth c ls A Q H locs C hV hl hret
  obtain ⟨hx, hb, hml, hown, hts, hK, hrt, hlk⟩ := id C
  refine lv_aload_n hx hb dX1_block_0 rfl (lx_at hl 0 rfl) ?_
  refine lv_iload_n hx hb dX1_block_1 rfl (lx_at hl 1 rfl) ?_
  refine mc_isCell C hV (lx_sz hl)  ⟨by decide, by decide⟩ (Nat.le_of_ble_eq_true rfl) ⟨by decide, by decide⟩ dX1_block_2 (fun H locs hV => ?_)
  refine lv_if_ne (tgt := 10) hx hb dX1_block_5 (by decide) (fun c5 => ?_) (fun c5 => ?_)
  · obtain ⟨a, ha, rfl⟩ := km_ic_1 c5
    have hq : (nI a).toNatClampNeg = a := nI_clamp (by omega)
    refine lv_aload_n hx hb dX1_block_10 rfl (lx_at hl 0 rfl) ?_
    refine mg_0 C hV dX1_block_11 ?_
    refine lv_iload_n hx hb dX1_block_14 rfl (lx_at hl 1 rfl) ?_
    refine ml_0 C hV (by assumption) dX1_block_15 ?_
    refine lv_if_eq (tgt := 23) hx hb dX1_block_16 (by decide) (fun c16 => ?_) (fun c16 => ?_)
    · refine lv_iconst (v := 0) hx hb dX1_block_23 (by decide) ?_
      refine lx_istore_n (i := 3) hx hb dX1_block_24 rfl hl (by decide) (fun ls hl => ?_)
      refine lv_aload_n hx hb dX1_block_25 rfl (lx_at hl 0 rfl) ?_
      refine mg_0 C hV dX1_block_26 ?_
      refine lv_iload_n hx hb dX1_block_29 rfl (lx_at hl 1 rfl) ?_
      refine lv_iload_n hx hb dX1_block_30 rfl (lx_at hl 2 rfl) ?_
      refine lv_if_eq (tgt := 38) hx hb dX1_block_31 (by decide) (fun c31 => ?_) (fun c31 => ?_)
      · refine lv_iconst (v := 0) hx hb dX1_block_38 (by decide) ?_
        refine ms_0 C hV (by assumption) (by first | exact Or.inl rfl | exact Or.inr rfl | assumption) dX1_block_39 (fun H locs hV => ?_)
        refine lv_iload_n hx hb dX1_block_40 rfl (lx_at hl 3 rfl) ?_
        exact hret _ _ _ _ _ _ (by simp [km_blk, c5, c16, c31, hq]) (by simp [km_blk, c5, c16, c31, hq]) hV dX1_block_41
      · refine lv_iconst (v := 1) hx hb dX1_block_34 (by decide) ?_
        refine lv_goto (tgt := 39) hx hb dX1_block_35 (by decide) ?_
        refine ms_0 C hV (by assumption) (by first | exact Or.inl rfl | exact Or.inr rfl | assumption) dX1_block_39 (fun H locs hV => ?_)
        refine lv_iload_n hx hb dX1_block_40 rfl (lx_at hl 3 rfl) ?_
        exact hret _ _ _ _ _ _ (by simp [km_blk, c5, c16, c31, hq]) (by simp [km_blk, c5, c16, c31, hq]) hV dX1_block_41
    · refine lv_iconst (v := 1) hx hb dX1_block_19 (by decide) ?_
      refine lv_goto (tgt := 24) hx hb dX1_block_20 (by decide) ?_
      refine lx_istore_n (i := 3) hx hb dX1_block_24 rfl hl (by decide) (fun ls hl => ?_)
      refine lv_aload_n hx hb dX1_block_25 rfl (lx_at hl 0 rfl) ?_
      refine mg_0 C hV dX1_block_26 ?_
      refine lv_iload_n hx hb dX1_block_29 rfl (lx_at hl 1 rfl) ?_
      refine lv_iload_n hx hb dX1_block_30 rfl (lx_at hl 2 rfl) ?_
      refine lv_if_eq (tgt := 38) hx hb dX1_block_31 (by decide) (fun c31 => ?_) (fun c31 => ?_)
      · refine lv_iconst (v := 0) hx hb dX1_block_38 (by decide) ?_
        refine ms_0 C hV (by assumption) (by first | exact Or.inl rfl | exact Or.inr rfl | assumption) dX1_block_39 (fun H locs hV => ?_)
        refine lv_iload_n hx hb dX1_block_40 rfl (lx_at hl 3 rfl) ?_
        exact hret _ _ _ _ _ _ (by simp [km_blk, c5, c16, c31, hq]) (by simp [km_blk, c5, c16, c31, hq]) hV dX1_block_41
      · refine lv_iconst (v := 1) hx hb dX1_block_34 (by decide) ?_
        refine lv_goto (tgt := 39) hx hb dX1_block_35 (by decide) ?_
        refine ms_0 C hV (by assumption) (by first | exact Or.inl rfl | exact Or.inr rfl | assumption) dX1_block_39 (fun H locs hV => ?_)
        refine lv_iload_n hx hb dX1_block_40 rfl (lx_at hl 3 rfl) ?_
        exact hret _ _ _ _ _ _ (by simp [km_blk, c5, c16, c31, hq]) (by simp [km_blk, c5, c16, c31, hq]) hV dX1_block_41
  · refine lv_iconst (v := (-1)) hx hb dX1_block_8 (by decide) ?_
    exact hret _ _ _ _ _ _ (by simp [km_blk, c5]) (by simp [km_blk, c5]) hV dX1_block_9
end
section
set_option maxRecDepth 100000
set_option maxHeartbeats 4000000 in
set_option maxRecDepth 100000 in
theorem mt_wall (l : Launch) (D : va_G) (G : Nat → Nat) (E : Nat → ClassId) (X : cn_St) (c0 down n0 : Int32)  : cn_mMi l yX1_wall cX1_wall 9 (some .int) ({ frames := 1, cells := 0, slots := 0, locals := 21 } : Room) D G E X [.int (c0), .int (down), .int (n0)] ((km_wall c0 down n0 X).1) ((km_wall c0 down n0 X).2) := by
  refine cn_mofi (ty := .int) rfl (vp_nar_int _) [some (.ref (G 7)), some (.int (c0)), some (.int (down)), some (.int (n0)), none, none, none, none, none] (by decide) rfl (Nat.le_of_ble_eq_true rfl) (by intro v hv; simp only [List.mem_cons, List.not_mem_nil, or_false] at hv; rcases hv with rfl | rfl | rfl | rfl <;> rfl) rfl (Nat.le_of_ble_eq_true rfl) ?_
  intro p e s m args below meth c ls A Q H locs C hV hl hret
  obtain ⟨hx, hb, hml, hown, hts, hK, hrt, hlk⟩ := id C
  refine lv_aload_n hx hb dX1_wall_0 rfl (lx_at hl 0 rfl) ?_
  refine lv_iload_n hx hb dX1_wall_1 rfl (lx_at hl 1 rfl) ?_
  refine mc_isCell C hV (lx_sz hl)  ⟨by decide, by decide⟩ (Nat.le_of_ble_eq_true rfl) ⟨by decide, by decide⟩ dX1_wall_2 (fun H locs hV => ?_)
  refine lv_if_eq (tgt := 20) hx hb dX1_wall_5 (by decide) (fun c5 => ?_) (fun c5 => ?_)
  · refine lv_iconst (v := (-1)) hx hb dX1_wall_20 (by decide) ?_
    exact hret _ _ _ _ _ _ (by simp [km_wall, c5]) (by simp [km_wall, c5]) hV dX1_wall_21
  · refine lv_iload_n hx hb dX1_wall_8 rfl (lx_at hl 3 rfl) ?_
    refine lv_bipush (v := (-9)) hx hb dX1_wall_9 (by decide) ?_
    refine lv_icmp_lt (tgt := 20) hx hb dX1_wall_11 (by decide) (fun c11 => ?_) (fun c11 => ?_)
    · refine lv_iconst (v := (-1)) hx hb dX1_wall_20 (by decide) ?_
      exact hret _ _ _ _ _ _ (by simp [km_wall, c5, c11]) (by simp [km_wall, c5, c11]) hV dX1_wall_21
    · refine lv_iload_n hx hb dX1_wall_14 rfl (lx_at hl 3 rfl) ?_
      refine lv_bipush (v := 9) hx hb dX1_wall_15 (by decide) ?_
      refine lv_icmp_le (tgt := 22) hx hb dX1_wall_17 (by decide) (fun c17 => ?_) (fun c17 => ?_)
      · obtain ⟨a, ha, rfl⟩ := km_ic_1 c5
        have hq : (nI a).toNatClampNeg = a := nI_clamp (by omega)
        obtain ⟨N, hN9, hN⟩ := kx_many c11 c17
        have hWl : km_wall (nI a) down n0 X = kx_lp (km_w1 (if n0 ≤ 0 then 0 else 1) down a) N (0, X) := by
          rw [km_wall, if_neg c5, if_neg c11, if_pos c17, hN, hq, nI_clamp (n := N) (by omega)]
        refine lv_iload_n hx hb dX1_wall_22 rfl (lx_at hl 3 rfl) ?_
        refine lv_if_ge (tgt := 31) hx hb dX1_wall_23 (by decide) (fun c23 => ?_) (fun c23 => ?_)
        · refine lv_iload_n hx hb dX1_wall_31 rfl (lx_at hl 3 rfl) ?_
          have hN1 := hN
          first | rw [if_pos c23] at hN1 | rw [if_neg c23] at hN1
          rw [hN1]
          refine lx_istore hx hb dX1_wall_32 hl (by decide) (fun ls hl => ?_)
          refine lv_iconst (v := 0) hx hb dX1_wall_34 (by decide) ?_
          refine lx_istore hx hb dX1_wall_35 hl (by decide) (fun ls hl => ?_)
          refine lv_iconst (v := 0) hx hb dX1_wall_37 (by decide) ?_
          refine lx_istore hx hb dX1_wall_38 hl (by decide) (fun ls hl => ?_)
          have loop40 : ∀ (n : Nat) (i : Nat) (b : Int32) (Y : cn_St) (H : Heap) (locs : List Loc) (ls : Array Slot), i + n = N → (b, Y) = kx_lp (km_w1 (if n0 ≤ 0 then 0 else 1) down a) i (0, X) → cn_V D (cn_Wm G E) A s.heap (Y) H locs → cn_lx ls 9 [some (.ref (G 7)), some (.int (nI a)), some (.int down), some (.int n0), some (.int (nI N)), some (.int b), some (.int (nI i)), none, none] → W p l e ({ frames := 1, cells := 0, slots := 0, locals := 21 } : Room) s m args below meth c H locs 0 0 Q (F0 m 40 ls []) := by
            intro n
            induction n with
            | zero =>
              intro i b Y H locs ls hn hY hV hl
              refine lv_iload hx hb dX1_wall_40 (lx_at hl 6 rfl) ?_
              refine lv_iload hx hb dX1_wall_42 (lx_at hl 4 rfl) ?_
              refine lv_icmp_ge (tgt := 159) hx hb dX1_wall_44 (by decide) (fun c44 => ?_) (fun c44 => absurd (by rw [show i = N by omega]; exact nI_le (Nat.le_refl _) (by omega)) c44)
              refine lv_iload hx hb dX1_wall_159 (lx_at hl 5 rfl) ?_
              exact hret _ _ _ _ _ _ (by rw [hWl, ← show i = N by omega, ← hY]) (by rw [hWl, ← show i = N by omega, ← hY]) hV dX1_wall_161
            | succ n ih40 =>
              intro i b Y H locs ls hn hY hV hl
              have h_i : i < N := by omega
              refine lv_iload hx hb dX1_wall_40 (lx_at hl 6 rfl) ?_
              refine lv_iload hx hb dX1_wall_42 (lx_at hl 4 rfl) ?_
              refine lv_icmp_ge (tgt := 159) hx hb dX1_wall_44 (by decide) (fun c44 => absurd c44 (nI_ge h_i (by omega))) (fun c44 => ?_)
              by_cases hd : down = 0
              · refine lv_iload_n hx hb dX1_wall_47 rfl (lx_at hl 2 rfl) ?_
                refine lv_if_eq (tgt := 71) hx hb dX1_wall_48 (by decide) (fun c48 => ?_) (fun c48 => absurd (hd) c48)
                refine lv_iload_n hx hb dX1_wall_71 rfl (lx_at hl 1 rfl) ?_
                refine lv_bipush (v := 9) hx hb dX1_wall_72 (by decide) ?_
                refine lv_irem hx hb dX1_wall_74 (by decide) ?_
                refine lv_iload hx hb dX1_wall_75 (lx_at hl 6 rfl) ?_
                refine lv_iadd hx hb dX1_wall_77 ?_
                rw [km_rem9 ha, nI_add]
                by_cases hin : a % 9 + i < 9
                · have ht : a + i < 81 := by omega
                  refine lv_bipush (v := 9) hx hb dX1_wall_78 (by decide) ?_
                  refine lv_icmp_ge (tgt := 87) hx hb dX1_wall_80 (by decide) (fun c80 => absurd c80 (nI_ge (b := 9) hin (by decide))) (fun c80 => ?_)
                  refine lv_iconst (v := 1) hx hb dX1_wall_83 (by decide) ?_
                  refine lv_goto (tgt := 88) hx hb dX1_wall_84 (by decide) ?_
                  refine lx_istore hx hb dX1_wall_88 hl (by decide) (fun ls hl => ?_)
                  refine lv_iload_n hx hb dX1_wall_90 rfl (lx_at hl 2 rfl) ?_
                  refine lv_if_eq (tgt := 104) hx hb dX1_wall_91 (by decide) (fun c91 => ?_) (fun c91 => absurd (hd) c91)
                  refine lv_iload_n hx hb dX1_wall_104 rfl (lx_at hl 1 rfl) ?_
                  refine lv_iload hx hb dX1_wall_105 (lx_at hl 6 rfl) ?_
                  refine lv_iadd hx hb dX1_wall_107 ?_
                  try rw [nI_add]
                  refine lx_istore hx hb dX1_wall_108 hl (by decide) (fun ls hl => ?_)
                  refine lv_iload hx hb dX1_wall_110 (lx_at hl 7 rfl) ?_
                  refine lv_if_eq (tgt := 153) hx hb dX1_wall_112 (by decide) (fun c112 => absurd c112 (by decide)) (fun c112 => ?_)
                  by_cases hn0 : n0 ≤ 0
                  · refine lv_aload_n hx hb dX1_wall_115 rfl (lx_at hl 0 rfl) ?_
                    refine mg_0 C hV dX1_wall_116 ?_
                    refine lv_iload hx hb dX1_wall_119 (lx_at hl 8 rfl) ?_
                    refine ml_0 C hV (by assumption) dX1_wall_121 ?_
                    refine lv_iload_n hx hb dX1_wall_122 rfl (lx_at hl 3 rfl) ?_
                    refine lv_if_le (tgt := 130) hx hb dX1_wall_123 (by decide) (fun c123 => ?_) (fun c123 => absurd (hn0) c123)
                    refine lv_iconst (v := 0) hx hb dX1_wall_130 (by decide) ?_
                    refine lv_icmp_eq (tgt := 153) hx hb dX1_wall_131 (by decide) (fun c131 => ?_) (fun c131 => ?_)
                    · refine lx_iinc1 hx hb dX1_wall_153 hl rfl (fun ls hl => ?_)
                      refine lv_goto (tgt := 40) hx hb dX1_wall_156 (by decide) ?_
                      exact ih40 (i + 1) (_) (_) (_) (_) (_) (by omega) (by rw [kx_lp_s, ← hY]; simp [km_w1, km_wc, hd, hin, hn0, ht, c5, c11, c17, c23, c131]) hV (lx_none (lx_none hl 7) 8)
                    · refine lv_aload_n hx hb dX1_wall_134 rfl (lx_at hl 0 rfl) ?_
                      refine mg_0 C hV dX1_wall_135 ?_
                      refine lv_iload hx hb dX1_wall_138 (lx_at hl 8 rfl) ?_
                      refine lv_iload_n hx hb dX1_wall_140 rfl (lx_at hl 3 rfl) ?_
                      refine lv_if_le (tgt := 148) hx hb dX1_wall_141 (by decide) (fun c141 => ?_) (fun c141 => absurd (hn0) c141)
                      refine lv_iconst (v := 0) hx hb dX1_wall_148 (by decide) ?_
                      refine ms_0 C hV (by assumption) (by first | exact Or.inl rfl | exact Or.inr rfl | assumption) dX1_wall_149 (fun H locs hV => ?_)
                      refine lx_iincp hx hb dX1_wall_150 hl rfl (fun ls hl => ?_)
                      refine lx_iinc1 hx hb dX1_wall_153 hl rfl (fun ls hl => ?_)
                      refine lv_goto (tgt := 40) hx hb dX1_wall_156 (by decide) ?_
                      exact ih40 (i + 1) (_) (_) (_) (_) (_) (by omega) (by rw [kx_lp_s, ← hY]; simp [km_w1, km_wc, hd, hin, hn0, ht, c5, c11, c17, c23, c131]) hV (lx_none (lx_none hl 7) 8)
                  · refine lv_aload_n hx hb dX1_wall_115 rfl (lx_at hl 0 rfl) ?_
                    refine mg_0 C hV dX1_wall_116 ?_
                    refine lv_iload hx hb dX1_wall_119 (lx_at hl 8 rfl) ?_
                    refine ml_0 C hV (by assumption) dX1_wall_121 ?_
                    refine lv_iload_n hx hb dX1_wall_122 rfl (lx_at hl 3 rfl) ?_
                    refine lv_if_le (tgt := 130) hx hb dX1_wall_123 (by decide) (fun c123 => absurd c123 (hn0)) (fun c123 => ?_)
                    refine lv_iconst (v := 1) hx hb dX1_wall_126 (by decide) ?_
                    refine lv_goto (tgt := 131) hx hb dX1_wall_127 (by decide) ?_
                    refine lv_icmp_eq (tgt := 153) hx hb dX1_wall_131 (by decide) (fun c131 => ?_) (fun c131 => ?_)
                    · refine lx_iinc1 hx hb dX1_wall_153 hl rfl (fun ls hl => ?_)
                      refine lv_goto (tgt := 40) hx hb dX1_wall_156 (by decide) ?_
                      exact ih40 (i + 1) (_) (_) (_) (_) (_) (by omega) (by rw [kx_lp_s, ← hY]; simp [km_w1, km_wc, hd, hin, hn0, ht, c5, c11, c17, c23, c131]) hV (lx_none (lx_none hl 7) 8)
                    · refine lv_aload_n hx hb dX1_wall_134 rfl (lx_at hl 0 rfl) ?_
                      refine mg_0 C hV dX1_wall_135 ?_
                      refine lv_iload hx hb dX1_wall_138 (lx_at hl 8 rfl) ?_
                      refine lv_iload_n hx hb dX1_wall_140 rfl (lx_at hl 3 rfl) ?_
                      refine lv_if_le (tgt := 148) hx hb dX1_wall_141 (by decide) (fun c141 => absurd c141 (hn0)) (fun c141 => ?_)
                      refine lv_iconst (v := 1) hx hb dX1_wall_144 (by decide) ?_
                      refine lv_goto (tgt := 149) hx hb dX1_wall_145 (by decide) ?_
                      refine ms_0 C hV (by assumption) (by first | exact Or.inl rfl | exact Or.inr rfl | assumption) dX1_wall_149 (fun H locs hV => ?_)
                      refine lx_iincp hx hb dX1_wall_150 hl rfl (fun ls hl => ?_)
                      refine lx_iinc1 hx hb dX1_wall_153 hl rfl (fun ls hl => ?_)
                      refine lv_goto (tgt := 40) hx hb dX1_wall_156 (by decide) ?_
                      exact ih40 (i + 1) (_) (_) (_) (_) (_) (by omega) (by rw [kx_lp_s, ← hY]; simp [km_w1, km_wc, hd, hin, hn0, ht, c5, c11, c17, c23, c131]) hV (lx_none (lx_none hl 7) 8)
                · refine lv_bipush (v := 9) hx hb dX1_wall_78 (by decide) ?_
                  refine lv_icmp_ge (tgt := 87) hx hb dX1_wall_80 (by decide) (fun c80 => ?_) (fun c80 => absurd (nI_le (a := 9) (by omega) (by omega)) c80)
                  refine lv_iconst (v := 0) hx hb dX1_wall_87 (by decide) ?_
                  refine lx_istore hx hb dX1_wall_88 hl (by decide) (fun ls hl => ?_)
                  refine lv_iload_n hx hb dX1_wall_90 rfl (lx_at hl 2 rfl) ?_
                  refine lv_if_eq (tgt := 104) hx hb dX1_wall_91 (by decide) (fun c91 => ?_) (fun c91 => absurd (hd) c91)
                  refine lv_iload_n hx hb dX1_wall_104 rfl (lx_at hl 1 rfl) ?_
                  refine lv_iload hx hb dX1_wall_105 (lx_at hl 6 rfl) ?_
                  refine lv_iadd hx hb dX1_wall_107 ?_
                  try rw [nI_add]
                  refine lx_istore hx hb dX1_wall_108 hl (by decide) (fun ls hl => ?_)
                  refine lv_iload hx hb dX1_wall_110 (lx_at hl 7 rfl) ?_
                  refine lv_if_eq (tgt := 153) hx hb dX1_wall_112 (by decide) (fun c112 => ?_) (fun c112 => absurd (rfl) c112)
                  refine lx_iinc1 hx hb dX1_wall_153 hl rfl (fun ls hl => ?_)
                  refine lv_goto (tgt := 40) hx hb dX1_wall_156 (by decide) ?_
                  exact ih40 (i + 1) (_) (_) (_) (_) (_) (by omega) (by rw [kx_lp_s, ← hY]; simp [km_w1, km_wc, hd, hin, c5, c11, c17, c23]) hV (lx_none (lx_none hl 7) 8)
              · refine lv_iload_n hx hb dX1_wall_47 rfl (lx_at hl 2 rfl) ?_
                refine lv_if_eq (tgt := 71) hx hb dX1_wall_48 (by decide) (fun c48 => absurd c48 (hd)) (fun c48 => ?_)
                refine lv_iload_n hx hb dX1_wall_51 rfl (lx_at hl 1 rfl) ?_
                refine lv_bipush (v := 9) hx hb dX1_wall_52 (by decide) ?_
                refine lv_idiv hx hb dX1_wall_54 (by decide) ?_
                refine lv_iload hx hb dX1_wall_55 (lx_at hl 6 rfl) ?_
                refine lv_iadd hx hb dX1_wall_57 ?_
                rw [km_div9 ha, nI_add]
                by_cases hin : a / 9 + i < 9
                · have ht : a + 9 * i < 81 := by omega
                  refine lv_bipush (v := 9) hx hb dX1_wall_58 (by decide) ?_
                  refine lv_icmp_ge (tgt := 67) hx hb dX1_wall_60 (by decide) (fun c60 => absurd c60 (nI_ge (b := 9) hin (by decide))) (fun c60 => ?_)
                  refine lv_iconst (v := 1) hx hb dX1_wall_63 (by decide) ?_
                  refine lv_goto (tgt := 88) hx hb dX1_wall_64 (by decide) ?_
                  refine lx_istore hx hb dX1_wall_88 hl (by decide) (fun ls hl => ?_)
                  refine lv_iload_n hx hb dX1_wall_90 rfl (lx_at hl 2 rfl) ?_
                  refine lv_if_eq (tgt := 104) hx hb dX1_wall_91 (by decide) (fun c91 => absurd c91 (hd)) (fun c91 => ?_)
                  refine lv_iload_n hx hb dX1_wall_94 rfl (lx_at hl 1 rfl) ?_
                  refine lv_bipush (v := 9) hx hb dX1_wall_95 (by decide) ?_
                  refine lv_iload hx hb dX1_wall_97 (lx_at hl 6 rfl) ?_
                  refine lv_imul hx hb dX1_wall_99 ?_
                  refine lv_iadd hx hb dX1_wall_100 ?_
                  rw [show (9 : Int32) = nI 9 from rfl, pk_mul, nI_add]
                  refine lv_goto (tgt := 108) hx hb dX1_wall_101 (by decide) ?_
                  try rw [nI_add]
                  refine lx_istore hx hb dX1_wall_108 hl (by decide) (fun ls hl => ?_)
                  refine lv_iload hx hb dX1_wall_110 (lx_at hl 7 rfl) ?_
                  refine lv_if_eq (tgt := 153) hx hb dX1_wall_112 (by decide) (fun c112 => absurd c112 (by decide)) (fun c112 => ?_)
                  by_cases hn0 : n0 ≤ 0
                  · refine lv_aload_n hx hb dX1_wall_115 rfl (lx_at hl 0 rfl) ?_
                    refine mg_0 C hV dX1_wall_116 ?_
                    refine lv_iload hx hb dX1_wall_119 (lx_at hl 8 rfl) ?_
                    refine ml_0 C hV (by assumption) dX1_wall_121 ?_
                    refine lv_iload_n hx hb dX1_wall_122 rfl (lx_at hl 3 rfl) ?_
                    refine lv_if_le (tgt := 130) hx hb dX1_wall_123 (by decide) (fun c123 => ?_) (fun c123 => absurd (hn0) c123)
                    refine lv_iconst (v := 0) hx hb dX1_wall_130 (by decide) ?_
                    refine lv_icmp_eq (tgt := 153) hx hb dX1_wall_131 (by decide) (fun c131 => ?_) (fun c131 => ?_)
                    · refine lx_iinc1 hx hb dX1_wall_153 hl rfl (fun ls hl => ?_)
                      refine lv_goto (tgt := 40) hx hb dX1_wall_156 (by decide) ?_
                      exact ih40 (i + 1) (_) (_) (_) (_) (_) (by omega) (by rw [kx_lp_s, ← hY]; simp [km_w1, km_wc, hd, hin, hn0, ht, c5, c11, c17, c23, c131]) hV (lx_none (lx_none hl 7) 8)
                    · refine lv_aload_n hx hb dX1_wall_134 rfl (lx_at hl 0 rfl) ?_
                      refine mg_0 C hV dX1_wall_135 ?_
                      refine lv_iload hx hb dX1_wall_138 (lx_at hl 8 rfl) ?_
                      refine lv_iload_n hx hb dX1_wall_140 rfl (lx_at hl 3 rfl) ?_
                      refine lv_if_le (tgt := 148) hx hb dX1_wall_141 (by decide) (fun c141 => ?_) (fun c141 => absurd (hn0) c141)
                      refine lv_iconst (v := 0) hx hb dX1_wall_148 (by decide) ?_
                      refine ms_0 C hV (by assumption) (by first | exact Or.inl rfl | exact Or.inr rfl | assumption) dX1_wall_149 (fun H locs hV => ?_)
                      refine lx_iincp hx hb dX1_wall_150 hl rfl (fun ls hl => ?_)
                      refine lx_iinc1 hx hb dX1_wall_153 hl rfl (fun ls hl => ?_)
                      refine lv_goto (tgt := 40) hx hb dX1_wall_156 (by decide) ?_
                      exact ih40 (i + 1) (_) (_) (_) (_) (_) (by omega) (by rw [kx_lp_s, ← hY]; simp [km_w1, km_wc, hd, hin, hn0, ht, c5, c11, c17, c23, c131]) hV (lx_none (lx_none hl 7) 8)
                  · refine lv_aload_n hx hb dX1_wall_115 rfl (lx_at hl 0 rfl) ?_
                    refine mg_0 C hV dX1_wall_116 ?_
                    refine lv_iload hx hb dX1_wall_119 (lx_at hl 8 rfl) ?_
                    refine ml_0 C hV (by assumption) dX1_wall_121 ?_
                    refine lv_iload_n hx hb dX1_wall_122 rfl (lx_at hl 3 rfl) ?_
                    refine lv_if_le (tgt := 130) hx hb dX1_wall_123 (by decide) (fun c123 => absurd c123 (hn0)) (fun c123 => ?_)
                    refine lv_iconst (v := 1) hx hb dX1_wall_126 (by decide) ?_
                    refine lv_goto (tgt := 131) hx hb dX1_wall_127 (by decide) ?_
                    refine lv_icmp_eq (tgt := 153) hx hb dX1_wall_131 (by decide) (fun c131 => ?_) (fun c131 => ?_)
                    · refine lx_iinc1 hx hb dX1_wall_153 hl rfl (fun ls hl => ?_)
                      refine lv_goto (tgt := 40) hx hb dX1_wall_156 (by decide) ?_
                      exact ih40 (i + 1) (_) (_) (_) (_) (_) (by omega) (by rw [kx_lp_s, ← hY]; simp [km_w1, km_wc, hd, hin, hn0, ht, c5, c11, c17, c23, c131]) hV (lx_none (lx_none hl 7) 8)
                    · refine lv_aload_n hx hb dX1_wall_134 rfl (lx_at hl 0 rfl) ?_
                      refine mg_0 C hV dX1_wall_135 ?_
                      refine lv_iload hx hb dX1_wall_138 (lx_at hl 8 rfl) ?_
                      refine lv_iload_n hx hb dX1_wall_140 rfl (lx_at hl 3 rfl) ?_
                      refine lv_if_le (tgt := 148) hx hb dX1_wall_141 (by decide) (fun c141 => absurd c141 (hn0)) (fun c141 => ?_)
                      refine lv_iconst (v := 1) hx hb dX1_wall_144 (by decide) ?_
                      refine lv_goto (tgt := 149) hx hb dX1_wall_145 (by decide) ?_
                      refine ms_0 C hV (by assumption) (by first | exact Or.inl rfl | exact Or.inr rfl | assumption) dX1_wall_149 (fun H locs hV => ?_)
                      refine lx_iincp hx hb dX1_wall_150 hl rfl (fun ls hl => ?_)
                      refine lx_iinc1 hx hb dX1_wall_153 hl rfl (fun ls hl => ?_)
                      refine lv_goto (tgt := 40) hx hb dX1_wall_156 (by decide) ?_
                      exact ih40 (i + 1) (_) (_) (_) (_) (_) (by omega) (by rw [kx_lp_s, ← hY]; simp [km_w1, km_wc, hd, hin, hn0, ht, c5, c11, c17, c23, c131]) hV (lx_none (lx_none hl 7) 8)
                · refine lv_bipush (v := 9) hx hb dX1_wall_58 (by decide) ?_
                  refine lv_icmp_ge (tgt := 67) hx hb dX1_wall_60 (by decide) (fun c60 => ?_) (fun c60 => absurd (nI_le (a := 9) (by omega) (by omega)) c60)
                  refine lv_iconst (v := 0) hx hb dX1_wall_67 (by decide) ?_
                  refine lv_goto (tgt := 88) hx hb dX1_wall_68 (by decide) ?_
                  refine lx_istore hx hb dX1_wall_88 hl (by decide) (fun ls hl => ?_)
                  refine lv_iload_n hx hb dX1_wall_90 rfl (lx_at hl 2 rfl) ?_
                  refine lv_if_eq (tgt := 104) hx hb dX1_wall_91 (by decide) (fun c91 => absurd c91 (hd)) (fun c91 => ?_)
                  refine lv_iload_n hx hb dX1_wall_94 rfl (lx_at hl 1 rfl) ?_
                  refine lv_bipush (v := 9) hx hb dX1_wall_95 (by decide) ?_
                  refine lv_iload hx hb dX1_wall_97 (lx_at hl 6 rfl) ?_
                  refine lv_imul hx hb dX1_wall_99 ?_
                  refine lv_iadd hx hb dX1_wall_100 ?_
                  rw [show (9 : Int32) = nI 9 from rfl, pk_mul, nI_add]
                  refine lv_goto (tgt := 108) hx hb dX1_wall_101 (by decide) ?_
                  try rw [nI_add]
                  refine lx_istore hx hb dX1_wall_108 hl (by decide) (fun ls hl => ?_)
                  refine lv_iload hx hb dX1_wall_110 (lx_at hl 7 rfl) ?_
                  refine lv_if_eq (tgt := 153) hx hb dX1_wall_112 (by decide) (fun c112 => ?_) (fun c112 => absurd (rfl) c112)
                  refine lx_iinc1 hx hb dX1_wall_153 hl rfl (fun ls hl => ?_)
                  refine lv_goto (tgt := 40) hx hb dX1_wall_156 (by decide) ?_
                  exact ih40 (i + 1) (_) (_) (_) (_) (_) (by omega) (by rw [kx_lp_s, ← hY]; simp [km_w1, km_wc, hd, hin, c5, c11, c17, c23]) hV (lx_none (lx_none hl 7) 8)
          exact loop40 N (0) (0) (X) (_) (_) (_) (by omega) (rfl) hV hl
        · refine lv_iload_n hx hb dX1_wall_26 rfl (lx_at hl 3 rfl) ?_
          refine lv_ineg hx hb dX1_wall_27 ?_
          refine lv_goto (tgt := 32) hx hb dX1_wall_28 (by decide) ?_
          have hN1 := hN
          first | rw [if_pos c23] at hN1 | rw [if_neg c23] at hN1
          rw [hN1]
          refine lx_istore hx hb dX1_wall_32 hl (by decide) (fun ls hl => ?_)
          refine lv_iconst (v := 0) hx hb dX1_wall_34 (by decide) ?_
          refine lx_istore hx hb dX1_wall_35 hl (by decide) (fun ls hl => ?_)
          refine lv_iconst (v := 0) hx hb dX1_wall_37 (by decide) ?_
          refine lx_istore hx hb dX1_wall_38 hl (by decide) (fun ls hl => ?_)
          have loop40 : ∀ (n : Nat) (i : Nat) (b : Int32) (Y : cn_St) (H : Heap) (locs : List Loc) (ls : Array Slot), i + n = N → (b, Y) = kx_lp (km_w1 (if n0 ≤ 0 then 0 else 1) down a) i (0, X) → cn_V D (cn_Wm G E) A s.heap (Y) H locs → cn_lx ls 9 [some (.ref (G 7)), some (.int (nI a)), some (.int down), some (.int n0), some (.int (nI N)), some (.int b), some (.int (nI i)), none, none] → W p l e ({ frames := 1, cells := 0, slots := 0, locals := 21 } : Room) s m args below meth c H locs 0 0 Q (F0 m 40 ls []) := by
            intro n
            induction n with
            | zero =>
              intro i b Y H locs ls hn hY hV hl
              refine lv_iload hx hb dX1_wall_40 (lx_at hl 6 rfl) ?_
              refine lv_iload hx hb dX1_wall_42 (lx_at hl 4 rfl) ?_
              refine lv_icmp_ge (tgt := 159) hx hb dX1_wall_44 (by decide) (fun c44 => ?_) (fun c44 => absurd (by rw [show i = N by omega]; exact nI_le (Nat.le_refl _) (by omega)) c44)
              refine lv_iload hx hb dX1_wall_159 (lx_at hl 5 rfl) ?_
              exact hret _ _ _ _ _ _ (by rw [hWl, ← show i = N by omega, ← hY]) (by rw [hWl, ← show i = N by omega, ← hY]) hV dX1_wall_161
            | succ n ih40 =>
              intro i b Y H locs ls hn hY hV hl
              have h_i : i < N := by omega
              refine lv_iload hx hb dX1_wall_40 (lx_at hl 6 rfl) ?_
              refine lv_iload hx hb dX1_wall_42 (lx_at hl 4 rfl) ?_
              refine lv_icmp_ge (tgt := 159) hx hb dX1_wall_44 (by decide) (fun c44 => absurd c44 (nI_ge h_i (by omega))) (fun c44 => ?_)
              by_cases hd : down = 0
              · refine lv_iload_n hx hb dX1_wall_47 rfl (lx_at hl 2 rfl) ?_
                refine lv_if_eq (tgt := 71) hx hb dX1_wall_48 (by decide) (fun c48 => ?_) (fun c48 => absurd (hd) c48)
                refine lv_iload_n hx hb dX1_wall_71 rfl (lx_at hl 1 rfl) ?_
                refine lv_bipush (v := 9) hx hb dX1_wall_72 (by decide) ?_
                refine lv_irem hx hb dX1_wall_74 (by decide) ?_
                refine lv_iload hx hb dX1_wall_75 (lx_at hl 6 rfl) ?_
                refine lv_iadd hx hb dX1_wall_77 ?_
                rw [km_rem9 ha, nI_add]
                by_cases hin : a % 9 + i < 9
                · have ht : a + i < 81 := by omega
                  refine lv_bipush (v := 9) hx hb dX1_wall_78 (by decide) ?_
                  refine lv_icmp_ge (tgt := 87) hx hb dX1_wall_80 (by decide) (fun c80 => absurd c80 (nI_ge (b := 9) hin (by decide))) (fun c80 => ?_)
                  refine lv_iconst (v := 1) hx hb dX1_wall_83 (by decide) ?_
                  refine lv_goto (tgt := 88) hx hb dX1_wall_84 (by decide) ?_
                  refine lx_istore hx hb dX1_wall_88 hl (by decide) (fun ls hl => ?_)
                  refine lv_iload_n hx hb dX1_wall_90 rfl (lx_at hl 2 rfl) ?_
                  refine lv_if_eq (tgt := 104) hx hb dX1_wall_91 (by decide) (fun c91 => ?_) (fun c91 => absurd (hd) c91)
                  refine lv_iload_n hx hb dX1_wall_104 rfl (lx_at hl 1 rfl) ?_
                  refine lv_iload hx hb dX1_wall_105 (lx_at hl 6 rfl) ?_
                  refine lv_iadd hx hb dX1_wall_107 ?_
                  try rw [nI_add]
                  refine lx_istore hx hb dX1_wall_108 hl (by decide) (fun ls hl => ?_)
                  refine lv_iload hx hb dX1_wall_110 (lx_at hl 7 rfl) ?_
                  refine lv_if_eq (tgt := 153) hx hb dX1_wall_112 (by decide) (fun c112 => absurd c112 (by decide)) (fun c112 => ?_)
                  by_cases hn0 : n0 ≤ 0
                  · refine lv_aload_n hx hb dX1_wall_115 rfl (lx_at hl 0 rfl) ?_
                    refine mg_0 C hV dX1_wall_116 ?_
                    refine lv_iload hx hb dX1_wall_119 (lx_at hl 8 rfl) ?_
                    refine ml_0 C hV (by assumption) dX1_wall_121 ?_
                    refine lv_iload_n hx hb dX1_wall_122 rfl (lx_at hl 3 rfl) ?_
                    refine lv_if_le (tgt := 130) hx hb dX1_wall_123 (by decide) (fun c123 => ?_) (fun c123 => absurd (hn0) c123)
                    refine lv_iconst (v := 0) hx hb dX1_wall_130 (by decide) ?_
                    refine lv_icmp_eq (tgt := 153) hx hb dX1_wall_131 (by decide) (fun c131 => ?_) (fun c131 => ?_)
                    · refine lx_iinc1 hx hb dX1_wall_153 hl rfl (fun ls hl => ?_)
                      refine lv_goto (tgt := 40) hx hb dX1_wall_156 (by decide) ?_
                      exact ih40 (i + 1) (_) (_) (_) (_) (_) (by omega) (by rw [kx_lp_s, ← hY]; simp [km_w1, km_wc, hd, hin, hn0, ht, c5, c11, c17, c23, c131]) hV (lx_none (lx_none hl 7) 8)
                    · refine lv_aload_n hx hb dX1_wall_134 rfl (lx_at hl 0 rfl) ?_
                      refine mg_0 C hV dX1_wall_135 ?_
                      refine lv_iload hx hb dX1_wall_138 (lx_at hl 8 rfl) ?_
                      refine lv_iload_n hx hb dX1_wall_140 rfl (lx_at hl 3 rfl) ?_
                      refine lv_if_le (tgt := 148) hx hb dX1_wall_141 (by decide) (fun c141 => ?_) (fun c141 => absurd (hn0) c141)
                      refine lv_iconst (v := 0) hx hb dX1_wall_148 (by decide) ?_
                      refine ms_0 C hV (by assumption) (by first | exact Or.inl rfl | exact Or.inr rfl | assumption) dX1_wall_149 (fun H locs hV => ?_)
                      refine lx_iincp hx hb dX1_wall_150 hl rfl (fun ls hl => ?_)
                      refine lx_iinc1 hx hb dX1_wall_153 hl rfl (fun ls hl => ?_)
                      refine lv_goto (tgt := 40) hx hb dX1_wall_156 (by decide) ?_
                      exact ih40 (i + 1) (_) (_) (_) (_) (_) (by omega) (by rw [kx_lp_s, ← hY]; simp [km_w1, km_wc, hd, hin, hn0, ht, c5, c11, c17, c23, c131]) hV (lx_none (lx_none hl 7) 8)
                  · refine lv_aload_n hx hb dX1_wall_115 rfl (lx_at hl 0 rfl) ?_
                    refine mg_0 C hV dX1_wall_116 ?_
                    refine lv_iload hx hb dX1_wall_119 (lx_at hl 8 rfl) ?_
                    refine ml_0 C hV (by assumption) dX1_wall_121 ?_
                    refine lv_iload_n hx hb dX1_wall_122 rfl (lx_at hl 3 rfl) ?_
                    refine lv_if_le (tgt := 130) hx hb dX1_wall_123 (by decide) (fun c123 => absurd c123 (hn0)) (fun c123 => ?_)
                    refine lv_iconst (v := 1) hx hb dX1_wall_126 (by decide) ?_
                    refine lv_goto (tgt := 131) hx hb dX1_wall_127 (by decide) ?_
                    refine lv_icmp_eq (tgt := 153) hx hb dX1_wall_131 (by decide) (fun c131 => ?_) (fun c131 => ?_)
                    · refine lx_iinc1 hx hb dX1_wall_153 hl rfl (fun ls hl => ?_)
                      refine lv_goto (tgt := 40) hx hb dX1_wall_156 (by decide) ?_
                      exact ih40 (i + 1) (_) (_) (_) (_) (_) (by omega) (by rw [kx_lp_s, ← hY]; simp [km_w1, km_wc, hd, hin, hn0, ht, c5, c11, c17, c23, c131]) hV (lx_none (lx_none hl 7) 8)
                    · refine lv_aload_n hx hb dX1_wall_134 rfl (lx_at hl 0 rfl) ?_
                      refine mg_0 C hV dX1_wall_135 ?_
                      refine lv_iload hx hb dX1_wall_138 (lx_at hl 8 rfl) ?_
                      refine lv_iload_n hx hb dX1_wall_140 rfl (lx_at hl 3 rfl) ?_
                      refine lv_if_le (tgt := 148) hx hb dX1_wall_141 (by decide) (fun c141 => absurd c141 (hn0)) (fun c141 => ?_)
                      refine lv_iconst (v := 1) hx hb dX1_wall_144 (by decide) ?_
                      refine lv_goto (tgt := 149) hx hb dX1_wall_145 (by decide) ?_
                      refine ms_0 C hV (by assumption) (by first | exact Or.inl rfl | exact Or.inr rfl | assumption) dX1_wall_149 (fun H locs hV => ?_)
                      refine lx_iincp hx hb dX1_wall_150 hl rfl (fun ls hl => ?_)
                      refine lx_iinc1 hx hb dX1_wall_153 hl rfl (fun ls hl => ?_)
                      refine lv_goto (tgt := 40) hx hb dX1_wall_156 (by decide) ?_
                      exact ih40 (i + 1) (_) (_) (_) (_) (_) (by omega) (by rw [kx_lp_s, ← hY]; simp [km_w1, km_wc, hd, hin, hn0, ht, c5, c11, c17, c23, c131]) hV (lx_none (lx_none hl 7) 8)
                · refine lv_bipush (v := 9) hx hb dX1_wall_78 (by decide) ?_
                  refine lv_icmp_ge (tgt := 87) hx hb dX1_wall_80 (by decide) (fun c80 => ?_) (fun c80 => absurd (nI_le (a := 9) (by omega) (by omega)) c80)
                  refine lv_iconst (v := 0) hx hb dX1_wall_87 (by decide) ?_
                  refine lx_istore hx hb dX1_wall_88 hl (by decide) (fun ls hl => ?_)
                  refine lv_iload_n hx hb dX1_wall_90 rfl (lx_at hl 2 rfl) ?_
                  refine lv_if_eq (tgt := 104) hx hb dX1_wall_91 (by decide) (fun c91 => ?_) (fun c91 => absurd (hd) c91)
                  refine lv_iload_n hx hb dX1_wall_104 rfl (lx_at hl 1 rfl) ?_
                  refine lv_iload hx hb dX1_wall_105 (lx_at hl 6 rfl) ?_
                  refine lv_iadd hx hb dX1_wall_107 ?_
                  try rw [nI_add]
                  refine lx_istore hx hb dX1_wall_108 hl (by decide) (fun ls hl => ?_)
                  refine lv_iload hx hb dX1_wall_110 (lx_at hl 7 rfl) ?_
                  refine lv_if_eq (tgt := 153) hx hb dX1_wall_112 (by decide) (fun c112 => ?_) (fun c112 => absurd (rfl) c112)
                  refine lx_iinc1 hx hb dX1_wall_153 hl rfl (fun ls hl => ?_)
                  refine lv_goto (tgt := 40) hx hb dX1_wall_156 (by decide) ?_
                  exact ih40 (i + 1) (_) (_) (_) (_) (_) (by omega) (by rw [kx_lp_s, ← hY]; simp [km_w1, km_wc, hd, hin, c5, c11, c17, c23]) hV (lx_none (lx_none hl 7) 8)
              · refine lv_iload_n hx hb dX1_wall_47 rfl (lx_at hl 2 rfl) ?_
                refine lv_if_eq (tgt := 71) hx hb dX1_wall_48 (by decide) (fun c48 => absurd c48 (hd)) (fun c48 => ?_)
                refine lv_iload_n hx hb dX1_wall_51 rfl (lx_at hl 1 rfl) ?_
                refine lv_bipush (v := 9) hx hb dX1_wall_52 (by decide) ?_
                refine lv_idiv hx hb dX1_wall_54 (by decide) ?_
                refine lv_iload hx hb dX1_wall_55 (lx_at hl 6 rfl) ?_
                refine lv_iadd hx hb dX1_wall_57 ?_
                rw [km_div9 ha, nI_add]
                by_cases hin : a / 9 + i < 9
                · have ht : a + 9 * i < 81 := by omega
                  refine lv_bipush (v := 9) hx hb dX1_wall_58 (by decide) ?_
                  refine lv_icmp_ge (tgt := 67) hx hb dX1_wall_60 (by decide) (fun c60 => absurd c60 (nI_ge (b := 9) hin (by decide))) (fun c60 => ?_)
                  refine lv_iconst (v := 1) hx hb dX1_wall_63 (by decide) ?_
                  refine lv_goto (tgt := 88) hx hb dX1_wall_64 (by decide) ?_
                  refine lx_istore hx hb dX1_wall_88 hl (by decide) (fun ls hl => ?_)
                  refine lv_iload_n hx hb dX1_wall_90 rfl (lx_at hl 2 rfl) ?_
                  refine lv_if_eq (tgt := 104) hx hb dX1_wall_91 (by decide) (fun c91 => absurd c91 (hd)) (fun c91 => ?_)
                  refine lv_iload_n hx hb dX1_wall_94 rfl (lx_at hl 1 rfl) ?_
                  refine lv_bipush (v := 9) hx hb dX1_wall_95 (by decide) ?_
                  refine lv_iload hx hb dX1_wall_97 (lx_at hl 6 rfl) ?_
                  refine lv_imul hx hb dX1_wall_99 ?_
                  refine lv_iadd hx hb dX1_wall_100 ?_
                  rw [show (9 : Int32) = nI 9 from rfl, pk_mul, nI_add]
                  refine lv_goto (tgt := 108) hx hb dX1_wall_101 (by decide) ?_
                  try rw [nI_add]
                  refine lx_istore hx hb dX1_wall_108 hl (by decide) (fun ls hl => ?_)
                  refine lv_iload hx hb dX1_wall_110 (lx_at hl 7 rfl) ?_
                  refine lv_if_eq (tgt := 153) hx hb dX1_wall_112 (by decide) (fun c112 => absurd c112 (by decide)) (fun c112 => ?_)
                  by_cases hn0 : n0 ≤ 0
                  · refine lv_aload_n hx hb dX1_wall_115 rfl (lx_at hl 0 rfl) ?_
                    refine mg_0 C hV dX1_wall_116 ?_
                    refine lv_iload hx hb dX1_wall_119 (lx_at hl 8 rfl) ?_
                    refine ml_0 C hV (by assumption) dX1_wall_121 ?_
                    refine lv_iload_n hx hb dX1_wall_122 rfl (lx_at hl 3 rfl) ?_
                    refine lv_if_le (tgt := 130) hx hb dX1_wall_123 (by decide) (fun c123 => ?_) (fun c123 => absurd (hn0) c123)
                    refine lv_iconst (v := 0) hx hb dX1_wall_130 (by decide) ?_
                    refine lv_icmp_eq (tgt := 153) hx hb dX1_wall_131 (by decide) (fun c131 => ?_) (fun c131 => ?_)
                    · refine lx_iinc1 hx hb dX1_wall_153 hl rfl (fun ls hl => ?_)
                      refine lv_goto (tgt := 40) hx hb dX1_wall_156 (by decide) ?_
                      exact ih40 (i + 1) (_) (_) (_) (_) (_) (by omega) (by rw [kx_lp_s, ← hY]; simp [km_w1, km_wc, hd, hin, hn0, ht, c5, c11, c17, c23, c131]) hV (lx_none (lx_none hl 7) 8)
                    · refine lv_aload_n hx hb dX1_wall_134 rfl (lx_at hl 0 rfl) ?_
                      refine mg_0 C hV dX1_wall_135 ?_
                      refine lv_iload hx hb dX1_wall_138 (lx_at hl 8 rfl) ?_
                      refine lv_iload_n hx hb dX1_wall_140 rfl (lx_at hl 3 rfl) ?_
                      refine lv_if_le (tgt := 148) hx hb dX1_wall_141 (by decide) (fun c141 => ?_) (fun c141 => absurd (hn0) c141)
                      refine lv_iconst (v := 0) hx hb dX1_wall_148 (by decide) ?_
                      refine ms_0 C hV (by assumption) (by first | exact Or.inl rfl | exact Or.inr rfl | assumption) dX1_wall_149 (fun H locs hV => ?_)
                      refine lx_iincp hx hb dX1_wall_150 hl rfl (fun ls hl => ?_)
                      refine lx_iinc1 hx hb dX1_wall_153 hl rfl (fun ls hl => ?_)
                      refine lv_goto (tgt := 40) hx hb dX1_wall_156 (by decide) ?_
                      exact ih40 (i + 1) (_) (_) (_) (_) (_) (by omega) (by rw [kx_lp_s, ← hY]; simp [km_w1, km_wc, hd, hin, hn0, ht, c5, c11, c17, c23, c131]) hV (lx_none (lx_none hl 7) 8)
                  · refine lv_aload_n hx hb dX1_wall_115 rfl (lx_at hl 0 rfl) ?_
                    refine mg_0 C hV dX1_wall_116 ?_
                    refine lv_iload hx hb dX1_wall_119 (lx_at hl 8 rfl) ?_
                    refine ml_0 C hV (by assumption) dX1_wall_121 ?_
                    refine lv_iload_n hx hb dX1_wall_122 rfl (lx_at hl 3 rfl) ?_
                    refine lv_if_le (tgt := 130) hx hb dX1_wall_123 (by decide) (fun c123 => absurd c123 (hn0)) (fun c123 => ?_)
                    refine lv_iconst (v := 1) hx hb dX1_wall_126 (by decide) ?_
                    refine lv_goto (tgt := 131) hx hb dX1_wall_127 (by decide) ?_
                    refine lv_icmp_eq (tgt := 153) hx hb dX1_wall_131 (by decide) (fun c131 => ?_) (fun c131 => ?_)
                    · refine lx_iinc1 hx hb dX1_wall_153 hl rfl (fun ls hl => ?_)
                      refine lv_goto (tgt := 40) hx hb dX1_wall_156 (by decide) ?_
                      exact ih40 (i + 1) (_) (_) (_) (_) (_) (by omega) (by rw [kx_lp_s, ← hY]; simp [km_w1, km_wc, hd, hin, hn0, ht, c5, c11, c17, c23, c131]) hV (lx_none (lx_none hl 7) 8)
                    · refine lv_aload_n hx hb dX1_wall_134 rfl (lx_at hl 0 rfl) ?_
                      refine mg_0 C hV dX1_wall_135 ?_
                      refine lv_iload hx hb dX1_wall_138 (lx_at hl 8 rfl) ?_
                      refine lv_iload_n hx hb dX1_wall_140 rfl (lx_at hl 3 rfl) ?_
                      refine lv_if_le (tgt := 148) hx hb dX1_wall_141 (by decide) (fun c141 => absurd c141 (hn0)) (fun c141 => ?_)
                      refine lv_iconst (v := 1) hx hb dX1_wall_144 (by decide) ?_
                      refine lv_goto (tgt := 149) hx hb dX1_wall_145 (by decide) ?_
                      refine ms_0 C hV (by assumption) (by first | exact Or.inl rfl | exact Or.inr rfl | assumption) dX1_wall_149 (fun H locs hV => ?_)
                      refine lx_iincp hx hb dX1_wall_150 hl rfl (fun ls hl => ?_)
                      refine lx_iinc1 hx hb dX1_wall_153 hl rfl (fun ls hl => ?_)
                      refine lv_goto (tgt := 40) hx hb dX1_wall_156 (by decide) ?_
                      exact ih40 (i + 1) (_) (_) (_) (_) (_) (by omega) (by rw [kx_lp_s, ← hY]; simp [km_w1, km_wc, hd, hin, hn0, ht, c5, c11, c17, c23, c131]) hV (lx_none (lx_none hl 7) 8)
                · refine lv_bipush (v := 9) hx hb dX1_wall_58 (by decide) ?_
                  refine lv_icmp_ge (tgt := 67) hx hb dX1_wall_60 (by decide) (fun c60 => ?_) (fun c60 => absurd (nI_le (a := 9) (by omega) (by omega)) c60)
                  refine lv_iconst (v := 0) hx hb dX1_wall_67 (by decide) ?_
                  refine lv_goto (tgt := 88) hx hb dX1_wall_68 (by decide) ?_
                  refine lx_istore hx hb dX1_wall_88 hl (by decide) (fun ls hl => ?_)
                  refine lv_iload_n hx hb dX1_wall_90 rfl (lx_at hl 2 rfl) ?_
                  refine lv_if_eq (tgt := 104) hx hb dX1_wall_91 (by decide) (fun c91 => absurd c91 (hd)) (fun c91 => ?_)
                  refine lv_iload_n hx hb dX1_wall_94 rfl (lx_at hl 1 rfl) ?_
                  refine lv_bipush (v := 9) hx hb dX1_wall_95 (by decide) ?_
                  refine lv_iload hx hb dX1_wall_97 (lx_at hl 6 rfl) ?_
                  refine lv_imul hx hb dX1_wall_99 ?_
                  refine lv_iadd hx hb dX1_wall_100 ?_
                  rw [show (9 : Int32) = nI 9 from rfl, pk_mul, nI_add]
                  refine lv_goto (tgt := 108) hx hb dX1_wall_101 (by decide) ?_
                  try rw [nI_add]
                  refine lx_istore hx hb dX1_wall_108 hl (by decide) (fun ls hl => ?_)
                  refine lv_iload hx hb dX1_wall_110 (lx_at hl 7 rfl) ?_
                  refine lv_if_eq (tgt := 153) hx hb dX1_wall_112 (by decide) (fun c112 => ?_) (fun c112 => absurd (rfl) c112)
                  refine lx_iinc1 hx hb dX1_wall_153 hl rfl (fun ls hl => ?_)
                  refine lv_goto (tgt := 40) hx hb dX1_wall_156 (by decide) ?_
                  exact ih40 (i + 1) (_) (_) (_) (_) (_) (by omega) (by rw [kx_lp_s, ← hY]; simp [km_w1, km_wc, hd, hin, c5, c11, c17, c23]) hV (lx_none (lx_none hl 7) 8)
          exact loop40 N (0) (0) (X) (_) (_) (_) (by omega) (rfl) hV hl
      · refine lv_iconst (v := (-1)) hx hb dX1_wall_20 (by decide) ?_
        exact hret _ _ _ _ _ _ (by simp [km_wall, c5, c11, c17]) (by simp [km_wall, c5, c11, c17]) hV dX1_wall_21
end
section
set_option maxRecDepth 100000
set_option maxHeartbeats 4000000 in
set_option maxRecDepth 100000 in
theorem mt_clearance (l : Launch) (D : va_G) (G : Nat → Nat) (E : Nat → ClassId) (X : cn_St) (c0 : Int32)  : cn_mMi l yX1_clearance cX1_clearance 7 (some .int) ({ frames := 1, cells := 0, slots := 0, locals := 21 } : Room) D G E X [.int (c0)] (km_clr c0 X) (X) := by
  refine cn_mofi (ty := .int) rfl (vp_nar_int _) [some (.ref (G 7)), some (.int (c0)), none, none, none, none, none] (by decide) rfl (Nat.le_of_ble_eq_true rfl) (by intro v hv; simp only [List.mem_cons, List.not_mem_nil, or_false] at hv; rcases hv with rfl | rfl <;> rfl) rfl (Nat.le_of_ble_eq_true rfl) ?_
  intro p e s m args below meth c ls A Q H locs C hV hl hret
  obtain ⟨hx, hb, hml, hown, hts, hK, hrt, hlk⟩ := id C
  refine lv_aload_n hx hb dX1_clearance_0 rfl (lx_at hl 0 rfl) ?_
  refine lv_iload_n hx hb dX1_clearance_1 rfl (lx_at hl 1 rfl) ?_
  refine mc_isCell C hV (lx_sz hl)  ⟨by decide, by decide⟩ (Nat.le_of_ble_eq_true rfl) ⟨by decide, by decide⟩ dX1_clearance_2 (fun H locs hV => ?_)
  refine lv_if_ne (tgt := 10) hx hb dX1_clearance_5 (by decide) (fun c5 => ?_) (fun c5 => ?_)
  · obtain ⟨a, ha, rfl⟩ := km_ic_1 c5
    have hq : (nI a).toNatClampNeg = a := nI_clamp (by omega)
    refine lv_bipush (v := 9) hx hb dX1_clearance_10 (by decide) ?_
    refine lx_istore_n (i := 2) hx hb dX1_clearance_12 rfl hl (by decide) (fun ls hl => ?_)
    refine lv_iconst (v := 0) hx hb dX1_clearance_13 (by decide) ?_
    refine lx_istore_n (i := 3) hx hb dX1_clearance_14 rfl hl (by decide) (fun ls hl => ?_)
    have loop15 : ∀ (n : Nat) (d : Nat) (b : Int32) (H : Heap) (locs : List Loc) (ls : Array Slot), d + n = 81 → b = kx_lp (km_l1 X a) d 9 → cn_V D (cn_Wm G E) A s.heap (X) H locs → cn_lx ls 7 [some (.ref (G 7)), some (.int (nI a)), some (.int b), some (.int (nI d)), none, none, none] → W p l e ({ frames := 1, cells := 0, slots := 0, locals := 21 } : Room) s m args below meth c H locs 0 0 Q (F0 m 15 ls []) := by
      intro n
      induction n with
      | zero =>
        intro d b H locs ls hn hY hV hl
        obtain rfl : d = 81 := by omega
        refine lv_iload_n hx hb dX1_clearance_15 rfl (lx_at hl 3 rfl) ?_
        refine lv_bipush (v := 81) hx hb dX1_clearance_16 (by decide) ?_
        refine lv_icmp_ge (tgt := 133) hx hb dX1_clearance_18 (by decide) (fun c18 => ?_) (fun c18 => absurd (by decide) c18)
        refine lv_iload_n hx hb dX1_clearance_133 rfl (lx_at hl 2 rfl) ?_
        exact hret _ _ _ _ _ _ (by rw [km_clr_in ha]; exact hY) (rfl) hV dX1_clearance_134
      | succ n ih15 =>
        intro d b H locs ls hn hY hV hl
        have h_d : d < 81 := by omega
        refine lv_iload_n hx hb dX1_clearance_15 rfl (lx_at hl 3 rfl) ?_
        refine lv_bipush (v := 81) hx hb dX1_clearance_16 (by decide) ?_
        refine lv_icmp_ge (tgt := 133) hx hb dX1_clearance_18 (by decide) (fun c18 => absurd c18 (nI_ge (b := 81) h_d (by decide))) (fun c18 => ?_)
        refine lv_aload_n hx hb dX1_clearance_21 rfl (lx_at hl 0 rfl) ?_
        refine mg_0 C hV dX1_clearance_22 ?_
        refine lv_iload_n hx hb dX1_clearance_25 rfl (lx_at hl 3 rfl) ?_
        refine ml_0 C hV (by assumption) dX1_clearance_26 ?_
        refine lv_if_eq (tgt := 127) hx hb dX1_clearance_27 (by decide) (fun c27 => ?_) (fun c27 => ?_)
        · refine lx_iinc1 hx hb dX1_clearance_127 hl rfl (fun ls hl => ?_)
          refine lv_goto (tgt := 15) hx hb dX1_clearance_130 (by decide) ?_
          exact ih15 (d + 1) (_) (_) (_) (_) (by omega) (by rw [kx_lp_s, ← hY]; simp [km_l1, c27]) hV (lx_none (lx_none (lx_none hl 4) 5) 6)
        · refine lv_iload_n hx hb dX1_clearance_30 rfl (lx_at hl 1 rfl) ?_
          refine lv_bipush (v := 9) hx hb dX1_clearance_31 (by decide) ?_
          refine lv_irem hx hb dX1_clearance_33 (by decide) ?_
          refine lv_iload_n hx hb dX1_clearance_34 rfl (lx_at hl 3 rfl) ?_
          refine lv_bipush (v := 9) hx hb dX1_clearance_35 (by decide) ?_
          refine lv_irem hx hb dX1_clearance_37 (by decide) ?_
          have hj38 : ∀ v38 : Int32, v38 = (if (nI a - nI a / 9 * 9) ≤ (nI d - nI d / 9 * 9) then (nI d - nI d / 9 * 9) - (nI a - nI a / 9 * 9) else (nI a - nI a / 9 * 9) - (nI d - nI d / 9 * 9)) → W p l e ({ frames := 1, cells := 0, slots := 0, locals := 21 } : Room) s m args below meth c H locs 0 0 Q (F0 m 62 ls (.int v38 :: [])) := by
            intro v38 e38
            rw [km_rem9 ha, km_rem9 h_d, km_abs (by omega) (by omega)] at e38
            refine lx_istore hx hb dX1_clearance_62 hl (by decide) (fun ls hl => ?_)
            refine lv_iload_n hx hb dX1_clearance_64 rfl (lx_at hl 1 rfl) ?_
            refine lv_bipush (v := 9) hx hb dX1_clearance_65 (by decide) ?_
            refine lv_idiv hx hb dX1_clearance_67 (by decide) ?_
            refine lv_iload_n hx hb dX1_clearance_68 rfl (lx_at hl 3 rfl) ?_
            refine lv_bipush (v := 9) hx hb dX1_clearance_69 (by decide) ?_
            refine lv_idiv hx hb dX1_clearance_71 (by decide) ?_
            have hj72 : ∀ v72 : Int32, v72 = (if (nI a / 9) ≤ (nI d / 9) then (nI d / 9) - (nI a / 9) else (nI a / 9) - (nI d / 9)) → W p l e ({ frames := 1, cells := 0, slots := 0, locals := 21 } : Room) s m args below meth c H locs 0 0 Q (F0 m 96 ls (.int v72 :: [])) := by
              intro v72 e72
              rw [km_div9 ha, km_div9 h_d, km_abs (by omega) (by omega)] at e72
              refine lx_istore hx hb dX1_clearance_96 hl (by decide) (fun ls hl => ?_)
              refine lv_iload hx hb dX1_clearance_98 (lx_at hl 4 rfl) ?_
              refine lv_iload hx hb dX1_clearance_100 (lx_at hl 5 rfl) ?_
              have hj102 : ∀ v102 : Int32, v102 = (if v38 ≤ v72 then v72 else v38) → W p l e ({ frames := 1, cells := 0, slots := 0, locals := 21 } : Room) s m args below meth c H locs 0 0 Q (F0 m 112 ls (.int v102 :: [])) := by
                intro v102 e102
                rw [e38, e72, km_max (by omega) (by omega)] at e102
                have e0 : v102 = nI (km_cb a d) := e102
                rw [e0]
                refine lx_istore hx hb dX1_clearance_112 hl (by decide) (fun ls hl => ?_)
                refine lv_iload hx hb dX1_clearance_114 (lx_at hl 6 rfl) ?_
                refine lv_iload_n hx hb dX1_clearance_116 rfl (lx_at hl 2 rfl) ?_
                refine lv_icmp_ge (tgt := 125) hx hb dX1_clearance_117 (by decide) (fun c117 => ?_) (fun c117 => ?_)
                · refine lv_iload_n hx hb dX1_clearance_125 rfl (lx_at hl 2 rfl) ?_
                  refine lx_istore_n (i := 2) hx hb dX1_clearance_126 rfl hl (by decide) (fun ls hl => ?_)
                  refine lx_iinc1 hx hb dX1_clearance_127 hl rfl (fun ls hl => ?_)
                  refine lv_goto (tgt := 15) hx hb dX1_clearance_130 (by decide) ?_
                  exact ih15 (d + 1) (_) (_) (_) (_) (by omega) (by rw [kx_lp_s, ← hY]; simp [km_l1, c27, c117]) hV (lx_none (lx_none (lx_none hl 4) 5) 6)
                · refine lv_iload hx hb dX1_clearance_120 (lx_at hl 6 rfl) ?_
                  refine lv_goto (tgt := 126) hx hb dX1_clearance_122 (by decide) ?_
                  refine lx_istore_n (i := 2) hx hb dX1_clearance_126 rfl hl (by decide) (fun ls hl => ?_)
                  refine lx_iinc1 hx hb dX1_clearance_127 hl rfl (fun ls hl => ?_)
                  refine lv_goto (tgt := 15) hx hb dX1_clearance_130 (by decide) ?_
                  exact ih15 (d + 1) (_) (_) (_) (_) (by omega) (by rw [kx_lp_s, ← hY]; simp [km_l1, c27, c117]) hV (lx_none (lx_none (lx_none hl 4) 5) 6)
              refine lv_icmp_le (tgt := 110) hx hb dX1_clearance_102 (by decide) (fun c102 => ?_) (fun c102 => ?_)
              · refine lv_iload hx hb dX1_clearance_110 (lx_at hl 5 rfl) ?_
                exact hj102 _ (by simp [c5, c27, c102])
              · refine lv_iload hx hb dX1_clearance_105 (lx_at hl 4 rfl) ?_
                refine lv_goto (tgt := 112) hx hb dX1_clearance_107 (by decide) ?_
                exact hj102 _ (by simp [c5, c27, c102])
            refine lv_icmp_le (tgt := 87) hx hb dX1_clearance_72 (by decide) (fun c72 => ?_) (fun c72 => ?_)
            · refine lv_iload_n hx hb dX1_clearance_87 rfl (lx_at hl 3 rfl) ?_
              refine lv_bipush (v := 9) hx hb dX1_clearance_88 (by decide) ?_
              refine lv_idiv hx hb dX1_clearance_90 (by decide) ?_
              refine lv_iload_n hx hb dX1_clearance_91 rfl (lx_at hl 1 rfl) ?_
              refine lv_bipush (v := 9) hx hb dX1_clearance_92 (by decide) ?_
              refine lv_idiv hx hb dX1_clearance_94 (by decide) ?_
              refine lv_isub hx hb dX1_clearance_95 ?_
              exact hj72 _ (by simp [c5, c27, c72])
            · refine lv_iload_n hx hb dX1_clearance_75 rfl (lx_at hl 1 rfl) ?_
              refine lv_bipush (v := 9) hx hb dX1_clearance_76 (by decide) ?_
              refine lv_idiv hx hb dX1_clearance_78 (by decide) ?_
              refine lv_iload_n hx hb dX1_clearance_79 rfl (lx_at hl 3 rfl) ?_
              refine lv_bipush (v := 9) hx hb dX1_clearance_80 (by decide) ?_
              refine lv_idiv hx hb dX1_clearance_82 (by decide) ?_
              refine lv_isub hx hb dX1_clearance_83 ?_
              refine lv_goto (tgt := 96) hx hb dX1_clearance_84 (by decide) ?_
              exact hj72 _ (by simp [c5, c27, c72])
          refine lv_icmp_le (tgt := 53) hx hb dX1_clearance_38 (by decide) (fun c38 => ?_) (fun c38 => ?_)
          · refine lv_iload_n hx hb dX1_clearance_53 rfl (lx_at hl 3 rfl) ?_
            refine lv_bipush (v := 9) hx hb dX1_clearance_54 (by decide) ?_
            refine lv_irem hx hb dX1_clearance_56 (by decide) ?_
            refine lv_iload_n hx hb dX1_clearance_57 rfl (lx_at hl 1 rfl) ?_
            refine lv_bipush (v := 9) hx hb dX1_clearance_58 (by decide) ?_
            refine lv_irem hx hb dX1_clearance_60 (by decide) ?_
            refine lv_isub hx hb dX1_clearance_61 ?_
            exact hj38 _ (by simp [c5, c27, c38])
          · refine lv_iload_n hx hb dX1_clearance_41 rfl (lx_at hl 1 rfl) ?_
            refine lv_bipush (v := 9) hx hb dX1_clearance_42 (by decide) ?_
            refine lv_irem hx hb dX1_clearance_44 (by decide) ?_
            refine lv_iload_n hx hb dX1_clearance_45 rfl (lx_at hl 3 rfl) ?_
            refine lv_bipush (v := 9) hx hb dX1_clearance_46 (by decide) ?_
            refine lv_irem hx hb dX1_clearance_48 (by decide) ?_
            refine lv_isub hx hb dX1_clearance_49 ?_
            refine lv_goto (tgt := 62) hx hb dX1_clearance_50 (by decide) ?_
            exact hj38 _ (by simp [c5, c27, c38])
    exact loop15 81 (0) (9) (_) (_) (_) (rfl) (rfl) hV hl
  · refine lv_iconst (v := (-1)) hx hb dX1_clearance_8 (by decide) ?_
    exact hret _ _ _ _ _ _ (by simp [km_clr, c5]) (rfl) hV dX1_clearance_9
theorem mc_clearance {p : Program} {l : Launch} {e : Env} {R : Room} {s : State} {m : MethodId} {args : Array Value} {below : List Frame} {meth : Method} {c : Code} {H : Heap} {locs : List Loc} {cells slots : Nat} {Q : State → Prop} {cc : ByteArray} {nL : Nat} {ret : Option FieldType} {pc : Nat} {ls : Array Slot} {rest : List Value} {D : va_G} {G : Nat → Nat} {E : Nat → ClassId} {A : Nat → Prop} {H0 : Heap} {X : cn_St} {c0 : Int32} (C : cn_C RX1 D (cn_tm E) p s m args meth c cc nL ret) (hV : cn_V D (cn_Wm G E) A H0 X H locs) (hl : ls.size = nL)  (hR : 1 + 1 ≤ R.frames ∧ 8 + (7 + 11) + 21 ≤ R.locals) (hroom : (rest.map fun v => v.category).sum ≤ 8) (hcs : cells ≤ R.cells ∧ slots ≤ R.slots) (hdg : decode cc pc = .ok (.invokevirtual 37, 3))
    (kk : ∀ (H1 : Heap) (locs1 : List Loc), cn_V D (cn_Wm G E) A H0 (X) H1 locs1 → W p l e R s m args below meth c H1 locs1 cells slots Q (F0 m (pc + 3) ls (.int (km_clr c0 X) :: rest))) : W p l e R s m args below meth c H locs cells slots Q (F0 m pc ls (.int (c0) :: .ref (G 7) :: rest)) :=
  cn_mcalli (As := [.int (c0)]) (mt_clearance l D G E X c0) C hV hl ⟨q267, q260, q261, q262⟩ (show yX1_clearance.cls = RX1 ∧ yX1_clearance.cls ≠ "java/lang/invoke/MethodHandle" ∧ yX1_clearance.cls ≠ "java/lang/invoke/VarHandle" ∧ (parseMethodDescriptor yX1_clearance.desc).map (fun d => d.parameters.length) = some 1 by decide +kernel) ⟨rfl, rfl⟩ hR rfl hroom hcs hdg kk

set_option maxHeartbeats 4000000 in
set_option maxRecDepth 100000 in
theorem mt_cost (l : Launch) (D : va_G) (G : Nat → Nat) (E : Nat → ClassId) (X : cn_St) (c0 : Int32)  : cn_mMi l yX1_cost cX1_cost 3 (some .int) ({ frames := 2, cells := 0, slots := 0, locals := 47 } : Room) D G E X [.int (c0)] (km_cst c0 X) (X) := by
  refine cn_mofi (ty := .int) rfl (vp_nar_int _) [some (.ref (G 7)), some (.int (c0)), none] (by decide) rfl (Nat.le_of_ble_eq_true rfl) (by intro v hv; simp only [List.mem_cons, List.not_mem_nil, or_false] at hv; rcases hv with rfl | rfl <;> rfl) rfl (Nat.le_of_ble_eq_true rfl) ?_
  intro p e s m args below meth c ls A Q H locs C hV hl hret
  obtain ⟨hx, hb, hml, hown, hts, hK, hrt, hlk⟩ := id C
  refine lv_aload_n hx hb dX1_cost_0 rfl (lx_at hl 0 rfl) ?_
  refine lv_iload_n hx hb dX1_cost_1 rfl (lx_at hl 1 rfl) ?_
  refine mc_isCell C hV (lx_sz hl)  ⟨by decide, by decide⟩ (Nat.le_of_ble_eq_true rfl) ⟨by decide, by decide⟩ dX1_cost_2 (fun H locs hV => ?_)
  refine lv_if_ne (tgt := 10) hx hb dX1_cost_5 (by decide) (fun c5 => ?_) (fun c5 => ?_)
  · obtain ⟨a, ha, rfl⟩ := km_ic_1 c5
    have hq : (nI a).toNatClampNeg = a := nI_clamp (by omega)
    refine lv_aload_n hx hb dX1_cost_10 rfl (lx_at hl 0 rfl) ?_
    refine mg_0 C hV dX1_cost_11 ?_
    refine lv_iload_n hx hb dX1_cost_14 rfl (lx_at hl 1 rfl) ?_
    refine ml_0 C hV (by assumption) dX1_cost_15 ?_
    refine lv_if_eq (tgt := 22) hx hb dX1_cost_16 (by decide) (fun c16 => ?_) (fun c16 => ?_)
    · refine lv_aload_n hx hb dX1_cost_22 rfl (lx_at hl 0 rfl) ?_
      refine lv_iload_n hx hb dX1_cost_23 rfl (lx_at hl 1 rfl) ?_
      refine mc_clearance C hV (lx_sz hl)  ⟨by decide, by decide⟩ (Nat.le_of_ble_eq_true rfl) ⟨by decide, by decide⟩ dX1_cost_24 (fun H locs hV => ?_)
      rw [km_clr_in ha]
      refine lx_istore_n (i := 2) hx hb dX1_cost_27 rfl hl (by decide) (fun ls hl => ?_)
      refine lv_iload_n hx hb dX1_cost_28 rfl (lx_at hl 2 rfl) ?_
      refine lv_aload_n hx hb dX1_cost_29 rfl (lx_at hl 0 rfl) ?_
      refine mg_3 C hV dX1_cost_30 ?_
      refine lv_icmp_le (tgt := 40) hx hb dX1_cost_33 (by decide) (fun c33 => ?_) (fun c33 => ?_)
      · refine lv_iconst (v := 1) hx hb dX1_cost_40 (by decide) ?_
        refine lv_aload_n hx hb dX1_cost_41 rfl (lx_at hl 0 rfl) ?_
        refine mg_4 C hV dX1_cost_42 ?_
        refine lv_aload_n hx hb dX1_cost_45 rfl (lx_at hl 0 rfl) ?_
        refine mg_3 C hV dX1_cost_46 ?_
        refine lv_iconst (v := 1) hx hb dX1_cost_49 (by decide) ?_
        refine lv_iadd hx hb dX1_cost_50 ?_
        refine lv_iload_n hx hb dX1_cost_51 rfl (lx_at hl 2 rfl) ?_
        refine lv_isub hx hb dX1_cost_52 ?_
        refine lv_imul hx hb dX1_cost_53 ?_
        refine lv_iadd hx hb dX1_cost_54 ?_
        exact hret _ _ _ _ _ _ (by rw [km_cst_in ha]; simp [km_co, c5, c16, c33]) (rfl) hV dX1_cost_55
      · refine lv_iconst (v := 1) hx hb dX1_cost_36 (by decide) ?_
        refine lv_goto (tgt := 55) hx hb dX1_cost_37 (by decide) ?_
        exact hret _ _ _ _ _ _ (by rw [km_cst_in ha]; simp [km_co, c5, c16, c33]) (rfl) hV dX1_cost_55
    · refine lv_bipush (v := (-4)) hx hb dX1_cost_19 (by decide) ?_
      exact hret _ _ _ _ _ _ (by rw [km_cst_in ha]; simp [km_co, c5, c16]) (rfl) hV dX1_cost_21
  · refine lv_iconst (v := (-1)) hx hb dX1_cost_8 (by decide) ?_
    exact hret _ _ _ _ _ _ (by simp [km_cst, c5]) (rfl) hV dX1_cost_9
theorem mc_cost {p : Program} {l : Launch} {e : Env} {R : Room} {s : State} {m : MethodId} {args : Array Value} {below : List Frame} {meth : Method} {c : Code} {H : Heap} {locs : List Loc} {cells slots : Nat} {Q : State → Prop} {cc : ByteArray} {nL : Nat} {ret : Option FieldType} {pc : Nat} {ls : Array Slot} {rest : List Value} {D : va_G} {G : Nat → Nat} {E : Nat → ClassId} {A : Nat → Prop} {H0 : Heap} {X : cn_St} {c0 : Int32} (C : cn_C RX1 D (cn_tm E) p s m args meth c cc nL ret) (hV : cn_V D (cn_Wm G E) A H0 X H locs) (hl : ls.size = nL)  (hR : 2 + 1 ≤ R.frames ∧ 8 + (3 + 11) + 47 ≤ R.locals) (hroom : (rest.map fun v => v.category).sum ≤ 8) (hcs : cells ≤ R.cells ∧ slots ≤ R.slots) (hdg : decode cc pc = .ok (.invokevirtual 46, 3))
    (kk : ∀ (H1 : Heap) (locs1 : List Loc), cn_V D (cn_Wm G E) A H0 (X) H1 locs1 → W p l e R s m args below meth c H1 locs1 cells slots Q (F0 m (pc + 3) ls (.int (km_cst c0 X) :: rest))) : W p l e R s m args below meth c H locs cells slots Q (F0 m pc ls (.int (c0) :: .ref (G 7) :: rest)) :=
  cn_mcalli (As := [.int (c0)]) (mt_cost l D G E X c0) C hV hl ⟨q280, q264, q265, q266⟩ (show yX1_cost.cls = RX1 ∧ yX1_cost.cls ≠ "java/lang/invoke/MethodHandle" ∧ yX1_cost.cls ≠ "java/lang/invoke/VarHandle" ∧ (parseMethodDescriptor yX1_cost.desc).map (fun d => d.parameters.length) = some 1 by decide +kernel) ⟨rfl, rfl⟩ hR rfl hroom hcs hdg kk
end
section
set_option maxRecDepth 100000
set_option maxHeartbeats 4000000 in
set_option maxRecDepth 100000 in
theorem mt_relax (l : Launch) (D : va_G) (G : Nat → Nat) (E : Nat → ClassId) (X : cn_St) (a : Nat) (ha : a < 81) : cn_mMi l yX1_relax cX1_relax 5 (some .boolean) ({ frames := 1, cells := 0, slots := 0, locals := 22 } : Room) D G E X [.int (nI a)] ((km_rx a X).1) ((km_rx a X).2) := by
  refine cn_mofi (ty := .boolean) rfl (km_rx_nar a X) [some (.ref (G 7)), some (.int (nI a)), none, none, none] (by decide) rfl (Nat.le_of_ble_eq_true rfl) (by intro v hv; simp only [List.mem_cons, List.not_mem_nil, or_false] at hv; rcases hv with rfl | rfl <;> rfl) rfl (Nat.le_of_ble_eq_true rfl) ?_
  intro p e s m args below meth c ls A Q H locs C hV hl hret
  obtain ⟨hx, hb, hml, hown, hts, hK, hrt, hlk⟩ := id C
  refine lv_iconst (v := 0) hx hb dX1_relax_0 (by decide) ?_
  refine lx_istore_n (i := 2) hx hb dX1_relax_1 rfl hl (by decide) (fun ls hl => ?_)
  refine lv_iconst (v := 0) hx hb dX1_relax_2 (by decide) ?_
  refine lx_istore_n (i := 3) hx hb dX1_relax_3 rfl hl (by decide) (fun ls hl => ?_)
  have loop4 : ∀ (n : Nat) (d : Nat) (b : Int32) (Y : cn_St) (H : Heap) (locs : List Loc) (ls : Array Slot), d + n = 4 → (b, Y) = kx_lp (km_x1 a) d (0, X) → cn_V D (cn_Wm G E) A s.heap (Y) H locs → cn_lx ls 5 [some (.ref (G 7)), some (.int (nI a)), some (.int b), some (.int (nI d)), none] → W p l e ({ frames := 1, cells := 0, slots := 0, locals := 22 } : Room) s m args below meth c H locs 0 0 Q (F0 m 4 ls []) := by
    intro n
    induction n with
    | zero =>
      intro d b Y H locs ls hn hY hV hl
      obtain rfl : d = 4 := by omega
      refine lv_iload_n hx hb dX1_relax_4 rfl (lx_at hl 3 rfl) ?_
      refine lv_iconst (v := 4) hx hb dX1_relax_5 (by decide) ?_
      refine lv_icmp_ge (tgt := 89) hx hb dX1_relax_6 (by decide) (fun c6 => ?_) (fun c6 => absurd (by decide) c6)
      refine lv_iload_n hx hb dX1_relax_89 rfl (lx_at hl 2 rfl) ?_
      exact hret _ _ _ _ _ _ (congrArg Prod.fst hY) (congrArg Prod.snd hY) hV dX1_relax_90
    | succ n ih4 =>
      intro d b Y H locs ls hn hY hV hl
      have h_d : d < 4 := by omega
      refine lv_iload_n hx hb dX1_relax_4 rfl (lx_at hl 3 rfl) ?_
      refine lv_iconst (v := 4) hx hb dX1_relax_5 (by decide) ?_
      refine lv_icmp_ge (tgt := 89) hx hb dX1_relax_6 (by decide) (fun c6 => absurd c6 (nI_ge (b := 4) h_d (by decide))) (fun c6 => ?_)
      refine lv_aload_n hx hb dX1_relax_9 rfl (lx_at hl 0 rfl) ?_
      refine lv_iload_n hx hb dX1_relax_10 rfl (lx_at hl 1 rfl) ?_
      refine lv_iload_n hx hb dX1_relax_11 rfl (lx_at hl 3 rfl) ?_
      refine mc_neighbour C hV (lx_sz hl) (by assumption) (by assumption) ⟨by decide, by decide⟩ (Nat.le_of_ble_eq_true rfl) ⟨by decide, by decide⟩ dX1_relax_12 (fun H locs hV => ?_)
      by_cases ht : kx_mv a d < 81
      · rw [kx_oN_pos ht]
        refine lx_istore hx hb dX1_relax_15 hl (by decide) (fun ls hl => ?_)
        refine lv_iload hx hb dX1_relax_17 (lx_at hl 4 rfl) ?_
        refine lv_bipush (v := (-4)) hx hb dX1_relax_19 (by decide) ?_
        refine lv_icmp_eq (tgt := 83) hx hb dX1_relax_21 (by decide) (fun c21 => absurd c21 (km_ne4 ht)) (fun c21 => ?_)
        refine lv_aload_n hx hb dX1_relax_24 rfl (lx_at hl 0 rfl) ?_
        refine mg_6 C hV dX1_relax_25 ?_
        refine lv_iload hx hb dX1_relax_28 (lx_at hl 4 rfl) ?_
        refine ml_6 C hV (by assumption) dX1_relax_30 ?_
        refine lv_ldc (v := 1000000) hx hb hown (hts _ q281) dX1_relax_31 ?_
        refine lv_icmp_ge (tgt := 83) hx hb dX1_relax_33 (by decide) (fun c33 => ?_) (fun c33 => ?_)
        · refine lx_iinc1 hx hb dX1_relax_83 hl rfl (fun ls hl => ?_)
          refine lv_goto (tgt := 4) hx hb dX1_relax_86 (by decide) ?_
          exact ih4 (d + 1) (_) (_) (_) (_) (_) (by omega) (by rw [kx_lp_s, ← hY]; simp [km_x1, ht, c33]) hV (lx_none hl 4)
        · refine lv_aload_n hx hb dX1_relax_36 rfl (lx_at hl 0 rfl) ?_
          refine mg_6 C hV dX1_relax_37 ?_
          refine lv_iload hx hb dX1_relax_40 (lx_at hl 4 rfl) ?_
          refine ml_6 C hV (by assumption) dX1_relax_42 ?_
          refine lv_aload_n hx hb dX1_relax_43 rfl (lx_at hl 0 rfl) ?_
          refine mg_5 C hV dX1_relax_44 ?_
          refine lv_iload hx hb dX1_relax_47 (lx_at hl 4 rfl) ?_
          refine ml_5 C hV (by assumption) dX1_relax_49 ?_
          refine lv_iadd hx hb dX1_relax_50 ?_
          refine lv_aload_n hx hb dX1_relax_51 rfl (lx_at hl 0 rfl) ?_
          refine mg_6 C hV dX1_relax_52 ?_
          refine lv_iload_n hx hb dX1_relax_55 rfl (lx_at hl 1 rfl) ?_
          refine ml_6 C hV (by assumption) dX1_relax_56 ?_
          refine lv_icmp_ge (tgt := 83) hx hb dX1_relax_57 (by decide) (fun c57 => ?_) (fun c57 => ?_)
          · refine lx_iinc1 hx hb dX1_relax_83 hl rfl (fun ls hl => ?_)
            refine lv_goto (tgt := 4) hx hb dX1_relax_86 (by decide) ?_
            exact ih4 (d + 1) (_) (_) (_) (_) (_) (by omega) (by rw [kx_lp_s, ← hY]; simp [km_x1, ht, c33, c57]) hV (lx_none hl 4)
          · refine lv_aload_n hx hb dX1_relax_60 rfl (lx_at hl 0 rfl) ?_
            refine mg_6 C hV dX1_relax_61 ?_
            refine lv_iload_n hx hb dX1_relax_64 rfl (lx_at hl 1 rfl) ?_
            refine lv_aload_n hx hb dX1_relax_65 rfl (lx_at hl 0 rfl) ?_
            refine mg_6 C hV dX1_relax_66 ?_
            refine lv_iload hx hb dX1_relax_69 (lx_at hl 4 rfl) ?_
            refine ml_6 C hV (by assumption) dX1_relax_71 ?_
            refine lv_aload_n hx hb dX1_relax_72 rfl (lx_at hl 0 rfl) ?_
            refine mg_5 C hV dX1_relax_73 ?_
            refine lv_iload hx hb dX1_relax_76 (lx_at hl 4 rfl) ?_
            refine ml_5 C hV (by assumption) dX1_relax_78 ?_
            refine lv_iadd hx hb dX1_relax_79 ?_
            refine ms_6 C hV (by assumption) dX1_relax_80 (fun H locs hV => ?_)
            refine lv_iconst (v := 1) hx hb dX1_relax_81 (by decide) ?_
            refine lx_istore_n (i := 2) hx hb dX1_relax_82 rfl hl (by decide) (fun ls hl => ?_)
            refine lx_iinc1 hx hb dX1_relax_83 hl rfl (fun ls hl => ?_)
            refine lv_goto (tgt := 4) hx hb dX1_relax_86 (by decide) ?_
            exact ih4 (d + 1) (_) (_) (_) (_) (_) (by omega) (by rw [kx_lp_s, ← hY]; simp [km_x1, ht, c33, c57]) hV (lx_none hl 4)
      · rw [kx_oN_neg ht]
        refine lx_istore hx hb dX1_relax_15 hl (by decide) (fun ls hl => ?_)
        refine lv_iload hx hb dX1_relax_17 (lx_at hl 4 rfl) ?_
        refine lv_bipush (v := (-4)) hx hb dX1_relax_19 (by decide) ?_
        refine lv_icmp_eq (tgt := 83) hx hb dX1_relax_21 (by decide) (fun c21 => ?_) (fun c21 => absurd (rfl) c21)
        refine lx_iinc1 hx hb dX1_relax_83 hl rfl (fun ls hl => ?_)
        refine lv_goto (tgt := 4) hx hb dX1_relax_86 (by decide) ?_
        exact ih4 (d + 1) (_) (_) (_) (_) (_) (by omega) (by rw [kx_lp_s, ← hY]; simp [km_x1, ht, ]) hV (lx_none hl 4)
  exact loop4 4 (0) (0) (X) (_) (_) (_) (rfl) (rfl) hV hl
theorem mc_relax {p : Program} {l : Launch} {e : Env} {R : Room} {s : State} {m : MethodId} {args : Array Value} {below : List Frame} {meth : Method} {c : Code} {H : Heap} {locs : List Loc} {cells slots : Nat} {Q : State → Prop} {cc : ByteArray} {nL : Nat} {ret : Option FieldType} {pc : Nat} {ls : Array Slot} {rest : List Value} {D : va_G} {G : Nat → Nat} {E : Nat → ClassId} {A : Nat → Prop} {H0 : Heap} {X : cn_St} {a : Nat} (C : cn_C RX1 D (cn_tm E) p s m args meth c cc nL ret) (hV : cn_V D (cn_Wm G E) A H0 X H locs) (hl : ls.size = nL) (ha : a < 81) (hR : 1 + 1 ≤ R.frames ∧ 8 + (5 + 11) + 22 ≤ R.locals) (hroom : (rest.map fun v => v.category).sum ≤ 8) (hcs : cells ≤ R.cells ∧ slots ≤ R.slots) (hdg : decode cc pc = .ok (.invokevirtual 49, 3))
    (kk : ∀ (H1 : Heap) (locs1 : List Loc), cn_V D (cn_Wm G E) A H0 ((km_rx a X).2) H1 locs1 → W p l e R s m args below meth c H1 locs1 cells slots Q (F0 m (pc + 3) ls (.int ((km_rx a X).1) :: rest))) : W p l e R s m args below meth c H locs cells slots Q (F0 m pc ls (.int (nI a) :: .ref (G 7) :: rest)) :=
  cn_mcalli (As := [.int (nI a)]) (mt_relax l D G E X a ha) C hV hl ⟨q282, q284, qs19, q285⟩ (show yX1_relax.cls = RX1 ∧ yX1_relax.cls ≠ "java/lang/invoke/MethodHandle" ∧ yX1_relax.cls ≠ "java/lang/invoke/VarHandle" ∧ (parseMethodDescriptor yX1_relax.desc).map (fun d => d.parameters.length) = some 1 by decide +kernel) ⟨rfl, rfl⟩ hR rfl hroom hcs hdg kk

set_option maxHeartbeats 4000000 in
set_option maxRecDepth 100000 in
theorem mt_findDistances (l : Launch) (D : va_G) (G : Nat → Nat) (E : Nat → ClassId) (X : cn_St)   : cn_mMv l yX1_findDistances cX1_findDistances 4 ({ frames := 3, cells := 0, slots := 0, locals := 69 } : Room) D G E X [] (km_fd X) := by
  refine cn_mofv [some (.ref (G 7)), none, none, none] (by decide) rfl (Nat.le_of_ble_eq_true rfl) (by intro v hv; simp only [List.mem_cons, List.not_mem_nil, or_false] at hv; rcases hv with rfl <;> rfl) rfl (Nat.le_of_ble_eq_true rfl) ?_
  intro p e s m args below meth c ls A Q H locs C hV hl hret
  obtain ⟨hx, hb, hml, hown, hts, hK, hrt, hlk⟩ := id C
  refine lv_iconst (v := 0) hx hb dX1_findDistances_0 (by decide) ?_
  refine lx_istore_n (i := 1) hx hb dX1_findDistances_1 rfl hl (by decide) (fun ls hl => ?_)
  have loop2 : ∀ (n : Nat) (a : Nat) (Y : cn_St) (H : Heap) (locs : List Loc) (ls : Array Slot), a + n = 81 → Y = kx_lp km_d1 a X → cn_V D (cn_Wm G E) A s.heap (Y) H locs → cn_lx ls 4 [some (.ref (G 7)), some (.int (nI a)), none, none] → W p l e ({ frames := 3, cells := 0, slots := 0, locals := 69 } : Room) s m args below meth c H locs 0 0 Q (F0 m 2 ls []) := by
    intro n
    induction n with
    | zero =>
      intro a Y H locs ls hn hY hV hl
      obtain rfl : a = 81 := by omega
      refine lv_iload_n hx hb dX1_findDistances_2 rfl (lx_at hl 1 rfl) ?_
      refine lv_bipush (v := 81) hx hb dX1_findDistances_3 (by decide) ?_
      refine lv_icmp_ge (tgt := 54) hx hb dX1_findDistances_5 (by decide) (fun c5 => ?_) (fun c5 => absurd (by decide) c5)
      refine lv_iconst (v := 1) hx hb dX1_findDistances_54 (by decide) ?_
      refine lx_istore_n (i := 1) hx hb dX1_findDistances_55 rfl hl (by decide) (fun ls hl => ?_)
      refine lv_iconst (v := 0) hx hb dX1_findDistances_56 (by decide) ?_
      refine lx_istore_n (i := 2) hx hb dX1_findDistances_57 rfl hl (by decide) (fun ls hl => ?_)
      have loop58 : ∀ (n : Nat) (r : Nat) (b : Int32) (Z : cn_St) (H : Heap) (locs : List Loc) (ls : Array Slot), r + n = 81 → km_fl n b Z = km_fl 81 1 Y → cn_V D (cn_Wm G E) A s.heap (Z) H locs → cn_lx ls 4 [some (.ref (G 7)), some (.int b), some (.int (nI r)), none] → W p l e ({ frames := 3, cells := 0, slots := 0, locals := 69 } : Room) s m args below meth c H locs 0 0 Q (F0 m 58 ls []) := by
        intro n
        induction n with
        | zero =>
          intro r b Z H locs ls hm hZ hV hl
          obtain rfl : r = 81 := by omega
          refine lv_iload_n hx hb dX1_findDistances_58 rfl (lx_at hl 2 rfl) ?_
          refine lv_bipush (v := 81) hx hb dX1_findDistances_59 (by decide) ?_
          refine lv_icmp_ge (tgt := 109) hx hb dX1_findDistances_61 (by decide) (fun c61 => ?_) (fun c61 => absurd (by decide) c61)
          exact hret _ _ _ _ _ (by rw [km_fd, ← hY, ← hZ]; first | (rfl; done) | exact (km_fl_t c65).symm) hV dX1_findDistances_109
        | succ n ih58 =>
          intro r b Z H locs ls hm hZ hV hl
          have h_r : r < 81 := by omega
          refine lv_iload_n hx hb dX1_findDistances_58 rfl (lx_at hl 2 rfl) ?_
          refine lv_bipush (v := 81) hx hb dX1_findDistances_59 (by decide) ?_
          refine lv_icmp_ge (tgt := 109) hx hb dX1_findDistances_61 (by decide) (fun c61 => absurd c61 (nI_ge (b := 81) h_r (by decide))) (fun c61 => ?_)
          refine lv_iload_n hx hb dX1_findDistances_64 rfl (lx_at hl 1 rfl) ?_
          refine lv_if_eq (tgt := 109) hx hb dX1_findDistances_65 (by decide) (fun c65 => ?_) (fun c65 => ?_)
          · exact hret _ _ _ _ _ (by rw [km_fd, ← hY, ← hZ]; first | (rfl; done) | exact (km_fl_t c65).symm) hV dX1_findDistances_109
          · refine lv_iconst (v := 0) hx hb dX1_findDistances_68 (by decide) ?_
            refine lx_istore_n (i := 1) hx hb dX1_findDistances_69 rfl hl (by decide) (fun ls hl => ?_)
            refine lv_iconst (v := 0) hx hb dX1_findDistances_70 (by decide) ?_
            refine lx_istore_n (i := 3) hx hb dX1_findDistances_71 rfl hl (by decide) (fun ls hl => ?_)
            have loop72 : ∀ (n : Nat) (a : Nat) (b2 : Int32) (U : cn_St) (H : Heap) (locs : List Loc) (ls : Array Slot), a + n = 81 → (b2, U) = kx_lp km_k1 a (0, Z) → cn_V D (cn_Wm G E) A s.heap (U) H locs → cn_lx ls 4 [some (.ref (G 7)), some (.int b2), some (.int (nI r)), some (.int (nI a))] → W p l e ({ frames := 3, cells := 0, slots := 0, locals := 69 } : Room) s m args below meth c H locs 0 0 Q (F0 m 72 ls []) := by
              intro n
              induction n with
              | zero =>
                intro a b2 U H locs ls hk hU hV hl
                obtain rfl : a = 81 := by omega
                refine lv_iload_n hx hb dX1_findDistances_72 rfl (lx_at hl 3 rfl) ?_
                refine lv_bipush (v := 81) hx hb dX1_findDistances_73 (by decide) ?_
                refine lv_icmp_ge (tgt := 103) hx hb dX1_findDistances_75 (by decide) (fun c75 => ?_) (fun c75 => absurd (by decide) c75)
                refine lx_iinc1 hx hb dX1_findDistances_103 hl rfl (fun ls hl => ?_)
                refine lv_goto (tgt := 58) hx hb dX1_findDistances_106 (by decide) ?_
                exact ih58 (r + 1) (_) (_) (_) (_) (_) (by omega) (by rw [← hZ, km_fl_f c65, km_rd, ← hU]) hV (lx_none hl 3)
              | succ n ih72 =>
                intro a b2 U H locs ls hk hU hV hl
                have h_a : a < 81 := by omega
                refine lv_iload_n hx hb dX1_findDistances_72 rfl (lx_at hl 3 rfl) ?_
                refine lv_bipush (v := 81) hx hb dX1_findDistances_73 (by decide) ?_
                refine lv_icmp_ge (tgt := 103) hx hb dX1_findDistances_75 (by decide) (fun c75 => absurd c75 (nI_ge (b := 81) h_a (by decide))) (fun c75 => ?_)
                refine lv_aload_n hx hb dX1_findDistances_78 rfl (lx_at hl 0 rfl) ?_
                refine mg_0 C hV dX1_findDistances_79 ?_
                refine lv_iload_n hx hb dX1_findDistances_82 rfl (lx_at hl 3 rfl) ?_
                refine ml_0 C hV (by assumption) dX1_findDistances_83 ?_
                refine lv_if_ne (tgt := 97) hx hb dX1_findDistances_84 (by decide) (fun c84 => ?_) (fun c84 => ?_)
                · refine lx_iinc1 hx hb dX1_findDistances_97 hl rfl (fun ls hl => ?_)
                  refine lv_goto (tgt := 72) hx hb dX1_findDistances_100 (by decide) ?_
                  exact ih72 (a + 1) (_) (_) (_) (_) (_) (by omega) (by rw [kx_lp_s, ← hU]; simp [km_k1, c65, c84]) hV hl
                · refine lv_aload_n hx hb dX1_findDistances_87 rfl (lx_at hl 0 rfl) ?_
                  refine lv_iload_n hx hb dX1_findDistances_88 rfl (lx_at hl 3 rfl) ?_
                  refine mc_relax C hV (lx_sz hl) (by assumption) ⟨by decide, by decide⟩ (Nat.le_of_ble_eq_true rfl) ⟨by decide, by decide⟩ dX1_findDistances_89 (fun H locs hV => ?_)
                  refine lv_if_eq (tgt := 97) hx hb dX1_findDistances_92 (by decide) (fun c92 => ?_) (fun c92 => ?_)
                  · refine lx_iinc1 hx hb dX1_findDistances_97 hl rfl (fun ls hl => ?_)
                    refine lv_goto (tgt := 72) hx hb dX1_findDistances_100 (by decide) ?_
                    exact ih72 (a + 1) (_) (_) (_) (_) (_) (by omega) (by rw [kx_lp_s, ← hU]; simp [km_k1, c65, c84, c92]) hV hl
                  · refine lv_iconst (v := 1) hx hb dX1_findDistances_95 (by decide) ?_
                    refine lx_istore_n (i := 1) hx hb dX1_findDistances_96 rfl hl (by decide) (fun ls hl => ?_)
                    refine lx_iinc1 hx hb dX1_findDistances_97 hl rfl (fun ls hl => ?_)
                    refine lv_goto (tgt := 72) hx hb dX1_findDistances_100 (by decide) ?_
                    exact ih72 (a + 1) (_) (_) (_) (_) (_) (by omega) (by rw [kx_lp_s, ← hU]; simp [km_k1, c65, c84, c92]) hV hl
            exact loop72 81 (0) (0) (Z) (_) (_) (_) (rfl) (rfl) hV hl
      exact loop58 81 (0) (1) (Y) (_) (_) (_) (rfl) (rfl) hV hl
    | succ n ih2 =>
      intro a Y H locs ls hn hY hV hl
      have h_a : a < 81 := by omega
      refine lv_iload_n hx hb dX1_findDistances_2 rfl (lx_at hl 1 rfl) ?_
      refine lv_bipush (v := 81) hx hb dX1_findDistances_3 (by decide) ?_
      refine lv_icmp_ge (tgt := 54) hx hb dX1_findDistances_5 (by decide) (fun c5 => absurd c5 (nI_ge (b := 81) h_a (by decide))) (fun c5 => ?_)
      refine lv_aload_n hx hb dX1_findDistances_8 rfl (lx_at hl 0 rfl) ?_
      refine mg_5 C hV dX1_findDistances_9 ?_
      refine lv_iload_n hx hb dX1_findDistances_12 rfl (lx_at hl 1 rfl) ?_
      refine lv_aload_n hx hb dX1_findDistances_13 rfl (lx_at hl 0 rfl) ?_
      refine lv_iload_n hx hb dX1_findDistances_14 rfl (lx_at hl 1 rfl) ?_
      refine mc_cost C hV (lx_sz hl)  ⟨by decide, by decide⟩ (Nat.le_of_ble_eq_true rfl) ⟨by decide, by decide⟩ dX1_findDistances_15 (fun H locs hV => ?_)
      rw [km_cst_in (by assumption)]
      refine ms_5 C hV (by assumption) dX1_findDistances_18 (fun H locs hV => ?_)
      refine lv_aload_n hx hb dX1_findDistances_19 rfl (lx_at hl 0 rfl) ?_
      refine mg_6 C hV dX1_findDistances_20 ?_
      refine lv_iload_n hx hb dX1_findDistances_23 rfl (lx_at hl 1 rfl) ?_
      refine lv_iload_n hx hb dX1_findDistances_24 rfl (lx_at hl 1 rfl) ?_
      refine lv_aload_n hx hb dX1_findDistances_25 rfl (lx_at hl 0 rfl) ?_
      refine mg_2 C hV dX1_findDistances_26 ?_
      rw [up2_o (k := 5) (a := 2) _ _ _ (by decide)]
      refine lv_icmp_ne (tgt := 45) hx hb dX1_findDistances_29 (by decide) (fun c29 => ?_) (fun c29 => ?_)
      · refine lv_ldc (v := 1000000) hx hb hown (hts _ q281) dX1_findDistances_45 ?_
        refine ms_6 C hV (by assumption) dX1_findDistances_47 (fun H locs hV => ?_)
        refine lx_iinc1 hx hb dX1_findDistances_48 hl rfl (fun ls hl => ?_)
        refine lv_goto (tgt := 2) hx hb dX1_findDistances_51 (by decide) ?_
        exact ih2 (a + 1) (_) (_) (_) (_) (by omega) (by rw [kx_lp_s, ← hY]; simp [km_d1, up2_o, c29]) hV hl
      · refine lv_aload_n hx hb dX1_findDistances_32 rfl (lx_at hl 0 rfl) ?_
        refine mg_0 C hV dX1_findDistances_33 ?_
        refine lv_iload_n hx hb dX1_findDistances_36 rfl (lx_at hl 1 rfl) ?_
        refine ml_0 C hV (by assumption) dX1_findDistances_37 ?_
        rw [up2_o (k := 5) (a := 0) _ _ _ (by decide)]
        refine lv_if_ne (tgt := 45) hx hb dX1_findDistances_38 (by decide) (fun c38 => ?_) (fun c38 => ?_)
        · refine lv_ldc (v := 1000000) hx hb hown (hts _ q281) dX1_findDistances_45 ?_
          refine ms_6 C hV (by assumption) dX1_findDistances_47 (fun H locs hV => ?_)
          refine lx_iinc1 hx hb dX1_findDistances_48 hl rfl (fun ls hl => ?_)
          refine lv_goto (tgt := 2) hx hb dX1_findDistances_51 (by decide) ?_
          exact ih2 (a + 1) (_) (_) (_) (_) (by omega) (by rw [kx_lp_s, ← hY]; simp [km_d1, up2_o, c29, c38]) hV hl
        · refine lv_iconst (v := 0) hx hb dX1_findDistances_41 (by decide) ?_
          refine lv_goto (tgt := 47) hx hb dX1_findDistances_42 (by decide) ?_
          refine ms_6 C hV (by assumption) dX1_findDistances_47 (fun H locs hV => ?_)
          refine lx_iinc1 hx hb dX1_findDistances_48 hl rfl (fun ls hl => ?_)
          refine lv_goto (tgt := 2) hx hb dX1_findDistances_51 (by decide) ?_
          exact ih2 (a + 1) (_) (_) (_) (_) (by omega) (by rw [kx_lp_s, ← hY]; simp [km_d1, up2_o, c29, c38]) hV hl
  exact loop2 81 (0) (X) (_) (_) (_) (rfl) (rfl) hV hl
theorem mc_findDistances {p : Program} {l : Launch} {e : Env} {R : Room} {s : State} {m : MethodId} {args : Array Value} {below : List Frame} {meth : Method} {c : Code} {H : Heap} {locs : List Loc} {cells slots : Nat} {Q : State → Prop} {cc : ByteArray} {nL : Nat} {ret : Option FieldType} {pc : Nat} {ls : Array Slot} {rest : List Value} {D : va_G} {G : Nat → Nat} {E : Nat → ClassId} {A : Nat → Prop} {H0 : Heap} {X : cn_St}  (C : cn_C RX1 D (cn_tm E) p s m args meth c cc nL ret) (hV : cn_V D (cn_Wm G E) A H0 X H locs) (hl : ls.size = nL)  (hR : 3 + 1 ≤ R.frames ∧ 8 + (4 + 11) + 69 ≤ R.locals) (hroom : (rest.map fun v => v.category).sum ≤ 8) (hcs : cells ≤ R.cells ∧ slots ≤ R.slots) (hdg : decode cc pc = .ok (.invokevirtual 55, 3))
    (kk : ∀ (H1 : Heap) (locs1 : List Loc), cn_V D (cn_Wm G E) A H0 (km_fd X) H1 locs1 → W p l e R s m args below meth c H1 locs1 cells slots Q (F0 m (pc + 3) ls rest)) : W p l e R s m args below meth c H locs cells slots Q (F0 m pc ls (.ref (G 7) :: rest)) :=
  cn_mcallv (As := []) (mt_findDistances l D G E X ) C hV hl ⟨q276, q278, qs18, q279⟩ (show yX1_findDistances.cls = RX1 ∧ yX1_findDistances.cls ≠ "java/lang/invoke/MethodHandle" ∧ yX1_findDistances.cls ≠ "java/lang/invoke/VarHandle" ∧ (parseMethodDescriptor yX1_findDistances.desc).map (fun d => d.parameters.length) = some 0 by decide +kernel) ⟨rfl, rfl⟩ hR rfl hroom hcs hdg kk

set_option maxHeartbeats 4000000 in
set_option maxRecDepth 100000 in
theorem mt_distanceFrom (l : Launch) (D : va_G) (G : Nat → Nat) (E : Nat → ClassId) (X : cn_St) (c0 : Int32)  : cn_mMi l yX1_distanceFrom cX1_distanceFrom 2 (some .int) ({ frames := 4, cells := 0, slots := 0, locals := 92 } : Room) D G E X [.int (c0)] ((km_dfr c0 X).1) ((km_dfr c0 X).2) := by
  refine cn_mofi (ty := .int) rfl (vp_nar_int _) [some (.ref (G 7)), some (.int (c0))] (by decide) rfl (Nat.le_of_ble_eq_true rfl) (by intro v hv; simp only [List.mem_cons, List.not_mem_nil, or_false] at hv; rcases hv with rfl | rfl <;> rfl) rfl (Nat.le_of_ble_eq_true rfl) ?_
  intro p e s m args below meth c ls A Q H locs C hV hl hret
  obtain ⟨hx, hb, hml, hown, hts, hK, hrt, hlk⟩ := id C
  refine lv_aload_n hx hb dX1_distanceFrom_0 rfl (lx_at hl 0 rfl) ?_
  refine lv_iload_n hx hb dX1_distanceFrom_1 rfl (lx_at hl 1 rfl) ?_
  refine mc_isCell C hV (lx_sz hl)  ⟨by decide, by decide⟩ (Nat.le_of_ble_eq_true rfl) ⟨by decide, by decide⟩ dX1_distanceFrom_2 (fun H locs hV => ?_)
  refine lv_if_ne (tgt := 10) hx hb dX1_distanceFrom_5 (by decide) (fun c5 => ?_) (fun c5 => ?_)
  · obtain ⟨a, ha, rfl⟩ := km_ic_1 c5
    have hq : (nI a).toNatClampNeg = a := nI_clamp (by omega)
    refine lv_aload_n hx hb dX1_distanceFrom_10 rfl (lx_at hl 0 rfl) ?_
    refine mc_findDistances C hV (lx_sz hl)  ⟨by decide, by decide⟩ (Nat.le_of_ble_eq_true rfl) ⟨by decide, by decide⟩ dX1_distanceFrom_11 (fun H locs hV => ?_)
    refine lv_aload_n hx hb dX1_distanceFrom_14 rfl (lx_at hl 0 rfl) ?_
    refine mg_6 C hV dX1_distanceFrom_15 ?_
    refine lv_iload_n hx hb dX1_distanceFrom_18 rfl (lx_at hl 1 rfl) ?_
    refine ml_6 C hV (by assumption) dX1_distanceFrom_19 ?_
    refine lv_ldc (v := 1000000) hx hb hown (hts _ q281) dX1_distanceFrom_20 ?_
    refine lv_icmp_ne (tgt := 30) hx hb dX1_distanceFrom_22 (by decide) (fun c22 => ?_) (fun c22 => ?_)
    · refine lv_aload_n hx hb dX1_distanceFrom_30 rfl (lx_at hl 0 rfl) ?_
      refine mg_6 C hV dX1_distanceFrom_31 ?_
      refine lv_iload_n hx hb dX1_distanceFrom_34 rfl (lx_at hl 1 rfl) ?_
      refine ml_6 C hV (by assumption) dX1_distanceFrom_35 ?_
      exact hret _ _ _ _ _ _ (by simp [km_dfr, c5, c22, hq]) (by simp [km_dfr, c5, c22, hq]) hV dX1_distanceFrom_36
    · refine lv_bipush (v := (-4)) hx hb dX1_distanceFrom_25 (by decide) ?_
      refine lv_goto (tgt := 36) hx hb dX1_distanceFrom_27 (by decide) ?_
      exact hret _ _ _ _ _ _ (by simp [km_dfr, c5, c22, hq]) (by simp [km_dfr, c5, c22, hq]) hV dX1_distanceFrom_36
  · refine lv_iconst (v := (-1)) hx hb dX1_distanceFrom_8 (by decide) ?_
    exact hret _ _ _ _ _ _ (by simp [km_dfr, c5]) (by simp [km_dfr, c5]) hV dX1_distanceFrom_9
theorem mc_distanceFrom {p : Program} {l : Launch} {e : Env} {R : Room} {s : State} {m : MethodId} {args : Array Value} {below : List Frame} {meth : Method} {c : Code} {H : Heap} {locs : List Loc} {cells slots : Nat} {Q : State → Prop} {cc : ByteArray} {nL : Nat} {ret : Option FieldType} {pc : Nat} {ls : Array Slot} {rest : List Value} {D : va_G} {G : Nat → Nat} {E : Nat → ClassId} {A : Nat → Prop} {H0 : Heap} {X : cn_St} {c0 : Int32} (C : cn_C RX1 D (cn_tm E) p s m args meth c cc nL ret) (hV : cn_V D (cn_Wm G E) A H0 X H locs) (hl : ls.size = nL)  (hR : 4 + 1 ≤ R.frames ∧ 8 + (2 + 11) + 92 ≤ R.locals) (hroom : (rest.map fun v => v.category).sum ≤ 8) (hcs : cells ≤ R.cells ∧ slots ≤ R.slots) (hdg : decode cc pc = .ok (.invokevirtual 52, 3))
    (kk : ∀ (H1 : Heap) (locs1 : List Loc), cn_V D (cn_Wm G E) A H0 ((km_dfr c0 X).2) H1 locs1 → W p l e R s m args below meth c H1 locs1 cells slots Q (F0 m (pc + 3) ls (.int ((km_dfr c0 X).1) :: rest))) : W p l e R s m args below meth c H locs cells slots Q (F0 m pc ls (.int (c0) :: .ref (G 7) :: rest)) :=
  cn_mcalli (As := [.int (c0)]) (mt_distanceFrom l D G E X c0) C hV hl ⟨q272, q273, q274, q275⟩ (show yX1_distanceFrom.cls = RX1 ∧ yX1_distanceFrom.cls ≠ "java/lang/invoke/MethodHandle" ∧ yX1_distanceFrom.cls ≠ "java/lang/invoke/VarHandle" ∧ (parseMethodDescriptor yX1_distanceFrom.desc).map (fun d => d.parameters.length) = some 1 by decide +kernel) ⟨rfl, rfl⟩ hR rfl hroom hcs hdg kk

set_option maxHeartbeats 4000000 in
set_option maxRecDepth 100000 in
theorem mt_distance (l : Launch) (D : va_G) (G : Nat → Nat) (E : Nat → ClassId) (X : cn_St)   : cn_mMi l yX1_distance cX1_distance 1 (some .int) ({ frames := 5, cells := 0, slots := 0, locals := 113 } : Room) D G E X [] ((km_dfr (X 1 0) X).1) ((km_dfr (X 1 0) X).2) := by
  refine cn_mofi (ty := .int) rfl (vp_nar_int _) [some (.ref (G 7))] (by decide) rfl (Nat.le_of_ble_eq_true rfl) (by intro v hv; simp only [List.mem_cons, List.not_mem_nil, or_false] at hv; rcases hv with rfl <;> rfl) rfl (Nat.le_of_ble_eq_true rfl) ?_
  intro p e s m args below meth c ls A Q H locs C hV hl hret
  obtain ⟨hx, hb, hml, hown, hts, hK, hrt, hlk⟩ := id C
  refine lv_aload_n hx hb dX1_distance_0 rfl (lx_at hl 0 rfl) ?_
  refine lv_aload_n hx hb dX1_distance_1 rfl (lx_at hl 0 rfl) ?_
  refine mg_1 C hV dX1_distance_2 ?_
  refine mc_distanceFrom C hV (lx_sz hl)  ⟨by decide, by decide⟩ (Nat.le_of_ble_eq_true rfl) ⟨by decide, by decide⟩ dX1_distance_5 (fun H locs hV => ?_)
  exact hret _ _ _ _ _ _ (rfl) (rfl) hV dX1_distance_8

set_option maxHeartbeats 4000000 in
set_option maxRecDepth 100000 in
theorem mt_directionFrom (l : Launch) (D : va_G) (G : Nat → Nat) (E : Nat → ClassId) (X : cn_St) (a : Nat) (ha : a < 81) : cn_mMi l yX1_directionFrom cX1_directionFrom 4 (some .int) ({ frames := 1, cells := 0, slots := 0, locals := 22 } : Room) D G E X [.int (nI a)] (kx_oD (km_nx X a)) (X) := by
  refine cn_mofi (ty := .int) rfl (vp_nar_int _) [some (.ref (G 7)), some (.int (nI a)), none, none] (by decide) rfl (Nat.le_of_ble_eq_true rfl) (by intro v hv; simp only [List.mem_cons, List.not_mem_nil, or_false] at hv; rcases hv with rfl | rfl <;> rfl) rfl (Nat.le_of_ble_eq_true rfl) ?_
  intro p e s m args below meth c ls A Q H locs C hV hl hret
  obtain ⟨hx, hb, hml, hown, hts, hK, hrt, hlk⟩ := id C
  refine lv_iconst (v := 0) hx hb dX1_directionFrom_0 (by decide) ?_
  refine lx_istore_n (i := 2) hx hb dX1_directionFrom_1 rfl hl (by decide) (fun ls hl => ?_)
  have loop2 : ∀ (n : Nat) (d : Nat) (H : Heap) (locs : List Loc) (ls : Array Slot), d + n = 4 → km_nl X a n d = km_nl X a 4 0 → cn_V D (cn_Wm G E) A s.heap (X) H locs → cn_lx ls 4 [some (.ref (G 7)), some (.int (nI a)), some (.int (nI d)), none] → W p l e ({ frames := 1, cells := 0, slots := 0, locals := 22 } : Room) s m args below meth c H locs 0 0 Q (F0 m 2 ls []) := by
    intro n
    induction n with
    | zero =>
      intro d H locs ls hn hY hV hl
      obtain rfl : d = 4 := by omega
      refine lv_iload_n hx hb dX1_directionFrom_2 rfl (lx_at hl 2 rfl) ?_
      refine lv_iconst (v := 4) hx hb dX1_directionFrom_3 (by decide) ?_
      refine lv_icmp_ge (tgt := 78) hx hb dX1_directionFrom_4 (by decide) (fun c4 => ?_) (fun c4 => absurd (by decide) c4)
      refine lv_bipush (v := (-4)) hx hb dX1_directionFrom_78 (by decide) ?_
      exact hret _ _ _ _ _ _ (by rw [km_nx, ← hY]; rfl) (rfl) hV dX1_directionFrom_80
    | succ n ih2 =>
      intro d H locs ls hn hY hV hl
      have h_d : d < 4 := by omega
      refine lv_iload_n hx hb dX1_directionFrom_2 rfl (lx_at hl 2 rfl) ?_
      refine lv_iconst (v := 4) hx hb dX1_directionFrom_3 (by decide) ?_
      refine lv_icmp_ge (tgt := 78) hx hb dX1_directionFrom_4 (by decide) (fun c4 => absurd c4 (nI_ge (b := 4) h_d (by decide))) (fun c4 => ?_)
      refine lv_aload_n hx hb dX1_directionFrom_7 rfl (lx_at hl 0 rfl) ?_
      refine lv_iload_n hx hb dX1_directionFrom_8 rfl (lx_at hl 1 rfl) ?_
      refine lv_iload_n hx hb dX1_directionFrom_9 rfl (lx_at hl 2 rfl) ?_
      refine mc_neighbour C hV (lx_sz hl) (by assumption) (by assumption) ⟨by decide, by decide⟩ (Nat.le_of_ble_eq_true rfl) ⟨by decide, by decide⟩ dX1_directionFrom_10 (fun H locs hV => ?_)
      by_cases ht : kx_mv a d < 81
      · rw [kx_oN_pos ht]
        refine lx_istore_n (i := 3) hx hb dX1_directionFrom_13 rfl hl (by decide) (fun ls hl => ?_)
        refine lv_iload_n hx hb dX1_directionFrom_14 rfl (lx_at hl 1 rfl) ?_
        refine lv_aload_n hx hb dX1_directionFrom_15 rfl (lx_at hl 0 rfl) ?_
        refine mg_2 C hV dX1_directionFrom_16 ?_
        refine lv_icmp_eq (tgt := 72) hx hb dX1_directionFrom_19 (by decide) (fun c19 => ?_) (fun c19 => ?_)
        · refine lx_iinc1 hx hb dX1_directionFrom_72 hl rfl (fun ls hl => ?_)
          refine lv_goto (tgt := 2) hx hb dX1_directionFrom_75 (by decide) ?_
          exact ih2 (d + 1) (_) (_) (_) (by omega) (by rw [← hY]; simp [km_nl, ht, c19]) hV (lx_none hl 3)
        · refine lv_iload_n hx hb dX1_directionFrom_22 rfl (lx_at hl 3 rfl) ?_
          refine lv_bipush (v := (-4)) hx hb dX1_directionFrom_23 (by decide) ?_
          refine lv_icmp_eq (tgt := 72) hx hb dX1_directionFrom_25 (by decide) (fun c25 => absurd c25 (km_ne4 ht)) (fun c25 => ?_)
          refine lv_aload_n hx hb dX1_directionFrom_28 rfl (lx_at hl 0 rfl) ?_
          refine mg_6 C hV dX1_directionFrom_29 ?_
          refine lv_iload_n hx hb dX1_directionFrom_32 rfl (lx_at hl 1 rfl) ?_
          refine ml_6 C hV (by assumption) dX1_directionFrom_33 ?_
          refine lv_ldc (v := 1000000) hx hb hown (hts _ q281) dX1_directionFrom_34 ?_
          refine lv_icmp_ge (tgt := 72) hx hb dX1_directionFrom_36 (by decide) (fun c36 => ?_) (fun c36 => ?_)
          · refine lx_iinc1 hx hb dX1_directionFrom_72 hl rfl (fun ls hl => ?_)
            refine lv_goto (tgt := 2) hx hb dX1_directionFrom_75 (by decide) ?_
            exact ih2 (d + 1) (_) (_) (_) (by omega) (by rw [← hY]; simp [km_nl, ht, c19, c36]) hV (lx_none hl 3)
          · refine lv_aload_n hx hb dX1_directionFrom_39 rfl (lx_at hl 0 rfl) ?_
            refine mg_0 C hV dX1_directionFrom_40 ?_
            refine lv_iload_n hx hb dX1_directionFrom_43 rfl (lx_at hl 3 rfl) ?_
            refine ml_0 C hV (by assumption) dX1_directionFrom_44 ?_
            refine lv_if_ne (tgt := 72) hx hb dX1_directionFrom_45 (by decide) (fun c45 => ?_) (fun c45 => ?_)
            · refine lx_iinc1 hx hb dX1_directionFrom_72 hl rfl (fun ls hl => ?_)
              refine lv_goto (tgt := 2) hx hb dX1_directionFrom_75 (by decide) ?_
              exact ih2 (d + 1) (_) (_) (_) (by omega) (by rw [← hY]; simp [km_nl, ht, c19, c36, c45]) hV (lx_none hl 3)
            · refine lv_aload_n hx hb dX1_directionFrom_48 rfl (lx_at hl 0 rfl) ?_
              refine mg_6 C hV dX1_directionFrom_49 ?_
              refine lv_iload_n hx hb dX1_directionFrom_52 rfl (lx_at hl 3 rfl) ?_
              refine ml_6 C hV (by assumption) dX1_directionFrom_53 ?_
              refine lv_aload_n hx hb dX1_directionFrom_54 rfl (lx_at hl 0 rfl) ?_
              refine mg_5 C hV dX1_directionFrom_55 ?_
              refine lv_iload_n hx hb dX1_directionFrom_58 rfl (lx_at hl 3 rfl) ?_
              refine ml_5 C hV (by assumption) dX1_directionFrom_59 ?_
              refine lv_iadd hx hb dX1_directionFrom_60 ?_
              refine lv_aload_n hx hb dX1_directionFrom_61 rfl (lx_at hl 0 rfl) ?_
              refine mg_6 C hV dX1_directionFrom_62 ?_
              refine lv_iload_n hx hb dX1_directionFrom_65 rfl (lx_at hl 1 rfl) ?_
              refine ml_6 C hV (by assumption) dX1_directionFrom_66 ?_
              refine lv_icmp_ne (tgt := 72) hx hb dX1_directionFrom_67 (by decide) (fun c67 => ?_) (fun c67 => ?_)
              · refine lx_iinc1 hx hb dX1_directionFrom_72 hl rfl (fun ls hl => ?_)
                refine lv_goto (tgt := 2) hx hb dX1_directionFrom_75 (by decide) ?_
                exact ih2 (d + 1) (_) (_) (_) (by omega) (by rw [← hY]; simp [km_nl, ht, c19, c36, c45, c67]) hV (lx_none hl 3)
              · refine lv_iload_n hx hb dX1_directionFrom_70 rfl (lx_at hl 2 rfl) ?_
                exact hret _ _ _ _ _ _ (by rw [km_nx, ← hY]; simp [km_nl, ht, kx_oD, h_d, c19, c36, c45, c67]) (rfl) hV dX1_directionFrom_71
      · rw [kx_oN_neg ht]
        refine lx_istore_n (i := 3) hx hb dX1_directionFrom_13 rfl hl (by decide) (fun ls hl => ?_)
        refine lv_iload_n hx hb dX1_directionFrom_14 rfl (lx_at hl 1 rfl) ?_
        refine lv_aload_n hx hb dX1_directionFrom_15 rfl (lx_at hl 0 rfl) ?_
        refine mg_2 C hV dX1_directionFrom_16 ?_
        refine lv_icmp_eq (tgt := 72) hx hb dX1_directionFrom_19 (by decide) (fun c19 => ?_) (fun c19 => ?_)
        · refine lx_iinc1 hx hb dX1_directionFrom_72 hl rfl (fun ls hl => ?_)
          refine lv_goto (tgt := 2) hx hb dX1_directionFrom_75 (by decide) ?_
          exact ih2 (d + 1) (_) (_) (_) (by omega) (by rw [← hY]; simp [km_nl, ht, c19]) hV (lx_none hl 3)
        · refine lv_iload_n hx hb dX1_directionFrom_22 rfl (lx_at hl 3 rfl) ?_
          refine lv_bipush (v := (-4)) hx hb dX1_directionFrom_23 (by decide) ?_
          refine lv_icmp_eq (tgt := 72) hx hb dX1_directionFrom_25 (by decide) (fun c25 => ?_) (fun c25 => absurd (rfl) c25)
          refine lx_iinc1 hx hb dX1_directionFrom_72 hl rfl (fun ls hl => ?_)
          refine lv_goto (tgt := 2) hx hb dX1_directionFrom_75 (by decide) ?_
          exact ih2 (d + 1) (_) (_) (_) (by omega) (by rw [← hY]; simp [km_nl, ht, c19]) hV (lx_none hl 3)
  exact loop2 4 (0) (_) (_) (_) (rfl) (rfl) hV hl
theorem mc_directionFrom {p : Program} {l : Launch} {e : Env} {R : Room} {s : State} {m : MethodId} {args : Array Value} {below : List Frame} {meth : Method} {c : Code} {H : Heap} {locs : List Loc} {cells slots : Nat} {Q : State → Prop} {cc : ByteArray} {nL : Nat} {ret : Option FieldType} {pc : Nat} {ls : Array Slot} {rest : List Value} {D : va_G} {G : Nat → Nat} {E : Nat → ClassId} {A : Nat → Prop} {H0 : Heap} {X : cn_St} {a : Nat} (C : cn_C RX1 D (cn_tm E) p s m args meth c cc nL ret) (hV : cn_V D (cn_Wm G E) A H0 X H locs) (hl : ls.size = nL) (ha : a < 81) (hR : 1 + 1 ≤ R.frames ∧ 8 + (4 + 11) + 22 ≤ R.locals) (hroom : (rest.map fun v => v.category).sum ≤ 8) (hcs : cells ≤ R.cells ∧ slots ≤ R.slots) (hdg : decode cc pc = .ok (.invokevirtual 58, 3))
    (kk : ∀ (H1 : Heap) (locs1 : List Loc), cn_V D (cn_Wm G E) A H0 (X) H1 locs1 → W p l e R s m args below meth c H1 locs1 cells slots Q (F0 m (pc + 3) ls (.int (kx_oD (km_nx X a)) :: rest))) : W p l e R s m args below meth c H locs cells slots Q (F0 m pc ls (.int (nI a) :: .ref (G 7) :: rest)) :=
  cn_mcalli (As := [.int (nI a)]) (mt_directionFrom l D G E X a ha) C hV hl ⟨q295, q297, qs21, q298⟩ (show yX1_directionFrom.cls = RX1 ∧ yX1_directionFrom.cls ≠ "java/lang/invoke/MethodHandle" ∧ yX1_directionFrom.cls ≠ "java/lang/invoke/VarHandle" ∧ (parseMethodDescriptor yX1_directionFrom.desc).map (fun d => d.parameters.length) = some 1 by decide +kernel) ⟨rfl, rfl⟩ hR rfl hroom hcs hdg kk
end
section
set_option maxRecDepth 100000
set_option maxHeartbeats 4000000 in
set_option maxRecDepth 100000 in
theorem mt_next (l : Launch) (D : va_G) (G : Nat → Nat) (E : Nat → ClassId) (X : cn_St) (r : Nat) (hr : r < 81) (hr0 : km_fd X 1 0 = nI r) : cn_mMi l yX1_next cX1_next 1 (some .int) ({ frames := 4, cells := 0, slots := 0, locals := 92 } : Room) D G E X [] (kx_oD (km_nx (km_fd X) r)) (km_fd X) := by
  refine cn_mofi (ty := .int) rfl (vp_nar_int _) [some (.ref (G 7))] (by decide) rfl (Nat.le_of_ble_eq_true rfl) (by intro v hv; simp only [List.mem_cons, List.not_mem_nil, or_false] at hv; rcases hv with rfl <;> rfl) rfl (Nat.le_of_ble_eq_true rfl) ?_
  intro p e s m args below meth c ls A Q H locs C hV hl hret
  obtain ⟨hx, hb, hml, hown, hts, hK, hrt, hlk⟩ := id C
  refine lv_aload_n hx hb dX1_next_0 rfl (lx_at hl 0 rfl) ?_
  refine mc_findDistances C hV (lx_sz hl)  ⟨by decide, by decide⟩ (Nat.le_of_ble_eq_true rfl) ⟨by decide, by decide⟩ dX1_next_1 (fun H locs hV => ?_)
  refine lv_aload_n hx hb dX1_next_4 rfl (lx_at hl 0 rfl) ?_
  refine lv_aload_n hx hb dX1_next_5 rfl (lx_at hl 0 rfl) ?_
  refine mg_1 C hV dX1_next_6 ?_
  rw [hr0]
  refine mc_directionFrom C hV (lx_sz hl) (by assumption) ⟨by decide, by decide⟩ (Nat.le_of_ble_eq_true rfl) ⟨by decide, by decide⟩ dX1_next_9 (fun H locs hV => ?_)
  exact hret _ _ _ _ _ _ (rfl) (rfl) hV dX1_next_12

set_option maxHeartbeats 4000000 in
set_option maxRecDepth 100000 in
theorem mt_drive (l : Launch) (D : va_G) (G : Nat → Nat) (E : Nat → ClassId) (X : cn_St) (n0 : Int32) (r : Nat) (hr : r < 81) (hr0 : km_fd X 1 0 = nI r) : cn_mMi l yX1_drive cX1_drive 5 (some .int) ({ frames := 4, cells := 0, slots := 0, locals := 92 } : Room) D G E X [.int (n0)] ((km_dr n0 40 0 r 0 (km_fd X)).1) ((km_dr n0 40 0 r 0 (km_fd X)).2) := by
  refine cn_mofi (ty := .int) rfl (vp_nar_int _) [some (.ref (G 7)), some (.int (n0)), none, none, none] (by decide) rfl (Nat.le_of_ble_eq_true rfl) (by intro v hv; simp only [List.mem_cons, List.not_mem_nil, or_false] at hv; rcases hv with rfl | rfl <;> rfl) rfl (Nat.le_of_ble_eq_true rfl) ?_
  intro p e s m args below meth c ls A Q H locs C hV hl hret
  obtain ⟨hx, hb, hml, hown, hts, hK, hrt, hlk⟩ := id C
  refine lv_aload_n hx hb dX1_drive_0 rfl (lx_at hl 0 rfl) ?_
  refine mc_findDistances C hV (lx_sz hl)  ⟨by decide, by decide⟩ (Nat.le_of_ble_eq_true rfl) ⟨by decide, by decide⟩ dX1_drive_1 (fun H locs hV => ?_)
  refine lv_iconst (v := 0) hx hb dX1_drive_4 (by decide) ?_
  refine lx_istore_n (i := 2) hx hb dX1_drive_5 rfl hl (by decide) (fun ls hl => ?_)
  refine lv_iconst (v := 0) hx hb dX1_drive_6 (by decide) ?_
  refine lx_istore_n (i := 3) hx hb dX1_drive_7 rfl hl (by decide) (fun ls hl => ?_)
  have loop8 : ∀ (n : Nat) (i r1 : Nat) (b : Int32) (Y : cn_St) (H : Heap) (locs : List Loc) (ls : Array Slot), i + n = 40 → r1 < 81 → Y 1 0 = nI r1 → km_dr n0 n i r1 b Y = km_dr n0 40 0 r 0 (km_fd X) → cn_V D (cn_Wm G E) A s.heap (Y) H locs → cn_lx ls 5 [some (.ref (G 7)), some (.int n0), some (.int b), some (.int (nI i)), none] → W p l e ({ frames := 4, cells := 0, slots := 0, locals := 92 } : Room) s m args below meth c H locs 0 0 Q (F0 m 8 ls []) := by
    intro n
    induction n with
    | zero =>
      intro i r1 b Y H locs ls hn h81 hy0 hY hV hl
      obtain rfl : i = 40 := by omega
      refine lv_iload_n hx hb dX1_drive_8 rfl (lx_at hl 3 rfl) ?_
      refine lv_bipush (v := 40) hx hb dX1_drive_9 (by decide) ?_
      refine lv_icmp_ge (tgt := 59) hx hb dX1_drive_11 (by decide) (fun c11 => ?_) (fun c11 => absurd (by decide) c11)
      refine lv_iload_n hx hb dX1_drive_59 rfl (lx_at hl 2 rfl) ?_
      exact hret _ _ _ _ _ _ (by rw [← hY]; first | (simp [km_dr]; done) | (simp [km_dr, ]; done)) (by rw [← hY]; first | (simp [km_dr]; done) | (simp [km_dr, ]; done)) hV dX1_drive_60
    | succ n ih8 =>
      intro i r1 b Y H locs ls hn h81 hy0 hY hV hl
      have h_i : i < 40 := by omega
      refine lv_iload_n hx hb dX1_drive_8 rfl (lx_at hl 3 rfl) ?_
      refine lv_bipush (v := 40) hx hb dX1_drive_9 (by decide) ?_
      refine lv_icmp_ge (tgt := 59) hx hb dX1_drive_11 (by decide) (fun c11 => absurd c11 (nI_ge (b := 40) h_i (by decide))) (fun c11 => ?_)
      refine lv_iload_n hx hb dX1_drive_14 rfl (lx_at hl 3 rfl) ?_
      refine lv_iload_n hx hb dX1_drive_15 rfl (lx_at hl 1 rfl) ?_
      refine lv_icmp_ge (tgt := 59) hx hb dX1_drive_16 (by decide) (fun c16 => ?_) (fun c16 => ?_)
      · refine lv_iload_n hx hb dX1_drive_59 rfl (lx_at hl 2 rfl) ?_
        exact hret _ _ _ _ _ _ (by rw [← hY]; first | (simp [km_dr]; done) | (simp [km_dr, c16]; done)) (by rw [← hY]; first | (simp [km_dr]; done) | (simp [km_dr, c16]; done)) hV dX1_drive_60
      · refine lv_aload_n hx hb dX1_drive_19 rfl (lx_at hl 0 rfl) ?_
        refine lv_aload_n hx hb dX1_drive_20 rfl (lx_at hl 0 rfl) ?_
        refine mg_1 C hV dX1_drive_21 ?_
        rw [hy0]
        refine mc_directionFrom C hV (lx_sz hl) (by assumption) ⟨by decide, by decide⟩ (Nat.le_of_ble_eq_true rfl) ⟨by decide, by decide⟩ dX1_drive_24 (fun H locs hV => ?_)
        by_cases hf : km_nx Y r1 < 4
        · rw [kx_oD_pos hf]
          have hm := km_nx_mv hf
          refine lx_istore hx hb dX1_drive_27 hl (by decide) (fun ls hl => ?_)
          refine lv_iload hx hb dX1_drive_29 (lx_at hl 4 rfl) ?_
          refine lv_bipush (v := (-4)) hx hb dX1_drive_31 (by decide) ?_
          refine lv_icmp_eq (tgt := 53) hx hb dX1_drive_33 (by decide) (fun c33 => absurd c33 (km_ne4 (by omega))) (fun c33 => ?_)
          refine lv_aload_n hx hb dX1_drive_36 rfl (lx_at hl 0 rfl) ?_
          refine lv_aload_n hx hb dX1_drive_37 rfl (lx_at hl 0 rfl) ?_
          refine lv_aload_n hx hb dX1_drive_38 rfl (lx_at hl 0 rfl) ?_
          refine mg_1 C hV dX1_drive_39 ?_
          rw [hy0]
          refine lv_iload hx hb dX1_drive_42 (lx_at hl 4 rfl) ?_
          refine mc_neighbour C hV (lx_sz hl) (by assumption) (by assumption) ⟨by decide, by decide⟩ (Nat.le_of_ble_eq_true rfl) ⟨by decide, by decide⟩ dX1_drive_44 (fun H locs hV => ?_)
          rw [kx_oN_pos hm]
          refine mp_1 C hV dX1_drive_47 (fun H locs hV => ?_)
          refine lx_iincp hx hb dX1_drive_50 hl rfl (fun ls hl => ?_)
          refine lx_iinc1 hx hb dX1_drive_53 hl rfl (fun ls hl => ?_)
          refine lv_goto (tgt := 8) hx hb dX1_drive_56 (by decide) ?_
          exact ih8 (i + 1) (_) (_) (_) (_) (_) (_) (by omega) (by first | exact hm | exact h81) (by first | exact up2_s _ _ _ _ | exact hy0) (by rw [← hY]; simp [km_dr, hf, c16]) hV (lx_none hl 4)
        · rw [kx_oD_neg hf]
          refine lx_istore hx hb dX1_drive_27 hl (by decide) (fun ls hl => ?_)
          refine lv_iload hx hb dX1_drive_29 (lx_at hl 4 rfl) ?_
          refine lv_bipush (v := (-4)) hx hb dX1_drive_31 (by decide) ?_
          refine lv_icmp_eq (tgt := 53) hx hb dX1_drive_33 (by decide) (fun c33 => ?_) (fun c33 => absurd (rfl) c33)
          refine lx_iinc1 hx hb dX1_drive_53 hl rfl (fun ls hl => ?_)
          refine lv_goto (tgt := 8) hx hb dX1_drive_56 (by decide) ?_
          exact ih8 (i + 1) (_) (_) (_) (_) (_) (_) (by omega) (by first | exact hm | exact h81) (by first | exact up2_s _ _ _ _ | exact hy0) (by rw [← hY]; simp [km_dr, hf, c16]) hV (lx_none hl 4)
  exact loop8 40 (0) (r) (0) (_) (_) (_) (_) (rfl) (hr) (hr0) (rfl) hV hl

set_option maxHeartbeats 4000000 in
set_option maxRecDepth 100000 in
theorem mt_moves (l : Launch) (D : va_G) (G : Nat → Nat) (E : Nat → ClassId) (X : cn_St) (r : Nat) (P : Nat → Prop) (hr : r < 81) (hr0 : km_fd X 1 0 = nI r) (hP0 : ¬ km_fd X 6 r = 1000000 → P r) (hPs : ∀ a, a < 81 → P a → ¬ nI a = km_fd X 2 0 → km_nx (km_fd X) a < 4 ∧ P (kx_mv a (km_nx (km_fd X) a))) : cn_mMi l yX1_moves cX1_moves 4 (some .int) ({ frames := 4, cells := 0, slots := 0, locals := 92 } : Room) D G E X [] (km_mvs (km_fd X) r) (km_fd X) := by
  refine cn_mofi (ty := .int) rfl (vp_nar_int _) [some (.ref (G 7)), none, none, none] (by decide) rfl (Nat.le_of_ble_eq_true rfl) (by intro v hv; simp only [List.mem_cons, List.not_mem_nil, or_false] at hv; rcases hv with rfl <;> rfl) rfl (Nat.le_of_ble_eq_true rfl) ?_
  intro p e s m args below meth c ls A Q H locs C hV hl hret
  obtain ⟨hx, hb, hml, hown, hts, hK, hrt, hlk⟩ := id C
  refine lv_aload_n hx hb dX1_moves_0 rfl (lx_at hl 0 rfl) ?_
  refine mc_findDistances C hV (lx_sz hl)  ⟨by decide, by decide⟩ (Nat.le_of_ble_eq_true rfl) ⟨by decide, by decide⟩ dX1_moves_1 (fun H locs hV => ?_)
  obtain ⟨Z, hZ⟩ : ∃ Z, Z = km_fd X := ⟨_, rfl⟩
  rw [← hZ] at hr0 hP0 hPs hret hV
  clear hZ
  refine lv_aload_n hx hb dX1_moves_4 rfl (lx_at hl 0 rfl) ?_
  refine mg_6 C hV dX1_moves_5 ?_
  refine lv_aload_n hx hb dX1_moves_8 rfl (lx_at hl 0 rfl) ?_
  refine mg_1 C hV dX1_moves_9 ?_
  rw [hr0]
  refine ml_6 C hV (by assumption) dX1_moves_12 ?_
  refine lv_ldc (v := 1000000) hx hb hown (hts _ q281) dX1_moves_13 ?_
  refine lv_icmp_ne (tgt := 21) hx hb dX1_moves_15 (by decide) (fun c15 => ?_) (fun c15 => ?_)
  · refine lv_aload_n hx hb dX1_moves_21 rfl (lx_at hl 0 rfl) ?_
    refine mg_1 C hV dX1_moves_22 ?_
    rw [hr0]
    refine lx_istore_n (i := 1) hx hb dX1_moves_25 rfl hl (by decide) (fun ls hl => ?_)
    refine lv_iconst (v := 0) hx hb dX1_moves_26 (by decide) ?_
    refine lx_istore_n (i := 2) hx hb dX1_moves_27 rfl hl (by decide) (fun ls hl => ?_)
    have loop28 : ∀ (n : Nat) (i r1 : Nat) (H : Heap) (locs : List Loc) (ls : Array Slot), i + n = 81 → r1 < 81 → P r1 → km_ms Z n i r1 = km_ms Z 81 0 r → cn_V D (cn_Wm G E) A s.heap (Z) H locs → cn_lx ls 4 [some (.ref (G 7)), some (.int (nI r1)), some (.int (nI i)), none] → W p l e ({ frames := 4, cells := 0, slots := 0, locals := 92 } : Room) s m args below meth c H locs 0 0 Q (F0 m 28 ls []) := by
      intro n
      induction n with
      | zero =>
        intro i r1 H locs ls hn h81 hp1 hY hV hl
        obtain rfl : i = 81 := by omega
        refine lv_iload_n hx hb dX1_moves_28 rfl (lx_at hl 2 rfl) ?_
        refine lv_bipush (v := 81) hx hb dX1_moves_29 (by decide) ?_
        refine lv_icmp_ge (tgt := 61) hx hb dX1_moves_31 (by decide) (fun c31 => ?_) (fun c31 => absurd (by decide) c31)
        refine lv_iload_n hx hb dX1_moves_61 rfl (lx_at hl 2 rfl) ?_
        exact hret _ _ _ _ _ _ (by rw [km_mvs, if_neg c15, ← hY, km_ms]) (rfl) hV dX1_moves_62
      | succ n ih28 =>
        intro i r1 H locs ls hn h81 hp1 hY hV hl
        have h_i : i < 81 := by omega
        refine lv_iload_n hx hb dX1_moves_28 rfl (lx_at hl 2 rfl) ?_
        refine lv_bipush (v := 81) hx hb dX1_moves_29 (by decide) ?_
        refine lv_icmp_ge (tgt := 61) hx hb dX1_moves_31 (by decide) (fun c31 => absurd c31 (nI_ge (b := 81) h_i (by decide))) (fun c31 => ?_)
        refine lv_iload_n hx hb dX1_moves_34 rfl (lx_at hl 1 rfl) ?_
        refine lv_aload_n hx hb dX1_moves_35 rfl (lx_at hl 0 rfl) ?_
        refine mg_2 C hV dX1_moves_36 ?_
        refine lv_icmp_eq (tgt := 61) hx hb dX1_moves_39 (by decide) (fun c39 => ?_) (fun c39 => ?_)
        · refine lv_iload_n hx hb dX1_moves_61 rfl (lx_at hl 2 rfl) ?_
          exact hret _ _ _ _ _ _ (by rw [km_mvs, if_neg c15, ← hY, km_ms, if_pos c39]) (rfl) hV dX1_moves_62
        · obtain ⟨hf, hf2⟩ := hPs r1 h81 hp1 c39
          have hm := km_nx_mv hf
          refine lv_aload_n hx hb dX1_moves_42 rfl (lx_at hl 0 rfl) ?_
          refine lv_iload_n hx hb dX1_moves_43 rfl (lx_at hl 1 rfl) ?_
          refine mc_directionFrom C hV (lx_sz hl) (by assumption) ⟨by decide, by decide⟩ (Nat.le_of_ble_eq_true rfl) ⟨by decide, by decide⟩ dX1_moves_44 (fun H locs hV => ?_)
          rw [kx_oD_pos hf]
          refine lx_istore_n (i := 3) hx hb dX1_moves_47 rfl hl (by decide) (fun ls hl => ?_)
          refine lv_aload_n hx hb dX1_moves_48 rfl (lx_at hl 0 rfl) ?_
          refine lv_iload_n hx hb dX1_moves_49 rfl (lx_at hl 1 rfl) ?_
          refine lv_iload_n hx hb dX1_moves_50 rfl (lx_at hl 3 rfl) ?_
          refine mc_neighbour C hV (lx_sz hl) (by assumption) (by assumption) ⟨by decide, by decide⟩ (Nat.le_of_ble_eq_true rfl) ⟨by decide, by decide⟩ dX1_moves_51 (fun H locs hV => ?_)
          rw [kx_oN_pos hm]
          refine lx_istore_n (i := 1) hx hb dX1_moves_54 rfl hl (by decide) (fun ls hl => ?_)
          refine lx_iinc1 hx hb dX1_moves_55 hl rfl (fun ls hl => ?_)
          refine lv_goto (tgt := 28) hx hb dX1_moves_58 (by decide) ?_
          exact ih28 (i + 1) (_) (_) (_) (_) (by omega) (hm) (hf2) (by rw [← hY, km_ms, if_neg c39]) hV (lx_none hl 3)
    exact loop28 81 (0) (r) (_) (_) (_) (rfl) (hr) (hP0 c15) (rfl) hV hl
  · refine lv_bipush (v := (-4)) hx hb dX1_moves_18 (by decide) ?_
    exact hret _ _ _ _ _ _ (by rw [km_mvs, if_pos c15]) (rfl) hV dX1_moves_20

set_option maxHeartbeats 4000000 in
set_option maxRecDepth 100000 in
theorem mt_reached (l : Launch) (D : va_G) (G : Nat → Nat) (E : Nat → ClassId) (X : cn_St)   : cn_mMi l yX1_reached cX1_reached 3 (some .int) ({ frames := 4, cells := 0, slots := 0, locals := 92 } : Room) D G E X [] (kx_lp (km_n1 (km_fd X)) 81 0) (km_fd X) := by
  refine cn_mofi (ty := .int) rfl (vp_nar_int _) [some (.ref (G 7)), none, none] (by decide) rfl (Nat.le_of_ble_eq_true rfl) (by intro v hv; simp only [List.mem_cons, List.not_mem_nil, or_false] at hv; rcases hv with rfl <;> rfl) rfl (Nat.le_of_ble_eq_true rfl) ?_
  intro p e s m args below meth c ls A Q H locs C hV hl hret
  obtain ⟨hx, hb, hml, hown, hts, hK, hrt, hlk⟩ := id C
  refine lv_aload_n hx hb dX1_reached_0 rfl (lx_at hl 0 rfl) ?_
  refine mc_findDistances C hV (lx_sz hl)  ⟨by decide, by decide⟩ (Nat.le_of_ble_eq_true rfl) ⟨by decide, by decide⟩ dX1_reached_1 (fun H locs hV => ?_)
  refine lv_iconst (v := 0) hx hb dX1_reached_4 (by decide) ?_
  refine lx_istore_n (i := 1) hx hb dX1_reached_5 rfl hl (by decide) (fun ls hl => ?_)
  refine lv_iconst (v := 0) hx hb dX1_reached_6 (by decide) ?_
  refine lx_istore_n (i := 2) hx hb dX1_reached_7 rfl hl (by decide) (fun ls hl => ?_)
  have loop8 : ∀ (n : Nat) (a : Nat) (b : Int32) (H : Heap) (locs : List Loc) (ls : Array Slot), a + n = 81 → b = kx_lp (km_n1 (km_fd X)) a 0 → cn_V D (cn_Wm G E) A s.heap (km_fd X) H locs → cn_lx ls 3 [some (.ref (G 7)), some (.int b), some (.int (nI a))] → W p l e ({ frames := 4, cells := 0, slots := 0, locals := 92 } : Room) s m args below meth c H locs 0 0 Q (F0 m 8 ls []) := by
    intro n
    induction n with
    | zero =>
      intro a b H locs ls hn hY hV hl
      obtain rfl : a = 81 := by omega
      refine lv_iload_n hx hb dX1_reached_8 rfl (lx_at hl 2 rfl) ?_
      refine lv_bipush (v := 81) hx hb dX1_reached_9 (by decide) ?_
      refine lv_icmp_ge (tgt := 39) hx hb dX1_reached_11 (by decide) (fun c11 => ?_) (fun c11 => absurd (by decide) c11)
      refine lv_iload_n hx hb dX1_reached_39 rfl (lx_at hl 1 rfl) ?_
      exact hret _ _ _ _ _ _ (hY) (rfl) hV dX1_reached_40
    | succ n ih8 =>
      intro a b H locs ls hn hY hV hl
      have h_a : a < 81 := by omega
      refine lv_iload_n hx hb dX1_reached_8 rfl (lx_at hl 2 rfl) ?_
      refine lv_bipush (v := 81) hx hb dX1_reached_9 (by decide) ?_
      refine lv_icmp_ge (tgt := 39) hx hb dX1_reached_11 (by decide) (fun c11 => absurd c11 (nI_ge (b := 81) h_a (by decide))) (fun c11 => ?_)
      refine lv_aload_n hx hb dX1_reached_14 rfl (lx_at hl 0 rfl) ?_
      refine mg_6 C hV dX1_reached_15 ?_
      refine lv_iload_n hx hb dX1_reached_18 rfl (lx_at hl 2 rfl) ?_
      refine ml_6 C hV (by assumption) dX1_reached_19 ?_
      refine lv_ldc (v := 1000000) hx hb hown (hts _ q281) dX1_reached_20 ?_
      refine lv_icmp_ge (tgt := 31) hx hb dX1_reached_22 (by decide) (fun c22 => ?_) (fun c22 => ?_)
      · refine lv_iload_n hx hb dX1_reached_31 rfl (lx_at hl 1 rfl) ?_
        refine lx_istore_n (i := 1) hx hb dX1_reached_32 rfl hl (by decide) (fun ls hl => ?_)
        refine lx_iinc1 hx hb dX1_reached_33 hl rfl (fun ls hl => ?_)
        refine lv_goto (tgt := 8) hx hb dX1_reached_36 (by decide) ?_
        exact ih8 (a + 1) (_) (_) (_) (_) (by omega) (by rw [kx_lp_s, ← hY]; simp [km_n1, c22]) hV hl
      · refine lv_iload_n hx hb dX1_reached_25 rfl (lx_at hl 1 rfl) ?_
        refine lv_iconst (v := 1) hx hb dX1_reached_26 (by decide) ?_
        refine lv_iadd hx hb dX1_reached_27 ?_
        refine lv_goto (tgt := 32) hx hb dX1_reached_28 (by decide) ?_
        refine lx_istore_n (i := 1) hx hb dX1_reached_32 rfl hl (by decide) (fun ls hl => ?_)
        refine lx_iinc1 hx hb dX1_reached_33 hl rfl (fun ls hl => ?_)
        refine lv_goto (tgt := 8) hx hb dX1_reached_36 (by decide) ?_
        exact ih8 (a + 1) (_) (_) (_) (_) (by omega) (by rw [kx_lp_s, ← hY]; simp [km_n1, c22]) hV hl
  exact loop8 81 (0) (0) (_) (_) (_) (rfl) (rfl) hV hl

set_option maxHeartbeats 4000000 in
set_option maxRecDepth 100000 in
theorem mt_farthest (l : Launch) (D : va_G) (G : Nat → Nat) (E : Nat → ClassId) (X : cn_St)   : cn_mMi l yX1_farthest cX1_farthest 3 (some .int) ({ frames := 4, cells := 0, slots := 0, locals := 92 } : Room) D G E X [] (kx_lp (km_h1 (km_fd X)) 81 (-4)) (km_fd X) := by
  refine cn_mofi (ty := .int) rfl (vp_nar_int _) [some (.ref (G 7)), none, none] (by decide) rfl (Nat.le_of_ble_eq_true rfl) (by intro v hv; simp only [List.mem_cons, List.not_mem_nil, or_false] at hv; rcases hv with rfl <;> rfl) rfl (Nat.le_of_ble_eq_true rfl) ?_
  intro p e s m args below meth c ls A Q H locs C hV hl hret
  obtain ⟨hx, hb, hml, hown, hts, hK, hrt, hlk⟩ := id C
  refine lv_aload_n hx hb dX1_farthest_0 rfl (lx_at hl 0 rfl) ?_
  refine mc_findDistances C hV (lx_sz hl)  ⟨by decide, by decide⟩ (Nat.le_of_ble_eq_true rfl) ⟨by decide, by decide⟩ dX1_farthest_1 (fun H locs hV => ?_)
  refine lv_bipush (v := (-4)) hx hb dX1_farthest_4 (by decide) ?_
  refine lx_istore_n (i := 1) hx hb dX1_farthest_6 rfl hl (by decide) (fun ls hl => ?_)
  refine lv_iconst (v := 0) hx hb dX1_farthest_7 (by decide) ?_
  refine lx_istore_n (i := 2) hx hb dX1_farthest_8 rfl hl (by decide) (fun ls hl => ?_)
  have loop9 : ∀ (n : Nat) (a : Nat) (b : Int32) (H : Heap) (locs : List Loc) (ls : Array Slot), a + n = 81 → b = kx_lp (km_h1 (km_fd X)) a (-4) → cn_V D (cn_Wm G E) A s.heap (km_fd X) H locs → cn_lx ls 3 [some (.ref (G 7)), some (.int b), some (.int (nI a))] → W p l e ({ frames := 4, cells := 0, slots := 0, locals := 92 } : Room) s m args below meth c H locs 0 0 Q (F0 m 9 ls []) := by
    intro n
    induction n with
    | zero =>
      intro a b H locs ls hn hY hV hl
      obtain rfl : a = 81 := by omega
      refine lv_iload_n hx hb dX1_farthest_9 rfl (lx_at hl 2 rfl) ?_
      refine lv_bipush (v := 81) hx hb dX1_farthest_10 (by decide) ?_
      refine lv_icmp_ge (tgt := 53) hx hb dX1_farthest_12 (by decide) (fun c12 => ?_) (fun c12 => absurd (by decide) c12)
      refine lv_iload_n hx hb dX1_farthest_53 rfl (lx_at hl 1 rfl) ?_
      exact hret _ _ _ _ _ _ (hY) (rfl) hV dX1_farthest_54
    | succ n ih9 =>
      intro a b H locs ls hn hY hV hl
      have h_a : a < 81 := by omega
      refine lv_iload_n hx hb dX1_farthest_9 rfl (lx_at hl 2 rfl) ?_
      refine lv_bipush (v := 81) hx hb dX1_farthest_10 (by decide) ?_
      refine lv_icmp_ge (tgt := 53) hx hb dX1_farthest_12 (by decide) (fun c12 => absurd c12 (nI_ge (b := 81) h_a (by decide))) (fun c12 => ?_)
      refine lv_aload_n hx hb dX1_farthest_15 rfl (lx_at hl 0 rfl) ?_
      refine mg_6 C hV dX1_farthest_16 ?_
      refine lv_iload_n hx hb dX1_farthest_19 rfl (lx_at hl 2 rfl) ?_
      refine ml_6 C hV (by assumption) dX1_farthest_20 ?_
      refine lv_ldc (v := 1000000) hx hb hown (hts _ q281) dX1_farthest_21 ?_
      refine lv_icmp_ge (tgt := 45) hx hb dX1_farthest_23 (by decide) (fun c23 => ?_) (fun c23 => ?_)
      · refine lv_iload_n hx hb dX1_farthest_45 rfl (lx_at hl 1 rfl) ?_
        refine lx_istore_n (i := 1) hx hb dX1_farthest_46 rfl hl (by decide) (fun ls hl => ?_)
        refine lx_iinc1 hx hb dX1_farthest_47 hl rfl (fun ls hl => ?_)
        refine lv_goto (tgt := 9) hx hb dX1_farthest_50 (by decide) ?_
        exact ih9 (a + 1) (_) (_) (_) (_) (by omega) (by rw [kx_lp_s, ← hY]; simp [km_h1, c23]) hV hl
      · refine lv_aload_n hx hb dX1_farthest_26 rfl (lx_at hl 0 rfl) ?_
        refine mg_6 C hV dX1_farthest_27 ?_
        refine lv_iload_n hx hb dX1_farthest_30 rfl (lx_at hl 2 rfl) ?_
        refine ml_6 C hV (by assumption) dX1_farthest_31 ?_
        refine lv_iload_n hx hb dX1_farthest_32 rfl (lx_at hl 1 rfl) ?_
        refine lv_icmp_le (tgt := 45) hx hb dX1_farthest_33 (by decide) (fun c33 => ?_) (fun c33 => ?_)
        · refine lv_iload_n hx hb dX1_farthest_45 rfl (lx_at hl 1 rfl) ?_
          refine lx_istore_n (i := 1) hx hb dX1_farthest_46 rfl hl (by decide) (fun ls hl => ?_)
          refine lx_iinc1 hx hb dX1_farthest_47 hl rfl (fun ls hl => ?_)
          refine lv_goto (tgt := 9) hx hb dX1_farthest_50 (by decide) ?_
          exact ih9 (a + 1) (_) (_) (_) (_) (by omega) (by rw [kx_lp_s, ← hY]; simp [km_h1, c23, c33]) hV hl
        · refine lv_aload_n hx hb dX1_farthest_36 rfl (lx_at hl 0 rfl) ?_
          refine mg_6 C hV dX1_farthest_37 ?_
          refine lv_iload_n hx hb dX1_farthest_40 rfl (lx_at hl 2 rfl) ?_
          refine ml_6 C hV (by assumption) dX1_farthest_41 ?_
          refine lv_goto (tgt := 46) hx hb dX1_farthest_42 (by decide) ?_
          refine lx_istore_n (i := 1) hx hb dX1_farthest_46 rfl hl (by decide) (fun ls hl => ?_)
          refine lx_iinc1 hx hb dX1_farthest_47 hl rfl (fun ls hl => ?_)
          refine lv_goto (tgt := 9) hx hb dX1_farthest_50 (by decide) ?_
          exact ih9 (a + 1) (_) (_) (_) (_) (by omega) (by rw [kx_lp_s, ← hY]; simp [km_h1, c23, c33]) hV hl
  exact loop9 81 (0) (-4) (_) (_) (_) (rfl) (rfl) hV hl
end
section
set_option maxRecDepth 100000
/-! the two constructors -/
def kx_i1 (a : Nat) (X : cn_St) : cn_St := up2 (up2 (up2 (up2 (up2 X 5 a 9) 6 a (-1)) 8 a 1) 9 a 100000) 10 a 100000
def kx_iz : cn_St := up2 (up2 (up2 (fun _ _ => 0) 1 0 1) 2 0 3) 4 0 80
def kx_i0 : cn_St := up2 (kx_lp kx_i1 81 kx_iz) 10 80 0
theorem kx_i_4 (X : cn_St) : ∀ n, kx_lp kx_i1 n X 4 = X 4 := by
  intro n
  induction n with
  | zero => rfl
  | succ n ih => rw [kx_lp_s, ← ih]; rfl
def km_i0 : cn_St := up2 (up2 (up2 (fun _ _ => 0) 2 0 80) 3 0 1) 4 0 3
set_option maxHeartbeats 4000000 in
set_option maxRecDepth 100000 in
theorem x_init_rest {p : Program} {l : Launch} {e : Env} {s : State} {m : MethodId} {args : Array Value} {below : List Frame} {meth : Method} {c : Code} {H : Heap} {locs : List Loc} {ls : Array Slot} {Q : State → Prop} {D : va_G} {G : Nat → Nat} {E : Nat → ClassId} {A : Nat → Prop} (C : cn_C RX0 D (cn_tx E) p s m args meth c cX0_init 2 none) (hV : cn_V D (cn_Wx G E) A s.heap (fun _ _ => 0) H locs) (hl : cn_lx ls 2 [some (.ref (G 11)), none])
    (hret : ∀ (H : Heap) (locs : List Loc) (ls : Array Slot) (pc : Nat) (X1 : cn_St), X1 = kx_i0 → cn_V D (cn_Wx G E) A s.heap X1 H locs → decode cX0_init pc = .ok (.return_, 1) → W p l e ({ frames := 1, cells := 7, slots := 567, locals := 12 } : Room) s m args below meth c H locs 7 567 Q (F0 m pc ls [])) : W p l e ({ frames := 1, cells := 7, slots := 567, locals := 12 } : Room) s m args below meth c H locs 7 567 Q (F0 m 60 ls []) := by
  obtain ⟨hx, hb, hml, hown, hts, hK, hrt, hlk⟩ := id C
  refine lv_aload_n hx hb dX0_init_60 rfl (lx_at hl 0 rfl) ?_
  refine lv_iconst (v := 1) hx hb dX0_init_61 (by decide) ?_
  refine xp_1 C hV dX0_init_62 (fun H locs hV => ?_)
  refine lv_aload_n hx hb dX0_init_65 rfl (lx_at hl 0 rfl) ?_
  refine lv_iconst (v := 3) hx hb dX0_init_66 (by decide) ?_
  refine xp_2 C hV dX0_init_67 (fun H locs hV => ?_)
  refine lv_aload_n hx hb dX0_init_70 rfl (lx_at hl 0 rfl) ?_
  refine lv_bipush (v := 80) hx hb dX0_init_71 (by decide) ?_
  refine xp_4 C hV dX0_init_73 (fun H locs hV => ?_)
  refine lv_iconst (v := 0) hx hb dX0_init_76 (by decide) ?_
  refine lx_istore_n (i := 1) hx hb dX0_init_77 rfl hl (by decide) (fun ls hl => ?_)
  have loop78 : ∀ (n : Nat) (a : Nat) (Y : cn_St) (H : Heap) (locs : List Loc) (ls : Array Slot), a + n = 81 → Y = kx_lp kx_i1 a kx_iz → cn_V D (cn_Wx G E) A s.heap (Y) H locs → cn_lx ls 2 [some (.ref (G 11)), some (.int (nI a))] → W p l e ({ frames := 1, cells := 7, slots := 567, locals := 12 } : Room) s m args below meth c H locs 7 567 Q (F0 m 78 ls []) := by
    intro n
    induction n with
    | zero =>
      intro a Y H locs ls hn hY hV hl
      obtain rfl : a = 81 := by omega
      refine lv_iload_n hx hb dX0_init_78 rfl (lx_at hl 1 rfl) ?_
      refine lv_bipush (v := 81) hx hb dX0_init_79 (by decide) ?_
      refine lv_icmp_ge (tgt := 128) hx hb dX0_init_81 (by decide) (fun c81 => ?_) (fun c81 => absurd (by decide) c81)
      refine lv_aload_n hx hb dX0_init_128 rfl (lx_at hl 0 rfl) ?_
      refine xg_10 C hV dX0_init_129 ?_
      refine lv_aload_n hx hb dX0_init_132 rfl (lx_at hl 0 rfl) ?_
      refine xg_4 C hV dX0_init_133 ?_
      rw [show Y 4 0 = nI 80 from by rw [hY, kx_i_4]; rfl]
      refine lv_iconst (v := 0) hx hb dX0_init_136 (by decide) ?_
      refine xs_10 C hV ((by decide : 80 < 81)) dX0_init_137 (fun H locs hV => ?_)
      exact hret _ _ _ _ _ (by rw [hY]; rfl) hV dX0_init_138
    | succ n ih78 =>
      intro a Y H locs ls hn hY hV hl
      have h_a : a < 81 := by omega
      refine lv_iload_n hx hb dX0_init_78 rfl (lx_at hl 1 rfl) ?_
      refine lv_bipush (v := 81) hx hb dX0_init_79 (by decide) ?_
      refine lv_icmp_ge (tgt := 128) hx hb dX0_init_81 (by decide) (fun c81 => absurd c81 (nI_ge (b := 81) h_a (by decide))) (fun c81 => ?_)
      refine lv_aload_n hx hb dX0_init_84 rfl (lx_at hl 0 rfl) ?_
      refine xg_5 C hV dX0_init_85 ?_
      refine lv_iload_n hx hb dX0_init_88 rfl (lx_at hl 1 rfl) ?_
      refine lv_bipush (v := 9) hx hb dX0_init_89 (by decide) ?_
      refine xs_5 C hV (by assumption) dX0_init_91 (fun H locs hV => ?_)
      refine lv_aload_n hx hb dX0_init_92 rfl (lx_at hl 0 rfl) ?_
      refine xg_6 C hV dX0_init_93 ?_
      refine lv_iload_n hx hb dX0_init_96 rfl (lx_at hl 1 rfl) ?_
      refine lv_iconst (v := (-1)) hx hb dX0_init_97 (by decide) ?_
      refine xs_6 C hV (by assumption) dX0_init_98 (fun H locs hV => ?_)
      refine lv_aload_n hx hb dX0_init_99 rfl (lx_at hl 0 rfl) ?_
      refine xg_8 C hV dX0_init_100 ?_
      refine lv_iload_n hx hb dX0_init_103 rfl (lx_at hl 1 rfl) ?_
      refine lv_iconst (v := 1) hx hb dX0_init_104 (by decide) ?_
      refine xs_8 C hV (by assumption) dX0_init_105 (fun H locs hV => ?_)
      refine lv_aload_n hx hb dX0_init_106 rfl (lx_at hl 0 rfl) ?_
      refine xg_9 C hV dX0_init_107 ?_
      refine lv_iload_n hx hb dX0_init_110 rfl (lx_at hl 1 rfl) ?_
      refine lv_ldc (v := 100000) hx hb hown (hts _ q33) dX0_init_111 ?_
      refine xs_9 C hV (by assumption) dX0_init_113 (fun H locs hV => ?_)
      refine lv_aload_n hx hb dX0_init_114 rfl (lx_at hl 0 rfl) ?_
      refine xg_10 C hV dX0_init_115 ?_
      refine lv_iload_n hx hb dX0_init_118 rfl (lx_at hl 1 rfl) ?_
      refine lv_ldc (v := 100000) hx hb hown (hts _ q33) dX0_init_119 ?_
      refine xs_10 C hV (by assumption) dX0_init_121 (fun H locs hV => ?_)
      refine lx_iinc1 hx hb dX0_init_122 hl rfl (fun ls hl => ?_)
      refine lv_goto (tgt := 78) hx hb dX0_init_125 (by decide) ?_
      exact ih78 (a + 1) (_) (_) (_) (_) (by omega) (by rw [kx_lp_s, ← hY]; rfl) hV hl
  exact loop78 81 (0) (_) (_) (_) (_) (rfl) (rfl) hV hl
set_option maxHeartbeats 4000000 in
set_option maxRecDepth 100000 in
theorem xt_init (l : Launch) (D : va_G) (h0 sz : Nat) : Met l yX0_init (ws_ yX0_init cX0_init 2 none) ({ frames := 1, cells := 7, slots := 567, locals := 12 } : Room) (va_Pc [.ref h0] (fun U => U.heap.size = sz ∧ va_P D vwCl [(h0, .inr (0, [.null, .int 0, .int 0, .int 0, .int 0, .null, .null, .null, .null, .null, .null]))] U.heap ∧ va_K D vwCl [] U ∧ va_D (fun _ => True) [(h0, .inr (0, [.null, .int 0, .int 0, .int 0, .int 0, .null, .null, .null, .null, .null, .null]))])) (va_Qv (fun (q : (Nat → Nat) × (Nat → ClassId)) => q.1 11 = h0) (fun q t => cn_xQ D q.1 q.2 (va_A [(h0, .inr (0, [.null, .int 0, .int 0, .int 0, .int 0, .null, .null, .null, .null, .null, .null]))] sz) kx_i0 t) (va_A [(h0, .inr (0, [.null, .int 0, .int 0, .int 0, .int 0, .null, .null, .null, .null, .null, .null]))] sz)) 7 567 (va_A [(h0, .inr (0, [.null, .int 0, .int 0, .int 0, .int 0, .null, .null, .null, .null, .null, .null]))] sz) := by
  refine Met.ofW (cc := cX0_init) (maxL := 2) (ret := none) (by decide) rfl ?_
  intro p e s m args below meth c s₁ B hml hv
  obtain ⟨rfl, hsz, hP, hK, hD0⟩ := hv
  have hx := B.exec
  have hb := B.bytes
  have hr := B.returns
  have hts := atoms_spec (ws := ws_ yX0_init cX0_init 2 none) B.pre
  have hts : ∀ w ∈ lw_all, w.before _ s = true := fun w h => hts w (List.mem_cons_of_mem _ h)
  have hown : s.vm.findClass RX0 = some m.cls := findClass_of_methodNamed B.named
  have hlk := B.notSynchronized
  have hin : meth.name = "<init>" := (name_of_methodNamed B.named B.method).1
  subst hsz
  have hD := hD0.self (sz := s.heap.size)
  generalize hAe : va_A [(h0, .inr (0, [.null, .int 0, .int 0, .int 0, .int 0, .null, .null, .null, .null, .null, .null]))] s.heap.size = A at hD ⊢
  have hA : ∀ q : Nat, s.heap.size ≤ q → A q := fun q h => by rw [← hAe]; exact Or.inr h
  have hS : va_S A s.heap s.heap [] := va_S.rf
  have hP : va_P D vwCl [(h0, .inr (0, [.null, .int 0, .int 0, .int 0, .int 0, .null, .null, .null, .null, .null, .null]))] s.heap := hP
  have hl0 := lv_entry ([.ref h0]) (n := 2) (Nat.le_of_ble_eq_true rfl)
  rw [lg_entry_eq]
  generalize (lg_sl ([.ref h0]) ++ List.replicate (2 - (lg_sl ([.ref h0])).length) Slot.unset).toArray = ls at hl0 ⊢
  have hl : cn_lx ls 2 [some (.ref h0), none] := cn_entry (vs := [.ref h0]) (by intro v hv; rw [List.mem_singleton.mp hv]; rfl) rfl (Nat.le_of_ble_eq_true rfl) hl0
  refine lv_aload_n hx hb dX0_init_0 rfl (lx_at hl 0 rfl) ?_
  refine W.objInit hx hb hown (hts _ q30) (hts _ q31) (hts _ q32) rfl (by rw [hml]; exact lx_sz hl) rfl dX0_init_1 (Nat.le_of_ble_eq_true rfl) (Nat.le_of_ble_eq_true rfl) ?_
  refine W.eq (g2 := F0 m 4 ls []) rfl ?_
  refine lv_aload_n hx hb dX0_init_4 rfl (lx_at hl 0 rfl) ?_
  refine lv_bipush (v := 81) hx hb dX0_init_5 (by decide) ?_
  refine va_newa (atype := .boolean) (a0 := (81, .inl (fun _ => 0))) hx hb (hts _ q68) rfl hK hP hD hS hA (fun _ => rfl) (by decide) (by decide) (by decide) (Nat.le_of_ble_eq_true rfl) (Nat.le_of_ble_eq_true rfl) dX0_init_7 (fun g0 e0 H hK hP hD hS => ?_)
  refine va_putF (D := D) (ci := 0) (v := .ref g0) (ty := .array .boolean) (C := RX0) (T := TX0) (N := 11) hx hb hts in_X0 tyX0 tyX0_ok nmX0 hown hK hP hD hS 0 rfl rfl 0 (by decide) (hts _ q34) (fun _ h9 => h9) rfl hin rfl (by decide +kernel) rfl rfl (Nat.le_of_ble_eq_true rfl) dX0_init_9 (fun H locs hP hD hS => ?_)
  have hP : va_P D vwCl [(h0, .inr (0, [.ref g0, .int 0, .int 0, .int 0, .int 0, .null, .null, .null, .null, .null, .null])), (g0, .inl (e0, 81, .inl (fun _ => 0)))] H := hP
  have hD : va_D A [(h0, .inr (0, [.ref g0, .int 0, .int 0, .int 0, .int 0, .null, .null, .null, .null, .null, .null])), (g0, .inl (e0, 81, .inl (fun _ => 0)))] := hD
  refine lv_aload_n hx hb dX0_init_12 rfl (lx_at hl 0 rfl) ?_
  refine lv_bipush (v := 81) hx hb dX0_init_13 (by decide) ?_
  refine va_newa (atype := .int) (a0 := (81, .inl (fun _ => 0))) hx hb (hts _ q69) rfl hK hP hD hS hA (fun _ => rfl) (by decide) (by decide) (by decide) (Nat.le_of_ble_eq_true rfl) (Nat.le_of_ble_eq_true rfl) dX0_init_15 (fun g5 e5 H hK hP hD hS => ?_)
  refine va_putF (D := D) (ci := 0) (v := .ref g5) (ty := .array .int) (C := RX0) (T := TX0) (N := 11) hx hb hts in_X0 tyX0 tyX0_ok nmX0 hown hK hP hD hS 0 rfl rfl 5 (by decide) (hts _ q39) (fun _ h9 => h9) rfl hin rfl (by decide +kernel) rfl rfl (Nat.le_of_ble_eq_true rfl) dX0_init_17 (fun H locs hP hD hS => ?_)
  have hP : va_P D vwCl [(h0, .inr (0, [.ref g0, .int 0, .int 0, .int 0, .int 0, .ref g5, .null, .null, .null, .null, .null])), (g0, .inl (e0, 81, .inl (fun _ => 0))), (g5, .inl (e5, 81, .inl (fun _ => 0)))] H := hP
  have hD : va_D A [(h0, .inr (0, [.ref g0, .int 0, .int 0, .int 0, .int 0, .ref g5, .null, .null, .null, .null, .null])), (g0, .inl (e0, 81, .inl (fun _ => 0))), (g5, .inl (e5, 81, .inl (fun _ => 0)))] := hD
  refine lv_aload_n hx hb dX0_init_20 rfl (lx_at hl 0 rfl) ?_
  refine lv_bipush (v := 81) hx hb dX0_init_21 (by decide) ?_
  refine va_newa (atype := .int) (a0 := (81, .inl (fun _ => 0))) hx hb (hts _ q69) rfl hK hP hD hS hA (fun _ => rfl) (by decide) (by decide) (by decide) (Nat.le_of_ble_eq_true rfl) (Nat.le_of_ble_eq_true rfl) dX0_init_23 (fun g6 e6 H hK hP hD hS => ?_)
  refine va_putF (D := D) (ci := 0) (v := .ref g6) (ty := .array .int) (C := RX0) (T := TX0) (N := 11) hx hb hts in_X0 tyX0 tyX0_ok nmX0 hown hK hP hD hS 0 rfl rfl 6 (by decide) (hts _ q40) (fun _ h9 => h9) rfl hin rfl (by decide +kernel) rfl rfl (Nat.le_of_ble_eq_true rfl) dX0_init_25 (fun H locs hP hD hS => ?_)
  have hP : va_P D vwCl [(h0, .inr (0, [.ref g0, .int 0, .int 0, .int 0, .int 0, .ref g5, .ref g6, .null, .null, .null, .null])), (g0, .inl (e0, 81, .inl (fun _ => 0))), (g5, .inl (e5, 81, .inl (fun _ => 0))), (g6, .inl (e6, 81, .inl (fun _ => 0)))] H := hP
  have hD : va_D A [(h0, .inr (0, [.ref g0, .int 0, .int 0, .int 0, .int 0, .ref g5, .ref g6, .null, .null, .null, .null])), (g0, .inl (e0, 81, .inl (fun _ => 0))), (g5, .inl (e5, 81, .inl (fun _ => 0))), (g6, .inl (e6, 81, .inl (fun _ => 0)))] := hD
  refine lv_aload_n hx hb dX0_init_28 rfl (lx_at hl 0 rfl) ?_
  refine lv_bipush (v := 81) hx hb dX0_init_29 (by decide) ?_
  refine va_newa (atype := .boolean) (a0 := (81, .inl (fun _ => 0))) hx hb (hts _ q68) rfl hK hP hD hS hA (fun _ => rfl) (by decide) (by decide) (by decide) (Nat.le_of_ble_eq_true rfl) (Nat.le_of_ble_eq_true rfl) dX0_init_31 (fun g7 e7 H hK hP hD hS => ?_)
  refine va_putF (D := D) (ci := 0) (v := .ref g7) (ty := .array .boolean) (C := RX0) (T := TX0) (N := 11) hx hb hts in_X0 tyX0 tyX0_ok nmX0 hown hK hP hD hS 0 rfl rfl 7 (by decide) (hts _ q41) (fun _ h9 => h9) rfl hin rfl (by decide +kernel) rfl rfl (Nat.le_of_ble_eq_true rfl) dX0_init_33 (fun H locs hP hD hS => ?_)
  have hP : va_P D vwCl [(h0, .inr (0, [.ref g0, .int 0, .int 0, .int 0, .int 0, .ref g5, .ref g6, .ref g7, .null, .null, .null])), (g0, .inl (e0, 81, .inl (fun _ => 0))), (g5, .inl (e5, 81, .inl (fun _ => 0))), (g6, .inl (e6, 81, .inl (fun _ => 0))), (g7, .inl (e7, 81, .inl (fun _ => 0)))] H := hP
  have hD : va_D A [(h0, .inr (0, [.ref g0, .int 0, .int 0, .int 0, .int 0, .ref g5, .ref g6, .ref g7, .null, .null, .null])), (g0, .inl (e0, 81, .inl (fun _ => 0))), (g5, .inl (e5, 81, .inl (fun _ => 0))), (g6, .inl (e6, 81, .inl (fun _ => 0))), (g7, .inl (e7, 81, .inl (fun _ => 0)))] := hD
  refine lv_aload_n hx hb dX0_init_36 rfl (lx_at hl 0 rfl) ?_
  refine lv_bipush (v := 81) hx hb dX0_init_37 (by decide) ?_
  refine va_newa (atype := .int) (a0 := (81, .inl (fun _ => 0))) hx hb (hts _ q69) rfl hK hP hD hS hA (fun _ => rfl) (by decide) (by decide) (by decide) (Nat.le_of_ble_eq_true rfl) (Nat.le_of_ble_eq_true rfl) dX0_init_39 (fun g8 e8 H hK hP hD hS => ?_)
  refine va_putF (D := D) (ci := 0) (v := .ref g8) (ty := .array .int) (C := RX0) (T := TX0) (N := 11) hx hb hts in_X0 tyX0 tyX0_ok nmX0 hown hK hP hD hS 0 rfl rfl 8 (by decide) (hts _ q42) (fun _ h9 => h9) rfl hin rfl (by decide +kernel) rfl rfl (Nat.le_of_ble_eq_true rfl) dX0_init_41 (fun H locs hP hD hS => ?_)
  have hP : va_P D vwCl [(h0, .inr (0, [.ref g0, .int 0, .int 0, .int 0, .int 0, .ref g5, .ref g6, .ref g7, .ref g8, .null, .null])), (g0, .inl (e0, 81, .inl (fun _ => 0))), (g5, .inl (e5, 81, .inl (fun _ => 0))), (g6, .inl (e6, 81, .inl (fun _ => 0))), (g7, .inl (e7, 81, .inl (fun _ => 0))), (g8, .inl (e8, 81, .inl (fun _ => 0)))] H := hP
  have hD : va_D A [(h0, .inr (0, [.ref g0, .int 0, .int 0, .int 0, .int 0, .ref g5, .ref g6, .ref g7, .ref g8, .null, .null])), (g0, .inl (e0, 81, .inl (fun _ => 0))), (g5, .inl (e5, 81, .inl (fun _ => 0))), (g6, .inl (e6, 81, .inl (fun _ => 0))), (g7, .inl (e7, 81, .inl (fun _ => 0))), (g8, .inl (e8, 81, .inl (fun _ => 0)))] := hD
  refine lv_aload_n hx hb dX0_init_44 rfl (lx_at hl 0 rfl) ?_
  refine lv_bipush (v := 81) hx hb dX0_init_45 (by decide) ?_
  refine va_newa (atype := .int) (a0 := (81, .inl (fun _ => 0))) hx hb (hts _ q69) rfl hK hP hD hS hA (fun _ => rfl) (by decide) (by decide) (by decide) (Nat.le_of_ble_eq_true rfl) (Nat.le_of_ble_eq_true rfl) dX0_init_47 (fun g9 e9 H hK hP hD hS => ?_)
  refine va_putF (D := D) (ci := 0) (v := .ref g9) (ty := .array .int) (C := RX0) (T := TX0) (N := 11) hx hb hts in_X0 tyX0 tyX0_ok nmX0 hown hK hP hD hS 0 rfl rfl 9 (by decide) (hts _ q43) (fun _ h9 => h9) rfl hin rfl (by decide +kernel) rfl rfl (Nat.le_of_ble_eq_true rfl) dX0_init_49 (fun H locs hP hD hS => ?_)
  have hP : va_P D vwCl [(h0, .inr (0, [.ref g0, .int 0, .int 0, .int 0, .int 0, .ref g5, .ref g6, .ref g7, .ref g8, .ref g9, .null])), (g0, .inl (e0, 81, .inl (fun _ => 0))), (g5, .inl (e5, 81, .inl (fun _ => 0))), (g6, .inl (e6, 81, .inl (fun _ => 0))), (g7, .inl (e7, 81, .inl (fun _ => 0))), (g8, .inl (e8, 81, .inl (fun _ => 0))), (g9, .inl (e9, 81, .inl (fun _ => 0)))] H := hP
  have hD : va_D A [(h0, .inr (0, [.ref g0, .int 0, .int 0, .int 0, .int 0, .ref g5, .ref g6, .ref g7, .ref g8, .ref g9, .null])), (g0, .inl (e0, 81, .inl (fun _ => 0))), (g5, .inl (e5, 81, .inl (fun _ => 0))), (g6, .inl (e6, 81, .inl (fun _ => 0))), (g7, .inl (e7, 81, .inl (fun _ => 0))), (g8, .inl (e8, 81, .inl (fun _ => 0))), (g9, .inl (e9, 81, .inl (fun _ => 0)))] := hD
  refine lv_aload_n hx hb dX0_init_52 rfl (lx_at hl 0 rfl) ?_
  refine lv_bipush (v := 81) hx hb dX0_init_53 (by decide) ?_
  refine va_newa (atype := .int) (a0 := (81, .inl (fun _ => 0))) hx hb (hts _ q69) rfl hK hP hD hS hA (fun _ => rfl) (by decide) (by decide) (by decide) (Nat.le_of_ble_eq_true rfl) (Nat.le_of_ble_eq_true rfl) dX0_init_55 (fun g10 e10 H hK hP hD hS => ?_)
  refine va_putF (D := D) (ci := 0) (v := .ref g10) (ty := .array .int) (C := RX0) (T := TX0) (N := 11) hx hb hts in_X0 tyX0 tyX0_ok nmX0 hown hK hP hD hS 0 rfl rfl 10 (by decide) (hts _ q44) (fun _ h9 => h9) rfl hin rfl (by decide +kernel) rfl rfl (Nat.le_of_ble_eq_true rfl) dX0_init_57 (fun H locs hP hD hS => ?_)
  have hP : va_P D vwCl [(h0, .inr (0, [.ref g0, .int 0, .int 0, .int 0, .int 0, .ref g5, .ref g6, .ref g7, .ref g8, .ref g9, .ref g10])), (g0, .inl (e0, 81, .inl (fun _ => 0))), (g5, .inl (e5, 81, .inl (fun _ => 0))), (g6, .inl (e6, 81, .inl (fun _ => 0))), (g7, .inl (e7, 81, .inl (fun _ => 0))), (g8, .inl (e8, 81, .inl (fun _ => 0))), (g9, .inl (e9, 81, .inl (fun _ => 0))), (g10, .inl (e10, 81, .inl (fun _ => 0)))] H := hP
  have hD : va_D A [(h0, .inr (0, [.ref g0, .int 0, .int 0, .int 0, .int 0, .ref g5, .ref g6, .ref g7, .ref g8, .ref g9, .ref g10])), (g0, .inl (e0, 81, .inl (fun _ => 0))), (g5, .inl (e5, 81, .inl (fun _ => 0))), (g6, .inl (e6, 81, .inl (fun _ => 0))), (g7, .inl (e7, 81, .inl (fun _ => 0))), (g8, .inl (e8, 81, .inl (fun _ => 0))), (g9, .inl (e9, 81, .inl (fun _ => 0))), (g10, .inl (e10, 81, .inl (fun _ => 0)))] := hD
  refine W.widen (k := 7) (n := 567) (by decide) (by decide) ?_
  obtain ⟨G, E, hG, hV, hK⟩ : ∃ (G : Nat → Nat) (E : Nat → ClassId), G 11 = h0 ∧ cn_V D (cn_Wx G E) A s.heap (fun _ _ => 0) H locs ∧ va_K D vwCl (cn_tx E) s := ⟨fun k => if k = 11 then h0 else if k = 0 then g0 else if k = 5 then g5 else if k = 6 then g6 else if k = 7 then g7 else if k = 8 then g8 else if k = 9 then g9 else g10, fun k => if k = 0 then e0 else if k = 5 then e5 else if k = 6 then e6 else if k = 7 then e7 else if k = 8 then e8 else if k = 9 then e9 else e10, rfl, ⟨hP, hD, hS, hA⟩, hK⟩
  subst hG
  exact x_init_rest ⟨hx, hb, hml, hown, hts, hK, hr, hlk⟩ hV hl (fun H locs ls pc X1 e1 hV hdg => by subst e1; exact W.vret hx hb hr (fun t ht hW => ⟨⟨(G, E), rfl, rfl, by rw [ht]; exact hV.1, va_K.moved hW.alike hK, hV.2.1⟩, hV.2.2.1.F ht⟩) hV.2.2.1.2.2 hdg hlk)
set_option maxHeartbeats 4000000 in
set_option maxRecDepth 100000 in
theorem m_init_rest {p : Program} {l : Launch} {e : Env} {s : State} {m : MethodId} {args : Array Value} {below : List Frame} {meth : Method} {c : Code} {H : Heap} {locs : List Loc} {ls : Array Slot} {Q : State → Prop} {D : va_G} {G : Nat → Nat} {E : Nat → ClassId} {A : Nat → Prop} (C : cn_C RX1 D (cn_tm E) p s m args meth c cX1_init 1 none) (hV : cn_V D (cn_Wm G E) A s.heap (fun _ _ => 0) H locs) (hl : cn_lx ls 1 [some (.ref (G 7))])
    (hret : ∀ (H : Heap) (locs : List Loc) (ls : Array Slot) (pc : Nat) (X1 : cn_St), X1 = km_i0 → cn_V D (cn_Wm G E) A s.heap X1 H locs → decode cX1_init pc = .ok (.return_, 1) → W p l e ({ frames := 1, cells := 3, slots := 243, locals := 12 } : Room) s m args below meth c H locs 3 243 Q (F0 m pc ls [])) : W p l e ({ frames := 1, cells := 3, slots := 243, locals := 12 } : Room) s m args below meth c H locs 3 243 Q (F0 m 28 ls []) := by
  obtain ⟨hx, hb, hml, hown, hts, hK, hrt, hlk⟩ := id C
  refine lv_aload_n hx hb dX1_init_28 rfl (lx_at hl 0 rfl) ?_
  refine lv_bipush (v := 80) hx hb dX1_init_29 (by decide) ?_
  refine mp_2 C hV dX1_init_31 (fun H locs hV => ?_)
  refine lv_aload_n hx hb dX1_init_34 rfl (lx_at hl 0 rfl) ?_
  refine lv_iconst (v := 1) hx hb dX1_init_35 (by decide) ?_
  refine mp_3 C hV dX1_init_36 (fun H locs hV => ?_)
  refine lv_aload_n hx hb dX1_init_39 rfl (lx_at hl 0 rfl) ?_
  refine lv_iconst (v := 3) hx hb dX1_init_40 (by decide) ?_
  refine mp_4 C hV dX1_init_41 (fun H locs hV => ?_)
  exact hret _ _ _ _ _ (rfl) hV dX1_init_44
set_option maxHeartbeats 4000000 in
set_option maxRecDepth 100000 in
theorem mt_init (l : Launch) (D : va_G) (h0 sz : Nat) : Met l yX1_init (ws_ yX1_init cX1_init 1 none) ({ frames := 1, cells := 3, slots := 243, locals := 12 } : Room) (va_Pc [.ref h0] (fun U => U.heap.size = sz ∧ va_P D vwCl [(h0, .inr (1, [.null, .int 0, .int 0, .int 0, .int 0, .null, .null]))] U.heap ∧ va_K D vwCl [] U ∧ va_D (fun _ => True) [(h0, .inr (1, [.null, .int 0, .int 0, .int 0, .int 0, .null, .null]))])) (va_Qv (fun (q : (Nat → Nat) × (Nat → ClassId)) => q.1 7 = h0) (fun q t => cn_mQ D q.1 q.2 (va_A [(h0, .inr (1, [.null, .int 0, .int 0, .int 0, .int 0, .null, .null]))] sz) km_i0 t) (va_A [(h0, .inr (1, [.null, .int 0, .int 0, .int 0, .int 0, .null, .null]))] sz)) 3 243 (va_A [(h0, .inr (1, [.null, .int 0, .int 0, .int 0, .int 0, .null, .null]))] sz) := by
  refine Met.ofW (cc := cX1_init) (maxL := 1) (ret := none) (by decide) rfl ?_
  intro p e s m args below meth c s₁ B hml hv
  obtain ⟨rfl, hsz, hP, hK, hD0⟩ := hv
  have hx := B.exec
  have hb := B.bytes
  have hr := B.returns
  have hts := atoms_spec (ws := ws_ yX1_init cX1_init 1 none) B.pre
  have hts : ∀ w ∈ lw_all, w.before _ s = true := fun w h => hts w (List.mem_cons_of_mem _ h)
  have hown : s.vm.findClass RX1 = some m.cls := findClass_of_methodNamed B.named
  have hlk := B.notSynchronized
  have hin : meth.name = "<init>" := (name_of_methodNamed B.named B.method).1
  subst hsz
  have hD := hD0.self (sz := s.heap.size)
  generalize hAe : va_A [(h0, .inr (1, [.null, .int 0, .int 0, .int 0, .int 0, .null, .null]))] s.heap.size = A at hD ⊢
  have hA : ∀ q : Nat, s.heap.size ≤ q → A q := fun q h => by rw [← hAe]; exact Or.inr h
  have hS : va_S A s.heap s.heap [] := va_S.rf
  have hP : va_P D vwCl [(h0, .inr (1, [.null, .int 0, .int 0, .int 0, .int 0, .null, .null]))] s.heap := hP
  have hl0 := lv_entry ([.ref h0]) (n := 1) (Nat.le_of_ble_eq_true rfl)
  rw [lg_entry_eq]
  generalize (lg_sl ([.ref h0]) ++ List.replicate (1 - (lg_sl ([.ref h0])).length) Slot.unset).toArray = ls at hl0 ⊢
  have hl : cn_lx ls 1 [some (.ref h0)] := cn_entry (vs := [.ref h0]) (by intro v hv; rw [List.mem_singleton.mp hv]; rfl) rfl (Nat.le_of_ble_eq_true rfl) hl0
  refine lv_aload_n hx hb dX1_init_0 rfl (lx_at hl 0 rfl) ?_
  refine W.objInit hx hb hown (hts _ q208) (hts _ q31) (hts _ q32) rfl (by rw [hml]; exact lx_sz hl) rfl dX1_init_1 (Nat.le_of_ble_eq_true rfl) (Nat.le_of_ble_eq_true rfl) ?_
  refine W.eq (g2 := F0 m 4 ls []) rfl ?_
  refine lv_aload_n hx hb dX1_init_4 rfl (lx_at hl 0 rfl) ?_
  refine lv_bipush (v := 81) hx hb dX1_init_5 (by decide) ?_
  refine va_newa (atype := .boolean) (a0 := (81, .inl (fun _ => 0))) hx hb (hts _ q68) rfl hK hP hD hS hA (fun _ => rfl) (by decide) (by decide) (by decide) (Nat.le_of_ble_eq_true rfl) (Nat.le_of_ble_eq_true rfl) dX1_init_7 (fun g0 e0 H hK hP hD hS => ?_)
  refine va_putF (D := D) (ci := 1) (v := .ref g0) (ty := .array .boolean) (C := RX1) (T := TX1) (N := 7) hx hb hts in_X1 tyX1 tyX1_ok nmX1 hown hK hP hD hS 0 rfl rfl 0 (by decide) (hts _ q209) (fun _ h9 => h9) rfl hin rfl (by decide +kernel) rfl rfl (Nat.le_of_ble_eq_true rfl) dX1_init_9 (fun H locs hP hD hS => ?_)
  have hP : va_P D vwCl [(h0, .inr (1, [.ref g0, .int 0, .int 0, .int 0, .int 0, .null, .null])), (g0, .inl (e0, 81, .inl (fun _ => 0)))] H := hP
  have hD : va_D A [(h0, .inr (1, [.ref g0, .int 0, .int 0, .int 0, .int 0, .null, .null])), (g0, .inl (e0, 81, .inl (fun _ => 0)))] := hD
  refine lv_aload_n hx hb dX1_init_12 rfl (lx_at hl 0 rfl) ?_
  refine lv_bipush (v := 81) hx hb dX1_init_13 (by decide) ?_
  refine va_newa (atype := .int) (a0 := (81, .inl (fun _ => 0))) hx hb (hts _ q69) rfl hK hP hD hS hA (fun _ => rfl) (by decide) (by decide) (by decide) (Nat.le_of_ble_eq_true rfl) (Nat.le_of_ble_eq_true rfl) dX1_init_15 (fun g5 e5 H hK hP hD hS => ?_)
  refine va_putF (D := D) (ci := 1) (v := .ref g5) (ty := .array .int) (C := RX1) (T := TX1) (N := 7) hx hb hts in_X1 tyX1 tyX1_ok nmX1 hown hK hP hD hS 0 rfl rfl 5 (by decide) (hts _ q214) (fun _ h9 => h9) rfl hin rfl (by decide +kernel) rfl rfl (Nat.le_of_ble_eq_true rfl) dX1_init_17 (fun H locs hP hD hS => ?_)
  have hP : va_P D vwCl [(h0, .inr (1, [.ref g0, .int 0, .int 0, .int 0, .int 0, .ref g5, .null])), (g0, .inl (e0, 81, .inl (fun _ => 0))), (g5, .inl (e5, 81, .inl (fun _ => 0)))] H := hP
  have hD : va_D A [(h0, .inr (1, [.ref g0, .int 0, .int 0, .int 0, .int 0, .ref g5, .null])), (g0, .inl (e0, 81, .inl (fun _ => 0))), (g5, .inl (e5, 81, .inl (fun _ => 0)))] := hD
  refine lv_aload_n hx hb dX1_init_20 rfl (lx_at hl 0 rfl) ?_
  refine lv_bipush (v := 81) hx hb dX1_init_21 (by decide) ?_
  refine va_newa (atype := .int) (a0 := (81, .inl (fun _ => 0))) hx hb (hts _ q69) rfl hK hP hD hS hA (fun _ => rfl) (by decide) (by decide) (by decide) (Nat.le_of_ble_eq_true rfl) (Nat.le_of_ble_eq_true rfl) dX1_init_23 (fun g6 e6 H hK hP hD hS => ?_)
  refine va_putF (D := D) (ci := 1) (v := .ref g6) (ty := .array .int) (C := RX1) (T := TX1) (N := 7) hx hb hts in_X1 tyX1 tyX1_ok nmX1 hown hK hP hD hS 0 rfl rfl 6 (by decide) (hts _ q215) (fun _ h9 => h9) rfl hin rfl (by decide +kernel) rfl rfl (Nat.le_of_ble_eq_true rfl) dX1_init_25 (fun H locs hP hD hS => ?_)
  have hP : va_P D vwCl [(h0, .inr (1, [.ref g0, .int 0, .int 0, .int 0, .int 0, .ref g5, .ref g6])), (g0, .inl (e0, 81, .inl (fun _ => 0))), (g5, .inl (e5, 81, .inl (fun _ => 0))), (g6, .inl (e6, 81, .inl (fun _ => 0)))] H := hP
  have hD : va_D A [(h0, .inr (1, [.ref g0, .int 0, .int 0, .int 0, .int 0, .ref g5, .ref g6])), (g0, .inl (e0, 81, .inl (fun _ => 0))), (g5, .inl (e5, 81, .inl (fun _ => 0))), (g6, .inl (e6, 81, .inl (fun _ => 0)))] := hD
  refine W.widen (k := 3) (n := 243) (by decide) (by decide) ?_
  obtain ⟨G, E, hG, hV, hK⟩ : ∃ (G : Nat → Nat) (E : Nat → ClassId), G 7 = h0 ∧ cn_V D (cn_Wm G E) A s.heap (fun _ _ => 0) H locs ∧ va_K D vwCl (cn_tm E) s := ⟨fun k => if k = 7 then h0 else if k = 0 then g0 else if k = 5 then g5 else g6, fun k => if k = 0 then e0 else if k = 5 then e5 else e6, rfl, ⟨hP, hD, hS, hA⟩, hK⟩
  subst hG
  exact m_init_rest ⟨hx, hb, hml, hown, hts, hK, hr, hlk⟩ hV hl (fun H locs ls pc X1 e1 hV hdg => by subst e1; exact W.vret hx hb hr (fun t ht hW => ⟨⟨(G, E), rfl, rfl, by rw [ht]; exact hV.1, va_K.moved hW.alike hK, hV.2.1⟩, hV.2.2.1.F ht⟩) hV.2.2.1.2.2 hdg hlk)
end
section
set_option maxRecDepth 100000
/-! geometry of the grid, small numbers -/
def nup (f : Nat → Nat) (t v : Nat) : Nat → Nat := fun j => if j = t then v else f j
theorem nup_s (f : Nat → Nat) (t v : Nat) : nup f t v t = v := if_pos rfl
theorem nup_n (f : Nat → Nat) {t j : Nat} (v : Nat) (h : j ≠ t) : nup f t v j = f j := if_neg h
theorem cb_self (a : Nat) : km_cb a a = 0 := by unfold km_cb; omega
theorem cb_0 {a b : Nat} (h : km_cb a b = 0) : a = b := by unfold km_cb at h; omega
theorem cb_8 {a b : Nat} (ha : a < 81) (hb : b < 81) : km_cb a b ≤ 8 := by unfold km_cb; omega
theorem ab_tri (x y z : Nat) : max (x - z) (z - x) ≤ max (x - y) (y - x) + max (y - z) (z - y) := by omega
theorem cb_tri (a b c : Nat) : km_cb a c ≤ km_cb a b + km_cb b c := by
  have h1 := ab_tri (a % 9) (b % 9) (c % 9)
  have h2 := ab_tri (a / 9) (b / 9) (c / 9)
  unfold km_cb
  generalize max (a % 9 - c % 9) (c % 9 - a % 9) = p1 at h1 ⊢
  generalize max (a % 9 - b % 9) (b % 9 - a % 9) = p2 at h1 ⊢
  generalize max (b % 9 - c % 9) (c % 9 - b % 9) = p3 at h1 ⊢
  generalize max (a / 9 - c / 9) (c / 9 - a / 9) = p4 at h2 ⊢
  generalize max (a / 9 - b / 9) (b / 9 - a / 9) = p5 at h2 ⊢
  generalize max (b / 9 - c / 9) (c / 9 - b / 9) = p6 at h2 ⊢
  omega
theorem ar_near : ∀ a, a < 81 → ∀ k, k < 9 → kx_ar a k < 81 → km_cb (kx_ar a k) a ≤ 1 := by decide +kernel
def twx (a b : Nat) : Nat := if a < b then a + 1 else if b < a then a - 1 else a
def tw (a b : Nat) : Nat := twx (a / 9) (b / 9) * 9 + twx (a % 9) (b % 9)
def twk (a b : Nat) : Nat := (a / 9 + 1 - twx (a / 9) (b / 9)) * 3 + (a % 9 + 1 - twx (a % 9) (b % 9))
theorem tw_ok : ∀ a, a < 81 → ∀ b, b < 81 → a ≠ b → tw a b < 81 ∧ twk a b < 9 ∧ kx_ar (tw a b) (twk a b) = a ∧ km_cb (tw a b) b + 1 = km_cb a b := by decide +kernel
theorem mv_sym : ∀ a, a < 81 → ∀ d, d < 4 → kx_mv a d < 81 → ∃ e, e < 4 ∧ kx_mv (kx_mv a d) e = a := by decide +kernel
theorem mv_ne : ∀ a, a < 81 → ∀ d, d < 4 → kx_mv a d ≠ a := by decide +kernel
theorem oI_neg {n : Nat} (h : n ≤ 81) : kx_oI n < 0 ↔ n = 81 := by
  by_cases h1 : n < 81
  · rw [kx_oI_pos h1]
    exact ⟨fun h2 => absurd h2 (nI_pos (by omega)), fun h2 => by omega⟩
  · rw [kx_oI_neg h1]
    exact ⟨fun _ => by omega, fun _ => by decide⟩
theorem oI_ge {n : Nat} (h : n ≤ 81) : 0 ≤ kx_oI n ↔ n < 81 := by
  by_cases h1 : n < 81
  · rw [kx_oI_pos h1]
    exact ⟨fun _ => h1, fun _ => nI_pos' (by omega)⟩
  · rw [kx_oI_neg h1]
    exact ⟨fun h2 => absurd h2 (by decide), fun h2 => by omega⟩
theorem oI_eq {n a : Nat} (h : n ≤ 81) (ha : a < 81) : kx_oI n = nI a ↔ n = a := by
  by_cases h1 : n < 81
  · rw [kx_oI_pos h1]
    exact nI_eq (by omega) (by omega)
  · rw [kx_oI_neg h1]
    exact ⟨fun h2 => absurd (show nI a < 0 by rw [← h2]; decide) (nI_pos (by omega)), fun h2 => by omega⟩
/-- folds keep what each step keeps -/
theorem lp_inv {α : Type} {f : Nat → α → α} (I : Nat → α → Prop) {N : Nat} {a : α} (h0 : I 0 a) (hs : ∀ n b, n < N → I n b → I (n + 1) (f n b)) : I N (kx_lp f N a) := by
  have key : ∀ n, n ≤ N → I n (kx_lp f n a) := by
    intro n
    induction n with
    | zero => intro _; exact h0
    | succ n ih => intro h; exact hs n _ (by omega) (ih (by omega))
  exact key N (Nat.le_refl N)
/-- field k of the state is X's own behind the fold -/
theorem lp_fld {f : Nat → cn_St → cn_St} {k : Nat} (hf : ∀ n X, f n X k = X k) (N : Nat) (X : cn_St) : kx_lp f N X k = X k :=
  lp_inv (I := fun _ Y => Y k = X k) rfl (fun n b _ h => (hf n b).trans h)
theorem lp_congr {α : Type} {f g : Nat → α → α} {N : Nat} (h : ∀ n b, n < N → f n b = g n b) (a : α) : kx_lp f N a = kx_lp g N a := by
  induction N with
  | zero => rfl
  | succ n ih =>
    rw [kx_lp_s, kx_lp_s, ih (fun m b hm => h m b (by omega))]
    exact h n _ (by omega)
/-- a fold over numbers, seen through a map -/
theorem lp_map {α β : Type} (u : α → β) (I : α → Prop) {f : Nat → α → α} {g : Nat → β → β} {N : Nat} {a : α} (h0 : I a) (hI : ∀ n b, n < N → I b → I (f n b)) (h : ∀ n b, n < N → I b → g n (u b) = u (f n b)) : kx_lp g N (u a) = u (kx_lp f N a) := by
  have key := lp_inv (f := f) (N := N) (a := a) (fun n b => I b ∧ kx_lp g n (u a) = u b) ⟨h0, rfl⟩ (fun n b hn q => ⟨hI n b hn q.1, by rw [kx_lp_s, q.2]; exact h n b hn q.1⟩)
  exact key.2
/-- sums of small numbers -/
def ct_sm (f : Nat → Nat) : Nat → Nat
  | 0 => 0
  | n + 1 => ct_sm f n + f n
theorem ct_sm_s (f : Nat → Nat) (n : Nat) : ct_sm f (n + 1) = ct_sm f n + f n := rfl
theorem ct_sm_out (f : Nat → Nat) {a : Nat} (v : Nat) : ∀ n, n ≤ a → ct_sm (nup f a v) n = ct_sm f n := by
  intro n
  induction n with
  | zero => intro _; rfl
  | succ n ih =>
    intro h
    rw [ct_sm_s, ct_sm_s, ih (by omega), nup_n f v (show n ≠ a by omega)]
theorem ct_sm_in (f : Nat → Nat) {a : Nat} (v : Nat) : ∀ n, a < n → ct_sm (nup f a v) n + f a = ct_sm f n + v := by
  intro n
  induction n with
  | zero => intro h; omega
  | succ n ih =>
    intro h
    rw [ct_sm_s, ct_sm_s]
    by_cases hn : n = a
    · subst hn
      rw [ct_sm_out f v n (Nat.le_refl n), nup_s]
      omega
    · rw [nup_n f v hn]
      have := ih (by omega)
      omega
theorem ct_sm_le (f g : Nat → Nat) : ∀ n, (∀ a, a < n → f a ≤ g a) → ct_sm f n ≤ ct_sm g n := by
  intro n
  induction n with
  | zero => intro _; exact Nat.le_refl _
  | succ n ih =>
    intro h
    rw [ct_sm_s, ct_sm_s]
    have h1 := ih (fun a ha => h a (by omega))
    have h2 := h n (by omega)
    omega
theorem ct_sm_lt (f g : Nat → Nat) {a : Nat} : ∀ n, (∀ b, b < n → f b ≤ g b) → a < n → f a < g a → ct_sm f n < ct_sm g n := by
  intro n
  induction n with
  | zero => intro _ h; omega
  | succ n ih =>
    intro h ha hlt
    rw [ct_sm_s, ct_sm_s]
    by_cases hn : n = a
    · subst hn
      have h1 := ct_sm_le f g n (fun b hb => h b (by omega))
      omega
    · have h1 := ih (fun b hb => h b (by omega)) (by omega) hlt
      have h2 := h n (by omega)
      omega
theorem ct_sm_c (f : Nat → Nat) (k : Nat) : ∀ n, (∀ a, a < n → f a ≤ k) → ct_sm f n ≤ n * k := by
  intro n
  induction n with
  | zero => intro _; exact Nat.zero_le _
  | succ n ih =>
    intro h
    rw [ct_sm_s, Nat.succ_mul]
    have h1 := ih (fun a ha => h a (by omega))
    have h2 := h n (by omega)
    omega
theorem ct_sm_0 (f : Nat → Nat) : ∀ n, ct_sm f n = 0 → ∀ a, a < n → f a = 0 := by
  intro n
  induction n with
  | zero => intro _ a h; omega
  | succ n ih =>
    intro h a ha
    rw [ct_sm_s] at h
    by_cases hn : a = n
    · subst hn
      omega
    · exact ih (by omega) a (by omega)
end
section
set_option maxRecDepth 100000
/-! clearance: the brushfire keeps the distance to the nearest blocked cell -/
def ct_I (D N : Nat → Nat) (X : cn_St) : Prop := ∀ a, a < 81 → (X 5 a = nI (D a) ∧ X 6 a = kx_oI (N a)) ∧ (D a ≤ 9 ∧ N a ≤ 81) ∧ (N a < 81 → X 0 (N a) ≠ 0 ∧ km_cb a (N a) ≤ D a) ∧ (N a = 81 → D a = 9) ∧ (X 0 a ≠ 0 → D a = 0) ∧ (X 7 a ≠ 0 → D a ≤ 8)
def ct_P (D : Nat → Nat) (X : cn_St) (e : Nat) : Prop := ∀ b, b < 81 → b ≠ e → X 7 b = 0 → ∀ k, k < 9 → kx_ar b k < 81 → D (kx_ar b k) ≤ D b + 1
def ct_L (D : Nat → Nat) (X : cn_St) (d c : Nat) : Prop := ∀ b, b < 81 → X 7 b ≠ 0 → d ≤ D b ∧ (D b = d → c ≤ b)
def ct_J (d c : Nat) (X : cn_St) : Prop := ∃ D N, ct_I D N X ∧ ct_P D X 81 ∧ ct_L D X d c
def ct_Q (a d k : Nat) (X : cn_St) : Prop := ∃ D N, ct_I D N X ∧ D a = d ∧ X 7 a = 0 ∧ ct_P D X a ∧ (∀ j, j < k → kx_ar a j < 81 → D (kx_ar a j) ≤ d + 1) ∧ ct_L D X d (a + 1)
theorem ct_p1 {a d k : Nat} {X : cn_St} (ha : a < 81) (hk : k < 9) (h : ct_Q a d k X) : ct_Q a d (k + 1) (kx_p1 a k X) := by
  obtain ⟨D, N, hI, hd, hf, hP, hj, hL⟩ := h
  obtain ⟨⟨a1, a2⟩, ⟨a3, a4⟩, a5, a6, a7, a8⟩ := hI a ha
  have hnear := ar_near a ha k hk
  obtain ⟨t, ht0⟩ : ∃ t, kx_ar a k = t := ⟨_, rfl⟩
  have e0 : kx_p1 a k X = if t < 81 then (if X 5 t ≤ X 5 a + 1 then X else up2 (up2 (up2 X 5 t (X 5 a + 1)) 6 t (X 6 a)) 7 t 1) else X := by rw [kx_p1, ht0]
  rw [ht0] at hnear
  by_cases ht : t < 81
  · obtain ⟨⟨t1, t2⟩, ⟨t3, t4⟩, t5, t6, t7, t8⟩ := hI t ht
    by_cases hc : D t ≤ d + 1
    · have e : kx_p1 a k X = X := by
        rw [e0, if_pos ht, if_pos]
        rw [t1, a1, hd, nI_1]
        exact nI_le hc (by omega)
      rw [e]
      refine ⟨D, N, hI, hd, hf, hP, fun j hj1 hj2 => ?_, hL⟩
      by_cases hjk : j = k
      · rw [hjk, ht0]
        exact hc
      · exact hj j (by omega) hj2
    · have hn := hnear ht
      have hne : a ≠ t := fun h => by rw [← h, hd] at hc; omega
      have hNa : N a < 81 := by
        rcases Nat.lt_or_ge (N a) 81 with h | h
        · exact h
        · have := a6 (by omega)
          omega
      have e : kx_p1 a k X = up2 (up2 (up2 X 5 t (nI (d + 1))) 6 t (kx_oI (N a))) 7 t 1 := by
        rw [e0, if_pos ht, if_neg, a1, a2, hd, nI_1]
        rw [t1, a1, hd, nI_1]
        exact nI_ge (by omega) (by omega)
      obtain ⟨Z, hZ⟩ : ∃ Z, Z = up2 (up2 (up2 X 5 t (nI (d + 1))) 6 t (kx_oI (N a))) 7 t 1 := ⟨_, rfl⟩
      rw [e, ← hZ]
      have x0 : Z 0 = X 0 := by rw [hZ]; funext b; simp [up2]
      have x5 : ∀ b, Z 5 b = if b = t then nI (d + 1) else X 5 b := fun b => by rw [hZ]; simp [up2, upd]
      have x6 : ∀ b, Z 6 b = if b = t then kx_oI (N a) else X 6 b := fun b => by rw [hZ]; simp [up2, upd]
      have x7 : ∀ b, Z 7 b = if b = t then 1 else X 7 b := fun b => by rw [hZ]; simp [up2, upd]
      have nle : ∀ x, nup D t (d + 1) x ≤ D x := fun x => by
        by_cases h : x = t
        · rw [h, nup_s]
          omega
        · rw [nup_n _ _ h]
          exact Nat.le_refl _
      refine ⟨nup D t (d + 1), nup N t (N a), fun b hb => ?_, ?_, ?_, ?_, ?_, ?_⟩
      · by_cases hbt : b = t
        · rw [hbt, nup_s, nup_s, x5, x6, if_pos rfl, if_pos rfl, x0]
          refine ⟨⟨rfl, rfl⟩, ⟨by omega, by omega⟩, fun _ => ⟨(a5 hNa).1, ?_⟩, fun h => by omega, fun h => ?_, fun _ => by omega⟩
          · have h1 := cb_tri t a (N a)
            have h2 := (a5 hNa).2
            omega
          · have := t7 h
            omega
        · rw [nup_n _ _ hbt, nup_n _ _ hbt, x5, x6, x7, if_neg hbt, if_neg hbt, if_neg hbt, x0]
          exact hI b hb
      · rw [nup_n _ _ hne]
        exact hd
      · rw [x7, if_neg hne]
        exact hf
      · intro b hb hba hb7 j hj1 hj2
        have hbt : b ≠ t := fun h => by
          rw [x7, if_pos h] at hb7
          exact absurd hb7 (by decide)
        rw [x7, if_neg hbt] at hb7
        have h1 := hP b hb hba hb7 j hj1 hj2
        have h2 := nle (kx_ar b j)
        rw [nup_n _ _ hbt]
        omega
      · intro j hj1 hj2
        by_cases hjk : j = k
        · rw [hjk, ht0, nup_s]
          exact Nat.le_refl _
        · have h1 := hj j (by omega) hj2
          have h2 := nle (kx_ar a j)
          omega
      · intro b hb hb7
        by_cases hbt : b = t
        · rw [hbt, nup_s]
          exact ⟨by omega, fun h => by omega⟩
        · rw [x7, if_neg hbt] at hb7
          rw [nup_n _ _ hbt]
          exact hL b hb hb7
  · rw [e0, if_neg ht]
    refine ⟨D, N, hI, hd, hf, hP, fun j hj1 hj2 => ?_, hL⟩
    by_cases hjk : j = k
    · rw [hjk, ht0] at hj2
      exact absurd hj2 ht
    · exact hj j (by omega) hj2
theorem ct_po {a d : Nat} {X : cn_St} (ha : a < 81) {D N : Nat → Nat} (hI : ct_I D N X) (hd : D a = d) (hP : ct_P D X 81) (hL : ct_L D X d a) : ct_J d (a + 1) (kx_po a (up2 X 7 a 0)) := by
  have x7 : ∀ b, up2 X 7 a 0 7 b = if b = a then 0 else X 7 b := fun b => by simp [up2, upd]
  have xo : ∀ k, k ≠ 7 → up2 X 7 a 0 k = X k := fun k h => up2_o _ _ _ h
  have h0 : ct_Q a d 0 (up2 X 7 a 0) := by
    refine ⟨D, N, fun b hb => ?_, hd, by rw [x7, if_pos rfl], fun b hb hba hb7 => ?_, fun j hj => absurd hj (by omega), fun b hb hb7 => ?_⟩
    · rw [xo 5 (by decide), xo 6 (by decide), xo 0 (by decide), x7]
      obtain ⟨h1, h2, h3, h4, h5, h6⟩ := hI b hb
      refine ⟨h1, h2, h3, h4, h5, fun h => h6 (fun hz => h ?_)⟩
      rw [hz]
      split
      · rfl
      · rfl
    · rw [x7, if_neg hba] at hb7
      exact hP b hb (by omega) hb7
    · rw [x7] at hb7
      by_cases hba : b = a
      · rw [if_pos hba] at hb7
        exact absurd rfl hb7
      · rw [if_neg hba] at hb7
        obtain ⟨h1, h2⟩ := hL b hb hb7
        exact ⟨h1, fun h => by have := h2 h; omega⟩
  obtain ⟨D', N', hI', hd', hf', hP', hj', hL'⟩ := lp_inv (f := kx_p1 a) (N := 9) (fun k Y => ct_Q a d k Y) h0 (fun k Y hk h => ct_p1 ha hk h)
  refine ⟨D', N', hI', fun b hb _ hb7 k hk hk2 => ?_, hL'⟩
  by_cases hba : b = a
  · rw [hba] at hk2 ⊢
    rw [hd']
    exact hj' k hk hk2
  · exact hP' b hb hba hb7 k hk hk2
theorem ct_l1 {a d : Nat} {X : cn_St} (hd9 : d < 9) (ha : a < 81) (h : ct_J d a X) : ct_J d (a + 1) (kx_l1 d a X) := by
  obtain ⟨D, N, hI, hP, hL⟩ := h
  obtain ⟨⟨a1, a2⟩, ⟨a3, a4⟩, a5, a6, a7, a8⟩ := hI a ha
  by_cases h7 : X 7 a = 0
  · rw [kx_l1, if_pos h7]
    refine ⟨D, N, hI, hP, fun b hb hb7 => ⟨(hL b hb hb7).1, fun h => ?_⟩⟩
    have h1 := (hL b hb hb7).2 h
    have h2 : b ≠ a := fun e => hb7 (by rw [e]; exact h7)
    omega
  · by_cases hd : D a = d
    · rw [kx_l1, if_neg h7, if_pos (by rw [a1, hd])]
      exact ct_po ha hI hd hP hL
    · rw [kx_l1, if_neg h7, if_neg (by rw [a1]; exact fun e => hd ((nI_eq (by omega) (by omega)).mp e))]
      refine ⟨D, N, hI, hP, fun b hb hb7 => ⟨(hL b hb hb7).1, fun h => ?_⟩⟩
      have h1 := (hL b hb hb7).2 h
      have h2 : b ≠ a := fun e => hd (by rw [← e]; exact h)
      omega
theorem ct_l2 {d : Nat} {X : cn_St} (hd : d < 9) (h : ct_J d 0 X) : ct_J (d + 1) 0 (kx_l2 d X) := by
  obtain ⟨D, N, hI, hP, hL⟩ := lp_inv (f := kx_l1 d) (N := 81) (fun a Y => ct_J d a Y) h (fun a Y ha h => ct_l1 hd ha h)
  refine ⟨D, N, hI, hP, fun b hb hb7 => ⟨?_, fun _ => Nat.zero_le _⟩⟩
  obtain ⟨h1, h2⟩ := hL b hb hb7
  have h3 : D b ≠ d := fun e => by have := h2 e; omega
  omega
/-- the clearance's state at rest -/
def ct_C (X : cn_St) : Prop := ∃ D N, ct_I D N X ∧ (∀ a, a < 81 → X 7 a = 0) ∧ ct_P D X 81
theorem ct_lw {X : cn_St} (h : ct_J 0 0 X) : ct_C (kx_lw X) := by
  obtain ⟨D, N, hI, hP, hL⟩ := lp_inv (f := kx_l2) (N := 9) (fun d Y => ct_J d 0 Y) h (fun d Y hd h => ct_l2 hd h)
  refine ⟨D, N, hI, fun a ha => ?_, hP⟩
  by_cases h7 : kx_lw X 7 a = 0
  · exact h7
  · exfalso
    have h1 := (hL a ha h7).1
    have h2 := (hI a ha).2.2.2.2.2 h7
    omega
theorem fr_p1 (a k : Nat) (X : cn_St) {f : Nat} (h5 : f ≠ 5) (h6 : f ≠ 6) (h7 : f ≠ 7) : kx_p1 a k X f = X f := by
  rw [kx_p1]
  split
  · split
    · rfl
    · rw [up2_o _ _ _ h7, up2_o _ _ _ h6, up2_o _ _ _ h5]
  · rfl
theorem fr_po (a : Nat) (X : cn_St) {f : Nat} (h5 : f ≠ 5) (h6 : f ≠ 6) (h7 : f ≠ 7) : kx_po a X f = X f := lp_fld (fun n Y => fr_p1 a n Y h5 h6 h7) 9 X
theorem fr_l1 (d a : Nat) (X : cn_St) {f : Nat} (h5 : f ≠ 5) (h6 : f ≠ 6) (h7 : f ≠ 7) : kx_l1 d a X f = X f := by
  rw [kx_l1]
  split
  · rfl
  · split
    · rw [fr_po _ _ h5 h6 h7, up2_o _ _ _ h7]
    · rfl
theorem fr_l2 (d : Nat) (X : cn_St) {f : Nat} (h5 : f ≠ 5) (h6 : f ≠ 6) (h7 : f ≠ 7) : kx_l2 d X f = X f := lp_fld (fun n Y => fr_l1 d n Y h5 h6 h7) 81 X
theorem fr_lw (X : cn_St) {f : Nat} (h5 : f ≠ 5) (h6 : f ≠ 6) (h7 : f ≠ 7) : kx_lw X f = X f := lp_fld (fun n Y => fr_l2 n Y h5 h6 h7) 9 X
/-- at rest no cell is farther than any blocked cell -/
theorem ct_near {D N : Nat → Nat} {X : cn_St} (hI : ct_I D N X) (h7 : ∀ a, a < 81 → X 7 a = 0) (hP : ct_P D X 81) {c : Nat} (hc : c < 81) (hb : X 0 c ≠ 0) : ∀ n a, a < 81 → km_cb a c = n → D a ≤ n := by
  intro n
  induction n with
  | zero =>
    intro a ha h
    have e := cb_0 h
    rw [e]
    exact Nat.le_of_eq ((hI c hc).2.2.2.2.1 hb)
  | succ n ih =>
    intro a ha h
    have hne : a ≠ c := fun e => by rw [e, cb_self] at h; omega
    obtain ⟨h1, h2, h3, h4⟩ := tw_ok a ha c hc hne
    have h5 := ih (tw a c) h1 (by omega)
    have h6 := hP (tw a c) h1 (by omega) (h7 _ h1) (twk a c) h2 (by rw [h3]; exact ha)
    rw [h3] at h6
    omega
/-- the reference's clearance is the class's own -/
theorem ct_cl {X Y : cn_St} (h : ct_C X) (h0 : ∀ a, a < 81 → X 0 a = Y 0 a) {a : Nat} (ha : a < 81) : ∃ d, d ≤ 9 ∧ X 5 a = nI d ∧ km_cl Y a = nI d := by
  obtain ⟨D, N, hI, h7, hP⟩ := h
  obtain ⟨⟨a1, a2⟩, ⟨a3, a4⟩, a5, a6, a7, a8⟩ := hI a ha
  refine ⟨D a, a3, a1, ?_⟩
  obtain ⟨m, hm, hm9, hml, hma⟩ := lp_inv (f := km_l1 Y a) (N := 81) (a := (9 : Int32)) (fun n v => ∃ m, v = nI m ∧ m ≤ 9 ∧ (∀ b, b < n → Y 0 b ≠ 0 → m ≤ km_cb a b) ∧ (m = 9 ∨ ∃ b, b < 81 ∧ Y 0 b ≠ 0 ∧ km_cb a b = m)) ⟨9, rfl, Nat.le_refl 9, fun b hb => absurd hb (by omega), Or.inl rfl⟩ (by
    rintro n v hn ⟨m, rfl, h9, hl, hat⟩
    by_cases hy : Y 0 n = 0
    · rw [km_l1, if_pos hy]
      refine ⟨m, rfl, h9, fun b hb hb0 => ?_, hat⟩
      by_cases hbn : b = n
      · rw [hbn] at hb0
        exact absurd hy hb0
      · exact hl b (by omega) hb0
    · have h8 := cb_8 ha hn
      by_cases hle : m ≤ km_cb a n
      · rw [km_l1, if_neg hy, if_pos (nI_le hle (by omega))]
        refine ⟨m, rfl, h9, fun b hb hb0 => ?_, hat⟩
        by_cases hbn : b = n
        · rw [hbn]
          exact hle
        · exact hl b (by omega) hb0
      · rw [km_l1, if_neg hy, if_neg (nI_ge (by omega) (by omega))]
        refine ⟨km_cb a n, rfl, by omega, fun b hb hb0 => ?_, Or.inr ⟨n, hn, hy, rfl⟩⟩
        by_cases hbn : b = n
        · rw [hbn]
          exact Nat.le_refl _
        · have := hl b (by omega) hb0
          omega)
  have e : m = D a := by
    apply Nat.le_antisymm
    · rcases Nat.lt_or_ge (N a) 81 with hN | hN
      · obtain ⟨h1, h2⟩ := a5 hN
        have := hml (N a) hN (by rw [← h0 _ hN]; exact h1)
        omega
      · have := a6 (by omega)
        omega
    · rcases hma with h1 | ⟨b, hb, hb0, hb1⟩
      · omega
      · exact ct_near hI h7 hP hb (by rw [h0 _ hb]; exact hb0) m a ha hb1
  rw [← e]
  exact hm
end
section
set_option maxRecDepth 100000
/-! clearance: a cell is blocked or freed -/
theorem ct_on {a : Nat} (ha : a < 81) {on : Int32} (hon : on ≠ 0) {X : cn_St} (h : ct_C X) : ct_J 0 0 (up2 (up2 (up2 (up2 X 0 a on) 5 a 0) 6 a (nI a)) 7 a 1) := by
  obtain ⟨D, N, hI, h7, hP⟩ := h
  obtain ⟨Z, hZ⟩ : ∃ Z, Z = up2 (up2 (up2 (up2 X 0 a on) 5 a 0) 6 a (nI a)) 7 a 1 := ⟨_, rfl⟩
  rw [← hZ]
  have x0 : ∀ b, Z 0 b = if b = a then on else X 0 b := fun b => by rw [hZ]; simp [up2, upd]
  have x5 : ∀ b, Z 5 b = if b = a then 0 else X 5 b := fun b => by rw [hZ]; simp [up2, upd]
  have x6 : ∀ b, Z 6 b = if b = a then nI a else X 6 b := fun b => by rw [hZ]; simp [up2, upd]
  have x7 : ∀ b, Z 7 b = if b = a then 1 else X 7 b := fun b => by rw [hZ]; simp [up2, upd]
  have nle : ∀ x, nup D a 0 x ≤ D x := fun x => by
    by_cases h : x = a
    · rw [h, nup_s]
      exact Nat.zero_le _
    · rw [nup_n _ _ h]
      exact Nat.le_refl _
  refine ⟨nup D a 0, nup N a a, fun b hb => ?_, fun b hb _ hb7 k hk hk2 => ?_, fun b hb hb7 => ⟨Nat.zero_le _, fun _ => Nat.zero_le _⟩⟩
  · by_cases hba : b = a
    · rw [hba, nup_s, nup_s, x5, x6, if_pos rfl, if_pos rfl]
      refine ⟨⟨nI_0.symm, (kx_oI_pos ha).symm⟩, ⟨by omega, by omega⟩, fun _ => ⟨?_, ?_⟩, fun h => by omega, fun _ => rfl, fun _ => by omega⟩
      · rw [x0, if_pos rfl]
        exact hon
      · rw [cb_self]
        exact Nat.le_refl _
    · obtain ⟨h1, h2, h3, h4, h5, h6⟩ := hI b hb
      rw [nup_n _ _ hba, nup_n _ _ hba, x5, x6, x7, if_neg hba, if_neg hba, if_neg hba]
      refine ⟨h1, h2, fun hN => ⟨?_, (h3 hN).2⟩, h4, fun hx => h5 ?_, h6⟩
      · rw [x0]
        split
        · exact hon
        · exact (h3 hN).1
      · rw [x0, if_neg hba] at hx
        exact hx
  · have hba : b ≠ a := fun h => by
      rw [x7, if_pos h] at hb7
      exact absurd hb7 (by decide)
    have h1 := hP b hb (by omega) (h7 b hb) k hk hk2
    have h2 := nle (kx_ar b k)
    rw [nup_n _ _ hba]
    omega
def ct_d (a : Nat) (D N : Nat → Nat) (b : Nat) : Nat := if N b = a then 9 else D b
def ct_n (a : Nat) (N : Nat → Nat) (b : Nat) : Nat := if N b = a then 81 else N b
theorem ct_r1 {a : Nat} (ha : a < 81) {D N : Nat → Nat} {X : cn_St} (hX : ∀ b, b < 81 → X 5 b = nI (D b) ∧ X 6 b = kx_oI (N b) ∧ N b ≤ 81) : ∀ b, b < 81 → kx_lp (kx_r1 a) 81 X 5 b = nI (ct_d a D N b) ∧ kx_lp (kx_r1 a) 81 X 6 b = kx_oI (ct_n a N b) := by
  have key := lp_inv (f := kx_r1 a) (N := 81) (a := X) (fun k Y => ∀ b, b < 81 → Y 5 b = nI (if b < k then ct_d a D N b else D b) ∧ Y 6 b = kx_oI (if b < k then ct_n a N b else N b)) (fun b hb => by
      rw [if_neg (Nat.not_lt_zero b), if_neg (Nat.not_lt_zero b)]
      exact ⟨(hX b hb).1, (hX b hb).2.1⟩) (fun k Y hk h b hb => by
      obtain ⟨k1, k2⟩ := h k hk
      rw [if_neg (Nat.lt_irrefl k)] at k1 k2
      have other : b ≠ k → (Y 5 b = nI (if b < k + 1 then ct_d a D N b else D b) ∧ Y 6 b = kx_oI (if b < k + 1 then ct_n a N b else N b)) := fun hbk => by
        obtain ⟨h1, h2⟩ := h b hb
        by_cases hlt : b < k
        · rw [if_pos hlt] at h1 h2
          rw [if_pos (show b < k + 1 by omega), if_pos (show b < k + 1 by omega)]
          exact ⟨h1, h2⟩
        · rw [if_neg hlt] at h1 h2
          rw [if_neg (show ¬ b < k + 1 by omega), if_neg (show ¬ b < k + 1 by omega)]
          exact ⟨h1, h2⟩
      by_cases hN : N k = a
      · have e : kx_r1 a k Y = up2 (up2 Y 5 k 9) 6 k (-1) := by
          rw [kx_r1, if_pos]
          rw [k2, hN, kx_oI_pos ha]
        have y5 : ∀ b, up2 (up2 Y 5 k 9) 6 k (-1) 5 b = if b = k then 9 else Y 5 b := fun b => by simp [up2, upd]
        have y6 : ∀ b, up2 (up2 Y 5 k 9) 6 k (-1) 6 b = if b = k then -1 else Y 6 b := fun b => by simp [up2, upd]
        rw [e, y5, y6]
        by_cases hbk : b = k
        · rw [hbk, if_pos rfl, if_pos rfl, if_pos (Nat.lt_succ_self k), if_pos (Nat.lt_succ_self k), ct_d, ct_n, if_pos hN, if_pos hN]
          exact ⟨rfl, rfl⟩
        · rw [if_neg hbk, if_neg hbk]
          exact other hbk
      · have e : kx_r1 a k Y = Y := by
          rw [kx_r1, if_neg]
          rw [k2]
          exact fun h => hN ((oI_eq (hX k hk).2.2 ha).mp h)
        rw [e]
        by_cases hbk : b = k
        · rw [hbk, if_pos (Nat.lt_succ_self k), if_pos (Nat.lt_succ_self k), ct_d, ct_n, if_neg hN, if_neg hN]
          exact ⟨k1, k2⟩
        · exact other hbk)
  intro b hb
  have h := key b hb
  rw [if_pos hb, if_pos hb] at h
  exact h
theorem fr_r1 (a k : Nat) (X : cn_St) {f : Nat} (h5 : f ≠ 5) (h6 : f ≠ 6) : kx_r1 a k X f = X f := by
  rw [kx_r1]
  split
  · rw [up2_o _ _ _ h6, up2_o _ _ _ h5]
  · rfl
theorem br_congr {X Y : cn_St} (h : Y 6 = X 6) (a : Nat) : kx_br Y a = kx_br X a := by
  have e : kx_b1 Y a = kx_b1 X a := by
    funext k b
    rw [kx_b1, kx_b1, h]
  rw [kx_br, kx_br, e]
theorem br_0 {X : cn_St} {a : Nat} (h : kx_br X a = 0) : ∀ j, j < 9 → kx_ar a j < 81 → 0 ≤ X 6 (kx_ar a j) := by
  have key := lp_inv (f := kx_b1 X a) (N := 9) (a := (0 : Int32)) (fun n b => b = 0 → ∀ j, j < n → kx_ar a j < 81 → 0 ≤ X 6 (kx_ar a j)) (fun _ j hj => absurd hj (Nat.not_lt_zero j)) (fun n b hn ih h j hj hj2 => by
    by_cases hb : b = 0
    · by_cases hjn : j = n
      · rw [hjn] at hj2 ⊢
        rw [kx_b1, if_pos hb, if_pos hj2] at h
        by_cases h6 : 0 ≤ X 6 (kx_ar a n)
        · exact h6
        · rw [if_neg h6] at h
          exact absurd h (by decide)
      · exact ih hb j (by omega) hj2
    · rw [kx_b1, if_neg hb] at h
      exact absurd h (by decide))
  exact key h
theorem ct_r2 (X : cn_St) : (∀ f, f ≠ 7 → kx_lp kx_r2 81 X f = X f) ∧ ∀ b, b < 81 → kx_lp kx_r2 81 X 7 b = if X 6 b < 0 then 0 else if kx_br X b = 0 then 0 else 1 :=
  lp_inv (f := kx_r2) (N := 81) (a := X) (fun n Y => (∀ f, f ≠ 7 → Y f = X f) ∧ ∀ b, b < n → Y 7 b = if X 6 b < 0 then 0 else if kx_br X b = 0 then 0 else 1) ⟨fun _ _ => rfl, fun b hb => absurd hb (Nat.not_lt_zero b)⟩ (fun n Y hn h => by
    obtain ⟨h1, h2⟩ := h
    have h6 : Y 6 = X 6 := h1 6 (by decide)
    refine ⟨fun f hf => ?_, fun b hb => ?_⟩
    · rw [kx_r2, up2_o _ _ _ hf]
      exact h1 f hf
    · by_cases hbn : b = n
      · rw [hbn, kx_r2, up2_s, br_congr h6, h6]
      · rw [kx_r2, up2_n _ _ _ hbn]
        exact h2 b (by omega))
theorem ct_off {a : Nat} (ha : a < 81) {X : cn_St} (h : ct_C X) : ct_J 0 0 (kx_rf a (up2 X 0 a 0)) := by
  obtain ⟨D, N, hI, h7, hP⟩ := h
  have hcb : ∀ b, b < 81 → N b < 81 → D b ≤ 8 := fun b hb hN => by
    have h1 := ct_near hI h7 hP hN ((hI b hb).2.2.1 hN).1 _ b hb rfl
    have h2 := cb_8 hb hN
    omega
  obtain ⟨V, hV⟩ : ∃ V, V = kx_lp (kx_r1 a) 81 (up2 X 0 a 0) := ⟨_, rfl⟩
  have v0 : ∀ b, V 0 b = if b = a then 0 else X 0 b := fun b => by
    rw [hV, lp_fld (fun n Y => fr_r1 a n Y (by decide) (by decide)) 81 (up2 X 0 a 0)]
    simp [up2, upd]
  have v56 : ∀ b, b < 81 → V 5 b = nI (ct_d a D N b) ∧ V 6 b = kx_oI (ct_n a N b) := by
    rw [hV]
    exact ct_r1 ha (fun b hb => by
      rw [up2_o _ _ _ (by decide), up2_o _ _ _ (by decide)]
      exact ⟨(hI b hb).1.1, (hI b hb).1.2, (hI b hb).2.1.2⟩)
  obtain ⟨zo, z7⟩ := ct_r2 V
  obtain ⟨Z, hZ⟩ : ∃ Z, Z = kx_lp kx_r2 81 V := ⟨_, rfl⟩
  have e : kx_rf a (up2 X 0 a 0) = Z := by rw [hZ, hV]; rfl
  rw [← hZ] at zo z7
  rw [e]
  have z0 : Z 0 = V 0 := zo 0 (by decide)
  have z5 : Z 5 = V 5 := zo 5 (by decide)
  have z6 : Z 6 = V 6 := zo 6 (by decide)
  have n81 : ∀ b, b < 81 → ct_n a N b ≤ 81 := fun b hb => by
    rw [ct_n]
    split
    · exact Nat.le_refl _
    · exact (hI b hb).2.1.2
  have d9 : ∀ b, b < 81 → ct_d a D N b ≤ 9 := fun b hb => by
    rw [ct_d]
    split
    · exact Nat.le_refl _
    · exact (hI b hb).2.1.1
  have nd9 : ∀ b, b < 81 → ct_n a N b = 81 → ct_d a D N b = 9 := fun b hb hn => by
    by_cases hN : N b = a
    · rw [ct_d, if_pos hN]
    · rw [ct_n, if_neg hN] at hn
      rw [ct_d, if_neg hN]
      exact (hI b hb).2.2.2.1 hn
  have keep : ∀ b, b < 81 → ct_n a N b < 81 → N b ≠ a ∧ N b < 81 ∧ ct_d a D N b = D b ∧ ct_n a N b = N b := fun b hb hn => by
    by_cases hN : N b = a
    · rw [ct_n, if_pos hN] at hn
      omega
    · rw [ct_n, if_neg hN] at hn ⊢
      rw [ct_d, if_neg hN]
      exact ⟨hN, hn, rfl, rfl⟩
  have neg6 : ∀ b, b < 81 → (Z 6 b < 0 ↔ ct_n a N b = 81) := fun b hb => by
    rw [z6, (v56 b hb).2]
    exact oI_neg (n81 b hb)
  refine ⟨ct_d a D N, ct_n a N, fun b hb => ?_, fun b hb _ hb7 k hk hk2 => ?_, fun b hb hb7 => ⟨Nat.zero_le _, fun _ => Nat.zero_le _⟩⟩
  · rw [z5, z6, z0]
    refine ⟨v56 b hb, ⟨d9 b hb, n81 b hb⟩, fun hn => ?_, nd9 b hb, fun hx => ?_, fun hx => ?_⟩
    · obtain ⟨k1, k2, k3, k4⟩ := keep b hb hn
      rw [k3, k4, v0, if_neg k1]
      exact (hI b hb).2.2.1 k2
    · have hba : b ≠ a := fun h => hx (by rw [v0, if_pos h])
      rw [v0, if_neg hba] at hx
      have hD := (hI b hb).2.2.2.2.1 hx
      by_cases hN : N b = a
      · exfalso
        have h1 := ((hI b hb).2.2.1 (by omega)).2
        have h2 := cb_0 (show km_cb b (N b) = 0 by omega)
        omega
      · rw [ct_d, if_neg hN]
        exact hD
    · by_cases hn : ct_n a N b = 81
      · exfalso
        refine hx ?_
        rw [z7 b hb, ← z6, if_pos ((neg6 b hb).mpr hn)]
      · obtain ⟨k1, k2, k3, k4⟩ := keep b hb (by have := n81 b hb; omega)
        rw [k3]
        exact hcb b hb k2
  · by_cases hn : ct_n a N b = 81
    · have h1 := nd9 b hb hn
      have h2 := d9 _ hk2
      omega
    · obtain ⟨k1, k2, k3, k4⟩ := keep b hb (by have := n81 b hb; omega)
      have hbr : kx_br V b = 0 := by
        by_cases hz : kx_br V b = 0
        · exact hz
        · exfalso
          rw [z7 b hb, ← z6, if_neg (fun h => hn ((neg6 b hb).mp h)), if_neg hz] at hb7
          exact absurd hb7 (by decide)
      have h1 := br_0 hbr k hk hk2
      have h2 : ct_n a N (kx_ar b k) < 81 := by
        rw [(v56 _ hk2).2] at h1
        exact (oI_ge (n81 _ hk2)).mp h1
      obtain ⟨t1, t2, t3, t4⟩ := keep _ hk2 h2
      rw [k3, t3]
      exact hP b hb (by omega) (h7 b hb) k hk hk2
theorem ct_ch {a : Nat} (ha : a < 81) (on : Int32) {X : cn_St} (h : ct_C X) : ct_C (kx_ch a on X) := by
  rw [kx_ch]
  refine ct_lw ?_
  by_cases ho : on = 0
  · rw [if_pos ho, ho]
    exact ct_off ha h
  · rw [if_neg ho]
    exact ct_on ha ho h
theorem fr_r2 (k : Nat) (X : cn_St) {f : Nat} (h7 : f ≠ 7) : kx_r2 k X f = X f := by rw [kx_r2, up2_o _ _ _ h7]
theorem fr_rf (a : Nat) (X : cn_St) {f : Nat} (h5 : f ≠ 5) (h6 : f ≠ 6) (h7 : f ≠ 7) : kx_rf a X f = X f := by
  rw [kx_rf, lp_fld (fun n Y => fr_r2 n Y h7) 81 _, lp_fld (fun n Y => fr_r1 a n Y h5 h6) 81 X]
theorem fr_ch (a : Nat) (on : Int32) (X : cn_St) {f : Nat} (h5 : f ≠ 5) (h6 : f ≠ 6) (h7 : f ≠ 7) : kx_ch a on X f = up2 X 0 a on f := by
  rw [kx_ch, fr_lw _ h5 h6 h7]
  split
  · rw [fr_rf _ _ h5 h6 h7]
  · rw [up2_o _ _ _ h7, up2_o _ _ _ h6, up2_o _ _ _ h5]
end
section
set_option maxRecDepth 100000
/-! costs, and what a cell's neighbours say about its distance -/
def ct_c (n : Nat) : Int32 := if n = 0 then -1 else nI n
theorem ct_c_0 : ct_c 0 = -1 := rfl
theorem ct_c_p {n : Nat} (h : n ≠ 0) : ct_c n = nI n := if_neg h
theorem ct_c_neg {n : Nat} (h : n ≤ 37) : ct_c n < 0 ↔ n = 0 := by
  by_cases h0 : n = 0
  · rw [h0, ct_c_0]
    exact ⟨fun _ => rfl, fun _ => by decide⟩
  · rw [ct_c_p h0]
    exact ⟨fun h1 => absurd h1 (nI_pos (by omega)), fun h1 => absurd h1 h0⟩
theorem ct_c_inj {m n : Nat} (hm : m ≤ 37) (hn : n ≤ 37) (h : ct_c m = ct_c n) : m = n := by
  by_cases h0 : m = 0
  · have h1 : ct_c n < 0 := by rw [← h]; exact (ct_c_neg hm).mpr h0
    rw [h0, (ct_c_neg hn).mp h1]
  · by_cases h1 : n = 0
    · have h2 : ct_c m < 0 := by rw [h]; exact (ct_c_neg hn).mpr h1
      exact absurd ((ct_c_neg hm).mp h2) h0
    · rw [ct_c_p h0, ct_c_p h1] at h
      exact (nI_eq (by omega) (by omega)).mp h
def ct_s1 (C K : Nat → Nat) (a d b : Nat) : Nat := if kx_mv a d < 81 then (if C (kx_mv a d) = 0 then b else if b ≤ K (kx_mv a d) + C (kx_mv a d) then b else K (kx_mv a d) + C (kx_mv a d)) else b
def ct_av (C K : Nat → Nat) (g a : Nat) : Nat := if C a = 0 then 100000 else if a = g then 0 else kx_lp (ct_s1 C K a) 4 100000
theorem ct_s1_le (C K : Nat → Nat) (a d b : Nat) : ct_s1 C K a d b ≤ b := by
  rw [ct_s1]
  split
  · split
    · exact Nat.le_refl _
    · split
      · exact Nat.le_refl _
      · omega
  · exact Nat.le_refl _
theorem ct_lo (C K : Nat → Nat) (a : Nat) : kx_lp (ct_s1 C K a) 4 100000 ≤ 100000 ∧ (∀ d, d < 4 → kx_mv a d < 81 → C (kx_mv a d) ≠ 0 → kx_lp (ct_s1 C K a) 4 100000 ≤ K (kx_mv a d) + C (kx_mv a d)) ∧ (kx_lp (ct_s1 C K a) 4 100000 = 100000 ∨ ∃ d, d < 4 ∧ kx_mv a d < 81 ∧ C (kx_mv a d) ≠ 0 ∧ kx_lp (ct_s1 C K a) 4 100000 = K (kx_mv a d) + C (kx_mv a d)) :=
  lp_inv (f := ct_s1 C K a) (N := 4) (a := 100000) (fun n v => v ≤ 100000 ∧ (∀ d, d < n → kx_mv a d < 81 → C (kx_mv a d) ≠ 0 → v ≤ K (kx_mv a d) + C (kx_mv a d)) ∧ (v = 100000 ∨ ∃ d, d < 4 ∧ kx_mv a d < 81 ∧ C (kx_mv a d) ≠ 0 ∧ v = K (kx_mv a d) + C (kx_mv a d))) ⟨Nat.le_refl _, fun d hd => absurd hd (Nat.not_lt_zero d), Or.inl rfl⟩ (fun n v hn h => by
    obtain ⟨h1, h2, h3⟩ := h
    have hle := ct_s1_le C K a n v
    refine ⟨Nat.le_trans hle h1, fun d hd hm hc => ?_, ?_⟩
    · by_cases hdn : d = n
      · rw [hdn] at hm hc ⊢
        rw [ct_s1, if_pos hm, if_neg hc]
        split
        · assumption
        · exact Nat.le_refl _
      · exact Nat.le_trans hle (h2 d (by omega) hm hc)
    · by_cases hm : kx_mv a n < 81
      · by_cases hc : C (kx_mv a n) = 0
        · rw [ct_s1, if_pos hm, if_pos hc]
          exact h3
        · by_cases hb : v ≤ K (kx_mv a n) + C (kx_mv a n)
          · rw [ct_s1, if_pos hm, if_neg hc, if_pos hb]
            exact h3
          · rw [ct_s1, if_pos hm, if_neg hc, if_neg hb]
            exact Or.inr ⟨n, hn, hm, hc, rfl⟩
      · rw [ct_s1, if_neg hm]
        exact h3)
theorem ct_av_le (C K : Nat → Nat) (g a : Nat) : ct_av C K g a ≤ 100000 := by
  rw [ct_av]
  split
  · exact Nat.le_refl _
  · split
    · exact Nat.zero_le _
    · exact (ct_lo C K a).1
theorem ct_av_b {C K : Nat → Nat} {g a : Nat} (h : C a = 0) : ct_av C K g a = 100000 := if_pos h
theorem ct_av_g {C K : Nat → Nat} {g a : Nat} (h : C a ≠ 0) (hg : a = g) : ct_av C K g a = 0 := by rw [ct_av, if_neg h, if_pos hg]
theorem ct_av_n {C K : Nat → Nat} {g a : Nat} (h : C a ≠ 0) (hg : a ≠ g) : ct_av C K g a = kx_lp (ct_s1 C K a) 4 100000 := by rw [ct_av, if_neg h, if_neg hg]
/-- a cell asks itself and its neighbours alone -/
theorem ct_av_same {C K C' K' : Nat → Nat} {g b : Nat} (h : C b = C' b) (hn : ∀ d, d < 4 → kx_mv b d < 81 → C (kx_mv b d) = C' (kx_mv b d) ∧ K (kx_mv b d) = K' (kx_mv b d)) : ct_av C K g b = ct_av C' K' g b := by
  have e : kx_lp (ct_s1 C K b) 4 100000 = kx_lp (ct_s1 C' K' b) 4 100000 := lp_congr (fun d v hd => by
    by_cases hm : kx_mv b d < 81
    · obtain ⟨h1, h2⟩ := hn d hd hm
      rw [ct_s1, ct_s1, h1, h2]
    · rw [ct_s1, ct_s1, if_neg hm, if_neg hm]) _
  rw [ct_av, ct_av, e, h]
theorem ct_av_goal {C K : Nat → Nat} {g g' b : Nat} (h : b ≠ g) (h' : b ≠ g') : ct_av C K g b = ct_av C K g' b := by rw [ct_av, ct_av, if_neg h, if_neg h']
/-- the state of the distances -/
def ct_R (g : Nat) (C K U : Nat → Nat) (X : cn_St) : Prop := (g < 81 ∧ X 4 0 = nI g) ∧ ∀ a, a < 81 → (X 8 a = ct_c (C a) ∧ C a ≤ 37) ∧ (X 9 a = nI (K a) ∧ K a ≤ 100000) ∧ (X 10 a = nI (U a) ∧ U a ≤ 100000)
theorem ct_R_congr {g : Nat} {C K U U' : Nat → Nat} {X : cn_St} (h : ct_R g C K U X) (hU : ∀ a, a < 81 → U a = U' a) : ct_R g C K U' X :=
  ⟨h.1, fun a ha => by rw [← hU a ha]; exact h.2 a ha⟩
theorem ct_R_fr {g : Nat} {C K U : Nat → Nat} {X X' : cn_St} (h : ct_R g C K U X) (h4 : X' 4 = X 4) (h8 : X' 8 = X 8) (h9 : X' 9 = X 9) (hA : X' 10 = X 10) : ct_R g C K U X' := by
  obtain ⟨h1, h2⟩ := h
  refine ⟨by rw [h4]; exact h1, fun a ha => ?_⟩
  rw [h8, h9, hA]
  exact h2 a ha
theorem ct_av_eq {g : Nat} {C K U : Nat → Nat} {X : cn_St} (h : ct_R g C K U X) {a : Nat} (ha : a < 81) : kx_av X a = nI (ct_av C K g a) := by
  obtain ⟨⟨hg, h4⟩, hR⟩ := h
  obtain ⟨⟨a1, a2⟩, -, -⟩ := hR a ha
  by_cases hc : C a = 0
  · rw [kx_av, if_pos (by rw [a1]; exact (ct_c_neg a2).mpr hc), ct_av_b hc]
    rfl
  · rw [kx_av, if_neg (by rw [a1]; exact fun q => hc ((ct_c_neg a2).mp q))]
    by_cases hag : a = g
    · rw [if_pos (by rw [h4, hag]), ct_av_g hc hag]
      rfl
    · rw [if_neg (by rw [h4]; exact fun q => hag ((nI_eq (by omega) (by omega)).mp q)), ct_av_n hc hag]
      exact lp_map (f := ct_s1 C K a) (a := 100000) nI (fun v => v ≤ 100000) (Nat.le_refl _) (fun n b _ hb => Nat.le_trans (ct_s1_le C K a n b) hb) (fun n b hn hb => by
        by_cases hm : kx_mv a n < 81
        · obtain ⟨⟨b1, b2⟩, ⟨b3, b4⟩, -⟩ := hR _ hm
          by_cases hz : C (kx_mv a n) = 0
          · rw [kx_s1, if_pos hm, if_pos (by rw [b1]; exact (ct_c_neg b2).mpr hz), ct_s1, if_pos hm, if_pos hz]
          · rw [kx_s1, if_pos hm, if_neg (by rw [b1]; exact fun q => hz ((ct_c_neg b2).mp q)), ct_s1, if_pos hm, if_neg hz, b1, b3, ct_c_p hz, nI_add]
            by_cases hle : b ≤ K (kx_mv a n) + C (kx_mv a n)
            · rw [if_pos (nI_le hle (by omega)), if_pos hle]
            · rw [if_neg (nI_ge (by omega) (by omega)), if_neg hle]
        · rw [kx_s1, if_neg hm, ct_s1, if_neg hm])
theorem ct_ask {g : Nat} {C K U : Nat → Nat} {X : cn_St} (h : ct_R g C K U X) {a : Nat} (ha : a < 81) : ct_R g C K (nup U a (ct_av C K g a)) (kx_ask a X) := by
  have hv := ct_av_eq h ha
  obtain ⟨h1, h2⟩ := h
  rw [kx_ask, hv]
  refine ⟨by rw [up2_o _ _ _ (by decide)]; exact h1, fun b hb => ?_⟩
  rw [up2_o _ _ _ (show (8 : Nat) ≠ 10 by decide), up2_o _ _ _ (show (9 : Nat) ≠ 10 by decide)]
  obtain ⟨k1, k2, k3⟩ := h2 b hb
  refine ⟨k1, k2, ?_⟩
  by_cases hba : b = a
  · rw [hba, up2_s, nup_s]
    exact ⟨rfl, ct_av_le C K g a⟩
  · rw [up2_n _ _ _ hba, nup_n _ _ hba]
    exact k3
theorem ct_aa {g : Nat} {C K U : Nat → Nat} {X : cn_St} (h : ct_R g C K U X) {a : Nat} (hU : ∀ b, b < 81 → (∀ d, d < 4 → kx_mv a d ≠ b) → U b = ct_av C K g b) : ct_R g C K (ct_av C K g) (kx_aa a X) := by
  obtain ⟨U', h1, h2⟩ := lp_inv (f := kx_a1 a) (N := 4) (a := X) (fun n Y => ∃ U', ct_R g C K U' Y ∧ ∀ b, b < 81 → U' b = ct_av C K g b ∨ ((∀ d, d < n → kx_mv a d ≠ b) ∧ U' b = U b)) ⟨U, h, fun b _ => Or.inr ⟨fun d hd => absurd hd (Nat.not_lt_zero d), rfl⟩⟩ (fun n Y hn q => by
    obtain ⟨U', q1, q2⟩ := q
    by_cases hm : kx_mv a n < 81
    · rw [kx_a1, if_pos hm]
      refine ⟨_, ct_ask q1 hm, fun b hb => ?_⟩
      by_cases hbt : b = kx_mv a n
      · rw [hbt, nup_s]
        exact Or.inl rfl
      · rw [nup_n _ _ hbt]
        rcases q2 b hb with q3 | ⟨q3, q4⟩
        · exact Or.inl q3
        · refine Or.inr ⟨fun d hd => ?_, q4⟩
          by_cases hdn : d = n
          · rw [hdn]
            exact Ne.symm hbt
          · exact q3 d (by omega)
    · rw [kx_a1, if_neg hm]
      refine ⟨U', q1, fun b hb => ?_⟩
      rcases q2 b hb with q3 | ⟨q3, q4⟩
      · exact Or.inl q3
      · refine Or.inr ⟨fun d hd => ?_, q4⟩
        by_cases hdn : d = n
        · rw [hdn]
          omega
        · exact q3 d (by omega))
  refine ct_R_congr h1 (fun b hb => ?_)
  rcases h2 b hb with q3 | ⟨q3, q4⟩
  · exact q3
  · rw [q4]
    exact hU b hb q3
/-- a change at one cell is told to its neighbours -/
theorem ct_tell {C K C' K' : Nat → Nat} {g a : Nat} (hC : ∀ b, b ≠ a → C b = C' b) (hK : ∀ b, b ≠ a → K b = K' b) {b : Nat} (hb : b < 81) (hba : b ≠ a) (hn : ∀ d, d < 4 → kx_mv a d ≠ b) : ct_av C K g b = ct_av C' K' g b := by
  refine ct_av_same (hC b hba) (fun d hd hm => ?_)
  have hne : kx_mv b d ≠ a := fun e => by
    obtain ⟨e1, he1, he2⟩ := mv_sym b hb d hd hm
    rw [e] at he2
    exact hn e1 he1 he2
  exact ⟨hC _ hne, hK _ hne⟩
theorem fr_ask (a : Nat) (X : cn_St) {f : Nat} (hA : f ≠ 10) : kx_ask a X f = X f := up2_o _ _ _ hA
theorem fr_a1 (a d : Nat) (X : cn_St) {f : Nat} (hA : f ≠ 10) : kx_a1 a d X f = X f := by
  rw [kx_a1]
  split
  · exact fr_ask _ _ hA
  · rfl
theorem fr_aa (a : Nat) (X : cn_St) {f : Nat} (hA : f ≠ 10) : kx_aa a X f = X f := lp_fld (fun n Y => fr_a1 a n Y hA) 4 X
theorem fr_c1 (a : Nat) (X : cn_St) {f : Nat} (h8 : f ≠ 8) (hA : f ≠ 10) : kx_c1 a X f = X f := by
  rw [kx_c1]
  split
  · rfl
  · rw [fr_aa _ _ hA, fr_ask _ _ hA, up2_o _ _ _ h8]
theorem fr_rc (X : cn_St) {f : Nat} (h8 : f ≠ 8) (hA : f ≠ 10) : kx_rc X f = X f := lp_fld (fun n Y => fr_c1 n Y h8 hA) 81 X
theorem co_congr {X X' : cn_St} (h0 : X' 0 = X 0) (h1 : X' 1 = X 1) (h2 : X' 2 = X 2) (h5 : X' 5 = X 5) (a : Nat) : kx_co X' a = kx_co X a := by rw [kx_co, kx_co, h0, h1, h2, h5]
/-- the costs are entered, each change is told -/
theorem ct_rc {g : Nat} {C K M : Nat → Nat} {X : cn_St} (h : ct_R g C K (ct_av C K g) X) (hM : ∀ b, b < 81 → M b ≤ 37 ∧ kx_co X b = ct_c (M b)) : ∃ C', ct_R g C' K (ct_av C' K g) (kx_rc X) ∧ ∀ b, b < 81 → C' b = M b := by
  have key := lp_inv (f := kx_c1) (N := 81) (a := X) (fun n Y => (∀ f, f ≠ 8 → f ≠ 10 → Y f = X f) ∧ ∃ C', ct_R g C' K (ct_av C' K g) Y ∧ ∀ b, b < n → C' b = M b) ⟨fun _ _ _ => rfl, C, h, fun b hb => absurd hb (Nat.not_lt_zero b)⟩ (fun n Y hn q => by
    obtain ⟨q1, C', q2, q3⟩ := q
    refine ⟨fun f h8 hA => by rw [fr_c1 _ _ h8 hA]; exact q1 f h8 hA, ?_⟩
    have hco : kx_co Y n = ct_c (M n) := by
      rw [co_congr (q1 0 (by decide) (by decide)) (q1 1 (by decide) (by decide)) (q1 2 (by decide) (by decide)) (q1 5 (by decide) (by decide))]
      exact (hM n hn).2
    obtain ⟨⟨n1, n2⟩, -, -⟩ := q2.2 n hn
    by_cases he : kx_co Y n = Y 8 n
    · rw [kx_c1, if_pos he]
      refine ⟨C', q2, fun b hb => ?_⟩
      by_cases hbn : b = n
      · rw [hbn]
        rw [hco, n1] at he
        exact (ct_c_inj (hM n hn).1 n2 he).symm
      · exact q3 b (by omega)
    · rw [kx_c1, if_neg he, hco]
      refine ⟨nup C' n (M n), ?_, fun b hb => ?_⟩
      · have hx : ct_R g (nup C' n (M n)) K (ct_av C' K g) (up2 Y 8 n (ct_c (M n))) := by
          refine ⟨by rw [up2_o _ _ _ (by decide)]; exact q2.1, fun b hb => ?_⟩
          rw [up2_o _ _ _ (show (9 : Nat) ≠ 8 by decide), up2_o _ _ _ (show (10 : Nat) ≠ 8 by decide)]
          obtain ⟨k1, k2, k3⟩ := q2.2 b hb
          refine ⟨?_, k2, k3⟩
          by_cases hbn : b = n
          · rw [hbn, up2_s, nup_s]
            exact ⟨rfl, (hM n hn).1⟩
          · rw [up2_n _ _ _ hbn, nup_n _ _ hbn]
            exact k1
        refine ct_aa (ct_ask hx hn) (fun b hb hnb => ?_)
        by_cases hbn : b = n
        · rw [hbn, nup_s]
        · rw [nup_n _ _ hbn]
          exact ct_tell (fun x hx => (nup_n _ _ hx).symm) (fun x _ => rfl) hb hbn hnb
      · by_cases hbn : b = n
        · rw [hbn, nup_s]
        · rw [nup_n _ _ hbn]
          exact q3 b (by omega))
  obtain ⟨-, C', h1, h2⟩ := key
  exact ⟨C', h1, h2⟩
/-- a new goal -/
theorem ct_goal {g g' : Nat} {C K : Nat → Nat} {X : cn_St} (hg : g' < 81) (h : ct_R g C K (ct_av C K g) X) : ct_R g' C K (ct_av C K g') (kx_ask g' (kx_ask g (up2 X 4 0 (nI g')))) := by
  have hx : ct_R g' C K (ct_av C K g) (up2 X 4 0 (nI g')) := by
    refine ⟨⟨hg, up2_s _ _ _ _⟩, fun b hb => ?_⟩
    rw [up2_o _ _ _ (show (8 : Nat) ≠ 4 by decide), up2_o _ _ _ (show (9 : Nat) ≠ 4 by decide), up2_o _ _ _ (show (10 : Nat) ≠ 4 by decide)]
    exact h.2 b hb
  refine ct_R_congr (ct_ask (ct_ask hx h.1.1) hg) (fun b hb => ?_)
  by_cases h1 : b = g'
  · rw [h1, nup_s]
  · rw [nup_n _ _ h1]
    by_cases h2 : b = g
    · rw [h2, nup_s]
    · rw [nup_n _ _ h2]
      exact ct_av_goal h2 h1
end
section
set_option maxRecDepth 100000
/-! settling: each cell is looked at twice at most, and then all distances are right -/
theorem ct_fi {g : Nat} {C K U : Nat → Nat} {X : cn_St} (h : ct_R g C K U X) : (kx_fi X = 81 ∧ ∀ b, b < 81 → K b = U b) ∨ (kx_fi X < 81 ∧ K (kx_fi X) ≠ U (kx_fi X) ∧ ∀ b, b < 81 → K b ≠ U b → min (K (kx_fi X)) (U (kx_fi X)) ≤ min (K b) (U b)) := by
  have key := lp_inv (f := kx_f1 X) (N := 81) (a := ((81, 100001) : Nat × Int32)) (fun n q => (q.1 = 81 ∧ q.2 = nI 100001 ∧ ∀ b, b < n → K b = U b) ∨ (q.1 < 81 ∧ K q.1 ≠ U q.1 ∧ q.2 = nI (min (K q.1) (U q.1)) ∧ ∀ b, b < n → K b ≠ U b → min (K q.1) (U q.1) ≤ min (K b) (U b))) (Or.inl ⟨rfl, rfl, fun b hb => absurd hb (Nat.not_lt_zero b)⟩) (fun n q hn hq => by
    obtain ⟨-, ⟨k1, k2⟩, ⟨u1, u2⟩⟩ := h.2 n hn
    have hkey : kx_key X n = nI (min (K n) (U n)) := by
      rw [kx_key, k1, u1]
      by_cases hle : U n ≤ K n
      · rw [if_pos (nI_le hle (by omega))]
        congr 1
        omega
      · rw [if_neg (nI_ge (by omega) (by omega))]
        congr 1
        omega
    by_cases he : K n = U n
    · have e : kx_f1 X n q = q := by rw [kx_f1, if_pos (by rw [k1, u1, he])]
      rw [e]
      rcases hq with ⟨q1, q2, q3⟩ | ⟨q1, q2, q3, q4⟩
      · refine Or.inl ⟨q1, q2, fun b hb => ?_⟩
        by_cases hbn : b = n
        · rw [hbn]
          exact he
        · exact q3 b (by omega)
      · refine Or.inr ⟨q1, q2, q3, fun b hb hb2 => ?_⟩
        by_cases hbn : b = n
        · rw [hbn] at hb2
          exact absurd he hb2
        · exact q4 b (by omega) hb2
    · have hne : ¬ X 9 n = X 10 n := by
        rw [k1, u1]
        exact fun w => he ((nI_eq (by omega) (by omega)).mp w)
      rcases hq with ⟨q1, q2, q3⟩ | ⟨q1, q2, q3, q4⟩
      · have e : kx_f1 X n q = (n, nI (min (K n) (U n))) := by rw [kx_f1, if_neg hne, hkey, q2, if_neg (nI_ge (by omega) (by omega))]
        rw [e]
        refine Or.inr ⟨hn, he, rfl, fun b hb hb2 => ?_⟩
        by_cases hbn : b = n
        · rw [hbn]
          exact Nat.le_refl _
        · exact absurd (q3 b (by omega)) hb2
      · obtain ⟨-, ⟨v1, v2⟩, ⟨w1, w2⟩⟩ := h.2 q.1 q1
        by_cases hle : min (K q.1) (U q.1) ≤ min (K n) (U n)
        · have e : kx_f1 X n q = q := by rw [kx_f1, if_neg hne, hkey, q3, if_pos (nI_le hle (by omega))]
          rw [e]
          refine Or.inr ⟨q1, q2, q3, fun b hb hb2 => ?_⟩
          by_cases hbn : b = n
          · rw [hbn]
            exact hle
          · exact q4 b (by omega) hb2
        · have e : kx_f1 X n q = (n, nI (min (K n) (U n))) := by rw [kx_f1, if_neg hne, hkey, q3, if_neg (nI_ge (by omega) (by omega))]
          rw [e]
          refine Or.inr ⟨hn, he, rfl, fun b hb hb2 => ?_⟩
          by_cases hbn : b = n
          · rw [hbn]
            exact Nat.le_refl _
          · have := q4 b (by omega) hb2
            show min (K n) (U n) ≤ _
            omega)
  rcases key with ⟨q1, -, q3⟩ | ⟨q1, q2, -, q4⟩
  · exact Or.inl ⟨q1, q3⟩
  · exact Or.inr ⟨q1, q2, q4⟩
theorem ct_e1 {g : Nat} {C K : Nat → Nat} {X : cn_St} (h : ct_R g C K (ct_av C K g) X) {a : Nat} (ha : a < 81) : ∃ v, v ≤ 100000 ∧ v = (if K a ≤ ct_av C K g a then 100000 else ct_av C K g a) ∧ ct_R g C (nup K a v) (ct_av C (nup K a v) g) (kx_e1 a X) := by
  obtain ⟨-, ⟨k1, k2⟩, ⟨u1, u2⟩⟩ := h.2 a ha
  have hx : ∀ v, v ≤ 100000 → ct_R g C (nup K a v) (ct_av C K g) (up2 X 9 a (nI v)) := fun v hv => by
    refine ⟨by rw [up2_o _ _ _ (by decide)]; exact h.1, fun b hb => ?_⟩
    rw [up2_o _ _ _ (show (8 : Nat) ≠ 9 by decide), up2_o _ _ _ (show (10 : Nat) ≠ 9 by decide)]
    obtain ⟨m1, m2, m3⟩ := h.2 b hb
    refine ⟨m1, ?_, m3⟩
    by_cases hba : b = a
    · rw [hba, up2_s, nup_s]
      exact ⟨rfl, hv⟩
    · rw [up2_n _ _ _ hba, nup_n _ _ hba]
      exact m2
  have tell : ∀ v b, b < 81 → b ≠ a → (∀ d, d < 4 → kx_mv a d ≠ b) → ct_av C K g b = ct_av C (nup K a v) g b := fun v b hb hba hn =>
    ct_tell (fun _ _ => rfl) (fun x hx => (nup_n _ _ hx).symm) hb hba hn
  by_cases hle : K a ≤ ct_av C K g a
  · refine ⟨100000, Nat.le_refl _, (if_pos hle).symm, ?_⟩
    rw [kx_e1, if_pos (by rw [k1, u1]; exact nI_le hle (by omega))]
    refine ct_aa (ct_ask (hx 100000 (Nat.le_refl _)) ha) (fun b hb hn => ?_)
    by_cases hba : b = a
    · rw [hba, nup_s]
    · rw [nup_n _ _ hba]
      exact tell _ b hb hba hn
  · refine ⟨ct_av C K g a, u2, (if_neg hle).symm, ?_⟩
    rw [kx_e1, if_neg (by rw [k1, u1]; exact nI_ge (by omega) (by omega)), u1]
    refine ct_aa (hx _ u2) (fun b hb hn => ?_)
    by_cases hba : b = a
    · rw [hba]
      refine ct_av_same rfl (fun d hd hm => ⟨rfl, ?_⟩)
      rw [nup_n _ _ (mv_ne a ha d hd)]
    · exact tell _ b hb hba hn
/-- what is offered by a cell at k or beyond doesn't change what is at most k -/
theorem ct_low {C K K' : Nat → Nat} {g a k : Nat} (hK : ∀ x, x ≠ a → K x = K' x) (h1 : k ≤ K a) (h2 : k ≤ K' a) {b : Nat} (hb : ct_av C K g b ≤ k) : ct_av C K' g b = ct_av C K g b := by
  by_cases hc : C b = 0
  · rw [ct_av_b hc, ct_av_b hc]
  · by_cases hg : b = g
    · rw [ct_av_g hc hg, ct_av_g hc hg]
    · rw [ct_av_n hc hg] at hb
      rw [ct_av_n hc hg, ct_av_n hc hg]
      obtain ⟨p1, p2, p3⟩ := ct_lo C K b
      obtain ⟨r1, r2, r3⟩ := ct_lo C K' b
      apply Nat.le_antisymm
      · rcases p3 with e | ⟨d, hd, hm, hz, e⟩
        · omega
        · by_cases hma : kx_mv b d = a
          · rw [hma] at e hz
            omega
          · have q := r2 d hd hm hz
            rw [← hK _ hma] at q
            omega
      · rcases r3 with e | ⟨d, hd, hm, hz, e⟩
        · omega
        · by_cases hma : kx_mv b d = a
          · rw [hma] at e
            omega
          · have q := p2 d hd hm hz
            rw [hK _ hma] at q
            omega
theorem ct_two {C K K' : Nat → Nat} {g a k : Nat} (hK : ∀ x, x ≠ a → K x = K' x) (h1 : k ≤ K a) (h2 : k ≤ K' a) (b : Nat) : ct_av C K' g b = ct_av C K g b ∨ (k < ct_av C K g b ∧ k < ct_av C K' g b) := by
  rcases Nat.lt_or_ge k (ct_av C K g b) with h | h
  · rcases Nat.lt_or_ge k (ct_av C K' g b) with h3 | h3
    · exact Or.inr ⟨h, h3⟩
    · exact Or.inl (ct_low (fun x hx => (hK x hx).symm) h2 h1 h3).symm
  · exact Or.inl (ct_low hK h1 h2 h)
/-- how far settling is: p says how often each cell may still come up, k is the least key -/
def ct_W (C K p : Nat → Nat) (g k : Nat) : Prop := ∀ b, b < 81 → (K b ≠ ct_av C K g b → k ≤ K b ∧ k ≤ ct_av C K g b) ∧ (p b = 0 → K b = ct_av C K g b ∧ K b ≤ k) ∧ (p b = 1 → K b = 100000)
theorem ct_step {C K p : Nat → Nat} {g k a v : Nat} (h : ct_W C K p g k) (ha : a < 81) (hne : K a ≠ ct_av C K g a) (hmin : ∀ b, b < 81 → K b ≠ ct_av C K g b → min (K a) (ct_av C K g a) ≤ min (K b) (ct_av C K g b)) (hKa : K a ≤ 100000) (hv : v = (if K a ≤ ct_av C K g a then 100000 else ct_av C K g a)) : ∃ p' k', ct_W C (nup K a v) p' g k' ∧ ct_sm p' 81 < ct_sm p 81 := by
  have hav := ct_av_le C K g a
  obtain ⟨g1, g2, g3⟩ := h a ha
  obtain ⟨m1, m2⟩ := g1 hne
  have hK : ∀ x, x ≠ a → K x = nup K a v x := fun x hx => (nup_n _ _ hx).symm
  by_cases hle : K a ≤ ct_av C K g a
  · rw [if_pos hle] at hv
    have hp : 2 ≤ p a := by
      rcases Nat.lt_or_ge (p a) 2 with hp | hp
      · exfalso
        by_cases h0 : p a = 0
        · exact hne (g2 h0).1
        · have := g3 (by omega)
          omega
      · exact hp
    have two := ct_two (C := C) (g := g) (k := K a) hK (Nat.le_refl _) (by rw [nup_s]; omega)
    refine ⟨nup p a 1, K a, fun b hb => ?_, ?_⟩
    · obtain ⟨b1, b2, b3⟩ := h b hb
      have b4 := hmin b hb
      by_cases hba : b = a
      · rw [hba, nup_s, nup_s]
        refine ⟨fun _ => ⟨by omega, ?_⟩, fun h => absurd h (by decide), fun _ => hv⟩
        rcases two a with e | ⟨e1, e2⟩
        · omega
        · omega
      · rw [nup_n _ _ hba, nup_n _ _ hba]
        rcases two b with e | ⟨e1, e2⟩
        · rw [e]
          refine ⟨fun q => ?_, fun q => ?_, b3⟩
          · have := b4 q
            omega
          · obtain ⟨c1, c2⟩ := b2 q
            exact ⟨c1, by omega⟩
        · refine ⟨fun q => ⟨?_, by omega⟩, fun q => ?_, b3⟩
          · by_cases hq : K b = ct_av C K g b
            · omega
            · have := b4 hq
              omega
          · obtain ⟨c1, c2⟩ := b2 q
            omega
    · have := ct_sm_in p (a := a) 1 81 ha
      omega
  · rw [if_neg hle] at hv
    have hp : 1 ≤ p a := by
      rcases Nat.lt_or_ge (p a) 1 with hp | hp
      · exact absurd (g2 (by omega)).1 hne
      · exact hp
    have two := ct_two (C := C) (g := g) (k := ct_av C K g a) hK (by omega) (by rw [nup_s]; omega)
    refine ⟨nup p a 0, ct_av C K g a, fun b hb => ?_, ?_⟩
    · obtain ⟨b1, b2, b3⟩ := h b hb
      have b4 := hmin b hb
      by_cases hba : b = a
      · rw [hba, nup_s, nup_s]
        have e : ct_av C (nup K a v) g a = ct_av C K g a := by
          rcases two a with e | ⟨e1, e2⟩
          · exact e
          · omega
        rw [e]
        exact ⟨fun q => absurd hv q, fun _ => ⟨hv, by omega⟩, fun h => absurd h (by decide)⟩
      · rw [nup_n _ _ hba, nup_n _ _ hba]
        rcases two b with e | ⟨e1, e2⟩
        · rw [e]
          refine ⟨fun q => ?_, fun q => ?_, b3⟩
          · have := b4 q
            omega
          · obtain ⟨c1, c2⟩ := b2 q
            exact ⟨c1, by omega⟩
        · refine ⟨fun q => ⟨?_, by omega⟩, fun q => ?_, b3⟩
          · by_cases hq : K b = ct_av C K g b
            · omega
            · have := b4 hq
              omega
          · obtain ⟨c1, c2⟩ := b2 q
            omega
    · have := ct_sm_in p (a := a) 0 81 ha
      omega
theorem ct_se {g : Nat} {C : Nat → Nat} : ∀ (n : Nat) (K p : Nat → Nat) (k : Nat) (X : cn_St), ct_R g C K (ct_av C K g) X → ct_W C K p g k → ct_sm p 81 < n → ∃ K', ct_R g C K' (ct_av C K' g) (kx_se n X) ∧ ∀ b, b < 81 → K' b = ct_av C K' g b := by
  intro n
  induction n with
  | zero => intro K p k X _ _ h; omega
  | succ n ih =>
    intro K p k X hR hW hs
    rcases ct_fi hR with ⟨h1, h2⟩ | ⟨h1, h2, h3⟩
    · rw [kx_se_f (by omega)]
      exact ⟨K, hR, h2⟩
    · rw [kx_se_t h1]
      obtain ⟨v, v1, v2, v3⟩ := ct_e1 hR h1
      obtain ⟨p', k', w1, w2⟩ := ct_step hW h1 h2 h3 (hR.2 _ h1).2.1.2 v2
      exact ih _ p' k' _ v3 w1 (by omega)
theorem ct_settle {g : Nat} {C K : Nat → Nat} {X : cn_St} (h : ct_R g C K (ct_av C K g) X) : ∃ K', ct_R g C K' (ct_av C K' g) (kx_se 400 X) ∧ ∀ b, b < 81 → K' b = ct_av C K' g b := by
  refine ct_se 400 K (fun _ => 2) 0 X h (fun b hb => ⟨fun _ => ⟨Nat.zero_le _, Nat.zero_le _⟩, fun h => absurd (show (2 : Nat) = 0 from h) (by decide), fun h => absurd (show (2 : Nat) = 1 from h) (by decide)⟩) ?_
  have := ct_sm_c (fun _ => 2) 2 81 (fun _ _ => Nat.le_refl _)
  omega
theorem fr_e1 (a : Nat) (X : cn_St) {f : Nat} (h9 : f ≠ 9) (hA : f ≠ 10) : kx_e1 a X f = X f := by
  rw [kx_e1]
  split
  · rw [fr_aa _ _ hA, fr_ask _ _ hA, up2_o _ _ _ h9]
  · rw [fr_aa _ _ hA, up2_o _ _ _ h9]
theorem fr_se {f : Nat} (h9 : f ≠ 9) (hA : f ≠ 10) : ∀ (n : Nat) (X : cn_St), kx_se n X f = X f := by
  intro n
  induction n with
  | zero => intro X; rfl
  | succ n ih =>
    intro X
    by_cases h : kx_fi X < 81
    · rw [kx_se_t h, ih, fr_e1 _ _ h9 hA]
    · rw [kx_se_f h]
end
section
set_option maxRecDepth 100000
/-! the reference's relaxing comes to the same distances -/
def ct_F (C K : Nat → Nat) (g : Nat) : Prop := ∀ b, b < 81 → K b = ct_av C K g b
theorem ct_F_pred {C K : Nat → Nat} {g : Nat} (h : ct_F C K g) {a : Nat} (ha : a < 81) (hf : K a < 100000) : C a ≠ 0 ∧ ((a = g ∧ K a = 0) ∨ (a ≠ g ∧ ∃ d, d < 4 ∧ kx_mv a d < 81 ∧ C (kx_mv a d) ≠ 0 ∧ K a = K (kx_mv a d) + C (kx_mv a d))) := by
  have h1 := h a ha
  have hc : C a ≠ 0 := fun hc => by
    rw [ct_av_b hc] at h1
    omega
  refine ⟨hc, ?_⟩
  by_cases hg : a = g
  · rw [ct_av_g hc hg] at h1
    exact Or.inl ⟨hg, h1⟩
  · rw [ct_av_n hc hg] at h1
    refine Or.inr ⟨hg, ?_⟩
    obtain ⟨-, -, p3⟩ := ct_lo C K a
    rcases p3 with e | ⟨d, hd, hm, hz, e⟩
    · omega
    · exact ⟨d, hd, hm, hz, by omega⟩
theorem ct_F_le {C K : Nat → Nat} {g : Nat} (h : ct_F C K g) {a : Nat} (ha : a < 81) (hc : C a ≠ 0) {d : Nat} (hd : d < 4) (hm : kx_mv a d < 81) (hz : C (kx_mv a d) ≠ 0) : K a ≤ K (kx_mv a d) + C (kx_mv a d) := by
  have h1 := h a ha
  by_cases hg : a = g
  · rw [ct_av_g hc hg] at h1
    omega
  · rw [ct_av_n hc hg] at h1
    have := (ct_lo C K a).2.1 d hd hm hz
    omega
theorem ct_F_cnt {C K : Nat → Nat} {g : Nat} (h : ct_F C K g) (hC : ∀ a, a < 81 → C a ≤ 37) : ∀ n, n < 100000 → ∀ a, a < 81 → K a = n → n ≤ 37 * ct_sm (fun e => if K e < n then 1 else 0) 81 := by
  intro n
  induction n using Nat.strongRecOn with
  | ind n ih =>
    intro hn a ha hK
    obtain ⟨hc, h1⟩ := ct_F_pred h ha (by omega)
    rcases h1 with ⟨-, h1⟩ | ⟨-, d, hd, hm, hz, h1⟩
    · omega
    · have h2 := ih (K (kx_mv a d)) (by omega) (by omega) (kx_mv a d) hm rfl
      have h3 := ct_sm_lt (fun e => if K e < K (kx_mv a d) then 1 else 0) (fun e => if K e < n then 1 else 0) (a := kx_mv a d) 81 (fun b hb => by
        show (if K b < K (kx_mv a d) then 1 else 0) ≤ (if K b < n then 1 else 0)
        by_cases hb1 : K b < K (kx_mv a d)
        · rw [if_pos hb1, if_pos (show K b < n by omega)]
          exact Nat.le_refl _
        · rw [if_neg hb1]
          exact Nat.zero_le _) hm (by
        show (if K (kx_mv a d) < K (kx_mv a d) then 1 else 0) < (if K (kx_mv a d) < n then 1 else 0)
        rw [if_neg (Nat.lt_irrefl _), if_pos (show K (kx_mv a d) < n by omega)]
        exact Nat.zero_lt_one)
      have h4 := hC _ hm
      omega
theorem ct_F_bd {C K : Nat → Nat} {g : Nat} (h : ct_F C K g) (hC : ∀ a, a < 81 → C a ≤ 37) {a : Nat} (ha : a < 81) (hf : K a < 100000) : K a ≤ 2997 := by
  have h1 := ct_F_cnt h hC (K a) hf a ha rfl
  have h2 := ct_sm_c (fun e => if K e < K a then 1 else 0) 1 81 (fun b _ => by
    show (if K b < K a then 1 else 0) ≤ 1
    split
    · exact Nat.le_refl _
    · exact Nat.zero_le _)
  omega
def ct_T (k : Nat) : Nat := if k < 100000 then k else 1000000
theorem ct_T_f {k : Nat} (h : k < 100000) : ct_T k = k := if_pos h
theorem ct_T_i {k : Nat} (h : ¬ k < 100000) : ct_T k = 1000000 := if_neg h
theorem ct_T_le (k : Nat) : ct_T k ≤ 1000000 := by
  by_cases h : k < 100000
  · rw [ct_T_f h]
    omega
  · rw [ct_T_i h]
    exact Nat.le_refl _
theorem ct_T_fin {k : Nat} (h : ct_T k < 1000000) : k < 100000 := by
  by_cases h1 : k < 100000
  · exact h1
  · rw [ct_T_i h1] at h
    omega
def ct_B (C E : Nat → Nat) (Y : cn_St) : Prop := ∀ a, a < 81 → ((Y 0 a = 0 ↔ C a ≠ 0) ∧ (C a ≠ 0 → Y 5 a = nI (C a)) ∧ C a ≤ 37) ∧ (Y 6 a = nI (E a) ∧ E a ≤ 1000000)
theorem ct_B_congr {C E E' : Nat → Nat} {Y : cn_St} (h : ct_B C E Y) (hE : ∀ a, a < 81 → E a = E' a) : ct_B C E' Y := fun a ha => by
  rw [← hE a ha]
  exact h a ha
theorem nup_id (f : Nat → Nat) (a : Nat) : nup f a (f a) = f := by
  funext b
  by_cases h : b = a
  · rw [h, nup_s]
  · rw [nup_n _ _ h]
/-- the laws of the right distances, as relaxing needs them -/
def ct_H (C T : Nat → Nat) : Prop := ∀ a, a < 81 → C a ≠ 0 → ∀ d, d < 4 → kx_mv a d < 81 → T (kx_mv a d) < 1000000 → C (kx_mv a d) ≠ 0 ∧ T a ≤ T (kx_mv a d) + C (kx_mv a d)
theorem ct_rl {C E T : Nat → Nat} {Y : cn_St} {a : Nat} (hH : ct_H C T) (hB : ct_B C E Y) (ha : a < 81) (hc : C a ≠ 0) (hT : ∀ b, b < 81 → T b ≤ E b) : ∃ e, ct_B C (nup E a e) (km_rx a Y).2 ∧ T a ≤ e ∧ e ≤ E a ∧ (∀ d, d < 4 → kx_mv a d < 81 → E (kx_mv a d) < 1000000 → e ≤ E (kx_mv a d) + C (kx_mv a d)) ∧ ((km_rx a Y).1 = 0 → e = E a) :=
  lp_inv (f := km_x1 a) (N := 4) (a := ((0, Y) : Int32 × cn_St)) (fun n q => ∃ e, ct_B C (nup E a e) q.2 ∧ T a ≤ e ∧ e ≤ E a ∧ (∀ d, d < n → kx_mv a d < 81 → E (kx_mv a d) < 1000000 → e ≤ E (kx_mv a d) + C (kx_mv a d)) ∧ (q.1 = 0 → e = E a)) ⟨E a, by rw [nup_id]; exact hB, hT a ha, Nat.le_refl _, fun d hd => absurd hd (Nat.not_lt_zero d), fun _ => rfl⟩ (fun n q hn hq => by
    obtain ⟨e, q1, q2, q3, q4, q5⟩ := hq
    have same : (kx_mv a n < 81 → E (kx_mv a n) < 1000000 → e ≤ E (kx_mv a n) + C (kx_mv a n)) → ∃ e, ct_B C (nup E a e) q.2 ∧ T a ≤ e ∧ e ≤ E a ∧ (∀ d, d < n + 1 → kx_mv a d < 81 → E (kx_mv a d) < 1000000 → e ≤ E (kx_mv a d) + C (kx_mv a d)) ∧ (q.1 = 0 → e = E a) := fun w => by
      refine ⟨e, q1, q2, q3, fun d hd hm hf => ?_, q5⟩
      by_cases hdn : d = n
      · rw [hdn] at hm hf ⊢
        exact w hm hf
      · exact q4 d (by omega) hm hf
    by_cases hm : kx_mv a n < 81
    · have hne := mv_ne a ha n hn
      obtain ⟨⟨t1, t2, t3⟩, t4, t5⟩ := q1 _ hm
      rw [nup_n _ _ hne] at t4 t5
      obtain ⟨-, a4, a5⟩ := q1 a ha
      rw [nup_s] at a4 a5
      by_cases hf : E (kx_mv a n) < 1000000
      · have hTt := hT _ hm
        obtain ⟨z1, z2⟩ := hH a ha hc n hn hm (by omega)
        have hnf : ¬ (1000000 : Int32) ≤ q.2 6 (kx_mv a n) := by
          rw [t4]
          exact nI_ge (b := 1000000) hf (by decide)
        have t2 := t2 z1
        by_cases hle : e ≤ E (kx_mv a n) + C (kx_mv a n)
        · have e1 : km_x1 a n q = q := by
            rw [km_x1, if_pos hm, if_neg hnf, a4, t4, t2, nI_add, if_pos (nI_le hle (by omega))]
          rw [e1]
          exact same (fun _ _ => hle)
        · have e1 : km_x1 a n q = (1, up2 q.2 6 a (nI (E (kx_mv a n) + C (kx_mv a n)))) := by
            rw [km_x1, if_pos hm, if_neg hnf, a4, t4, t2, nI_add, if_neg (nI_ge (by omega) (by omega))]
          rw [e1]
          refine ⟨E (kx_mv a n) + C (kx_mv a n), fun b hb => ?_, by omega, by omega, fun d hd hm2 hf2 => ?_, fun h => absurd (show (1 : Int32) = 0 from h) (by decide)⟩
          · show ((up2 q.2 6 a (nI (E (kx_mv a n) + C (kx_mv a n))) 0 b = 0 ↔ C b ≠ 0) ∧ (C b ≠ 0 → up2 q.2 6 a (nI (E (kx_mv a n) + C (kx_mv a n))) 5 b = nI (C b)) ∧ C b ≤ 37) ∧ (up2 q.2 6 a (nI (E (kx_mv a n) + C (kx_mv a n))) 6 b = nI (nup E a (E (kx_mv a n) + C (kx_mv a n)) b) ∧ nup E a (E (kx_mv a n) + C (kx_mv a n)) b ≤ 1000000)
            rw [up2_o _ _ _ (show (0 : Nat) ≠ 6 by decide), up2_o _ _ _ (show (5 : Nat) ≠ 6 by decide)]
            obtain ⟨b1, b2⟩ := q1 b hb
            refine ⟨b1, ?_⟩
            by_cases hba : b = a
            · rw [hba, up2_s, nup_s]
              exact ⟨rfl, by omega⟩
            · rw [up2_n _ _ _ hba, nup_n _ _ hba]
              rw [nup_n _ _ hba] at b2
              exact b2
          · by_cases hdn : d = n
            · rw [hdn]
              exact Nat.le_refl _
            · have := q4 d (by omega) hm2 hf2
              omega
      · have e1 : km_x1 a n q = q := by
          rw [km_x1, if_pos hm, if_pos]
          rw [t4]
          exact nI_le (a := 1000000) (by omega) (by omega)
        rw [e1]
        exact same (fun _ h => absurd h hf)
    · have e1 : km_x1 a n q = q := by rw [km_x1, if_neg hm]
      rw [e1]
      exact same (fun h => absurd h hm))
theorem ct_rd {C E T : Nat → Nat} {Y : cn_St} (hH : ct_H C T) (hB : ct_B C E Y) (hT : ∀ b, b < 81 → T b ≤ E b) : ∃ E', ct_B C E' (km_rd Y).2 ∧ (∀ b, b < 81 → T b ≤ E' b ∧ E' b ≤ E b) ∧ ((km_rd Y).1 = 0 → ∀ b, b < 81 → E' b = E b) ∧ ∀ b, b < 81 → C b ≠ 0 → ∀ d, d < 4 → kx_mv b d < 81 → E (kx_mv b d) = T (kx_mv b d) → T (kx_mv b d) < 1000000 → E' b ≤ T (kx_mv b d) + C (kx_mv b d) :=
  lp_inv (f := km_k1) (N := 81) (a := ((0, Y) : Int32 × cn_St)) (fun n q => ∃ E', ct_B C E' q.2 ∧ (∀ b, b < 81 → T b ≤ E' b ∧ E' b ≤ E b) ∧ (q.1 = 0 → ∀ b, b < 81 → E' b = E b) ∧ ∀ b, b < n → C b ≠ 0 → ∀ d, d < 4 → kx_mv b d < 81 → E (kx_mv b d) = T (kx_mv b d) → T (kx_mv b d) < 1000000 → E' b ≤ T (kx_mv b d) + C (kx_mv b d)) ⟨E, hB, fun b hb => ⟨hT b hb, Nat.le_refl _⟩, fun _ _ _ => rfl, fun b hb => absurd hb (Nat.not_lt_zero b)⟩ (fun n q hn hq => by
    obtain ⟨E', q1, q2, q3, q4⟩ := hq
    by_cases hc : C n = 0
    · have e1 : km_k1 n q = q := by rw [km_k1, if_neg (fun h => (q1 n hn).1.1.mp h hc)]
      rw [e1]
      refine ⟨E', q1, q2, q3, fun b hb hcb => ?_⟩
      by_cases hbn : b = n
      · rw [hbn] at hcb
        exact absurd hc hcb
      · exact q4 b (by omega) hcb
    · obtain ⟨e, r1, r2, r3, r4, r5⟩ := ct_rl hH q1 hn hc (fun b hb => (q2 b hb).1)
      have e1 : (km_k1 n q).2 = (km_rx n q.2).2 ∧ ((km_k1 n q).1 = 0 → q.1 = 0 ∧ (km_rx n q.2).1 = 0) := by
        rw [km_k1, if_pos ((q1 n hn).1.1.mpr hc)]
        by_cases hx : (km_rx n q.2).1 = 0
        · rw [if_pos hx]
          exact ⟨rfl, fun h => ⟨h, hx⟩⟩
        · rw [if_neg hx]
          exact ⟨rfl, fun h => absurd (show (1 : Int32) = 0 from h) (by decide)⟩
      refine ⟨nup E' n e, by rw [e1.1]; exact r1, fun b hb => ?_, fun hz b hb => ?_, fun b hb hcb d hd hm hE hf => ?_⟩
      · obtain ⟨b1, b2⟩ := q2 b hb
        by_cases hbn : b = n
        · rw [hbn, nup_s]
          rw [hbn] at b1 b2
          omega
        · rw [nup_n _ _ hbn]
          exact ⟨b1, b2⟩
      · obtain ⟨z1, z2⟩ := e1.2 hz
        by_cases hbn : b = n
        · rw [hbn, nup_s, r5 z2]
          exact q3 z1 n hn
        · rw [nup_n _ _ hbn]
          exact q3 z1 b hb
      · by_cases hbn : b = n
        · rw [hbn] at hm hE hf ⊢
          rw [nup_s]
          obtain ⟨m1, m2⟩ := q2 _ hm
          have := r4 d hd hm (by omega)
          omega
        · rw [nup_n _ _ hbn]
          exact q4 b (by omega) hcb d hd hm hE hf)
/-- each right distance but the goal's rests on a smaller one -/
def ct_G (C T : Nat → Nat) (g : Nat) : Prop := ∀ a, a < 81 → T a < 1000000 → a ≠ g → C a ≠ 0 ∧ ∃ d, d < 4 ∧ kx_mv a d < 81 ∧ T (kx_mv a d) < T a ∧ T a = T (kx_mv a d) + C (kx_mv a d)
theorem ct_prog {C E E' T : Nat → Nat} {g : Nat} (hG : ct_G C T g) (hEg : E g = T g) (hE : ∀ b, b < 81 → T b ≤ E b ∧ E b ≤ 1000000) (h1 : ∀ b, b < 81 → T b ≤ E' b ∧ E' b ≤ E b) (h2 : ∀ b, b < 81 → C b ≠ 0 → ∀ d, d < 4 → kx_mv b d < 81 → E (kx_mv b d) = T (kx_mv b d) → T (kx_mv b d) < 1000000 → E' b ≤ T (kx_mv b d) + C (kx_mv b d)) : ∀ m a, a < 81 → T a = m → E a ≠ T a → ∃ b, b < 81 ∧ E b ≠ T b ∧ E' b = T b := by
  intro m
  induction m using Nat.strongRecOn with
  | ind m ih =>
    intro a ha hm hne
    obtain ⟨e1, e2⟩ := hE a ha
    have hag : a ≠ g := fun h => hne (by rw [h]; exact hEg)
    obtain ⟨hc, d, hd, hmv, ht, hs⟩ := hG a ha (by omega) hag
    by_cases hb : E (kx_mv a d) = T (kx_mv a d)
    · have h3 := h2 a ha hc d hd hmv hb (by omega)
      have h4 := h1 a ha
      exact ⟨a, ha, hne, by omega⟩
    · exact ih (T (kx_mv a d)) (by omega) (kx_mv a d) hmv rfl hb
theorem ct_fl {C T : Nat → Nat} {g : Nat} (hH : ct_H C T) (hG : ct_G C T g) (hg : g < 81) : ∀ (n : Nat) (b : Int32) (E : Nat → Nat) (Y : cn_St), ct_B C E Y → (∀ b, b < 81 → T b ≤ E b) → E g = T g → (b = 0 → ∀ a, a < 81 → E a = T a) → ct_sm (fun a => if E a = T a then 0 else 1) 81 ≤ n → ct_B C T (km_fl n b Y) := by
  intro n
  induction n with
  | zero =>
    intro b E Y hB hT hEg hb hs
    refine ct_B_congr hB (fun a ha => ?_)
    have h1 := ct_sm_0 (fun a => if E a = T a then 0 else 1) 81 (by omega) a ha
    by_cases he : E a = T a
    · exact he
    · have h2 : (if E a = T a then 0 else 1) = 0 := h1
      rw [if_neg he] at h2
      omega
  | succ n ih =>
    intro b E Y hB hT hEg hb hs
    by_cases h0 : b = 0
    · rw [km_fl_t h0]
      exact ct_B_congr hB (hb h0)
    · rw [km_fl_f h0]
      obtain ⟨E', r1, r2, r3, r4⟩ := ct_rd hH hB hT
      have prog := ct_prog hG hEg (fun b hb => ⟨hT b hb, (hB b hb).2.2⟩) r2 r4
      refine ih _ E' _ r1 (fun b hb => (r2 b hb).1) (by have := r2 g hg; omega) (fun hz a ha => ?_) ?_
      · by_cases he : E a = T a
        · rw [r3 hz a ha]
          exact he
        · exfalso
          obtain ⟨c, c1, c2, c3⟩ := prog _ a ha rfl he
          exact c2 (by rw [← r3 hz c c1]; exact c3)
      · by_cases hbad : ∃ a, a < 81 ∧ E a ≠ T a
        · obtain ⟨a, ha, hne⟩ := hbad
          obtain ⟨c, c1, c2, c3⟩ := prog _ a ha rfl hne
          have h1 := ct_sm_lt (fun a => if E' a = T a then 0 else 1) (fun a => if E a = T a then 0 else 1) (a := c) 81 (fun x hx => by
            show (if E' x = T x then 0 else 1) ≤ (if E x = T x then 0 else 1)
            have h2 := r2 x hx
            by_cases he : E x = T x
            · rw [if_pos he, if_pos (show E' x = T x by omega)]
              exact Nat.le_refl _
            · rw [if_neg he]
              split
              · exact Nat.zero_le _
              · exact Nat.le_refl _) c1 (by
            show (if E' c = T c then 0 else 1) < (if E c = T c then 0 else 1)
            rw [if_pos c3, if_neg c2]
            exact Nat.zero_lt_one)
          omega
        · have h1 := ct_sm_c (fun a => if E' a = T a then 0 else 1) 0 81 (fun x hx => by
            show (if E' x = T x then 0 else 1) ≤ 0
            have h2 := r2 x hx
            have h3 : E x = T x := by
              by_cases he : E x = T x
              · exact he
              · exact absurd ⟨x, hx, he⟩ hbad
            rw [if_pos (show E' x = T x by omega)]
            exact Nat.le_refl _)
          omega
theorem cl_congr {Y Y' : cn_St} (h0 : Y' 0 = Y 0) (a : Nat) : km_cl Y' a = km_cl Y a := by
  have e : km_l1 Y' a = km_l1 Y a := by
    funext d b
    rw [km_l1, km_l1, h0]
  rw [km_cl, km_cl, e]
theorem coM_congr {Y Y' : cn_St} (h0 : Y' 0 = Y 0) (h3 : Y' 3 = Y 3) (h4 : Y' 4 = Y 4) (a : Nat) : km_co Y' a = km_co Y a := by rw [km_co, km_co, cl_congr h0, h0, h3, h4]
theorem ct_d1 (Y : cn_St) : (∀ f, f ≠ 5 → f ≠ 6 → kx_lp km_d1 81 Y f = Y f) ∧ ∀ a, a < 81 → kx_lp km_d1 81 Y 5 a = km_co Y a ∧ kx_lp km_d1 81 Y 6 a = if nI a = Y 2 0 then (if Y 0 a = 0 then 0 else 1000000) else 1000000 :=
  lp_inv (f := km_d1) (N := 81) (a := Y) (fun n Z => (∀ f, f ≠ 5 → f ≠ 6 → Z f = Y f) ∧ ∀ a, a < n → Z 5 a = km_co Y a ∧ Z 6 a = if nI a = Y 2 0 then (if Y 0 a = 0 then 0 else 1000000) else 1000000) ⟨fun _ _ _ => rfl, fun a ha => absurd ha (Nat.not_lt_zero a)⟩ (fun n Z hn q => by
    obtain ⟨q1, q2⟩ := q
    refine ⟨fun f h5 h6 => ?_, fun a ha => ?_⟩
    · rw [km_d1, up2_o _ _ _ h6, up2_o _ _ _ h5]
      exact q1 f h5 h6
    · rw [km_d1, up2_o _ _ _ (show (5 : Nat) ≠ 6 by decide)]
      by_cases han : a = n
      · rw [han, up2_s, up2_s, coM_congr (q1 0 (by decide) (by decide)) (q1 3 (by decide) (by decide)) (q1 4 (by decide) (by decide)), q1 0 (by decide) (by decide), q1 2 (by decide) (by decide)]
        exact ⟨rfl, rfl⟩
      · rw [up2_n _ _ _ han, up2_n _ _ _ han, up2_o _ _ _ (show (6 : Nat) ≠ 5 by decide)]
        exact q2 a (by omega))
theorem fr_x1 (a d : Nat) (q : Int32 × cn_St) {f : Nat} (h6 : f ≠ 6) : (km_x1 a d q).2 f = q.2 f := by
  rw [km_x1]
  split
  · split
    · rfl
    · split
      · rfl
      · exact up2_o _ _ _ h6
  · rfl
theorem fr_rx (a : Nat) (Y : cn_St) {f : Nat} (h6 : f ≠ 6) : (km_rx a Y).2 f = Y f :=
  lp_inv (f := km_x1 a) (N := 4) (a := ((0, Y) : Int32 × cn_St)) (fun _ q => q.2 f = Y f) rfl (fun n q _ h => (fr_x1 a n q h6).trans h)
theorem fr_k1 (a : Nat) (q : Int32 × cn_St) {f : Nat} (h6 : f ≠ 6) : (km_k1 a q).2 f = q.2 f := by
  rw [km_k1]
  split
  · split
    · exact fr_rx _ _ h6
    · exact fr_rx _ _ h6
  · rfl
theorem fr_rd (Y : cn_St) {f : Nat} (h6 : f ≠ 6) : (km_rd Y).2 f = Y f := by
  have key := lp_inv (f := km_k1) (N := 81) (a := ((0, Y) : Int32 × cn_St)) (fun _ q => q.2 f = Y f) rfl (fun n q _ h => (fr_k1 n q h6).trans h)
  rw [km_rd]
  exact key
theorem fr_fl {f : Nat} (h6 : f ≠ 6) : ∀ (n : Nat) (b : Int32) (Y : cn_St), km_fl n b Y f = Y f := by
  intro n
  induction n with
  | zero => intro b Y; rfl
  | succ n ih =>
    intro b Y
    by_cases h : b = 0
    · rw [km_fl_t h]
    · rw [km_fl_f h, ih, fr_rd _ h6]
theorem fr_fd (Y : cn_St) {f : Nat} (h5 : f ≠ 5) (h6 : f ≠ 6) : km_fd Y f = Y f := by
  rw [km_fd, fr_fl h6]
  exact (ct_d1 Y).1 f h5 h6
theorem ct_fd {C K : Nat → Nat} {g : Nat} {Y : cn_St} (hF : ct_F C K g) (hg : g < 81) (h2 : Y 2 0 = nI g) (hY : ∀ a, a < 81 → (Y 0 a = 0 ↔ C a ≠ 0) ∧ (C a ≠ 0 → km_co Y a = nI (C a)) ∧ C a ≤ 37) : ct_B C (fun a => ct_T (K a)) (km_fd Y) := by
  have hC : ∀ a, a < 81 → C a ≤ 37 := fun a ha => (hY a ha).2.2
  have hH : ct_H C (fun a => ct_T (K a)) := fun a ha hc d hd hm hf => by
    have hf : ct_T (K (kx_mv a d)) < 1000000 := hf
    show C (kx_mv a d) ≠ 0 ∧ ct_T (K a) ≤ ct_T (K (kx_mv a d)) + C (kx_mv a d)
    have h1 := ct_T_fin hf
    have hz := (ct_F_pred hF hm h1).1
    have h3 := ct_F_bd hF hC hm h1
    have h4 := ct_F_le hF ha hc hd hm hz
    have h5 := hC _ hm
    refine ⟨hz, ?_⟩
    rw [ct_T_f h1, ct_T_f (show K a < 100000 by omega)]
    exact h4
  have hG : ct_G C (fun a => ct_T (K a)) g := fun a ha hf hag => by
    have hf : ct_T (K a) < 1000000 := hf
    have h1 := ct_T_fin hf
    obtain ⟨hc, h3⟩ := ct_F_pred hF ha h1
    refine ⟨hc, ?_⟩
    rcases h3 with ⟨h3, -⟩ | ⟨-, d, hd, hm, hz, h3⟩
    · exact absurd h3 hag
    · refine ⟨d, hd, hm, ?_⟩
      show ct_T (K (kx_mv a d)) < ct_T (K a) ∧ ct_T (K a) = ct_T (K (kx_mv a d)) + C (kx_mv a d)
      rw [ct_T_f h1, ct_T_f (show K (kx_mv a d) < 100000 by omega)]
      exact ⟨by omega, h3⟩
  obtain ⟨d0, d1⟩ := ct_d1 Y
  have hTg : C g ≠ 0 → K g = 0 := fun hc => by
    have := hF g hg
    rw [ct_av_g hc rfl] at this
    exact this
  have hTb : C g = 0 → ct_T (K g) = 1000000 := fun hc => by
    have := hF g hg
    rw [ct_av_b hc] at this
    rw [this]
    rfl
  have hB : ct_B C (fun a => if a = g then (if C a = 0 then 1000000 else 0) else 1000000) (kx_lp km_d1 81 Y) := fun a ha => by
    obtain ⟨y1, y2, y3⟩ := hY a ha
    obtain ⟨e5, e6⟩ := d1 a ha
    rw [d0 0 (by decide) (by decide), e5, e6, h2]
    refine ⟨⟨y1, y2, y3⟩, ?_⟩
    show _ = nI (if a = g then (if C a = 0 then 1000000 else 0) else 1000000) ∧ (if a = g then (if C a = 0 then 1000000 else 0) else 1000000) ≤ 1000000
    by_cases hag : a = g
    · rw [if_pos hag, if_pos (by rw [hag])]
      by_cases hc : C a = 0
      · rw [if_pos hc, if_neg (fun h => y1.mp h hc)]
        exact ⟨rfl, Nat.le_refl _⟩
      · rw [if_neg hc, if_pos (y1.mpr hc)]
        exact ⟨rfl, Nat.zero_le _⟩
    · rw [if_neg hag, if_neg (fun h => hag ((nI_eq (by omega) (by omega)).mp h))]
      exact ⟨rfl, Nat.le_refl _⟩
  rw [km_fd]
  refine ct_fl hH hG hg 81 1 _ _ hB (fun a ha => ?_) ?_ (fun h => absurd h (by decide)) ?_
  · show ct_T (K a) ≤ (if a = g then (if C a = 0 then 1000000 else 0) else 1000000)
    by_cases hag : a = g
    · rw [if_pos hag]
      by_cases hc : C a = 0
      · rw [if_pos hc]
        exact ct_T_le _
      · rw [if_neg hc]
        rw [hag] at hc ⊢
        rw [hTg hc]
        exact Nat.le_refl _
    · rw [if_neg hag]
      exact ct_T_le _
  · show (if g = g then (if C g = 0 then 1000000 else 0) else 1000000) = ct_T (K g)
    rw [if_pos rfl]
    by_cases hc : C g = 0
    · rw [if_pos hc, hTb hc]
    · rw [if_neg hc, hTg hc]
      rfl
  · have := ct_sm_c (fun a => if (if a = g then (if C a = 0 then 1000000 else 0) else 1000000) = ct_T (K a) then 0 else 1) 1 81 (fun b _ => by
      show (if (if b = g then (if C b = 0 then 1000000 else 0) else 1000000) = ct_T (K b) then 0 else 1) ≤ 1
      by_cases hb : (if b = g then (if C b = 0 then 1000000 else 0) else 1000000) = ct_T (K b)
      · rw [if_pos hb]
        exact Nat.zero_le _
      · rw [if_neg hb]
        exact Nat.le_refl _)
    exact this
end
section
set_option maxRecDepth 100000
/-! the coupling of the two sides -/
def cn_P (X Y : cn_St) : Prop := (∀ a, a < 81 → X 0 a = Y 0 a) ∧ (X 1 0 = Y 3 0 ∧ X 2 0 = Y 4 0 ∧ X 3 0 = Y 1 0 ∧ X 4 0 = Y 2 0) ∧ ((∃ r, r ≤ 3 ∧ X 1 0 = nI r) ∧ (∃ q, q ≤ 9 ∧ X 2 0 = nI q) ∧ (∃ r, r < 81 ∧ X 3 0 = nI r)) ∧ ct_C X
def cn_H (X Y : cn_St) : Prop := cn_P X Y ∧ ∃ g C K, ct_R g C K (ct_av C K g) X
def cn_Inv (X Y : cn_St) : Prop := cn_P X Y ∧ ∃ g C K, ct_R g C K (ct_av C K g) X ∧ ∀ a, a < 81 → kx_co X a = ct_c (C a)
theorem cn_Inv_H {X Y : cn_St} (h : cn_Inv X Y) : cn_H X Y := by
  obtain ⟨h1, g, C, K, h2, -⟩ := h
  exact ⟨h1, g, C, K, h2⟩
theorem ct_C_fr {X X' : cn_St} (h : ct_C X) (h0 : X' 0 = X 0) (h5 : X' 5 = X 5) (h6 : X' 6 = X 6) (h7 : X' 7 = X 7) : ct_C X' := by
  obtain ⟨D, N, hI, hz, hP⟩ := h
  refine ⟨D, N, fun a ha => ?_, fun a ha => ?_, fun b hb hn hb7 => ?_⟩
  · rw [h0, h5, h6, h7]
    exact hI a ha
  · rw [h7]
    exact hz a ha
  · rw [h7] at hb7
    exact hP b hb hn hb7
theorem cn_P_x {X X' Y : cn_St} (h : cn_P X Y) (hf : ∀ f, f < 8 → X' f = X f) : cn_P X' Y := by
  obtain ⟨h1, h2, h3, h4⟩ := h
  refine ⟨?_, ?_, ?_, ct_C_fr h4 (hf 0 (by decide)) (hf 5 (by decide)) (hf 6 (by decide)) (hf 7 (by decide))⟩
  · rw [hf 0 (by decide)]
    exact h1
  · rw [hf 1 (by decide), hf 2 (by decide), hf 3 (by decide), hf 4 (by decide)]
    exact h2
  · rw [hf 1 (by decide), hf 2 (by decide), hf 3 (by decide)]
    exact h3
theorem cn_P_y {X Y Y' : cn_St} (h : cn_P X Y) (hf : ∀ f, f < 5 → Y' f = Y f) : cn_P X Y' := by
  obtain ⟨h1, h2, h3, h4⟩ := h
  refine ⟨?_, ?_, h3, h4⟩
  · rw [hf 0 (by decide)]
    exact h1
  · rw [hf 1 (by decide), hf 2 (by decide), hf 3 (by decide), hf 4 (by decide)]
    exact h2
/-- the cost of a cell, on both sides -/
theorem co_val {X Y : cn_St} (h : cn_P X Y) {a : Nat} (ha : a < 81) : ∃ n, n ≤ 37 ∧ kx_co X a = ct_c n ∧ (Y 0 a = 0 ↔ n ≠ 0) ∧ (n ≠ 0 → km_co Y a = nI n) ∧ (n = 0 → km_co Y a = -4) := by
  obtain ⟨h1, ⟨e1, e2, -, -⟩, ⟨⟨r, hr, r1⟩, ⟨q, hq, q1⟩, -⟩, hC⟩ := h
  obtain ⟨d, hd, d1, d2⟩ := ct_cl hC h1 ha
  have r2 : Y 3 0 = nI r := by rw [← e1]; exact r1
  have q2 : Y 4 0 = nI q := by rw [← e2]; exact q1
  have h0 := h1 a ha
  by_cases hb : Y 0 a = 0
  · have hx : X 0 a = 0 := by rw [h0]; exact hb
    by_cases hle : d ≤ r
    · have hm := Nat.mul_le_mul hq (show r + 1 - d ≤ 4 by omega)
      have hv : (1 : Int32) + nI q * (nI r + 1 - nI d) = nI (1 + q * (r + 1 - d)) := by
        rw [nI_1, pk_sub (show d ≤ r + 1 by omega), pk_mul]
        exact nI_add 1 (q * (r + 1 - d))
      have hn : 1 + q * (r + 1 - d) ≠ 0 := by omega
      refine ⟨1 + q * (r + 1 - d), by omega, ?_, ⟨fun _ => hn, fun _ => hb⟩, fun _ => ?_, fun z => absurd z hn⟩
      · rw [kx_co, if_pos hx, d1, r1, q1, if_pos (nI_le hle (by omega)), hv, ct_c_p hn]
      · rw [km_co, if_pos hb, d2, r2, q2, if_pos (nI_le hle (by omega)), hv]
    · refine ⟨1, by decide, ?_, ⟨fun _ => by decide, fun _ => hb⟩, fun _ => ?_, fun z => absurd z (by decide)⟩
      · rw [kx_co, if_pos hx, d1, r1, if_neg (nI_ge (by omega) (by omega))]
        rfl
      · rw [km_co, if_pos hb, d2, r2, if_neg (nI_ge (by omega) (by omega))]
        rfl
  · have hx : ¬ X 0 a = 0 := by rw [h0]; exact hb
    refine ⟨0, by decide, ?_, ⟨fun z => absurd z hb, fun z => absurd rfl z⟩, fun z => absurd rfl z, fun _ => ?_⟩
    · rw [kx_co, if_neg hx]
      rfl
    · rw [km_co, if_neg hb]
theorem pp_rc {X Y : cn_St} (h : cn_H X Y) : cn_Inv (kx_rc X) Y := by
  obtain ⟨hP, g, C, K, hR⟩ := h
  have hM : ∀ b, ∃ n, b < 81 → n ≤ 37 ∧ kx_co X b = ct_c n := fun b => by
    by_cases hb : b < 81
    · obtain ⟨n, n1, n2, -⟩ := co_val hP hb
      exact ⟨n, fun _ => ⟨n1, n2⟩⟩
    · exact ⟨0, fun z => absurd z hb⟩
  obtain ⟨M, hM⟩ := Classical.skolem.mp hM
  obtain ⟨C', r1, r2⟩ := ct_rc hR hM
  have fr : ∀ f, f < 8 → kx_rc X f = X f := fun f hf => fr_rc X (by omega) (by omega)
  refine ⟨cn_P_x hP fr, g, C', K, r1, fun a ha => ?_⟩
  rw [co_congr (fr 0 (by decide)) (fr 1 (by decide)) (fr 2 (by decide)) (fr 5 (by decide)), r2 a ha]
  exact (hM a ha).2
theorem pp_ch {X Y : cn_St} (h : cn_H X Y) {a : Nat} (ha : a < 81) (on : Int32) : cn_H (kx_ch a on X) (up2 Y 0 a on) := by
  obtain ⟨⟨h1, h2, h3, h4⟩, g, C, K, hR⟩ := h
  have fr : ∀ f, f ≠ 0 → f ≠ 5 → f ≠ 6 → f ≠ 7 → kx_ch a on X f = X f := fun f f0 f5 f6 f7 => by rw [fr_ch a on X f5 f6 f7, up2_o _ _ _ f0]
  have f0 : kx_ch a on X 0 = up2 X 0 a on 0 := fr_ch a on X (by decide) (by decide) (by decide)
  refine ⟨⟨fun b hb => ?_, ?_, ?_, ct_ch ha on h4⟩, g, C, K, ct_R_fr hR (fr 4 (by decide) (by decide) (by decide) (by decide)) (fr 8 (by decide) (by decide) (by decide) (by decide)) (fr 9 (by decide) (by decide) (by decide) (by decide)) (fr 10 (by decide) (by decide) (by decide) (by decide))⟩
  · rw [f0]
    by_cases hba : b = a
    · rw [hba, up2_s, up2_s]
    · rw [up2_n _ _ _ hba, up2_n _ _ _ hba]
      exact h1 b hb
  · rw [fr 1 (by decide) (by decide) (by decide) (by decide), fr 2 (by decide) (by decide) (by decide) (by decide), fr 3 (by decide) (by decide) (by decide) (by decide), fr 4 (by decide) (by decide) (by decide) (by decide), up2_o _ _ _ (show (3 : Nat) ≠ 0 by decide), up2_o _ _ _ (show (4 : Nat) ≠ 0 by decide), up2_o _ _ _ (show (1 : Nat) ≠ 0 by decide), up2_o _ _ _ (show (2 : Nat) ≠ 0 by decide)]
    exact h2
  · rw [fr 1 (by decide) (by decide) (by decide) (by decide), fr 2 (by decide) (by decide) (by decide) (by decide), fr 3 (by decide) (by decide) (by decide) (by decide)]
    exact h3
theorem pp_same {X Y : cn_St} (h : cn_H X Y) {a : Nat} (ha : a < 81) {on : Int32} (ho : X 0 a = on) : cn_H X (up2 Y 0 a on) := by
  obtain ⟨⟨h1, h2, h3, h4⟩, hR⟩ := h
  refine ⟨⟨fun b hb => ?_, ?_, h3, h4⟩, hR⟩
  · by_cases hba : b = a
    · rw [hba, up2_s]
      exact ho
    · rw [up2_n _ _ _ hba]
      exact h1 b hb
  · rw [up2_o _ _ _ (show (3 : Nat) ≠ 0 by decide), up2_o _ _ _ (show (4 : Nat) ≠ 0 by decide), up2_o _ _ _ (show (1 : Nat) ≠ 0 by decide), up2_o _ _ _ (show (2 : Nat) ≠ 0 by decide)]
    exact h2
theorem ic_t {c : Int32} (h : kx_bad c = 0) : ¬ km_ic c = 0 := by
  rw [km_ic_bad, if_pos h]
  decide
theorem ic_f {c : Int32} (h : ¬ kx_bad c = 0) : km_ic c = 0 := by rw [km_ic_bad, if_neg h]
theorem pp_block {X Y : cn_St} (h : cn_Inv X Y) (c on : Int32) : (kx_blk c on X).1 = (km_blk c on Y).1 ∧ cn_Inv (kx_blk c on X).2 (km_blk c on Y).2 := by
  by_cases hb : kx_bad c = 0
  · obtain ⟨a, ha, rfl⟩ := kx_bad_0 hb
    rw [kx_blk, if_pos hb, km_blk, if_neg (ic_t hb), nI_clamp (show a < 2 ^ 31 by omega)]
    dsimp only
    refine ⟨?_, pp_rc ?_⟩
    · rw [h.1.1 a ha]
    · generalize (if on = 0 then (0 : Int32) else 1) = o
      by_cases ho : X 0 a = o
      · rw [kx_put, if_pos ho]
        dsimp only
        exact pp_same (cn_Inv_H h) ha ho
      · rw [kx_put, if_neg ho]
        dsimp only
        exact pp_ch (cn_Inv_H h) ha o
  · rw [kx_blk, if_neg hb, km_blk, if_pos (ic_f hb)]
    exact ⟨rfl, h⟩
def ct_lf {α : Type} (f : Nat → α → α) : Nat → Nat → α → α
  | _, 0, q => q
  | i, n + 1, q => ct_lf f (i + 1) n (f i q)
theorem ct_lf_n {α : Type} (f : Nat → α → α) (i n : Nat) (q : α) : ct_lf f i (n + 1) q = ct_lf f (i + 1) n (f i q) := rfl
theorem ct_lf_s {α : Type} (f : Nat → α → α) : ∀ (n i : Nat) (q : α), ct_lf f i (n + 1) q = f (i + n) (ct_lf f i n q) := by
  intro n
  induction n with
  | zero => intro i q; rfl
  | succ n ih =>
    intro i q
    rw [ct_lf_n, ih, ct_lf_n, show i + 1 + n = i + (n + 1) by omega]
theorem ct_lf_lp {α : Type} (f : Nat → α → α) (q : α) : ∀ n, kx_lp f n q = ct_lf f 0 n q := by
  intro n
  induction n with
  | zero => rfl
  | succ n ih => rw [kx_lp_s, ih, ct_lf_s, Nat.zero_add]
theorem wc_0 (down : Int32) {a : Nat} (ha : a < 81) : km_wc down a 0 = a := by
  by_cases hd : down = 0
  · rw [km_wc, if_pos hd, if_pos (by omega)]
    omega
  · rw [km_wc, if_neg hd, if_pos (by omega)]
    omega
theorem wc_s {down : Int32} {a i : Nat} (ha : a < 81) (h : km_wc down a i < 81) : kx_mv (km_wc down a i) (if down = 0 then 1 else 2) = km_wc down a (i + 1) := by
  by_cases hd : down = 0
  · simp only [km_wc, if_pos hd] at h ⊢
    by_cases h9 : a % 9 + i < 9
    · rw [if_pos h9, kx_mv, if_neg (by decide), if_pos rfl]
      by_cases h8 : a % 9 + (i + 1) < 9
      · rw [if_pos h8, if_neg (by omega)]
        omega
      · rw [if_neg h8, if_pos (by omega)]
    · rw [if_neg h9] at h
      omega
  · simp only [km_wc, if_neg hd] at h ⊢
    by_cases h9 : a / 9 + i < 9
    · rw [if_pos h9, kx_mv, if_neg (by decide), if_neg (by decide), if_pos rfl]
      by_cases h8 : a / 9 + (i + 1) < 9
      · rw [if_pos h8, if_neg (by omega)]
        omega
      · rw [if_neg h8, if_pos (by omega)]
    · rw [if_neg h9] at h
      omega
theorem wc_o {down : Int32} {a i : Nat} (ha : a < 81) (h : ¬ km_wc down a i < 81) : ¬ km_wc down a (i + 1) < 81 := by
  by_cases hd : down = 0
  · simp only [km_wc, if_pos hd] at h ⊢
    by_cases h9 : a % 9 + i < 9
    · rw [if_pos h9] at h
      omega
    · rw [if_neg (show ¬ a % 9 + (i + 1) < 9 by omega)]
      omega
  · simp only [km_wc, if_neg hd] at h ⊢
    by_cases h9 : a / 9 + i < 9
    · rw [if_pos h9] at h
      omega
    · rw [if_neg (show ¬ a / 9 + (i + 1) < 9 by omega)]
      omega
theorem w1_o {on down : Int32} {a : Nat} (ha : a < 81) : ∀ (n i : Nat) (q : Int32 × cn_St), ¬ km_wc down a i < 81 → ct_lf (km_w1 on down a) i n q = q := by
  intro n
  induction n with
  | zero => intro i q _; rfl
  | succ n ih =>
    intro i q h
    rw [ct_lf_n, km_w1, if_neg h]
    exact ih (i + 1) q (wc_o ha h)
theorem pp_wl {on down : Int32} {a : Nat} (ha : a < 81) : ∀ (n i : Nat) (X : cn_St) (q : Int32 × cn_St), cn_H X q.2 → (kx_wl on (if down = 0 then 1 else 2) n (km_wc down a i) q.1 X).1 = (ct_lf (km_w1 on down a) i n q).1 ∧ cn_H (kx_wl on (if down = 0 then 1 else 2) n (km_wc down a i) q.1 X).2 (ct_lf (km_w1 on down a) i n q).2 := by
  intro n
  induction n with
  | zero => intro i X q h; exact ⟨rfl, h⟩
  | succ n ih =>
    intro i X q h
    by_cases hw : km_wc down a i < 81
    · rw [kx_wl, if_pos hw, wc_s ha hw, ct_lf_n]
      have h0 := h.1.1 _ hw
      by_cases ho : X 0 (km_wc down a i) = on
      · have e : km_w1 on down a i q = q := by rw [km_w1, if_pos hw, if_pos (by rw [← h0]; exact ho)]
        rw [kx_put, if_pos ho, e]
        dsimp only
        rw [Int32.add_zero]
        exact ih (i + 1) X q h
      · have e : km_w1 on down a i q = (q.1 + 1, up2 q.2 0 (km_wc down a i) on) := by rw [km_w1, if_pos hw, if_neg (by rw [← h0]; exact ho)]
        rw [kx_put, if_neg ho, e]
        have hh : cn_H (kx_ch (km_wc down a i) on X) ((q.1 + 1, up2 q.2 0 (km_wc down a i) on) : Int32 × cn_St).2 := by
          dsimp only
          exact pp_ch h hw on
        have k := ih (i + 1) (kx_ch (km_wc down a i) on X) (q.1 + 1, up2 q.2 0 (km_wc down a i) on) hh
        dsimp only at k ⊢
        exact k
    · rw [kx_wl, if_neg hw, w1_o ha (n + 1) i q hw]
      exact ⟨rfl, h⟩
theorem pp_wall {X Y : cn_St} (h : cn_Inv X Y) (c d n : Int32) : (kx_wall c d n X).1 = (km_wall c d n Y).1 ∧ cn_Inv (kx_wall c d n X).2 (km_wall c d n Y).2 := by
  by_cases hb : kx_bad c = 0
  · obtain ⟨a, ha, rfl⟩ := kx_bad_0 hb
    rw [kx_wall, if_pos hb, km_wall, if_neg (ic_t hb), nI_clamp (show a < 2 ^ 31 by omega)]
    by_cases h1 : n < -9
    · rw [if_pos h1, if_pos h1]
      exact ⟨rfl, h⟩
    · rw [if_neg h1, if_neg h1]
      by_cases h2 : n ≤ 9
      · rw [if_pos h2, if_pos h2, ct_lf_lp]
        have hh : cn_H X ((0, Y) : Int32 × cn_St).2 := by
          dsimp only
          exact cn_Inv_H h
        have key := pp_wl (on := if n ≤ 0 then 0 else 1) (down := d) ha (if 0 ≤ n then n else -n).toNatClampNeg 0 X (0, Y) hh
        rw [wc_0 d ha] at key
        dsimp only at key ⊢
        exact ⟨key.1, pp_rc key.2⟩
      · rw [if_neg h2, if_neg h2]
        exact ⟨rfl, h⟩
  · rw [kx_wall, if_neg hb, km_wall, if_pos (ic_f hb)]
    exact ⟨rfl, h⟩
theorem pp_tune {X Y : cn_St} (h : cn_Inv X Y) (r g : Int32) : (kx_tune r g X).1 = (km_tune r g Y).1 ∧ cn_Inv (kx_tune r g X).2 (km_tune r g Y).2 := by
  rw [kx_tune, km_tune]
  by_cases h1 : r < 0
  · rw [if_pos h1, if_pos h1]
    exact ⟨rfl, h⟩
  · rw [if_neg h1, if_neg h1]
    by_cases h2 : 3 < r
    · rw [if_pos h2, if_pos h2]
      exact ⟨rfl, h⟩
    · rw [if_neg h2, if_neg h2]
      by_cases h3 : g < 0
      · rw [if_pos h3, if_pos h3]
        exact ⟨rfl, h⟩
      · rw [if_neg h3, if_neg h3]
        by_cases h4 : g ≤ 9
        · rw [if_pos h4, if_pos h4]
          dsimp only
          refine ⟨rfl, pp_rc ?_⟩
          obtain ⟨⟨p1, ⟨p2, p3, p4, p5⟩, ⟨-, -, p6⟩, p7⟩, g0, C, K, hR, -⟩ := h
          obtain ⟨rn, hr, hr2⟩ := nI_of2 (M := 3) (n := 3) (by decide) h1 (Int32.not_lt.mp h2)
          obtain ⟨gn, hg, hg2⟩ := nI_of2 (M := 9) (n := 9) (by decide) h3 h4
          have xo : ∀ f, f ≠ 1 → f ≠ 2 → up2 (up2 X 1 0 r) 2 0 g f = X f := fun f f1 f2 => by rw [up2_o _ _ _ f2, up2_o _ _ _ f1]
          have yo : ∀ f, f ≠ 3 → f ≠ 4 → up2 (up2 Y 3 0 r) 4 0 g f = Y f := fun f f1 f2 => by rw [up2_o _ _ _ f2, up2_o _ _ _ f1]
          have x1 : up2 (up2 X 1 0 r) 2 0 g 1 0 = r := by rw [up2_o _ _ _ (by decide), up2_s]
          have x2 : up2 (up2 X 1 0 r) 2 0 g 2 0 = g := up2_s _ _ _ _
          have y3 : up2 (up2 Y 3 0 r) 4 0 g 3 0 = r := by rw [up2_o _ _ _ (by decide), up2_s]
          have y4 : up2 (up2 Y 3 0 r) 4 0 g 4 0 = g := up2_s _ _ _ _
          refine ⟨⟨?_, ?_, ?_, ct_C_fr p7 (xo 0 (by decide) (by decide)) (xo 5 (by decide) (by decide)) (xo 6 (by decide) (by decide)) (xo 7 (by decide) (by decide))⟩, g0, C, K, ct_R_fr hR (xo 4 (by decide) (by decide)) (xo 8 (by decide) (by decide)) (xo 9 (by decide) (by decide)) (xo 10 (by decide) (by decide))⟩
          · show ∀ a, a < 81 → up2 (up2 X 1 0 r) 2 0 g 0 a = up2 (up2 Y 3 0 r) 4 0 g 0 a
            rw [xo 0 (by decide) (by decide), yo 0 (by decide) (by decide)]
            exact p1
          · show up2 (up2 X 1 0 r) 2 0 g 1 0 = up2 (up2 Y 3 0 r) 4 0 g 3 0 ∧ up2 (up2 X 1 0 r) 2 0 g 2 0 = up2 (up2 Y 3 0 r) 4 0 g 4 0 ∧ up2 (up2 X 1 0 r) 2 0 g 3 0 = up2 (up2 Y 3 0 r) 4 0 g 1 0 ∧ up2 (up2 X 1 0 r) 2 0 g 4 0 = up2 (up2 Y 3 0 r) 4 0 g 2 0
            rw [x1, x2, y3, y4, xo 3 (by decide) (by decide), xo 4 (by decide) (by decide), yo 1 (by decide) (by decide), yo 2 (by decide) (by decide)]
            exact ⟨rfl, rfl, p4, p5⟩
          · rw [x1, x2, xo 3 (by decide) (by decide)]
            exact ⟨⟨rn, hr, hr2⟩, ⟨gn, hg, hg2⟩, p6⟩
        · rw [if_neg h4, if_neg h4]
          exact ⟨rfl, h⟩
/-- the robot is elsewhere -/
theorem inv_rob {X Y : cn_St} (h : cn_Inv X Y) {t : Nat} (ht : t < 81) : cn_Inv (up2 X 3 0 (nI t)) (up2 Y 1 0 (nI t)) := by
  obtain ⟨⟨p1, ⟨p2, p3, p4, p5⟩, ⟨p6, p7, -⟩, p8⟩, g0, C, K, hR, hco⟩ := h
  have xo : ∀ f, f ≠ 3 → up2 X 3 0 (nI t) f = X f := fun f f1 => up2_o _ _ _ f1
  have yo : ∀ f, f ≠ 1 → up2 Y 1 0 (nI t) f = Y f := fun f f1 => up2_o _ _ _ f1
  refine ⟨⟨?_, ?_, ?_, ct_C_fr p8 (xo 0 (by decide)) (xo 5 (by decide)) (xo 6 (by decide)) (xo 7 (by decide))⟩, g0, C, K, ct_R_fr hR (xo 4 (by decide)) (xo 8 (by decide)) (xo 9 (by decide)) (xo 10 (by decide)), fun a ha => ?_⟩
  · rw [xo 0 (by decide), yo 0 (by decide)]
    exact p1
  · rw [up2_s, up2_s, xo 1 (by decide), xo 2 (by decide), xo 4 (by decide), yo 2 (by decide), yo 3 (by decide), yo 4 (by decide)]
    exact ⟨p2, p3, rfl, p5⟩
  · rw [up2_s, xo 1 (by decide), xo 2 (by decide)]
    exact ⟨p6, p7, t, ht, rfl⟩
  · rw [co_congr (xo 0 (by decide)) (xo 1 (by decide)) (xo 2 (by decide)) (xo 5 (by decide))]
    exact hco a ha
theorem pp_place {X Y : cn_St} (h : cn_Inv X Y) (c : Int32) : (kx_plc c X).1 = (km_plc c Y).1 ∧ cn_Inv (kx_plc c X).2 (km_plc c Y).2 := by
  by_cases hb : kx_bad c = 0
  · obtain ⟨a, ha, rfl⟩ := kx_bad_0 hb
    rw [kx_plc, if_pos hb, km_plc, if_neg (ic_t hb)]
    exact ⟨h.1.2.1.2.2.1, inv_rob h ha⟩
  · rw [kx_plc, if_neg hb, km_plc, if_pos (ic_f hb)]
    exact ⟨rfl, h⟩
theorem pp_goal {X Y : cn_St} (h : cn_Inv X Y) (c : Int32) : ∃ g : Nat, g < 81 ∧ X 4 0 = nI g ∧ (kx_goal c g X).1 = (km_goal c Y).1 ∧ cn_Inv (kx_goal c g X).2 (km_goal c Y).2 := by
  obtain ⟨⟨p1, ⟨p2, p3, p4, p5⟩, p6, p8⟩, g, C, K, hR, hco⟩ := h
  refine ⟨g, hR.1.1, hR.1.2, ?_⟩
  by_cases hb : kx_bad c = 0
  · obtain ⟨a, ha, rfl⟩ := kx_bad_0 hb
    rw [kx_goal, if_pos hb, km_goal, if_neg (ic_t hb), nI_clamp (show a < 2 ^ 31 by omega)]
    have hR' := ct_goal ha hR
    obtain ⟨Z, hZ⟩ : ∃ Z, Z = kx_ask a (kx_ask g (up2 X 4 0 (nI a))) := ⟨_, rfl⟩
    rw [← hZ] at hR' ⊢
    have xo : ∀ f, f ≠ 4 → f ≠ 10 → Z f = X f := fun f f1 f2 => by rw [hZ, fr_ask _ _ f2, fr_ask _ _ f2, up2_o _ _ _ f1]
    have yo : ∀ f, f ≠ 2 → up2 Y 2 0 (nI a) f = Y f := fun f f1 => up2_o _ _ _ f1
    refine ⟨by rw [← hR.1.2]; exact p5, ?_⟩
    show cn_Inv Z (up2 Y 2 0 (nI a))
    refine ⟨⟨?_, ?_, ?_, ct_C_fr p8 (xo 0 (by decide) (by decide)) (xo 5 (by decide) (by decide)) (xo 6 (by decide) (by decide)) (xo 7 (by decide) (by decide))⟩, a, C, K, hR', fun b hb => ?_⟩
    · rw [xo 0 (by decide) (by decide), yo 0 (by decide)]
      exact p1
    · rw [hR'.1.2, up2_s, xo 1 (by decide) (by decide), xo 2 (by decide) (by decide), xo 3 (by decide) (by decide), yo 1 (by decide), yo 3 (by decide), yo 4 (by decide)]
      exact ⟨p2, p3, p4, rfl⟩
    · rw [xo 1 (by decide) (by decide), xo 2 (by decide) (by decide), xo 3 (by decide) (by decide)]
      exact p6
    · rw [co_congr (xo 0 (by decide) (by decide)) (xo 1 (by decide) (by decide)) (xo 2 (by decide) (by decide)) (xo 5 (by decide) (by decide))]
      exact hco b hb
  · rw [kx_goal, if_neg hb, km_goal, if_pos (ic_f hb)]
    exact ⟨rfl, ⟨p1, ⟨p2, p3, p4, p5⟩, p6, p8⟩, g, C, K, hR, hco⟩
theorem pp_blocked {X Y : cn_St} (h : cn_Inv X Y) (c : Int32) : kx_bld c X = km_bld c Y := by
  by_cases hb : kx_bad c = 0
  · obtain ⟨a, ha, rfl⟩ := kx_bad_0 hb
    rw [kx_bld, if_pos hb, km_bld, if_neg (ic_t hb), nI_clamp (show a < 2 ^ 31 by omega), h.1.1 a ha]
  · rw [kx_bld, if_neg hb, km_bld, if_pos (ic_f hb)]
theorem pp_clear {X Y : cn_St} (h : cn_Inv X Y) (c : Int32) : kx_clr c X = km_clr c Y := by
  by_cases hb : kx_bad c = 0
  · obtain ⟨a, ha, rfl⟩ := kx_bad_0 hb
    rw [kx_clr, if_pos hb, km_clr, if_neg (ic_t hb), nI_clamp (show a < 2 ^ 31 by omega)]
    obtain ⟨d, -, d1, d2⟩ := ct_cl h.1.2.2.2 h.1.1 ha
    rw [d1, d2]
  · rw [kx_clr, if_neg hb, km_clr, if_pos (ic_f hb)]
/-- the cost that is entered is the reference's -/
theorem co_ent {X Y : cn_St} {g : Nat} {C K U : Nat → Nat} (hP : cn_P X Y) (hR : ct_R g C K U X) (hco : ∀ a, a < 81 → kx_co X a = ct_c (C a)) {a : Nat} (ha : a < 81) : (Y 0 a = 0 ↔ C a ≠ 0) ∧ (C a ≠ 0 → km_co Y a = nI (C a)) ∧ (C a = 0 → km_co Y a = -4) := by
  obtain ⟨n, n1, n2, n3, n4, n5⟩ := co_val hP ha
  have e : n = C a := ct_c_inj n1 (hR.2 a ha).1.2 (by rw [← n2]; exact hco a ha)
  rw [← e]
  exact ⟨n3, n4, n5⟩
theorem pp_cost {X Y : cn_St} (h : cn_Inv X Y) (c : Int32) : kx_cst c X = km_cst c Y := by
  by_cases hb : kx_bad c = 0
  · obtain ⟨a, ha, rfl⟩ := kx_bad_0 hb
    rw [kx_cst, if_pos hb, km_cst, if_neg (ic_t hb), nI_clamp (show a < 2 ^ 31 by omega)]
    obtain ⟨hP, g, C, K, hR, hco⟩ := h
    obtain ⟨-, n4, n5⟩ := co_ent hP hR hco ha
    obtain ⟨⟨a1, a2⟩, -⟩ := hR.2 a ha
    rw [a1]
    by_cases hc : C a = 0
    · rw [n5 hc, hc, ct_c_0, if_neg (by decide)]
    · rw [n4 hc, ct_c_p hc, if_pos (nI_pos' (by omega))]
  · rw [kx_cst, if_neg hb, km_cst, if_pos (ic_f hb)]
theorem pp_where {X Y : cn_St} (h : cn_Inv X Y) : X 3 0 = Y 1 0 := h.1.2.1.2.2.1
theorem i1_all : (∀ f, f ≠ 5 → f ≠ 6 → f ≠ 8 → f ≠ 9 → f ≠ 10 → kx_lp kx_i1 81 kx_iz f = kx_iz f) ∧ ∀ a, a < 81 → kx_lp kx_i1 81 kx_iz 5 a = 9 ∧ kx_lp kx_i1 81 kx_iz 6 a = -1 ∧ kx_lp kx_i1 81 kx_iz 8 a = 1 ∧ kx_lp kx_i1 81 kx_iz 9 a = 100000 ∧ kx_lp kx_i1 81 kx_iz 10 a = 100000 :=
  lp_inv (f := kx_i1) (N := 81) (a := kx_iz) (fun n Z => (∀ f, f ≠ 5 → f ≠ 6 → f ≠ 8 → f ≠ 9 → f ≠ 10 → Z f = kx_iz f) ∧ ∀ a, a < n → Z 5 a = 9 ∧ Z 6 a = -1 ∧ Z 8 a = 1 ∧ Z 9 a = 100000 ∧ Z 10 a = 100000) ⟨fun _ _ _ _ _ _ => rfl, fun a ha => absurd ha (Nat.not_lt_zero a)⟩ (fun n Z hn q => by
    obtain ⟨q1, q2⟩ := q
    refine ⟨fun f f5 f6 f8 f9 fA => ?_, fun a ha => ?_⟩
    · rw [kx_i1, up2_o _ _ _ fA, up2_o _ _ _ f9, up2_o _ _ _ f8, up2_o _ _ _ f6, up2_o _ _ _ f5]
      exact q1 f f5 f6 f8 f9 fA
    · by_cases han : a = n
      · rw [han, kx_i1]
        simp [up2, upd]
      · rw [kx_i1]
        simp [up2, upd, han]
        exact q2 a (by omega))
theorem pp_init : cn_Inv kx_i0 km_i0 := by
  obtain ⟨i1, i2⟩ := i1_all
  have x0 : ∀ a, kx_i0 0 a = 0 := fun a => by
    rw [kx_i0, up2_o _ _ _ (by decide), i1 0 (by decide) (by decide) (by decide) (by decide) (by decide)]
    rfl
  have xp : ∀ f, f ≠ 5 → f ≠ 6 → f ≠ 8 → f ≠ 9 → f ≠ 10 → kx_i0 f = kx_iz f := fun f f5 f6 f8 f9 fA => by
    rw [kx_i0, up2_o _ _ _ fA]
    exact i1 f f5 f6 f8 f9 fA
  have x1 : kx_i0 1 0 = 1 := by rw [xp 1 (by decide) (by decide) (by decide) (by decide) (by decide)]; rfl
  have x2 : kx_i0 2 0 = 3 := by rw [xp 2 (by decide) (by decide) (by decide) (by decide) (by decide)]; rfl
  have x3 : kx_i0 3 0 = 0 := by rw [xp 3 (by decide) (by decide) (by decide) (by decide) (by decide)]; rfl
  have x4 : kx_i0 4 0 = 80 := by rw [xp 4 (by decide) (by decide) (by decide) (by decide) (by decide)]; rfl
  have x7 : ∀ a, kx_i0 7 a = 0 := fun a => by rw [xp 7 (by decide) (by decide) (by decide) (by decide) (by decide)]; rfl
  have x5 : ∀ a, a < 81 → kx_i0 5 a = 9 := fun a ha => by rw [kx_i0, up2_o _ _ _ (by decide)]; exact (i2 a ha).1
  have x6 : ∀ a, a < 81 → kx_i0 6 a = -1 := fun a ha => by rw [kx_i0, up2_o _ _ _ (by decide)]; exact (i2 a ha).2.1
  have x8 : ∀ a, a < 81 → kx_i0 8 a = 1 := fun a ha => by rw [kx_i0, up2_o _ _ _ (by decide)]; exact (i2 a ha).2.2.1
  have x9 : ∀ a, a < 81 → kx_i0 9 a = 100000 := fun a ha => by rw [kx_i0, up2_o _ _ _ (by decide)]; exact (i2 a ha).2.2.2.1
  have xA : ∀ a, a < 81 → kx_i0 10 a = if a = 80 then 0 else 100000 := fun a ha => by
    rw [kx_i0]
    by_cases h : a = 80
    · rw [h, up2_s, if_pos rfl]
    · rw [up2_n _ _ _ h, if_neg h]
      exact (i2 a ha).2.2.2.2
  have hav : ∀ a, ct_av (fun _ => 1) (fun _ => 100000) 80 a = if a = 80 then 0 else 100000 := fun a => by
    by_cases h : a = 80
    · rw [ct_av_g (show (1 : Nat) ≠ 0 by decide) h, if_pos h]
    · rw [ct_av_n (show (1 : Nat) ≠ 0 by decide) h, if_neg h]
      obtain ⟨p1, p2, p3⟩ := ct_lo (fun _ => 1) (fun _ => 100000) a
      rcases p3 with e | ⟨d, hd, hm, hz, e⟩
      · exact e
      · have e : kx_lp (ct_s1 (fun _ => 1) (fun _ => 100000) a) 4 100000 = 100000 + 1 := e
        omega
  refine ⟨⟨fun a ha => ?_, ⟨?_, ?_, ?_, ?_⟩, ⟨⟨1, by decide, ?_⟩, ⟨3, by decide, ?_⟩, ⟨0, by decide, ?_⟩⟩, ⟨fun _ => 9, fun _ => 81, fun a ha => ?_, fun a _ => x7 a, fun b hb hn hb7 k hk hk2 => ?_⟩⟩, 80, fun _ => 1, fun _ => 100000, ⟨⟨by decide, ?_⟩, fun a ha => ?_⟩, fun a ha => ?_⟩
  · rw [x0]
    rfl
  · rw [x1]
    rfl
  · rw [x2]
    rfl
  · rw [x3]
    rfl
  · rw [x4]
    rfl
  · rw [x1]
    rfl
  · rw [x2]
    rfl
  · rw [x3]
    rfl
  · rw [x5 a ha, x6 a ha, x0, x7]
    exact ⟨⟨rfl, rfl⟩, ⟨Nat.le_refl _, Nat.le_refl _⟩, fun h => absurd h (Nat.lt_irrefl _), fun _ => rfl, fun h => absurd rfl h, fun h => absurd rfl h⟩
  · show 9 ≤ 9 + 1
    decide
  · rw [x4]
    rfl
  · rw [x8 a ha, x9 a ha, xA a ha, hav a]
    refine ⟨⟨rfl, show (1 : Nat) ≤ 37 by decide⟩, ⟨rfl, Nat.le_refl _⟩, ?_⟩
    by_cases h : a = 80
    · rw [if_pos h, if_pos h]
      exact ⟨rfl, by decide⟩
    · rw [if_neg h, if_neg h]
      exact ⟨rfl, Nat.le_refl _⟩
  · rw [kx_co, if_pos (x0 a), x5 a ha, x1, if_neg (by decide)]
    rfl
end
section
set_option maxRecDepth 100000
/-! settled distances, and what is answered out of them -/
def cn_S (g : Nat) (C K : Nat → Nat) (X Y : cn_St) : Prop := (g < 81 ∧ X 4 0 = nI g ∧ Y 2 0 = nI g) ∧ (∀ a, a < 81 → (X 8 a = ct_c (C a) ∧ C a ≤ 37) ∧ (X 9 a = nI (K a) ∧ K a ≤ 100000)) ∧ ct_B C (fun a => ct_T (K a)) Y ∧ ct_F C K g
theorem pp_core {X Y : cn_St} (h : cn_Inv X Y) : ∃ g C K, cn_S g C K (kx_se 400 X) (km_fd Y) ∧ cn_Inv (kx_se 400 X) (km_fd Y) := by
  obtain ⟨hP, g, C, K, hR, hco⟩ := h
  obtain ⟨K', hR', hF⟩ := ct_settle hR
  have h2 : Y 2 0 = nI g := by rw [← hP.2.1.2.2.2]; exact hR.1.2
  have hB := ct_fd (Y := Y) hF hR.1.1 h2 (fun a ha => by
    obtain ⟨c1, c2, -⟩ := co_ent hP hR hco ha
    exact ⟨c1, c2, (hR.2 a ha).1.2⟩)
  have xo : ∀ f, f ≠ 9 → f ≠ 10 → kx_se 400 X f = X f := fun f f1 f2 => fr_se f1 f2 400 X
  have yo : ∀ f, f ≠ 5 → f ≠ 6 → km_fd Y f = Y f := fun f f1 f2 => fr_fd Y f1 f2
  refine ⟨g, C, K', ⟨⟨hR.1.1, hR'.1.2, ?_⟩, fun a ha => ⟨(hR'.2 a ha).1, (hR'.2 a ha).2.1⟩, hB, hF⟩, cn_P_y (cn_P_x hP (fun f hf => xo f (by omega) (by omega))) (fun f hf => yo f (by omega) (by omega)), g, C, K', hR', fun a ha => ?_⟩
  · rw [yo 2 (by decide) (by decide)]
    exact h2
  · rw [co_congr (xo 0 (by decide) (by decide)) (xo 1 (by decide) (by decide)) (xo 2 (by decide) (by decide)) (xo 5 (by decide) (by decide))]
    exact hco a ha
theorem pp_rob {X Y : cn_St} (h : cn_Inv X Y) : ∃ r, r < 81 ∧ X 3 0 = nI r ∧ Y 1 0 = nI r := by
  obtain ⟨⟨-, ⟨-, -, p4, -⟩, ⟨-, -, r, hr, r1⟩, -⟩, -⟩ := h
  exact ⟨r, hr, r1, by rw [← p4]; exact r1⟩
theorem S_x {g : Nat} {C K : Nat → Nat} {X Y : cn_St} (h : cn_S g C K X Y) {a : Nat} (ha : a < 81) : X 9 a = nI (K a) ∧ K a ≤ 100000 := (h.2.1 a ha).2
theorem S_y {g : Nat} {C K : Nat → Nat} {X Y : cn_St} (h : cn_S g C K X Y) {a : Nat} (ha : a < 81) : Y 6 a = nI (ct_T (K a)) := (h.2.2.1 a ha).2.1
theorem S_fx {g : Nat} {C K : Nat → Nat} {X Y : cn_St} (h : cn_S g C K X Y) {a : Nat} (ha : a < 81) : X 9 a < 100000 ↔ K a < 100000 := by
  obtain ⟨h1, h2⟩ := S_x h ha
  rw [h1]
  exact nI_ltI (b := 100000) (by omega) (by decide)
theorem S_fy {g : Nat} {C K : Nat → Nat} {X Y : cn_St} (h : cn_S g C K X Y) {a : Nat} (ha : a < 81) : Y 6 a = 1000000 ↔ ¬ K a < 100000 := by
  rw [S_y h ha]
  have h1 : nI (ct_T (K a)) = nI 1000000 ↔ ct_T (K a) = 1000000 := nI_eq (by have := ct_T_le (K a); omega) (by decide)
  refine h1.trans ?_
  by_cases hf : K a < 100000
  · rw [ct_T_f hf]
    exact ⟨fun e => by omega, fun e => absurd hf e⟩
  · rw [ct_T_i hf]
    exact ⟨fun _ => hf, fun _ => rfl⟩
theorem S_fz {g : Nat} {C K : Nat → Nat} {X Y : cn_St} (h : cn_S g C K X Y) {a : Nat} (ha : a < 81) : 1000000 ≤ Y 6 a ↔ ¬ K a < 100000 := by
  rw [S_y h ha]
  have h1 : nI 1000000 ≤ nI (ct_T (K a)) ↔ 1000000 ≤ ct_T (K a) := nI_leI (by decide) (by have := ct_T_le (K a); omega)
  refine h1.trans ?_
  by_cases hf : K a < 100000
  · rw [ct_T_f hf]
    exact ⟨fun e => by omega, fun e => absurd hf e⟩
  · rw [ct_T_i hf]
    exact ⟨fun _ => hf, fun _ => Nat.le_refl _⟩
theorem S_ans {g : Nat} {C K : Nat → Nat} {X Y : cn_St} (h : cn_S g C K X Y) {a : Nat} (ha : a < 81) : kx_ans (X 9 a) = if Y 6 a = 1000000 then -4 else Y 6 a := by
  by_cases hf : K a < 100000
  · rw [kx_ans, if_pos ((S_fx h ha).mpr hf), if_neg (fun e => (S_fy h ha).mp e hf), (S_x h ha).1, S_y h ha, ct_T_f hf]
  · rw [kx_ans, if_neg (fun e => hf ((S_fx h ha).mp e)), if_pos ((S_fy h ha).mpr hf)]
theorem dfr_in {a : Nat} (ha : a < 81) (Y : cn_St) : km_dfr (nI a) Y = (if km_fd Y 6 a = 1000000 then -4 else km_fd Y 6 a, km_fd Y) := by
  rw [km_dfr, if_neg (ic_t (kx_bad_in ha)), nI_clamp (show a < 2 ^ 31 by omega)]
theorem pp_dist {X Y : cn_St} (h : cn_Inv X Y) : ∃ r : Nat, r < 81 ∧ kx_se 400 X 3 0 = nI r ∧ kx_ans (kx_se 400 X 9 r) = (km_dfr (Y 1 0) Y).1 ∧ cn_Inv (kx_se 400 X) (km_dfr (Y 1 0) Y).2 := by
  obtain ⟨g, C, K, hS, hI⟩ := pp_core h
  obtain ⟨r, hr, r1, r2⟩ := pp_rob hI
  have r3 : Y 1 0 = nI r := by rw [← r2, fr_fd Y (by decide) (by decide)]
  rw [r3, dfr_in hr]
  dsimp only
  exact ⟨r, hr, r1, S_ans hS hr, hI⟩
theorem pp_distF {X Y : cn_St} (h : cn_Inv X Y) (c : Int32) : (kx_dfr c X).1 = (km_dfr c Y).1 ∧ cn_Inv (kx_dfr c X).2 (km_dfr c Y).2 := by
  by_cases hb : kx_bad c = 0
  · obtain ⟨a, ha, rfl⟩ := kx_bad_0 hb
    obtain ⟨g, C, K, hS, hI⟩ := pp_core h
    rw [kx_dfr, if_pos hb, dfr_in ha, nI_clamp (show a < 2 ^ 31 by omega)]
    dsimp only
    exact ⟨S_ans hS ha, hI⟩
  · rw [kx_dfr, if_neg hb, km_dfr, if_pos (ic_f hb)]
    exact ⟨rfl, h⟩
theorem nlM_g {Y : cn_St} {a : Nat} (h : nI a = Y 2 0) : ∀ n d, km_nl Y a n d = 4 := by
  intro n
  induction n with
  | zero => intro d; rfl
  | succ n ih =>
    intro d
    rw [km_nl, if_pos h]
    exact ih _
theorem nlM_f {Y : cn_St} {a : Nat} (hg : ¬ nI a = Y 2 0) (h : 1000000 ≤ Y 6 a) : ∀ n d, km_nl Y a n d = 4 := by
  intro n
  induction n with
  | zero => intro d; rfl
  | succ n ih =>
    intro d
    rw [km_nl, if_neg hg, if_pos h, ih]
    split
    · rfl
    · rfl
theorem S_nl {g : Nat} {C K : Nat → Nat} {X Y : cn_St} (h : cn_S g C K X Y) {a : Nat} (ha : a < 81) (hg : a ≠ g) (hf : K a < 100000) : ∀ n d, km_nl Y a n d = kx_nl X a n d := by
  obtain ⟨⟨hg81, x4, y2⟩, hx, hy, -⟩ := id h
  have hng : ¬ nI a = Y 2 0 := by
    rw [y2]
    exact fun e => hg ((nI_eq (by omega) (by omega)).mp e)
  intro n
  induction n with
  | zero => intro d; rfl
  | succ n ih =>
    intro d
    rw [km_nl, if_neg hng, kx_nl, if_neg (fun e => (S_fz h ha).mp e hf), ih]
    by_cases hm : kx_mv a d < 81
    · rw [if_pos hm, if_pos hm]
      obtain ⟨⟨t1, t2⟩, t3, t4⟩ := hx _ hm
      obtain ⟨⟨s1, s2, s3⟩, s4, s5⟩ := hy _ hm
      by_cases hz : C (kx_mv a d) = 0
      · have h8 : X 8 (kx_mv a d) < 0 := by
          rw [t1]
          exact (ct_c_neg t2).mpr hz
        rw [if_neg (fun e => s1.mp e hz), if_pos h8]
      · have h8 : ¬ X 8 (kx_mv a d) < 0 := by
          rw [t1]
          exact fun q => hz ((ct_c_neg t2).mp q)
        rw [if_pos (s1.mpr hz), if_neg h8, s2 hz, S_y h hm, S_y h ha, t1, t3, (S_x h ha).1, ct_c_p hz, nI_add, nI_add, ct_T_f hf]
        by_cases hft : K (kx_mv a d) < 100000
        · rw [ct_T_f hft]
        · rw [ct_T_i hft, if_neg, if_neg]
          · exact fun e => by have := (nI_eq (by omega) (by omega)).mp e; omega
          · exact fun e => by have := (nI_eq (by omega) (by omega)).mp e; omega
    · rw [if_neg hm, if_neg hm]
theorem S_nx {g : Nat} {C K : Nat → Nat} {X Y : cn_St} (h : cn_S g C K X Y) {a : Nat} (ha : a < 81) : km_nx Y a = kx_nx X a := by
  have x4 := h.1.2.1
  have y2 := h.1.2.2
  have g81 := h.1.1
  by_cases hg : a = g
  · rw [km_nx, nlM_g (by rw [y2, hg]), kx_nx, if_pos (by rw [x4, hg])]
  · have hn : ¬ nI a = nI g := fun e => hg ((nI_eq (by omega) (by omega)).mp e)
    by_cases hf : K a < 100000
    · rw [km_nx, S_nl h ha hg hf, kx_nx, if_neg (by rw [x4]; exact hn), if_pos ((S_fx h ha).mpr hf)]
    · rw [km_nx, nlM_f (by rw [y2]; exact hn) ((S_fz h ha).mpr hf), kx_nx, if_neg (by rw [x4]; exact hn), if_neg (fun e => hf ((S_fx h ha).mp e))]
theorem pp_next {X Y : cn_St} (h : cn_Inv X Y) : ∃ r : Nat, r < 81 ∧ kx_se 400 X 3 0 = nI r ∧ km_fd Y 1 0 = nI r ∧ kx_oD (kx_nx (kx_se 400 X) r) = kx_oD (km_nx (km_fd Y) r) ∧ cn_Inv (kx_se 400 X) (km_fd Y) := by
  obtain ⟨g, C, K, hS, hI⟩ := pp_core h
  obtain ⟨r, hr, r1, r2⟩ := pp_rob hI
  exact ⟨r, hr, r1, r2, by rw [S_nx hS hr], hI⟩
theorem drM_o {Y : cn_St} {r : Nat} (h : ¬ km_nx Y r < 4) (n ch : Int32) : ∀ k i, km_dr n k i r ch Y = (ch, Y) := by
  intro k
  induction k with
  | zero => intro i; rfl
  | succ k ih =>
    intro i
    by_cases h1 : n ≤ nI i
    · rw [km_dr, if_pos h1]
    · rw [km_dr, if_neg h1, if_neg h]
      exact ih _
theorem S_rob {g : Nat} {C K : Nat → Nat} {X Y : cn_St} (h : cn_S g C K X Y) (v : Int32) : cn_S g C K (up2 X 3 0 v) (up2 Y 1 0 v) := by
  obtain ⟨⟨h1, h2, h3⟩, h4, h5, h6⟩ := h
  refine ⟨⟨h1, ?_, ?_⟩, fun a ha => ?_, fun a ha => ?_, h6⟩
  · rw [up2_o _ _ _ (by decide)]
    exact h2
  · rw [up2_o _ _ _ (by decide)]
    exact h3
  · rw [up2_o _ _ _ (show (8 : Nat) ≠ 3 by decide), up2_o _ _ _ (show (9 : Nat) ≠ 3 by decide)]
    exact h4 a ha
  · rw [up2_o _ _ _ (show (0 : Nat) ≠ 1 by decide), up2_o _ _ _ (show (5 : Nat) ≠ 1 by decide), up2_o _ _ _ (show (6 : Nat) ≠ 1 by decide)]
    exact h5 a ha
theorem S_dr {g : Nat} {C K : Nat → Nat} (n : Int32) : ∀ (k i r : Nat) (ch : Int32) (X Y : cn_St), r < 81 → cn_S g C K X Y → cn_Inv X Y → (kx_dr n k i r ch X).1 = (km_dr n k i r ch Y).1 ∧ cn_Inv (kx_dr n k i r ch X).2 (km_dr n k i r ch Y).2 := by
  intro k
  induction k with
  | zero => intro i r ch X Y _ _ hI; exact ⟨rfl, hI⟩
  | succ k ih =>
    intro i r ch X Y hr hS hI
    by_cases h1 : n ≤ nI i
    · rw [kx_dr, if_pos h1, km_dr, if_pos h1]
      exact ⟨rfl, hI⟩
    · have e := S_nx hS hr
      by_cases h2 : kx_nx X r < 4
      · rw [kx_dr, if_neg h1, if_pos h2, km_dr, if_neg h1, e, if_pos h2]
        have hm := kx_nx_mv h2
        exact ih (i + 1) _ (ch + 1) _ _ hm (S_rob hS _) (inv_rob hI hm)
      · rw [drM_o (by rw [e]; exact h2), kx_dr, if_neg h1, if_neg h2]
        exact ⟨rfl, hI⟩
theorem pp_drive {X Y : cn_St} (h : cn_Inv X Y) (n : Int32) : ∃ r : Nat, r < 81 ∧ kx_se 400 X 3 0 = nI r ∧ km_fd Y 1 0 = nI r ∧ (kx_dr n 40 0 r 0 (kx_se 400 X)).1 = (km_dr n 40 0 r 0 (km_fd Y)).1 ∧ cn_Inv (kx_dr n 40 0 r 0 (kx_se 400 X)).2 (km_dr n 40 0 r 0 (km_fd Y)).2 := by
  obtain ⟨g, C, K, hS, hI⟩ := pp_core h
  obtain ⟨r, hr, r1, r2⟩ := pp_rob hI
  exact ⟨r, hr, r1, r2, S_dr n 40 0 r 0 _ _ hr hS hI⟩
/-- the next cell on a cheapest way -/
theorem S_nlok {g : Nat} {C K : Nat → Nat} {X Y : cn_St} (h : cn_S g C K X Y) {a : Nat} (ha : a < 81) : ∀ n d, kx_nl X a n d < 4 → kx_mv a (kx_nl X a n d) < 81 ∧ K (kx_mv a (kx_nl X a n d)) ≤ K a := by
  intro n
  induction n with
  | zero => intro d hd; exact absurd hd (by simp [kx_nl])
  | succ n ih =>
    intro d hd
    by_cases h1 : kx_mv a d < 81
    · by_cases h2 : X 8 (kx_mv a d) < 0
      · rw [kx_nl, if_pos h1, if_pos h2] at hd ⊢
        exact ih _ hd
      · by_cases h3 : X 9 (kx_mv a d) + X 8 (kx_mv a d) = X 9 a
        · rw [kx_nl, if_pos h1, if_neg h2, if_pos h3] at hd ⊢
          refine ⟨h1, ?_⟩
          obtain ⟨⟨t1, t2⟩, t3, t4⟩ := h.2.1 _ h1
          obtain ⟨a3, a4⟩ := S_x h ha
          have hz : C (kx_mv a d) ≠ 0 := fun hz => h2 (by rw [t1]; exact (ct_c_neg t2).mpr hz)
          rw [t1, t3, a3, ct_c_p hz, nI_add] at h3
          have := (nI_eq (by omega) (by omega)).mp h3
          omega
        · rw [kx_nl, if_pos h1, if_neg h2, if_neg h3] at hd ⊢
          exact ih _ hd
    · rw [kx_nl, if_neg h1] at hd ⊢
      exact ih _ hd
theorem S_nlex {g : Nat} {C K : Nat → Nat} {X Y : cn_St} (h : cn_S g C K X Y) {a : Nat} (ha : a < 81) {e : Nat} (he : e < 4) (hm : kx_mv a e < 81) (hz : C (kx_mv a e) ≠ 0) (hK : K a = K (kx_mv a e) + C (kx_mv a e)) : ∀ n d, d ≤ e → d + n = 4 → kx_nl X a n d < 4 := by
  intro n
  induction n with
  | zero => intro d h1 h2; omega
  | succ n ih =>
    intro d hde hn
    by_cases hd : d = e
    · obtain ⟨⟨t1, t2⟩, t3, t4⟩ := h.2.1 _ hm
      rw [hd, kx_nl, if_pos hm, if_neg (by rw [t1]; exact fun q => hz ((ct_c_neg t2).mp q)), if_pos (by rw [t1, t3, (S_x h ha).1, ct_c_p hz, nI_add, hK])]
      exact he
    · have h1 := ih (d + 1) (by omega) (by omega)
      rw [kx_nl]
      split
      · split
        · exact h1
        · split
          · omega
          · exact h1
      · exact h1
theorem S_go {g : Nat} {C K : Nat → Nat} {X Y : cn_St} (h : cn_S g C K X Y) {a : Nat} (ha : a < 81) (hg : a ≠ g) (hf : K a < 100000) : kx_nx X a < 4 ∧ kx_mv a (kx_nx X a) < 81 ∧ K (kx_mv a (kx_nx X a)) < 100000 := by
  have hn : ¬ nI a = X 4 0 := by
    rw [h.1.2.1]
    exact fun e => hg ((nI_eq (by omega) (by have := h.1.1; omega)).mp e)
  have e : kx_nx X a = kx_nl X a 4 0 := by rw [kx_nx, if_neg hn, if_pos ((S_fx h ha).mpr hf)]
  obtain ⟨-, h1⟩ := ct_F_pred h.2.2.2 ha hf
  rcases h1 with ⟨h1, -⟩ | ⟨-, d, hd, hm, hz, h1⟩
  · exact absurd h1 hg
  · have h2 := S_nlex h ha hd hm hz h1 4 0 (Nat.zero_le _) rfl
    obtain ⟨h3, h4⟩ := S_nlok h ha 4 0 h2
    rw [e]
    exact ⟨h2, h3, by omega⟩
theorem S_ms {g : Nat} {C K : Nat → Nat} {X Y : cn_St} (h : cn_S g C K X Y) : ∀ n i a, a < 81 → K a < 100000 → kx_ms X n a (nI i) = km_ms Y n i a := by
  intro n
  induction n with
  | zero => intro i a _ _; rfl
  | succ n ih =>
    intro i a ha hf
    by_cases hg : a = g
    · have e : kx_nx X a = 4 := by rw [kx_nx, if_pos (show nI a = X 4 0 by rw [h.1.2.1, hg])]
      rw [kx_ms, e, if_neg (by decide), km_ms, if_pos (show nI a = Y 2 0 by rw [h.1.2.2, hg])]
    · obtain ⟨h1, h2, h3⟩ := S_go h ha hg hf
      rw [kx_ms, if_pos h1, km_ms, if_neg, S_nx h ha, nI_1]
      · exact ih (i + 1) _ h2 h3
      · rw [h.1.2.2]
        exact fun e => hg ((nI_eq (by omega) (by have := h.1.1; omega)).mp e)
theorem pp_moves {X Y : cn_St} (h : cn_Inv X Y) : ∃ (r : Nat) (P : Nat → Prop), r < 81 ∧ kx_se 400 X 3 0 = nI r ∧ km_fd Y 1 0 = nI r ∧ (¬ km_fd Y 6 r = 1000000 → P r) ∧ (∀ a, a < 81 → P a → ¬ nI a = km_fd Y 2 0 → km_nx (km_fd Y) a < 4 ∧ P (kx_mv a (km_nx (km_fd Y) a))) ∧ kx_mvs (kx_se 400 X) r = km_mvs (km_fd Y) r ∧ cn_Inv (kx_se 400 X) (km_fd Y) := by
  obtain ⟨g, C, K, hS, hI⟩ := pp_core h
  obtain ⟨r, hr, r1, r2⟩ := pp_rob hI
  refine ⟨r, fun a => K a < 100000, hr, r1, r2, fun hn => ?_, fun a ha hf hn => ?_, ?_, hI⟩
  · show K r < 100000
    by_cases hf : K r < 100000
    · exact hf
    · exact absurd ((S_fy hS hr).mpr hf) hn
  · have hg : a ≠ g := fun e => hn (by rw [hS.1.2.2, e])
    obtain ⟨h1, h2, h3⟩ := S_go hS ha hg hf
    rw [S_nx hS ha]
    exact ⟨h1, h3⟩
  · by_cases hf : K r < 100000
    · rw [kx_mvs, if_pos ((S_fx hS hr).mpr hf), km_mvs, if_neg (fun e => (S_fy hS hr).mp e hf)]
      exact S_ms hS 81 0 r hr hf
    · rw [kx_mvs, if_neg (fun e => hf ((S_fx hS hr).mp e)), km_mvs, if_pos ((S_fy hS hr).mpr hf)]
theorem S_fw {g : Nat} {C K : Nat → Nat} {X Y : cn_St} (h : cn_S g C K X Y) {a : Nat} (ha : a < 81) : 100000 ≤ X 9 a ↔ ¬ K a < 100000 := by
  rw [← S_fx h ha]
  exact Int32.not_lt.symm
theorem pp_reached {X Y : cn_St} (h : cn_Inv X Y) : kx_lp (kx_n1 (kx_se 400 X)) 81 0 = kx_lp (km_n1 (km_fd Y)) 81 0 ∧ cn_Inv (kx_se 400 X) (km_fd Y) := by
  obtain ⟨g, C, K, hS, hI⟩ := pp_core h
  refine ⟨lp_congr (fun a b ha => ?_) _, hI⟩
  rw [kx_n1, km_n1]
  by_cases hf : K a < 100000
  · rw [if_neg (fun e => (S_fw hS ha).mp e hf), if_neg (fun e => (S_fz hS ha).mp e hf)]
  · rw [if_pos ((S_fw hS ha).mpr hf), if_pos ((S_fz hS ha).mpr hf)]
theorem pp_far {X Y : cn_St} (h : cn_Inv X Y) : kx_lp (kx_h1 (kx_se 400 X)) 81 (-4) = kx_lp (km_h1 (km_fd Y)) 81 (-4) ∧ cn_Inv (kx_se 400 X) (km_fd Y) := by
  obtain ⟨g, C, K, hS, hI⟩ := pp_core h
  refine ⟨lp_congr (fun a b ha => ?_) _, hI⟩
  rw [kx_h1, km_h1]
  by_cases hf : K a < 100000
  · rw [if_neg (fun e => (S_fw hS ha).mp e hf), if_neg (fun e => (S_fz hS ha).mp e hf), (S_x hS ha).1, S_y hS ha, ct_T_f hf]
  · rw [if_pos ((S_fw hS ha).mpr hf), if_pos ((S_fz hS ha).mpr hf)]
end
section
/-! THE CLAIM OUT OF ONE WALK OF THE LAW'S BODY. Your part is whole_start (and what it stands on); all else here is the same for every law, but numbers. -/
def R_law : String := "CostmapNavigatorLaw"
def lw_P (b : Addr) (xs : List Int32) (args : Array Value) (s : State) : Prop := args = #[.ref b] ∧ s.IntsAt b xs ∧ xs.length ≤ 256 ∧ (Jvm.Cond.and given_1 narrow_1).before args s = true
def lw_Q (_ : Array Value) (s : State) (o : Outcome) (t : State) : Prop := o = .returned (some (.int 1)) ∧ Framed s o t [] 600000 7290000
def lw_Z (below : List Frame) (a : Array Value) (s : State) : State → Prop := fun t => ∃ o, t.status = .running ∧ Ended t below o ∧ lw_Q a s o t
/-- the law's own end, with 1 on the stack, nothing written that was there before, its room as the claim has it -/
theorem lw_ret {p : Program} {l : Launch} {e : Env} {s : State} {m : MethodId} {below : List Frame} {meth : Method} {c : Code} {b : Nat} (hx : p.tables.exec = Jvm.exec) (hb : c.code = code) (hr : meth.sig.returnType = ret) (hlocks : meth.locks = false) {pc : Nat} {H : Heap} {ls : Array Slot} (hdg : decode code pc = .ok (.ireturn, 1)) : W p l e room_1 s m #[Value.ref b] below meth c H [] 600000 7290000 (lw_Z below #[Value.ref b] s) (F0 m pc ls [.int 1]) := by
  intro T hT X
  obtain ⟨fs, hret, hrun, hended, hW, hframe⟩ := X.leave (v := some (.int 1)) (hlocks := hlocks) (fun h => by rw [hr] at h; cases h)
  have hmeth' : T.vm.method? m = some meth := X.method'
  refine ⟨T.setFrames fs, ?_, .returned (some (.int 1)), hrun, hended, rfl, ⟨_, rfl⟩, hW, hframe⟩
  jvm_step X.here [X.here.top, hx, hb, hdg, hmeth', hr, ret, narrow_b1]
  (try refine ⟨rfl, ?_⟩); (try refine ⟨rfl, ?_⟩)
  first | (intro acts; rw [hret _ acts rfl rfl rfl]) | rw [hret _ _ rfl rfl rfl]
  exact Steps.refl _
/-- what holds at the law's entry: the machine, the code, the tables' words (any of lw_tbl by 'hts w (by decide +kernel)'), the script of L ints xs at the cell b, what the Statement gives of the start (any of its parts by flat_of_before) -/
def lw_At (p : Program) (s : State) (m : MethodId) (meth : Method) (c : Code) (b L : Nat) (xs : Nat → Int32) : Prop :=
  p.tables.exec = Jvm.exec ∧ c.code = code ∧ meth.sig.returnType = ret ∧ c.maxLocals = 4 ∧ s.vm.findClass R_law = some m.cls ∧ (∀ w ∈ lw_tbl, w.before #[Value.ref b] s = true) ∧ va_X b L xs s s.heap ∧ b < s.heap.size ∧ meth.locks = false ∧ (Jvm.Cond.and given_1 narrow_1).before #[Value.ref b] s = true
end
section
set_option maxRecDepth 100000
/-! the law: both objects side by side -/
def cn_LC (D : va_G) (E E' : Nat → ClassId) (p : Program) (s : State) (m : MethodId) (args : Array Value) (c : Code) : Prop :=
  p.tables.exec = Jvm.exec ∧ c.code = code ∧ c.maxLocals = 4 ∧ s.vm.findClass R_law = some m.cls ∧ (∀ w ∈ lw_all, w.before args s = true) ∧ va_K D vwCl (cn_tx E ++ cn_tm E') s
def cn_L (D : va_G) (G : Nat → Nat) (E : Nat → ClassId) (G' : Nat → Nat) (E' : Nat → ClassId) (A : Nat → Prop) (H0 : Heap) (X Y : cn_St) (H : Heap) (locs : List Loc) : Prop :=
  va_P D vwCl (cn_Wx G E X ++ cn_Wm G' E' Y) H ∧ va_D A (cn_Wx G E X ++ cn_Wm G' E' Y) ∧ va_S A H0 H locs ∧ ∀ q : Nat, H0.size ≤ q → A q
theorem cn_Ax_iff {G : Nat → Nat} {E : Nat → ClassId} {X : cn_St} {sz q : Nat} : va_A (cn_Wx G E X) sz q ↔ cn_Ax G sz q := by
  constructor
  · rintro (⟨k, e, h⟩ | h)
    · match k, h with
      | 0, h => cases h; exact Or.inl (by simp)
      | 1, h => cases h; exact Or.inl (by simp)
      | 2, h => cases h; exact Or.inl (by simp)
      | 3, h => cases h; exact Or.inl (by simp)
      | 4, h => cases h; exact Or.inl (by simp)
      | 5, h => cases h; exact Or.inl (by simp)
      | 6, h => cases h; exact Or.inl (by simp)
      | 7, h => cases h; exact Or.inl (by simp)
      | k + 8, h => simp at h
    · exact Or.inr h
  · rintro (h | h)
    · simp only [List.mem_cons, List.not_mem_nil, or_false] at h
      rcases h with rfl | rfl | rfl | rfl | rfl | rfl | rfl | rfl
      · exact Or.inl ⟨0, _, rfl⟩
      · exact Or.inl ⟨1, _, rfl⟩
      · exact Or.inl ⟨2, _, rfl⟩
      · exact Or.inl ⟨3, _, rfl⟩
      · exact Or.inl ⟨4, _, rfl⟩
      · exact Or.inl ⟨5, _, rfl⟩
      · exact Or.inl ⟨6, _, rfl⟩
      · exact Or.inl ⟨7, _, rfl⟩
    · exact Or.inr h
theorem cn_Am_iff {G : Nat → Nat} {E : Nat → ClassId} {X : cn_St} {sz q : Nat} : va_A (cn_Wm G E X) sz q ↔ cn_Am G sz q := by
  constructor
  · rintro (⟨k, e, h⟩ | h)
    · match k, h with
      | 0, h => cases h; exact Or.inl (by simp)
      | 1, h => cases h; exact Or.inl (by simp)
      | 2, h => cases h; exact Or.inl (by simp)
      | 3, h => cases h; exact Or.inl (by simp)
      | k + 4, h => simp at h
    · exact Or.inr h
  · rintro (h | h)
    · simp only [List.mem_cons, List.not_mem_nil, or_false] at h
      rcases h with rfl | rfl | rfl | rfl
      · exact Or.inl ⟨0, _, rfl⟩
      · exact Or.inl ⟨1, _, rfl⟩
      · exact Or.inl ⟨2, _, rfl⟩
      · exact Or.inl ⟨3, _, rfl⟩
    · exact Or.inr h
section CNL
variable {p : Program} {l : Launch} {e : Env} {R : Room} {s : State} {m : MethodId} {args : Array Value} {below : List Frame} {meth : Method} {c : Code} {H : Heap} {locs : List Loc} {cells slots : Nat} {Q : State → Prop}
variable {pc : Nat} {ls : Array Slot} {rest : List Value} {D : va_G} {G G' : Nat → Nat} {E E' : Nat → ClassId} {A : Nat → Prop} {H0 : Heap} {X Y : cn_St}
variable {y : MethodName} {bytes : ByteArray} {nC index : Nat} {rc : Option FieldType} {rm : Room} {As st0 : List Value} {r : Int32} {X' : cn_St}
theorem cn_lcx (hM : cn_xMi l y bytes nC rc rm D G E X As r X') (C : cn_LC D E E' p s m args c) (hL : cn_L D G E G' E' A H0 X Y H locs) (hl : ls.size = 4) (hw : Cond.methodLink R_law index y ∈ lw_all ∧ Cond.instanceMethod y ∈ lw_all ∧ Cond.selects RX0 y y ∈ lw_all ∧ Cond.code y bytes nC rc ∈ lw_all) (hd : y.cls = RX0 ∧ y.cls ≠ "java/lang/invoke/MethodHandle" ∧ y.cls ≠ "java/lang/invoke/VarHandle" ∧ (parseMethodDescriptor y.desc).map (fun d => d.parameters.length) = some As.length) (hrm : rm.cells = 0 ∧ rm.slots = 0) (hR : rm.frames + 1 ≤ R.frames ∧ 8 + (nC + 11) + rm.locals ≤ R.locals) (hst : st0 = As.reverse ++ .ref (G 11) :: rest) (hroom : (rest.map fun v => v.category).sum ≤ 8) (hcs : cells ≤ R.cells ∧ slots ≤ R.slots) (hdg : decode code pc = .ok (.invokevirtual index, 3))
    (kk : ∀ (H1 : Heap) (locs1 : List Loc), cn_L D G E G' E' A H0 X' Y H1 locs1 → W p l e R s m args below meth c H1 locs1 cells slots Q (F0 m (pc + 3) ls (.int r :: rest))) : W p l e R s m args below meth c H locs cells slots Q (F0 m pc ls st0) := by
  obtain ⟨hx, hb, hml, hown, hts, hK⟩ := C
  obtain ⟨hP, hD, hS, hA⟩ := hL
  have hPc : va_P D vwCl (cn_Wx G E X) H := hP.sub [0, 1, 2, 3, 4, 5, 6, 7] rfl
  have hDc : va_D A (cn_Wx G E X) := hD.sub [0, 1, 2, 3, 4, 5, 6, 7] (by decide) rfl
  have hKc : va_K D vwCl (cn_tx E) s := hK.sub [0, 1, 2, 3, 4, 5, 6] rfl
  have hFc : ∀ q, cn_Ax G H.size q → A q := cn_freex (D := D) (H0 := H0) (locs := locs) ⟨hPc, hDc, hS, hA⟩
  refine va_calli (va_runV (As := As) (rest := rest) ⟨hx, hb, hml, hown, hts⟩ (hM H.size) (cwV As.length hts (lw_V hw.1 hw.2.1 hw.2.2.1 q23 hw.2.2.2) rfl hrm.1 hrm.2 hd hR) ⟨cn_xbl, va_recv hKc hPc (ci := 0) (q0 := 0) rfl rfl, fun U hU hW => ⟨rfl, by rw [hU], by rw [hU]; exact hPc, va_K.moved hW.alike hKc, hDc.weaken (fun _ _ _ _ => trivial)⟩⟩ rfl rfl hl hst (lv_room hroom) hdg ⟨hcs.1, hcs.2⟩) hS (fun q _ h => hFc q h) hFc (fun r1 u t H1 locs1 ht hvm hw1 hB hz hk hS1 => ?_)
  obtain ⟨rfl, rfl⟩ := hw1
  obtain ⟨hP1, hK1, hD1⟩ := hB
  rw [ht] at hP1
  obtain ⟨hP2, hD2⟩ := va_join (wc := cn_Wx G E X) (wr := cn_Wm G' E' Y) (w1 := cn_Wx G E u) hP hD [0, 1, 2, 3, 4, 5, 6, 7] [8, 9, 10, 11] rfl rfl (by decide) (by decide) (fun q h1 h2 => hk q h1 (fun h3 => h2 (cn_Ax_iff.mpr h3))) (fun q h => hFc q (cn_Ax_iff.mp h)) hP1 (hD1.weaken (fun _ q _ h => cn_Ax_iff.mpr h))
  exact kk H1 locs1 ⟨hP2.sub [4, 5, 6, 7, 8, 9, 10, 11, 0, 1, 2, 3] rfl, hD2.sub [4, 5, 6, 7, 8, 9, 10, 11, 0, 1, 2, 3] (by decide) rfl, hS1, hA⟩
theorem cn_lcm (hM : cn_mMi l y bytes nC rc rm D G' E' Y As r X') (C : cn_LC D E E' p s m args c) (hL : cn_L D G E G' E' A H0 X Y H locs) (hl : ls.size = 4) (hw : Cond.methodLink R_law index y ∈ lw_all ∧ Cond.instanceMethod y ∈ lw_all ∧ Cond.selects RX1 y y ∈ lw_all ∧ Cond.code y bytes nC rc ∈ lw_all) (hd : y.cls = RX1 ∧ y.cls ≠ "java/lang/invoke/MethodHandle" ∧ y.cls ≠ "java/lang/invoke/VarHandle" ∧ (parseMethodDescriptor y.desc).map (fun d => d.parameters.length) = some As.length) (hrm : rm.cells = 0 ∧ rm.slots = 0) (hR : rm.frames + 1 ≤ R.frames ∧ 8 + (nC + 11) + rm.locals ≤ R.locals) (hst : st0 = As.reverse ++ .ref (G' 7) :: rest) (hroom : (rest.map fun v => v.category).sum ≤ 8) (hcs : cells ≤ R.cells ∧ slots ≤ R.slots) (hdg : decode code pc = .ok (.invokevirtual index, 3))
    (kk : ∀ (H1 : Heap) (locs1 : List Loc), cn_L D G E G' E' A H0 X X' H1 locs1 → W p l e R s m args below meth c H1 locs1 cells slots Q (F0 m (pc + 3) ls (.int r :: rest))) : W p l e R s m args below meth c H locs cells slots Q (F0 m pc ls st0) := by
  obtain ⟨hx, hb, hml, hown, hts, hK⟩ := C
  obtain ⟨hP, hD, hS, hA⟩ := hL
  have hPc : va_P D vwCl (cn_Wm G' E' Y) H := hP.sub [8, 9, 10, 11] rfl
  have hDc : va_D A (cn_Wm G' E' Y) := hD.sub [8, 9, 10, 11] (by decide) rfl
  have hKc : va_K D vwCl (cn_tm E') s := hK.sub [7, 8, 9] rfl
  have hFc : ∀ q, cn_Am G' H.size q → A q := cn_freem (D := D) (H0 := H0) (locs := locs) ⟨hPc, hDc, hS, hA⟩
  refine va_calli (va_runV (As := As) (rest := rest) ⟨hx, hb, hml, hown, hts⟩ (hM H.size) (cwV As.length hts (lw_V hw.1 hw.2.1 hw.2.2.1 q24 hw.2.2.2) rfl hrm.1 hrm.2 hd hR) ⟨cn_mbl, va_recv hKc hPc (ci := 1) (q0 := 0) rfl rfl, fun U hU hW => ⟨rfl, by rw [hU], by rw [hU]; exact hPc, va_K.moved hW.alike hKc, hDc.weaken (fun _ _ _ _ => trivial)⟩⟩ rfl rfl hl hst (lv_room hroom) hdg ⟨hcs.1, hcs.2⟩) hS (fun q _ h => hFc q h) hFc (fun r1 u t H1 locs1 ht hvm hw1 hB hz hk hS1 => ?_)
  obtain ⟨rfl, rfl⟩ := hw1
  obtain ⟨hP1, hK1, hD1⟩ := hB
  rw [ht] at hP1
  obtain ⟨hP2, hD2⟩ := va_join (wc := cn_Wm G' E' Y) (wr := cn_Wx G E X) (w1 := cn_Wm G' E' u) hP hD [8, 9, 10, 11] [0, 1, 2, 3, 4, 5, 6, 7] rfl rfl (by decide) (by decide) (fun q h1 h2 => hk q h1 (fun h3 => h2 (cn_Am_iff.mpr h3))) (fun q h => hFc q (cn_Am_iff.mp h)) hP1 (hD1.weaken (fun _ q _ h => cn_Am_iff.mpr h))
  exact kk H1 locs1 ⟨hP2.sub [0, 1, 2, 3, 4, 5, 6, 7, 8, 9, 10, 11] rfl, hD2.sub [0, 1, 2, 3, 4, 5, 6, 7, 8, 9, 10, 11] (by decide) rfl, hS1, hA⟩
theorem lx_astore_n {cc : ByteArray} {nL : Nat} {f : List (Option Value)} {k : Fin 4} {i : Nat} {x : Nat} (hx : p.tables.exec = Jvm.exec) (hb : c.code = cc) (hdg : decode cc pc = .ok (.astore_n k, 1)) (hi : (k : Nat) = i) (h : cn_lx ls nL f) (hn : i < nL)
    (kk : ∀ ls' : Array Slot, cn_lx ls' nL (f.set i (some (.ref x))) → W p l e R s m args below meth c H locs cells slots Q (F0 m (pc + 1) ls' rest)) : W p l e R s m args below meth c H locs cells slots Q (F0 m pc ls (.ref x :: rest)) :=
  lv_astore_n hx hb hdg hi (lx_has h) hn rfl (fun ls' h' => kk ls' (lx_set h hn rfl h'))
theorem cn_sld {b L : Nat} {xs : Nat → Int32} (hx : p.tables.exec = Jvm.exec) (hb : c.code = code) (hX : va_X b L xs s H0) (hbl : b < H0.size) (hbA : ¬ A b) (hL : cn_L D G E G' E' A H0 X Y H locs) {j : Nat} (hj : j < L) (hL2 : L ≤ 256) (hdg : decode code pc = .ok (.iaload, 1))
    (kk : W p l e R s m args below meth c H locs cells slots Q (F0 m (pc + 1) ls (.int (xs j) :: rest))) : W p l e R s m args below meth c H locs cells slots Q (F0 m pc ls (.int (nI j) :: .ref b :: rest)) :=
  va_sld hx hb hX hbl hbA hL.2.2.1 (vp_in_nI hj (by omega)) hdg (by rw [nI_clamp (by omega)]; exact kk)
end CNL
theorem cn_i2 (i : Nat) : nI i + 2 = nI (i + 2) := nI_add i 2
theorem cn_i3 (i : Nat) : nI i + 3 = nI (i + 3) := nI_add i 3
theorem cn_i4 (i : Nat) : nI i + Int32.ofInt 4 = nI (i + 4) := nI_add i 4
theorem cn_sw {x : Int32} {k : Nat} (h : x = nI k) (hk : k < 16) : x.toInt = (k : Int) := by rw [h]; exact nI_toInt (by omega)
theorem cn_le4 {i L : Nat} (hi : i < 2 ^ 20) (hL : L ≤ 256) (h : ¬ (Int32.ofNat L - 4 < nI i)) : i + 4 ≤ L := by
  have e1 : (nI L - nI 4).toInt = (L : Int) - (4 : Nat) := pk_sub_toInt (by omega) (by decide)
  have e2 : (nI i).toInt = (i : Int) := nI_toInt (by omega)
  have h2 : ¬ (nI L - nI 4).toInt < (nI i).toInt := fun h3 => h (Int32.lt_iff_toInt_lt.mpr h3)
  rw [e1, e2] at h2
  omega
set_option maxHeartbeats 4000000 in
set_option maxRecDepth 100000 in
theorem law_block {p : Program} {l : Launch} {e : Env} {s : State} {m : MethodId} {below : List Frame} {meth : Method} {c : Code} {D : va_G} {G G' : Nat → Nat} {E E' : Nat → ClassId} {A : Nat → Prop} {b L : Nat} {xs : Nat → Int32} {i : Nat} {X Y : cn_St} {H : Heap} {locs : List Loc} {ls : Array Slot} (hL2 : L ≤ 256) (C : cn_LC D E E' p s m #[Value.ref b] c) (hX : va_X b L xs s s.heap) (hbl : b < s.heap.size) (hbA : ¬ A b) (hi : i + 4 ≤ L) (hI : cn_Inv X Y) (hL : cn_L D G E G' E' A s.heap X Y H locs) (hl : cn_lx ls 4 [some (.ref b), some (.ref (G 11)), some (.ref (G' 7)), some (.int (nI i))])
    (hnext : ∀ (X Y : cn_St) (H : Heap) (locs : List Loc), cn_Inv X Y → cn_L D G E G' E' A s.heap X Y H locs → W p l e room_1 s m #[Value.ref b] below meth c H locs 12 828 (lw_Z below #[Value.ref b] s) (F0 m 460 ls [])) : W p l e room_1 s m #[Value.ref b] below meth c H locs 12 828 (lw_Z below #[Value.ref b] s) (F0 m 112 ls []) := by
  obtain ⟨hx, hb, hml, hown, hts, hK⟩ := id C
  obtain ⟨he, hI1⟩ := pp_block hI (xs (i + 1)) (xs (i + 2))
  refine lv_aload_n hx hb dL_law_112 rfl (lx_at hl 1 rfl) ?_
  refine lv_aload_n hx hb dL_law_113 rfl (lx_at hl 0 rfl) ?_
  refine lv_iload_n hx hb dL_law_114 rfl (lx_at hl 3 rfl) ?_
  refine lv_iconst (v := 1) hx hb dL_law_115 (by decide) ?_
  refine lv_iadd hx hb dL_law_116 ?_
  rw [nI_1 i]
  refine cn_sld hx hb hX hbl hbA hL (by omega) hL2 dL_law_117 ?_
  refine lv_aload_n hx hb dL_law_118 rfl (lx_at hl 0 rfl) ?_
  refine lv_iload_n hx hb dL_law_119 rfl (lx_at hl 3 rfl) ?_
  refine lv_iconst (v := 2) hx hb dL_law_120 (by decide) ?_
  refine lv_iadd hx hb dL_law_121 ?_
  rw [cn_i2 i]
  refine cn_sld hx hb hX hbl hbA hL (by omega) hL2 dL_law_122 ?_
  refine cn_lcx (rest := []) (xt_block l D G E X (xs (i + 1)) (xs (i + 2)) ) C hL (lx_sz hl) ⟨q70, q71, q72, q73⟩ (show yX0_block.cls = RX0 ∧ yX0_block.cls ≠ "java/lang/invoke/MethodHandle" ∧ yX0_block.cls ≠ "java/lang/invoke/VarHandle" ∧ (parseMethodDescriptor yX0_block.desc).map (fun d => d.parameters.length) = some 2 by decide +kernel) ⟨rfl, rfl⟩ ⟨by decide, by decide⟩ rfl (Nat.le_of_ble_eq_true rfl) ⟨by decide, by decide⟩ dL_law_123 (fun H locs hL => ?_)
  refine lv_aload_n hx hb dL_law_126 rfl (lx_at hl 2 rfl) ?_
  refine lv_aload_n hx hb dL_law_127 rfl (lx_at hl 0 rfl) ?_
  refine lv_iload_n hx hb dL_law_128 rfl (lx_at hl 3 rfl) ?_
  refine lv_iconst (v := 1) hx hb dL_law_129 (by decide) ?_
  refine lv_iadd hx hb dL_law_130 ?_
  rw [nI_1 i]
  refine cn_sld hx hb hX hbl hbA hL (by omega) hL2 dL_law_131 ?_
  refine lv_aload_n hx hb dL_law_132 rfl (lx_at hl 0 rfl) ?_
  refine lv_iload_n hx hb dL_law_133 rfl (lx_at hl 3 rfl) ?_
  refine lv_iconst (v := 2) hx hb dL_law_134 (by decide) ?_
  refine lv_iadd hx hb dL_law_135 ?_
  rw [cn_i2 i]
  refine cn_sld hx hb hX hbl hbA hL (by omega) hL2 dL_law_136 ?_
  refine cn_lcm (rest := [.int _]) (mt_block l D G' E' Y (xs (i + 1)) (xs (i + 2)) ) C hL (lx_sz hl) ⟨q231, q232, q233, q234⟩ (show yX1_block.cls = RX1 ∧ yX1_block.cls ≠ "java/lang/invoke/MethodHandle" ∧ yX1_block.cls ≠ "java/lang/invoke/VarHandle" ∧ (parseMethodDescriptor yX1_block.desc).map (fun d => d.parameters.length) = some 2 by decide +kernel) ⟨rfl, rfl⟩ ⟨by decide, by decide⟩ rfl (Nat.le_of_ble_eq_true rfl) ⟨by decide, by decide⟩ dL_law_137 (fun H locs hL => ?_)
  refine lv_icmp_eq (tgt := 460) hx hb dL_law_140 (by decide) (fun _ => ?_) (fun h9 => absurd he h9)
  exact hnext _ _ _ _ hI1 hL
set_option maxHeartbeats 4000000 in
set_option maxRecDepth 100000 in
theorem law_wall {p : Program} {l : Launch} {e : Env} {s : State} {m : MethodId} {below : List Frame} {meth : Method} {c : Code} {D : va_G} {G G' : Nat → Nat} {E E' : Nat → ClassId} {A : Nat → Prop} {b L : Nat} {xs : Nat → Int32} {i : Nat} {X Y : cn_St} {H : Heap} {locs : List Loc} {ls : Array Slot} (hL2 : L ≤ 256) (C : cn_LC D E E' p s m #[Value.ref b] c) (hX : va_X b L xs s s.heap) (hbl : b < s.heap.size) (hbA : ¬ A b) (hi : i + 4 ≤ L) (hI : cn_Inv X Y) (hL : cn_L D G E G' E' A s.heap X Y H locs) (hl : cn_lx ls 4 [some (.ref b), some (.ref (G 11)), some (.ref (G' 7)), some (.int (nI i))])
    (hnext : ∀ (X Y : cn_St) (H : Heap) (locs : List Loc), cn_Inv X Y → cn_L D G E G' E' A s.heap X Y H locs → W p l e room_1 s m #[Value.ref b] below meth c H locs 12 828 (lw_Z below #[Value.ref b] s) (F0 m 460 ls [])) : W p l e room_1 s m #[Value.ref b] below meth c H locs 12 828 (lw_Z below #[Value.ref b] s) (F0 m 145 ls []) := by
  obtain ⟨hx, hb, hml, hown, hts, hK⟩ := id C
  obtain ⟨he, hI1⟩ := pp_wall hI (xs (i + 1)) (xs (i + 2)) (xs (i + 3))
  refine lv_aload_n hx hb dL_law_145 rfl (lx_at hl 1 rfl) ?_
  refine lv_aload_n hx hb dL_law_146 rfl (lx_at hl 0 rfl) ?_
  refine lv_iload_n hx hb dL_law_147 rfl (lx_at hl 3 rfl) ?_
  refine lv_iconst (v := 1) hx hb dL_law_148 (by decide) ?_
  refine lv_iadd hx hb dL_law_149 ?_
  rw [nI_1 i]
  refine cn_sld hx hb hX hbl hbA hL (by omega) hL2 dL_law_150 ?_
  refine lv_aload_n hx hb dL_law_151 rfl (lx_at hl 0 rfl) ?_
  refine lv_iload_n hx hb dL_law_152 rfl (lx_at hl 3 rfl) ?_
  refine lv_iconst (v := 2) hx hb dL_law_153 (by decide) ?_
  refine lv_iadd hx hb dL_law_154 ?_
  rw [cn_i2 i]
  refine cn_sld hx hb hX hbl hbA hL (by omega) hL2 dL_law_155 ?_
  refine lv_aload_n hx hb dL_law_156 rfl (lx_at hl 0 rfl) ?_
  refine lv_iload_n hx hb dL_law_157 rfl (lx_at hl 3 rfl) ?_
  refine lv_iconst (v := 3) hx hb dL_law_158 (by decide) ?_
  refine lv_iadd hx hb dL_law_159 ?_
  rw [cn_i3 i]
  refine cn_sld hx hb hX hbl hbA hL (by omega) hL2 dL_law_160 ?_
  refine cn_lcx (rest := []) (xt_wall l D G E X (xs (i + 1)) (xs (i + 2)) (xs (i + 3)) ) C hL (lx_sz hl) ⟨q126, q127, q128, q129⟩ (show yX0_wall.cls = RX0 ∧ yX0_wall.cls ≠ "java/lang/invoke/MethodHandle" ∧ yX0_wall.cls ≠ "java/lang/invoke/VarHandle" ∧ (parseMethodDescriptor yX0_wall.desc).map (fun d => d.parameters.length) = some 3 by decide +kernel) ⟨rfl, rfl⟩ ⟨by decide, by decide⟩ rfl (Nat.le_of_ble_eq_true rfl) ⟨by decide, by decide⟩ dL_law_161 (fun H locs hL => ?_)
  refine lv_aload_n hx hb dL_law_164 rfl (lx_at hl 2 rfl) ?_
  refine lv_aload_n hx hb dL_law_165 rfl (lx_at hl 0 rfl) ?_
  refine lv_iload_n hx hb dL_law_166 rfl (lx_at hl 3 rfl) ?_
  refine lv_iconst (v := 1) hx hb dL_law_167 (by decide) ?_
  refine lv_iadd hx hb dL_law_168 ?_
  rw [nI_1 i]
  refine cn_sld hx hb hX hbl hbA hL (by omega) hL2 dL_law_169 ?_
  refine lv_aload_n hx hb dL_law_170 rfl (lx_at hl 0 rfl) ?_
  refine lv_iload_n hx hb dL_law_171 rfl (lx_at hl 3 rfl) ?_
  refine lv_iconst (v := 2) hx hb dL_law_172 (by decide) ?_
  refine lv_iadd hx hb dL_law_173 ?_
  rw [cn_i2 i]
  refine cn_sld hx hb hX hbl hbA hL (by omega) hL2 dL_law_174 ?_
  refine lv_aload_n hx hb dL_law_175 rfl (lx_at hl 0 rfl) ?_
  refine lv_iload_n hx hb dL_law_176 rfl (lx_at hl 3 rfl) ?_
  refine lv_iconst (v := 3) hx hb dL_law_177 (by decide) ?_
  refine lv_iadd hx hb dL_law_178 ?_
  rw [cn_i3 i]
  refine cn_sld hx hb hX hbl hbA hL (by omega) hL2 dL_law_179 ?_
  refine cn_lcm (rest := [.int _]) (mt_wall l D G' E' Y (xs (i + 1)) (xs (i + 2)) (xs (i + 3)) ) C hL (lx_sz hl) ⟨q239, q240, q241, q242⟩ (show yX1_wall.cls = RX1 ∧ yX1_wall.cls ≠ "java/lang/invoke/MethodHandle" ∧ yX1_wall.cls ≠ "java/lang/invoke/VarHandle" ∧ (parseMethodDescriptor yX1_wall.desc).map (fun d => d.parameters.length) = some 3 by decide +kernel) ⟨rfl, rfl⟩ ⟨by decide, by decide⟩ rfl (Nat.le_of_ble_eq_true rfl) ⟨by decide, by decide⟩ dL_law_180 (fun H locs hL => ?_)
  refine lv_icmp_eq (tgt := 460) hx hb dL_law_183 (by decide) (fun _ => ?_) (fun h9 => absurd he h9)
  exact hnext _ _ _ _ hI1 hL
set_option maxHeartbeats 4000000 in
set_option maxRecDepth 100000 in
theorem law_tune {p : Program} {l : Launch} {e : Env} {s : State} {m : MethodId} {below : List Frame} {meth : Method} {c : Code} {D : va_G} {G G' : Nat → Nat} {E E' : Nat → ClassId} {A : Nat → Prop} {b L : Nat} {xs : Nat → Int32} {i : Nat} {X Y : cn_St} {H : Heap} {locs : List Loc} {ls : Array Slot} (hL2 : L ≤ 256) (C : cn_LC D E E' p s m #[Value.ref b] c) (hX : va_X b L xs s s.heap) (hbl : b < s.heap.size) (hbA : ¬ A b) (hi : i + 4 ≤ L) (hI : cn_Inv X Y) (hL : cn_L D G E G' E' A s.heap X Y H locs) (hl : cn_lx ls 4 [some (.ref b), some (.ref (G 11)), some (.ref (G' 7)), some (.int (nI i))])
    (hnext : ∀ (X Y : cn_St) (H : Heap) (locs : List Loc), cn_Inv X Y → cn_L D G E G' E' A s.heap X Y H locs → W p l e room_1 s m #[Value.ref b] below meth c H locs 12 828 (lw_Z below #[Value.ref b] s) (F0 m 460 ls [])) : W p l e room_1 s m #[Value.ref b] below meth c H locs 12 828 (lw_Z below #[Value.ref b] s) (F0 m 188 ls []) := by
  obtain ⟨hx, hb, hml, hown, hts, hK⟩ := id C
  obtain ⟨he, hI1⟩ := pp_tune hI (xs (i + 1)) (xs (i + 2))
  refine lv_aload_n hx hb dL_law_188 rfl (lx_at hl 1 rfl) ?_
  refine lv_aload_n hx hb dL_law_189 rfl (lx_at hl 0 rfl) ?_
  refine lv_iload_n hx hb dL_law_190 rfl (lx_at hl 3 rfl) ?_
  refine lv_iconst (v := 1) hx hb dL_law_191 (by decide) ?_
  refine lv_iadd hx hb dL_law_192 ?_
  rw [nI_1 i]
  refine cn_sld hx hb hX hbl hbA hL (by omega) hL2 dL_law_193 ?_
  refine lv_aload_n hx hb dL_law_194 rfl (lx_at hl 0 rfl) ?_
  refine lv_iload_n hx hb dL_law_195 rfl (lx_at hl 3 rfl) ?_
  refine lv_iconst (v := 2) hx hb dL_law_196 (by decide) ?_
  refine lv_iadd hx hb dL_law_197 ?_
  rw [cn_i2 i]
  refine cn_sld hx hb hX hbl hbA hL (by omega) hL2 dL_law_198 ?_
  refine cn_lcx (rest := []) (xt_tune l D G E X (xs (i + 1)) (xs (i + 2)) ) C hL (lx_sz hl) ⟨q130, q131, q132, q133⟩ (show yX0_tune.cls = RX0 ∧ yX0_tune.cls ≠ "java/lang/invoke/MethodHandle" ∧ yX0_tune.cls ≠ "java/lang/invoke/VarHandle" ∧ (parseMethodDescriptor yX0_tune.desc).map (fun d => d.parameters.length) = some 2 by decide +kernel) ⟨rfl, rfl⟩ ⟨by decide, by decide⟩ rfl (Nat.le_of_ble_eq_true rfl) ⟨by decide, by decide⟩ dL_law_199 (fun H locs hL => ?_)
  refine lv_aload_n hx hb dL_law_202 rfl (lx_at hl 2 rfl) ?_
  refine lv_aload_n hx hb dL_law_203 rfl (lx_at hl 0 rfl) ?_
  refine lv_iload_n hx hb dL_law_204 rfl (lx_at hl 3 rfl) ?_
  refine lv_iconst (v := 1) hx hb dL_law_205 (by decide) ?_
  refine lv_iadd hx hb dL_law_206 ?_
  rw [nI_1 i]
  refine cn_sld hx hb hX hbl hbA hL (by omega) hL2 dL_law_207 ?_
  refine lv_aload_n hx hb dL_law_208 rfl (lx_at hl 0 rfl) ?_
  refine lv_iload_n hx hb dL_law_209 rfl (lx_at hl 3 rfl) ?_
  refine lv_iconst (v := 2) hx hb dL_law_210 (by decide) ?_
  refine lv_iadd hx hb dL_law_211 ?_
  rw [cn_i2 i]
  refine cn_sld hx hb hX hbl hbA hL (by omega) hL2 dL_law_212 ?_
  refine cn_lcm (rest := [.int _]) (mt_tune l D G' E' Y (xs (i + 1)) (xs (i + 2)) ) C hL (lx_sz hl) ⟨q243, q244, q245, q246⟩ (show yX1_tune.cls = RX1 ∧ yX1_tune.cls ≠ "java/lang/invoke/MethodHandle" ∧ yX1_tune.cls ≠ "java/lang/invoke/VarHandle" ∧ (parseMethodDescriptor yX1_tune.desc).map (fun d => d.parameters.length) = some 2 by decide +kernel) ⟨rfl, rfl⟩ ⟨by decide, by decide⟩ rfl (Nat.le_of_ble_eq_true rfl) ⟨by decide, by decide⟩ dL_law_213 (fun H locs hL => ?_)
  refine lv_icmp_eq (tgt := 460) hx hb dL_law_216 (by decide) (fun _ => ?_) (fun h9 => absurd he h9)
  exact hnext _ _ _ _ hI1 hL
set_option maxHeartbeats 4000000 in
set_option maxRecDepth 100000 in
theorem law_place {p : Program} {l : Launch} {e : Env} {s : State} {m : MethodId} {below : List Frame} {meth : Method} {c : Code} {D : va_G} {G G' : Nat → Nat} {E E' : Nat → ClassId} {A : Nat → Prop} {b L : Nat} {xs : Nat → Int32} {i : Nat} {X Y : cn_St} {H : Heap} {locs : List Loc} {ls : Array Slot} (hL2 : L ≤ 256) (C : cn_LC D E E' p s m #[Value.ref b] c) (hX : va_X b L xs s s.heap) (hbl : b < s.heap.size) (hbA : ¬ A b) (hi : i + 4 ≤ L) (hI : cn_Inv X Y) (hL : cn_L D G E G' E' A s.heap X Y H locs) (hl : cn_lx ls 4 [some (.ref b), some (.ref (G 11)), some (.ref (G' 7)), some (.int (nI i))])
    (hnext : ∀ (X Y : cn_St) (H : Heap) (locs : List Loc), cn_Inv X Y → cn_L D G E G' E' A s.heap X Y H locs → W p l e room_1 s m #[Value.ref b] below meth c H locs 12 828 (lw_Z below #[Value.ref b] s) (F0 m 460 ls [])) : W p l e room_1 s m #[Value.ref b] below meth c H locs 12 828 (lw_Z below #[Value.ref b] s) (F0 m 221 ls []) := by
  obtain ⟨hx, hb, hml, hown, hts, hK⟩ := id C
  obtain ⟨he, hI1⟩ := pp_place hI (xs (i + 1))
  refine lv_aload_n hx hb dL_law_221 rfl (lx_at hl 1 rfl) ?_
  refine lv_aload_n hx hb dL_law_222 rfl (lx_at hl 0 rfl) ?_
  refine lv_iload_n hx hb dL_law_223 rfl (lx_at hl 3 rfl) ?_
  refine lv_iconst (v := 1) hx hb dL_law_224 (by decide) ?_
  refine lv_iadd hx hb dL_law_225 ?_
  rw [nI_1 i]
  refine cn_sld hx hb hX hbl hbA hL (by omega) hL2 dL_law_226 ?_
  refine cn_lcx (rest := []) (xt_place l D G E X (xs (i + 1)) ) C hL (lx_sz hl) ⟨q134, q135, q136, q137⟩ (show yX0_place.cls = RX0 ∧ yX0_place.cls ≠ "java/lang/invoke/MethodHandle" ∧ yX0_place.cls ≠ "java/lang/invoke/VarHandle" ∧ (parseMethodDescriptor yX0_place.desc).map (fun d => d.parameters.length) = some 1 by decide +kernel) ⟨rfl, rfl⟩ ⟨by decide, by decide⟩ rfl (Nat.le_of_ble_eq_true rfl) ⟨by decide, by decide⟩ dL_law_227 (fun H locs hL => ?_)
  refine lv_aload_n hx hb dL_law_230 rfl (lx_at hl 2 rfl) ?_
  refine lv_aload_n hx hb dL_law_231 rfl (lx_at hl 0 rfl) ?_
  refine lv_iload_n hx hb dL_law_232 rfl (lx_at hl 3 rfl) ?_
  refine lv_iconst (v := 1) hx hb dL_law_233 (by decide) ?_
  refine lv_iadd hx hb dL_law_234 ?_
  rw [nI_1 i]
  refine cn_sld hx hb hX hbl hbA hL (by omega) hL2 dL_law_235 ?_
  refine cn_lcm (rest := [.int _]) (mt_place l D G' E' Y (xs (i + 1)) ) C hL (lx_sz hl) ⟨q247, q248, q249, q250⟩ (show yX1_place.cls = RX1 ∧ yX1_place.cls ≠ "java/lang/invoke/MethodHandle" ∧ yX1_place.cls ≠ "java/lang/invoke/VarHandle" ∧ (parseMethodDescriptor yX1_place.desc).map (fun d => d.parameters.length) = some 1 by decide +kernel) ⟨rfl, rfl⟩ ⟨by decide, by decide⟩ rfl (Nat.le_of_ble_eq_true rfl) ⟨by decide, by decide⟩ dL_law_236 (fun H locs hL => ?_)
  refine lv_icmp_eq (tgt := 460) hx hb dL_law_239 (by decide) (fun _ => ?_) (fun h9 => absurd he h9)
  exact hnext _ _ _ _ hI1 hL
set_option maxHeartbeats 4000000 in
set_option maxRecDepth 100000 in
theorem law_goal {p : Program} {l : Launch} {e : Env} {s : State} {m : MethodId} {below : List Frame} {meth : Method} {c : Code} {D : va_G} {G G' : Nat → Nat} {E E' : Nat → ClassId} {A : Nat → Prop} {b L : Nat} {xs : Nat → Int32} {i : Nat} {X Y : cn_St} {H : Heap} {locs : List Loc} {ls : Array Slot} (hL2 : L ≤ 256) (C : cn_LC D E E' p s m #[Value.ref b] c) (hX : va_X b L xs s s.heap) (hbl : b < s.heap.size) (hbA : ¬ A b) (hi : i + 4 ≤ L) (hI : cn_Inv X Y) (hL : cn_L D G E G' E' A s.heap X Y H locs) (hl : cn_lx ls 4 [some (.ref b), some (.ref (G 11)), some (.ref (G' 7)), some (.int (nI i))])
    (hnext : ∀ (X Y : cn_St) (H : Heap) (locs : List Loc), cn_Inv X Y → cn_L D G E G' E' A s.heap X Y H locs → W p l e room_1 s m #[Value.ref b] below meth c H locs 12 828 (lw_Z below #[Value.ref b] s) (F0 m 460 ls [])) : W p l e room_1 s m #[Value.ref b] below meth c H locs 12 828 (lw_Z below #[Value.ref b] s) (F0 m 244 ls []) := by
  obtain ⟨hx, hb, hml, hown, hts, hK⟩ := id C
  obtain ⟨g, hg, hg0, he, hI1⟩ := pp_goal hI (xs (i + 1))
  refine lv_aload_n hx hb dL_law_244 rfl (lx_at hl 1 rfl) ?_
  refine lv_aload_n hx hb dL_law_245 rfl (lx_at hl 0 rfl) ?_
  refine lv_iload_n hx hb dL_law_246 rfl (lx_at hl 3 rfl) ?_
  refine lv_iconst (v := 1) hx hb dL_law_247 (by decide) ?_
  refine lv_iadd hx hb dL_law_248 ?_
  rw [nI_1 i]
  refine cn_sld hx hb hX hbl hbA hL (by omega) hL2 dL_law_249 ?_
  refine cn_lcx (rest := []) (xt_goal l D G E X (xs (i + 1)) g hg hg0) C hL (lx_sz hl) ⟨q138, q139, q140, q141⟩ (show yX0_goal.cls = RX0 ∧ yX0_goal.cls ≠ "java/lang/invoke/MethodHandle" ∧ yX0_goal.cls ≠ "java/lang/invoke/VarHandle" ∧ (parseMethodDescriptor yX0_goal.desc).map (fun d => d.parameters.length) = some 1 by decide +kernel) ⟨rfl, rfl⟩ ⟨by decide, by decide⟩ rfl (Nat.le_of_ble_eq_true rfl) ⟨by decide, by decide⟩ dL_law_250 (fun H locs hL => ?_)
  refine lv_aload_n hx hb dL_law_253 rfl (lx_at hl 2 rfl) ?_
  refine lv_aload_n hx hb dL_law_254 rfl (lx_at hl 0 rfl) ?_
  refine lv_iload_n hx hb dL_law_255 rfl (lx_at hl 3 rfl) ?_
  refine lv_iconst (v := 1) hx hb dL_law_256 (by decide) ?_
  refine lv_iadd hx hb dL_law_257 ?_
  rw [nI_1 i]
  refine cn_sld hx hb hX hbl hbA hL (by omega) hL2 dL_law_258 ?_
  refine cn_lcm (rest := [.int _]) (mt_goal l D G' E' Y (xs (i + 1)) ) C hL (lx_sz hl) ⟨q251, q252, q253, q254⟩ (show yX1_goal.cls = RX1 ∧ yX1_goal.cls ≠ "java/lang/invoke/MethodHandle" ∧ yX1_goal.cls ≠ "java/lang/invoke/VarHandle" ∧ (parseMethodDescriptor yX1_goal.desc).map (fun d => d.parameters.length) = some 1 by decide +kernel) ⟨rfl, rfl⟩ ⟨by decide, by decide⟩ rfl (Nat.le_of_ble_eq_true rfl) ⟨by decide, by decide⟩ dL_law_259 (fun H locs hL => ?_)
  refine lv_icmp_eq (tgt := 460) hx hb dL_law_262 (by decide) (fun _ => ?_) (fun h9 => absurd he h9)
  exact hnext _ _ _ _ hI1 hL
set_option maxHeartbeats 4000000 in
set_option maxRecDepth 100000 in
theorem law_blocked {p : Program} {l : Launch} {e : Env} {s : State} {m : MethodId} {below : List Frame} {meth : Method} {c : Code} {D : va_G} {G G' : Nat → Nat} {E E' : Nat → ClassId} {A : Nat → Prop} {b L : Nat} {xs : Nat → Int32} {i : Nat} {X Y : cn_St} {H : Heap} {locs : List Loc} {ls : Array Slot} (hL2 : L ≤ 256) (C : cn_LC D E E' p s m #[Value.ref b] c) (hX : va_X b L xs s s.heap) (hbl : b < s.heap.size) (hbA : ¬ A b) (hi : i + 4 ≤ L) (hI : cn_Inv X Y) (hL : cn_L D G E G' E' A s.heap X Y H locs) (hl : cn_lx ls 4 [some (.ref b), some (.ref (G 11)), some (.ref (G' 7)), some (.int (nI i))])
    (hnext : ∀ (X Y : cn_St) (H : Heap) (locs : List Loc), cn_Inv X Y → cn_L D G E G' E' A s.heap X Y H locs → W p l e room_1 s m #[Value.ref b] below meth c H locs 12 828 (lw_Z below #[Value.ref b] s) (F0 m 460 ls [])) : W p l e room_1 s m #[Value.ref b] below meth c H locs 12 828 (lw_Z below #[Value.ref b] s) (F0 m 267 ls []) := by
  obtain ⟨hx, hb, hml, hown, hts, hK⟩ := id C
  have he := pp_blocked hI (xs (i + 1))
  have hI1 := hI
  refine lv_aload_n hx hb dL_law_267 rfl (lx_at hl 1 rfl) ?_
  refine lv_aload_n hx hb dL_law_268 rfl (lx_at hl 0 rfl) ?_
  refine lv_iload_n hx hb dL_law_269 rfl (lx_at hl 3 rfl) ?_
  refine lv_iconst (v := 1) hx hb dL_law_270 (by decide) ?_
  refine lv_iadd hx hb dL_law_271 ?_
  rw [nI_1 i]
  refine cn_sld hx hb hX hbl hbA hL (by omega) hL2 dL_law_272 ?_
  refine cn_lcx (rest := []) (xt_blocked l D G E X (xs (i + 1)) ) C hL (lx_sz hl) ⟨q142, q143, q144, q145⟩ (show yX0_blocked.cls = RX0 ∧ yX0_blocked.cls ≠ "java/lang/invoke/MethodHandle" ∧ yX0_blocked.cls ≠ "java/lang/invoke/VarHandle" ∧ (parseMethodDescriptor yX0_blocked.desc).map (fun d => d.parameters.length) = some 1 by decide +kernel) ⟨rfl, rfl⟩ ⟨by decide, by decide⟩ rfl (Nat.le_of_ble_eq_true rfl) ⟨by decide, by decide⟩ dL_law_273 (fun H locs hL => ?_)
  refine lv_aload_n hx hb dL_law_276 rfl (lx_at hl 2 rfl) ?_
  refine lv_aload_n hx hb dL_law_277 rfl (lx_at hl 0 rfl) ?_
  refine lv_iload_n hx hb dL_law_278 rfl (lx_at hl 3 rfl) ?_
  refine lv_iconst (v := 1) hx hb dL_law_279 (by decide) ?_
  refine lv_iadd hx hb dL_law_280 ?_
  rw [nI_1 i]
  refine cn_sld hx hb hX hbl hbA hL (by omega) hL2 dL_law_281 ?_
  refine cn_lcm (rest := [.int _]) (mt_blocked l D G' E' Y (xs (i + 1)) ) C hL (lx_sz hl) ⟨q255, q256, q257, q258⟩ (show yX1_blocked.cls = RX1 ∧ yX1_blocked.cls ≠ "java/lang/invoke/MethodHandle" ∧ yX1_blocked.cls ≠ "java/lang/invoke/VarHandle" ∧ (parseMethodDescriptor yX1_blocked.desc).map (fun d => d.parameters.length) = some 1 by decide +kernel) ⟨rfl, rfl⟩ ⟨by decide, by decide⟩ rfl (Nat.le_of_ble_eq_true rfl) ⟨by decide, by decide⟩ dL_law_282 (fun H locs hL => ?_)
  refine lv_icmp_eq (tgt := 460) hx hb dL_law_285 (by decide) (fun _ => ?_) (fun h9 => absurd he h9)
  exact hnext _ _ _ _ hI1 hL
set_option maxHeartbeats 4000000 in
set_option maxRecDepth 100000 in
theorem law_clearance {p : Program} {l : Launch} {e : Env} {s : State} {m : MethodId} {below : List Frame} {meth : Method} {c : Code} {D : va_G} {G G' : Nat → Nat} {E E' : Nat → ClassId} {A : Nat → Prop} {b L : Nat} {xs : Nat → Int32} {i : Nat} {X Y : cn_St} {H : Heap} {locs : List Loc} {ls : Array Slot} (hL2 : L ≤ 256) (C : cn_LC D E E' p s m #[Value.ref b] c) (hX : va_X b L xs s s.heap) (hbl : b < s.heap.size) (hbA : ¬ A b) (hi : i + 4 ≤ L) (hI : cn_Inv X Y) (hL : cn_L D G E G' E' A s.heap X Y H locs) (hl : cn_lx ls 4 [some (.ref b), some (.ref (G 11)), some (.ref (G' 7)), some (.int (nI i))])
    (hnext : ∀ (X Y : cn_St) (H : Heap) (locs : List Loc), cn_Inv X Y → cn_L D G E G' E' A s.heap X Y H locs → W p l e room_1 s m #[Value.ref b] below meth c H locs 12 828 (lw_Z below #[Value.ref b] s) (F0 m 460 ls [])) : W p l e room_1 s m #[Value.ref b] below meth c H locs 12 828 (lw_Z below #[Value.ref b] s) (F0 m 290 ls []) := by
  obtain ⟨hx, hb, hml, hown, hts, hK⟩ := id C
  have he := pp_clear hI (xs (i + 1))
  have hI1 := hI
  refine lv_aload_n hx hb dL_law_290 rfl (lx_at hl 1 rfl) ?_
  refine lv_aload_n hx hb dL_law_291 rfl (lx_at hl 0 rfl) ?_
  refine lv_iload_n hx hb dL_law_292 rfl (lx_at hl 3 rfl) ?_
  refine lv_iconst (v := 1) hx hb dL_law_293 (by decide) ?_
  refine lv_iadd hx hb dL_law_294 ?_
  rw [nI_1 i]
  refine cn_sld hx hb hX hbl hbA hL (by omega) hL2 dL_law_295 ?_
  refine cn_lcx (rest := []) (xt_clearance l D G E X (xs (i + 1)) ) C hL (lx_sz hl) ⟨q146, q147, q148, q149⟩ (show yX0_clearance.cls = RX0 ∧ yX0_clearance.cls ≠ "java/lang/invoke/MethodHandle" ∧ yX0_clearance.cls ≠ "java/lang/invoke/VarHandle" ∧ (parseMethodDescriptor yX0_clearance.desc).map (fun d => d.parameters.length) = some 1 by decide +kernel) ⟨rfl, rfl⟩ ⟨by decide, by decide⟩ rfl (Nat.le_of_ble_eq_true rfl) ⟨by decide, by decide⟩ dL_law_296 (fun H locs hL => ?_)
  refine lv_aload_n hx hb dL_law_299 rfl (lx_at hl 2 rfl) ?_
  refine lv_aload_n hx hb dL_law_300 rfl (lx_at hl 0 rfl) ?_
  refine lv_iload_n hx hb dL_law_301 rfl (lx_at hl 3 rfl) ?_
  refine lv_iconst (v := 1) hx hb dL_law_302 (by decide) ?_
  refine lv_iadd hx hb dL_law_303 ?_
  rw [nI_1 i]
  refine cn_sld hx hb hX hbl hbA hL (by omega) hL2 dL_law_304 ?_
  refine cn_lcm (rest := [.int _]) (mt_clearance l D G' E' Y (xs (i + 1)) ) C hL (lx_sz hl) ⟨q259, q260, q261, q262⟩ (show yX1_clearance.cls = RX1 ∧ yX1_clearance.cls ≠ "java/lang/invoke/MethodHandle" ∧ yX1_clearance.cls ≠ "java/lang/invoke/VarHandle" ∧ (parseMethodDescriptor yX1_clearance.desc).map (fun d => d.parameters.length) = some 1 by decide +kernel) ⟨rfl, rfl⟩ ⟨by decide, by decide⟩ rfl (Nat.le_of_ble_eq_true rfl) ⟨by decide, by decide⟩ dL_law_305 (fun H locs hL => ?_)
  refine lv_icmp_eq (tgt := 460) hx hb dL_law_308 (by decide) (fun _ => ?_) (fun h9 => absurd he h9)
  exact hnext _ _ _ _ hI1 hL
set_option maxHeartbeats 4000000 in
set_option maxRecDepth 100000 in
theorem law_cost {p : Program} {l : Launch} {e : Env} {s : State} {m : MethodId} {below : List Frame} {meth : Method} {c : Code} {D : va_G} {G G' : Nat → Nat} {E E' : Nat → ClassId} {A : Nat → Prop} {b L : Nat} {xs : Nat → Int32} {i : Nat} {X Y : cn_St} {H : Heap} {locs : List Loc} {ls : Array Slot} (hL2 : L ≤ 256) (C : cn_LC D E E' p s m #[Value.ref b] c) (hX : va_X b L xs s s.heap) (hbl : b < s.heap.size) (hbA : ¬ A b) (hi : i + 4 ≤ L) (hI : cn_Inv X Y) (hL : cn_L D G E G' E' A s.heap X Y H locs) (hl : cn_lx ls 4 [some (.ref b), some (.ref (G 11)), some (.ref (G' 7)), some (.int (nI i))])
    (hnext : ∀ (X Y : cn_St) (H : Heap) (locs : List Loc), cn_Inv X Y → cn_L D G E G' E' A s.heap X Y H locs → W p l e room_1 s m #[Value.ref b] below meth c H locs 12 828 (lw_Z below #[Value.ref b] s) (F0 m 460 ls [])) : W p l e room_1 s m #[Value.ref b] below meth c H locs 12 828 (lw_Z below #[Value.ref b] s) (F0 m 313 ls []) := by
  obtain ⟨hx, hb, hml, hown, hts, hK⟩ := id C
  have he := pp_cost hI (xs (i + 1))
  have hI1 := hI
  refine lv_aload_n hx hb dL_law_313 rfl (lx_at hl 1 rfl) ?_
  refine lv_aload_n hx hb dL_law_314 rfl (lx_at hl 0 rfl) ?_
  refine lv_iload_n hx hb dL_law_315 rfl (lx_at hl 3 rfl) ?_
  refine lv_iconst (v := 1) hx hb dL_law_316 (by decide) ?_
  refine lv_iadd hx hb dL_law_317 ?_
  rw [nI_1 i]
  refine cn_sld hx hb hX hbl hbA hL (by omega) hL2 dL_law_318 ?_
  refine cn_lcx (rest := []) (xt_cost l D G E X (xs (i + 1)) ) C hL (lx_sz hl) ⟨q150, q151, q152, q153⟩ (show yX0_cost.cls = RX0 ∧ yX0_cost.cls ≠ "java/lang/invoke/MethodHandle" ∧ yX0_cost.cls ≠ "java/lang/invoke/VarHandle" ∧ (parseMethodDescriptor yX0_cost.desc).map (fun d => d.parameters.length) = some 1 by decide +kernel) ⟨rfl, rfl⟩ ⟨by decide, by decide⟩ rfl (Nat.le_of_ble_eq_true rfl) ⟨by decide, by decide⟩ dL_law_319 (fun H locs hL => ?_)
  refine lv_aload_n hx hb dL_law_322 rfl (lx_at hl 2 rfl) ?_
  refine lv_aload_n hx hb dL_law_323 rfl (lx_at hl 0 rfl) ?_
  refine lv_iload_n hx hb dL_law_324 rfl (lx_at hl 3 rfl) ?_
  refine lv_iconst (v := 1) hx hb dL_law_325 (by decide) ?_
  refine lv_iadd hx hb dL_law_326 ?_
  rw [nI_1 i]
  refine cn_sld hx hb hX hbl hbA hL (by omega) hL2 dL_law_327 ?_
  refine cn_lcm (rest := [.int _]) (mt_cost l D G' E' Y (xs (i + 1)) ) C hL (lx_sz hl) ⟨q263, q264, q265, q266⟩ (show yX1_cost.cls = RX1 ∧ yX1_cost.cls ≠ "java/lang/invoke/MethodHandle" ∧ yX1_cost.cls ≠ "java/lang/invoke/VarHandle" ∧ (parseMethodDescriptor yX1_cost.desc).map (fun d => d.parameters.length) = some 1 by decide +kernel) ⟨rfl, rfl⟩ ⟨by decide, by decide⟩ rfl (Nat.le_of_ble_eq_true rfl) ⟨by decide, by decide⟩ dL_law_328 (fun H locs hL => ?_)
  refine lv_icmp_eq (tgt := 460) hx hb dL_law_331 (by decide) (fun _ => ?_) (fun h9 => absurd he h9)
  exact hnext _ _ _ _ hI1 hL
set_option maxHeartbeats 4000000 in
set_option maxRecDepth 100000 in
theorem law_distance {p : Program} {l : Launch} {e : Env} {s : State} {m : MethodId} {below : List Frame} {meth : Method} {c : Code} {D : va_G} {G G' : Nat → Nat} {E E' : Nat → ClassId} {A : Nat → Prop} {b L : Nat} {xs : Nat → Int32} {i : Nat} {X Y : cn_St} {H : Heap} {locs : List Loc} {ls : Array Slot} (hL2 : L ≤ 256) (C : cn_LC D E E' p s m #[Value.ref b] c) (hX : va_X b L xs s s.heap) (hbl : b < s.heap.size) (hbA : ¬ A b) (hi : i + 4 ≤ L) (hI : cn_Inv X Y) (hL : cn_L D G E G' E' A s.heap X Y H locs) (hl : cn_lx ls 4 [some (.ref b), some (.ref (G 11)), some (.ref (G' 7)), some (.int (nI i))])
    (hnext : ∀ (X Y : cn_St) (H : Heap) (locs : List Loc), cn_Inv X Y → cn_L D G E G' E' A s.heap X Y H locs → W p l e room_1 s m #[Value.ref b] below meth c H locs 12 828 (lw_Z below #[Value.ref b] s) (F0 m 460 ls [])) : W p l e room_1 s m #[Value.ref b] below meth c H locs 12 828 (lw_Z below #[Value.ref b] s) (F0 m 336 ls []) := by
  obtain ⟨hx, hb, hml, hown, hts, hK⟩ := id C
  obtain ⟨r, hr, hr0, he, hI1⟩ := pp_dist hI 
  refine lv_aload_n hx hb dL_law_336 rfl (lx_at hl 1 rfl) ?_
  refine cn_lcx (rest := []) (xt_distance l D G E X  r hr hr0) C hL (lx_sz hl) ⟨q154, q155, q156, q157⟩ (show yX0_distance.cls = RX0 ∧ yX0_distance.cls ≠ "java/lang/invoke/MethodHandle" ∧ yX0_distance.cls ≠ "java/lang/invoke/VarHandle" ∧ (parseMethodDescriptor yX0_distance.desc).map (fun d => d.parameters.length) = some 0 by decide +kernel) ⟨rfl, rfl⟩ ⟨by decide, by decide⟩ rfl (Nat.le_of_ble_eq_true rfl) ⟨by decide, by decide⟩ dL_law_337 (fun H locs hL => ?_)
  refine lv_aload_n hx hb dL_law_340 rfl (lx_at hl 2 rfl) ?_
  refine cn_lcm (rest := [.int _]) (mt_distance l D G' E' Y  ) C hL (lx_sz hl) ⟨q268, q269, q270, q271⟩ (show yX1_distance.cls = RX1 ∧ yX1_distance.cls ≠ "java/lang/invoke/MethodHandle" ∧ yX1_distance.cls ≠ "java/lang/invoke/VarHandle" ∧ (parseMethodDescriptor yX1_distance.desc).map (fun d => d.parameters.length) = some 0 by decide +kernel) ⟨rfl, rfl⟩ ⟨by decide, by decide⟩ rfl (Nat.le_of_ble_eq_true rfl) ⟨by decide, by decide⟩ dL_law_341 (fun H locs hL => ?_)
  refine lv_icmp_eq (tgt := 460) hx hb dL_law_344 (by decide) (fun _ => ?_) (fun h9 => absurd he h9)
  exact hnext _ _ _ _ hI1 hL
set_option maxHeartbeats 4000000 in
set_option maxRecDepth 100000 in
theorem law_distanceFrom {p : Program} {l : Launch} {e : Env} {s : State} {m : MethodId} {below : List Frame} {meth : Method} {c : Code} {D : va_G} {G G' : Nat → Nat} {E E' : Nat → ClassId} {A : Nat → Prop} {b L : Nat} {xs : Nat → Int32} {i : Nat} {X Y : cn_St} {H : Heap} {locs : List Loc} {ls : Array Slot} (hL2 : L ≤ 256) (C : cn_LC D E E' p s m #[Value.ref b] c) (hX : va_X b L xs s s.heap) (hbl : b < s.heap.size) (hbA : ¬ A b) (hi : i + 4 ≤ L) (hI : cn_Inv X Y) (hL : cn_L D G E G' E' A s.heap X Y H locs) (hl : cn_lx ls 4 [some (.ref b), some (.ref (G 11)), some (.ref (G' 7)), some (.int (nI i))])
    (hnext : ∀ (X Y : cn_St) (H : Heap) (locs : List Loc), cn_Inv X Y → cn_L D G E G' E' A s.heap X Y H locs → W p l e room_1 s m #[Value.ref b] below meth c H locs 12 828 (lw_Z below #[Value.ref b] s) (F0 m 460 ls [])) : W p l e room_1 s m #[Value.ref b] below meth c H locs 12 828 (lw_Z below #[Value.ref b] s) (F0 m 349 ls []) := by
  obtain ⟨hx, hb, hml, hown, hts, hK⟩ := id C
  obtain ⟨he, hI1⟩ := pp_distF hI (xs (i + 1))
  refine lv_aload_n hx hb dL_law_349 rfl (lx_at hl 1 rfl) ?_
  refine lv_aload_n hx hb dL_law_350 rfl (lx_at hl 0 rfl) ?_
  refine lv_iload_n hx hb dL_law_351 rfl (lx_at hl 3 rfl) ?_
  refine lv_iconst (v := 1) hx hb dL_law_352 (by decide) ?_
  refine lv_iadd hx hb dL_law_353 ?_
  rw [nI_1 i]
  refine cn_sld hx hb hX hbl hbA hL (by omega) hL2 dL_law_354 ?_
  refine cn_lcx (rest := []) (xt_distanceFrom l D G E X (xs (i + 1)) ) C hL (lx_sz hl) ⟨q171, q172, q173, q174⟩ (show yX0_distanceFrom.cls = RX0 ∧ yX0_distanceFrom.cls ≠ "java/lang/invoke/MethodHandle" ∧ yX0_distanceFrom.cls ≠ "java/lang/invoke/VarHandle" ∧ (parseMethodDescriptor yX0_distanceFrom.desc).map (fun d => d.parameters.length) = some 1 by decide +kernel) ⟨rfl, rfl⟩ ⟨by decide, by decide⟩ rfl (Nat.le_of_ble_eq_true rfl) ⟨by decide, by decide⟩ dL_law_355 (fun H locs hL => ?_)
  refine lv_aload_n hx hb dL_law_358 rfl (lx_at hl 2 rfl) ?_
  refine lv_aload_n hx hb dL_law_359 rfl (lx_at hl 0 rfl) ?_
  refine lv_iload_n hx hb dL_law_360 rfl (lx_at hl 3 rfl) ?_
  refine lv_iconst (v := 1) hx hb dL_law_361 (by decide) ?_
  refine lv_iadd hx hb dL_law_362 ?_
  rw [nI_1 i]
  refine cn_sld hx hb hX hbl hbA hL (by omega) hL2 dL_law_363 ?_
  refine cn_lcm (rest := [.int _]) (mt_distanceFrom l D G' E' Y (xs (i + 1)) ) C hL (lx_sz hl) ⟨q290, q273, q274, q275⟩ (show yX1_distanceFrom.cls = RX1 ∧ yX1_distanceFrom.cls ≠ "java/lang/invoke/MethodHandle" ∧ yX1_distanceFrom.cls ≠ "java/lang/invoke/VarHandle" ∧ (parseMethodDescriptor yX1_distanceFrom.desc).map (fun d => d.parameters.length) = some 1 by decide +kernel) ⟨rfl, rfl⟩ ⟨by decide, by decide⟩ rfl (Nat.le_of_ble_eq_true rfl) ⟨by decide, by decide⟩ dL_law_364 (fun H locs hL => ?_)
  refine lv_icmp_eq (tgt := 460) hx hb dL_law_367 (by decide) (fun _ => ?_) (fun h9 => absurd he h9)
  exact hnext _ _ _ _ hI1 hL
set_option maxHeartbeats 4000000 in
set_option maxRecDepth 100000 in
theorem law_next {p : Program} {l : Launch} {e : Env} {s : State} {m : MethodId} {below : List Frame} {meth : Method} {c : Code} {D : va_G} {G G' : Nat → Nat} {E E' : Nat → ClassId} {A : Nat → Prop} {b L : Nat} {xs : Nat → Int32} {i : Nat} {X Y : cn_St} {H : Heap} {locs : List Loc} {ls : Array Slot} (hL2 : L ≤ 256) (C : cn_LC D E E' p s m #[Value.ref b] c) (hX : va_X b L xs s s.heap) (hbl : b < s.heap.size) (hbA : ¬ A b) (hi : i + 4 ≤ L) (hI : cn_Inv X Y) (hL : cn_L D G E G' E' A s.heap X Y H locs) (hl : cn_lx ls 4 [some (.ref b), some (.ref (G 11)), some (.ref (G' 7)), some (.int (nI i))])
    (hnext : ∀ (X Y : cn_St) (H : Heap) (locs : List Loc), cn_Inv X Y → cn_L D G E G' E' A s.heap X Y H locs → W p l e room_1 s m #[Value.ref b] below meth c H locs 12 828 (lw_Z below #[Value.ref b] s) (F0 m 460 ls [])) : W p l e room_1 s m #[Value.ref b] below meth c H locs 12 828 (lw_Z below #[Value.ref b] s) (F0 m 372 ls []) := by
  obtain ⟨hx, hb, hml, hown, hts, hK⟩ := id C
  obtain ⟨r, hr, hr0, hr1, he, hI1⟩ := pp_next hI 
  refine lv_aload_n hx hb dL_law_372 rfl (lx_at hl 1 rfl) ?_
  refine cn_lcx (rest := []) (xt_next l D G E X  r hr hr0) C hL (lx_sz hl) ⟨q175, q176, q177, q178⟩ (show yX0_next.cls = RX0 ∧ yX0_next.cls ≠ "java/lang/invoke/MethodHandle" ∧ yX0_next.cls ≠ "java/lang/invoke/VarHandle" ∧ (parseMethodDescriptor yX0_next.desc).map (fun d => d.parameters.length) = some 0 by decide +kernel) ⟨rfl, rfl⟩ ⟨by decide, by decide⟩ rfl (Nat.le_of_ble_eq_true rfl) ⟨by decide, by decide⟩ dL_law_373 (fun H locs hL => ?_)
  refine lv_aload_n hx hb dL_law_376 rfl (lx_at hl 2 rfl) ?_
  refine cn_lcm (rest := [.int _]) (mt_next l D G' E' Y  r hr hr1) C hL (lx_sz hl) ⟨q291, q292, q293, q294⟩ (show yX1_next.cls = RX1 ∧ yX1_next.cls ≠ "java/lang/invoke/MethodHandle" ∧ yX1_next.cls ≠ "java/lang/invoke/VarHandle" ∧ (parseMethodDescriptor yX1_next.desc).map (fun d => d.parameters.length) = some 0 by decide +kernel) ⟨rfl, rfl⟩ ⟨by decide, by decide⟩ rfl (Nat.le_of_ble_eq_true rfl) ⟨by decide, by decide⟩ dL_law_377 (fun H locs hL => ?_)
  refine lv_icmp_eq (tgt := 460) hx hb dL_law_380 (by decide) (fun _ => ?_) (fun h9 => absurd he h9)
  exact hnext _ _ _ _ hI1 hL
set_option maxHeartbeats 4000000 in
set_option maxRecDepth 100000 in
theorem law_drive {p : Program} {l : Launch} {e : Env} {s : State} {m : MethodId} {below : List Frame} {meth : Method} {c : Code} {D : va_G} {G G' : Nat → Nat} {E E' : Nat → ClassId} {A : Nat → Prop} {b L : Nat} {xs : Nat → Int32} {i : Nat} {X Y : cn_St} {H : Heap} {locs : List Loc} {ls : Array Slot} (hL2 : L ≤ 256) (C : cn_LC D E E' p s m #[Value.ref b] c) (hX : va_X b L xs s s.heap) (hbl : b < s.heap.size) (hbA : ¬ A b) (hi : i + 4 ≤ L) (hI : cn_Inv X Y) (hL : cn_L D G E G' E' A s.heap X Y H locs) (hl : cn_lx ls 4 [some (.ref b), some (.ref (G 11)), some (.ref (G' 7)), some (.int (nI i))])
    (hnext : ∀ (X Y : cn_St) (H : Heap) (locs : List Loc), cn_Inv X Y → cn_L D G E G' E' A s.heap X Y H locs → W p l e room_1 s m #[Value.ref b] below meth c H locs 12 828 (lw_Z below #[Value.ref b] s) (F0 m 460 ls [])) : W p l e room_1 s m #[Value.ref b] below meth c H locs 12 828 (lw_Z below #[Value.ref b] s) (F0 m 385 ls []) := by
  obtain ⟨hx, hb, hml, hown, hts, hK⟩ := id C
  obtain ⟨r, hr, hr0, hr1, he, hI1⟩ := pp_drive hI (xs (i + 1))
  refine lv_aload_n hx hb dL_law_385 rfl (lx_at hl 1 rfl) ?_
  refine lv_aload_n hx hb dL_law_386 rfl (lx_at hl 0 rfl) ?_
  refine lv_iload_n hx hb dL_law_387 rfl (lx_at hl 3 rfl) ?_
  refine lv_iconst (v := 1) hx hb dL_law_388 (by decide) ?_
  refine lv_iadd hx hb dL_law_389 ?_
  rw [nI_1 i]
  refine cn_sld hx hb hX hbl hbA hL (by omega) hL2 dL_law_390 ?_
  refine cn_lcx (rest := []) (xt_drive l D G E X (xs (i + 1)) r hr hr0) C hL (lx_sz hl) ⟨q183, q184, q185, q186⟩ (show yX0_drive.cls = RX0 ∧ yX0_drive.cls ≠ "java/lang/invoke/MethodHandle" ∧ yX0_drive.cls ≠ "java/lang/invoke/VarHandle" ∧ (parseMethodDescriptor yX0_drive.desc).map (fun d => d.parameters.length) = some 1 by decide +kernel) ⟨rfl, rfl⟩ ⟨by decide, by decide⟩ rfl (Nat.le_of_ble_eq_true rfl) ⟨by decide, by decide⟩ dL_law_391 (fun H locs hL => ?_)
  refine lv_aload_n hx hb dL_law_394 rfl (lx_at hl 2 rfl) ?_
  refine lv_aload_n hx hb dL_law_395 rfl (lx_at hl 0 rfl) ?_
  refine lv_iload_n hx hb dL_law_396 rfl (lx_at hl 3 rfl) ?_
  refine lv_iconst (v := 1) hx hb dL_law_397 (by decide) ?_
  refine lv_iadd hx hb dL_law_398 ?_
  rw [nI_1 i]
  refine cn_sld hx hb hX hbl hbA hL (by omega) hL2 dL_law_399 ?_
  refine cn_lcm (rest := [.int _]) (mt_drive l D G' E' Y (xs (i + 1)) r hr hr1) C hL (lx_sz hl) ⟨q299, q300, q301, q302⟩ (show yX1_drive.cls = RX1 ∧ yX1_drive.cls ≠ "java/lang/invoke/MethodHandle" ∧ yX1_drive.cls ≠ "java/lang/invoke/VarHandle" ∧ (parseMethodDescriptor yX1_drive.desc).map (fun d => d.parameters.length) = some 1 by decide +kernel) ⟨rfl, rfl⟩ ⟨by decide, by decide⟩ rfl (Nat.le_of_ble_eq_true rfl) ⟨by decide, by decide⟩ dL_law_400 (fun H locs hL => ?_)
  refine lv_icmp_eq (tgt := 460) hx hb dL_law_403 (by decide) (fun _ => ?_) (fun h9 => absurd he h9)
  exact hnext _ _ _ _ hI1 hL
set_option maxHeartbeats 4000000 in
set_option maxRecDepth 100000 in
theorem law_where {p : Program} {l : Launch} {e : Env} {s : State} {m : MethodId} {below : List Frame} {meth : Method} {c : Code} {D : va_G} {G G' : Nat → Nat} {E E' : Nat → ClassId} {A : Nat → Prop} {b L : Nat} {xs : Nat → Int32} {i : Nat} {X Y : cn_St} {H : Heap} {locs : List Loc} {ls : Array Slot} (hL2 : L ≤ 256) (C : cn_LC D E E' p s m #[Value.ref b] c) (hX : va_X b L xs s s.heap) (hbl : b < s.heap.size) (hbA : ¬ A b) (hi : i + 4 ≤ L) (hI : cn_Inv X Y) (hL : cn_L D G E G' E' A s.heap X Y H locs) (hl : cn_lx ls 4 [some (.ref b), some (.ref (G 11)), some (.ref (G' 7)), some (.int (nI i))])
    (hnext : ∀ (X Y : cn_St) (H : Heap) (locs : List Loc), cn_Inv X Y → cn_L D G E G' E' A s.heap X Y H locs → W p l e room_1 s m #[Value.ref b] below meth c H locs 12 828 (lw_Z below #[Value.ref b] s) (F0 m 460 ls [])) : W p l e room_1 s m #[Value.ref b] below meth c H locs 12 828 (lw_Z below #[Value.ref b] s) (F0 m 408 ls []) := by
  obtain ⟨hx, hb, hml, hown, hts, hK⟩ := id C
  have he := pp_where hI 
  have hI1 := hI
  refine lv_aload_n hx hb dL_law_408 rfl (lx_at hl 1 rfl) ?_
  refine cn_lcx (rest := []) (xt_where l D G E X  ) C hL (lx_sz hl) ⟨q187, q188, q189, q190⟩ (show yX0_where.cls = RX0 ∧ yX0_where.cls ≠ "java/lang/invoke/MethodHandle" ∧ yX0_where.cls ≠ "java/lang/invoke/VarHandle" ∧ (parseMethodDescriptor yX0_where.desc).map (fun d => d.parameters.length) = some 0 by decide +kernel) ⟨rfl, rfl⟩ ⟨by decide, by decide⟩ rfl (Nat.le_of_ble_eq_true rfl) ⟨by decide, by decide⟩ dL_law_409 (fun H locs hL => ?_)
  refine lv_aload_n hx hb dL_law_412 rfl (lx_at hl 2 rfl) ?_
  refine cn_lcm (rest := [.int _]) (mt_where l D G' E' Y  ) C hL (lx_sz hl) ⟨q303, q304, q305, q306⟩ (show yX1_where.cls = RX1 ∧ yX1_where.cls ≠ "java/lang/invoke/MethodHandle" ∧ yX1_where.cls ≠ "java/lang/invoke/VarHandle" ∧ (parseMethodDescriptor yX1_where.desc).map (fun d => d.parameters.length) = some 0 by decide +kernel) ⟨rfl, rfl⟩ ⟨by decide, by decide⟩ rfl (Nat.le_of_ble_eq_true rfl) ⟨by decide, by decide⟩ dL_law_413 (fun H locs hL => ?_)
  refine lv_icmp_eq (tgt := 460) hx hb dL_law_416 (by decide) (fun _ => ?_) (fun h9 => absurd he h9)
  exact hnext _ _ _ _ hI1 hL
set_option maxHeartbeats 4000000 in
set_option maxRecDepth 100000 in
theorem law_moves {p : Program} {l : Launch} {e : Env} {s : State} {m : MethodId} {below : List Frame} {meth : Method} {c : Code} {D : va_G} {G G' : Nat → Nat} {E E' : Nat → ClassId} {A : Nat → Prop} {b L : Nat} {xs : Nat → Int32} {i : Nat} {X Y : cn_St} {H : Heap} {locs : List Loc} {ls : Array Slot} (hL2 : L ≤ 256) (C : cn_LC D E E' p s m #[Value.ref b] c) (hX : va_X b L xs s s.heap) (hbl : b < s.heap.size) (hbA : ¬ A b) (hi : i + 4 ≤ L) (hI : cn_Inv X Y) (hL : cn_L D G E G' E' A s.heap X Y H locs) (hl : cn_lx ls 4 [some (.ref b), some (.ref (G 11)), some (.ref (G' 7)), some (.int (nI i))])
    (hnext : ∀ (X Y : cn_St) (H : Heap) (locs : List Loc), cn_Inv X Y → cn_L D G E G' E' A s.heap X Y H locs → W p l e room_1 s m #[Value.ref b] below meth c H locs 12 828 (lw_Z below #[Value.ref b] s) (F0 m 460 ls [])) : W p l e room_1 s m #[Value.ref b] below meth c H locs 12 828 (lw_Z below #[Value.ref b] s) (F0 m 421 ls []) := by
  obtain ⟨hx, hb, hml, hown, hts, hK⟩ := id C
  obtain ⟨r, P, hr, hr0, hr1, hP0, hPs, he, hI1⟩ := pp_moves hI 
  refine lv_aload_n hx hb dL_law_421 rfl (lx_at hl 1 rfl) ?_
  refine cn_lcx (rest := []) (xt_moves l D G E X  r hr hr0) C hL (lx_sz hl) ⟨q191, q192, q193, q194⟩ (show yX0_moves.cls = RX0 ∧ yX0_moves.cls ≠ "java/lang/invoke/MethodHandle" ∧ yX0_moves.cls ≠ "java/lang/invoke/VarHandle" ∧ (parseMethodDescriptor yX0_moves.desc).map (fun d => d.parameters.length) = some 0 by decide +kernel) ⟨rfl, rfl⟩ ⟨by decide, by decide⟩ rfl (Nat.le_of_ble_eq_true rfl) ⟨by decide, by decide⟩ dL_law_422 (fun H locs hL => ?_)
  refine lv_aload_n hx hb dL_law_425 rfl (lx_at hl 2 rfl) ?_
  refine cn_lcm (rest := [.int _]) (mt_moves l D G' E' Y  r P hr hr1 hP0 hPs) C hL (lx_sz hl) ⟨q307, q308, q309, q310⟩ (show yX1_moves.cls = RX1 ∧ yX1_moves.cls ≠ "java/lang/invoke/MethodHandle" ∧ yX1_moves.cls ≠ "java/lang/invoke/VarHandle" ∧ (parseMethodDescriptor yX1_moves.desc).map (fun d => d.parameters.length) = some 0 by decide +kernel) ⟨rfl, rfl⟩ ⟨by decide, by decide⟩ rfl (Nat.le_of_ble_eq_true rfl) ⟨by decide, by decide⟩ dL_law_426 (fun H locs hL => ?_)
  refine lv_icmp_eq (tgt := 460) hx hb dL_law_429 (by decide) (fun _ => ?_) (fun h9 => absurd he h9)
  exact hnext _ _ _ _ hI1 hL
set_option maxHeartbeats 4000000 in
set_option maxRecDepth 100000 in
theorem law_reached {p : Program} {l : Launch} {e : Env} {s : State} {m : MethodId} {below : List Frame} {meth : Method} {c : Code} {D : va_G} {G G' : Nat → Nat} {E E' : Nat → ClassId} {A : Nat → Prop} {b L : Nat} {xs : Nat → Int32} {i : Nat} {X Y : cn_St} {H : Heap} {locs : List Loc} {ls : Array Slot} (hL2 : L ≤ 256) (C : cn_LC D E E' p s m #[Value.ref b] c) (hX : va_X b L xs s s.heap) (hbl : b < s.heap.size) (hbA : ¬ A b) (hi : i + 4 ≤ L) (hI : cn_Inv X Y) (hL : cn_L D G E G' E' A s.heap X Y H locs) (hl : cn_lx ls 4 [some (.ref b), some (.ref (G 11)), some (.ref (G' 7)), some (.int (nI i))])
    (hnext : ∀ (X Y : cn_St) (H : Heap) (locs : List Loc), cn_Inv X Y → cn_L D G E G' E' A s.heap X Y H locs → W p l e room_1 s m #[Value.ref b] below meth c H locs 12 828 (lw_Z below #[Value.ref b] s) (F0 m 460 ls [])) : W p l e room_1 s m #[Value.ref b] below meth c H locs 12 828 (lw_Z below #[Value.ref b] s) (F0 m 434 ls []) := by
  obtain ⟨hx, hb, hml, hown, hts, hK⟩ := id C
  obtain ⟨he, hI1⟩ := pp_reached hI 
  refine lv_aload_n hx hb dL_law_434 rfl (lx_at hl 1 rfl) ?_
  refine cn_lcx (rest := []) (xt_reached l D G E X  ) C hL (lx_sz hl) ⟨q195, q196, q197, q198⟩ (show yX0_reached.cls = RX0 ∧ yX0_reached.cls ≠ "java/lang/invoke/MethodHandle" ∧ yX0_reached.cls ≠ "java/lang/invoke/VarHandle" ∧ (parseMethodDescriptor yX0_reached.desc).map (fun d => d.parameters.length) = some 0 by decide +kernel) ⟨rfl, rfl⟩ ⟨by decide, by decide⟩ rfl (Nat.le_of_ble_eq_true rfl) ⟨by decide, by decide⟩ dL_law_435 (fun H locs hL => ?_)
  refine lv_aload_n hx hb dL_law_438 rfl (lx_at hl 2 rfl) ?_
  refine cn_lcm (rest := [.int _]) (mt_reached l D G' E' Y  ) C hL (lx_sz hl) ⟨q311, q312, q313, q314⟩ (show yX1_reached.cls = RX1 ∧ yX1_reached.cls ≠ "java/lang/invoke/MethodHandle" ∧ yX1_reached.cls ≠ "java/lang/invoke/VarHandle" ∧ (parseMethodDescriptor yX1_reached.desc).map (fun d => d.parameters.length) = some 0 by decide +kernel) ⟨rfl, rfl⟩ ⟨by decide, by decide⟩ rfl (Nat.le_of_ble_eq_true rfl) ⟨by decide, by decide⟩ dL_law_439 (fun H locs hL => ?_)
  refine lv_icmp_eq (tgt := 460) hx hb dL_law_442 (by decide) (fun _ => ?_) (fun h9 => absurd he h9)
  exact hnext _ _ _ _ hI1 hL
set_option maxHeartbeats 4000000 in
set_option maxRecDepth 100000 in
theorem law_farthest {p : Program} {l : Launch} {e : Env} {s : State} {m : MethodId} {below : List Frame} {meth : Method} {c : Code} {D : va_G} {G G' : Nat → Nat} {E E' : Nat → ClassId} {A : Nat → Prop} {b L : Nat} {xs : Nat → Int32} {i : Nat} {X Y : cn_St} {H : Heap} {locs : List Loc} {ls : Array Slot} (hL2 : L ≤ 256) (C : cn_LC D E E' p s m #[Value.ref b] c) (hX : va_X b L xs s s.heap) (hbl : b < s.heap.size) (hbA : ¬ A b) (hi : i + 4 ≤ L) (hI : cn_Inv X Y) (hL : cn_L D G E G' E' A s.heap X Y H locs) (hl : cn_lx ls 4 [some (.ref b), some (.ref (G 11)), some (.ref (G' 7)), some (.int (nI i))])
    (hnext : ∀ (X Y : cn_St) (H : Heap) (locs : List Loc), cn_Inv X Y → cn_L D G E G' E' A s.heap X Y H locs → W p l e room_1 s m #[Value.ref b] below meth c H locs 12 828 (lw_Z below #[Value.ref b] s) (F0 m 460 ls [])) : W p l e room_1 s m #[Value.ref b] below meth c H locs 12 828 (lw_Z below #[Value.ref b] s) (F0 m 447 ls []) := by
  obtain ⟨hx, hb, hml, hown, hts, hK⟩ := id C
  obtain ⟨he, hI1⟩ := pp_far hI 
  refine lv_aload_n hx hb dL_law_447 rfl (lx_at hl 1 rfl) ?_
  refine cn_lcx (rest := []) (xt_farthest l D G E X  ) C hL (lx_sz hl) ⟨q199, q200, q201, q202⟩ (show yX0_farthest.cls = RX0 ∧ yX0_farthest.cls ≠ "java/lang/invoke/MethodHandle" ∧ yX0_farthest.cls ≠ "java/lang/invoke/VarHandle" ∧ (parseMethodDescriptor yX0_farthest.desc).map (fun d => d.parameters.length) = some 0 by decide +kernel) ⟨rfl, rfl⟩ ⟨by decide, by decide⟩ rfl (Nat.le_of_ble_eq_true rfl) ⟨by decide, by decide⟩ dL_law_448 (fun H locs hL => ?_)
  refine lv_aload_n hx hb dL_law_451 rfl (lx_at hl 2 rfl) ?_
  refine cn_lcm (rest := [.int _]) (mt_farthest l D G' E' Y  ) C hL (lx_sz hl) ⟨q315, q316, q317, q318⟩ (show yX1_farthest.cls = RX1 ∧ yX1_farthest.cls ≠ "java/lang/invoke/MethodHandle" ∧ yX1_farthest.cls ≠ "java/lang/invoke/VarHandle" ∧ (parseMethodDescriptor yX1_farthest.desc).map (fun d => d.parameters.length) = some 0 by decide +kernel) ⟨rfl, rfl⟩ ⟨by decide, by decide⟩ rfl (Nat.le_of_ble_eq_true rfl) ⟨by decide, by decide⟩ dL_law_452 (fun H locs hL => ?_)
  refine lv_icmp_eq (tgt := 460) hx hb dL_law_455 (by decide) (fun _ => ?_) (fun h9 => absurd he h9)
  exact hnext _ _ _ _ hI1 hL
set_option maxHeartbeats 4000000 in
set_option maxRecDepth 100000 in
theorem law_loop {p : Program} {l : Launch} {e : Env} {s : State} {m : MethodId} {below : List Frame} {meth : Method} {c : Code} {D : va_G} {G G' : Nat → Nat} {E E' : Nat → ClassId} {b L : Nat} {xs : Nat → Int32} (hL2 : L ≤ 256) (C0 : lw_At p s m meth c b L xs) (C : cn_LC D E E' p s m #[Value.ref b] c) :
    ∀ (n i : Nat) (X Y : cn_St) (H : Heap) (locs : List Loc) (ls : Array Slot), i < 2 ^ 20 → L + 4 ≤ i + n → cn_Inv X Y → cn_L D G E G' E' (fun q : Nat => s.heap.size ≤ q) s.heap X Y H locs → cn_lx ls 4 [some (.ref b), some (.ref (G 11)), some (.ref (G' 7)), some (.int (nI i))] → W p l e room_1 s m #[Value.ref b] below meth c H locs 12 828 (lw_Z below #[Value.ref b] s) (F0 m 18 ls []) := by
  obtain ⟨hx, hb, hr, hml, hown, hts0, hX, hbl, hlocks, hgv⟩ := C0
  have hbA : ¬ (fun q : Nat => s.heap.size ≤ q) b := Nat.not_le.mpr hbl
  intro n
  induction n with
  | zero =>
    intro i X Y H locs ls hi20 hin hI hL hl
    refine lv_iload_n hx hb dL_law_18 rfl (lx_at hl 3 rfl) ?_
    refine lv_aload_n hx hb dL_law_19 rfl (lx_at hl 0 rfl) ?_
    refine va_slen hx hb hX hbl hbA hL.2.2.1 dL_law_20 ?_
    refine lv_iconst (v := 4) hx hb dL_law_21 (by decide) ?_
    refine lv_isub hx hb dL_law_22 ?_
    refine lv_icmp_gt (tgt := 466) hx hb dL_law_23 (by decide) (fun c23 => ?_) (fun c23 => absurd (cn_le4 hi20 hL2 c23) (by omega))
    refine lv_iconst (v := 1) hx hb dL_law_466 (by decide) ?_
    refine va_forget (fun q hq => hL.2.2.1.2.2 q hq) ?_
    refine W.widen (k := 600000) (n := 7290000) (by decide) (by decide) ?_
    exact lw_ret hx hb hr hlocks dL_law_467
  | succ n ih =>
    intro i X Y H locs ls hi20 hin hI hL hl
    refine lv_iload_n hx hb dL_law_18 rfl (lx_at hl 3 rfl) ?_
    refine lv_aload_n hx hb dL_law_19 rfl (lx_at hl 0 rfl) ?_
    refine va_slen hx hb hX hbl hbA hL.2.2.1 dL_law_20 ?_
    refine lv_iconst (v := 4) hx hb dL_law_21 (by decide) ?_
    refine lv_isub hx hb dL_law_22 ?_
    refine lv_icmp_gt (tgt := 466) hx hb dL_law_23 (by decide) (fun c23 => ?_) (fun c23 => ?_)
    · refine lv_iconst (v := 1) hx hb dL_law_466 (by decide) ?_
      refine va_forget (fun q hq => hL.2.2.1.2.2 q hq) ?_
      refine W.widen (k := 600000) (n := 7290000) (by decide) (by decide) ?_
      exact lw_ret hx hb hr hlocks dL_law_467
    · have hi4 := cn_le4 hi20 hL2 c23
      have hnext : ∀ (X Y : cn_St) (H : Heap) (locs : List Loc), cn_Inv X Y → cn_L D G E G' E' (fun q : Nat => s.heap.size ≤ q) s.heap X Y H locs → W p l e room_1 s m #[Value.ref b] below meth c H locs 12 828 (lw_Z below #[Value.ref b] s) (F0 m 460 ls []) := by
        intro X Y H locs hI hL
        refine lx_iinc hx hb dL_law_460 hl rfl (cn_i4 i) (fun ls hl => ?_)
        refine lv_goto (tgt := 18) hx hb dL_law_463 (by decide) ?_
        exact ih (i + 4) X Y H locs ls (by omega) (by omega) hI hL hl
      refine lv_aload_n hx hb dL_law_26 rfl (lx_at hl 0 rfl) ?_
      refine lv_iload_n hx hb dL_law_27 rfl (lx_at hl 3 rfl) ?_
      refine cn_sld hx hb hX hbl hbA hL (by omega) hL2 dL_law_28 ?_
      refine lv_bipush (v := 15) hx hb dL_law_29 (by decide) ?_
      refine lv_iand hx hb dL_law_31 ?_
      obtain ⟨k, hk, ek⟩ := pk_andE (xs i) (m := 15) 4 (by decide)
      rw [ek]
      have hk : k < 16 := hk
      have ht : (nI k).toInt = (k : Int) := nI_toInt (by omega)
      rcases (show k = 0 ∨ k = 1 ∨ k = 2 ∨ k = 3 ∨ k = 4 ∨ k = 5 ∨ k = 6 ∨ k = 7 ∨ k = 8 ∨ k = 9 ∨ k = 10 ∨ k = 11 ∨ k = 12 ∨ k = 13 ∨ k = 14 ∨ k = 15 by omega) with rfl | rfl | rfl | rfl | rfl | rfl | rfl | rfl | rfl | rfl | rfl | rfl | rfl | rfl | rfl | rfl
      · refine lv_tableIn (tgt := 112) (off := 80) hx hb dL_law_32 (by decide) (by decide) (by decide) (by decide) ?_
        exact law_block hL2 C hX hbl hbA hi4 hI hL hl hnext
      · refine lv_tableIn (tgt := 145) (off := 113) hx hb dL_law_32 (by decide) (by decide) (by decide) (by decide) ?_
        exact law_wall hL2 C hX hbl hbA hi4 hI hL hl hnext
      · refine lv_tableIn (tgt := 188) (off := 156) hx hb dL_law_32 (by decide) (by decide) (by decide) (by decide) ?_
        exact law_tune hL2 C hX hbl hbA hi4 hI hL hl hnext
      · refine lv_tableIn (tgt := 221) (off := 189) hx hb dL_law_32 (by decide) (by decide) (by decide) (by decide) ?_
        exact law_place hL2 C hX hbl hbA hi4 hI hL hl hnext
      · refine lv_tableIn (tgt := 244) (off := 212) hx hb dL_law_32 (by decide) (by decide) (by decide) (by decide) ?_
        exact law_goal hL2 C hX hbl hbA hi4 hI hL hl hnext
      · refine lv_tableIn (tgt := 267) (off := 235) hx hb dL_law_32 (by decide) (by decide) (by decide) (by decide) ?_
        exact law_blocked hL2 C hX hbl hbA hi4 hI hL hl hnext
      · refine lv_tableIn (tgt := 290) (off := 258) hx hb dL_law_32 (by decide) (by decide) (by decide) (by decide) ?_
        exact law_clearance hL2 C hX hbl hbA hi4 hI hL hl hnext
      · refine lv_tableIn (tgt := 313) (off := 281) hx hb dL_law_32 (by decide) (by decide) (by decide) (by decide) ?_
        exact law_cost hL2 C hX hbl hbA hi4 hI hL hl hnext
      · refine lv_tableIn (tgt := 336) (off := 304) hx hb dL_law_32 (by decide) (by decide) (by decide) (by decide) ?_
        exact law_distance hL2 C hX hbl hbA hi4 hI hL hl hnext
      · refine lv_tableIn (tgt := 349) (off := 317) hx hb dL_law_32 (by decide) (by decide) (by decide) (by decide) ?_
        exact law_distanceFrom hL2 C hX hbl hbA hi4 hI hL hl hnext
      · refine lv_tableIn (tgt := 372) (off := 340) hx hb dL_law_32 (by decide) (by decide) (by decide) (by decide) ?_
        exact law_next hL2 C hX hbl hbA hi4 hI hL hl hnext
      · refine lv_tableIn (tgt := 385) (off := 353) hx hb dL_law_32 (by decide) (by decide) (by decide) (by decide) ?_
        exact law_drive hL2 C hX hbl hbA hi4 hI hL hl hnext
      · refine lv_tableIn (tgt := 408) (off := 376) hx hb dL_law_32 (by decide) (by decide) (by decide) (by decide) ?_
        exact law_where hL2 C hX hbl hbA hi4 hI hL hl hnext
      · refine lv_tableIn (tgt := 421) (off := 389) hx hb dL_law_32 (by decide) (by decide) (by decide) (by decide) ?_
        exact law_moves hL2 C hX hbl hbA hi4 hI hL hl hnext
      · refine lv_tableIn (tgt := 434) (off := 402) hx hb dL_law_32 (by decide) (by decide) (by decide) (by decide) ?_
        exact law_reached hL2 C hX hbl hbA hi4 hI hL hl hnext
      · refine lv_tableIn (tgt := 447) (off := 415) hx hb dL_law_32 (by decide) (by decide) (by decide) (by decide) ?_
        exact law_farthest hL2 C hX hbl hbA hi4 hI hL hl hnext
set_option maxHeartbeats 4000000 in
set_option maxRecDepth 100000 in
theorem whole_start {p : Program} {e : Env} {s : State} {m : MethodId} {below : List Frame} {meth : Method} {c : Code} (l : Launch) {b L : Nat} {xs : Nat → Int32} (hL : L ≤ 256) (C0 : lw_At p s m meth c b L xs) : W p l e room_1 s m #[Value.ref b] below meth c s.heap [] 0 0 (lw_Z below #[Value.ref b] s) (entryFrame m ([Value.ref b] : List Value).toArray 4) := by
  obtain ⟨hx, hb, hr, hml, hown, hts0, hX, hbl, hlocks, hgv⟩ := id C0
  have hts : ∀ w ∈ lw_all, w.before #[Value.ref b] s = true := fun w h => hts0 w (lw_all_tbl h)
  have hA : ∀ q : Nat, s.heap.size ≤ q → (fun q : Nat => s.heap.size ≤ q) q := fun _ h => h
  obtain ⟨c0, iS0, hKn0⟩ := u_known (C := RX0) (T := TX0) (N := 11) (n := 11) hts0 (fun w h => lw_all_tbl (in_X0 w h)) (hts0 _ (lw_all_tbl q26))
  obtain ⟨c1, iS1, hKn1⟩ := u_known (C := RX1) (T := TX1) (N := 7) (n := 7) hts0 (fun w h => lw_all_tbl (in_X1 w h)) (hts0 _ (lw_all_tbl q204))
  obtain ⟨D, hKc⟩ : ∃ D : va_G, ∀ (k : Nat) (q : vw_C), vwCl[k]? = some q → u_Kn s q.1 q.2.1 q.2.2 (D.1 k) (D.2 k) := by
    refine ⟨(fun k => if k = 0 then c0 else c1, fun k => if k = 0 then iS0 else iS1), ?_⟩
    intro k q hq
    match k, hq with
    | 0, hq => cases hq; exact hKn0
    | 1, hq => cases hq; exact hKn1
    | k + 2, hq => simp [vwCl] at hq
  have hS : va_S (fun q : Nat => s.heap.size ≤ q) s.heap s.heap [] := va_S.rf
  have hK : va_K D vwCl [] s := ⟨hKc, fun k q h => by simp at h⟩
  have hP : va_P D vwCl [] s.heap := fun k q h => by simp at h
  have hD : va_D (fun q : Nat => s.heap.size ≤ q) [] := ⟨fun i j p q h => by simp at h, fun k q h => by simp at h⟩
  have hl0 := lv_entry ([.ref b]) (n := 4) (Nat.le_of_ble_eq_true rfl)
  rw [lg_entry_eq]
  generalize (lg_sl ([.ref b]) ++ List.replicate (4 - (lg_sl ([.ref b])).length) Slot.unset).toArray = ls at hl0 ⊢
  have hl : cn_lx ls 4 [some (.ref b), none, none, none] := cn_entry (vs := [.ref b]) (by intro v hv; rw [List.mem_singleton.mp hv]; rfl) rfl (Nat.le_of_ble_eq_true rfl) hl0
  refine va_new (ci := 0) (fs := [.null, .int 0, .int 0, .int 0, .int 0, .null, .null, .null, .null, .null, .null]) (C := RX0) (T := TX0) (N := 11) hx hb hts in_X0 tyX0 tyX0_ok hown (hts _ q25) (hts _ q26) (hts _ q23) hK hP hD hS hA rfl (fun j hj => by rcases (show j = 0 ∨ j = 1 ∨ j = 2 ∨ j = 3 ∨ j = 4 ∨ j = 5 ∨ j = 6 ∨ j = 7 ∨ j = 8 ∨ j = 9 ∨ j = 10 by omega) with rfl | rfl | rfl | rfl | rfl | rfl | rfl | rfl | rfl | rfl | rfl <;> rfl) (Nat.le_of_ble_eq_true rfl) (Nat.le_of_ble_eq_true rfl) dL_law_0 (fun q0 H hP hD hS => ?_)
  have hP : va_P D vwCl [(q0, .inr (0, [.null, .int 0, .int 0, .int 0, .int 0, .null, .null, .null, .null, .null, .null]))] H := hP
  have hD : va_D (fun q : Nat => s.heap.size ≤ q) [(q0, .inr (0, [.null, .int 0, .int 0, .int 0, .int 0, .null, .null, .null, .null, .null, .null]))] := hD
  refine W.widen (k := 1) (n := 11) (by decide) (by decide) ?_
  refine lv_dup hx hb dL_law_3 rfl ?_
  have hFc := va_free (wc := [(q0, .inr (0, [.null, .int 0, .int 0, .int 0, .int 0, .null, .null, .null, .null, .null, .null]))]) hD hS hA [0] rfl
  refine va_callv (va_runI (As := []) (rest := [.ref q0]) ⟨hx, hb, hml, hown, hts⟩ (xt_init l D q0 H.size) (cwI 0 hts (lw_meth q29) rfl rfl rfl (hts _ q23) (hts _ q27) (hts _ q28) rfl (by decide +kernel) ⟨Nat.le_of_ble_eq_true rfl, Nat.le_of_ble_eq_true rfl⟩) ⟨fun a U g mk q => by obtain ⟨q0, q1, qP, qK, qD⟩ := q; exact ⟨q0, q1, qP, va_K.moved (u := U) (U := U.calling g mk a) (Vm.Alike.refl U.vm) qK, qD⟩, fun U hU hW => ⟨rfl, by rw [hU], by rw [hU]; exact hP, va_K.moved hW.alike hK, hD.weaken (fun _ _ _ _ => trivial)⟩⟩ rfl rfl (lx_sz hl) rfl (lv_room (Nat.le_of_ble_eq_true rfl)) dL_law_4 ⟨Nat.le_of_ble_eq_true rfl, Nat.le_of_ble_eq_true rfl⟩) hS (fun q _ h => hFc q h) hFc (fun u t H1 locs ht hvm hw hB hz1 hk1 hS => ?_)
  obtain ⟨G, E⟩ := u
  obtain ⟨hP1, hK1, hD1⟩ := hB
  rw [ht] at hP1
  have hK2 := va_K.moved hvm.symm hK1
  obtain ⟨hP2, hD2⟩ := va_join (wr := []) (w1 := cn_Wx G E kx_i0) hP hD [0] [] rfl rfl (by decide) (by decide) hk1 hFc hP1 hD1
  clear hP1 hk1 hz1
  generalize H1 = H2 at hP2 hS ⊢
  have hP2 : va_P D vwCl (cn_Wx G E kx_i0) H2 := hP2
  have hD2 : va_D (fun q : Nat => s.heap.size ≤ q) (cn_Wx G E kx_i0) := hD2
  have hw : G 11 = q0 := hw
  subst hw
  refine W.widen (k := 8) (n := 578) (by decide) (by decide) ?_
  refine lx_astore_n (i := 1) hx hb dL_law_7 rfl hl (by decide) (fun ls hl => ?_)
  refine va_new (ci := 1) (fs := [.null, .int 0, .int 0, .int 0, .int 0, .null, .null]) (C := RX1) (T := TX1) (N := 7) hx hb hts in_X1 tyX1 tyX1_ok hown (hts _ q203) (hts _ q204) (hts _ q24) hK2 hP2 hD2 hS hA rfl (fun j hj => by rcases (show j = 0 ∨ j = 1 ∨ j = 2 ∨ j = 3 ∨ j = 4 ∨ j = 5 ∨ j = 6 by omega) with rfl | rfl | rfl | rfl | rfl | rfl | rfl <;> rfl) (Nat.le_of_ble_eq_true rfl) (Nat.le_of_ble_eq_true rfl) dL_law_8 (fun q1 H3 hP3 hD3 hS3 => ?_)
  refine W.widen (k := 9) (n := 585) (by decide) (by decide) ?_
  refine lv_dup hx hb dL_law_11 rfl ?_
  have hPc : va_P D vwCl [(q1, .inr (1, [.null, .int 0, .int 0, .int 0, .int 0, .null, .null]))] H3 := hP3.sub [8] rfl
  have hDc : va_D (fun q : Nat => s.heap.size ≤ q) [(q1, .inr (1, [.null, .int 0, .int 0, .int 0, .int 0, .null, .null]))] := hD3.sub [8] (by decide) rfl
  have hKc2 : va_K D vwCl [] s := hK2.sub [] rfl
  have hFc := va_free (wc := [(q1, .inr (1, [.null, .int 0, .int 0, .int 0, .int 0, .null, .null]))]) hD3 hS3 hA [8] rfl
  refine va_callv (va_runI (As := []) (rest := [.ref q1]) ⟨hx, hb, hml, hown, hts⟩ (mt_init l D q1 H3.size) (cwI 0 hts (lw_meth q207) rfl rfl rfl (hts _ q24) (hts _ q205) (hts _ q206) rfl (by decide +kernel) ⟨Nat.le_of_ble_eq_true rfl, Nat.le_of_ble_eq_true rfl⟩) ⟨fun a U g mk q => by obtain ⟨q0, q1, qP, qK, qD⟩ := q; exact ⟨q0, q1, qP, va_K.moved (u := U) (U := U.calling g mk a) (Vm.Alike.refl U.vm) qK, qD⟩, fun U hU hW => ⟨rfl, by rw [hU], by rw [hU]; exact hPc, va_K.moved hW.alike hKc2, hDc.weaken (fun _ _ _ _ => trivial)⟩⟩ rfl rfl (lx_sz hl) rfl (lv_room (Nat.le_of_ble_eq_true rfl)) dL_law_12 ⟨Nat.le_of_ble_eq_true rfl, Nat.le_of_ble_eq_true rfl⟩) hS3 (fun q _ h => hFc q h) hFc (fun u t H1 locs ht hvm hw hB hz1 hk1 hS4 => ?_)
  obtain ⟨G', E'⟩ := u
  obtain ⟨hP1, hK1, hD1⟩ := hB
  rw [ht] at hP1
  have hK1 := va_K.moved hvm.symm hK1
  obtain ⟨hP4, hD4⟩ := va_join (wr := cn_Wx G E kx_i0) (w1 := cn_Wm G' E' km_i0) hP3 hD3 [8] [0, 1, 2, 3, 4, 5, 6, 7] rfl rfl (by decide) (by decide) hk1 hFc hP1 hD1
  have hK4 := hK2.app hK1
  clear hP1 hk1 hz1
  generalize H1 = H4 at hP4 hS4 ⊢
  have hw : G' 7 = q1 := hw
  subst hw
  refine W.widen (k := 12) (n := 828) (by decide) (by decide) ?_
  refine lx_astore_n (i := 2) hx hb dL_law_15 rfl hl (by decide) (fun ls hl => ?_)
  refine lv_iconst (v := 0) hx hb dL_law_16 (by decide) ?_
  refine lx_istore_n (i := 3) hx hb dL_law_17 rfl hl (by decide) (fun ls hl => ?_)
  exact law_loop hL C0 ⟨hx, hb, hml, hown, hts, hK4⟩ (L + 4) 0 kx_i0 km_i0 _ _ ls (by decide) (by omega) pp_init ⟨hP4, hD4, hS4, hA⟩ hl
end
section
set_option maxHeartbeats 4000000 in
theorem lw_walk (l : Launch) (b : Addr) (xs : List Int32) : MetFree l x (headSpec (Jvm.Cond.code x code maxLocals ret :: tables_1) room_1) (lw_P b xs) (fun _ _ _ _ _ => True) lw_Q := by
  refine MetFree.of_bodyS (code := code) (maxLocals := maxLocals) (ret := ret) (by decide) ?_ ?_
  · intro args s m h hn
    obtain ⟨meth, c, h1, h2, h3, h4, h5, h6, -, -⟩ := Cond.code_spec hn (atoms_spec (ws := Jvm.Cond.code x code maxLocals ret :: tables_1) h _ List.mem_cons_self)
    exact ⟨meth, c, h1, h2, h3, h4, h5, h6⟩
  · intro p e s m args below meth c s₁ B hml0 hP _
    obtain ⟨rfl, hx, hbd, hgv⟩ := hP
    obtain ⟨scr, harrAt, hlist, hof, hsmall⟩ := hx
    obtain ⟨hcb, hkn, -, -⟩ := State.arrayAt?_spec harrAt
    have hown : s.vm.findClass R_law = some m.cls := findClass_of_methodNamed B.named
    have hts0 : ∀ c ∈ (Jvm.Cond.code x code maxLocals ret :: tables_1), c.before #[Value.ref b] s = true := atoms_spec (ws := Jvm.Cond.code x code maxLocals ret :: tables_1) B.pre
    have hts : ∀ w ∈ lw_tbl, w.before #[Value.ref b] s = true := k2_hts_sels lw_privs (fun w hw => hts0 w (List.mem_cons_of_mem _ hw)) lw_privs_ok
    have hml : c.maxLocals = 4 := B.maxLocals_eq (hts0 _ List.mem_cons_self)
    have X₀ : Stand p l e room_1 s m #[Value.ref b] below meth c s₁ [] 0 0 := Stand.of_body B
    have hh0 : s₁.heap = s.heap := by rw [B.state]; rfl
    have hsz : scr.slots.size = xs.length := by rw [← Array.length_toList, hlist, List.length_map]
    have hval : ∀ j : Nat, j < xs.length → scr.slots[j]? = some (.int (xs.getD j 0)) := fun j hj => by
      rw [← Array.getElem?_toList, hlist]
      simp [hj]
    have hbl : b < s.heap.size := (Array.getElem?_eq_some_iff.mp hcb).1
    have hX : va_X b xs.length (fun j => xs.getD j 0) s s.heap := ⟨scr, hcb, hof, hkn, hsz, hval⟩
    have K : W p l e room_1 s m #[Value.ref b] below meth c s₁.heap [] 0 0 (lw_Z below #[Value.ref b] s) (entryFrame m ([Value.ref b] : List Value).toArray 4) := by
      rw [hh0]
      exact whole_start l hbd ⟨B.exec, B.bytes, B.returns, hml, hown, hts, hX, hbl, B.notSynchronized, hgv⟩
    obtain ⟨t, a1, o, b1, b2, b3⟩ := K s₁ rfl X₀
    exact ⟨t, o, a1, b1, b2, b3⟩
theorem lw_pre_spec {args : Array Value} {s : State} (h : (Jvm.Cond.and given_1 narrow_1).before args s = true) (hr : rest_1_c.before args s = true) : ∃ (b : Addr) (xs : List Int32), lw_P b xs args s := by
  have hs := flat_of_before _ h
  have hq := flat_of_before _ hr
  have hc : (Cond.count 1).before args s = true := hs _ (by decide +kernel)
  have harr : (Cond.arrayOf (.arg 0) .int).before args s = true := hs _ (by decide +kernel)
  have hle : (Cond.le (.length (.arg 0)) (.int 256)).before args s = true := hs _ (by decide +kernel)
  have hlen : (Cond.isInt (.length (.arg 0))).before args s = true := hq _ (by decide +kernel)
  have hall : (Cond.all (.arg 0) (.isInt (.elem (.arg 0) (.index 0)))).before args s = true := hq _ (by decide +kernel)
  obtain ⟨b, xs, hb, hx⟩ := State.ints_of_pre rfl harr hlen hall
  have hsm : xs.length < 2 ^ 31 := hx.choose_spec.2.2.2
  have hev : (Term.length (.arg 0)).eval args s none [] s = some (.int xs.length.toInt32) := hx.length_eval hb
  have hv := Cond.le_ints hev (show (Term.int 256).eval args s none [] s = some (.int 256) from rfl)
  have hd : xs.length.toInt32 ≤ 256 := by
    simpa [Cond.before, Cond.holds, hv] using hle
  have hN : xs.length ≤ 256 := (Int32.ofNat_le_ofNat hsm (by decide)).mp (show Int32.ofNat xs.length ≤ Int32.ofNat 256 from hd)
  exact ⟨b, xs, Cond.one_arg hc (show args[0]? = some (.ref b) from hb), hx, hN, h⟩
theorem lw_comes (l : Launch) : Comes l x (Jvm.Cond.code x code maxLocals ret :: tables_1) room_1 (fun tb e args s => Calls_1 tb e args s ∧ rest_1 tb e args s ∧ Pre_1 tb e args s)
    (fun _ _ args s o t => lw_Q args s o t) := by
  intro p e ha hc hk s m args below hf hfit hheap happ hpre
  obtain ⟨b, xs, hP⟩ := lw_pre_spec hpre.2.2 hpre.2.1
  obtain ⟨k, o, h1, h2, h3, hQ⟩ := lw_walk l b xs p e ha hc hk s m args below hf ((Spec.applies_iff_loose hf).mp happ).1 hP trivial
  exact ⟨k, o, h1, h2, h3, hQ⟩
theorem lw_frame {s t : State} {o : Outcome} {args : Array Value} (h : Framed s o t [] 600000 7290000) :
    Framed s o t (fieldLocs frame_1_writes args s ++ arrayLocs frame_1_arrays args s ++ staticLocs frame_1_statics s) 600000 7290000 := h
theorem lw_limb (L : Cond) (hL : ∀ (args : Array Value) (s t : State), L.after args s (.returned (some (.int 1))) t = true) :
    ArmFor flags0 classFile x code maxLocals ret World_1 tables_1 room_1 Calls_1 rest_1 Pre_1
      (fun tb e a s o t => postC L tb e a s o t ∧ Framed s o t (fieldLocs frame_1_writes a s ++ arrayLocs frame_1_arrays a s ++ staticLocs frame_1_statics s) 600000 7290000) := by
  intro l _ _ _ p e ha hc hk s m args below hf hfit hheap happ hpre
  obtain ⟨k, o, h1, h2, h3, rfl, hF⟩ := lw_comes l p e ha hc hk s m args below hf hfit hheap happ hpre
  exact ⟨k, _, h1, h2, h3, hL args s _, lw_frame hF⟩
theorem i_vc : Claimed_1_1 ∧ Claimed_1_2 := ⟨lw_limb limb_1_1 (fun args s t => by simp [limb_1_1, Cond.after, Cond.holds, Cond.value]), lw_limb limb_1_2 (fun args s t => Cond.after_iff.mpr (by
  first | (rw [show limb_1_2 = Cond.eq .result (.int 1) from rfl, Cond.eq_ints (x := 1) (y := 1) rfl rfl]; simp; done) | (simp [limb_1_2, Cond.value, Term.eval]; done)))⟩
end
