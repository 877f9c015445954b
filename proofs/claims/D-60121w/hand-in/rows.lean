section
-- ===== PART A: goes FIRST, ahead of the names: the tables' words, and 'selects' of the private methods out of them =====
/-- a private method of a class that the tables say can be made, by its rows of tables_1 -/
def lw_okq (q : MethodName × Nat) : Prop := (q.1.cls ≠ "java/lang/invoke/MethodHandle" ∧ q.1.cls ≠ "java/lang/invoke/VarHandle") ∧ Cond.instantiable q.1.cls q.2 ∈ tables_1 ∧ Cond.privateMethod q.1 ∈ tables_1 ∧ Cond.instanceMethod q.1 ∈ tables_1
set_option maxRecDepth 100000
theorem lw_t1 {w : Cond} (h : w ∈ tables_1_1) : w ∈ tables_1 := List.mem_append_left _ h
theorem lw_t2 {w : Cond} (h : w ∈ tables_1_2) : w ∈ tables_1 := List.mem_append_right _ h
theorem lw_p0 : lw_okq (⟨"DisjointPaths", "badPair", "(II)Z"⟩, 8) := ⟨⟨by decide +kernel, by decide +kernel⟩, lw_t1 (List.mem_of_getElem? (i := 4) rfl), lw_t1 (List.mem_of_getElem? (i := 46) rfl), lw_t1 (List.mem_of_getElem? (i := 47) rfl)⟩
theorem lw_p1 : lw_okq (⟨"DisjointPaths", "bad", "(I)Z"⟩, 8) := ⟨⟨by decide +kernel, by decide +kernel⟩, lw_t1 (List.mem_of_getElem? (i := 4) rfl), lw_t1 (List.mem_of_getElem? (i := 50) rfl), lw_t1 (List.mem_of_getElem? (i := 51) rfl)⟩
theorem lw_p2 : lw_okq (⟨"DisjointPaths", "linked", "(II)Z"⟩, 8) := ⟨⟨by decide +kernel, by decide +kernel⟩, lw_t1 (List.mem_of_getElem? (i := 4) rfl), lw_t1 (List.mem_of_getElem? (i := 54) rfl), lw_t1 (List.mem_of_getElem? (i := 55) rfl)⟩
theorem lw_p3 : lw_okq (⟨"DisjointPaths", "link", "(II)V"⟩, 8) := ⟨⟨by decide +kernel, by decide +kernel⟩, lw_t1 (List.mem_of_getElem? (i := 4) rfl), lw_t1 (List.mem_of_getElem? (i := 58) rfl), lw_t1 (List.mem_of_getElem? (i := 59) rfl)⟩
theorem lw_p4 : lw_okq (⟨"DisjointPaths", "unlink", "(II)V"⟩, 8) := ⟨⟨by decide +kernel, by decide +kernel⟩, lw_t1 (List.mem_of_getElem? (i := 4) rfl), lw_t1 (List.mem_of_getElem? (i := 62) rfl), lw_t1 (List.mem_of_getElem? (i := 63) rfl)⟩
theorem lw_p5 : lw_okq (⟨"DisjointPaths", "flow", "(II)I"⟩, 8) := ⟨⟨by decide +kernel, by decide +kernel⟩, lw_t1 (List.mem_of_getElem? (i := 4) rfl), lw_t1 (List.mem_of_getElem? (i := 78) rfl), lw_t1 (List.mem_of_getElem? (i := 79) rfl)⟩
theorem lw_p6 : lw_okq (⟨"DisjointPaths", "layOut", "(II)V"⟩, 8) := ⟨⟨by decide +kernel, by decide +kernel⟩, lw_t1 (List.mem_of_getElem? (i := 4) rfl), lw_t1 (List.mem_of_getElem? (i := 82) rfl), lw_t1 (List.mem_of_getElem? (i := 83) rfl)⟩
theorem lw_p7 : lw_okq (⟨"DisjointPaths", "layOutEdges", "(II)V"⟩, 8) := ⟨⟨by decide +kernel, by decide +kernel⟩, lw_t1 (List.mem_of_getElem? (i := 4) rfl), lw_t1 (List.mem_of_getElem? (i := 86) rfl), lw_t1 (List.mem_of_getElem? (i := 87) rfl)⟩
theorem lw_p8 : lw_okq (⟨"DisjointPaths", "findWay", "()Z"⟩, 8) := ⟨⟨by decide +kernel, by decide +kernel⟩, lw_t1 (List.mem_of_getElem? (i := 4) rfl), lw_t1 (List.mem_of_getElem? (i := 90) rfl), lw_t1 (List.mem_of_getElem? (i := 91) rfl)⟩
theorem lw_p9 : lw_okq (⟨"DisjointPaths", "push", "()V"⟩, 8) := ⟨⟨by decide +kernel, by decide +kernel⟩, lw_t1 (List.mem_of_getElem? (i := 4) rfl), lw_t1 (List.mem_of_getElem? (i := 94) rfl), lw_t1 (List.mem_of_getElem? (i := 95) rfl)⟩
theorem lw_p10 : lw_okq (⟨"DisjointPaths", "flowWith", "(II)I"⟩, 8) := ⟨⟨by decide +kernel, by decide +kernel⟩, lw_t1 (List.mem_of_getElem? (i := 4) rfl), lw_t1 (List.mem_of_getElem? (i := 118) rfl), lw_t1 (List.mem_of_getElem? (i := 119) rfl)⟩
theorem lw_p11 : lw_okq (⟨"DisjointPaths", "reach", "(II)V"⟩, 8) := ⟨⟨by decide +kernel, by decide +kernel⟩, lw_t1 (List.mem_of_getElem? (i := 4) rfl), lw_t1 (List.mem_of_getElem? (i := 130) rfl), lw_t1 (List.mem_of_getElem? (i := 131) rfl)⟩
theorem lw_p12 : lw_okq (⟨"DisjointPathsModel", "isVertex", "(I)Z"⟩, 6) := ⟨⟨by decide +kernel, by decide +kernel⟩, lw_t1 (List.mem_of_getElem? (i := 145) rfl), lw_t1 (List.mem_of_getElem? (i := 179) rfl), lw_t1 (List.mem_of_getElem? (i := 180) rfl)⟩
theorem lw_p13 : lw_okq (⟨"DisjointPathsModel", "has", "(II)Z"⟩, 6) := ⟨⟨by decide +kernel, by decide +kernel⟩, lw_t1 (List.mem_of_getElem? (i := 145) rfl), lw_t1 (List.mem_of_getElem? (i := 183) rfl), lw_t1 (List.mem_of_getElem? (i := 184) rfl)⟩
theorem lw_p14 : lw_okq (⟨"DisjointPathsModel", "put", "(IIZ)V"⟩, 6) := ⟨⟨by decide +kernel, by decide +kernel⟩, lw_t1 (List.mem_of_getElem? (i := 145) rfl), lw_t1 (List.mem_of_getElem? (i := 187) rfl), lw_t1 (List.mem_of_getElem? (i := 188) rfl)⟩
theorem lw_p15 : lw_okq (⟨"DisjointPathsModel", "inner", "()I"⟩, 6) := ⟨⟨by decide +kernel, by decide +kernel⟩, lw_t1 (List.mem_of_getElem? (i := 145) rfl), lw_t1 (List.mem_of_getElem? (i := 203) rfl), lw_t1 (List.mem_of_getElem? (i := 204) rfl)⟩
def lw_privs_1 : List (MethodName × Nat) := [(⟨"DisjointPaths", "badPair", "(II)Z"⟩, 8), (⟨"DisjointPaths", "bad", "(I)Z"⟩, 8), (⟨"DisjointPaths", "linked", "(II)Z"⟩, 8), (⟨"DisjointPaths", "link", "(II)V"⟩, 8), (⟨"DisjointPaths", "unlink", "(II)V"⟩, 8), (⟨"DisjointPaths", "flow", "(II)I"⟩, 8), (⟨"DisjointPaths", "layOut", "(II)V"⟩, 8), (⟨"DisjointPaths", "layOutEdges", "(II)V"⟩, 8), (⟨"DisjointPaths", "findWay", "()Z"⟩, 8), (⟨"DisjointPaths", "push", "()V"⟩, 8), (⟨"DisjointPaths", "flowWith", "(II)I"⟩, 8), (⟨"DisjointPaths", "reach", "(II)V"⟩, 8), (⟨"DisjointPathsModel", "isVertex", "(I)Z"⟩, 6), (⟨"DisjointPathsModel", "has", "(II)Z"⟩, 6), (⟨"DisjointPathsModel", "put", "(IIZ)V"⟩, 6), (⟨"DisjointPathsModel", "inner", "()I"⟩, 6)]
theorem lw_r1 : ∀ q ∈ lw_privs_1, lw_okq q := List.forall_mem_cons.mpr ⟨lw_p0, List.forall_mem_cons.mpr ⟨lw_p1, List.forall_mem_cons.mpr ⟨lw_p2, List.forall_mem_cons.mpr ⟨lw_p3, List.forall_mem_cons.mpr ⟨lw_p4, List.forall_mem_cons.mpr ⟨lw_p5, List.forall_mem_cons.mpr ⟨lw_p6, List.forall_mem_cons.mpr ⟨lw_p7, List.forall_mem_cons.mpr ⟨lw_p8, List.forall_mem_cons.mpr ⟨lw_p9, List.forall_mem_cons.mpr ⟨lw_p10, List.forall_mem_cons.mpr ⟨lw_p11, List.forall_mem_cons.mpr ⟨lw_p12, List.forall_mem_cons.mpr ⟨lw_p13, List.forall_mem_cons.mpr ⟨lw_p14, List.forall_mem_cons.mpr ⟨lw_p15, fun _ h => absurd h List.not_mem_nil⟩⟩⟩⟩⟩⟩⟩⟩⟩⟩⟩⟩⟩⟩⟩⟩
theorem lw_p16 : lw_okq (⟨"DisjointPathsModel", "leads", "(I)Z"⟩, 6) := ⟨⟨by decide +kernel, by decide +kernel⟩, lw_t1 (List.mem_of_getElem? (i := 145) rfl), lw_t1 (List.mem_of_getElem? (i := 207) rfl), lw_t1 (List.mem_of_getElem? (i := 208) rfl)⟩
theorem lw_p17 : lw_okq (⟨"DisjointPathsModel", "parts", "(I)I"⟩, 6) := ⟨⟨by decide +kernel, by decide +kernel⟩, lw_t1 (List.mem_of_getElem? (i := 145) rfl), lw_t1 (List.mem_of_getElem? (i := 211) rfl), lw_t1 (List.mem_of_getElem? (i := 212) rfl)⟩
theorem lw_p18 : lw_okq (⟨"DisjointPathsModel", "leastCut", "(I)I"⟩, 6) := ⟨⟨by decide +kernel, by decide +kernel⟩, lw_t1 (List.mem_of_getElem? (i := 145) rfl), lw_t1 (List.mem_of_getElem? (i := 219) rfl), lw_t1 (List.mem_of_getElem? (i := 220) rfl)⟩
theorem lw_p19 : lw_okq (⟨"DisjointPathsModel", "isCut", "(I)Z"⟩, 6) := ⟨⟨by decide +kernel, by decide +kernel⟩, lw_t1 (List.mem_of_getElem? (i := 145) rfl), lw_t1 (List.mem_of_getElem? (i := 223) rfl), lw_t1 (List.mem_of_getElem? (i := 224) rfl)⟩
theorem lw_p20 : lw_okq (⟨"DisjointPathsModel", "sizeOf", "(I)I"⟩, 6) := ⟨⟨by decide +kernel, by decide +kernel⟩, lw_t1 (List.mem_of_getElem? (i := 145) rfl), lw_t1 (List.mem_of_getElem? (i := 227) rfl), lw_t1 (List.mem_of_getElem? (i := 228) rfl)⟩
theorem lw_p21 : lw_okq (⟨"DisjointPathsModel", "telling", "(Z)I"⟩, 6) := ⟨⟨by decide +kernel, by decide +kernel⟩, lw_t1 (List.mem_of_getElem? (i := 145) rfl), lw_t2 (List.mem_of_getElem? (i := 8) rfl), lw_t2 (List.mem_of_getElem? (i := 9) rfl)⟩
def lw_privs_2 : List (MethodName × Nat) := [(⟨"DisjointPathsModel", "leads", "(I)Z"⟩, 6), (⟨"DisjointPathsModel", "parts", "(I)I"⟩, 6), (⟨"DisjointPathsModel", "leastCut", "(I)I"⟩, 6), (⟨"DisjointPathsModel", "isCut", "(I)Z"⟩, 6), (⟨"DisjointPathsModel", "sizeOf", "(I)I"⟩, 6), (⟨"DisjointPathsModel", "telling", "(Z)I"⟩, 6)]
theorem lw_r2 : ∀ q ∈ lw_privs_2, lw_okq q := List.forall_mem_cons.mpr ⟨lw_p16, List.forall_mem_cons.mpr ⟨lw_p17, List.forall_mem_cons.mpr ⟨lw_p18, List.forall_mem_cons.mpr ⟨lw_p19, List.forall_mem_cons.mpr ⟨lw_p20, List.forall_mem_cons.mpr ⟨lw_p21, fun _ h => absurd h List.not_mem_nil⟩⟩⟩⟩⟩⟩
def lw_privs : List (MethodName × Nat) := lw_privs_1 ++ (lw_privs_2)
def lw_tbl : List Cond := k2_sels lw_privs ++ tables_1
theorem lw_privs_ok : ∀ q ∈ lw_privs, lw_okq q := by
  show ∀ q ∈ lw_privs_1 ++ (lw_privs_2), lw_okq q
  exact List.forall_mem_append.mpr ⟨lw_r1, lw_r2⟩
-- ===== ONE list of words for every method: the tables' words that hold all through a run =====
def lw_all : List Cond := lw_tbl.filter goodWord
/-- a word of the tables by its place: claim/WORDS.tsv -/
theorem lw_w {w : Cond} (i : Nat) (h : lw_tbl[i]? = some w) (g : goodWord w = true) : w ∈ lw_all := List.mem_filter.mpr ⟨List.mem_of_getElem? h, g⟩
theorem lw_all_tbl {w : Cond} (h : w ∈ lw_all) : w ∈ lw_tbl := (List.mem_filter.mp h).1
theorem lw_self : GoodIn lw_all lw_all := fun w h => ⟨h, good_of_word (List.mem_filter.mp h).2⟩
/-- a class's field words, by their places -/
theorem lw_in (ws : List Cond) (ps : List Nat) (hp : ws = ps.filterMap (fun i => lw_tbl[i]?)) (hg : ws.all goodWord = true) : ∀ w ∈ ws, w ∈ lw_all := by
  intro w h
  have h1 := List.all_eq_true.mp hg w h
  rw [hp] at h
  obtain ⟨i, -, hi⟩ := List.mem_filterMap.mp h
  exact lw_w i hi h1
/-- the words of a contract for the method y with code b, L locals, answer r -/
abbrev ws_ (y : MethodName) (b : ByteArray) (L : Nat) (r : Option FieldType) : List Cond := Cond.code y b L r :: lw_all
theorem lw_meth {y : MethodName} {b : ByteArray} {L : Nat} {r : Option FieldType} (h : Cond.code y b L r ∈ lw_all) : GoodIn lw_all (ws_ y b L r) := by
  intro w hw
  rcases List.mem_cons.mp hw with e | e
  · rw [e]
    exact lw_self _ h
  · exact lw_self _ e
theorem lw_app {a c : List Cond} (ha : ∀ w ∈ a, w ∈ lw_all) (hc : GoodIn lw_all c) : GoodIn lw_all (a ++ c) := by
  intro w hw
  rcases List.mem_append.mp hw with e | e
  · exact lw_self w (ha w e)
  · exact hc w e
/-- what a call through an object asks: cwV n hts (lw_V ..) -/
theorem lw_V {own : String} {idx : Nat} {C : String} {y : MethodName} {b : ByteArray} {L : Nat} {r : Option FieldType} (h1 : Cond.methodLink own idx y ∈ lw_all) (h2 : Cond.instanceMethod y ∈ lw_all) (h3 : Cond.selects C y y ∈ lw_all) (h4 : Cond.initialized C ∈ lw_all) (h5 : Cond.code y b L r ∈ lw_all) : GoodIn lw_all (wsV own idx C y (ws_ y b L r)) := by
  refine lw_app ?_ (lw_meth h5)
  intro w hw
  simp only [List.mem_cons, List.not_mem_nil, or_false] at hw
  rcases hw with e | e | e | e
  · rw [e]; exact h1
  · rw [e]; exact h2
  · rw [e]; exact h3
  · rw [e]; exact h4
/-- what a static call asks: va_cwS n hts (lw_S ..) -/
theorem lw_S {own : String} {idx : Nat} {y : MethodName} {b : ByteArray} {L : Nat} {r : Option FieldType} (h1 : Cond.methodLink own idx y ∈ lw_all) (h2 : Cond.static y ∈ lw_all) (h3 : Cond.initialized y.cls ∈ lw_all) (h4 : Cond.code y b L r ∈ lw_all) : GoodIn lw_all (va_wsS own idx y (ws_ y b L r)) := by
  refine lw_app ?_ (lw_meth h4)
  intro w hw
  simp only [List.mem_cons, List.not_mem_nil, or_false] at hw
  rcases hw with e | e | e
  · rw [e]; exact h1
  · rw [e]; exact h2
  · rw [e]; exact h3
/-- the words of a contract for a method WITH HANDLERS (hh: its table) -/
abbrev wsW_ (y : MethodName) (b : ByteArray) (L : Nat) (r : Option FieldType) (hh : List (Nat × Nat × Nat × Nat)) : List Cond := Cond.codeWith y b L r hh :: lw_all
theorem lw_methW {y : MethodName} {b : ByteArray} {L : Nat} {r : Option FieldType} {hh : List (Nat × Nat × Nat × Nat)} (h : Cond.codeWith y b L r hh ∈ lw_all) : GoodIn lw_all (wsW_ y b L r hh) := by
  intro w hw
  rcases List.mem_cons.mp hw with e | e
  · rw [e]
    exact lw_self _ h
  · exact lw_self _ e
/-- any list of words by their places (lw_in), good -/
theorem lw_good {ws : List Cond} (h : ∀ w ∈ ws, w ∈ lw_all) : GoodIn lw_all ws := fun w hw => lw_self w (h w hw)
/-- what a call of a method with handlers asks: vx_cwVW n hts (lw_VW ..), vx_cwSW n hts (lw_SW ..) -/
theorem lw_VW {own : String} {idx : Nat} {C : String} {y : MethodName} {b : ByteArray} {L : Nat} {r : Option FieldType} {hh : List (Nat × Nat × Nat × Nat)} (h1 : Cond.methodLink own idx y ∈ lw_all) (h2 : Cond.instanceMethod y ∈ lw_all) (h3 : Cond.selects C y y ∈ lw_all) (h4 : Cond.initialized C ∈ lw_all) (h5 : Cond.codeWith y b L r hh ∈ lw_all) : GoodIn lw_all (wsV own idx C y (wsW_ y b L r hh)) := by
  refine lw_app ?_ (lw_methW h5)
  intro w hw
  simp only [List.mem_cons, List.not_mem_nil, or_false] at hw
  rcases hw with e | e | e | e
  · rw [e]; exact h1
  · rw [e]; exact h2
  · rw [e]; exact h3
  · rw [e]; exact h4
theorem lw_SW {own : String} {idx : Nat} {y : MethodName} {b : ByteArray} {L : Nat} {r : Option FieldType} {hh : List (Nat × Nat × Nat × Nat)} (h1 : Cond.methodLink own idx y ∈ lw_all) (h2 : Cond.static y ∈ lw_all) (h3 : Cond.initialized y.cls ∈ lw_all) (h4 : Cond.codeWith y b L r hh ∈ lw_all) : GoodIn lw_all (va_wsS own idx y (wsW_ y b L r hh)) := by
  refine lw_app ?_ (lw_methW h4)
  intro w hw
  simp only [List.mem_cons, List.not_mem_nil, or_false] at hw
  rcases hw with e | e | e
  · rw [e]; exact h1
  · rw [e]; exact h2
  · rw [e]; exact h3
/-- a word by its place in its run of the tables -/
theorem lw_at {r : List Cond} (hr : ∀ w ∈ r, w ∈ lw_tbl) {w : Cond} (i : Nat) (h : r[i]? = some w) : w ∈ lw_tbl := hr w (List.mem_of_getElem? h)
theorem lw_g {w : Cond} (h : w ∈ lw_tbl) (g : goodWord w = true) : w ∈ lw_all := List.mem_filter.mpr ⟨h, g⟩
theorem lw_ms : ∀ w ∈ k2_sels lw_privs, w ∈ lw_tbl := fun w h => show w ∈ k2_sels lw_privs ++ tables_1 from List.mem_append_left _ h
theorem lw_m1 : ∀ w ∈ tables_1_1, w ∈ lw_tbl := fun w h => show w ∈ k2_sels lw_privs ++ tables_1 from List.mem_append_right (k2_sels lw_privs) (show w ∈ tables_1 from List.mem_append_left _ h)
theorem lw_m2 : ∀ w ∈ tables_1_2, w ∈ lw_tbl := fun w h => show w ∈ k2_sels lw_privs ++ tables_1 from List.mem_append_right (k2_sels lw_privs) (show w ∈ tables_1 from List.mem_append_right _ h)
theorem qs0 : (Cond.selects "DisjointPaths" ⟨"DisjointPaths", "badPair", "(II)Z"⟩ ⟨"DisjointPaths", "badPair", "(II)Z"⟩) ∈ lw_all := lw_g (lw_at lw_ms 0 rfl) rfl
theorem qs1 : (Cond.selects "DisjointPaths" ⟨"DisjointPaths", "bad", "(I)Z"⟩ ⟨"DisjointPaths", "bad", "(I)Z"⟩) ∈ lw_all := lw_g (lw_at lw_ms 1 rfl) rfl
theorem qs2 : (Cond.selects "DisjointPaths" ⟨"DisjointPaths", "linked", "(II)Z"⟩ ⟨"DisjointPaths", "linked", "(II)Z"⟩) ∈ lw_all := lw_g (lw_at lw_ms 2 rfl) rfl
theorem qs3 : (Cond.selects "DisjointPaths" ⟨"DisjointPaths", "link", "(II)V"⟩ ⟨"DisjointPaths", "link", "(II)V"⟩) ∈ lw_all := lw_g (lw_at lw_ms 3 rfl) rfl
theorem qs4 : (Cond.selects "DisjointPaths" ⟨"DisjointPaths", "unlink", "(II)V"⟩ ⟨"DisjointPaths", "unlink", "(II)V"⟩) ∈ lw_all := lw_g (lw_at lw_ms 4 rfl) rfl
theorem qs5 : (Cond.selects "DisjointPaths" ⟨"DisjointPaths", "flow", "(II)I"⟩ ⟨"DisjointPaths", "flow", "(II)I"⟩) ∈ lw_all := lw_g (lw_at lw_ms 5 rfl) rfl
theorem qs6 : (Cond.selects "DisjointPaths" ⟨"DisjointPaths", "layOut", "(II)V"⟩ ⟨"DisjointPaths", "layOut", "(II)V"⟩) ∈ lw_all := lw_g (lw_at lw_ms 6 rfl) rfl
theorem qs7 : (Cond.selects "DisjointPaths" ⟨"DisjointPaths", "layOutEdges", "(II)V"⟩ ⟨"DisjointPaths", "layOutEdges", "(II)V"⟩) ∈ lw_all := lw_g (lw_at lw_ms 7 rfl) rfl
theorem qs8 : (Cond.selects "DisjointPaths" ⟨"DisjointPaths", "findWay", "()Z"⟩ ⟨"DisjointPaths", "findWay", "()Z"⟩) ∈ lw_all := lw_g (lw_at lw_ms 8 rfl) rfl
theorem qs9 : (Cond.selects "DisjointPaths" ⟨"DisjointPaths", "push", "()V"⟩ ⟨"DisjointPaths", "push", "()V"⟩) ∈ lw_all := lw_g (lw_at lw_ms 9 rfl) rfl
theorem qs10 : (Cond.selects "DisjointPaths" ⟨"DisjointPaths", "flowWith", "(II)I"⟩ ⟨"DisjointPaths", "flowWith", "(II)I"⟩) ∈ lw_all := lw_g (lw_at lw_ms 10 rfl) rfl
theorem qs11 : (Cond.selects "DisjointPaths" ⟨"DisjointPaths", "reach", "(II)V"⟩ ⟨"DisjointPaths", "reach", "(II)V"⟩) ∈ lw_all := lw_g (lw_at lw_ms 11 rfl) rfl
theorem qs12 : (Cond.selects "DisjointPathsModel" ⟨"DisjointPathsModel", "isVertex", "(I)Z"⟩ ⟨"DisjointPathsModel", "isVertex", "(I)Z"⟩) ∈ lw_all := lw_g (lw_at lw_ms 12 rfl) rfl
theorem qs13 : (Cond.selects "DisjointPathsModel" ⟨"DisjointPathsModel", "has", "(II)Z"⟩ ⟨"DisjointPathsModel", "has", "(II)Z"⟩) ∈ lw_all := lw_g (lw_at lw_ms 13 rfl) rfl
theorem qs14 : (Cond.selects "DisjointPathsModel" ⟨"DisjointPathsModel", "put", "(IIZ)V"⟩ ⟨"DisjointPathsModel", "put", "(IIZ)V"⟩) ∈ lw_all := lw_g (lw_at lw_ms 14 rfl) rfl
theorem qs15 : (Cond.selects "DisjointPathsModel" ⟨"DisjointPathsModel", "inner", "()I"⟩ ⟨"DisjointPathsModel", "inner", "()I"⟩) ∈ lw_all := lw_g (lw_at lw_ms 15 rfl) rfl
theorem qs16 : (Cond.selects "DisjointPathsModel" ⟨"DisjointPathsModel", "leads", "(I)Z"⟩ ⟨"DisjointPathsModel", "leads", "(I)Z"⟩) ∈ lw_all := lw_g (lw_at lw_ms 16 rfl) rfl
theorem qs17 : (Cond.selects "DisjointPathsModel" ⟨"DisjointPathsModel", "parts", "(I)I"⟩ ⟨"DisjointPathsModel", "parts", "(I)I"⟩) ∈ lw_all := lw_g (lw_at lw_ms 17 rfl) rfl
theorem qs18 : (Cond.selects "DisjointPathsModel" ⟨"DisjointPathsModel", "leastCut", "(I)I"⟩ ⟨"DisjointPathsModel", "leastCut", "(I)I"⟩) ∈ lw_all := lw_g (lw_at lw_ms 18 rfl) rfl
theorem qs19 : (Cond.selects "DisjointPathsModel" ⟨"DisjointPathsModel", "isCut", "(I)Z"⟩ ⟨"DisjointPathsModel", "isCut", "(I)Z"⟩) ∈ lw_all := lw_g (lw_at lw_ms 19 rfl) rfl
theorem qs20 : (Cond.selects "DisjointPathsModel" ⟨"DisjointPathsModel", "sizeOf", "(I)I"⟩ ⟨"DisjointPathsModel", "sizeOf", "(I)I"⟩) ∈ lw_all := lw_g (lw_at lw_ms 20 rfl) rfl
theorem qs21 : (Cond.selects "DisjointPathsModel" ⟨"DisjointPathsModel", "telling", "(Z)I"⟩ ⟨"DisjointPathsModel", "telling", "(Z)I"⟩) ∈ lw_all := lw_g (lw_at lw_ms 21 rfl) rfl
end
section
/-! DisjointPaths -/
set_option maxRecDepth 100000
def RX1 : String := "DisjointPaths"
def TX1 : u_T := fun k => match k with
  | 0 => ("DisjointPaths", "n", "I", true)
  | 1 => ("DisjointPaths", "source", "I", false)
  | 2 => ("DisjointPaths", "target", "I", false)
  | 3 => ("DisjointPaths", "near", "[I", true)
  | 4 => ("DisjointPaths", "room", "[I", true)
  | 5 => ("DisjointPaths", "cameFrom", "[I", true)
  | 6 => ("DisjointPaths", "queue", "[I", true)
  | _ => ("DisjointPaths", "steps", "[I", true)
def tyX1 : Nat → FieldType := fun k => match k with
  | 0 => .int
  | 1 => .int
  | 2 => .int
  | 3 => .array .int
  | 4 => .array .int
  | 5 => .array .int
  | 6 => .array .int
  | _ => .array .int
abbrev wsX10 : List Cond := u_ws RX1 TX1 8
theorem nmX1 : ∀ a, a < 8 → ∀ b, b < 8 → a ≠ b → (TX1 a).2.1 ≠ (TX1 b).2.1 := by decide +kernel
theorem tyX1_ok : ∀ k, k < 8 → parseFieldDescriptor (TX1 k).2.2.1 = some (tyX1 k) := by decide +kernel
abbrev cX1_init : ByteArray := prog_1_method_1_code
def yX1_init : MethodName := ⟨RX1, "<init>", "(I)V"⟩
theorem dX1_init_0 : decode cX1_init 0 = .ok (.aload_n 0, 1) := by decide +kernel
theorem dX1_init_1 : decode cX1_init 1 = .ok (.invokespecial 1, 3) := by decide +kernel
theorem dX1_init_4 : decode cX1_init 4 = .ok (.aload_n 0, 1) := by decide +kernel
theorem dX1_init_5 : decode cX1_init 5 = .ok (.bipush 8, 2) := by decide +kernel
theorem dX1_init_7 : decode cX1_init 7 = .ok (.newarray .int, 2) := by decide +kernel
theorem dX1_init_9 : decode cX1_init 9 = .ok (.putfield 7, 3) := by decide +kernel
theorem dX1_init_12 : decode cX1_init 12 = .ok (.aload_n 0, 1) := by decide +kernel
theorem dX1_init_13 : decode cX1_init 13 = .ok (.sipush 256, 3) := by decide +kernel
theorem dX1_init_16 : decode cX1_init 16 = .ok (.newarray .int, 2) := by decide +kernel
theorem dX1_init_18 : decode cX1_init 18 = .ok (.putfield 13, 3) := by decide +kernel
theorem dX1_init_21 : decode cX1_init 21 = .ok (.aload_n 0, 1) := by decide +kernel
theorem dX1_init_22 : decode cX1_init 22 = .ok (.bipush 16, 2) := by decide +kernel
theorem dX1_init_24 : decode cX1_init 24 = .ok (.newarray .int, 2) := by decide +kernel
theorem dX1_init_26 : decode cX1_init 26 = .ok (.putfield 16, 3) := by decide +kernel
theorem dX1_init_29 : decode cX1_init 29 = .ok (.aload_n 0, 1) := by decide +kernel
theorem dX1_init_30 : decode cX1_init 30 = .ok (.bipush 16, 2) := by decide +kernel
theorem dX1_init_32 : decode cX1_init 32 = .ok (.newarray .int, 2) := by decide +kernel
theorem dX1_init_34 : decode cX1_init 34 = .ok (.putfield 19, 3) := by decide +kernel
theorem dX1_init_37 : decode cX1_init 37 = .ok (.aload_n 0, 1) := by decide +kernel
theorem dX1_init_38 : decode cX1_init 38 = .ok (.bipush 8, 2) := by decide +kernel
theorem dX1_init_40 : decode cX1_init 40 = .ok (.newarray .int, 2) := by decide +kernel
theorem dX1_init_42 : decode cX1_init 42 = .ok (.putfield 22, 3) := by decide +kernel
theorem dX1_init_45 : decode cX1_init 45 = .ok (.iload_n 1, 1) := by decide +kernel
theorem dX1_init_46 : decode cX1_init 46 = .ok (.istore_n 2, 1) := by decide +kernel
theorem dX1_init_47 : decode cX1_init 47 = .ok (.iload_n 2, 1) := by decide +kernel
theorem dX1_init_48 : decode cX1_init 48 = .ok (.iconst 3, 1) := by decide +kernel
theorem dX1_init_49 : decode cX1_init 49 = .ok (.if_icmp .ge 5, 3) := by decide +kernel
theorem dX1_init_52 : decode cX1_init 52 = .ok (.iconst 3, 1) := by decide +kernel
theorem dX1_init_53 : decode cX1_init 53 = .ok (.istore_n 2, 1) := by decide +kernel
theorem dX1_init_54 : decode cX1_init 54 = .ok (.iload_n 2, 1) := by decide +kernel
theorem dX1_init_55 : decode cX1_init 55 = .ok (.bipush 8, 2) := by decide +kernel
theorem dX1_init_57 : decode cX1_init 57 = .ok (.if_icmp .le 6, 3) := by decide +kernel
theorem dX1_init_60 : decode cX1_init 60 = .ok (.bipush 8, 2) := by decide +kernel
theorem dX1_init_62 : decode cX1_init 62 = .ok (.istore_n 2, 1) := by decide +kernel
theorem dX1_init_63 : decode cX1_init 63 = .ok (.aload_n 0, 1) := by decide +kernel
theorem dX1_init_64 : decode cX1_init 64 = .ok (.iload_n 2, 1) := by decide +kernel
theorem dX1_init_65 : decode cX1_init 65 = .ok (.putfield 25, 3) := by decide +kernel
theorem dX1_init_68 : decode cX1_init 68 = .ok (.aload_n 0, 1) := by decide +kernel
theorem dX1_init_69 : decode cX1_init 69 = .ok (.iload_n 2, 1) := by decide +kernel
theorem dX1_init_70 : decode cX1_init 70 = .ok (.iconst 1, 1) := by decide +kernel
theorem dX1_init_71 : decode cX1_init 71 = .ok (.isub, 1) := by decide +kernel
theorem dX1_init_72 : decode cX1_init 72 = .ok (.putfield 29, 3) := by decide +kernel
theorem dX1_init_75 : decode cX1_init 75 = .ok (.return_, 1) := by decide +kernel
abbrev cX1_vertices : ByteArray := prog_1_method_2_code
def yX1_vertices : MethodName := ⟨RX1, "vertices", "()I"⟩
theorem dX1_vertices_0 : decode cX1_vertices 0 = .ok (.aload_n 0, 1) := by decide +kernel
theorem dX1_vertices_1 : decode cX1_vertices 1 = .ok (.getfield 25, 3) := by decide +kernel
theorem dX1_vertices_4 : decode cX1_vertices 4 = .ok (.ireturn, 1) := by decide +kernel
abbrev cX1_edge : ByteArray := prog_1_method_8_code
def yX1_edge : MethodName := ⟨RX1, "edge", "(III)I"⟩
theorem dX1_edge_0 : decode cX1_edge 0 = .ok (.aload_n 0, 1) := by decide +kernel
theorem dX1_edge_1 : decode cX1_edge 1 = .ok (.iload_n 1, 1) := by decide +kernel
theorem dX1_edge_2 : decode cX1_edge 2 = .ok (.iload_n 2, 1) := by decide +kernel
theorem dX1_edge_3 : decode cX1_edge 3 = .ok (.invokevirtual 36, 3) := by decide +kernel
theorem dX1_edge_6 : decode cX1_edge 6 = .ok (.ifCond .eq 5, 3) := by decide +kernel
theorem dX1_edge_9 : decode cX1_edge 9 = .ok (.iconst (-1), 1) := by decide +kernel
theorem dX1_edge_10 : decode cX1_edge 10 = .ok (.ireturn, 1) := by decide +kernel
theorem dX1_edge_11 : decode cX1_edge 11 = .ok (.aload_n 0, 1) := by decide +kernel
theorem dX1_edge_12 : decode cX1_edge 12 = .ok (.iload_n 1, 1) := by decide +kernel
theorem dX1_edge_13 : decode cX1_edge 13 = .ok (.iload_n 2, 1) := by decide +kernel
theorem dX1_edge_14 : decode cX1_edge 14 = .ok (.invokevirtual 40, 3) := by decide +kernel
theorem dX1_edge_17 : decode cX1_edge 17 = .ok (.ifCond .eq 7, 3) := by decide +kernel
theorem dX1_edge_20 : decode cX1_edge 20 = .ok (.iconst 1, 1) := by decide +kernel
theorem dX1_edge_21 : decode cX1_edge 21 = .ok (.goto 4, 3) := by decide +kernel
theorem dX1_edge_24 : decode cX1_edge 24 = .ok (.iconst 0, 1) := by decide +kernel
theorem dX1_edge_25 : decode cX1_edge 25 = .ok (.istore 4, 2) := by decide +kernel
theorem dX1_edge_27 : decode cX1_edge 27 = .ok (.iload_n 3, 1) := by decide +kernel
theorem dX1_edge_28 : decode cX1_edge 28 = .ok (.ifCond .eq 12, 3) := by decide +kernel
theorem dX1_edge_31 : decode cX1_edge 31 = .ok (.aload_n 0, 1) := by decide +kernel
theorem dX1_edge_32 : decode cX1_edge 32 = .ok (.iload_n 1, 1) := by decide +kernel
theorem dX1_edge_33 : decode cX1_edge 33 = .ok (.iload_n 2, 1) := by decide +kernel
theorem dX1_edge_34 : decode cX1_edge 34 = .ok (.invokevirtual 43, 3) := by decide +kernel
theorem dX1_edge_37 : decode cX1_edge 37 = .ok (.goto 9, 3) := by decide +kernel
theorem dX1_edge_40 : decode cX1_edge 40 = .ok (.aload_n 0, 1) := by decide +kernel
theorem dX1_edge_41 : decode cX1_edge 41 = .ok (.iload_n 1, 1) := by decide +kernel
theorem dX1_edge_42 : decode cX1_edge 42 = .ok (.iload_n 2, 1) := by decide +kernel
theorem dX1_edge_43 : decode cX1_edge 43 = .ok (.invokevirtual 47, 3) := by decide +kernel
theorem dX1_edge_46 : decode cX1_edge 46 = .ok (.iload 4, 2) := by decide +kernel
theorem dX1_edge_48 : decode cX1_edge 48 = .ok (.ireturn, 1) := by decide +kernel
abbrev cX1_badPair : ByteArray := prog_1_method_4_code
def yX1_badPair : MethodName := ⟨RX1, "badPair", "(II)Z"⟩
theorem dX1_badPair_0 : decode cX1_badPair 0 = .ok (.aload_n 0, 1) := by decide +kernel
theorem dX1_badPair_1 : decode cX1_badPair 1 = .ok (.iload_n 1, 1) := by decide +kernel
theorem dX1_badPair_2 : decode cX1_badPair 2 = .ok (.invokevirtual 32, 3) := by decide +kernel
theorem dX1_badPair_5 : decode cX1_badPair 5 = .ok (.ifCond .ne 16, 3) := by decide +kernel
theorem dX1_badPair_8 : decode cX1_badPair 8 = .ok (.aload_n 0, 1) := by decide +kernel
theorem dX1_badPair_9 : decode cX1_badPair 9 = .ok (.iload_n 2, 1) := by decide +kernel
theorem dX1_badPair_10 : decode cX1_badPair 10 = .ok (.invokevirtual 32, 3) := by decide +kernel
theorem dX1_badPair_13 : decode cX1_badPair 13 = .ok (.ifCond .ne 8, 3) := by decide +kernel
theorem dX1_badPair_16 : decode cX1_badPair 16 = .ok (.iload_n 1, 1) := by decide +kernel
theorem dX1_badPair_17 : decode cX1_badPair 17 = .ok (.iload_n 2, 1) := by decide +kernel
theorem dX1_badPair_18 : decode cX1_badPair 18 = .ok (.if_icmp .ne 7, 3) := by decide +kernel
theorem dX1_badPair_21 : decode cX1_badPair 21 = .ok (.iconst 1, 1) := by decide +kernel
theorem dX1_badPair_22 : decode cX1_badPair 22 = .ok (.goto 4, 3) := by decide +kernel
theorem dX1_badPair_25 : decode cX1_badPair 25 = .ok (.iconst 0, 1) := by decide +kernel
theorem dX1_badPair_26 : decode cX1_badPair 26 = .ok (.ireturn, 1) := by decide +kernel
abbrev cX1_bad : ByteArray := prog_1_method_3_code
def yX1_bad : MethodName := ⟨RX1, "bad", "(I)Z"⟩
theorem dX1_bad_0 : decode cX1_bad 0 = .ok (.iload_n 1, 1) := by decide +kernel
theorem dX1_bad_1 : decode cX1_bad 1 = .ok (.ifCond .lt 11, 3) := by decide +kernel
theorem dX1_bad_4 : decode cX1_bad 4 = .ok (.iload_n 1, 1) := by decide +kernel
theorem dX1_bad_5 : decode cX1_bad 5 = .ok (.aload_n 0, 1) := by decide +kernel
theorem dX1_bad_6 : decode cX1_bad 6 = .ok (.getfield 25, 3) := by decide +kernel
theorem dX1_bad_9 : decode cX1_bad 9 = .ok (.if_icmp .lt 7, 3) := by decide +kernel
theorem dX1_bad_12 : decode cX1_bad 12 = .ok (.iconst 1, 1) := by decide +kernel
theorem dX1_bad_13 : decode cX1_bad 13 = .ok (.goto 4, 3) := by decide +kernel
theorem dX1_bad_16 : decode cX1_bad 16 = .ok (.iconst 0, 1) := by decide +kernel
theorem dX1_bad_17 : decode cX1_bad 17 = .ok (.ireturn, 1) := by decide +kernel
abbrev cX1_linked : ByteArray := prog_1_method_5_code
def yX1_linked : MethodName := ⟨RX1, "linked", "(II)Z"⟩
theorem dX1_linked_0 : decode cX1_linked 0 = .ok (.aload_n 0, 1) := by decide +kernel
theorem dX1_linked_1 : decode cX1_linked 1 = .ok (.getfield 7, 3) := by decide +kernel
theorem dX1_linked_4 : decode cX1_linked 4 = .ok (.iload_n 1, 1) := by decide +kernel
theorem dX1_linked_5 : decode cX1_linked 5 = .ok (.iaload, 1) := by decide +kernel
theorem dX1_linked_6 : decode cX1_linked 6 = .ok (.iload_n 2, 1) := by decide +kernel
theorem dX1_linked_7 : decode cX1_linked 7 = .ok (.ishr, 1) := by decide +kernel
theorem dX1_linked_8 : decode cX1_linked 8 = .ok (.iconst 1, 1) := by decide +kernel
theorem dX1_linked_9 : decode cX1_linked 9 = .ok (.iand, 1) := by decide +kernel
theorem dX1_linked_10 : decode cX1_linked 10 = .ok (.iconst 1, 1) := by decide +kernel
theorem dX1_linked_11 : decode cX1_linked 11 = .ok (.if_icmp .ne 7, 3) := by decide +kernel
theorem dX1_linked_14 : decode cX1_linked 14 = .ok (.iconst 1, 1) := by decide +kernel
theorem dX1_linked_15 : decode cX1_linked 15 = .ok (.goto 4, 3) := by decide +kernel
theorem dX1_linked_18 : decode cX1_linked 18 = .ok (.iconst 0, 1) := by decide +kernel
theorem dX1_linked_19 : decode cX1_linked 19 = .ok (.ireturn, 1) := by decide +kernel
abbrev cX1_link : ByteArray := prog_1_method_6_code
def yX1_link : MethodName := ⟨RX1, "link", "(II)V"⟩
theorem dX1_link_0 : decode cX1_link 0 = .ok (.aload_n 0, 1) := by decide +kernel
theorem dX1_link_1 : decode cX1_link 1 = .ok (.getfield 7, 3) := by decide +kernel
theorem dX1_link_4 : decode cX1_link 4 = .ok (.iload_n 1, 1) := by decide +kernel
theorem dX1_link_5 : decode cX1_link 5 = .ok (.aload_n 0, 1) := by decide +kernel
theorem dX1_link_6 : decode cX1_link 6 = .ok (.getfield 7, 3) := by decide +kernel
theorem dX1_link_9 : decode cX1_link 9 = .ok (.iload_n 1, 1) := by decide +kernel
theorem dX1_link_10 : decode cX1_link 10 = .ok (.iaload, 1) := by decide +kernel
theorem dX1_link_11 : decode cX1_link 11 = .ok (.iconst 1, 1) := by decide +kernel
theorem dX1_link_12 : decode cX1_link 12 = .ok (.iload_n 2, 1) := by decide +kernel
theorem dX1_link_13 : decode cX1_link 13 = .ok (.ishl, 1) := by decide +kernel
theorem dX1_link_14 : decode cX1_link 14 = .ok (.ior, 1) := by decide +kernel
theorem dX1_link_15 : decode cX1_link 15 = .ok (.iastore, 1) := by decide +kernel
theorem dX1_link_16 : decode cX1_link 16 = .ok (.aload_n 0, 1) := by decide +kernel
theorem dX1_link_17 : decode cX1_link 17 = .ok (.getfield 7, 3) := by decide +kernel
theorem dX1_link_20 : decode cX1_link 20 = .ok (.iload_n 2, 1) := by decide +kernel
theorem dX1_link_21 : decode cX1_link 21 = .ok (.aload_n 0, 1) := by decide +kernel
theorem dX1_link_22 : decode cX1_link 22 = .ok (.getfield 7, 3) := by decide +kernel
theorem dX1_link_25 : decode cX1_link 25 = .ok (.iload_n 2, 1) := by decide +kernel
theorem dX1_link_26 : decode cX1_link 26 = .ok (.iaload, 1) := by decide +kernel
theorem dX1_link_27 : decode cX1_link 27 = .ok (.iconst 1, 1) := by decide +kernel
theorem dX1_link_28 : decode cX1_link 28 = .ok (.iload_n 1, 1) := by decide +kernel
theorem dX1_link_29 : decode cX1_link 29 = .ok (.ishl, 1) := by decide +kernel
theorem dX1_link_30 : decode cX1_link 30 = .ok (.ior, 1) := by decide +kernel
theorem dX1_link_31 : decode cX1_link 31 = .ok (.iastore, 1) := by decide +kernel
theorem dX1_link_32 : decode cX1_link 32 = .ok (.return_, 1) := by decide +kernel
abbrev cX1_unlink : ByteArray := prog_1_method_7_code
def yX1_unlink : MethodName := ⟨RX1, "unlink", "(II)V"⟩
theorem dX1_unlink_0 : decode cX1_unlink 0 = .ok (.aload_n 0, 1) := by decide +kernel
theorem dX1_unlink_1 : decode cX1_unlink 1 = .ok (.getfield 7, 3) := by decide +kernel
theorem dX1_unlink_4 : decode cX1_unlink 4 = .ok (.iload_n 1, 1) := by decide +kernel
theorem dX1_unlink_5 : decode cX1_unlink 5 = .ok (.aload_n 0, 1) := by decide +kernel
theorem dX1_unlink_6 : decode cX1_unlink 6 = .ok (.getfield 7, 3) := by decide +kernel
theorem dX1_unlink_9 : decode cX1_unlink 9 = .ok (.iload_n 1, 1) := by decide +kernel
theorem dX1_unlink_10 : decode cX1_unlink 10 = .ok (.iaload, 1) := by decide +kernel
theorem dX1_unlink_11 : decode cX1_unlink 11 = .ok (.iconst 1, 1) := by decide +kernel
theorem dX1_unlink_12 : decode cX1_unlink 12 = .ok (.iload_n 2, 1) := by decide +kernel
theorem dX1_unlink_13 : decode cX1_unlink 13 = .ok (.ishl, 1) := by decide +kernel
theorem dX1_unlink_14 : decode cX1_unlink 14 = .ok (.iconst (-1), 1) := by decide +kernel
theorem dX1_unlink_15 : decode cX1_unlink 15 = .ok (.ixor, 1) := by decide +kernel
theorem dX1_unlink_16 : decode cX1_unlink 16 = .ok (.iand, 1) := by decide +kernel
theorem dX1_unlink_17 : decode cX1_unlink 17 = .ok (.iastore, 1) := by decide +kernel
theorem dX1_unlink_18 : decode cX1_unlink 18 = .ok (.aload_n 0, 1) := by decide +kernel
theorem dX1_unlink_19 : decode cX1_unlink 19 = .ok (.getfield 7, 3) := by decide +kernel
theorem dX1_unlink_22 : decode cX1_unlink 22 = .ok (.iload_n 2, 1) := by decide +kernel
theorem dX1_unlink_23 : decode cX1_unlink 23 = .ok (.aload_n 0, 1) := by decide +kernel
theorem dX1_unlink_24 : decode cX1_unlink 24 = .ok (.getfield 7, 3) := by decide +kernel
theorem dX1_unlink_27 : decode cX1_unlink 27 = .ok (.iload_n 2, 1) := by decide +kernel
theorem dX1_unlink_28 : decode cX1_unlink 28 = .ok (.iaload, 1) := by decide +kernel
theorem dX1_unlink_29 : decode cX1_unlink 29 = .ok (.iconst 1, 1) := by decide +kernel
theorem dX1_unlink_30 : decode cX1_unlink 30 = .ok (.iload_n 1, 1) := by decide +kernel
theorem dX1_unlink_31 : decode cX1_unlink 31 = .ok (.ishl, 1) := by decide +kernel
theorem dX1_unlink_32 : decode cX1_unlink 32 = .ok (.iconst (-1), 1) := by decide +kernel
theorem dX1_unlink_33 : decode cX1_unlink 33 = .ok (.ixor, 1) := by decide +kernel
theorem dX1_unlink_34 : decode cX1_unlink 34 = .ok (.iand, 1) := by decide +kernel
theorem dX1_unlink_35 : decode cX1_unlink 35 = .ok (.iastore, 1) := by decide +kernel
theorem dX1_unlink_36 : decode cX1_unlink 36 = .ok (.return_, 1) := by decide +kernel
abbrev cX1_joined : ByteArray := prog_1_method_9_code
def yX1_joined : MethodName := ⟨RX1, "joined", "(II)Z"⟩
theorem dX1_joined_0 : decode cX1_joined 0 = .ok (.aload_n 0, 1) := by decide +kernel
theorem dX1_joined_1 : decode cX1_joined 1 = .ok (.iload_n 1, 1) := by decide +kernel
theorem dX1_joined_2 : decode cX1_joined 2 = .ok (.iload_n 2, 1) := by decide +kernel
theorem dX1_joined_3 : decode cX1_joined 3 = .ok (.invokevirtual 36, 3) := by decide +kernel
theorem dX1_joined_6 : decode cX1_joined 6 = .ok (.ifCond .eq 5, 3) := by decide +kernel
theorem dX1_joined_9 : decode cX1_joined 9 = .ok (.iconst 0, 1) := by decide +kernel
theorem dX1_joined_10 : decode cX1_joined 10 = .ok (.ireturn, 1) := by decide +kernel
theorem dX1_joined_11 : decode cX1_joined 11 = .ok (.aload_n 0, 1) := by decide +kernel
theorem dX1_joined_12 : decode cX1_joined 12 = .ok (.iload_n 1, 1) := by decide +kernel
theorem dX1_joined_13 : decode cX1_joined 13 = .ok (.iload_n 2, 1) := by decide +kernel
theorem dX1_joined_14 : decode cX1_joined 14 = .ok (.invokevirtual 40, 3) := by decide +kernel
theorem dX1_joined_17 : decode cX1_joined 17 = .ok (.ireturn, 1) := by decide +kernel
abbrev cX1_ends : ByteArray := prog_1_method_10_code
def yX1_ends : MethodName := ⟨RX1, "ends", "(II)I"⟩
theorem dX1_ends_0 : decode cX1_ends 0 = .ok (.aload_n 0, 1) := by decide +kernel
theorem dX1_ends_1 : decode cX1_ends 1 = .ok (.iload_n 1, 1) := by decide +kernel
theorem dX1_ends_2 : decode cX1_ends 2 = .ok (.iload_n 2, 1) := by decide +kernel
theorem dX1_ends_3 : decode cX1_ends 3 = .ok (.invokevirtual 36, 3) := by decide +kernel
theorem dX1_ends_6 : decode cX1_ends 6 = .ok (.ifCond .eq 5, 3) := by decide +kernel
theorem dX1_ends_9 : decode cX1_ends 9 = .ok (.iconst (-1), 1) := by decide +kernel
theorem dX1_ends_10 : decode cX1_ends 10 = .ok (.ireturn, 1) := by decide +kernel
theorem dX1_ends_11 : decode cX1_ends 11 = .ok (.aload_n 0, 1) := by decide +kernel
theorem dX1_ends_12 : decode cX1_ends 12 = .ok (.iload_n 1, 1) := by decide +kernel
theorem dX1_ends_13 : decode cX1_ends 13 = .ok (.putfield 50, 3) := by decide +kernel
theorem dX1_ends_16 : decode cX1_ends 16 = .ok (.aload_n 0, 1) := by decide +kernel
theorem dX1_ends_17 : decode cX1_ends 17 = .ok (.iload_n 2, 1) := by decide +kernel
theorem dX1_ends_18 : decode cX1_ends 18 = .ok (.putfield 29, 3) := by decide +kernel
theorem dX1_ends_21 : decode cX1_ends 21 = .ok (.iconst 0, 1) := by decide +kernel
theorem dX1_ends_22 : decode cX1_ends 22 = .ok (.ireturn, 1) := by decide +kernel
abbrev cX1_paths : ByteArray := prog_1_method_16_code
def yX1_paths : MethodName := ⟨RX1, "paths", "()I"⟩
theorem dX1_paths_0 : decode cX1_paths 0 = .ok (.aload_n 0, 1) := by decide +kernel
theorem dX1_paths_1 : decode cX1_paths 1 = .ok (.iconst 0, 1) := by decide +kernel
theorem dX1_paths_2 : decode cX1_paths 2 = .ok (.iconst 0, 1) := by decide +kernel
theorem dX1_paths_3 : decode cX1_paths 3 = .ok (.invokevirtual 66, 3) := by decide +kernel
theorem dX1_paths_6 : decode cX1_paths 6 = .ok (.ireturn, 1) := by decide +kernel
abbrev cX1_flow : ByteArray := prog_1_method_15_code
def yX1_flow : MethodName := ⟨RX1, "flow", "(II)I"⟩
theorem dX1_flow_0 : decode cX1_flow 0 = .ok (.aload_n 0, 1) := by decide +kernel
theorem dX1_flow_1 : decode cX1_flow 1 = .ok (.iload_n 1, 1) := by decide +kernel
theorem dX1_flow_2 : decode cX1_flow 2 = .ok (.iload_n 2, 1) := by decide +kernel
theorem dX1_flow_3 : decode cX1_flow 3 = .ok (.invokevirtual 56, 3) := by decide +kernel
theorem dX1_flow_6 : decode cX1_flow 6 = .ok (.iconst 0, 1) := by decide +kernel
theorem dX1_flow_7 : decode cX1_flow 7 = .ok (.istore_n 3, 1) := by decide +kernel
theorem dX1_flow_8 : decode cX1_flow 8 = .ok (.aload_n 0, 1) := by decide +kernel
theorem dX1_flow_9 : decode cX1_flow 9 = .ok (.invokevirtual 59, 3) := by decide +kernel
theorem dX1_flow_12 : decode cX1_flow 12 = .ok (.istore 4, 2) := by decide +kernel
theorem dX1_flow_14 : decode cX1_flow 14 = .ok (.iconst 0, 1) := by decide +kernel
theorem dX1_flow_15 : decode cX1_flow 15 = .ok (.istore 5, 2) := by decide +kernel
theorem dX1_flow_17 : decode cX1_flow 17 = .ok (.iload 5, 2) := by decide +kernel
theorem dX1_flow_19 : decode cX1_flow 19 = .ok (.bipush 9, 2) := by decide +kernel
theorem dX1_flow_21 : decode cX1_flow 21 = .ok (.if_icmp .ge 27, 3) := by decide +kernel
theorem dX1_flow_24 : decode cX1_flow 24 = .ok (.iload 4, 2) := by decide +kernel
theorem dX1_flow_26 : decode cX1_flow 26 = .ok (.ifCond .eq 22, 3) := by decide +kernel
theorem dX1_flow_29 : decode cX1_flow 29 = .ok (.aload_n 0, 1) := by decide +kernel
theorem dX1_flow_30 : decode cX1_flow 30 = .ok (.invokevirtual 63, 3) := by decide +kernel
theorem dX1_flow_33 : decode cX1_flow 33 = .ok (.iinc 3 1, 3) := by decide +kernel
theorem dX1_flow_36 : decode cX1_flow 36 = .ok (.aload_n 0, 1) := by decide +kernel
theorem dX1_flow_37 : decode cX1_flow 37 = .ok (.invokevirtual 59, 3) := by decide +kernel
theorem dX1_flow_40 : decode cX1_flow 40 = .ok (.istore 4, 2) := by decide +kernel
theorem dX1_flow_42 : decode cX1_flow 42 = .ok (.iinc 5 1, 3) := by decide +kernel
theorem dX1_flow_45 : decode cX1_flow 45 = .ok (.goto (-28), 3) := by decide +kernel
theorem dX1_flow_48 : decode cX1_flow 48 = .ok (.iload_n 3, 1) := by decide +kernel
theorem dX1_flow_49 : decode cX1_flow 49 = .ok (.ireturn, 1) := by decide +kernel
abbrev cX1_layOut : ByteArray := prog_1_method_11_code
def yX1_layOut : MethodName := ⟨RX1, "layOut", "(II)V"⟩
theorem dX1_layOut_0 : decode cX1_layOut 0 = .ok (.iconst 0, 1) := by decide +kernel
theorem dX1_layOut_1 : decode cX1_layOut 1 = .ok (.istore_n 3, 1) := by decide +kernel
theorem dX1_layOut_2 : decode cX1_layOut 2 = .ok (.iload_n 3, 1) := by decide +kernel
theorem dX1_layOut_3 : decode cX1_layOut 3 = .ok (.sipush 256, 3) := by decide +kernel
theorem dX1_layOut_6 : decode cX1_layOut 6 = .ok (.if_icmp .ge 16, 3) := by decide +kernel
theorem dX1_layOut_9 : decode cX1_layOut 9 = .ok (.aload_n 0, 1) := by decide +kernel
theorem dX1_layOut_10 : decode cX1_layOut 10 = .ok (.getfield 13, 3) := by decide +kernel
theorem dX1_layOut_13 : decode cX1_layOut 13 = .ok (.iload_n 3, 1) := by decide +kernel
theorem dX1_layOut_14 : decode cX1_layOut 14 = .ok (.iconst 0, 1) := by decide +kernel
theorem dX1_layOut_15 : decode cX1_layOut 15 = .ok (.iastore, 1) := by decide +kernel
theorem dX1_layOut_16 : decode cX1_layOut 16 = .ok (.iinc 3 1, 3) := by decide +kernel
theorem dX1_layOut_19 : decode cX1_layOut 19 = .ok (.goto (-17), 3) := by decide +kernel
theorem dX1_layOut_22 : decode cX1_layOut 22 = .ok (.iconst 0, 1) := by decide +kernel
theorem dX1_layOut_23 : decode cX1_layOut 23 = .ok (.istore_n 3, 1) := by decide +kernel
theorem dX1_layOut_24 : decode cX1_layOut 24 = .ok (.iload_n 3, 1) := by decide +kernel
theorem dX1_layOut_25 : decode cX1_layOut 25 = .ok (.aload_n 0, 1) := by decide +kernel
theorem dX1_layOut_26 : decode cX1_layOut 26 = .ok (.getfield 25, 3) := by decide +kernel
theorem dX1_layOut_29 : decode cX1_layOut 29 = .ok (.if_icmp .ge 83, 3) := by decide +kernel
theorem dX1_layOut_32 : decode cX1_layOut 32 = .ok (.iload_n 1, 1) := by decide +kernel
theorem dX1_layOut_33 : decode cX1_layOut 33 = .ok (.iload_n 3, 1) := by decide +kernel
theorem dX1_layOut_34 : decode cX1_layOut 34 = .ok (.ishr, 1) := by decide +kernel
theorem dX1_layOut_35 : decode cX1_layOut 35 = .ok (.iconst 1, 1) := by decide +kernel
theorem dX1_layOut_36 : decode cX1_layOut 36 = .ok (.iand, 1) := by decide +kernel
theorem dX1_layOut_37 : decode cX1_layOut 37 = .ok (.ifCond .ne 69, 3) := by decide +kernel
theorem dX1_layOut_40 : decode cX1_layOut 40 = .ok (.iload_n 3, 1) := by decide +kernel
theorem dX1_layOut_41 : decode cX1_layOut 41 = .ok (.aload_n 0, 1) := by decide +kernel
theorem dX1_layOut_42 : decode cX1_layOut 42 = .ok (.getfield 50, 3) := by decide +kernel
theorem dX1_layOut_45 : decode cX1_layOut 45 = .ok (.if_icmp .eq 20, 3) := by decide +kernel
theorem dX1_layOut_48 : decode cX1_layOut 48 = .ok (.iload_n 3, 1) := by decide +kernel
theorem dX1_layOut_49 : decode cX1_layOut 49 = .ok (.aload_n 0, 1) := by decide +kernel
theorem dX1_layOut_50 : decode cX1_layOut 50 = .ok (.getfield 29, 3) := by decide +kernel
theorem dX1_layOut_53 : decode cX1_layOut 53 = .ok (.if_icmp .eq 12, 3) := by decide +kernel
theorem dX1_layOut_56 : decode cX1_layOut 56 = .ok (.iload_n 2, 1) := by decide +kernel
theorem dX1_layOut_57 : decode cX1_layOut 57 = .ok (.iload_n 3, 1) := by decide +kernel
theorem dX1_layOut_58 : decode cX1_layOut 58 = .ok (.ishr, 1) := by decide +kernel
theorem dX1_layOut_59 : decode cX1_layOut 59 = .ok (.iconst 1, 1) := by decide +kernel
theorem dX1_layOut_60 : decode cX1_layOut 60 = .ok (.iand, 1) := by decide +kernel
theorem dX1_layOut_61 : decode cX1_layOut 61 = .ok (.iconst 1, 1) := by decide +kernel
theorem dX1_layOut_62 : decode cX1_layOut 62 = .ok (.if_icmp .ne 7, 3) := by decide +kernel
theorem dX1_layOut_65 : decode cX1_layOut 65 = .ok (.iconst 1, 1) := by decide +kernel
theorem dX1_layOut_66 : decode cX1_layOut 66 = .ok (.goto 4, 3) := by decide +kernel
theorem dX1_layOut_69 : decode cX1_layOut 69 = .ok (.iconst 0, 1) := by decide +kernel
theorem dX1_layOut_70 : decode cX1_layOut 70 = .ok (.istore 4, 2) := by decide +kernel
theorem dX1_layOut_72 : decode cX1_layOut 72 = .ok (.aload_n 0, 1) := by decide +kernel
theorem dX1_layOut_73 : decode cX1_layOut 73 = .ok (.getfield 13, 3) := by decide +kernel
theorem dX1_layOut_76 : decode cX1_layOut 76 = .ok (.iconst 2, 1) := by decide +kernel
theorem dX1_layOut_77 : decode cX1_layOut 77 = .ok (.iload_n 3, 1) := by decide +kernel
theorem dX1_layOut_78 : decode cX1_layOut 78 = .ok (.imul, 1) := by decide +kernel
theorem dX1_layOut_79 : decode cX1_layOut 79 = .ok (.bipush 16, 2) := by decide +kernel
theorem dX1_layOut_81 : decode cX1_layOut 81 = .ok (.imul, 1) := by decide +kernel
theorem dX1_layOut_82 : decode cX1_layOut 82 = .ok (.iconst 2, 1) := by decide +kernel
theorem dX1_layOut_83 : decode cX1_layOut 83 = .ok (.iload_n 3, 1) := by decide +kernel
theorem dX1_layOut_84 : decode cX1_layOut 84 = .ok (.imul, 1) := by decide +kernel
theorem dX1_layOut_85 : decode cX1_layOut 85 = .ok (.iadd, 1) := by decide +kernel
theorem dX1_layOut_86 : decode cX1_layOut 86 = .ok (.iconst 1, 1) := by decide +kernel
theorem dX1_layOut_87 : decode cX1_layOut 87 = .ok (.iadd, 1) := by decide +kernel
theorem dX1_layOut_88 : decode cX1_layOut 88 = .ok (.iload 4, 2) := by decide +kernel
theorem dX1_layOut_90 : decode cX1_layOut 90 = .ok (.ifCond .eq 8, 3) := by decide +kernel
theorem dX1_layOut_93 : decode cX1_layOut 93 = .ok (.bipush 9, 2) := by decide +kernel
theorem dX1_layOut_95 : decode cX1_layOut 95 = .ok (.goto 4, 3) := by decide +kernel
theorem dX1_layOut_98 : decode cX1_layOut 98 = .ok (.iconst 1, 1) := by decide +kernel
theorem dX1_layOut_99 : decode cX1_layOut 99 = .ok (.iastore, 1) := by decide +kernel
theorem dX1_layOut_100 : decode cX1_layOut 100 = .ok (.aload_n 0, 1) := by decide +kernel
theorem dX1_layOut_101 : decode cX1_layOut 101 = .ok (.iload_n 3, 1) := by decide +kernel
theorem dX1_layOut_102 : decode cX1_layOut 102 = .ok (.iload_n 1, 1) := by decide +kernel
theorem dX1_layOut_103 : decode cX1_layOut 103 = .ok (.invokevirtual 53, 3) := by decide +kernel
theorem dX1_layOut_106 : decode cX1_layOut 106 = .ok (.iinc 3 1, 3) := by decide +kernel
theorem dX1_layOut_109 : decode cX1_layOut 109 = .ok (.goto (-85), 3) := by decide +kernel
theorem dX1_layOut_112 : decode cX1_layOut 112 = .ok (.aload_n 0, 1) := by decide +kernel
theorem dX1_layOut_113 : decode cX1_layOut 113 = .ok (.aload_n 0, 1) := by decide +kernel
theorem dX1_layOut_114 : decode cX1_layOut 114 = .ok (.getfield 50, 3) := by decide +kernel
theorem dX1_layOut_117 : decode cX1_layOut 117 = .ok (.aload_n 0, 1) := by decide +kernel
theorem dX1_layOut_118 : decode cX1_layOut 118 = .ok (.getfield 29, 3) := by decide +kernel
theorem dX1_layOut_121 : decode cX1_layOut 121 = .ok (.invokevirtual 40, 3) := by decide +kernel
theorem dX1_layOut_124 : decode cX1_layOut 124 = .ok (.ifCond .eq 27, 3) := by decide +kernel
theorem dX1_layOut_127 : decode cX1_layOut 127 = .ok (.aload_n 0, 1) := by decide +kernel
theorem dX1_layOut_128 : decode cX1_layOut 128 = .ok (.getfield 13, 3) := by decide +kernel
theorem dX1_layOut_131 : decode cX1_layOut 131 = .ok (.iconst 2, 1) := by decide +kernel
theorem dX1_layOut_132 : decode cX1_layOut 132 = .ok (.aload_n 0, 1) := by decide +kernel
theorem dX1_layOut_133 : decode cX1_layOut 133 = .ok (.getfield 50, 3) := by decide +kernel
theorem dX1_layOut_136 : decode cX1_layOut 136 = .ok (.imul, 1) := by decide +kernel
theorem dX1_layOut_137 : decode cX1_layOut 137 = .ok (.iconst 1, 1) := by decide +kernel
theorem dX1_layOut_138 : decode cX1_layOut 138 = .ok (.iadd, 1) := by decide +kernel
theorem dX1_layOut_139 : decode cX1_layOut 139 = .ok (.bipush 16, 2) := by decide +kernel
theorem dX1_layOut_141 : decode cX1_layOut 141 = .ok (.imul, 1) := by decide +kernel
theorem dX1_layOut_142 : decode cX1_layOut 142 = .ok (.iconst 2, 1) := by decide +kernel
theorem dX1_layOut_143 : decode cX1_layOut 143 = .ok (.aload_n 0, 1) := by decide +kernel
theorem dX1_layOut_144 : decode cX1_layOut 144 = .ok (.getfield 29, 3) := by decide +kernel
theorem dX1_layOut_147 : decode cX1_layOut 147 = .ok (.imul, 1) := by decide +kernel
theorem dX1_layOut_148 : decode cX1_layOut 148 = .ok (.iadd, 1) := by decide +kernel
theorem dX1_layOut_149 : decode cX1_layOut 149 = .ok (.iconst 1, 1) := by decide +kernel
theorem dX1_layOut_150 : decode cX1_layOut 150 = .ok (.iastore, 1) := by decide +kernel
theorem dX1_layOut_151 : decode cX1_layOut 151 = .ok (.return_, 1) := by decide +kernel
abbrev cX1_layOutEdges : ByteArray := prog_1_method_12_code
def yX1_layOutEdges : MethodName := ⟨RX1, "layOutEdges", "(II)V"⟩
theorem dX1_layOutEdges_0 : decode cX1_layOutEdges 0 = .ok (.iconst 0, 1) := by decide +kernel
theorem dX1_layOutEdges_1 : decode cX1_layOutEdges 1 = .ok (.istore_n 3, 1) := by decide +kernel
theorem dX1_layOutEdges_2 : decode cX1_layOutEdges 2 = .ok (.iload_n 3, 1) := by decide +kernel
theorem dX1_layOutEdges_3 : decode cX1_layOutEdges 3 = .ok (.aload_n 0, 1) := by decide +kernel
theorem dX1_layOutEdges_4 : decode cX1_layOutEdges 4 = .ok (.getfield 25, 3) := by decide +kernel
theorem dX1_layOutEdges_7 : decode cX1_layOutEdges 7 = .ok (.if_icmp .ge 45, 3) := by decide +kernel
theorem dX1_layOutEdges_10 : decode cX1_layOutEdges 10 = .ok (.aload_n 0, 1) := by decide +kernel
theorem dX1_layOutEdges_11 : decode cX1_layOutEdges 11 = .ok (.iload_n 1, 1) := by decide +kernel
theorem dX1_layOutEdges_12 : decode cX1_layOutEdges 12 = .ok (.iload_n 3, 1) := by decide +kernel
theorem dX1_layOutEdges_13 : decode cX1_layOutEdges 13 = .ok (.invokevirtual 40, 3) := by decide +kernel
theorem dX1_layOutEdges_16 : decode cX1_layOutEdges 16 = .ok (.ifCond .eq 30, 3) := by decide +kernel
theorem dX1_layOutEdges_19 : decode cX1_layOutEdges 19 = .ok (.iload_n 2, 1) := by decide +kernel
theorem dX1_layOutEdges_20 : decode cX1_layOutEdges 20 = .ok (.iload_n 3, 1) := by decide +kernel
theorem dX1_layOutEdges_21 : decode cX1_layOutEdges 21 = .ok (.ishr, 1) := by decide +kernel
theorem dX1_layOutEdges_22 : decode cX1_layOutEdges 22 = .ok (.iconst 1, 1) := by decide +kernel
theorem dX1_layOutEdges_23 : decode cX1_layOutEdges 23 = .ok (.iand, 1) := by decide +kernel
theorem dX1_layOutEdges_24 : decode cX1_layOutEdges 24 = .ok (.ifCond .ne 22, 3) := by decide +kernel
theorem dX1_layOutEdges_27 : decode cX1_layOutEdges 27 = .ok (.aload_n 0, 1) := by decide +kernel
theorem dX1_layOutEdges_28 : decode cX1_layOutEdges 28 = .ok (.getfield 13, 3) := by decide +kernel
theorem dX1_layOutEdges_31 : decode cX1_layOutEdges 31 = .ok (.iconst 2, 1) := by decide +kernel
theorem dX1_layOutEdges_32 : decode cX1_layOutEdges 32 = .ok (.iload_n 1, 1) := by decide +kernel
theorem dX1_layOutEdges_33 : decode cX1_layOutEdges 33 = .ok (.imul, 1) := by decide +kernel
theorem dX1_layOutEdges_34 : decode cX1_layOutEdges 34 = .ok (.iconst 1, 1) := by decide +kernel
theorem dX1_layOutEdges_35 : decode cX1_layOutEdges 35 = .ok (.iadd, 1) := by decide +kernel
theorem dX1_layOutEdges_36 : decode cX1_layOutEdges 36 = .ok (.bipush 16, 2) := by decide +kernel
theorem dX1_layOutEdges_38 : decode cX1_layOutEdges 38 = .ok (.imul, 1) := by decide +kernel
theorem dX1_layOutEdges_39 : decode cX1_layOutEdges 39 = .ok (.iconst 2, 1) := by decide +kernel
theorem dX1_layOutEdges_40 : decode cX1_layOutEdges 40 = .ok (.iload_n 3, 1) := by decide +kernel
theorem dX1_layOutEdges_41 : decode cX1_layOutEdges 41 = .ok (.imul, 1) := by decide +kernel
theorem dX1_layOutEdges_42 : decode cX1_layOutEdges 42 = .ok (.iadd, 1) := by decide +kernel
theorem dX1_layOutEdges_43 : decode cX1_layOutEdges 43 = .ok (.bipush 9, 2) := by decide +kernel
theorem dX1_layOutEdges_45 : decode cX1_layOutEdges 45 = .ok (.iastore, 1) := by decide +kernel
theorem dX1_layOutEdges_46 : decode cX1_layOutEdges 46 = .ok (.iinc 3 1, 3) := by decide +kernel
theorem dX1_layOutEdges_49 : decode cX1_layOutEdges 49 = .ok (.goto (-47), 3) := by decide +kernel
theorem dX1_layOutEdges_52 : decode cX1_layOutEdges 52 = .ok (.return_, 1) := by decide +kernel
abbrev cX1_findWay : ByteArray := prog_1_method_13_code
def yX1_findWay : MethodName := ⟨RX1, "findWay", "()Z"⟩
theorem dX1_findWay_0 : decode cX1_findWay 0 = .ok (.iconst 0, 1) := by decide +kernel
theorem dX1_findWay_1 : decode cX1_findWay 1 = .ok (.istore_n 1, 1) := by decide +kernel
theorem dX1_findWay_2 : decode cX1_findWay 2 = .ok (.iload_n 1, 1) := by decide +kernel
theorem dX1_findWay_3 : decode cX1_findWay 3 = .ok (.bipush 16, 2) := by decide +kernel
theorem dX1_findWay_5 : decode cX1_findWay 5 = .ok (.if_icmp .ge 16, 3) := by decide +kernel
theorem dX1_findWay_8 : decode cX1_findWay 8 = .ok (.aload_n 0, 1) := by decide +kernel
theorem dX1_findWay_9 : decode cX1_findWay 9 = .ok (.getfield 16, 3) := by decide +kernel
theorem dX1_findWay_12 : decode cX1_findWay 12 = .ok (.iload_n 1, 1) := by decide +kernel
theorem dX1_findWay_13 : decode cX1_findWay 13 = .ok (.iconst (-1), 1) := by decide +kernel
theorem dX1_findWay_14 : decode cX1_findWay 14 = .ok (.iastore, 1) := by decide +kernel
theorem dX1_findWay_15 : decode cX1_findWay 15 = .ok (.iinc 1 1, 3) := by decide +kernel
theorem dX1_findWay_18 : decode cX1_findWay 18 = .ok (.goto (-16), 3) := by decide +kernel
theorem dX1_findWay_21 : decode cX1_findWay 21 = .ok (.iconst 2, 1) := by decide +kernel
theorem dX1_findWay_22 : decode cX1_findWay 22 = .ok (.aload_n 0, 1) := by decide +kernel
theorem dX1_findWay_23 : decode cX1_findWay 23 = .ok (.getfield 50, 3) := by decide +kernel
theorem dX1_findWay_26 : decode cX1_findWay 26 = .ok (.imul, 1) := by decide +kernel
theorem dX1_findWay_27 : decode cX1_findWay 27 = .ok (.iconst 1, 1) := by decide +kernel
theorem dX1_findWay_28 : decode cX1_findWay 28 = .ok (.iadd, 1) := by decide +kernel
theorem dX1_findWay_29 : decode cX1_findWay 29 = .ok (.istore_n 1, 1) := by decide +kernel
theorem dX1_findWay_30 : decode cX1_findWay 30 = .ok (.iconst 2, 1) := by decide +kernel
theorem dX1_findWay_31 : decode cX1_findWay 31 = .ok (.aload_n 0, 1) := by decide +kernel
theorem dX1_findWay_32 : decode cX1_findWay 32 = .ok (.getfield 29, 3) := by decide +kernel
theorem dX1_findWay_35 : decode cX1_findWay 35 = .ok (.imul, 1) := by decide +kernel
theorem dX1_findWay_36 : decode cX1_findWay 36 = .ok (.istore_n 2, 1) := by decide +kernel
theorem dX1_findWay_37 : decode cX1_findWay 37 = .ok (.aload_n 0, 1) := by decide +kernel
theorem dX1_findWay_38 : decode cX1_findWay 38 = .ok (.getfield 16, 3) := by decide +kernel
theorem dX1_findWay_41 : decode cX1_findWay 41 = .ok (.iload_n 1, 1) := by decide +kernel
theorem dX1_findWay_42 : decode cX1_findWay 42 = .ok (.iload_n 1, 1) := by decide +kernel
theorem dX1_findWay_43 : decode cX1_findWay 43 = .ok (.iastore, 1) := by decide +kernel
theorem dX1_findWay_44 : decode cX1_findWay 44 = .ok (.aload_n 0, 1) := by decide +kernel
theorem dX1_findWay_45 : decode cX1_findWay 45 = .ok (.getfield 19, 3) := by decide +kernel
theorem dX1_findWay_48 : decode cX1_findWay 48 = .ok (.iconst 0, 1) := by decide +kernel
theorem dX1_findWay_49 : decode cX1_findWay 49 = .ok (.iload_n 1, 1) := by decide +kernel
theorem dX1_findWay_50 : decode cX1_findWay 50 = .ok (.iastore, 1) := by decide +kernel
theorem dX1_findWay_51 : decode cX1_findWay 51 = .ok (.iconst 1, 1) := by decide +kernel
theorem dX1_findWay_52 : decode cX1_findWay 52 = .ok (.istore_n 3, 1) := by decide +kernel
theorem dX1_findWay_53 : decode cX1_findWay 53 = .ok (.iconst 0, 1) := by decide +kernel
theorem dX1_findWay_54 : decode cX1_findWay 54 = .ok (.istore 4, 2) := by decide +kernel
theorem dX1_findWay_56 : decode cX1_findWay 56 = .ok (.iload 4, 2) := by decide +kernel
theorem dX1_findWay_58 : decode cX1_findWay 58 = .ok (.iload_n 3, 1) := by decide +kernel
theorem dX1_findWay_59 : decode cX1_findWay 59 = .ok (.if_icmp .ge 91, 3) := by decide +kernel
theorem dX1_findWay_62 : decode cX1_findWay 62 = .ok (.iload 4, 2) := by decide +kernel
theorem dX1_findWay_64 : decode cX1_findWay 64 = .ok (.bipush 16, 2) := by decide +kernel
theorem dX1_findWay_66 : decode cX1_findWay 66 = .ok (.if_icmp .ge 84, 3) := by decide +kernel
theorem dX1_findWay_69 : decode cX1_findWay 69 = .ok (.aload_n 0, 1) := by decide +kernel
theorem dX1_findWay_70 : decode cX1_findWay 70 = .ok (.getfield 19, 3) := by decide +kernel
theorem dX1_findWay_73 : decode cX1_findWay 73 = .ok (.iload 4, 2) := by decide +kernel
theorem dX1_findWay_75 : decode cX1_findWay 75 = .ok (.iaload, 1) := by decide +kernel
theorem dX1_findWay_76 : decode cX1_findWay 76 = .ok (.istore 5, 2) := by decide +kernel
theorem dX1_findWay_78 : decode cX1_findWay 78 = .ok (.iconst 0, 1) := by decide +kernel
theorem dX1_findWay_79 : decode cX1_findWay 79 = .ok (.istore 6, 2) := by decide +kernel
theorem dX1_findWay_81 : decode cX1_findWay 81 = .ok (.iload 6, 2) := by decide +kernel
theorem dX1_findWay_83 : decode cX1_findWay 83 = .ok (.iconst 2, 1) := by decide +kernel
theorem dX1_findWay_84 : decode cX1_findWay 84 = .ok (.aload_n 0, 1) := by decide +kernel
theorem dX1_findWay_85 : decode cX1_findWay 85 = .ok (.getfield 25, 3) := by decide +kernel
theorem dX1_findWay_88 : decode cX1_findWay 88 = .ok (.imul, 1) := by decide +kernel
theorem dX1_findWay_89 : decode cX1_findWay 89 = .ok (.if_icmp .ge 55, 3) := by decide +kernel
theorem dX1_findWay_92 : decode cX1_findWay 92 = .ok (.aload_n 0, 1) := by decide +kernel
theorem dX1_findWay_93 : decode cX1_findWay 93 = .ok (.getfield 13, 3) := by decide +kernel
theorem dX1_findWay_96 : decode cX1_findWay 96 = .ok (.iload 5, 2) := by decide +kernel
theorem dX1_findWay_98 : decode cX1_findWay 98 = .ok (.bipush 16, 2) := by decide +kernel
theorem dX1_findWay_100 : decode cX1_findWay 100 = .ok (.imul, 1) := by decide +kernel
theorem dX1_findWay_101 : decode cX1_findWay 101 = .ok (.iload 6, 2) := by decide +kernel
theorem dX1_findWay_103 : decode cX1_findWay 103 = .ok (.iadd, 1) := by decide +kernel
theorem dX1_findWay_104 : decode cX1_findWay 104 = .ok (.iaload, 1) := by decide +kernel
theorem dX1_findWay_105 : decode cX1_findWay 105 = .ok (.ifCond .le 33, 3) := by decide +kernel
theorem dX1_findWay_108 : decode cX1_findWay 108 = .ok (.aload_n 0, 1) := by decide +kernel
theorem dX1_findWay_109 : decode cX1_findWay 109 = .ok (.getfield 16, 3) := by decide +kernel
theorem dX1_findWay_112 : decode cX1_findWay 112 = .ok (.iload 6, 2) := by decide +kernel
theorem dX1_findWay_114 : decode cX1_findWay 114 = .ok (.iaload, 1) := by decide +kernel
theorem dX1_findWay_115 : decode cX1_findWay 115 = .ok (.ifCond .ge 23, 3) := by decide +kernel
theorem dX1_findWay_118 : decode cX1_findWay 118 = .ok (.aload_n 0, 1) := by decide +kernel
theorem dX1_findWay_119 : decode cX1_findWay 119 = .ok (.getfield 16, 3) := by decide +kernel
theorem dX1_findWay_122 : decode cX1_findWay 122 = .ok (.iload 6, 2) := by decide +kernel
theorem dX1_findWay_124 : decode cX1_findWay 124 = .ok (.iload 5, 2) := by decide +kernel
theorem dX1_findWay_126 : decode cX1_findWay 126 = .ok (.iastore, 1) := by decide +kernel
theorem dX1_findWay_127 : decode cX1_findWay 127 = .ok (.aload_n 0, 1) := by decide +kernel
theorem dX1_findWay_128 : decode cX1_findWay 128 = .ok (.getfield 19, 3) := by decide +kernel
theorem dX1_findWay_131 : decode cX1_findWay 131 = .ok (.iload_n 3, 1) := by decide +kernel
theorem dX1_findWay_132 : decode cX1_findWay 132 = .ok (.iload 6, 2) := by decide +kernel
theorem dX1_findWay_134 : decode cX1_findWay 134 = .ok (.iastore, 1) := by decide +kernel
theorem dX1_findWay_135 : decode cX1_findWay 135 = .ok (.iinc 3 1, 3) := by decide +kernel
theorem dX1_findWay_138 : decode cX1_findWay 138 = .ok (.iinc 6 1, 3) := by decide +kernel
theorem dX1_findWay_141 : decode cX1_findWay 141 = .ok (.goto (-60), 3) := by decide +kernel
theorem dX1_findWay_144 : decode cX1_findWay 144 = .ok (.iinc 4 1, 3) := by decide +kernel
theorem dX1_findWay_147 : decode cX1_findWay 147 = .ok (.goto (-91), 3) := by decide +kernel
theorem dX1_findWay_150 : decode cX1_findWay 150 = .ok (.aload_n 0, 1) := by decide +kernel
theorem dX1_findWay_151 : decode cX1_findWay 151 = .ok (.getfield 16, 3) := by decide +kernel
theorem dX1_findWay_154 : decode cX1_findWay 154 = .ok (.iload_n 2, 1) := by decide +kernel
theorem dX1_findWay_155 : decode cX1_findWay 155 = .ok (.iaload, 1) := by decide +kernel
theorem dX1_findWay_156 : decode cX1_findWay 156 = .ok (.ifCond .lt 7, 3) := by decide +kernel
theorem dX1_findWay_159 : decode cX1_findWay 159 = .ok (.iconst 1, 1) := by decide +kernel
theorem dX1_findWay_160 : decode cX1_findWay 160 = .ok (.goto 4, 3) := by decide +kernel
theorem dX1_findWay_163 : decode cX1_findWay 163 = .ok (.iconst 0, 1) := by decide +kernel
theorem dX1_findWay_164 : decode cX1_findWay 164 = .ok (.ireturn, 1) := by decide +kernel
abbrev cX1_push : ByteArray := prog_1_method_14_code
def yX1_push : MethodName := ⟨RX1, "push", "()V"⟩
theorem dX1_push_0 : decode cX1_push 0 = .ok (.iconst 2, 1) := by decide +kernel
theorem dX1_push_1 : decode cX1_push 1 = .ok (.aload_n 0, 1) := by decide +kernel
theorem dX1_push_2 : decode cX1_push 2 = .ok (.getfield 29, 3) := by decide +kernel
theorem dX1_push_5 : decode cX1_push 5 = .ok (.imul, 1) := by decide +kernel
theorem dX1_push_6 : decode cX1_push 6 = .ok (.istore_n 1, 1) := by decide +kernel
theorem dX1_push_7 : decode cX1_push 7 = .ok (.iconst 2, 1) := by decide +kernel
theorem dX1_push_8 : decode cX1_push 8 = .ok (.aload_n 0, 1) := by decide +kernel
theorem dX1_push_9 : decode cX1_push 9 = .ok (.getfield 50, 3) := by decide +kernel
theorem dX1_push_12 : decode cX1_push 12 = .ok (.imul, 1) := by decide +kernel
theorem dX1_push_13 : decode cX1_push 13 = .ok (.iconst 1, 1) := by decide +kernel
theorem dX1_push_14 : decode cX1_push 14 = .ok (.iadd, 1) := by decide +kernel
theorem dX1_push_15 : decode cX1_push 15 = .ok (.istore_n 2, 1) := by decide +kernel
theorem dX1_push_16 : decode cX1_push 16 = .ok (.iconst 0, 1) := by decide +kernel
theorem dX1_push_17 : decode cX1_push 17 = .ok (.istore_n 3, 1) := by decide +kernel
theorem dX1_push_18 : decode cX1_push 18 = .ok (.iload_n 3, 1) := by decide +kernel
theorem dX1_push_19 : decode cX1_push 19 = .ok (.bipush 16, 2) := by decide +kernel
theorem dX1_push_21 : decode cX1_push 21 = .ok (.if_icmp .ge 77, 3) := by decide +kernel
theorem dX1_push_24 : decode cX1_push 24 = .ok (.iload_n 1, 1) := by decide +kernel
theorem dX1_push_25 : decode cX1_push 25 = .ok (.iload_n 2, 1) := by decide +kernel
theorem dX1_push_26 : decode cX1_push 26 = .ok (.if_icmp .eq 72, 3) := by decide +kernel
theorem dX1_push_29 : decode cX1_push 29 = .ok (.aload_n 0, 1) := by decide +kernel
theorem dX1_push_30 : decode cX1_push 30 = .ok (.getfield 16, 3) := by decide +kernel
theorem dX1_push_33 : decode cX1_push 33 = .ok (.iload_n 1, 1) := by decide +kernel
theorem dX1_push_34 : decode cX1_push 34 = .ok (.iaload, 1) := by decide +kernel
theorem dX1_push_35 : decode cX1_push 35 = .ok (.istore 4, 2) := by decide +kernel
theorem dX1_push_37 : decode cX1_push 37 = .ok (.aload_n 0, 1) := by decide +kernel
theorem dX1_push_38 : decode cX1_push 38 = .ok (.getfield 13, 3) := by decide +kernel
theorem dX1_push_41 : decode cX1_push 41 = .ok (.iload 4, 2) := by decide +kernel
theorem dX1_push_43 : decode cX1_push 43 = .ok (.bipush 16, 2) := by decide +kernel
theorem dX1_push_45 : decode cX1_push 45 = .ok (.imul, 1) := by decide +kernel
theorem dX1_push_46 : decode cX1_push 46 = .ok (.iload_n 1, 1) := by decide +kernel
theorem dX1_push_47 : decode cX1_push 47 = .ok (.iadd, 1) := by decide +kernel
theorem dX1_push_48 : decode cX1_push 48 = .ok (.aload_n 0, 1) := by decide +kernel
theorem dX1_push_49 : decode cX1_push 49 = .ok (.getfield 13, 3) := by decide +kernel
theorem dX1_push_52 : decode cX1_push 52 = .ok (.iload 4, 2) := by decide +kernel
theorem dX1_push_54 : decode cX1_push 54 = .ok (.bipush 16, 2) := by decide +kernel
theorem dX1_push_56 : decode cX1_push 56 = .ok (.imul, 1) := by decide +kernel
theorem dX1_push_57 : decode cX1_push 57 = .ok (.iload_n 1, 1) := by decide +kernel
theorem dX1_push_58 : decode cX1_push 58 = .ok (.iadd, 1) := by decide +kernel
theorem dX1_push_59 : decode cX1_push 59 = .ok (.iaload, 1) := by decide +kernel
theorem dX1_push_60 : decode cX1_push 60 = .ok (.iconst 1, 1) := by decide +kernel
theorem dX1_push_61 : decode cX1_push 61 = .ok (.isub, 1) := by decide +kernel
theorem dX1_push_62 : decode cX1_push 62 = .ok (.iastore, 1) := by decide +kernel
theorem dX1_push_63 : decode cX1_push 63 = .ok (.aload_n 0, 1) := by decide +kernel
theorem dX1_push_64 : decode cX1_push 64 = .ok (.getfield 13, 3) := by decide +kernel
theorem dX1_push_67 : decode cX1_push 67 = .ok (.iload_n 1, 1) := by decide +kernel
theorem dX1_push_68 : decode cX1_push 68 = .ok (.bipush 16, 2) := by decide +kernel
theorem dX1_push_70 : decode cX1_push 70 = .ok (.imul, 1) := by decide +kernel
theorem dX1_push_71 : decode cX1_push 71 = .ok (.iload 4, 2) := by decide +kernel
theorem dX1_push_73 : decode cX1_push 73 = .ok (.iadd, 1) := by decide +kernel
theorem dX1_push_74 : decode cX1_push 74 = .ok (.aload_n 0, 1) := by decide +kernel
theorem dX1_push_75 : decode cX1_push 75 = .ok (.getfield 13, 3) := by decide +kernel
theorem dX1_push_78 : decode cX1_push 78 = .ok (.iload_n 1, 1) := by decide +kernel
theorem dX1_push_79 : decode cX1_push 79 = .ok (.bipush 16, 2) := by decide +kernel
theorem dX1_push_81 : decode cX1_push 81 = .ok (.imul, 1) := by decide +kernel
theorem dX1_push_82 : decode cX1_push 82 = .ok (.iload 4, 2) := by decide +kernel
theorem dX1_push_84 : decode cX1_push 84 = .ok (.iadd, 1) := by decide +kernel
theorem dX1_push_85 : decode cX1_push 85 = .ok (.iaload, 1) := by decide +kernel
theorem dX1_push_86 : decode cX1_push 86 = .ok (.iconst 1, 1) := by decide +kernel
theorem dX1_push_87 : decode cX1_push 87 = .ok (.iadd, 1) := by decide +kernel
theorem dX1_push_88 : decode cX1_push 88 = .ok (.iastore, 1) := by decide +kernel
theorem dX1_push_89 : decode cX1_push 89 = .ok (.iload 4, 2) := by decide +kernel
theorem dX1_push_91 : decode cX1_push 91 = .ok (.istore_n 1, 1) := by decide +kernel
theorem dX1_push_92 : decode cX1_push 92 = .ok (.iinc 3 1, 3) := by decide +kernel
theorem dX1_push_95 : decode cX1_push 95 = .ok (.goto (-77), 3) := by decide +kernel
theorem dX1_push_98 : decode cX1_push 98 = .ok (.return_, 1) := by decide +kernel
abbrev cX1_cutSize : ByteArray := prog_1_method_17_code
def yX1_cutSize : MethodName := ⟨RX1, "cutSize", "()I"⟩
theorem dX1_cutSize_0 : decode cX1_cutSize 0 = .ok (.aload_n 0, 1) := by decide +kernel
theorem dX1_cutSize_1 : decode cX1_cutSize 1 = .ok (.aload_n 0, 1) := by decide +kernel
theorem dX1_cutSize_2 : decode cX1_cutSize 2 = .ok (.getfield 50, 3) := by decide +kernel
theorem dX1_cutSize_5 : decode cX1_cutSize 5 = .ok (.aload_n 0, 1) := by decide +kernel
theorem dX1_cutSize_6 : decode cX1_cutSize 6 = .ok (.getfield 29, 3) := by decide +kernel
theorem dX1_cutSize_9 : decode cX1_cutSize 9 = .ok (.invokevirtual 40, 3) := by decide +kernel
theorem dX1_cutSize_12 : decode cX1_cutSize 12 = .ok (.ifCond .eq 6, 3) := by decide +kernel
theorem dX1_cutSize_15 : decode cX1_cutSize 15 = .ok (.bipush (-4), 2) := by decide +kernel
theorem dX1_cutSize_17 : decode cX1_cutSize 17 = .ok (.ireturn, 1) := by decide +kernel
theorem dX1_cutSize_18 : decode cX1_cutSize 18 = .ok (.aload_n 0, 1) := by decide +kernel
theorem dX1_cutSize_19 : decode cX1_cutSize 19 = .ok (.iconst 0, 1) := by decide +kernel
theorem dX1_cutSize_20 : decode cX1_cutSize 20 = .ok (.iconst 0, 1) := by decide +kernel
theorem dX1_cutSize_21 : decode cX1_cutSize 21 = .ok (.invokevirtual 66, 3) := by decide +kernel
theorem dX1_cutSize_24 : decode cX1_cutSize 24 = .ok (.ireturn, 1) := by decide +kernel
abbrev cX1_firstCut : ByteArray := prog_1_method_18_code
def yX1_firstCut : MethodName := ⟨RX1, "firstCut", "()I"⟩
theorem dX1_firstCut_0 : decode cX1_firstCut 0 = .ok (.aload_n 0, 1) := by decide +kernel
theorem dX1_firstCut_1 : decode cX1_firstCut 1 = .ok (.aload_n 0, 1) := by decide +kernel
theorem dX1_firstCut_2 : decode cX1_firstCut 2 = .ok (.getfield 50, 3) := by decide +kernel
theorem dX1_firstCut_5 : decode cX1_firstCut 5 = .ok (.aload_n 0, 1) := by decide +kernel
theorem dX1_firstCut_6 : decode cX1_firstCut 6 = .ok (.getfield 29, 3) := by decide +kernel
theorem dX1_firstCut_9 : decode cX1_firstCut 9 = .ok (.invokevirtual 40, 3) := by decide +kernel
theorem dX1_firstCut_12 : decode cX1_firstCut 12 = .ok (.ifCond .eq 6, 3) := by decide +kernel
theorem dX1_firstCut_15 : decode cX1_firstCut 15 = .ok (.bipush (-4), 2) := by decide +kernel
theorem dX1_firstCut_17 : decode cX1_firstCut 17 = .ok (.ireturn, 1) := by decide +kernel
theorem dX1_firstCut_18 : decode cX1_firstCut 18 = .ok (.aload_n 0, 1) := by decide +kernel
theorem dX1_firstCut_19 : decode cX1_firstCut 19 = .ok (.iconst 0, 1) := by decide +kernel
theorem dX1_firstCut_20 : decode cX1_firstCut 20 = .ok (.iconst 0, 1) := by decide +kernel
theorem dX1_firstCut_21 : decode cX1_firstCut 21 = .ok (.invokevirtual 66, 3) := by decide +kernel
theorem dX1_firstCut_24 : decode cX1_firstCut 24 = .ok (.istore_n 1, 1) := by decide +kernel
theorem dX1_firstCut_25 : decode cX1_firstCut 25 = .ok (.iconst 0, 1) := by decide +kernel
theorem dX1_firstCut_26 : decode cX1_firstCut 26 = .ok (.istore_n 2, 1) := by decide +kernel
theorem dX1_firstCut_27 : decode cX1_firstCut 27 = .ok (.iconst 0, 1) := by decide +kernel
theorem dX1_firstCut_28 : decode cX1_firstCut 28 = .ok (.istore_n 3, 1) := by decide +kernel
theorem dX1_firstCut_29 : decode cX1_firstCut 29 = .ok (.aload_n 0, 1) := by decide +kernel
theorem dX1_firstCut_30 : decode cX1_firstCut 30 = .ok (.getfield 25, 3) := by decide +kernel
theorem dX1_firstCut_33 : decode cX1_firstCut 33 = .ok (.iconst 1, 1) := by decide +kernel
theorem dX1_firstCut_34 : decode cX1_firstCut 34 = .ok (.isub, 1) := by decide +kernel
theorem dX1_firstCut_35 : decode cX1_firstCut 35 = .ok (.istore 4, 2) := by decide +kernel
theorem dX1_firstCut_37 : decode cX1_firstCut 37 = .ok (.iload 4, 2) := by decide +kernel
theorem dX1_firstCut_39 : decode cX1_firstCut 39 = .ok (.ifCond .lt 66, 3) := by decide +kernel
theorem dX1_firstCut_42 : decode cX1_firstCut 42 = .ok (.iload 4, 2) := by decide +kernel
theorem dX1_firstCut_44 : decode cX1_firstCut 44 = .ok (.aload_n 0, 1) := by decide +kernel
theorem dX1_firstCut_45 : decode cX1_firstCut 45 = .ok (.getfield 50, 3) := by decide +kernel
theorem dX1_firstCut_48 : decode cX1_firstCut 48 = .ok (.if_icmp .eq 51, 3) := by decide +kernel
theorem dX1_firstCut_51 : decode cX1_firstCut 51 = .ok (.iload 4, 2) := by decide +kernel
theorem dX1_firstCut_53 : decode cX1_firstCut 53 = .ok (.aload_n 0, 1) := by decide +kernel
theorem dX1_firstCut_54 : decode cX1_firstCut 54 = .ok (.getfield 29, 3) := by decide +kernel
theorem dX1_firstCut_57 : decode cX1_firstCut 57 = .ok (.if_icmp .eq 42, 3) := by decide +kernel
theorem dX1_firstCut_60 : decode cX1_firstCut 60 = .ok (.aload_n 0, 1) := by decide +kernel
theorem dX1_firstCut_61 : decode cX1_firstCut 61 = .ok (.iload_n 2, 1) := by decide +kernel
theorem dX1_firstCut_62 : decode cX1_firstCut 62 = .ok (.iload_n 3, 1) := by decide +kernel
theorem dX1_firstCut_63 : decode cX1_firstCut 63 = .ok (.iconst 1, 1) := by decide +kernel
theorem dX1_firstCut_64 : decode cX1_firstCut 64 = .ok (.iload 4, 2) := by decide +kernel
theorem dX1_firstCut_66 : decode cX1_firstCut 66 = .ok (.ishl, 1) := by decide +kernel
theorem dX1_firstCut_67 : decode cX1_firstCut 67 = .ok (.ior, 1) := by decide +kernel
theorem dX1_firstCut_68 : decode cX1_firstCut 68 = .ok (.invokevirtual 66, 3) := by decide +kernel
theorem dX1_firstCut_71 : decode cX1_firstCut 71 = .ok (.istore 5, 2) := by decide +kernel
theorem dX1_firstCut_73 : decode cX1_firstCut 73 = .ok (.iload 5, 2) := by decide +kernel
theorem dX1_firstCut_75 : decode cX1_firstCut 75 = .ok (.iload_n 1, 1) := by decide +kernel
theorem dX1_firstCut_76 : decode cX1_firstCut 76 = .ok (.if_icmp .ne 13, 3) := by decide +kernel
theorem dX1_firstCut_79 : decode cX1_firstCut 79 = .ok (.iload_n 3, 1) := by decide +kernel
theorem dX1_firstCut_80 : decode cX1_firstCut 80 = .ok (.iconst 1, 1) := by decide +kernel
theorem dX1_firstCut_81 : decode cX1_firstCut 81 = .ok (.iload 4, 2) := by decide +kernel
theorem dX1_firstCut_83 : decode cX1_firstCut 83 = .ok (.ishl, 1) := by decide +kernel
theorem dX1_firstCut_84 : decode cX1_firstCut 84 = .ok (.ior, 1) := by decide +kernel
theorem dX1_firstCut_85 : decode cX1_firstCut 85 = .ok (.istore_n 3, 1) := by decide +kernel
theorem dX1_firstCut_86 : decode cX1_firstCut 86 = .ok (.goto 13, 3) := by decide +kernel
theorem dX1_firstCut_89 : decode cX1_firstCut 89 = .ok (.iload_n 2, 1) := by decide +kernel
theorem dX1_firstCut_90 : decode cX1_firstCut 90 = .ok (.iconst 1, 1) := by decide +kernel
theorem dX1_firstCut_91 : decode cX1_firstCut 91 = .ok (.iload 4, 2) := by decide +kernel
theorem dX1_firstCut_93 : decode cX1_firstCut 93 = .ok (.ishl, 1) := by decide +kernel
theorem dX1_firstCut_94 : decode cX1_firstCut 94 = .ok (.ior, 1) := by decide +kernel
theorem dX1_firstCut_95 : decode cX1_firstCut 95 = .ok (.istore_n 2, 1) := by decide +kernel
theorem dX1_firstCut_96 : decode cX1_firstCut 96 = .ok (.iinc 1 (-1), 3) := by decide +kernel
theorem dX1_firstCut_99 : decode cX1_firstCut 99 = .ok (.iinc 4 (-1), 3) := by decide +kernel
theorem dX1_firstCut_102 : decode cX1_firstCut 102 = .ok (.goto (-65), 3) := by decide +kernel
theorem dX1_firstCut_105 : decode cX1_firstCut 105 = .ok (.iload_n 2, 1) := by decide +kernel
theorem dX1_firstCut_106 : decode cX1_firstCut 106 = .ok (.ireturn, 1) := by decide +kernel
abbrev cX1_cutWith : ByteArray := prog_1_method_19_code
def yX1_cutWith : MethodName := ⟨RX1, "cutWith", "(I)I"⟩
theorem dX1_cutWith_0 : decode cX1_cutWith 0 = .ok (.aload_n 0, 1) := by decide +kernel
theorem dX1_cutWith_1 : decode cX1_cutWith 1 = .ok (.iload_n 1, 1) := by decide +kernel
theorem dX1_cutWith_2 : decode cX1_cutWith 2 = .ok (.invokevirtual 32, 3) := by decide +kernel
theorem dX1_cutWith_5 : decode cX1_cutWith 5 = .ok (.ifCond .eq 5, 3) := by decide +kernel
theorem dX1_cutWith_8 : decode cX1_cutWith 8 = .ok (.iconst (-1), 1) := by decide +kernel
theorem dX1_cutWith_9 : decode cX1_cutWith 9 = .ok (.ireturn, 1) := by decide +kernel
theorem dX1_cutWith_10 : decode cX1_cutWith 10 = .ok (.iload_n 1, 1) := by decide +kernel
theorem dX1_cutWith_11 : decode cX1_cutWith 11 = .ok (.aload_n 0, 1) := by decide +kernel
theorem dX1_cutWith_12 : decode cX1_cutWith 12 = .ok (.getfield 50, 3) := by decide +kernel
theorem dX1_cutWith_15 : decode cX1_cutWith 15 = .ok (.if_icmp .eq 26, 3) := by decide +kernel
theorem dX1_cutWith_18 : decode cX1_cutWith 18 = .ok (.iload_n 1, 1) := by decide +kernel
theorem dX1_cutWith_19 : decode cX1_cutWith 19 = .ok (.aload_n 0, 1) := by decide +kernel
theorem dX1_cutWith_20 : decode cX1_cutWith 20 = .ok (.getfield 29, 3) := by decide +kernel
theorem dX1_cutWith_23 : decode cX1_cutWith 23 = .ok (.if_icmp .eq 18, 3) := by decide +kernel
theorem dX1_cutWith_26 : decode cX1_cutWith 26 = .ok (.aload_n 0, 1) := by decide +kernel
theorem dX1_cutWith_27 : decode cX1_cutWith 27 = .ok (.aload_n 0, 1) := by decide +kernel
theorem dX1_cutWith_28 : decode cX1_cutWith 28 = .ok (.getfield 50, 3) := by decide +kernel
theorem dX1_cutWith_31 : decode cX1_cutWith 31 = .ok (.aload_n 0, 1) := by decide +kernel
theorem dX1_cutWith_32 : decode cX1_cutWith 32 = .ok (.getfield 29, 3) := by decide +kernel
theorem dX1_cutWith_35 : decode cX1_cutWith 35 = .ok (.invokevirtual 40, 3) := by decide +kernel
theorem dX1_cutWith_38 : decode cX1_cutWith 38 = .ok (.ifCond .eq 6, 3) := by decide +kernel
theorem dX1_cutWith_41 : decode cX1_cutWith 41 = .ok (.bipush (-4), 2) := by decide +kernel
theorem dX1_cutWith_43 : decode cX1_cutWith 43 = .ok (.ireturn, 1) := by decide +kernel
theorem dX1_cutWith_44 : decode cX1_cutWith 44 = .ok (.aload_n 0, 1) := by decide +kernel
theorem dX1_cutWith_45 : decode cX1_cutWith 45 = .ok (.iconst 1, 1) := by decide +kernel
theorem dX1_cutWith_46 : decode cX1_cutWith 46 = .ok (.iload_n 1, 1) := by decide +kernel
theorem dX1_cutWith_47 : decode cX1_cutWith 47 = .ok (.ishl, 1) := by decide +kernel
theorem dX1_cutWith_48 : decode cX1_cutWith 48 = .ok (.iconst 0, 1) := by decide +kernel
theorem dX1_cutWith_49 : decode cX1_cutWith 49 = .ok (.invokevirtual 66, 3) := by decide +kernel
theorem dX1_cutWith_52 : decode cX1_cutWith 52 = .ok (.iconst 1, 1) := by decide +kernel
theorem dX1_cutWith_53 : decode cX1_cutWith 53 = .ok (.iadd, 1) := by decide +kernel
theorem dX1_cutWith_54 : decode cX1_cutWith 54 = .ok (.ireturn, 1) := by decide +kernel
abbrev cX1_loss : ByteArray := prog_1_method_20_code
def yX1_loss : MethodName := ⟨RX1, "loss", "(I)I"⟩
theorem dX1_loss_0 : decode cX1_loss 0 = .ok (.aload_n 0, 1) := by decide +kernel
theorem dX1_loss_1 : decode cX1_loss 1 = .ok (.iload_n 1, 1) := by decide +kernel
theorem dX1_loss_2 : decode cX1_loss 2 = .ok (.invokevirtual 32, 3) := by decide +kernel
theorem dX1_loss_5 : decode cX1_loss 5 = .ok (.ifCond .eq 5, 3) := by decide +kernel
theorem dX1_loss_8 : decode cX1_loss 8 = .ok (.iconst (-1), 1) := by decide +kernel
theorem dX1_loss_9 : decode cX1_loss 9 = .ok (.ireturn, 1) := by decide +kernel
theorem dX1_loss_10 : decode cX1_loss 10 = .ok (.iload_n 1, 1) := by decide +kernel
theorem dX1_loss_11 : decode cX1_loss 11 = .ok (.aload_n 0, 1) := by decide +kernel
theorem dX1_loss_12 : decode cX1_loss 12 = .ok (.getfield 50, 3) := by decide +kernel
theorem dX1_loss_15 : decode cX1_loss 15 = .ok (.if_icmp .eq 11, 3) := by decide +kernel
theorem dX1_loss_18 : decode cX1_loss 18 = .ok (.iload_n 1, 1) := by decide +kernel
theorem dX1_loss_19 : decode cX1_loss 19 = .ok (.aload_n 0, 1) := by decide +kernel
theorem dX1_loss_20 : decode cX1_loss 20 = .ok (.getfield 29, 3) := by decide +kernel
theorem dX1_loss_23 : decode cX1_loss 23 = .ok (.if_icmp .ne 5, 3) := by decide +kernel
theorem dX1_loss_26 : decode cX1_loss 26 = .ok (.iconst 0, 1) := by decide +kernel
theorem dX1_loss_27 : decode cX1_loss 27 = .ok (.ireturn, 1) := by decide +kernel
theorem dX1_loss_28 : decode cX1_loss 28 = .ok (.aload_n 0, 1) := by decide +kernel
theorem dX1_loss_29 : decode cX1_loss 29 = .ok (.iconst 0, 1) := by decide +kernel
theorem dX1_loss_30 : decode cX1_loss 30 = .ok (.iconst 0, 1) := by decide +kernel
theorem dX1_loss_31 : decode cX1_loss 31 = .ok (.invokevirtual 66, 3) := by decide +kernel
theorem dX1_loss_34 : decode cX1_loss 34 = .ok (.istore_n 2, 1) := by decide +kernel
theorem dX1_loss_35 : decode cX1_loss 35 = .ok (.aload_n 0, 1) := by decide +kernel
theorem dX1_loss_36 : decode cX1_loss 36 = .ok (.iconst 1, 1) := by decide +kernel
theorem dX1_loss_37 : decode cX1_loss 37 = .ok (.iload_n 1, 1) := by decide +kernel
theorem dX1_loss_38 : decode cX1_loss 38 = .ok (.ishl, 1) := by decide +kernel
theorem dX1_loss_39 : decode cX1_loss 39 = .ok (.iconst 0, 1) := by decide +kernel
theorem dX1_loss_40 : decode cX1_loss 40 = .ok (.invokevirtual 66, 3) := by decide +kernel
theorem dX1_loss_43 : decode cX1_loss 43 = .ok (.istore_n 3, 1) := by decide +kernel
theorem dX1_loss_44 : decode cX1_loss 44 = .ok (.iload_n 2, 1) := by decide +kernel
theorem dX1_loss_45 : decode cX1_loss 45 = .ok (.iload_n 3, 1) := by decide +kernel
theorem dX1_loss_46 : decode cX1_loss 46 = .ok (.isub, 1) := by decide +kernel
theorem dX1_loss_47 : decode cX1_loss 47 = .ok (.ireturn, 1) := by decide +kernel
abbrev cX1_tightEdges : ByteArray := prog_1_method_22_code
def yX1_tightEdges : MethodName := ⟨RX1, "tightEdges", "()I"⟩
theorem dX1_tightEdges_0 : decode cX1_tightEdges 0 = .ok (.aload_n 0, 1) := by decide +kernel
theorem dX1_tightEdges_1 : decode cX1_tightEdges 1 = .ok (.iconst 0, 1) := by decide +kernel
theorem dX1_tightEdges_2 : decode cX1_tightEdges 2 = .ok (.iconst 0, 1) := by decide +kernel
theorem dX1_tightEdges_3 : decode cX1_tightEdges 3 = .ok (.invokevirtual 66, 3) := by decide +kernel
theorem dX1_tightEdges_6 : decode cX1_tightEdges 6 = .ok (.istore_n 1, 1) := by decide +kernel
theorem dX1_tightEdges_7 : decode cX1_tightEdges 7 = .ok (.iconst 0, 1) := by decide +kernel
theorem dX1_tightEdges_8 : decode cX1_tightEdges 8 = .ok (.istore_n 2, 1) := by decide +kernel
theorem dX1_tightEdges_9 : decode cX1_tightEdges 9 = .ok (.iconst 0, 1) := by decide +kernel
theorem dX1_tightEdges_10 : decode cX1_tightEdges 10 = .ok (.istore_n 3, 1) := by decide +kernel
theorem dX1_tightEdges_11 : decode cX1_tightEdges 11 = .ok (.iload_n 3, 1) := by decide +kernel
theorem dX1_tightEdges_12 : decode cX1_tightEdges 12 = .ok (.aload_n 0, 1) := by decide +kernel
theorem dX1_tightEdges_13 : decode cX1_tightEdges 13 = .ok (.getfield 25, 3) := by decide +kernel
theorem dX1_tightEdges_16 : decode cX1_tightEdges 16 = .ok (.if_icmp .ge 57, 3) := by decide +kernel
theorem dX1_tightEdges_19 : decode cX1_tightEdges 19 = .ok (.iload_n 3, 1) := by decide +kernel
theorem dX1_tightEdges_20 : decode cX1_tightEdges 20 = .ok (.iconst 1, 1) := by decide +kernel
theorem dX1_tightEdges_21 : decode cX1_tightEdges 21 = .ok (.iadd, 1) := by decide +kernel
theorem dX1_tightEdges_22 : decode cX1_tightEdges 22 = .ok (.istore 4, 2) := by decide +kernel
theorem dX1_tightEdges_24 : decode cX1_tightEdges 24 = .ok (.iload 4, 2) := by decide +kernel
theorem dX1_tightEdges_26 : decode cX1_tightEdges 26 = .ok (.aload_n 0, 1) := by decide +kernel
theorem dX1_tightEdges_27 : decode cX1_tightEdges 27 = .ok (.getfield 25, 3) := by decide +kernel
theorem dX1_tightEdges_30 : decode cX1_tightEdges 30 = .ok (.if_icmp .ge 37, 3) := by decide +kernel
theorem dX1_tightEdges_33 : decode cX1_tightEdges 33 = .ok (.aload_n 0, 1) := by decide +kernel
theorem dX1_tightEdges_34 : decode cX1_tightEdges 34 = .ok (.iload_n 3, 1) := by decide +kernel
theorem dX1_tightEdges_35 : decode cX1_tightEdges 35 = .ok (.iload 4, 2) := by decide +kernel
theorem dX1_tightEdges_37 : decode cX1_tightEdges 37 = .ok (.invokevirtual 40, 3) := by decide +kernel
theorem dX1_tightEdges_40 : decode cX1_tightEdges 40 = .ok (.ifCond .eq 21, 3) := by decide +kernel
theorem dX1_tightEdges_43 : decode cX1_tightEdges 43 = .ok (.aload_n 0, 1) := by decide +kernel
theorem dX1_tightEdges_44 : decode cX1_tightEdges 44 = .ok (.iload_n 3, 1) := by decide +kernel
theorem dX1_tightEdges_45 : decode cX1_tightEdges 45 = .ok (.iload 4, 2) := by decide +kernel
theorem dX1_tightEdges_47 : decode cX1_tightEdges 47 = .ok (.invokevirtual 70, 3) := by decide +kernel
theorem dX1_tightEdges_50 : decode cX1_tightEdges 50 = .ok (.istore 5, 2) := by decide +kernel
theorem dX1_tightEdges_52 : decode cX1_tightEdges 52 = .ok (.iload 5, 2) := by decide +kernel
theorem dX1_tightEdges_54 : decode cX1_tightEdges 54 = .ok (.iload_n 1, 1) := by decide +kernel
theorem dX1_tightEdges_55 : decode cX1_tightEdges 55 = .ok (.if_icmp .ge 6, 3) := by decide +kernel
theorem dX1_tightEdges_58 : decode cX1_tightEdges 58 = .ok (.iinc 2 1, 3) := by decide +kernel
theorem dX1_tightEdges_61 : decode cX1_tightEdges 61 = .ok (.iinc 4 1, 3) := by decide +kernel
theorem dX1_tightEdges_64 : decode cX1_tightEdges 64 = .ok (.goto (-40), 3) := by decide +kernel
theorem dX1_tightEdges_67 : decode cX1_tightEdges 67 = .ok (.iinc 3 1, 3) := by decide +kernel
theorem dX1_tightEdges_70 : decode cX1_tightEdges 70 = .ok (.goto (-59), 3) := by decide +kernel
theorem dX1_tightEdges_73 : decode cX1_tightEdges 73 = .ok (.iload_n 2, 1) := by decide +kernel
theorem dX1_tightEdges_74 : decode cX1_tightEdges 74 = .ok (.ireturn, 1) := by decide +kernel
abbrev cX1_flowWith : ByteArray := prog_1_method_21_code
def yX1_flowWith : MethodName := ⟨RX1, "flowWith", "(II)I"⟩
theorem dX1_flowWith_0 : decode cX1_flowWith 0 = .ok (.aload_n 0, 1) := by decide +kernel
theorem dX1_flowWith_1 : decode cX1_flowWith 1 = .ok (.iload_n 1, 1) := by decide +kernel
theorem dX1_flowWith_2 : decode cX1_flowWith 2 = .ok (.iload_n 2, 1) := by decide +kernel
theorem dX1_flowWith_3 : decode cX1_flowWith 3 = .ok (.invokevirtual 40, 3) := by decide +kernel
theorem dX1_flowWith_6 : decode cX1_flowWith 6 = .ok (.istore_n 3, 1) := by decide +kernel
theorem dX1_flowWith_7 : decode cX1_flowWith 7 = .ok (.iload_n 3, 1) := by decide +kernel
theorem dX1_flowWith_8 : decode cX1_flowWith 8 = .ok (.ifCond .eq 12, 3) := by decide +kernel
theorem dX1_flowWith_11 : decode cX1_flowWith 11 = .ok (.aload_n 0, 1) := by decide +kernel
theorem dX1_flowWith_12 : decode cX1_flowWith 12 = .ok (.iload_n 1, 1) := by decide +kernel
theorem dX1_flowWith_13 : decode cX1_flowWith 13 = .ok (.iload_n 2, 1) := by decide +kernel
theorem dX1_flowWith_14 : decode cX1_flowWith 14 = .ok (.invokevirtual 47, 3) := by decide +kernel
theorem dX1_flowWith_17 : decode cX1_flowWith 17 = .ok (.goto 9, 3) := by decide +kernel
theorem dX1_flowWith_20 : decode cX1_flowWith 20 = .ok (.aload_n 0, 1) := by decide +kernel
theorem dX1_flowWith_21 : decode cX1_flowWith 21 = .ok (.iload_n 1, 1) := by decide +kernel
theorem dX1_flowWith_22 : decode cX1_flowWith 22 = .ok (.iload_n 2, 1) := by decide +kernel
theorem dX1_flowWith_23 : decode cX1_flowWith 23 = .ok (.invokevirtual 43, 3) := by decide +kernel
theorem dX1_flowWith_26 : decode cX1_flowWith 26 = .ok (.aload_n 0, 1) := by decide +kernel
theorem dX1_flowWith_27 : decode cX1_flowWith 27 = .ok (.iconst 0, 1) := by decide +kernel
theorem dX1_flowWith_28 : decode cX1_flowWith 28 = .ok (.iconst 0, 1) := by decide +kernel
theorem dX1_flowWith_29 : decode cX1_flowWith 29 = .ok (.invokevirtual 66, 3) := by decide +kernel
theorem dX1_flowWith_32 : decode cX1_flowWith 32 = .ok (.istore 4, 2) := by decide +kernel
theorem dX1_flowWith_34 : decode cX1_flowWith 34 = .ok (.iload_n 3, 1) := by decide +kernel
theorem dX1_flowWith_35 : decode cX1_flowWith 35 = .ok (.ifCond .eq 12, 3) := by decide +kernel
theorem dX1_flowWith_38 : decode cX1_flowWith 38 = .ok (.aload_n 0, 1) := by decide +kernel
theorem dX1_flowWith_39 : decode cX1_flowWith 39 = .ok (.iload_n 1, 1) := by decide +kernel
theorem dX1_flowWith_40 : decode cX1_flowWith 40 = .ok (.iload_n 2, 1) := by decide +kernel
theorem dX1_flowWith_41 : decode cX1_flowWith 41 = .ok (.invokevirtual 43, 3) := by decide +kernel
theorem dX1_flowWith_44 : decode cX1_flowWith 44 = .ok (.goto 9, 3) := by decide +kernel
theorem dX1_flowWith_47 : decode cX1_flowWith 47 = .ok (.aload_n 0, 1) := by decide +kernel
theorem dX1_flowWith_48 : decode cX1_flowWith 48 = .ok (.iload_n 1, 1) := by decide +kernel
theorem dX1_flowWith_49 : decode cX1_flowWith 49 = .ok (.iload_n 2, 1) := by decide +kernel
theorem dX1_flowWith_50 : decode cX1_flowWith 50 = .ok (.invokevirtual 47, 3) := by decide +kernel
theorem dX1_flowWith_53 : decode cX1_flowWith 53 = .ok (.iload 4, 2) := by decide +kernel
theorem dX1_flowWith_55 : decode cX1_flowWith 55 = .ok (.ireturn, 1) := by decide +kernel
abbrev cX1_helpfulEdges : ByteArray := prog_1_method_23_code
def yX1_helpfulEdges : MethodName := ⟨RX1, "helpfulEdges", "()I"⟩
theorem dX1_helpfulEdges_0 : decode cX1_helpfulEdges 0 = .ok (.aload_n 0, 1) := by decide +kernel
theorem dX1_helpfulEdges_1 : decode cX1_helpfulEdges 1 = .ok (.iconst 0, 1) := by decide +kernel
theorem dX1_helpfulEdges_2 : decode cX1_helpfulEdges 2 = .ok (.iconst 0, 1) := by decide +kernel
theorem dX1_helpfulEdges_3 : decode cX1_helpfulEdges 3 = .ok (.invokevirtual 66, 3) := by decide +kernel
theorem dX1_helpfulEdges_6 : decode cX1_helpfulEdges 6 = .ok (.istore_n 1, 1) := by decide +kernel
theorem dX1_helpfulEdges_7 : decode cX1_helpfulEdges 7 = .ok (.iconst 0, 1) := by decide +kernel
theorem dX1_helpfulEdges_8 : decode cX1_helpfulEdges 8 = .ok (.istore_n 2, 1) := by decide +kernel
theorem dX1_helpfulEdges_9 : decode cX1_helpfulEdges 9 = .ok (.iconst 0, 1) := by decide +kernel
theorem dX1_helpfulEdges_10 : decode cX1_helpfulEdges 10 = .ok (.istore_n 3, 1) := by decide +kernel
theorem dX1_helpfulEdges_11 : decode cX1_helpfulEdges 11 = .ok (.iload_n 3, 1) := by decide +kernel
theorem dX1_helpfulEdges_12 : decode cX1_helpfulEdges 12 = .ok (.aload_n 0, 1) := by decide +kernel
theorem dX1_helpfulEdges_13 : decode cX1_helpfulEdges 13 = .ok (.getfield 25, 3) := by decide +kernel
theorem dX1_helpfulEdges_16 : decode cX1_helpfulEdges 16 = .ok (.if_icmp .ge 57, 3) := by decide +kernel
theorem dX1_helpfulEdges_19 : decode cX1_helpfulEdges 19 = .ok (.iload_n 3, 1) := by decide +kernel
theorem dX1_helpfulEdges_20 : decode cX1_helpfulEdges 20 = .ok (.iconst 1, 1) := by decide +kernel
theorem dX1_helpfulEdges_21 : decode cX1_helpfulEdges 21 = .ok (.iadd, 1) := by decide +kernel
theorem dX1_helpfulEdges_22 : decode cX1_helpfulEdges 22 = .ok (.istore 4, 2) := by decide +kernel
theorem dX1_helpfulEdges_24 : decode cX1_helpfulEdges 24 = .ok (.iload 4, 2) := by decide +kernel
theorem dX1_helpfulEdges_26 : decode cX1_helpfulEdges 26 = .ok (.aload_n 0, 1) := by decide +kernel
theorem dX1_helpfulEdges_27 : decode cX1_helpfulEdges 27 = .ok (.getfield 25, 3) := by decide +kernel
theorem dX1_helpfulEdges_30 : decode cX1_helpfulEdges 30 = .ok (.if_icmp .ge 37, 3) := by decide +kernel
theorem dX1_helpfulEdges_33 : decode cX1_helpfulEdges 33 = .ok (.aload_n 0, 1) := by decide +kernel
theorem dX1_helpfulEdges_34 : decode cX1_helpfulEdges 34 = .ok (.iload_n 3, 1) := by decide +kernel
theorem dX1_helpfulEdges_35 : decode cX1_helpfulEdges 35 = .ok (.iload 4, 2) := by decide +kernel
theorem dX1_helpfulEdges_37 : decode cX1_helpfulEdges 37 = .ok (.invokevirtual 40, 3) := by decide +kernel
theorem dX1_helpfulEdges_40 : decode cX1_helpfulEdges 40 = .ok (.ifCond .ne 21, 3) := by decide +kernel
theorem dX1_helpfulEdges_43 : decode cX1_helpfulEdges 43 = .ok (.aload_n 0, 1) := by decide +kernel
theorem dX1_helpfulEdges_44 : decode cX1_helpfulEdges 44 = .ok (.iload_n 3, 1) := by decide +kernel
theorem dX1_helpfulEdges_45 : decode cX1_helpfulEdges 45 = .ok (.iload 4, 2) := by decide +kernel
theorem dX1_helpfulEdges_47 : decode cX1_helpfulEdges 47 = .ok (.invokevirtual 70, 3) := by decide +kernel
theorem dX1_helpfulEdges_50 : decode cX1_helpfulEdges 50 = .ok (.istore 5, 2) := by decide +kernel
theorem dX1_helpfulEdges_52 : decode cX1_helpfulEdges 52 = .ok (.iload 5, 2) := by decide +kernel
theorem dX1_helpfulEdges_54 : decode cX1_helpfulEdges 54 = .ok (.iload_n 1, 1) := by decide +kernel
theorem dX1_helpfulEdges_55 : decode cX1_helpfulEdges 55 = .ok (.if_icmp .le 6, 3) := by decide +kernel
theorem dX1_helpfulEdges_58 : decode cX1_helpfulEdges 58 = .ok (.iinc 2 1, 3) := by decide +kernel
theorem dX1_helpfulEdges_61 : decode cX1_helpfulEdges 61 = .ok (.iinc 4 1, 3) := by decide +kernel
theorem dX1_helpfulEdges_64 : decode cX1_helpfulEdges 64 = .ok (.goto (-40), 3) := by decide +kernel
theorem dX1_helpfulEdges_67 : decode cX1_helpfulEdges 67 = .ok (.iinc 3 1, 3) := by decide +kernel
theorem dX1_helpfulEdges_70 : decode cX1_helpfulEdges 70 = .ok (.goto (-59), 3) := by decide +kernel
theorem dX1_helpfulEdges_73 : decode cX1_helpfulEdges 73 = .ok (.iload_n 2, 1) := by decide +kernel
theorem dX1_helpfulEdges_74 : decode cX1_helpfulEdges 74 = .ok (.ireturn, 1) := by decide +kernel
abbrev cX1_distance : ByteArray := prog_1_method_24_code
def yX1_distance : MethodName := ⟨RX1, "distance", "()I"⟩
theorem dX1_distance_0 : decode cX1_distance 0 = .ok (.iconst 0, 1) := by decide +kernel
theorem dX1_distance_1 : decode cX1_distance 1 = .ok (.istore_n 1, 1) := by decide +kernel
theorem dX1_distance_2 : decode cX1_distance 2 = .ok (.iload_n 1, 1) := by decide +kernel
theorem dX1_distance_3 : decode cX1_distance 3 = .ok (.aload_n 0, 1) := by decide +kernel
theorem dX1_distance_4 : decode cX1_distance 4 = .ok (.getfield 25, 3) := by decide +kernel
theorem dX1_distance_7 : decode cX1_distance 7 = .ok (.if_icmp .ge 16, 3) := by decide +kernel
theorem dX1_distance_10 : decode cX1_distance 10 = .ok (.aload_n 0, 1) := by decide +kernel
theorem dX1_distance_11 : decode cX1_distance 11 = .ok (.getfield 22, 3) := by decide +kernel
theorem dX1_distance_14 : decode cX1_distance 14 = .ok (.iload_n 1, 1) := by decide +kernel
theorem dX1_distance_15 : decode cX1_distance 15 = .ok (.iconst (-1), 1) := by decide +kernel
theorem dX1_distance_16 : decode cX1_distance 16 = .ok (.iastore, 1) := by decide +kernel
theorem dX1_distance_17 : decode cX1_distance 17 = .ok (.iinc 1 1, 3) := by decide +kernel
theorem dX1_distance_20 : decode cX1_distance 20 = .ok (.goto (-18), 3) := by decide +kernel
theorem dX1_distance_23 : decode cX1_distance 23 = .ok (.aload_n 0, 1) := by decide +kernel
theorem dX1_distance_24 : decode cX1_distance 24 = .ok (.getfield 22, 3) := by decide +kernel
theorem dX1_distance_27 : decode cX1_distance 27 = .ok (.aload_n 0, 1) := by decide +kernel
theorem dX1_distance_28 : decode cX1_distance 28 = .ok (.getfield 50, 3) := by decide +kernel
theorem dX1_distance_31 : decode cX1_distance 31 = .ok (.iconst 0, 1) := by decide +kernel
theorem dX1_distance_32 : decode cX1_distance 32 = .ok (.iastore, 1) := by decide +kernel
theorem dX1_distance_33 : decode cX1_distance 33 = .ok (.iconst 0, 1) := by decide +kernel
theorem dX1_distance_34 : decode cX1_distance 34 = .ok (.istore_n 1, 1) := by decide +kernel
theorem dX1_distance_35 : decode cX1_distance 35 = .ok (.iload_n 1, 1) := by decide +kernel
theorem dX1_distance_36 : decode cX1_distance 36 = .ok (.aload_n 0, 1) := by decide +kernel
theorem dX1_distance_37 : decode cX1_distance 37 = .ok (.getfield 25, 3) := by decide +kernel
theorem dX1_distance_40 : decode cX1_distance 40 = .ok (.if_icmp .ge 55, 3) := by decide +kernel
theorem dX1_distance_43 : decode cX1_distance 43 = .ok (.aload_n 0, 1) := by decide +kernel
theorem dX1_distance_44 : decode cX1_distance 44 = .ok (.getfield 22, 3) := by decide +kernel
theorem dX1_distance_47 : decode cX1_distance 47 = .ok (.aload_n 0, 1) := by decide +kernel
theorem dX1_distance_48 : decode cX1_distance 48 = .ok (.getfield 29, 3) := by decide +kernel
theorem dX1_distance_51 : decode cX1_distance 51 = .ok (.iaload, 1) := by decide +kernel
theorem dX1_distance_52 : decode cX1_distance 52 = .ok (.ifCond .ge 43, 3) := by decide +kernel
theorem dX1_distance_55 : decode cX1_distance 55 = .ok (.iconst 0, 1) := by decide +kernel
theorem dX1_distance_56 : decode cX1_distance 56 = .ok (.istore_n 2, 1) := by decide +kernel
theorem dX1_distance_57 : decode cX1_distance 57 = .ok (.iload_n 2, 1) := by decide +kernel
theorem dX1_distance_58 : decode cX1_distance 58 = .ok (.aload_n 0, 1) := by decide +kernel
theorem dX1_distance_59 : decode cX1_distance 59 = .ok (.getfield 25, 3) := by decide +kernel
theorem dX1_distance_62 : decode cX1_distance 62 = .ok (.if_icmp .ge 27, 3) := by decide +kernel
theorem dX1_distance_65 : decode cX1_distance 65 = .ok (.aload_n 0, 1) := by decide +kernel
theorem dX1_distance_66 : decode cX1_distance 66 = .ok (.getfield 22, 3) := by decide +kernel
theorem dX1_distance_69 : decode cX1_distance 69 = .ok (.iload_n 2, 1) := by decide +kernel
theorem dX1_distance_70 : decode cX1_distance 70 = .ok (.iaload, 1) := by decide +kernel
theorem dX1_distance_71 : decode cX1_distance 71 = .ok (.iload_n 1, 1) := by decide +kernel
theorem dX1_distance_72 : decode cX1_distance 72 = .ok (.if_icmp .ne 11, 3) := by decide +kernel
theorem dX1_distance_75 : decode cX1_distance 75 = .ok (.aload_n 0, 1) := by decide +kernel
theorem dX1_distance_76 : decode cX1_distance 76 = .ok (.iload_n 2, 1) := by decide +kernel
theorem dX1_distance_77 : decode cX1_distance 77 = .ok (.iload_n 1, 1) := by decide +kernel
theorem dX1_distance_78 : decode cX1_distance 78 = .ok (.iconst 1, 1) := by decide +kernel
theorem dX1_distance_79 : decode cX1_distance 79 = .ok (.iadd, 1) := by decide +kernel
theorem dX1_distance_80 : decode cX1_distance 80 = .ok (.invokevirtual 73, 3) := by decide +kernel
theorem dX1_distance_83 : decode cX1_distance 83 = .ok (.iinc 2 1, 3) := by decide +kernel
theorem dX1_distance_86 : decode cX1_distance 86 = .ok (.goto (-29), 3) := by decide +kernel
theorem dX1_distance_89 : decode cX1_distance 89 = .ok (.iinc 1 1, 3) := by decide +kernel
theorem dX1_distance_92 : decode cX1_distance 92 = .ok (.goto (-57), 3) := by decide +kernel
theorem dX1_distance_95 : decode cX1_distance 95 = .ok (.aload_n 0, 1) := by decide +kernel
theorem dX1_distance_96 : decode cX1_distance 96 = .ok (.getfield 22, 3) := by decide +kernel
theorem dX1_distance_99 : decode cX1_distance 99 = .ok (.aload_n 0, 1) := by decide +kernel
theorem dX1_distance_100 : decode cX1_distance 100 = .ok (.getfield 29, 3) := by decide +kernel
theorem dX1_distance_103 : decode cX1_distance 103 = .ok (.iaload, 1) := by decide +kernel
theorem dX1_distance_104 : decode cX1_distance 104 = .ok (.ifCond .ge 8, 3) := by decide +kernel
theorem dX1_distance_107 : decode cX1_distance 107 = .ok (.bipush (-4), 2) := by decide +kernel
theorem dX1_distance_109 : decode cX1_distance 109 = .ok (.goto 12, 3) := by decide +kernel
theorem dX1_distance_112 : decode cX1_distance 112 = .ok (.aload_n 0, 1) := by decide +kernel
theorem dX1_distance_113 : decode cX1_distance 113 = .ok (.getfield 22, 3) := by decide +kernel
theorem dX1_distance_116 : decode cX1_distance 116 = .ok (.aload_n 0, 1) := by decide +kernel
theorem dX1_distance_117 : decode cX1_distance 117 = .ok (.getfield 29, 3) := by decide +kernel
theorem dX1_distance_120 : decode cX1_distance 120 = .ok (.iaload, 1) := by decide +kernel
theorem dX1_distance_121 : decode cX1_distance 121 = .ok (.ireturn, 1) := by decide +kernel
abbrev cX1_reach : ByteArray := prog_1_method_25_code
def yX1_reach : MethodName := ⟨RX1, "reach", "(II)V"⟩
theorem dX1_reach_0 : decode cX1_reach 0 = .ok (.iconst 0, 1) := by decide +kernel
theorem dX1_reach_1 : decode cX1_reach 1 = .ok (.istore_n 3, 1) := by decide +kernel
theorem dX1_reach_2 : decode cX1_reach 2 = .ok (.iload_n 3, 1) := by decide +kernel
theorem dX1_reach_3 : decode cX1_reach 3 = .ok (.aload_n 0, 1) := by decide +kernel
theorem dX1_reach_4 : decode cX1_reach 4 = .ok (.getfield 25, 3) := by decide +kernel
theorem dX1_reach_7 : decode cX1_reach 7 = .ok (.if_icmp .ge 34, 3) := by decide +kernel
theorem dX1_reach_10 : decode cX1_reach 10 = .ok (.aload_n 0, 1) := by decide +kernel
theorem dX1_reach_11 : decode cX1_reach 11 = .ok (.iload_n 1, 1) := by decide +kernel
theorem dX1_reach_12 : decode cX1_reach 12 = .ok (.iload_n 3, 1) := by decide +kernel
theorem dX1_reach_13 : decode cX1_reach 13 = .ok (.invokevirtual 40, 3) := by decide +kernel
theorem dX1_reach_16 : decode cX1_reach 16 = .ok (.ifCond .eq 19, 3) := by decide +kernel
theorem dX1_reach_19 : decode cX1_reach 19 = .ok (.aload_n 0, 1) := by decide +kernel
theorem dX1_reach_20 : decode cX1_reach 20 = .ok (.getfield 22, 3) := by decide +kernel
theorem dX1_reach_23 : decode cX1_reach 23 = .ok (.iload_n 3, 1) := by decide +kernel
theorem dX1_reach_24 : decode cX1_reach 24 = .ok (.iaload, 1) := by decide +kernel
theorem dX1_reach_25 : decode cX1_reach 25 = .ok (.ifCond .ge 10, 3) := by decide +kernel
theorem dX1_reach_28 : decode cX1_reach 28 = .ok (.aload_n 0, 1) := by decide +kernel
theorem dX1_reach_29 : decode cX1_reach 29 = .ok (.getfield 22, 3) := by decide +kernel
theorem dX1_reach_32 : decode cX1_reach 32 = .ok (.iload_n 3, 1) := by decide +kernel
theorem dX1_reach_33 : decode cX1_reach 33 = .ok (.iload_n 2, 1) := by decide +kernel
theorem dX1_reach_34 : decode cX1_reach 34 = .ok (.iastore, 1) := by decide +kernel
theorem dX1_reach_35 : decode cX1_reach 35 = .ok (.iinc 3 1, 3) := by decide +kernel
theorem dX1_reach_38 : decode cX1_reach 38 = .ok (.goto (-36), 3) := by decide +kernel
theorem dX1_reach_41 : decode cX1_reach 41 = .ok (.return_, 1) := by decide +kernel
abbrev cX1_strength : ByteArray := prog_1_method_26_code
def yX1_strength : MethodName := ⟨RX1, "strength", "()I"⟩
theorem dX1_strength_0 : decode cX1_strength 0 = .ok (.aload_n 0, 1) := by decide +kernel
theorem dX1_strength_1 : decode cX1_strength 1 = .ok (.getfield 50, 3) := by decide +kernel
theorem dX1_strength_4 : decode cX1_strength 4 = .ok (.istore_n 1, 1) := by decide +kernel
theorem dX1_strength_5 : decode cX1_strength 5 = .ok (.aload_n 0, 1) := by decide +kernel
theorem dX1_strength_6 : decode cX1_strength 6 = .ok (.getfield 29, 3) := by decide +kernel
theorem dX1_strength_9 : decode cX1_strength 9 = .ok (.istore_n 2, 1) := by decide +kernel
theorem dX1_strength_10 : decode cX1_strength 10 = .ok (.aload_n 0, 1) := by decide +kernel
theorem dX1_strength_11 : decode cX1_strength 11 = .ok (.getfield 25, 3) := by decide +kernel
theorem dX1_strength_14 : decode cX1_strength 14 = .ok (.iconst 1, 1) := by decide +kernel
theorem dX1_strength_15 : decode cX1_strength 15 = .ok (.isub, 1) := by decide +kernel
theorem dX1_strength_16 : decode cX1_strength 16 = .ok (.istore_n 3, 1) := by decide +kernel
theorem dX1_strength_17 : decode cX1_strength 17 = .ok (.iconst 0, 1) := by decide +kernel
theorem dX1_strength_18 : decode cX1_strength 18 = .ok (.istore 4, 2) := by decide +kernel
theorem dX1_strength_20 : decode cX1_strength 20 = .ok (.iload 4, 2) := by decide +kernel
theorem dX1_strength_22 : decode cX1_strength 22 = .ok (.aload_n 0, 1) := by decide +kernel
theorem dX1_strength_23 : decode cX1_strength 23 = .ok (.getfield 25, 3) := by decide +kernel
theorem dX1_strength_26 : decode cX1_strength 26 = .ok (.if_icmp .ge 74, 3) := by decide +kernel
theorem dX1_strength_29 : decode cX1_strength 29 = .ok (.iload 4, 2) := by decide +kernel
theorem dX1_strength_31 : decode cX1_strength 31 = .ok (.iconst 1, 1) := by decide +kernel
theorem dX1_strength_32 : decode cX1_strength 32 = .ok (.iadd, 1) := by decide +kernel
theorem dX1_strength_33 : decode cX1_strength 33 = .ok (.istore 5, 2) := by decide +kernel
theorem dX1_strength_35 : decode cX1_strength 35 = .ok (.iload 5, 2) := by decide +kernel
theorem dX1_strength_37 : decode cX1_strength 37 = .ok (.aload_n 0, 1) := by decide +kernel
theorem dX1_strength_38 : decode cX1_strength 38 = .ok (.getfield 25, 3) := by decide +kernel
theorem dX1_strength_41 : decode cX1_strength 41 = .ok (.if_icmp .ge 53, 3) := by decide +kernel
theorem dX1_strength_44 : decode cX1_strength 44 = .ok (.aload_n 0, 1) := by decide +kernel
theorem dX1_strength_45 : decode cX1_strength 45 = .ok (.iload 4, 2) := by decide +kernel
theorem dX1_strength_47 : decode cX1_strength 47 = .ok (.iload 5, 2) := by decide +kernel
theorem dX1_strength_49 : decode cX1_strength 49 = .ok (.invokevirtual 40, 3) := by decide +kernel
theorem dX1_strength_52 : decode cX1_strength 52 = .ok (.ifCond .ne 36, 3) := by decide +kernel
theorem dX1_strength_55 : decode cX1_strength 55 = .ok (.aload_n 0, 1) := by decide +kernel
theorem dX1_strength_56 : decode cX1_strength 56 = .ok (.iload 4, 2) := by decide +kernel
theorem dX1_strength_58 : decode cX1_strength 58 = .ok (.putfield 50, 3) := by decide +kernel
theorem dX1_strength_61 : decode cX1_strength 61 = .ok (.aload_n 0, 1) := by decide +kernel
theorem dX1_strength_62 : decode cX1_strength 62 = .ok (.iload 5, 2) := by decide +kernel
theorem dX1_strength_64 : decode cX1_strength 64 = .ok (.putfield 29, 3) := by decide +kernel
theorem dX1_strength_67 : decode cX1_strength 67 = .ok (.aload_n 0, 1) := by decide +kernel
theorem dX1_strength_68 : decode cX1_strength 68 = .ok (.iconst 0, 1) := by decide +kernel
theorem dX1_strength_69 : decode cX1_strength 69 = .ok (.iconst 0, 1) := by decide +kernel
theorem dX1_strength_70 : decode cX1_strength 70 = .ok (.invokevirtual 66, 3) := by decide +kernel
theorem dX1_strength_73 : decode cX1_strength 73 = .ok (.istore 6, 2) := by decide +kernel
theorem dX1_strength_75 : decode cX1_strength 75 = .ok (.iload 6, 2) := by decide +kernel
theorem dX1_strength_77 : decode cX1_strength 77 = .ok (.iload_n 3, 1) := by decide +kernel
theorem dX1_strength_78 : decode cX1_strength 78 = .ok (.if_icmp .ge 8, 3) := by decide +kernel
theorem dX1_strength_81 : decode cX1_strength 81 = .ok (.iload 6, 2) := by decide +kernel
theorem dX1_strength_83 : decode cX1_strength 83 = .ok (.goto 4, 3) := by decide +kernel
theorem dX1_strength_86 : decode cX1_strength 86 = .ok (.iload_n 3, 1) := by decide +kernel
theorem dX1_strength_87 : decode cX1_strength 87 = .ok (.istore_n 3, 1) := by decide +kernel
theorem dX1_strength_88 : decode cX1_strength 88 = .ok (.iinc 5 1, 3) := by decide +kernel
theorem dX1_strength_91 : decode cX1_strength 91 = .ok (.goto (-56), 3) := by decide +kernel
theorem dX1_strength_94 : decode cX1_strength 94 = .ok (.iinc 4 1, 3) := by decide +kernel
theorem dX1_strength_97 : decode cX1_strength 97 = .ok (.goto (-77), 3) := by decide +kernel
theorem dX1_strength_100 : decode cX1_strength 100 = .ok (.aload_n 0, 1) := by decide +kernel
theorem dX1_strength_101 : decode cX1_strength 101 = .ok (.iload_n 1, 1) := by decide +kernel
theorem dX1_strength_102 : decode cX1_strength 102 = .ok (.putfield 50, 3) := by decide +kernel
theorem dX1_strength_105 : decode cX1_strength 105 = .ok (.aload_n 0, 1) := by decide +kernel
theorem dX1_strength_106 : decode cX1_strength 106 = .ok (.iload_n 2, 1) := by decide +kernel
theorem dX1_strength_107 : decode cX1_strength 107 = .ok (.putfield 29, 3) := by decide +kernel
theorem dX1_strength_110 : decode cX1_strength 110 = .ok (.iload_n 3, 1) := by decide +kernel
theorem dX1_strength_111 : decode cX1_strength 111 = .ok (.ireturn, 1) := by decide +kernel
abbrev cX1_clear : ByteArray := prog_1_method_27_code
def yX1_clear : MethodName := ⟨RX1, "clear", "()I"⟩
theorem dX1_clear_0 : decode cX1_clear 0 = .ok (.iconst 0, 1) := by decide +kernel
theorem dX1_clear_1 : decode cX1_clear 1 = .ok (.istore_n 1, 1) := by decide +kernel
theorem dX1_clear_2 : decode cX1_clear 2 = .ok (.iconst 0, 1) := by decide +kernel
theorem dX1_clear_3 : decode cX1_clear 3 = .ok (.istore_n 2, 1) := by decide +kernel
theorem dX1_clear_4 : decode cX1_clear 4 = .ok (.iload_n 2, 1) := by decide +kernel
theorem dX1_clear_5 : decode cX1_clear 5 = .ok (.aload_n 0, 1) := by decide +kernel
theorem dX1_clear_6 : decode cX1_clear 6 = .ok (.getfield 25, 3) := by decide +kernel
theorem dX1_clear_9 : decode cX1_clear 9 = .ok (.if_icmp .ge 40, 3) := by decide +kernel
theorem dX1_clear_12 : decode cX1_clear 12 = .ok (.iload_n 2, 1) := by decide +kernel
theorem dX1_clear_13 : decode cX1_clear 13 = .ok (.iconst 1, 1) := by decide +kernel
theorem dX1_clear_14 : decode cX1_clear 14 = .ok (.iadd, 1) := by decide +kernel
theorem dX1_clear_15 : decode cX1_clear 15 = .ok (.istore_n 3, 1) := by decide +kernel
theorem dX1_clear_16 : decode cX1_clear 16 = .ok (.iload_n 3, 1) := by decide +kernel
theorem dX1_clear_17 : decode cX1_clear 17 = .ok (.aload_n 0, 1) := by decide +kernel
theorem dX1_clear_18 : decode cX1_clear 18 = .ok (.getfield 25, 3) := by decide +kernel
theorem dX1_clear_21 : decode cX1_clear 21 = .ok (.if_icmp .ge 22, 3) := by decide +kernel
theorem dX1_clear_24 : decode cX1_clear 24 = .ok (.iload_n 1, 1) := by decide +kernel
theorem dX1_clear_25 : decode cX1_clear 25 = .ok (.aload_n 0, 1) := by decide +kernel
theorem dX1_clear_26 : decode cX1_clear 26 = .ok (.getfield 7, 3) := by decide +kernel
theorem dX1_clear_29 : decode cX1_clear 29 = .ok (.iload_n 2, 1) := by decide +kernel
theorem dX1_clear_30 : decode cX1_clear 30 = .ok (.iaload, 1) := by decide +kernel
theorem dX1_clear_31 : decode cX1_clear 31 = .ok (.iload_n 3, 1) := by decide +kernel
theorem dX1_clear_32 : decode cX1_clear 32 = .ok (.ishr, 1) := by decide +kernel
theorem dX1_clear_33 : decode cX1_clear 33 = .ok (.iconst 1, 1) := by decide +kernel
theorem dX1_clear_34 : decode cX1_clear 34 = .ok (.iand, 1) := by decide +kernel
theorem dX1_clear_35 : decode cX1_clear 35 = .ok (.iadd, 1) := by decide +kernel
theorem dX1_clear_36 : decode cX1_clear 36 = .ok (.istore_n 1, 1) := by decide +kernel
theorem dX1_clear_37 : decode cX1_clear 37 = .ok (.iinc 3 1, 3) := by decide +kernel
theorem dX1_clear_40 : decode cX1_clear 40 = .ok (.goto (-24), 3) := by decide +kernel
theorem dX1_clear_43 : decode cX1_clear 43 = .ok (.iinc 2 1, 3) := by decide +kernel
theorem dX1_clear_46 : decode cX1_clear 46 = .ok (.goto (-42), 3) := by decide +kernel
theorem dX1_clear_49 : decode cX1_clear 49 = .ok (.iconst 0, 1) := by decide +kernel
theorem dX1_clear_50 : decode cX1_clear 50 = .ok (.istore_n 2, 1) := by decide +kernel
theorem dX1_clear_51 : decode cX1_clear 51 = .ok (.iload_n 2, 1) := by decide +kernel
theorem dX1_clear_52 : decode cX1_clear 52 = .ok (.aload_n 0, 1) := by decide +kernel
theorem dX1_clear_53 : decode cX1_clear 53 = .ok (.getfield 25, 3) := by decide +kernel
theorem dX1_clear_56 : decode cX1_clear 56 = .ok (.if_icmp .ge 16, 3) := by decide +kernel
theorem dX1_clear_59 : decode cX1_clear 59 = .ok (.aload_n 0, 1) := by decide +kernel
theorem dX1_clear_60 : decode cX1_clear 60 = .ok (.getfield 7, 3) := by decide +kernel
theorem dX1_clear_63 : decode cX1_clear 63 = .ok (.iload_n 2, 1) := by decide +kernel
theorem dX1_clear_64 : decode cX1_clear 64 = .ok (.iconst 0, 1) := by decide +kernel
theorem dX1_clear_65 : decode cX1_clear 65 = .ok (.iastore, 1) := by decide +kernel
theorem dX1_clear_66 : decode cX1_clear 66 = .ok (.iinc 2 1, 3) := by decide +kernel
theorem dX1_clear_69 : decode cX1_clear 69 = .ok (.goto (-18), 3) := by decide +kernel
theorem dX1_clear_72 : decode cX1_clear 72 = .ok (.iload_n 1, 1) := by decide +kernel
theorem dX1_clear_73 : decode cX1_clear 73 = .ok (.ireturn, 1) := by decide +kernel
theorem q23 : (Jvm.Cond.initialized "DisjointPaths") ∈ lw_all := lw_g (lw_at lw_m1 1 rfl) rfl
theorem q26 : (Jvm.Cond.instantiable "DisjointPaths" (8 : Nat)) ∈ lw_all := lw_g (lw_at lw_m1 4 rfl) rfl
theorem q28 : (Jvm.Cond.instanceMethod ({ cls := "DisjointPaths", name := "<init>", desc := "(I)V" } : Jvm.MethodName)) ∈ lw_all := lw_g (lw_at lw_m1 6 rfl) rfl
theorem q29 : (Jvm.Cond.code ({ cls := "DisjointPaths", name := "<init>", desc := "(I)V" } : Jvm.MethodName) prog_1_method_1_code (3 : Nat) (Option.none : Option Jvm.ClassFile.FieldType)) ∈ lw_all := lw_g (lw_at lw_m1 7 rfl) rfl
theorem q30 : (Jvm.Cond.methodLink "DisjointPaths" (1 : Nat) ({ cls := "java/lang/Object", name := "<init>", desc := "()V" } : Jvm.MethodName)) ∈ lw_all := lw_g (lw_at lw_m1 8 rfl) rfl
theorem q33 : (Jvm.Cond.fieldLink "DisjointPaths" (25 : Nat) "DisjointPaths" "n" "I") ∈ lw_all := lw_g (lw_at lw_m1 11 rfl) rfl
theorem q34 : (Jvm.Cond.fieldLink "DisjointPaths" (50 : Nat) "DisjointPaths" "source" "I") ∈ lw_all := lw_g (lw_at lw_m1 12 rfl) rfl
theorem q35 : (Jvm.Cond.fieldLink "DisjointPaths" (29 : Nat) "DisjointPaths" "target" "I") ∈ lw_all := lw_g (lw_at lw_m1 13 rfl) rfl
theorem q36 : (Jvm.Cond.fieldLink "DisjointPaths" (7 : Nat) "DisjointPaths" "near" "[I") ∈ lw_all := lw_g (lw_at lw_m1 14 rfl) rfl
theorem q37 : (Jvm.Cond.fieldLink "DisjointPaths" (13 : Nat) "DisjointPaths" "room" "[I") ∈ lw_all := lw_g (lw_at lw_m1 15 rfl) rfl
theorem q38 : (Jvm.Cond.fieldLink "DisjointPaths" (16 : Nat) "DisjointPaths" "cameFrom" "[I") ∈ lw_all := lw_g (lw_at lw_m1 16 rfl) rfl
theorem q39 : (Jvm.Cond.fieldLink "DisjointPaths" (19 : Nat) "DisjointPaths" "queue" "[I") ∈ lw_all := lw_g (lw_at lw_m1 17 rfl) rfl
theorem q40 : (Jvm.Cond.fieldLink "DisjointPaths" (22 : Nat) "DisjointPaths" "steps" "[I") ∈ lw_all := lw_g (lw_at lw_m1 18 rfl) rfl
theorem q41 : (Jvm.Cond.laysFinal "DisjointPaths" "DisjointPaths" "n" "I") ∈ lw_all := lw_g (lw_at lw_m1 19 rfl) rfl
theorem q42 : (Jvm.Cond.soleField "DisjointPaths" "n") ∈ lw_all := lw_g (lw_at lw_m1 20 rfl) rfl
theorem q43 : (Jvm.Cond.lays "DisjointPaths" "DisjointPaths" "source" "I") ∈ lw_all := lw_g (lw_at lw_m1 21 rfl) rfl
theorem q44 : (Jvm.Cond.soleField "DisjointPaths" "source") ∈ lw_all := lw_g (lw_at lw_m1 22 rfl) rfl
theorem q45 : (Jvm.Cond.lays "DisjointPaths" "DisjointPaths" "target" "I") ∈ lw_all := lw_g (lw_at lw_m1 23 rfl) rfl
theorem q46 : (Jvm.Cond.soleField "DisjointPaths" "target") ∈ lw_all := lw_g (lw_at lw_m1 24 rfl) rfl
theorem q47 : (Jvm.Cond.laysFinal "DisjointPaths" "DisjointPaths" "near" "[I") ∈ lw_all := lw_g (lw_at lw_m1 25 rfl) rfl
theorem q48 : (Jvm.Cond.soleField "DisjointPaths" "near") ∈ lw_all := lw_g (lw_at lw_m1 26 rfl) rfl
theorem q49 : (Jvm.Cond.laysFinal "DisjointPaths" "DisjointPaths" "room" "[I") ∈ lw_all := lw_g (lw_at lw_m1 27 rfl) rfl
theorem q50 : (Jvm.Cond.soleField "DisjointPaths" "room") ∈ lw_all := lw_g (lw_at lw_m1 28 rfl) rfl
theorem q51 : (Jvm.Cond.laysFinal "DisjointPaths" "DisjointPaths" "cameFrom" "[I") ∈ lw_all := lw_g (lw_at lw_m1 29 rfl) rfl
theorem q52 : (Jvm.Cond.soleField "DisjointPaths" "cameFrom") ∈ lw_all := lw_g (lw_at lw_m1 30 rfl) rfl
theorem q53 : (Jvm.Cond.laysFinal "DisjointPaths" "DisjointPaths" "queue" "[I") ∈ lw_all := lw_g (lw_at lw_m1 31 rfl) rfl
theorem q54 : (Jvm.Cond.soleField "DisjointPaths" "queue") ∈ lw_all := lw_g (lw_at lw_m1 32 rfl) rfl
theorem q55 : (Jvm.Cond.laysFinal "DisjointPaths" "DisjointPaths" "steps" "[I") ∈ lw_all := lw_g (lw_at lw_m1 33 rfl) rfl
theorem q56 : (Jvm.Cond.soleField "DisjointPaths" "steps") ∈ lw_all := lw_g (lw_at lw_m1 34 rfl) rfl
theorem q57 : (Jvm.Cond.superclass "DisjointPaths" "java/lang/Object") ∈ lw_all := lw_g (lw_at lw_m1 35 rfl) rfl
theorem q60 : (Jvm.Cond.instanceMethod ({ cls := "DisjointPaths", name := "vertices", desc := "()I" } : Jvm.MethodName)) ∈ lw_all := lw_g (lw_at lw_m1 38 rfl) rfl
theorem q61 : (Jvm.Cond.selects "DisjointPaths" ({ cls := "DisjointPaths", name := "vertices", desc := "()I" } : Jvm.MethodName) ({ cls := "DisjointPaths", name := "vertices", desc := "()I" } : Jvm.MethodName)) ∈ lw_all := lw_g (lw_at lw_m1 39 rfl) rfl
theorem q62 : (Jvm.Cond.code ({ cls := "DisjointPaths", name := "vertices", desc := "()I" } : Jvm.MethodName) prog_1_method_2_code (1 : Nat) (Option.some Jvm.ClassFile.FieldType.int)) ∈ lw_all := lw_g (lw_at lw_m1 40 rfl) rfl
theorem q64 : (Jvm.Cond.instanceMethod ({ cls := "DisjointPaths", name := "edge", desc := "(III)I" } : Jvm.MethodName)) ∈ lw_all := lw_g (lw_at lw_m1 42 rfl) rfl
theorem q65 : (Jvm.Cond.selects "DisjointPaths" ({ cls := "DisjointPaths", name := "edge", desc := "(III)I" } : Jvm.MethodName) ({ cls := "DisjointPaths", name := "edge", desc := "(III)I" } : Jvm.MethodName)) ∈ lw_all := lw_g (lw_at lw_m1 43 rfl) rfl
theorem q66 : (Jvm.Cond.code ({ cls := "DisjointPaths", name := "edge", desc := "(III)I" } : Jvm.MethodName) prog_1_method_8_code (5 : Nat) (Option.some Jvm.ClassFile.FieldType.int)) ∈ lw_all := lw_g (lw_at lw_m1 44 rfl) rfl
theorem q67 : (Jvm.Cond.methodLink "DisjointPaths" (36 : Nat) ({ cls := "DisjointPaths", name := "badPair", desc := "(II)Z" } : Jvm.MethodName)) ∈ lw_all := lw_g (lw_at lw_m1 45 rfl) rfl
theorem q68 : (Jvm.Cond.privateMethod ({ cls := "DisjointPaths", name := "badPair", desc := "(II)Z" } : Jvm.MethodName)) ∈ lw_tbl := lw_at lw_m1 46 rfl
theorem q69 : (Jvm.Cond.instanceMethod ({ cls := "DisjointPaths", name := "badPair", desc := "(II)Z" } : Jvm.MethodName)) ∈ lw_all := lw_g (lw_at lw_m1 47 rfl) rfl
theorem q70 : (Jvm.Cond.code ({ cls := "DisjointPaths", name := "badPair", desc := "(II)Z" } : Jvm.MethodName) prog_1_method_4_code (3 : Nat) (Option.some Jvm.ClassFile.FieldType.boolean)) ∈ lw_all := lw_g (lw_at lw_m1 48 rfl) rfl
theorem q71 : (Jvm.Cond.methodLink "DisjointPaths" (32 : Nat) ({ cls := "DisjointPaths", name := "bad", desc := "(I)Z" } : Jvm.MethodName)) ∈ lw_all := lw_g (lw_at lw_m1 49 rfl) rfl
theorem q72 : (Jvm.Cond.privateMethod ({ cls := "DisjointPaths", name := "bad", desc := "(I)Z" } : Jvm.MethodName)) ∈ lw_tbl := lw_at lw_m1 50 rfl
theorem q73 : (Jvm.Cond.instanceMethod ({ cls := "DisjointPaths", name := "bad", desc := "(I)Z" } : Jvm.MethodName)) ∈ lw_all := lw_g (lw_at lw_m1 51 rfl) rfl
theorem q74 : (Jvm.Cond.code ({ cls := "DisjointPaths", name := "bad", desc := "(I)Z" } : Jvm.MethodName) prog_1_method_3_code (2 : Nat) (Option.some Jvm.ClassFile.FieldType.boolean)) ∈ lw_all := lw_g (lw_at lw_m1 52 rfl) rfl
theorem q75 : (Jvm.Cond.methodLink "DisjointPaths" (40 : Nat) ({ cls := "DisjointPaths", name := "linked", desc := "(II)Z" } : Jvm.MethodName)) ∈ lw_all := lw_g (lw_at lw_m1 53 rfl) rfl
theorem q76 : (Jvm.Cond.privateMethod ({ cls := "DisjointPaths", name := "linked", desc := "(II)Z" } : Jvm.MethodName)) ∈ lw_tbl := lw_at lw_m1 54 rfl
theorem q77 : (Jvm.Cond.instanceMethod ({ cls := "DisjointPaths", name := "linked", desc := "(II)Z" } : Jvm.MethodName)) ∈ lw_all := lw_g (lw_at lw_m1 55 rfl) rfl
theorem q78 : (Jvm.Cond.code ({ cls := "DisjointPaths", name := "linked", desc := "(II)Z" } : Jvm.MethodName) prog_1_method_5_code (3 : Nat) (Option.some Jvm.ClassFile.FieldType.boolean)) ∈ lw_all := lw_g (lw_at lw_m1 56 rfl) rfl
theorem q79 : (Jvm.Cond.methodLink "DisjointPaths" (43 : Nat) ({ cls := "DisjointPaths", name := "link", desc := "(II)V" } : Jvm.MethodName)) ∈ lw_all := lw_g (lw_at lw_m1 57 rfl) rfl
theorem q80 : (Jvm.Cond.privateMethod ({ cls := "DisjointPaths", name := "link", desc := "(II)V" } : Jvm.MethodName)) ∈ lw_tbl := lw_at lw_m1 58 rfl
theorem q81 : (Jvm.Cond.instanceMethod ({ cls := "DisjointPaths", name := "link", desc := "(II)V" } : Jvm.MethodName)) ∈ lw_all := lw_g (lw_at lw_m1 59 rfl) rfl
theorem q82 : (Jvm.Cond.code ({ cls := "DisjointPaths", name := "link", desc := "(II)V" } : Jvm.MethodName) prog_1_method_6_code (3 : Nat) (Option.none : Option Jvm.ClassFile.FieldType)) ∈ lw_all := lw_g (lw_at lw_m1 60 rfl) rfl
theorem q83 : (Jvm.Cond.methodLink "DisjointPaths" (47 : Nat) ({ cls := "DisjointPaths", name := "unlink", desc := "(II)V" } : Jvm.MethodName)) ∈ lw_all := lw_g (lw_at lw_m1 61 rfl) rfl
theorem q84 : (Jvm.Cond.privateMethod ({ cls := "DisjointPaths", name := "unlink", desc := "(II)V" } : Jvm.MethodName)) ∈ lw_tbl := lw_at lw_m1 62 rfl
theorem q85 : (Jvm.Cond.instanceMethod ({ cls := "DisjointPaths", name := "unlink", desc := "(II)V" } : Jvm.MethodName)) ∈ lw_all := lw_g (lw_at lw_m1 63 rfl) rfl
theorem q86 : (Jvm.Cond.code ({ cls := "DisjointPaths", name := "unlink", desc := "(II)V" } : Jvm.MethodName) prog_1_method_7_code (3 : Nat) (Option.none : Option Jvm.ClassFile.FieldType)) ∈ lw_all := lw_g (lw_at lw_m1 64 rfl) rfl
theorem q88 : (Jvm.Cond.instanceMethod ({ cls := "DisjointPaths", name := "joined", desc := "(II)Z" } : Jvm.MethodName)) ∈ lw_all := lw_g (lw_at lw_m1 66 rfl) rfl
theorem q89 : (Jvm.Cond.selects "DisjointPaths" ({ cls := "DisjointPaths", name := "joined", desc := "(II)Z" } : Jvm.MethodName) ({ cls := "DisjointPaths", name := "joined", desc := "(II)Z" } : Jvm.MethodName)) ∈ lw_all := lw_g (lw_at lw_m1 67 rfl) rfl
theorem q90 : (Jvm.Cond.code ({ cls := "DisjointPaths", name := "joined", desc := "(II)Z" } : Jvm.MethodName) prog_1_method_9_code (3 : Nat) (Option.some Jvm.ClassFile.FieldType.boolean)) ∈ lw_all := lw_g (lw_at lw_m1 68 rfl) rfl
theorem q92 : (Jvm.Cond.instanceMethod ({ cls := "DisjointPaths", name := "ends", desc := "(II)I" } : Jvm.MethodName)) ∈ lw_all := lw_g (lw_at lw_m1 70 rfl) rfl
theorem q93 : (Jvm.Cond.selects "DisjointPaths" ({ cls := "DisjointPaths", name := "ends", desc := "(II)I" } : Jvm.MethodName) ({ cls := "DisjointPaths", name := "ends", desc := "(II)I" } : Jvm.MethodName)) ∈ lw_all := lw_g (lw_at lw_m1 71 rfl) rfl
theorem q94 : (Jvm.Cond.code ({ cls := "DisjointPaths", name := "ends", desc := "(II)I" } : Jvm.MethodName) prog_1_method_10_code (3 : Nat) (Option.some Jvm.ClassFile.FieldType.int)) ∈ lw_all := lw_g (lw_at lw_m1 72 rfl) rfl
theorem q96 : (Jvm.Cond.instanceMethod ({ cls := "DisjointPaths", name := "paths", desc := "()I" } : Jvm.MethodName)) ∈ lw_all := lw_g (lw_at lw_m1 74 rfl) rfl
theorem q97 : (Jvm.Cond.selects "DisjointPaths" ({ cls := "DisjointPaths", name := "paths", desc := "()I" } : Jvm.MethodName) ({ cls := "DisjointPaths", name := "paths", desc := "()I" } : Jvm.MethodName)) ∈ lw_all := lw_g (lw_at lw_m1 75 rfl) rfl
theorem q98 : (Jvm.Cond.code ({ cls := "DisjointPaths", name := "paths", desc := "()I" } : Jvm.MethodName) prog_1_method_16_code (1 : Nat) (Option.some Jvm.ClassFile.FieldType.int)) ∈ lw_all := lw_g (lw_at lw_m1 76 rfl) rfl
theorem q99 : (Jvm.Cond.methodLink "DisjointPaths" (66 : Nat) ({ cls := "DisjointPaths", name := "flow", desc := "(II)I" } : Jvm.MethodName)) ∈ lw_all := lw_g (lw_at lw_m1 77 rfl) rfl
theorem q100 : (Jvm.Cond.privateMethod ({ cls := "DisjointPaths", name := "flow", desc := "(II)I" } : Jvm.MethodName)) ∈ lw_tbl := lw_at lw_m1 78 rfl
theorem q101 : (Jvm.Cond.instanceMethod ({ cls := "DisjointPaths", name := "flow", desc := "(II)I" } : Jvm.MethodName)) ∈ lw_all := lw_g (lw_at lw_m1 79 rfl) rfl
theorem q102 : (Jvm.Cond.code ({ cls := "DisjointPaths", name := "flow", desc := "(II)I" } : Jvm.MethodName) prog_1_method_15_code (6 : Nat) (Option.some Jvm.ClassFile.FieldType.int)) ∈ lw_all := lw_g (lw_at lw_m1 80 rfl) rfl
theorem q103 : (Jvm.Cond.methodLink "DisjointPaths" (56 : Nat) ({ cls := "DisjointPaths", name := "layOut", desc := "(II)V" } : Jvm.MethodName)) ∈ lw_all := lw_g (lw_at lw_m1 81 rfl) rfl
theorem q104 : (Jvm.Cond.privateMethod ({ cls := "DisjointPaths", name := "layOut", desc := "(II)V" } : Jvm.MethodName)) ∈ lw_tbl := lw_at lw_m1 82 rfl
theorem q105 : (Jvm.Cond.instanceMethod ({ cls := "DisjointPaths", name := "layOut", desc := "(II)V" } : Jvm.MethodName)) ∈ lw_all := lw_g (lw_at lw_m1 83 rfl) rfl
theorem q106 : (Jvm.Cond.code ({ cls := "DisjointPaths", name := "layOut", desc := "(II)V" } : Jvm.MethodName) prog_1_method_11_code (5 : Nat) (Option.none : Option Jvm.ClassFile.FieldType)) ∈ lw_all := lw_g (lw_at lw_m1 84 rfl) rfl
theorem q107 : (Jvm.Cond.methodLink "DisjointPaths" (53 : Nat) ({ cls := "DisjointPaths", name := "layOutEdges", desc := "(II)V" } : Jvm.MethodName)) ∈ lw_all := lw_g (lw_at lw_m1 85 rfl) rfl
theorem q108 : (Jvm.Cond.privateMethod ({ cls := "DisjointPaths", name := "layOutEdges", desc := "(II)V" } : Jvm.MethodName)) ∈ lw_tbl := lw_at lw_m1 86 rfl
theorem q109 : (Jvm.Cond.instanceMethod ({ cls := "DisjointPaths", name := "layOutEdges", desc := "(II)V" } : Jvm.MethodName)) ∈ lw_all := lw_g (lw_at lw_m1 87 rfl) rfl
theorem q110 : (Jvm.Cond.code ({ cls := "DisjointPaths", name := "layOutEdges", desc := "(II)V" } : Jvm.MethodName) prog_1_method_12_code (4 : Nat) (Option.none : Option Jvm.ClassFile.FieldType)) ∈ lw_all := lw_g (lw_at lw_m1 88 rfl) rfl
theorem q111 : (Jvm.Cond.methodLink "DisjointPaths" (59 : Nat) ({ cls := "DisjointPaths", name := "findWay", desc := "()Z" } : Jvm.MethodName)) ∈ lw_all := lw_g (lw_at lw_m1 89 rfl) rfl
theorem q112 : (Jvm.Cond.privateMethod ({ cls := "DisjointPaths", name := "findWay", desc := "()Z" } : Jvm.MethodName)) ∈ lw_tbl := lw_at lw_m1 90 rfl
theorem q113 : (Jvm.Cond.instanceMethod ({ cls := "DisjointPaths", name := "findWay", desc := "()Z" } : Jvm.MethodName)) ∈ lw_all := lw_g (lw_at lw_m1 91 rfl) rfl
theorem q114 : (Jvm.Cond.code ({ cls := "DisjointPaths", name := "findWay", desc := "()Z" } : Jvm.MethodName) prog_1_method_13_code (7 : Nat) (Option.some Jvm.ClassFile.FieldType.boolean)) ∈ lw_all := lw_g (lw_at lw_m1 92 rfl) rfl
theorem q115 : (Jvm.Cond.methodLink "DisjointPaths" (63 : Nat) ({ cls := "DisjointPaths", name := "push", desc := "()V" } : Jvm.MethodName)) ∈ lw_all := lw_g (lw_at lw_m1 93 rfl) rfl
theorem q116 : (Jvm.Cond.privateMethod ({ cls := "DisjointPaths", name := "push", desc := "()V" } : Jvm.MethodName)) ∈ lw_tbl := lw_at lw_m1 94 rfl
theorem q117 : (Jvm.Cond.instanceMethod ({ cls := "DisjointPaths", name := "push", desc := "()V" } : Jvm.MethodName)) ∈ lw_all := lw_g (lw_at lw_m1 95 rfl) rfl
theorem q118 : (Jvm.Cond.code ({ cls := "DisjointPaths", name := "push", desc := "()V" } : Jvm.MethodName) prog_1_method_14_code (5 : Nat) (Option.none : Option Jvm.ClassFile.FieldType)) ∈ lw_all := lw_g (lw_at lw_m1 96 rfl) rfl
theorem q120 : (Jvm.Cond.instanceMethod ({ cls := "DisjointPaths", name := "cutSize", desc := "()I" } : Jvm.MethodName)) ∈ lw_all := lw_g (lw_at lw_m1 98 rfl) rfl
theorem q121 : (Jvm.Cond.selects "DisjointPaths" ({ cls := "DisjointPaths", name := "cutSize", desc := "()I" } : Jvm.MethodName) ({ cls := "DisjointPaths", name := "cutSize", desc := "()I" } : Jvm.MethodName)) ∈ lw_all := lw_g (lw_at lw_m1 99 rfl) rfl
theorem q122 : (Jvm.Cond.code ({ cls := "DisjointPaths", name := "cutSize", desc := "()I" } : Jvm.MethodName) prog_1_method_17_code (1 : Nat) (Option.some Jvm.ClassFile.FieldType.int)) ∈ lw_all := lw_g (lw_at lw_m1 100 rfl) rfl
theorem q124 : (Jvm.Cond.instanceMethod ({ cls := "DisjointPaths", name := "firstCut", desc := "()I" } : Jvm.MethodName)) ∈ lw_all := lw_g (lw_at lw_m1 102 rfl) rfl
theorem q125 : (Jvm.Cond.selects "DisjointPaths" ({ cls := "DisjointPaths", name := "firstCut", desc := "()I" } : Jvm.MethodName) ({ cls := "DisjointPaths", name := "firstCut", desc := "()I" } : Jvm.MethodName)) ∈ lw_all := lw_g (lw_at lw_m1 103 rfl) rfl
theorem q126 : (Jvm.Cond.code ({ cls := "DisjointPaths", name := "firstCut", desc := "()I" } : Jvm.MethodName) prog_1_method_18_code (6 : Nat) (Option.some Jvm.ClassFile.FieldType.int)) ∈ lw_all := lw_g (lw_at lw_m1 104 rfl) rfl
theorem q128 : (Jvm.Cond.instanceMethod ({ cls := "DisjointPaths", name := "cutWith", desc := "(I)I" } : Jvm.MethodName)) ∈ lw_all := lw_g (lw_at lw_m1 106 rfl) rfl
theorem q129 : (Jvm.Cond.selects "DisjointPaths" ({ cls := "DisjointPaths", name := "cutWith", desc := "(I)I" } : Jvm.MethodName) ({ cls := "DisjointPaths", name := "cutWith", desc := "(I)I" } : Jvm.MethodName)) ∈ lw_all := lw_g (lw_at lw_m1 107 rfl) rfl
theorem q130 : (Jvm.Cond.code ({ cls := "DisjointPaths", name := "cutWith", desc := "(I)I" } : Jvm.MethodName) prog_1_method_19_code (2 : Nat) (Option.some Jvm.ClassFile.FieldType.int)) ∈ lw_all := lw_g (lw_at lw_m1 108 rfl) rfl
theorem q132 : (Jvm.Cond.instanceMethod ({ cls := "DisjointPaths", name := "loss", desc := "(I)I" } : Jvm.MethodName)) ∈ lw_all := lw_g (lw_at lw_m1 110 rfl) rfl
theorem q133 : (Jvm.Cond.selects "DisjointPaths" ({ cls := "DisjointPaths", name := "loss", desc := "(I)I" } : Jvm.MethodName) ({ cls := "DisjointPaths", name := "loss", desc := "(I)I" } : Jvm.MethodName)) ∈ lw_all := lw_g (lw_at lw_m1 111 rfl) rfl
theorem q134 : (Jvm.Cond.code ({ cls := "DisjointPaths", name := "loss", desc := "(I)I" } : Jvm.MethodName) prog_1_method_20_code (4 : Nat) (Option.some Jvm.ClassFile.FieldType.int)) ∈ lw_all := lw_g (lw_at lw_m1 112 rfl) rfl
theorem q136 : (Jvm.Cond.instanceMethod ({ cls := "DisjointPaths", name := "tightEdges", desc := "()I" } : Jvm.MethodName)) ∈ lw_all := lw_g (lw_at lw_m1 114 rfl) rfl
theorem q137 : (Jvm.Cond.selects "DisjointPaths" ({ cls := "DisjointPaths", name := "tightEdges", desc := "()I" } : Jvm.MethodName) ({ cls := "DisjointPaths", name := "tightEdges", desc := "()I" } : Jvm.MethodName)) ∈ lw_all := lw_g (lw_at lw_m1 115 rfl) rfl
theorem q138 : (Jvm.Cond.code ({ cls := "DisjointPaths", name := "tightEdges", desc := "()I" } : Jvm.MethodName) prog_1_method_22_code (6 : Nat) (Option.some Jvm.ClassFile.FieldType.int)) ∈ lw_all := lw_g (lw_at lw_m1 116 rfl) rfl
theorem q139 : (Jvm.Cond.methodLink "DisjointPaths" (70 : Nat) ({ cls := "DisjointPaths", name := "flowWith", desc := "(II)I" } : Jvm.MethodName)) ∈ lw_all := lw_g (lw_at lw_m1 117 rfl) rfl
theorem q140 : (Jvm.Cond.privateMethod ({ cls := "DisjointPaths", name := "flowWith", desc := "(II)I" } : Jvm.MethodName)) ∈ lw_tbl := lw_at lw_m1 118 rfl
theorem q141 : (Jvm.Cond.instanceMethod ({ cls := "DisjointPaths", name := "flowWith", desc := "(II)I" } : Jvm.MethodName)) ∈ lw_all := lw_g (lw_at lw_m1 119 rfl) rfl
theorem q142 : (Jvm.Cond.code ({ cls := "DisjointPaths", name := "flowWith", desc := "(II)I" } : Jvm.MethodName) prog_1_method_21_code (5 : Nat) (Option.some Jvm.ClassFile.FieldType.int)) ∈ lw_all := lw_g (lw_at lw_m1 120 rfl) rfl
theorem q144 : (Jvm.Cond.instanceMethod ({ cls := "DisjointPaths", name := "helpfulEdges", desc := "()I" } : Jvm.MethodName)) ∈ lw_all := lw_g (lw_at lw_m1 122 rfl) rfl
theorem q145 : (Jvm.Cond.selects "DisjointPaths" ({ cls := "DisjointPaths", name := "helpfulEdges", desc := "()I" } : Jvm.MethodName) ({ cls := "DisjointPaths", name := "helpfulEdges", desc := "()I" } : Jvm.MethodName)) ∈ lw_all := lw_g (lw_at lw_m1 123 rfl) rfl
theorem q146 : (Jvm.Cond.code ({ cls := "DisjointPaths", name := "helpfulEdges", desc := "()I" } : Jvm.MethodName) prog_1_method_23_code (6 : Nat) (Option.some Jvm.ClassFile.FieldType.int)) ∈ lw_all := lw_g (lw_at lw_m1 124 rfl) rfl
theorem q148 : (Jvm.Cond.instanceMethod ({ cls := "DisjointPaths", name := "distance", desc := "()I" } : Jvm.MethodName)) ∈ lw_all := lw_g (lw_at lw_m1 126 rfl) rfl
theorem q149 : (Jvm.Cond.selects "DisjointPaths" ({ cls := "DisjointPaths", name := "distance", desc := "()I" } : Jvm.MethodName) ({ cls := "DisjointPaths", name := "distance", desc := "()I" } : Jvm.MethodName)) ∈ lw_all := lw_g (lw_at lw_m1 127 rfl) rfl
theorem q150 : (Jvm.Cond.code ({ cls := "DisjointPaths", name := "distance", desc := "()I" } : Jvm.MethodName) prog_1_method_24_code (3 : Nat) (Option.some Jvm.ClassFile.FieldType.int)) ∈ lw_all := lw_g (lw_at lw_m1 128 rfl) rfl
theorem q151 : (Jvm.Cond.methodLink "DisjointPaths" (73 : Nat) ({ cls := "DisjointPaths", name := "reach", desc := "(II)V" } : Jvm.MethodName)) ∈ lw_all := lw_g (lw_at lw_m1 129 rfl) rfl
theorem q152 : (Jvm.Cond.privateMethod ({ cls := "DisjointPaths", name := "reach", desc := "(II)V" } : Jvm.MethodName)) ∈ lw_tbl := lw_at lw_m1 130 rfl
theorem q153 : (Jvm.Cond.instanceMethod ({ cls := "DisjointPaths", name := "reach", desc := "(II)V" } : Jvm.MethodName)) ∈ lw_all := lw_g (lw_at lw_m1 131 rfl) rfl
theorem q154 : (Jvm.Cond.code ({ cls := "DisjointPaths", name := "reach", desc := "(II)V" } : Jvm.MethodName) prog_1_method_25_code (4 : Nat) (Option.none : Option Jvm.ClassFile.FieldType)) ∈ lw_all := lw_g (lw_at lw_m1 132 rfl) rfl
theorem q156 : (Jvm.Cond.instanceMethod ({ cls := "DisjointPaths", name := "strength", desc := "()I" } : Jvm.MethodName)) ∈ lw_all := lw_g (lw_at lw_m1 134 rfl) rfl
theorem q157 : (Jvm.Cond.selects "DisjointPaths" ({ cls := "DisjointPaths", name := "strength", desc := "()I" } : Jvm.MethodName) ({ cls := "DisjointPaths", name := "strength", desc := "()I" } : Jvm.MethodName)) ∈ lw_all := lw_g (lw_at lw_m1 135 rfl) rfl
theorem q158 : (Jvm.Cond.code ({ cls := "DisjointPaths", name := "strength", desc := "()I" } : Jvm.MethodName) prog_1_method_26_code (7 : Nat) (Option.some Jvm.ClassFile.FieldType.int)) ∈ lw_all := lw_g (lw_at lw_m1 136 rfl) rfl
theorem q160 : (Jvm.Cond.instanceMethod ({ cls := "DisjointPaths", name := "clear", desc := "()I" } : Jvm.MethodName)) ∈ lw_all := lw_g (lw_at lw_m1 138 rfl) rfl
theorem q161 : (Jvm.Cond.selects "DisjointPaths" ({ cls := "DisjointPaths", name := "clear", desc := "()I" } : Jvm.MethodName) ({ cls := "DisjointPaths", name := "clear", desc := "()I" } : Jvm.MethodName)) ∈ lw_all := lw_g (lw_at lw_m1 139 rfl) rfl
theorem q162 : (Jvm.Cond.code ({ cls := "DisjointPaths", name := "clear", desc := "()I" } : Jvm.MethodName) prog_1_method_27_code (4 : Nat) (Option.some Jvm.ClassFile.FieldType.int)) ∈ lw_all := lw_g (lw_at lw_m1 140 rfl) rfl
theorem in_X1 : ∀ w ∈ wsX10, w ∈ lw_all := lw_in wsX10 [41, 43, 45, 47, 49, 51, 53, 55] (by decide +kernel) (by decide +kernel)
end
section
/-! DisjointPathsModel -/
set_option maxRecDepth 100000
def RX2 : String := "DisjointPathsModel"
def TX2 : u_T := fun k => match k with
  | 0 => ("DisjointPathsModel", "n", "I", false)
  | 1 => ("DisjointPathsModel", "s", "I", false)
  | 2 => ("DisjointPathsModel", "t", "I", false)
  | 3 => ("DisjointPathsModel", "near", "[I", true)
  | 4 => ("DisjointPathsModel", "whole", "[Z", true)
  | _ => ("DisjointPathsModel", "most", "[I", true)
def tyX2 : Nat → FieldType := fun k => match k with
  | 0 => .int
  | 1 => .int
  | 2 => .int
  | 3 => .array .int
  | 4 => .array .boolean
  | _ => .array .int
abbrev wsX20 : List Cond := u_ws RX2 TX2 6
theorem nmX2 : ∀ a, a < 6 → ∀ b, b < 6 → a ≠ b → (TX2 a).2.1 ≠ (TX2 b).2.1 := by decide +kernel
theorem tyX2_ok : ∀ k, k < 6 → parseFieldDescriptor (TX2 k).2.2.1 = some (tyX2 k) := by decide +kernel
abbrev cX2_init : ByteArray := prog_3_method_1_code
def yX2_init : MethodName := ⟨RX2, "<init>", "(I)V"⟩
theorem dX2_init_0 : decode cX2_init 0 = .ok (.aload_n 0, 1) := by decide +kernel
theorem dX2_init_1 : decode cX2_init 1 = .ok (.invokespecial 1, 3) := by decide +kernel
theorem dX2_init_4 : decode cX2_init 4 = .ok (.aload_n 0, 1) := by decide +kernel
theorem dX2_init_5 : decode cX2_init 5 = .ok (.bipush 8, 2) := by decide +kernel
theorem dX2_init_7 : decode cX2_init 7 = .ok (.newarray .int, 2) := by decide +kernel
theorem dX2_init_9 : decode cX2_init 9 = .ok (.putfield 7, 3) := by decide +kernel
theorem dX2_init_12 : decode cX2_init 12 = .ok (.aload_n 0, 1) := by decide +kernel
theorem dX2_init_13 : decode cX2_init 13 = .ok (.sipush 256, 3) := by decide +kernel
theorem dX2_init_16 : decode cX2_init 16 = .ok (.newarray .boolean, 2) := by decide +kernel
theorem dX2_init_18 : decode cX2_init 18 = .ok (.putfield 13, 3) := by decide +kernel
theorem dX2_init_21 : decode cX2_init 21 = .ok (.aload_n 0, 1) := by decide +kernel
theorem dX2_init_22 : decode cX2_init 22 = .ok (.sipush 256, 3) := by decide +kernel
theorem dX2_init_25 : decode cX2_init 25 = .ok (.newarray .int, 2) := by decide +kernel
theorem dX2_init_27 : decode cX2_init 27 = .ok (.putfield 17, 3) := by decide +kernel
theorem dX2_init_30 : decode cX2_init 30 = .ok (.aload_n 0, 1) := by decide +kernel
theorem dX2_init_31 : decode cX2_init 31 = .ok (.iload_n 1, 1) := by decide +kernel
theorem dX2_init_32 : decode cX2_init 32 = .ok (.iconst 3, 1) := by decide +kernel
theorem dX2_init_33 : decode cX2_init 33 = .ok (.if_icmp .ge 7, 3) := by decide +kernel
theorem dX2_init_36 : decode cX2_init 36 = .ok (.iconst 3, 1) := by decide +kernel
theorem dX2_init_37 : decode cX2_init 37 = .ok (.goto 15, 3) := by decide +kernel
theorem dX2_init_40 : decode cX2_init 40 = .ok (.iload_n 1, 1) := by decide +kernel
theorem dX2_init_41 : decode cX2_init 41 = .ok (.bipush 8, 2) := by decide +kernel
theorem dX2_init_43 : decode cX2_init 43 = .ok (.if_icmp .le 8, 3) := by decide +kernel
theorem dX2_init_46 : decode cX2_init 46 = .ok (.bipush 8, 2) := by decide +kernel
theorem dX2_init_48 : decode cX2_init 48 = .ok (.goto 4, 3) := by decide +kernel
theorem dX2_init_51 : decode cX2_init 51 = .ok (.iload_n 1, 1) := by decide +kernel
theorem dX2_init_52 : decode cX2_init 52 = .ok (.putfield 20, 3) := by decide +kernel
theorem dX2_init_55 : decode cX2_init 55 = .ok (.aload_n 0, 1) := by decide +kernel
theorem dX2_init_56 : decode cX2_init 56 = .ok (.aload_n 0, 1) := by decide +kernel
theorem dX2_init_57 : decode cX2_init 57 = .ok (.getfield 20, 3) := by decide +kernel
theorem dX2_init_60 : decode cX2_init 60 = .ok (.iconst 1, 1) := by decide +kernel
theorem dX2_init_61 : decode cX2_init 61 = .ok (.isub, 1) := by decide +kernel
theorem dX2_init_62 : decode cX2_init 62 = .ok (.putfield 24, 3) := by decide +kernel
theorem dX2_init_65 : decode cX2_init 65 = .ok (.return_, 1) := by decide +kernel
abbrev cX2_vertices : ByteArray := prog_3_method_4_code
def yX2_vertices : MethodName := ⟨RX2, "vertices", "()I"⟩
theorem dX2_vertices_0 : decode cX2_vertices 0 = .ok (.aload_n 0, 1) := by decide +kernel
theorem dX2_vertices_1 : decode cX2_vertices 1 = .ok (.getfield 20, 3) := by decide +kernel
theorem dX2_vertices_4 : decode cX2_vertices 4 = .ok (.ireturn, 1) := by decide +kernel
abbrev cX2_edge : ByteArray := prog_3_method_6_code
def yX2_edge : MethodName := ⟨RX2, "edge", "(III)I"⟩
theorem dX2_edge_0 : decode cX2_edge 0 = .ok (.aload_n 0, 1) := by decide +kernel
theorem dX2_edge_1 : decode cX2_edge 1 = .ok (.iload_n 1, 1) := by decide +kernel
theorem dX2_edge_2 : decode cX2_edge 2 = .ok (.invokevirtual 27, 3) := by decide +kernel
theorem dX2_edge_5 : decode cX2_edge 5 = .ok (.ifCond .eq 16, 3) := by decide +kernel
theorem dX2_edge_8 : decode cX2_edge 8 = .ok (.aload_n 0, 1) := by decide +kernel
theorem dX2_edge_9 : decode cX2_edge 9 = .ok (.iload_n 2, 1) := by decide +kernel
theorem dX2_edge_10 : decode cX2_edge 10 = .ok (.invokevirtual 27, 3) := by decide +kernel
theorem dX2_edge_13 : decode cX2_edge 13 = .ok (.ifCond .eq 8, 3) := by decide +kernel
theorem dX2_edge_16 : decode cX2_edge 16 = .ok (.iload_n 1, 1) := by decide +kernel
theorem dX2_edge_17 : decode cX2_edge 17 = .ok (.iload_n 2, 1) := by decide +kernel
theorem dX2_edge_18 : decode cX2_edge 18 = .ok (.if_icmp .ne 5, 3) := by decide +kernel
theorem dX2_edge_21 : decode cX2_edge 21 = .ok (.iconst (-1), 1) := by decide +kernel
theorem dX2_edge_22 : decode cX2_edge 22 = .ok (.ireturn, 1) := by decide +kernel
theorem dX2_edge_23 : decode cX2_edge 23 = .ok (.aload_n 0, 1) := by decide +kernel
theorem dX2_edge_24 : decode cX2_edge 24 = .ok (.aload_n 0, 1) := by decide +kernel
theorem dX2_edge_25 : decode cX2_edge 25 = .ok (.getfield 7, 3) := by decide +kernel
theorem dX2_edge_28 : decode cX2_edge 28 = .ok (.iload_n 1, 1) := by decide +kernel
theorem dX2_edge_29 : decode cX2_edge 29 = .ok (.iaload, 1) := by decide +kernel
theorem dX2_edge_30 : decode cX2_edge 30 = .ok (.iload_n 2, 1) := by decide +kernel
theorem dX2_edge_31 : decode cX2_edge 31 = .ok (.invokevirtual 31, 3) := by decide +kernel
theorem dX2_edge_34 : decode cX2_edge 34 = .ok (.ifCond .eq 7, 3) := by decide +kernel
theorem dX2_edge_37 : decode cX2_edge 37 = .ok (.iconst 1, 1) := by decide +kernel
theorem dX2_edge_38 : decode cX2_edge 38 = .ok (.goto 4, 3) := by decide +kernel
theorem dX2_edge_41 : decode cX2_edge 41 = .ok (.iconst 0, 1) := by decide +kernel
theorem dX2_edge_42 : decode cX2_edge 42 = .ok (.istore 4, 2) := by decide +kernel
theorem dX2_edge_44 : decode cX2_edge 44 = .ok (.aload_n 0, 1) := by decide +kernel
theorem dX2_edge_45 : decode cX2_edge 45 = .ok (.iload_n 1, 1) := by decide +kernel
theorem dX2_edge_46 : decode cX2_edge 46 = .ok (.iload_n 2, 1) := by decide +kernel
theorem dX2_edge_47 : decode cX2_edge 47 = .ok (.iload_n 3, 1) := by decide +kernel
theorem dX2_edge_48 : decode cX2_edge 48 = .ok (.ifCond .eq 7, 3) := by decide +kernel
theorem dX2_edge_51 : decode cX2_edge 51 = .ok (.iconst 1, 1) := by decide +kernel
theorem dX2_edge_52 : decode cX2_edge 52 = .ok (.goto 4, 3) := by decide +kernel
theorem dX2_edge_55 : decode cX2_edge 55 = .ok (.iconst 0, 1) := by decide +kernel
theorem dX2_edge_56 : decode cX2_edge 56 = .ok (.invokevirtual 35, 3) := by decide +kernel
theorem dX2_edge_59 : decode cX2_edge 59 = .ok (.iload 4, 2) := by decide +kernel
theorem dX2_edge_61 : decode cX2_edge 61 = .ok (.ireturn, 1) := by decide +kernel
abbrev cX2_isVertex : ByteArray := prog_3_method_2_code
def yX2_isVertex : MethodName := ⟨RX2, "isVertex", "(I)Z"⟩
theorem dX2_isVertex_0 : decode cX2_isVertex 0 = .ok (.iload_n 1, 1) := by decide +kernel
theorem dX2_isVertex_1 : decode cX2_isVertex 1 = .ok (.ifCond .lt 15, 3) := by decide +kernel
theorem dX2_isVertex_4 : decode cX2_isVertex 4 = .ok (.iload_n 1, 1) := by decide +kernel
theorem dX2_isVertex_5 : decode cX2_isVertex 5 = .ok (.aload_n 0, 1) := by decide +kernel
theorem dX2_isVertex_6 : decode cX2_isVertex 6 = .ok (.getfield 20, 3) := by decide +kernel
theorem dX2_isVertex_9 : decode cX2_isVertex 9 = .ok (.if_icmp .ge 7, 3) := by decide +kernel
theorem dX2_isVertex_12 : decode cX2_isVertex 12 = .ok (.iconst 1, 1) := by decide +kernel
theorem dX2_isVertex_13 : decode cX2_isVertex 13 = .ok (.goto 4, 3) := by decide +kernel
theorem dX2_isVertex_16 : decode cX2_isVertex 16 = .ok (.iconst 0, 1) := by decide +kernel
theorem dX2_isVertex_17 : decode cX2_isVertex 17 = .ok (.ireturn, 1) := by decide +kernel
abbrev cX2_has : ByteArray := prog_3_method_3_code
def yX2_has : MethodName := ⟨RX2, "has", "(II)Z"⟩
theorem dX2_has_0 : decode cX2_has 0 = .ok (.iload_n 1, 1) := by decide +kernel
theorem dX2_has_1 : decode cX2_has 1 = .ok (.iload_n 2, 1) := by decide +kernel
theorem dX2_has_2 : decode cX2_has 2 = .ok (.ishr, 1) := by decide +kernel
theorem dX2_has_3 : decode cX2_has 3 = .ok (.iconst 1, 1) := by decide +kernel
theorem dX2_has_4 : decode cX2_has 4 = .ok (.iand, 1) := by decide +kernel
theorem dX2_has_5 : decode cX2_has 5 = .ok (.iconst 1, 1) := by decide +kernel
theorem dX2_has_6 : decode cX2_has 6 = .ok (.if_icmp .ne 7, 3) := by decide +kernel
theorem dX2_has_9 : decode cX2_has 9 = .ok (.iconst 1, 1) := by decide +kernel
theorem dX2_has_10 : decode cX2_has 10 = .ok (.goto 4, 3) := by decide +kernel
theorem dX2_has_13 : decode cX2_has 13 = .ok (.iconst 0, 1) := by decide +kernel
theorem dX2_has_14 : decode cX2_has 14 = .ok (.ireturn, 1) := by decide +kernel
abbrev cX2_put : ByteArray := prog_3_method_5_code
def yX2_put : MethodName := ⟨RX2, "put", "(IIZ)V"⟩
theorem dX2_put_0 : decode cX2_put 0 = .ok (.aload_n 0, 1) := by decide +kernel
theorem dX2_put_1 : decode cX2_put 1 = .ok (.getfield 7, 3) := by decide +kernel
theorem dX2_put_4 : decode cX2_put 4 = .ok (.iload_n 1, 1) := by decide +kernel
theorem dX2_put_5 : decode cX2_put 5 = .ok (.iload_n 3, 1) := by decide +kernel
theorem dX2_put_6 : decode cX2_put 6 = .ok (.ifCond .eq 16, 3) := by decide +kernel
theorem dX2_put_9 : decode cX2_put 9 = .ok (.aload_n 0, 1) := by decide +kernel
theorem dX2_put_10 : decode cX2_put 10 = .ok (.getfield 7, 3) := by decide +kernel
theorem dX2_put_13 : decode cX2_put 13 = .ok (.iload_n 1, 1) := by decide +kernel
theorem dX2_put_14 : decode cX2_put 14 = .ok (.iaload, 1) := by decide +kernel
theorem dX2_put_15 : decode cX2_put 15 = .ok (.iconst 1, 1) := by decide +kernel
theorem dX2_put_16 : decode cX2_put 16 = .ok (.iload_n 2, 1) := by decide +kernel
theorem dX2_put_17 : decode cX2_put 17 = .ok (.ishl, 1) := by decide +kernel
theorem dX2_put_18 : decode cX2_put 18 = .ok (.ior, 1) := by decide +kernel
theorem dX2_put_19 : decode cX2_put 19 = .ok (.goto 15, 3) := by decide +kernel
theorem dX2_put_22 : decode cX2_put 22 = .ok (.aload_n 0, 1) := by decide +kernel
theorem dX2_put_23 : decode cX2_put 23 = .ok (.getfield 7, 3) := by decide +kernel
theorem dX2_put_26 : decode cX2_put 26 = .ok (.iload_n 1, 1) := by decide +kernel
theorem dX2_put_27 : decode cX2_put 27 = .ok (.iaload, 1) := by decide +kernel
theorem dX2_put_28 : decode cX2_put 28 = .ok (.iconst 1, 1) := by decide +kernel
theorem dX2_put_29 : decode cX2_put 29 = .ok (.iload_n 2, 1) := by decide +kernel
theorem dX2_put_30 : decode cX2_put 30 = .ok (.ishl, 1) := by decide +kernel
theorem dX2_put_31 : decode cX2_put 31 = .ok (.iconst (-1), 1) := by decide +kernel
theorem dX2_put_32 : decode cX2_put 32 = .ok (.ixor, 1) := by decide +kernel
theorem dX2_put_33 : decode cX2_put 33 = .ok (.iand, 1) := by decide +kernel
theorem dX2_put_34 : decode cX2_put 34 = .ok (.iastore, 1) := by decide +kernel
theorem dX2_put_35 : decode cX2_put 35 = .ok (.aload_n 0, 1) := by decide +kernel
theorem dX2_put_36 : decode cX2_put 36 = .ok (.getfield 7, 3) := by decide +kernel
theorem dX2_put_39 : decode cX2_put 39 = .ok (.iload_n 2, 1) := by decide +kernel
theorem dX2_put_40 : decode cX2_put 40 = .ok (.iload_n 3, 1) := by decide +kernel
theorem dX2_put_41 : decode cX2_put 41 = .ok (.ifCond .eq 16, 3) := by decide +kernel
theorem dX2_put_44 : decode cX2_put 44 = .ok (.aload_n 0, 1) := by decide +kernel
theorem dX2_put_45 : decode cX2_put 45 = .ok (.getfield 7, 3) := by decide +kernel
theorem dX2_put_48 : decode cX2_put 48 = .ok (.iload_n 2, 1) := by decide +kernel
theorem dX2_put_49 : decode cX2_put 49 = .ok (.iaload, 1) := by decide +kernel
theorem dX2_put_50 : decode cX2_put 50 = .ok (.iconst 1, 1) := by decide +kernel
theorem dX2_put_51 : decode cX2_put 51 = .ok (.iload_n 1, 1) := by decide +kernel
theorem dX2_put_52 : decode cX2_put 52 = .ok (.ishl, 1) := by decide +kernel
theorem dX2_put_53 : decode cX2_put 53 = .ok (.ior, 1) := by decide +kernel
theorem dX2_put_54 : decode cX2_put 54 = .ok (.goto 15, 3) := by decide +kernel
theorem dX2_put_57 : decode cX2_put 57 = .ok (.aload_n 0, 1) := by decide +kernel
theorem dX2_put_58 : decode cX2_put 58 = .ok (.getfield 7, 3) := by decide +kernel
theorem dX2_put_61 : decode cX2_put 61 = .ok (.iload_n 2, 1) := by decide +kernel
theorem dX2_put_62 : decode cX2_put 62 = .ok (.iaload, 1) := by decide +kernel
theorem dX2_put_63 : decode cX2_put 63 = .ok (.iconst 1, 1) := by decide +kernel
theorem dX2_put_64 : decode cX2_put 64 = .ok (.iload_n 1, 1) := by decide +kernel
theorem dX2_put_65 : decode cX2_put 65 = .ok (.ishl, 1) := by decide +kernel
theorem dX2_put_66 : decode cX2_put 66 = .ok (.iconst (-1), 1) := by decide +kernel
theorem dX2_put_67 : decode cX2_put 67 = .ok (.ixor, 1) := by decide +kernel
theorem dX2_put_68 : decode cX2_put 68 = .ok (.iand, 1) := by decide +kernel
theorem dX2_put_69 : decode cX2_put 69 = .ok (.iastore, 1) := by decide +kernel
theorem dX2_put_70 : decode cX2_put 70 = .ok (.return_, 1) := by decide +kernel
abbrev cX2_joined : ByteArray := prog_3_method_7_code
def yX2_joined : MethodName := ⟨RX2, "joined", "(II)Z"⟩
theorem dX2_joined_0 : decode cX2_joined 0 = .ok (.aload_n 0, 1) := by decide +kernel
theorem dX2_joined_1 : decode cX2_joined 1 = .ok (.iload_n 1, 1) := by decide +kernel
theorem dX2_joined_2 : decode cX2_joined 2 = .ok (.invokevirtual 27, 3) := by decide +kernel
theorem dX2_joined_5 : decode cX2_joined 5 = .ok (.ifCond .eq 29, 3) := by decide +kernel
theorem dX2_joined_8 : decode cX2_joined 8 = .ok (.aload_n 0, 1) := by decide +kernel
theorem dX2_joined_9 : decode cX2_joined 9 = .ok (.iload_n 2, 1) := by decide +kernel
theorem dX2_joined_10 : decode cX2_joined 10 = .ok (.invokevirtual 27, 3) := by decide +kernel
theorem dX2_joined_13 : decode cX2_joined 13 = .ok (.ifCond .eq 21, 3) := by decide +kernel
theorem dX2_joined_16 : decode cX2_joined 16 = .ok (.aload_n 0, 1) := by decide +kernel
theorem dX2_joined_17 : decode cX2_joined 17 = .ok (.aload_n 0, 1) := by decide +kernel
theorem dX2_joined_18 : decode cX2_joined 18 = .ok (.getfield 7, 3) := by decide +kernel
theorem dX2_joined_21 : decode cX2_joined 21 = .ok (.iload_n 1, 1) := by decide +kernel
theorem dX2_joined_22 : decode cX2_joined 22 = .ok (.iaload, 1) := by decide +kernel
theorem dX2_joined_23 : decode cX2_joined 23 = .ok (.iload_n 2, 1) := by decide +kernel
theorem dX2_joined_24 : decode cX2_joined 24 = .ok (.invokevirtual 31, 3) := by decide +kernel
theorem dX2_joined_27 : decode cX2_joined 27 = .ok (.ifCond .eq 7, 3) := by decide +kernel
theorem dX2_joined_30 : decode cX2_joined 30 = .ok (.iconst 1, 1) := by decide +kernel
theorem dX2_joined_31 : decode cX2_joined 31 = .ok (.goto 4, 3) := by decide +kernel
theorem dX2_joined_34 : decode cX2_joined 34 = .ok (.iconst 0, 1) := by decide +kernel
theorem dX2_joined_35 : decode cX2_joined 35 = .ok (.ireturn, 1) := by decide +kernel
abbrev cX2_ends : ByteArray := prog_3_method_8_code
def yX2_ends : MethodName := ⟨RX2, "ends", "(II)I"⟩
theorem dX2_ends_0 : decode cX2_ends 0 = .ok (.aload_n 0, 1) := by decide +kernel
theorem dX2_ends_1 : decode cX2_ends 1 = .ok (.iload_n 1, 1) := by decide +kernel
theorem dX2_ends_2 : decode cX2_ends 2 = .ok (.invokevirtual 27, 3) := by decide +kernel
theorem dX2_ends_5 : decode cX2_ends 5 = .ok (.ifCond .eq 16, 3) := by decide +kernel
theorem dX2_ends_8 : decode cX2_ends 8 = .ok (.aload_n 0, 1) := by decide +kernel
theorem dX2_ends_9 : decode cX2_ends 9 = .ok (.iload_n 2, 1) := by decide +kernel
theorem dX2_ends_10 : decode cX2_ends 10 = .ok (.invokevirtual 27, 3) := by decide +kernel
theorem dX2_ends_13 : decode cX2_ends 13 = .ok (.ifCond .eq 8, 3) := by decide +kernel
theorem dX2_ends_16 : decode cX2_ends 16 = .ok (.iload_n 1, 1) := by decide +kernel
theorem dX2_ends_17 : decode cX2_ends 17 = .ok (.iload_n 2, 1) := by decide +kernel
theorem dX2_ends_18 : decode cX2_ends 18 = .ok (.if_icmp .ne 5, 3) := by decide +kernel
theorem dX2_ends_21 : decode cX2_ends 21 = .ok (.iconst (-1), 1) := by decide +kernel
theorem dX2_ends_22 : decode cX2_ends 22 = .ok (.ireturn, 1) := by decide +kernel
theorem dX2_ends_23 : decode cX2_ends 23 = .ok (.aload_n 0, 1) := by decide +kernel
theorem dX2_ends_24 : decode cX2_ends 24 = .ok (.iload_n 1, 1) := by decide +kernel
theorem dX2_ends_25 : decode cX2_ends 25 = .ok (.putfield 39, 3) := by decide +kernel
theorem dX2_ends_28 : decode cX2_ends 28 = .ok (.aload_n 0, 1) := by decide +kernel
theorem dX2_ends_29 : decode cX2_ends 29 = .ok (.iload_n 2, 1) := by decide +kernel
theorem dX2_ends_30 : decode cX2_ends 30 = .ok (.putfield 24, 3) := by decide +kernel
theorem dX2_ends_33 : decode cX2_ends 33 = .ok (.iconst 0, 1) := by decide +kernel
theorem dX2_ends_34 : decode cX2_ends 34 = .ok (.ireturn, 1) := by decide +kernel
abbrev cX2_paths : ByteArray := prog_3_method_12_code
def yX2_paths : MethodName := ⟨RX2, "paths", "()I"⟩
theorem dX2_paths_0 : decode cX2_paths 0 = .ok (.aload_n 0, 1) := by decide +kernel
theorem dX2_paths_1 : decode cX2_paths 1 = .ok (.invokevirtual 42, 3) := by decide +kernel
theorem dX2_paths_4 : decode cX2_paths 4 = .ok (.istore_n 1, 1) := by decide +kernel
theorem dX2_paths_5 : decode cX2_paths 5 = .ok (.aload_n 0, 1) := by decide +kernel
theorem dX2_paths_6 : decode cX2_paths 6 = .ok (.aload_n 0, 1) := by decide +kernel
theorem dX2_paths_7 : decode cX2_paths 7 = .ok (.getfield 7, 3) := by decide +kernel
theorem dX2_paths_10 : decode cX2_paths 10 = .ok (.aload_n 0, 1) := by decide +kernel
theorem dX2_paths_11 : decode cX2_paths 11 = .ok (.getfield 39, 3) := by decide +kernel
theorem dX2_paths_14 : decode cX2_paths 14 = .ok (.iaload, 1) := by decide +kernel
theorem dX2_paths_15 : decode cX2_paths 15 = .ok (.aload_n 0, 1) := by decide +kernel
theorem dX2_paths_16 : decode cX2_paths 16 = .ok (.getfield 24, 3) := by decide +kernel
theorem dX2_paths_19 : decode cX2_paths 19 = .ok (.invokevirtual 31, 3) := by decide +kernel
theorem dX2_paths_22 : decode cX2_paths 22 = .ok (.ifCond .eq 7, 3) := by decide +kernel
theorem dX2_paths_25 : decode cX2_paths 25 = .ok (.iconst 1, 1) := by decide +kernel
theorem dX2_paths_26 : decode cX2_paths 26 = .ok (.goto 4, 3) := by decide +kernel
theorem dX2_paths_29 : decode cX2_paths 29 = .ok (.iconst 0, 1) := by decide +kernel
theorem dX2_paths_30 : decode cX2_paths 30 = .ok (.istore_n 2, 1) := by decide +kernel
theorem dX2_paths_31 : decode cX2_paths 31 = .ok (.iconst 0, 1) := by decide +kernel
theorem dX2_paths_32 : decode cX2_paths 32 = .ok (.istore_n 3, 1) := by decide +kernel
theorem dX2_paths_33 : decode cX2_paths 33 = .ok (.iload_n 3, 1) := by decide +kernel
theorem dX2_paths_34 : decode cX2_paths 34 = .ok (.iload_n 1, 1) := by decide +kernel
theorem dX2_paths_35 : decode cX2_paths 35 = .ok (.if_icmp .gt 38, 3) := by decide +kernel
theorem dX2_paths_38 : decode cX2_paths 38 = .ok (.iload_n 3, 1) := by decide +kernel
theorem dX2_paths_39 : decode cX2_paths 39 = .ok (.iload_n 1, 1) := by decide +kernel
theorem dX2_paths_40 : decode cX2_paths 40 = .ok (.iand, 1) := by decide +kernel
theorem dX2_paths_41 : decode cX2_paths 41 = .ok (.iload_n 3, 1) := by decide +kernel
theorem dX2_paths_42 : decode cX2_paths 42 = .ok (.if_icmp .ne 25, 3) := by decide +kernel
theorem dX2_paths_45 : decode cX2_paths 45 = .ok (.aload_n 0, 1) := by decide +kernel
theorem dX2_paths_46 : decode cX2_paths 46 = .ok (.getfield 13, 3) := by decide +kernel
theorem dX2_paths_49 : decode cX2_paths 49 = .ok (.iload_n 3, 1) := by decide +kernel
theorem dX2_paths_50 : decode cX2_paths 50 = .ok (.aload_n 0, 1) := by decide +kernel
theorem dX2_paths_51 : decode cX2_paths 51 = .ok (.iload_n 3, 1) := by decide +kernel
theorem dX2_paths_52 : decode cX2_paths 52 = .ok (.invokevirtual 46, 3) := by decide +kernel
theorem dX2_paths_55 : decode cX2_paths 55 = .ok (.bastore, 1) := by decide +kernel
theorem dX2_paths_56 : decode cX2_paths 56 = .ok (.aload_n 0, 1) := by decide +kernel
theorem dX2_paths_57 : decode cX2_paths 57 = .ok (.getfield 17, 3) := by decide +kernel
theorem dX2_paths_60 : decode cX2_paths 60 = .ok (.iload_n 3, 1) := by decide +kernel
theorem dX2_paths_61 : decode cX2_paths 61 = .ok (.aload_n 0, 1) := by decide +kernel
theorem dX2_paths_62 : decode cX2_paths 62 = .ok (.iload_n 3, 1) := by decide +kernel
theorem dX2_paths_63 : decode cX2_paths 63 = .ok (.invokevirtual 49, 3) := by decide +kernel
theorem dX2_paths_66 : decode cX2_paths 66 = .ok (.iastore, 1) := by decide +kernel
theorem dX2_paths_67 : decode cX2_paths 67 = .ok (.iinc 3 1, 3) := by decide +kernel
theorem dX2_paths_70 : decode cX2_paths 70 = .ok (.goto (-37), 3) := by decide +kernel
theorem dX2_paths_73 : decode cX2_paths 73 = .ok (.iload_n 2, 1) := by decide +kernel
theorem dX2_paths_74 : decode cX2_paths 74 = .ok (.aload_n 0, 1) := by decide +kernel
theorem dX2_paths_75 : decode cX2_paths 75 = .ok (.getfield 17, 3) := by decide +kernel
theorem dX2_paths_78 : decode cX2_paths 78 = .ok (.iload_n 1, 1) := by decide +kernel
theorem dX2_paths_79 : decode cX2_paths 79 = .ok (.iaload, 1) := by decide +kernel
theorem dX2_paths_80 : decode cX2_paths 80 = .ok (.iadd, 1) := by decide +kernel
theorem dX2_paths_81 : decode cX2_paths 81 = .ok (.ireturn, 1) := by decide +kernel
abbrev cX2_inner : ByteArray := prog_3_method_9_code
def yX2_inner : MethodName := ⟨RX2, "inner", "()I"⟩
theorem dX2_inner_0 : decode cX2_inner 0 = .ok (.iconst 1, 1) := by decide +kernel
theorem dX2_inner_1 : decode cX2_inner 1 = .ok (.aload_n 0, 1) := by decide +kernel
theorem dX2_inner_2 : decode cX2_inner 2 = .ok (.getfield 20, 3) := by decide +kernel
theorem dX2_inner_5 : decode cX2_inner 5 = .ok (.ishl, 1) := by decide +kernel
theorem dX2_inner_6 : decode cX2_inner 6 = .ok (.iconst 1, 1) := by decide +kernel
theorem dX2_inner_7 : decode cX2_inner 7 = .ok (.isub, 1) := by decide +kernel
theorem dX2_inner_8 : decode cX2_inner 8 = .ok (.iconst 1, 1) := by decide +kernel
theorem dX2_inner_9 : decode cX2_inner 9 = .ok (.aload_n 0, 1) := by decide +kernel
theorem dX2_inner_10 : decode cX2_inner 10 = .ok (.getfield 39, 3) := by decide +kernel
theorem dX2_inner_13 : decode cX2_inner 13 = .ok (.ishl, 1) := by decide +kernel
theorem dX2_inner_14 : decode cX2_inner 14 = .ok (.iconst (-1), 1) := by decide +kernel
theorem dX2_inner_15 : decode cX2_inner 15 = .ok (.ixor, 1) := by decide +kernel
theorem dX2_inner_16 : decode cX2_inner 16 = .ok (.iand, 1) := by decide +kernel
theorem dX2_inner_17 : decode cX2_inner 17 = .ok (.iconst 1, 1) := by decide +kernel
theorem dX2_inner_18 : decode cX2_inner 18 = .ok (.aload_n 0, 1) := by decide +kernel
theorem dX2_inner_19 : decode cX2_inner 19 = .ok (.getfield 24, 3) := by decide +kernel
theorem dX2_inner_22 : decode cX2_inner 22 = .ok (.ishl, 1) := by decide +kernel
theorem dX2_inner_23 : decode cX2_inner 23 = .ok (.iconst (-1), 1) := by decide +kernel
theorem dX2_inner_24 : decode cX2_inner 24 = .ok (.ixor, 1) := by decide +kernel
theorem dX2_inner_25 : decode cX2_inner 25 = .ok (.iand, 1) := by decide +kernel
theorem dX2_inner_26 : decode cX2_inner 26 = .ok (.ireturn, 1) := by decide +kernel
abbrev cX2_leads : ByteArray := prog_3_method_10_code
def yX2_leads : MethodName := ⟨RX2, "leads", "(I)Z"⟩
theorem dX2_leads_0 : decode cX2_leads 0 = .ok (.aload_n 0, 1) := by decide +kernel
theorem dX2_leads_1 : decode cX2_leads 1 = .ok (.getfield 7, 3) := by decide +kernel
theorem dX2_leads_4 : decode cX2_leads 4 = .ok (.aload_n 0, 1) := by decide +kernel
theorem dX2_leads_5 : decode cX2_leads 5 = .ok (.getfield 39, 3) := by decide +kernel
theorem dX2_leads_8 : decode cX2_leads 8 = .ok (.iaload, 1) := by decide +kernel
theorem dX2_leads_9 : decode cX2_leads 9 = .ok (.iload_n 1, 1) := by decide +kernel
theorem dX2_leads_10 : decode cX2_leads 10 = .ok (.iand, 1) := by decide +kernel
theorem dX2_leads_11 : decode cX2_leads 11 = .ok (.istore_n 2, 1) := by decide +kernel
theorem dX2_leads_12 : decode cX2_leads 12 = .ok (.iconst 0, 1) := by decide +kernel
theorem dX2_leads_13 : decode cX2_leads 13 = .ok (.istore_n 3, 1) := by decide +kernel
theorem dX2_leads_14 : decode cX2_leads 14 = .ok (.iload_n 3, 1) := by decide +kernel
theorem dX2_leads_15 : decode cX2_leads 15 = .ok (.bipush 8, 2) := by decide +kernel
theorem dX2_leads_17 : decode cX2_leads 17 = .ok (.if_icmp .ge 53, 3) := by decide +kernel
theorem dX2_leads_20 : decode cX2_leads 20 = .ok (.iconst 0, 1) := by decide +kernel
theorem dX2_leads_21 : decode cX2_leads 21 = .ok (.istore 4, 2) := by decide +kernel
theorem dX2_leads_23 : decode cX2_leads 23 = .ok (.iload 4, 2) := by decide +kernel
theorem dX2_leads_25 : decode cX2_leads 25 = .ok (.aload_n 0, 1) := by decide +kernel
theorem dX2_leads_26 : decode cX2_leads 26 = .ok (.getfield 20, 3) := by decide +kernel
theorem dX2_leads_29 : decode cX2_leads 29 = .ok (.if_icmp .ge 35, 3) := by decide +kernel
theorem dX2_leads_32 : decode cX2_leads 32 = .ok (.aload_n 0, 1) := by decide +kernel
theorem dX2_leads_33 : decode cX2_leads 33 = .ok (.iload_n 2, 1) := by decide +kernel
theorem dX2_leads_34 : decode cX2_leads 34 = .ok (.iload 4, 2) := by decide +kernel
theorem dX2_leads_36 : decode cX2_leads 36 = .ok (.invokevirtual 31, 3) := by decide +kernel
theorem dX2_leads_39 : decode cX2_leads 39 = .ok (.ifCond .eq 17, 3) := by decide +kernel
theorem dX2_leads_42 : decode cX2_leads 42 = .ok (.iload_n 2, 1) := by decide +kernel
theorem dX2_leads_43 : decode cX2_leads 43 = .ok (.aload_n 0, 1) := by decide +kernel
theorem dX2_leads_44 : decode cX2_leads 44 = .ok (.getfield 7, 3) := by decide +kernel
theorem dX2_leads_47 : decode cX2_leads 47 = .ok (.iload 4, 2) := by decide +kernel
theorem dX2_leads_49 : decode cX2_leads 49 = .ok (.iaload, 1) := by decide +kernel
theorem dX2_leads_50 : decode cX2_leads 50 = .ok (.iload_n 1, 1) := by decide +kernel
theorem dX2_leads_51 : decode cX2_leads 51 = .ok (.iand, 1) := by decide +kernel
theorem dX2_leads_52 : decode cX2_leads 52 = .ok (.ior, 1) := by decide +kernel
theorem dX2_leads_53 : decode cX2_leads 53 = .ok (.goto 4, 3) := by decide +kernel
theorem dX2_leads_56 : decode cX2_leads 56 = .ok (.iload_n 2, 1) := by decide +kernel
theorem dX2_leads_57 : decode cX2_leads 57 = .ok (.istore_n 2, 1) := by decide +kernel
theorem dX2_leads_58 : decode cX2_leads 58 = .ok (.iinc 4 1, 3) := by decide +kernel
theorem dX2_leads_61 : decode cX2_leads 61 = .ok (.goto (-38), 3) := by decide +kernel
theorem dX2_leads_64 : decode cX2_leads 64 = .ok (.iinc 3 1, 3) := by decide +kernel
theorem dX2_leads_67 : decode cX2_leads 67 = .ok (.goto (-53), 3) := by decide +kernel
theorem dX2_leads_70 : decode cX2_leads 70 = .ok (.iload_n 2, 1) := by decide +kernel
theorem dX2_leads_71 : decode cX2_leads 71 = .ok (.aload_n 0, 1) := by decide +kernel
theorem dX2_leads_72 : decode cX2_leads 72 = .ok (.getfield 7, 3) := by decide +kernel
theorem dX2_leads_75 : decode cX2_leads 75 = .ok (.aload_n 0, 1) := by decide +kernel
theorem dX2_leads_76 : decode cX2_leads 76 = .ok (.getfield 24, 3) := by decide +kernel
theorem dX2_leads_79 : decode cX2_leads 79 = .ok (.iaload, 1) := by decide +kernel
theorem dX2_leads_80 : decode cX2_leads 80 = .ok (.iand, 1) := by decide +kernel
theorem dX2_leads_81 : decode cX2_leads 81 = .ok (.ifCond .eq 7, 3) := by decide +kernel
theorem dX2_leads_84 : decode cX2_leads 84 = .ok (.iconst 1, 1) := by decide +kernel
theorem dX2_leads_85 : decode cX2_leads 85 = .ok (.goto 4, 3) := by decide +kernel
theorem dX2_leads_88 : decode cX2_leads 88 = .ok (.iconst 0, 1) := by decide +kernel
theorem dX2_leads_89 : decode cX2_leads 89 = .ok (.ireturn, 1) := by decide +kernel
abbrev cX2_parts : ByteArray := prog_3_method_11_code
def yX2_parts : MethodName := ⟨RX2, "parts", "(I)I"⟩
theorem dX2_parts_0 : decode cX2_parts 0 = .ok (.iconst 0, 1) := by decide +kernel
theorem dX2_parts_1 : decode cX2_parts 1 = .ok (.istore_n 2, 1) := by decide +kernel
theorem dX2_parts_2 : decode cX2_parts 2 = .ok (.iconst 1, 1) := by decide +kernel
theorem dX2_parts_3 : decode cX2_parts 3 = .ok (.istore_n 3, 1) := by decide +kernel
theorem dX2_parts_4 : decode cX2_parts 4 = .ok (.iload_n 3, 1) := by decide +kernel
theorem dX2_parts_5 : decode cX2_parts 5 = .ok (.iload_n 1, 1) := by decide +kernel
theorem dX2_parts_6 : decode cX2_parts 6 = .ok (.if_icmp .gt 54, 3) := by decide +kernel
theorem dX2_parts_9 : decode cX2_parts 9 = .ok (.iload_n 3, 1) := by decide +kernel
theorem dX2_parts_10 : decode cX2_parts 10 = .ok (.iload_n 1, 1) := by decide +kernel
theorem dX2_parts_11 : decode cX2_parts 11 = .ok (.iand, 1) := by decide +kernel
theorem dX2_parts_12 : decode cX2_parts 12 = .ok (.iload_n 3, 1) := by decide +kernel
theorem dX2_parts_13 : decode cX2_parts 13 = .ok (.if_icmp .ne 41, 3) := by decide +kernel
theorem dX2_parts_16 : decode cX2_parts 16 = .ok (.aload_n 0, 1) := by decide +kernel
theorem dX2_parts_17 : decode cX2_parts 17 = .ok (.getfield 13, 3) := by decide +kernel
theorem dX2_parts_20 : decode cX2_parts 20 = .ok (.iload_n 3, 1) := by decide +kernel
theorem dX2_parts_21 : decode cX2_parts 21 = .ok (.baload, 1) := by decide +kernel
theorem dX2_parts_22 : decode cX2_parts 22 = .ok (.ifCond .eq 32, 3) := by decide +kernel
theorem dX2_parts_25 : decode cX2_parts 25 = .ok (.iconst 1, 1) := by decide +kernel
theorem dX2_parts_26 : decode cX2_parts 26 = .ok (.aload_n 0, 1) := by decide +kernel
theorem dX2_parts_27 : decode cX2_parts 27 = .ok (.getfield 17, 3) := by decide +kernel
theorem dX2_parts_30 : decode cX2_parts 30 = .ok (.iload_n 1, 1) := by decide +kernel
theorem dX2_parts_31 : decode cX2_parts 31 = .ok (.iload_n 3, 1) := by decide +kernel
theorem dX2_parts_32 : decode cX2_parts 32 = .ok (.iconst (-1), 1) := by decide +kernel
theorem dX2_parts_33 : decode cX2_parts 33 = .ok (.ixor, 1) := by decide +kernel
theorem dX2_parts_34 : decode cX2_parts 34 = .ok (.iand, 1) := by decide +kernel
theorem dX2_parts_35 : decode cX2_parts 35 = .ok (.iaload, 1) := by decide +kernel
theorem dX2_parts_36 : decode cX2_parts 36 = .ok (.iadd, 1) := by decide +kernel
theorem dX2_parts_37 : decode cX2_parts 37 = .ok (.iload_n 2, 1) := by decide +kernel
theorem dX2_parts_38 : decode cX2_parts 38 = .ok (.if_icmp .le 16, 3) := by decide +kernel
theorem dX2_parts_41 : decode cX2_parts 41 = .ok (.iconst 1, 1) := by decide +kernel
theorem dX2_parts_42 : decode cX2_parts 42 = .ok (.aload_n 0, 1) := by decide +kernel
theorem dX2_parts_43 : decode cX2_parts 43 = .ok (.getfield 17, 3) := by decide +kernel
theorem dX2_parts_46 : decode cX2_parts 46 = .ok (.iload_n 1, 1) := by decide +kernel
theorem dX2_parts_47 : decode cX2_parts 47 = .ok (.iload_n 3, 1) := by decide +kernel
theorem dX2_parts_48 : decode cX2_parts 48 = .ok (.iconst (-1), 1) := by decide +kernel
theorem dX2_parts_49 : decode cX2_parts 49 = .ok (.ixor, 1) := by decide +kernel
theorem dX2_parts_50 : decode cX2_parts 50 = .ok (.iand, 1) := by decide +kernel
theorem dX2_parts_51 : decode cX2_parts 51 = .ok (.iaload, 1) := by decide +kernel
theorem dX2_parts_52 : decode cX2_parts 52 = .ok (.iadd, 1) := by decide +kernel
theorem dX2_parts_53 : decode cX2_parts 53 = .ok (.istore_n 2, 1) := by decide +kernel
theorem dX2_parts_54 : decode cX2_parts 54 = .ok (.iinc 3 1, 3) := by decide +kernel
theorem dX2_parts_57 : decode cX2_parts 57 = .ok (.goto (-53), 3) := by decide +kernel
theorem dX2_parts_60 : decode cX2_parts 60 = .ok (.iload_n 2, 1) := by decide +kernel
theorem dX2_parts_61 : decode cX2_parts 61 = .ok (.ireturn, 1) := by decide +kernel
abbrev cX2_cutSize : ByteArray := prog_3_method_16_code
def yX2_cutSize : MethodName := ⟨RX2, "cutSize", "()I"⟩
theorem dX2_cutSize_0 : decode cX2_cutSize 0 = .ok (.aload_n 0, 1) := by decide +kernel
theorem dX2_cutSize_1 : decode cX2_cutSize 1 = .ok (.iconst 0, 1) := by decide +kernel
theorem dX2_cutSize_2 : decode cX2_cutSize 2 = .ok (.invokevirtual 59, 3) := by decide +kernel
theorem dX2_cutSize_5 : decode cX2_cutSize 5 = .ok (.istore_n 1, 1) := by decide +kernel
theorem dX2_cutSize_6 : decode cX2_cutSize 6 = .ok (.iload_n 1, 1) := by decide +kernel
theorem dX2_cutSize_7 : decode cX2_cutSize 7 = .ok (.bipush (-4), 2) := by decide +kernel
theorem dX2_cutSize_9 : decode cX2_cutSize 9 = .ok (.if_icmp .ne 8, 3) := by decide +kernel
theorem dX2_cutSize_12 : decode cX2_cutSize 12 = .ok (.bipush (-4), 2) := by decide +kernel
theorem dX2_cutSize_14 : decode cX2_cutSize 14 = .ok (.goto 8, 3) := by decide +kernel
theorem dX2_cutSize_17 : decode cX2_cutSize 17 = .ok (.aload_n 0, 1) := by decide +kernel
theorem dX2_cutSize_18 : decode cX2_cutSize 18 = .ok (.iload_n 1, 1) := by decide +kernel
theorem dX2_cutSize_19 : decode cX2_cutSize 19 = .ok (.invokevirtual 56, 3) := by decide +kernel
theorem dX2_cutSize_22 : decode cX2_cutSize 22 = .ok (.ireturn, 1) := by decide +kernel
abbrev cX2_leastCut : ByteArray := prog_3_method_15_code
def yX2_leastCut : MethodName := ⟨RX2, "leastCut", "(I)I"⟩
theorem dX2_leastCut_0 : decode cX2_leastCut 0 = .ok (.bipush (-4), 2) := by decide +kernel
theorem dX2_leastCut_2 : decode cX2_leastCut 2 = .ok (.istore_n 2, 1) := by decide +kernel
theorem dX2_leastCut_3 : decode cX2_leastCut 3 = .ok (.bipush 9, 2) := by decide +kernel
theorem dX2_leastCut_5 : decode cX2_leastCut 5 = .ok (.istore_n 3, 1) := by decide +kernel
theorem dX2_leastCut_6 : decode cX2_leastCut 6 = .ok (.iconst 0, 1) := by decide +kernel
theorem dX2_leastCut_7 : decode cX2_leastCut 7 = .ok (.istore 4, 2) := by decide +kernel
theorem dX2_leastCut_9 : decode cX2_leastCut 9 = .ok (.iload 4, 2) := by decide +kernel
theorem dX2_leastCut_11 : decode cX2_leastCut 11 = .ok (.iconst 1, 1) := by decide +kernel
theorem dX2_leastCut_12 : decode cX2_leastCut 12 = .ok (.aload_n 0, 1) := by decide +kernel
theorem dX2_leastCut_13 : decode cX2_leastCut 13 = .ok (.getfield 20, 3) := by decide +kernel
theorem dX2_leastCut_16 : decode cX2_leastCut 16 = .ok (.ishl, 1) := by decide +kernel
theorem dX2_leastCut_17 : decode cX2_leastCut 17 = .ok (.if_icmp .ge 46, 3) := by decide +kernel
theorem dX2_leastCut_20 : decode cX2_leastCut 20 = .ok (.iload 4, 2) := by decide +kernel
theorem dX2_leastCut_22 : decode cX2_leastCut 22 = .ok (.iload_n 1, 1) := by decide +kernel
theorem dX2_leastCut_23 : decode cX2_leastCut 23 = .ok (.iand, 1) := by decide +kernel
theorem dX2_leastCut_24 : decode cX2_leastCut 24 = .ok (.iload_n 1, 1) := by decide +kernel
theorem dX2_leastCut_25 : decode cX2_leastCut 25 = .ok (.if_icmp .ne 32, 3) := by decide +kernel
theorem dX2_leastCut_28 : decode cX2_leastCut 28 = .ok (.aload_n 0, 1) := by decide +kernel
theorem dX2_leastCut_29 : decode cX2_leastCut 29 = .ok (.iload 4, 2) := by decide +kernel
theorem dX2_leastCut_31 : decode cX2_leastCut 31 = .ok (.invokevirtual 53, 3) := by decide +kernel
theorem dX2_leastCut_34 : decode cX2_leastCut 34 = .ok (.ifCond .eq 23, 3) := by decide +kernel
theorem dX2_leastCut_37 : decode cX2_leastCut 37 = .ok (.aload_n 0, 1) := by decide +kernel
theorem dX2_leastCut_38 : decode cX2_leastCut 38 = .ok (.iload 4, 2) := by decide +kernel
theorem dX2_leastCut_40 : decode cX2_leastCut 40 = .ok (.invokevirtual 56, 3) := by decide +kernel
theorem dX2_leastCut_43 : decode cX2_leastCut 43 = .ok (.iload_n 3, 1) := by decide +kernel
theorem dX2_leastCut_44 : decode cX2_leastCut 44 = .ok (.if_icmp .ge 13, 3) := by decide +kernel
theorem dX2_leastCut_47 : decode cX2_leastCut 47 = .ok (.iload 4, 2) := by decide +kernel
theorem dX2_leastCut_49 : decode cX2_leastCut 49 = .ok (.istore_n 2, 1) := by decide +kernel
theorem dX2_leastCut_50 : decode cX2_leastCut 50 = .ok (.aload_n 0, 1) := by decide +kernel
theorem dX2_leastCut_51 : decode cX2_leastCut 51 = .ok (.iload 4, 2) := by decide +kernel
theorem dX2_leastCut_53 : decode cX2_leastCut 53 = .ok (.invokevirtual 56, 3) := by decide +kernel
theorem dX2_leastCut_56 : decode cX2_leastCut 56 = .ok (.istore_n 3, 1) := by decide +kernel
theorem dX2_leastCut_57 : decode cX2_leastCut 57 = .ok (.iinc 4 1, 3) := by decide +kernel
theorem dX2_leastCut_60 : decode cX2_leastCut 60 = .ok (.goto (-51), 3) := by decide +kernel
theorem dX2_leastCut_63 : decode cX2_leastCut 63 = .ok (.iload_n 2, 1) := by decide +kernel
theorem dX2_leastCut_64 : decode cX2_leastCut 64 = .ok (.ireturn, 1) := by decide +kernel
abbrev cX2_isCut : ByteArray := prog_3_method_13_code
def yX2_isCut : MethodName := ⟨RX2, "isCut", "(I)Z"⟩
theorem dX2_isCut_0 : decode cX2_isCut 0 = .ok (.aload_n 0, 1) := by decide +kernel
theorem dX2_isCut_1 : decode cX2_isCut 1 = .ok (.aload_n 0, 1) := by decide +kernel
theorem dX2_isCut_2 : decode cX2_isCut 2 = .ok (.getfield 7, 3) := by decide +kernel
theorem dX2_isCut_5 : decode cX2_isCut 5 = .ok (.aload_n 0, 1) := by decide +kernel
theorem dX2_isCut_6 : decode cX2_isCut 6 = .ok (.getfield 39, 3) := by decide +kernel
theorem dX2_isCut_9 : decode cX2_isCut 9 = .ok (.iaload, 1) := by decide +kernel
theorem dX2_isCut_10 : decode cX2_isCut 10 = .ok (.aload_n 0, 1) := by decide +kernel
theorem dX2_isCut_11 : decode cX2_isCut 11 = .ok (.getfield 24, 3) := by decide +kernel
theorem dX2_isCut_14 : decode cX2_isCut 14 = .ok (.invokevirtual 31, 3) := by decide +kernel
theorem dX2_isCut_17 : decode cX2_isCut 17 = .ok (.ifCond .ne 32, 3) := by decide +kernel
theorem dX2_isCut_20 : decode cX2_isCut 20 = .ok (.iload_n 1, 1) := by decide +kernel
theorem dX2_isCut_21 : decode cX2_isCut 21 = .ok (.aload_n 0, 1) := by decide +kernel
theorem dX2_isCut_22 : decode cX2_isCut 22 = .ok (.invokevirtual 42, 3) := by decide +kernel
theorem dX2_isCut_25 : decode cX2_isCut 25 = .ok (.iand, 1) := by decide +kernel
theorem dX2_isCut_26 : decode cX2_isCut 26 = .ok (.iload_n 1, 1) := by decide +kernel
theorem dX2_isCut_27 : decode cX2_isCut 27 = .ok (.if_icmp .ne 22, 3) := by decide +kernel
theorem dX2_isCut_30 : decode cX2_isCut 30 = .ok (.aload_n 0, 1) := by decide +kernel
theorem dX2_isCut_31 : decode cX2_isCut 31 = .ok (.aload_n 0, 1) := by decide +kernel
theorem dX2_isCut_32 : decode cX2_isCut 32 = .ok (.invokevirtual 42, 3) := by decide +kernel
theorem dX2_isCut_35 : decode cX2_isCut 35 = .ok (.iload_n 1, 1) := by decide +kernel
theorem dX2_isCut_36 : decode cX2_isCut 36 = .ok (.iconst (-1), 1) := by decide +kernel
theorem dX2_isCut_37 : decode cX2_isCut 37 = .ok (.ixor, 1) := by decide +kernel
theorem dX2_isCut_38 : decode cX2_isCut 38 = .ok (.iand, 1) := by decide +kernel
theorem dX2_isCut_39 : decode cX2_isCut 39 = .ok (.invokevirtual 46, 3) := by decide +kernel
theorem dX2_isCut_42 : decode cX2_isCut 42 = .ok (.ifCond .ne 7, 3) := by decide +kernel
theorem dX2_isCut_45 : decode cX2_isCut 45 = .ok (.iconst 1, 1) := by decide +kernel
theorem dX2_isCut_46 : decode cX2_isCut 46 = .ok (.goto 4, 3) := by decide +kernel
theorem dX2_isCut_49 : decode cX2_isCut 49 = .ok (.iconst 0, 1) := by decide +kernel
theorem dX2_isCut_50 : decode cX2_isCut 50 = .ok (.ireturn, 1) := by decide +kernel
abbrev cX2_sizeOf : ByteArray := prog_3_method_14_code
def yX2_sizeOf : MethodName := ⟨RX2, "sizeOf", "(I)I"⟩
theorem dX2_sizeOf_0 : decode cX2_sizeOf 0 = .ok (.iconst 0, 1) := by decide +kernel
theorem dX2_sizeOf_1 : decode cX2_sizeOf 1 = .ok (.istore_n 2, 1) := by decide +kernel
theorem dX2_sizeOf_2 : decode cX2_sizeOf 2 = .ok (.iconst 0, 1) := by decide +kernel
theorem dX2_sizeOf_3 : decode cX2_sizeOf 3 = .ok (.istore_n 3, 1) := by decide +kernel
theorem dX2_sizeOf_4 : decode cX2_sizeOf 4 = .ok (.iload_n 3, 1) := by decide +kernel
theorem dX2_sizeOf_5 : decode cX2_sizeOf 5 = .ok (.bipush 8, 2) := by decide +kernel
theorem dX2_sizeOf_7 : decode cX2_sizeOf 7 = .ok (.if_icmp .ge 17, 3) := by decide +kernel
theorem dX2_sizeOf_10 : decode cX2_sizeOf 10 = .ok (.iload_n 2, 1) := by decide +kernel
theorem dX2_sizeOf_11 : decode cX2_sizeOf 11 = .ok (.iload_n 1, 1) := by decide +kernel
theorem dX2_sizeOf_12 : decode cX2_sizeOf 12 = .ok (.iload_n 3, 1) := by decide +kernel
theorem dX2_sizeOf_13 : decode cX2_sizeOf 13 = .ok (.ishr, 1) := by decide +kernel
theorem dX2_sizeOf_14 : decode cX2_sizeOf 14 = .ok (.iconst 1, 1) := by decide +kernel
theorem dX2_sizeOf_15 : decode cX2_sizeOf 15 = .ok (.iand, 1) := by decide +kernel
theorem dX2_sizeOf_16 : decode cX2_sizeOf 16 = .ok (.iadd, 1) := by decide +kernel
theorem dX2_sizeOf_17 : decode cX2_sizeOf 17 = .ok (.istore_n 2, 1) := by decide +kernel
theorem dX2_sizeOf_18 : decode cX2_sizeOf 18 = .ok (.iinc 3 1, 3) := by decide +kernel
theorem dX2_sizeOf_21 : decode cX2_sizeOf 21 = .ok (.goto (-17), 3) := by decide +kernel
theorem dX2_sizeOf_24 : decode cX2_sizeOf 24 = .ok (.iload_n 2, 1) := by decide +kernel
theorem dX2_sizeOf_25 : decode cX2_sizeOf 25 = .ok (.ireturn, 1) := by decide +kernel
abbrev cX2_firstCut : ByteArray := prog_3_method_17_code
def yX2_firstCut : MethodName := ⟨RX2, "firstCut", "()I"⟩
theorem dX2_firstCut_0 : decode cX2_firstCut 0 = .ok (.aload_n 0, 1) := by decide +kernel
theorem dX2_firstCut_1 : decode cX2_firstCut 1 = .ok (.iconst 0, 1) := by decide +kernel
theorem dX2_firstCut_2 : decode cX2_firstCut 2 = .ok (.invokevirtual 59, 3) := by decide +kernel
theorem dX2_firstCut_5 : decode cX2_firstCut 5 = .ok (.ireturn, 1) := by decide +kernel
abbrev cX2_cutWith : ByteArray := prog_3_method_18_code
def yX2_cutWith : MethodName := ⟨RX2, "cutWith", "(I)I"⟩
theorem dX2_cutWith_0 : decode cX2_cutWith 0 = .ok (.aload_n 0, 1) := by decide +kernel
theorem dX2_cutWith_1 : decode cX2_cutWith 1 = .ok (.iload_n 1, 1) := by decide +kernel
theorem dX2_cutWith_2 : decode cX2_cutWith 2 = .ok (.invokevirtual 27, 3) := by decide +kernel
theorem dX2_cutWith_5 : decode cX2_cutWith 5 = .ok (.ifCond .ne 5, 3) := by decide +kernel
theorem dX2_cutWith_8 : decode cX2_cutWith 8 = .ok (.iconst (-1), 1) := by decide +kernel
theorem dX2_cutWith_9 : decode cX2_cutWith 9 = .ok (.ireturn, 1) := by decide +kernel
theorem dX2_cutWith_10 : decode cX2_cutWith 10 = .ok (.aload_n 0, 1) := by decide +kernel
theorem dX2_cutWith_11 : decode cX2_cutWith 11 = .ok (.iconst 1, 1) := by decide +kernel
theorem dX2_cutWith_12 : decode cX2_cutWith 12 = .ok (.iload_n 1, 1) := by decide +kernel
theorem dX2_cutWith_13 : decode cX2_cutWith 13 = .ok (.ishl, 1) := by decide +kernel
theorem dX2_cutWith_14 : decode cX2_cutWith 14 = .ok (.invokevirtual 59, 3) := by decide +kernel
theorem dX2_cutWith_17 : decode cX2_cutWith 17 = .ok (.istore_n 2, 1) := by decide +kernel
theorem dX2_cutWith_18 : decode cX2_cutWith 18 = .ok (.iload_n 2, 1) := by decide +kernel
theorem dX2_cutWith_19 : decode cX2_cutWith 19 = .ok (.bipush (-4), 2) := by decide +kernel
theorem dX2_cutWith_21 : decode cX2_cutWith 21 = .ok (.if_icmp .ne 8, 3) := by decide +kernel
theorem dX2_cutWith_24 : decode cX2_cutWith 24 = .ok (.bipush (-4), 2) := by decide +kernel
theorem dX2_cutWith_26 : decode cX2_cutWith 26 = .ok (.goto 8, 3) := by decide +kernel
theorem dX2_cutWith_29 : decode cX2_cutWith 29 = .ok (.aload_n 0, 1) := by decide +kernel
theorem dX2_cutWith_30 : decode cX2_cutWith 30 = .ok (.iload_n 2, 1) := by decide +kernel
theorem dX2_cutWith_31 : decode cX2_cutWith 31 = .ok (.invokevirtual 56, 3) := by decide +kernel
theorem dX2_cutWith_34 : decode cX2_cutWith 34 = .ok (.ireturn, 1) := by decide +kernel
abbrev cX2_loss : ByteArray := prog_3_method_19_code
def yX2_loss : MethodName := ⟨RX2, "loss", "(I)I"⟩
theorem dX2_loss_0 : decode cX2_loss 0 = .ok (.aload_n 0, 1) := by decide +kernel
theorem dX2_loss_1 : decode cX2_loss 1 = .ok (.iload_n 1, 1) := by decide +kernel
theorem dX2_loss_2 : decode cX2_loss 2 = .ok (.invokevirtual 27, 3) := by decide +kernel
theorem dX2_loss_5 : decode cX2_loss 5 = .ok (.ifCond .ne 5, 3) := by decide +kernel
theorem dX2_loss_8 : decode cX2_loss 8 = .ok (.iconst (-1), 1) := by decide +kernel
theorem dX2_loss_9 : decode cX2_loss 9 = .ok (.ireturn, 1) := by decide +kernel
theorem dX2_loss_10 : decode cX2_loss 10 = .ok (.iload_n 1, 1) := by decide +kernel
theorem dX2_loss_11 : decode cX2_loss 11 = .ok (.aload_n 0, 1) := by decide +kernel
theorem dX2_loss_12 : decode cX2_loss 12 = .ok (.getfield 39, 3) := by decide +kernel
theorem dX2_loss_15 : decode cX2_loss 15 = .ok (.if_icmp .eq 11, 3) := by decide +kernel
theorem dX2_loss_18 : decode cX2_loss 18 = .ok (.iload_n 1, 1) := by decide +kernel
theorem dX2_loss_19 : decode cX2_loss 19 = .ok (.aload_n 0, 1) := by decide +kernel
theorem dX2_loss_20 : decode cX2_loss 20 = .ok (.getfield 24, 3) := by decide +kernel
theorem dX2_loss_23 : decode cX2_loss 23 = .ok (.if_icmp .ne 5, 3) := by decide +kernel
theorem dX2_loss_26 : decode cX2_loss 26 = .ok (.iconst 0, 1) := by decide +kernel
theorem dX2_loss_27 : decode cX2_loss 27 = .ok (.ireturn, 1) := by decide +kernel
theorem dX2_loss_28 : decode cX2_loss 28 = .ok (.aload_n 0, 1) := by decide +kernel
theorem dX2_loss_29 : decode cX2_loss 29 = .ok (.invokevirtual 62, 3) := by decide +kernel
theorem dX2_loss_32 : decode cX2_loss 32 = .ok (.istore_n 2, 1) := by decide +kernel
theorem dX2_loss_33 : decode cX2_loss 33 = .ok (.aload_n 0, 1) := by decide +kernel
theorem dX2_loss_34 : decode cX2_loss 34 = .ok (.getfield 7, 3) := by decide +kernel
theorem dX2_loss_37 : decode cX2_loss 37 = .ok (.iload_n 1, 1) := by decide +kernel
theorem dX2_loss_38 : decode cX2_loss 38 = .ok (.iaload, 1) := by decide +kernel
theorem dX2_loss_39 : decode cX2_loss 39 = .ok (.istore_n 3, 1) := by decide +kernel
theorem dX2_loss_40 : decode cX2_loss 40 = .ok (.iconst 0, 1) := by decide +kernel
theorem dX2_loss_41 : decode cX2_loss 41 = .ok (.istore 4, 2) := by decide +kernel
theorem dX2_loss_43 : decode cX2_loss 43 = .ok (.iload 4, 2) := by decide +kernel
theorem dX2_loss_45 : decode cX2_loss 45 = .ok (.aload_n 0, 1) := by decide +kernel
theorem dX2_loss_46 : decode cX2_loss 46 = .ok (.getfield 20, 3) := by decide +kernel
theorem dX2_loss_49 : decode cX2_loss 49 = .ok (.if_icmp .ge 23, 3) := by decide +kernel
theorem dX2_loss_52 : decode cX2_loss 52 = .ok (.iload 4, 2) := by decide +kernel
theorem dX2_loss_54 : decode cX2_loss 54 = .ok (.iload_n 1, 1) := by decide +kernel
theorem dX2_loss_55 : decode cX2_loss 55 = .ok (.if_icmp .eq 11, 3) := by decide +kernel
theorem dX2_loss_58 : decode cX2_loss 58 = .ok (.aload_n 0, 1) := by decide +kernel
theorem dX2_loss_59 : decode cX2_loss 59 = .ok (.iload 4, 2) := by decide +kernel
theorem dX2_loss_61 : decode cX2_loss 61 = .ok (.iload_n 1, 1) := by decide +kernel
theorem dX2_loss_62 : decode cX2_loss 62 = .ok (.iconst 0, 1) := by decide +kernel
theorem dX2_loss_63 : decode cX2_loss 63 = .ok (.invokevirtual 35, 3) := by decide +kernel
theorem dX2_loss_66 : decode cX2_loss 66 = .ok (.iinc 4 1, 3) := by decide +kernel
theorem dX2_loss_69 : decode cX2_loss 69 = .ok (.goto (-26), 3) := by decide +kernel
theorem dX2_loss_72 : decode cX2_loss 72 = .ok (.aload_n 0, 1) := by decide +kernel
theorem dX2_loss_73 : decode cX2_loss 73 = .ok (.invokevirtual 62, 3) := by decide +kernel
theorem dX2_loss_76 : decode cX2_loss 76 = .ok (.istore 4, 2) := by decide +kernel
theorem dX2_loss_78 : decode cX2_loss 78 = .ok (.iconst 0, 1) := by decide +kernel
theorem dX2_loss_79 : decode cX2_loss 79 = .ok (.istore 5, 2) := by decide +kernel
theorem dX2_loss_81 : decode cX2_loss 81 = .ok (.iload 5, 2) := by decide +kernel
theorem dX2_loss_83 : decode cX2_loss 83 = .ok (.aload_n 0, 1) := by decide +kernel
theorem dX2_loss_84 : decode cX2_loss 84 = .ok (.getfield 20, 3) := by decide +kernel
theorem dX2_loss_87 : decode cX2_loss 87 = .ok (.if_icmp .ge 29, 3) := by decide +kernel
theorem dX2_loss_90 : decode cX2_loss 90 = .ok (.iload 5, 2) := by decide +kernel
theorem dX2_loss_92 : decode cX2_loss 92 = .ok (.iload_n 1, 1) := by decide +kernel
theorem dX2_loss_93 : decode cX2_loss 93 = .ok (.if_icmp .eq 17, 3) := by decide +kernel
theorem dX2_loss_96 : decode cX2_loss 96 = .ok (.aload_n 0, 1) := by decide +kernel
theorem dX2_loss_97 : decode cX2_loss 97 = .ok (.iload 5, 2) := by decide +kernel
theorem dX2_loss_99 : decode cX2_loss 99 = .ok (.iload_n 1, 1) := by decide +kernel
theorem dX2_loss_100 : decode cX2_loss 100 = .ok (.aload_n 0, 1) := by decide +kernel
theorem dX2_loss_101 : decode cX2_loss 101 = .ok (.iload_n 3, 1) := by decide +kernel
theorem dX2_loss_102 : decode cX2_loss 102 = .ok (.iload 5, 2) := by decide +kernel
theorem dX2_loss_104 : decode cX2_loss 104 = .ok (.invokevirtual 31, 3) := by decide +kernel
theorem dX2_loss_107 : decode cX2_loss 107 = .ok (.invokevirtual 35, 3) := by decide +kernel
theorem dX2_loss_110 : decode cX2_loss 110 = .ok (.iinc 5 1, 3) := by decide +kernel
theorem dX2_loss_113 : decode cX2_loss 113 = .ok (.goto (-32), 3) := by decide +kernel
theorem dX2_loss_116 : decode cX2_loss 116 = .ok (.iload_n 2, 1) := by decide +kernel
theorem dX2_loss_117 : decode cX2_loss 117 = .ok (.iload 4, 2) := by decide +kernel
theorem dX2_loss_119 : decode cX2_loss 119 = .ok (.isub, 1) := by decide +kernel
theorem dX2_loss_120 : decode cX2_loss 120 = .ok (.ireturn, 1) := by decide +kernel
abbrev cX2_tightEdges : ByteArray := prog_3_method_21_code
def yX2_tightEdges : MethodName := ⟨RX2, "tightEdges", "()I"⟩
theorem dX2_tightEdges_0 : decode cX2_tightEdges 0 = .ok (.aload_n 0, 1) := by decide +kernel
theorem dX2_tightEdges_1 : decode cX2_tightEdges 1 = .ok (.iconst 1, 1) := by decide +kernel
theorem dX2_tightEdges_2 : decode cX2_tightEdges 2 = .ok (.invokevirtual 65, 3) := by decide +kernel
theorem dX2_tightEdges_5 : decode cX2_tightEdges 5 = .ok (.ireturn, 1) := by decide +kernel
abbrev cX2_telling : ByteArray := prog_3_method_20_code
def yX2_telling : MethodName := ⟨RX2, "telling", "(Z)I"⟩
theorem dX2_telling_0 : decode cX2_telling 0 = .ok (.aload_n 0, 1) := by decide +kernel
theorem dX2_telling_1 : decode cX2_telling 1 = .ok (.invokevirtual 62, 3) := by decide +kernel
theorem dX2_telling_4 : decode cX2_telling 4 = .ok (.istore_n 2, 1) := by decide +kernel
theorem dX2_telling_5 : decode cX2_telling 5 = .ok (.iconst 0, 1) := by decide +kernel
theorem dX2_telling_6 : decode cX2_telling 6 = .ok (.istore_n 3, 1) := by decide +kernel
theorem dX2_telling_7 : decode cX2_telling 7 = .ok (.iconst 0, 1) := by decide +kernel
theorem dX2_telling_8 : decode cX2_telling 8 = .ok (.istore 4, 2) := by decide +kernel
theorem dX2_telling_10 : decode cX2_telling 10 = .ok (.iload 4, 2) := by decide +kernel
theorem dX2_telling_12 : decode cX2_telling 12 = .ok (.aload_n 0, 1) := by decide +kernel
theorem dX2_telling_13 : decode cX2_telling 13 = .ok (.getfield 20, 3) := by decide +kernel
theorem dX2_telling_16 : decode cX2_telling 16 = .ok (.if_icmp .ge 89, 3) := by decide +kernel
theorem dX2_telling_19 : decode cX2_telling 19 = .ok (.iload 4, 2) := by decide +kernel
theorem dX2_telling_21 : decode cX2_telling 21 = .ok (.iconst 1, 1) := by decide +kernel
theorem dX2_telling_22 : decode cX2_telling 22 = .ok (.iadd, 1) := by decide +kernel
theorem dX2_telling_23 : decode cX2_telling 23 = .ok (.istore 5, 2) := by decide +kernel
theorem dX2_telling_25 : decode cX2_telling 25 = .ok (.iload 5, 2) := by decide +kernel
theorem dX2_telling_27 : decode cX2_telling 27 = .ok (.aload_n 0, 1) := by decide +kernel
theorem dX2_telling_28 : decode cX2_telling 28 = .ok (.getfield 20, 3) := by decide +kernel
theorem dX2_telling_31 : decode cX2_telling 31 = .ok (.if_icmp .ge 68, 3) := by decide +kernel
theorem dX2_telling_34 : decode cX2_telling 34 = .ok (.aload_n 0, 1) := by decide +kernel
theorem dX2_telling_35 : decode cX2_telling 35 = .ok (.aload_n 0, 1) := by decide +kernel
theorem dX2_telling_36 : decode cX2_telling 36 = .ok (.getfield 7, 3) := by decide +kernel
theorem dX2_telling_39 : decode cX2_telling 39 = .ok (.iload 4, 2) := by decide +kernel
theorem dX2_telling_41 : decode cX2_telling 41 = .ok (.iaload, 1) := by decide +kernel
theorem dX2_telling_42 : decode cX2_telling 42 = .ok (.iload 5, 2) := by decide +kernel
theorem dX2_telling_44 : decode cX2_telling 44 = .ok (.invokevirtual 31, 3) := by decide +kernel
theorem dX2_telling_47 : decode cX2_telling 47 = .ok (.iload_n 1, 1) := by decide +kernel
theorem dX2_telling_48 : decode cX2_telling 48 = .ok (.if_icmp .ne 45, 3) := by decide +kernel
theorem dX2_telling_51 : decode cX2_telling 51 = .ok (.aload_n 0, 1) := by decide +kernel
theorem dX2_telling_52 : decode cX2_telling 52 = .ok (.iload 4, 2) := by decide +kernel
theorem dX2_telling_54 : decode cX2_telling 54 = .ok (.iload 5, 2) := by decide +kernel
theorem dX2_telling_56 : decode cX2_telling 56 = .ok (.iload_n 1, 1) := by decide +kernel
theorem dX2_telling_57 : decode cX2_telling 57 = .ok (.ifCond .ne 7, 3) := by decide +kernel
theorem dX2_telling_60 : decode cX2_telling 60 = .ok (.iconst 1, 1) := by decide +kernel
theorem dX2_telling_61 : decode cX2_telling 61 = .ok (.goto 4, 3) := by decide +kernel
theorem dX2_telling_64 : decode cX2_telling 64 = .ok (.iconst 0, 1) := by decide +kernel
theorem dX2_telling_65 : decode cX2_telling 65 = .ok (.invokevirtual 35, 3) := by decide +kernel
theorem dX2_telling_68 : decode cX2_telling 68 = .ok (.aload_n 0, 1) := by decide +kernel
theorem dX2_telling_69 : decode cX2_telling 69 = .ok (.invokevirtual 62, 3) := by decide +kernel
theorem dX2_telling_72 : decode cX2_telling 72 = .ok (.iload_n 2, 1) := by decide +kernel
theorem dX2_telling_73 : decode cX2_telling 73 = .ok (.if_icmp .eq 9, 3) := by decide +kernel
theorem dX2_telling_76 : decode cX2_telling 76 = .ok (.iload_n 3, 1) := by decide +kernel
theorem dX2_telling_77 : decode cX2_telling 77 = .ok (.iconst 1, 1) := by decide +kernel
theorem dX2_telling_78 : decode cX2_telling 78 = .ok (.iadd, 1) := by decide +kernel
theorem dX2_telling_79 : decode cX2_telling 79 = .ok (.goto 4, 3) := by decide +kernel
theorem dX2_telling_82 : decode cX2_telling 82 = .ok (.iload_n 3, 1) := by decide +kernel
theorem dX2_telling_83 : decode cX2_telling 83 = .ok (.istore_n 3, 1) := by decide +kernel
theorem dX2_telling_84 : decode cX2_telling 84 = .ok (.aload_n 0, 1) := by decide +kernel
theorem dX2_telling_85 : decode cX2_telling 85 = .ok (.iload 4, 2) := by decide +kernel
theorem dX2_telling_87 : decode cX2_telling 87 = .ok (.iload 5, 2) := by decide +kernel
theorem dX2_telling_89 : decode cX2_telling 89 = .ok (.iload_n 1, 1) := by decide +kernel
theorem dX2_telling_90 : decode cX2_telling 90 = .ok (.invokevirtual 35, 3) := by decide +kernel
theorem dX2_telling_93 : decode cX2_telling 93 = .ok (.iinc 5 1, 3) := by decide +kernel
theorem dX2_telling_96 : decode cX2_telling 96 = .ok (.goto (-71), 3) := by decide +kernel
theorem dX2_telling_99 : decode cX2_telling 99 = .ok (.iinc 4 1, 3) := by decide +kernel
theorem dX2_telling_102 : decode cX2_telling 102 = .ok (.goto (-92), 3) := by decide +kernel
theorem dX2_telling_105 : decode cX2_telling 105 = .ok (.iload_n 3, 1) := by decide +kernel
theorem dX2_telling_106 : decode cX2_telling 106 = .ok (.ireturn, 1) := by decide +kernel
abbrev cX2_helpfulEdges : ByteArray := prog_3_method_22_code
def yX2_helpfulEdges : MethodName := ⟨RX2, "helpfulEdges", "()I"⟩
theorem dX2_helpfulEdges_0 : decode cX2_helpfulEdges 0 = .ok (.aload_n 0, 1) := by decide +kernel
theorem dX2_helpfulEdges_1 : decode cX2_helpfulEdges 1 = .ok (.iconst 0, 1) := by decide +kernel
theorem dX2_helpfulEdges_2 : decode cX2_helpfulEdges 2 = .ok (.invokevirtual 65, 3) := by decide +kernel
theorem dX2_helpfulEdges_5 : decode cX2_helpfulEdges 5 = .ok (.ireturn, 1) := by decide +kernel
abbrev cX2_distance : ByteArray := prog_3_method_23_code
def yX2_distance : MethodName := ⟨RX2, "distance", "()I"⟩
theorem dX2_distance_0 : decode cX2_distance 0 = .ok (.iconst 1, 1) := by decide +kernel
theorem dX2_distance_1 : decode cX2_distance 1 = .ok (.aload_n 0, 1) := by decide +kernel
theorem dX2_distance_2 : decode cX2_distance 2 = .ok (.getfield 39, 3) := by decide +kernel
theorem dX2_distance_5 : decode cX2_distance 5 = .ok (.ishl, 1) := by decide +kernel
theorem dX2_distance_6 : decode cX2_distance 6 = .ok (.istore_n 1, 1) := by decide +kernel
theorem dX2_distance_7 : decode cX2_distance 7 = .ok (.iconst 1, 1) := by decide +kernel
theorem dX2_distance_8 : decode cX2_distance 8 = .ok (.istore_n 2, 1) := by decide +kernel
theorem dX2_distance_9 : decode cX2_distance 9 = .ok (.iload_n 2, 1) := by decide +kernel
theorem dX2_distance_10 : decode cX2_distance 10 = .ok (.aload_n 0, 1) := by decide +kernel
theorem dX2_distance_11 : decode cX2_distance 11 = .ok (.getfield 20, 3) := by decide +kernel
theorem dX2_distance_14 : decode cX2_distance 14 = .ok (.if_icmp .ge 69, 3) := by decide +kernel
theorem dX2_distance_17 : decode cX2_distance 17 = .ok (.iload_n 1, 1) := by decide +kernel
theorem dX2_distance_18 : decode cX2_distance 18 = .ok (.istore_n 3, 1) := by decide +kernel
theorem dX2_distance_19 : decode cX2_distance 19 = .ok (.iconst 0, 1) := by decide +kernel
theorem dX2_distance_20 : decode cX2_distance 20 = .ok (.istore 4, 2) := by decide +kernel
theorem dX2_distance_22 : decode cX2_distance 22 = .ok (.iload 4, 2) := by decide +kernel
theorem dX2_distance_24 : decode cX2_distance 24 = .ok (.aload_n 0, 1) := by decide +kernel
theorem dX2_distance_25 : decode cX2_distance 25 = .ok (.getfield 20, 3) := by decide +kernel
theorem dX2_distance_28 : decode cX2_distance 28 = .ok (.if_icmp .ge 33, 3) := by decide +kernel
theorem dX2_distance_31 : decode cX2_distance 31 = .ok (.aload_n 0, 1) := by decide +kernel
theorem dX2_distance_32 : decode cX2_distance 32 = .ok (.iload_n 1, 1) := by decide +kernel
theorem dX2_distance_33 : decode cX2_distance 33 = .ok (.iload 4, 2) := by decide +kernel
theorem dX2_distance_35 : decode cX2_distance 35 = .ok (.invokevirtual 31, 3) := by decide +kernel
theorem dX2_distance_38 : decode cX2_distance 38 = .ok (.ifCond .eq 15, 3) := by decide +kernel
theorem dX2_distance_41 : decode cX2_distance 41 = .ok (.iload_n 3, 1) := by decide +kernel
theorem dX2_distance_42 : decode cX2_distance 42 = .ok (.aload_n 0, 1) := by decide +kernel
theorem dX2_distance_43 : decode cX2_distance 43 = .ok (.getfield 7, 3) := by decide +kernel
theorem dX2_distance_46 : decode cX2_distance 46 = .ok (.iload 4, 2) := by decide +kernel
theorem dX2_distance_48 : decode cX2_distance 48 = .ok (.iaload, 1) := by decide +kernel
theorem dX2_distance_49 : decode cX2_distance 49 = .ok (.ior, 1) := by decide +kernel
theorem dX2_distance_50 : decode cX2_distance 50 = .ok (.goto 4, 3) := by decide +kernel
theorem dX2_distance_53 : decode cX2_distance 53 = .ok (.iload_n 3, 1) := by decide +kernel
theorem dX2_distance_54 : decode cX2_distance 54 = .ok (.istore_n 3, 1) := by decide +kernel
theorem dX2_distance_55 : decode cX2_distance 55 = .ok (.iinc 4 1, 3) := by decide +kernel
theorem dX2_distance_58 : decode cX2_distance 58 = .ok (.goto (-36), 3) := by decide +kernel
theorem dX2_distance_61 : decode cX2_distance 61 = .ok (.iload_n 3, 1) := by decide +kernel
theorem dX2_distance_62 : decode cX2_distance 62 = .ok (.istore_n 1, 1) := by decide +kernel
theorem dX2_distance_63 : decode cX2_distance 63 = .ok (.aload_n 0, 1) := by decide +kernel
theorem dX2_distance_64 : decode cX2_distance 64 = .ok (.iload_n 1, 1) := by decide +kernel
theorem dX2_distance_65 : decode cX2_distance 65 = .ok (.aload_n 0, 1) := by decide +kernel
theorem dX2_distance_66 : decode cX2_distance 66 = .ok (.getfield 24, 3) := by decide +kernel
theorem dX2_distance_69 : decode cX2_distance 69 = .ok (.invokevirtual 31, 3) := by decide +kernel
theorem dX2_distance_72 : decode cX2_distance 72 = .ok (.ifCond .eq 5, 3) := by decide +kernel
theorem dX2_distance_75 : decode cX2_distance 75 = .ok (.iload_n 2, 1) := by decide +kernel
theorem dX2_distance_76 : decode cX2_distance 76 = .ok (.ireturn, 1) := by decide +kernel
theorem dX2_distance_77 : decode cX2_distance 77 = .ok (.iinc 2 1, 3) := by decide +kernel
theorem dX2_distance_80 : decode cX2_distance 80 = .ok (.goto (-71), 3) := by decide +kernel
theorem dX2_distance_83 : decode cX2_distance 83 = .ok (.bipush (-4), 2) := by decide +kernel
theorem dX2_distance_85 : decode cX2_distance 85 = .ok (.ireturn, 1) := by decide +kernel
abbrev cX2_strength : ByteArray := prog_3_method_24_code
def yX2_strength : MethodName := ⟨RX2, "strength", "()I"⟩
theorem dX2_strength_0 : decode cX2_strength 0 = .ok (.aload_n 0, 1) := by decide +kernel
theorem dX2_strength_1 : decode cX2_strength 1 = .ok (.getfield 39, 3) := by decide +kernel
theorem dX2_strength_4 : decode cX2_strength 4 = .ok (.istore_n 1, 1) := by decide +kernel
theorem dX2_strength_5 : decode cX2_strength 5 = .ok (.aload_n 0, 1) := by decide +kernel
theorem dX2_strength_6 : decode cX2_strength 6 = .ok (.getfield 24, 3) := by decide +kernel
theorem dX2_strength_9 : decode cX2_strength 9 = .ok (.istore_n 2, 1) := by decide +kernel
theorem dX2_strength_10 : decode cX2_strength 10 = .ok (.aload_n 0, 1) := by decide +kernel
theorem dX2_strength_11 : decode cX2_strength 11 = .ok (.getfield 20, 3) := by decide +kernel
theorem dX2_strength_14 : decode cX2_strength 14 = .ok (.iconst 1, 1) := by decide +kernel
theorem dX2_strength_15 : decode cX2_strength 15 = .ok (.isub, 1) := by decide +kernel
theorem dX2_strength_16 : decode cX2_strength 16 = .ok (.istore_n 3, 1) := by decide +kernel
theorem dX2_strength_17 : decode cX2_strength 17 = .ok (.iconst 0, 1) := by decide +kernel
theorem dX2_strength_18 : decode cX2_strength 18 = .ok (.istore 4, 2) := by decide +kernel
theorem dX2_strength_20 : decode cX2_strength 20 = .ok (.iload 4, 2) := by decide +kernel
theorem dX2_strength_22 : decode cX2_strength 22 = .ok (.aload_n 0, 1) := by decide +kernel
theorem dX2_strength_23 : decode cX2_strength 23 = .ok (.getfield 20, 3) := by decide +kernel
theorem dX2_strength_26 : decode cX2_strength 26 = .ok (.if_icmp .ge 77, 3) := by decide +kernel
theorem dX2_strength_29 : decode cX2_strength 29 = .ok (.iload 4, 2) := by decide +kernel
theorem dX2_strength_31 : decode cX2_strength 31 = .ok (.iconst 1, 1) := by decide +kernel
theorem dX2_strength_32 : decode cX2_strength 32 = .ok (.iadd, 1) := by decide +kernel
theorem dX2_strength_33 : decode cX2_strength 33 = .ok (.istore 5, 2) := by decide +kernel
theorem dX2_strength_35 : decode cX2_strength 35 = .ok (.iload 5, 2) := by decide +kernel
theorem dX2_strength_37 : decode cX2_strength 37 = .ok (.aload_n 0, 1) := by decide +kernel
theorem dX2_strength_38 : decode cX2_strength 38 = .ok (.getfield 20, 3) := by decide +kernel
theorem dX2_strength_41 : decode cX2_strength 41 = .ok (.if_icmp .ge 56, 3) := by decide +kernel
theorem dX2_strength_44 : decode cX2_strength 44 = .ok (.aload_n 0, 1) := by decide +kernel
theorem dX2_strength_45 : decode cX2_strength 45 = .ok (.aload_n 0, 1) := by decide +kernel
theorem dX2_strength_46 : decode cX2_strength 46 = .ok (.getfield 7, 3) := by decide +kernel
theorem dX2_strength_49 : decode cX2_strength 49 = .ok (.iload 4, 2) := by decide +kernel
theorem dX2_strength_51 : decode cX2_strength 51 = .ok (.iaload, 1) := by decide +kernel
theorem dX2_strength_52 : decode cX2_strength 52 = .ok (.iload 5, 2) := by decide +kernel
theorem dX2_strength_54 : decode cX2_strength 54 = .ok (.invokevirtual 31, 3) := by decide +kernel
theorem dX2_strength_57 : decode cX2_strength 57 = .ok (.ifCond .ne 34, 3) := by decide +kernel
theorem dX2_strength_60 : decode cX2_strength 60 = .ok (.aload_n 0, 1) := by decide +kernel
theorem dX2_strength_61 : decode cX2_strength 61 = .ok (.iload 4, 2) := by decide +kernel
theorem dX2_strength_63 : decode cX2_strength 63 = .ok (.putfield 39, 3) := by decide +kernel
theorem dX2_strength_66 : decode cX2_strength 66 = .ok (.aload_n 0, 1) := by decide +kernel
theorem dX2_strength_67 : decode cX2_strength 67 = .ok (.iload 5, 2) := by decide +kernel
theorem dX2_strength_69 : decode cX2_strength 69 = .ok (.putfield 24, 3) := by decide +kernel
theorem dX2_strength_72 : decode cX2_strength 72 = .ok (.aload_n 0, 1) := by decide +kernel
theorem dX2_strength_73 : decode cX2_strength 73 = .ok (.invokevirtual 62, 3) := by decide +kernel
theorem dX2_strength_76 : decode cX2_strength 76 = .ok (.istore 6, 2) := by decide +kernel
theorem dX2_strength_78 : decode cX2_strength 78 = .ok (.iload 6, 2) := by decide +kernel
theorem dX2_strength_80 : decode cX2_strength 80 = .ok (.iload_n 3, 1) := by decide +kernel
theorem dX2_strength_81 : decode cX2_strength 81 = .ok (.if_icmp .ge 8, 3) := by decide +kernel
theorem dX2_strength_84 : decode cX2_strength 84 = .ok (.iload 6, 2) := by decide +kernel
theorem dX2_strength_86 : decode cX2_strength 86 = .ok (.goto 4, 3) := by decide +kernel
theorem dX2_strength_89 : decode cX2_strength 89 = .ok (.iload_n 3, 1) := by decide +kernel
theorem dX2_strength_90 : decode cX2_strength 90 = .ok (.istore_n 3, 1) := by decide +kernel
theorem dX2_strength_91 : decode cX2_strength 91 = .ok (.iinc 5 1, 3) := by decide +kernel
theorem dX2_strength_94 : decode cX2_strength 94 = .ok (.goto (-59), 3) := by decide +kernel
theorem dX2_strength_97 : decode cX2_strength 97 = .ok (.iinc 4 1, 3) := by decide +kernel
theorem dX2_strength_100 : decode cX2_strength 100 = .ok (.goto (-80), 3) := by decide +kernel
theorem dX2_strength_103 : decode cX2_strength 103 = .ok (.aload_n 0, 1) := by decide +kernel
theorem dX2_strength_104 : decode cX2_strength 104 = .ok (.iload_n 1, 1) := by decide +kernel
theorem dX2_strength_105 : decode cX2_strength 105 = .ok (.putfield 39, 3) := by decide +kernel
theorem dX2_strength_108 : decode cX2_strength 108 = .ok (.aload_n 0, 1) := by decide +kernel
theorem dX2_strength_109 : decode cX2_strength 109 = .ok (.iload_n 2, 1) := by decide +kernel
theorem dX2_strength_110 : decode cX2_strength 110 = .ok (.putfield 24, 3) := by decide +kernel
theorem dX2_strength_113 : decode cX2_strength 113 = .ok (.iload_n 3, 1) := by decide +kernel
theorem dX2_strength_114 : decode cX2_strength 114 = .ok (.ireturn, 1) := by decide +kernel
abbrev cX2_clear : ByteArray := prog_3_method_25_code
def yX2_clear : MethodName := ⟨RX2, "clear", "()I"⟩
theorem dX2_clear_0 : decode cX2_clear 0 = .ok (.iconst 0, 1) := by decide +kernel
theorem dX2_clear_1 : decode cX2_clear 1 = .ok (.istore_n 1, 1) := by decide +kernel
theorem dX2_clear_2 : decode cX2_clear 2 = .ok (.iconst 0, 1) := by decide +kernel
theorem dX2_clear_3 : decode cX2_clear 3 = .ok (.istore_n 2, 1) := by decide +kernel
theorem dX2_clear_4 : decode cX2_clear 4 = .ok (.iload_n 2, 1) := by decide +kernel
theorem dX2_clear_5 : decode cX2_clear 5 = .ok (.aload_n 0, 1) := by decide +kernel
theorem dX2_clear_6 : decode cX2_clear 6 = .ok (.getfield 20, 3) := by decide +kernel
theorem dX2_clear_9 : decode cX2_clear 9 = .ok (.if_icmp .ge 29, 3) := by decide +kernel
theorem dX2_clear_12 : decode cX2_clear 12 = .ok (.iload_n 1, 1) := by decide +kernel
theorem dX2_clear_13 : decode cX2_clear 13 = .ok (.aload_n 0, 1) := by decide +kernel
theorem dX2_clear_14 : decode cX2_clear 14 = .ok (.aload_n 0, 1) := by decide +kernel
theorem dX2_clear_15 : decode cX2_clear 15 = .ok (.getfield 7, 3) := by decide +kernel
theorem dX2_clear_18 : decode cX2_clear 18 = .ok (.iload_n 2, 1) := by decide +kernel
theorem dX2_clear_19 : decode cX2_clear 19 = .ok (.iaload, 1) := by decide +kernel
theorem dX2_clear_20 : decode cX2_clear 20 = .ok (.invokevirtual 56, 3) := by decide +kernel
theorem dX2_clear_23 : decode cX2_clear 23 = .ok (.iadd, 1) := by decide +kernel
theorem dX2_clear_24 : decode cX2_clear 24 = .ok (.istore_n 1, 1) := by decide +kernel
theorem dX2_clear_25 : decode cX2_clear 25 = .ok (.aload_n 0, 1) := by decide +kernel
theorem dX2_clear_26 : decode cX2_clear 26 = .ok (.getfield 7, 3) := by decide +kernel
theorem dX2_clear_29 : decode cX2_clear 29 = .ok (.iload_n 2, 1) := by decide +kernel
theorem dX2_clear_30 : decode cX2_clear 30 = .ok (.iconst 0, 1) := by decide +kernel
theorem dX2_clear_31 : decode cX2_clear 31 = .ok (.iastore, 1) := by decide +kernel
theorem dX2_clear_32 : decode cX2_clear 32 = .ok (.iinc 2 1, 3) := by decide +kernel
theorem dX2_clear_35 : decode cX2_clear 35 = .ok (.goto (-31), 3) := by decide +kernel
theorem dX2_clear_38 : decode cX2_clear 38 = .ok (.iload_n 1, 1) := by decide +kernel
theorem dX2_clear_39 : decode cX2_clear 39 = .ok (.iconst 2, 1) := by decide +kernel
theorem dX2_clear_40 : decode cX2_clear 40 = .ok (.idiv, 1) := by decide +kernel
theorem dX2_clear_41 : decode cX2_clear 41 = .ok (.ireturn, 1) := by decide +kernel
theorem q24 : (Jvm.Cond.initialized "DisjointPathsModel") ∈ lw_all := lw_g (lw_at lw_m1 2 rfl) rfl
theorem q167 : (Jvm.Cond.instantiable "DisjointPathsModel" (6 : Nat)) ∈ lw_all := lw_g (lw_at lw_m1 145 rfl) rfl
theorem q169 : (Jvm.Cond.instanceMethod ({ cls := "DisjointPathsModel", name := "<init>", desc := "(I)V" } : Jvm.MethodName)) ∈ lw_all := lw_g (lw_at lw_m1 147 rfl) rfl
theorem q170 : (Jvm.Cond.code ({ cls := "DisjointPathsModel", name := "<init>", desc := "(I)V" } : Jvm.MethodName) prog_3_method_1_code (2 : Nat) (Option.none : Option Jvm.ClassFile.FieldType)) ∈ lw_all := lw_g (lw_at lw_m1 148 rfl) rfl
theorem q171 : (Jvm.Cond.methodLink "DisjointPathsModel" (1 : Nat) ({ cls := "java/lang/Object", name := "<init>", desc := "()V" } : Jvm.MethodName)) ∈ lw_all := lw_g (lw_at lw_m1 149 rfl) rfl
theorem q172 : (Jvm.Cond.fieldLink "DisjointPathsModel" (20 : Nat) "DisjointPathsModel" "n" "I") ∈ lw_all := lw_g (lw_at lw_m1 150 rfl) rfl
theorem q173 : (Jvm.Cond.fieldLink "DisjointPathsModel" (39 : Nat) "DisjointPathsModel" "s" "I") ∈ lw_all := lw_g (lw_at lw_m1 151 rfl) rfl
theorem q174 : (Jvm.Cond.fieldLink "DisjointPathsModel" (24 : Nat) "DisjointPathsModel" "t" "I") ∈ lw_all := lw_g (lw_at lw_m1 152 rfl) rfl
theorem q175 : (Jvm.Cond.fieldLink "DisjointPathsModel" (7 : Nat) "DisjointPathsModel" "near" "[I") ∈ lw_all := lw_g (lw_at lw_m1 153 rfl) rfl
theorem q176 : (Jvm.Cond.fieldLink "DisjointPathsModel" (13 : Nat) "DisjointPathsModel" "whole" "[Z") ∈ lw_all := lw_g (lw_at lw_m1 154 rfl) rfl
theorem q177 : (Jvm.Cond.fieldLink "DisjointPathsModel" (17 : Nat) "DisjointPathsModel" "most" "[I") ∈ lw_all := lw_g (lw_at lw_m1 155 rfl) rfl
theorem q178 : (Jvm.Cond.lays "DisjointPathsModel" "DisjointPathsModel" "n" "I") ∈ lw_all := lw_g (lw_at lw_m1 156 rfl) rfl
theorem q179 : (Jvm.Cond.soleField "DisjointPathsModel" "n") ∈ lw_all := lw_g (lw_at lw_m1 157 rfl) rfl
theorem q180 : (Jvm.Cond.lays "DisjointPathsModel" "DisjointPathsModel" "s" "I") ∈ lw_all := lw_g (lw_at lw_m1 158 rfl) rfl
theorem q181 : (Jvm.Cond.soleField "DisjointPathsModel" "s") ∈ lw_all := lw_g (lw_at lw_m1 159 rfl) rfl
theorem q182 : (Jvm.Cond.lays "DisjointPathsModel" "DisjointPathsModel" "t" "I") ∈ lw_all := lw_g (lw_at lw_m1 160 rfl) rfl
theorem q183 : (Jvm.Cond.soleField "DisjointPathsModel" "t") ∈ lw_all := lw_g (lw_at lw_m1 161 rfl) rfl
theorem q184 : (Jvm.Cond.laysFinal "DisjointPathsModel" "DisjointPathsModel" "near" "[I") ∈ lw_all := lw_g (lw_at lw_m1 162 rfl) rfl
theorem q185 : (Jvm.Cond.soleField "DisjointPathsModel" "near") ∈ lw_all := lw_g (lw_at lw_m1 163 rfl) rfl
theorem q186 : (Jvm.Cond.laysFinal "DisjointPathsModel" "DisjointPathsModel" "whole" "[Z") ∈ lw_all := lw_g (lw_at lw_m1 164 rfl) rfl
theorem q187 : (Jvm.Cond.soleField "DisjointPathsModel" "whole") ∈ lw_all := lw_g (lw_at lw_m1 165 rfl) rfl
theorem q188 : (Jvm.Cond.laysFinal "DisjointPathsModel" "DisjointPathsModel" "most" "[I") ∈ lw_all := lw_g (lw_at lw_m1 166 rfl) rfl
theorem q189 : (Jvm.Cond.soleField "DisjointPathsModel" "most") ∈ lw_all := lw_g (lw_at lw_m1 167 rfl) rfl
theorem q190 : (Jvm.Cond.superclass "DisjointPathsModel" "java/lang/Object") ∈ lw_all := lw_g (lw_at lw_m1 168 rfl) rfl
theorem q193 : (Jvm.Cond.instanceMethod ({ cls := "DisjointPathsModel", name := "vertices", desc := "()I" } : Jvm.MethodName)) ∈ lw_all := lw_g (lw_at lw_m1 171 rfl) rfl
theorem q194 : (Jvm.Cond.selects "DisjointPathsModel" ({ cls := "DisjointPathsModel", name := "vertices", desc := "()I" } : Jvm.MethodName) ({ cls := "DisjointPathsModel", name := "vertices", desc := "()I" } : Jvm.MethodName)) ∈ lw_all := lw_g (lw_at lw_m1 172 rfl) rfl
theorem q195 : (Jvm.Cond.code ({ cls := "DisjointPathsModel", name := "vertices", desc := "()I" } : Jvm.MethodName) prog_3_method_4_code (1 : Nat) (Option.some Jvm.ClassFile.FieldType.int)) ∈ lw_all := lw_g (lw_at lw_m1 173 rfl) rfl
theorem q197 : (Jvm.Cond.instanceMethod ({ cls := "DisjointPathsModel", name := "edge", desc := "(III)I" } : Jvm.MethodName)) ∈ lw_all := lw_g (lw_at lw_m1 175 rfl) rfl
theorem q198 : (Jvm.Cond.selects "DisjointPathsModel" ({ cls := "DisjointPathsModel", name := "edge", desc := "(III)I" } : Jvm.MethodName) ({ cls := "DisjointPathsModel", name := "edge", desc := "(III)I" } : Jvm.MethodName)) ∈ lw_all := lw_g (lw_at lw_m1 176 rfl) rfl
theorem q199 : (Jvm.Cond.code ({ cls := "DisjointPathsModel", name := "edge", desc := "(III)I" } : Jvm.MethodName) prog_3_method_6_code (5 : Nat) (Option.some Jvm.ClassFile.FieldType.int)) ∈ lw_all := lw_g (lw_at lw_m1 177 rfl) rfl
theorem q200 : (Jvm.Cond.methodLink "DisjointPathsModel" (27 : Nat) ({ cls := "DisjointPathsModel", name := "isVertex", desc := "(I)Z" } : Jvm.MethodName)) ∈ lw_all := lw_g (lw_at lw_m1 178 rfl) rfl
theorem q201 : (Jvm.Cond.privateMethod ({ cls := "DisjointPathsModel", name := "isVertex", desc := "(I)Z" } : Jvm.MethodName)) ∈ lw_tbl := lw_at lw_m1 179 rfl
theorem q202 : (Jvm.Cond.instanceMethod ({ cls := "DisjointPathsModel", name := "isVertex", desc := "(I)Z" } : Jvm.MethodName)) ∈ lw_all := lw_g (lw_at lw_m1 180 rfl) rfl
theorem q203 : (Jvm.Cond.code ({ cls := "DisjointPathsModel", name := "isVertex", desc := "(I)Z" } : Jvm.MethodName) prog_3_method_2_code (2 : Nat) (Option.some Jvm.ClassFile.FieldType.boolean)) ∈ lw_all := lw_g (lw_at lw_m1 181 rfl) rfl
theorem q204 : (Jvm.Cond.methodLink "DisjointPathsModel" (31 : Nat) ({ cls := "DisjointPathsModel", name := "has", desc := "(II)Z" } : Jvm.MethodName)) ∈ lw_all := lw_g (lw_at lw_m1 182 rfl) rfl
theorem q205 : (Jvm.Cond.privateMethod ({ cls := "DisjointPathsModel", name := "has", desc := "(II)Z" } : Jvm.MethodName)) ∈ lw_tbl := lw_at lw_m1 183 rfl
theorem q206 : (Jvm.Cond.instanceMethod ({ cls := "DisjointPathsModel", name := "has", desc := "(II)Z" } : Jvm.MethodName)) ∈ lw_all := lw_g (lw_at lw_m1 184 rfl) rfl
theorem q207 : (Jvm.Cond.code ({ cls := "DisjointPathsModel", name := "has", desc := "(II)Z" } : Jvm.MethodName) prog_3_method_3_code (3 : Nat) (Option.some Jvm.ClassFile.FieldType.boolean)) ∈ lw_all := lw_g (lw_at lw_m1 185 rfl) rfl
theorem q208 : (Jvm.Cond.methodLink "DisjointPathsModel" (35 : Nat) ({ cls := "DisjointPathsModel", name := "put", desc := "(IIZ)V" } : Jvm.MethodName)) ∈ lw_all := lw_g (lw_at lw_m1 186 rfl) rfl
theorem q209 : (Jvm.Cond.privateMethod ({ cls := "DisjointPathsModel", name := "put", desc := "(IIZ)V" } : Jvm.MethodName)) ∈ lw_tbl := lw_at lw_m1 187 rfl
theorem q210 : (Jvm.Cond.instanceMethod ({ cls := "DisjointPathsModel", name := "put", desc := "(IIZ)V" } : Jvm.MethodName)) ∈ lw_all := lw_g (lw_at lw_m1 188 rfl) rfl
theorem q211 : (Jvm.Cond.code ({ cls := "DisjointPathsModel", name := "put", desc := "(IIZ)V" } : Jvm.MethodName) prog_3_method_5_code (4 : Nat) (Option.none : Option Jvm.ClassFile.FieldType)) ∈ lw_all := lw_g (lw_at lw_m1 189 rfl) rfl
theorem q213 : (Jvm.Cond.instanceMethod ({ cls := "DisjointPathsModel", name := "joined", desc := "(II)Z" } : Jvm.MethodName)) ∈ lw_all := lw_g (lw_at lw_m1 191 rfl) rfl
theorem q214 : (Jvm.Cond.selects "DisjointPathsModel" ({ cls := "DisjointPathsModel", name := "joined", desc := "(II)Z" } : Jvm.MethodName) ({ cls := "DisjointPathsModel", name := "joined", desc := "(II)Z" } : Jvm.MethodName)) ∈ lw_all := lw_g (lw_at lw_m1 192 rfl) rfl
theorem q215 : (Jvm.Cond.code ({ cls := "DisjointPathsModel", name := "joined", desc := "(II)Z" } : Jvm.MethodName) prog_3_method_7_code (3 : Nat) (Option.some Jvm.ClassFile.FieldType.boolean)) ∈ lw_all := lw_g (lw_at lw_m1 193 rfl) rfl
theorem q217 : (Jvm.Cond.instanceMethod ({ cls := "DisjointPathsModel", name := "ends", desc := "(II)I" } : Jvm.MethodName)) ∈ lw_all := lw_g (lw_at lw_m1 195 rfl) rfl
theorem q218 : (Jvm.Cond.selects "DisjointPathsModel" ({ cls := "DisjointPathsModel", name := "ends", desc := "(II)I" } : Jvm.MethodName) ({ cls := "DisjointPathsModel", name := "ends", desc := "(II)I" } : Jvm.MethodName)) ∈ lw_all := lw_g (lw_at lw_m1 196 rfl) rfl
theorem q219 : (Jvm.Cond.code ({ cls := "DisjointPathsModel", name := "ends", desc := "(II)I" } : Jvm.MethodName) prog_3_method_8_code (3 : Nat) (Option.some Jvm.ClassFile.FieldType.int)) ∈ lw_all := lw_g (lw_at lw_m1 197 rfl) rfl
theorem q221 : (Jvm.Cond.instanceMethod ({ cls := "DisjointPathsModel", name := "paths", desc := "()I" } : Jvm.MethodName)) ∈ lw_all := lw_g (lw_at lw_m1 199 rfl) rfl
theorem q222 : (Jvm.Cond.selects "DisjointPathsModel" ({ cls := "DisjointPathsModel", name := "paths", desc := "()I" } : Jvm.MethodName) ({ cls := "DisjointPathsModel", name := "paths", desc := "()I" } : Jvm.MethodName)) ∈ lw_all := lw_g (lw_at lw_m1 200 rfl) rfl
theorem q223 : (Jvm.Cond.code ({ cls := "DisjointPathsModel", name := "paths", desc := "()I" } : Jvm.MethodName) prog_3_method_12_code (4 : Nat) (Option.some Jvm.ClassFile.FieldType.int)) ∈ lw_all := lw_g (lw_at lw_m1 201 rfl) rfl
theorem q224 : (Jvm.Cond.methodLink "DisjointPathsModel" (42 : Nat) ({ cls := "DisjointPathsModel", name := "inner", desc := "()I" } : Jvm.MethodName)) ∈ lw_all := lw_g (lw_at lw_m1 202 rfl) rfl
theorem q225 : (Jvm.Cond.privateMethod ({ cls := "DisjointPathsModel", name := "inner", desc := "()I" } : Jvm.MethodName)) ∈ lw_tbl := lw_at lw_m1 203 rfl
theorem q226 : (Jvm.Cond.instanceMethod ({ cls := "DisjointPathsModel", name := "inner", desc := "()I" } : Jvm.MethodName)) ∈ lw_all := lw_g (lw_at lw_m1 204 rfl) rfl
theorem q227 : (Jvm.Cond.code ({ cls := "DisjointPathsModel", name := "inner", desc := "()I" } : Jvm.MethodName) prog_3_method_9_code (1 : Nat) (Option.some Jvm.ClassFile.FieldType.int)) ∈ lw_all := lw_g (lw_at lw_m1 205 rfl) rfl
theorem q228 : (Jvm.Cond.methodLink "DisjointPathsModel" (46 : Nat) ({ cls := "DisjointPathsModel", name := "leads", desc := "(I)Z" } : Jvm.MethodName)) ∈ lw_all := lw_g (lw_at lw_m1 206 rfl) rfl
theorem q229 : (Jvm.Cond.privateMethod ({ cls := "DisjointPathsModel", name := "leads", desc := "(I)Z" } : Jvm.MethodName)) ∈ lw_tbl := lw_at lw_m1 207 rfl
theorem q230 : (Jvm.Cond.instanceMethod ({ cls := "DisjointPathsModel", name := "leads", desc := "(I)Z" } : Jvm.MethodName)) ∈ lw_all := lw_g (lw_at lw_m1 208 rfl) rfl
theorem q231 : (Jvm.Cond.code ({ cls := "DisjointPathsModel", name := "leads", desc := "(I)Z" } : Jvm.MethodName) prog_3_method_10_code (5 : Nat) (Option.some Jvm.ClassFile.FieldType.boolean)) ∈ lw_all := lw_g (lw_at lw_m1 209 rfl) rfl
theorem q232 : (Jvm.Cond.methodLink "DisjointPathsModel" (49 : Nat) ({ cls := "DisjointPathsModel", name := "parts", desc := "(I)I" } : Jvm.MethodName)) ∈ lw_all := lw_g (lw_at lw_m1 210 rfl) rfl
theorem q233 : (Jvm.Cond.privateMethod ({ cls := "DisjointPathsModel", name := "parts", desc := "(I)I" } : Jvm.MethodName)) ∈ lw_tbl := lw_at lw_m1 211 rfl
theorem q234 : (Jvm.Cond.instanceMethod ({ cls := "DisjointPathsModel", name := "parts", desc := "(I)I" } : Jvm.MethodName)) ∈ lw_all := lw_g (lw_at lw_m1 212 rfl) rfl
theorem q235 : (Jvm.Cond.code ({ cls := "DisjointPathsModel", name := "parts", desc := "(I)I" } : Jvm.MethodName) prog_3_method_11_code (4 : Nat) (Option.some Jvm.ClassFile.FieldType.int)) ∈ lw_all := lw_g (lw_at lw_m1 213 rfl) rfl
theorem q237 : (Jvm.Cond.instanceMethod ({ cls := "DisjointPathsModel", name := "cutSize", desc := "()I" } : Jvm.MethodName)) ∈ lw_all := lw_g (lw_at lw_m1 215 rfl) rfl
theorem q238 : (Jvm.Cond.selects "DisjointPathsModel" ({ cls := "DisjointPathsModel", name := "cutSize", desc := "()I" } : Jvm.MethodName) ({ cls := "DisjointPathsModel", name := "cutSize", desc := "()I" } : Jvm.MethodName)) ∈ lw_all := lw_g (lw_at lw_m1 216 rfl) rfl
theorem q239 : (Jvm.Cond.code ({ cls := "DisjointPathsModel", name := "cutSize", desc := "()I" } : Jvm.MethodName) prog_3_method_16_code (2 : Nat) (Option.some Jvm.ClassFile.FieldType.int)) ∈ lw_all := lw_g (lw_at lw_m1 217 rfl) rfl
theorem q240 : (Jvm.Cond.methodLink "DisjointPathsModel" (59 : Nat) ({ cls := "DisjointPathsModel", name := "leastCut", desc := "(I)I" } : Jvm.MethodName)) ∈ lw_all := lw_g (lw_at lw_m1 218 rfl) rfl
theorem q241 : (Jvm.Cond.privateMethod ({ cls := "DisjointPathsModel", name := "leastCut", desc := "(I)I" } : Jvm.MethodName)) ∈ lw_tbl := lw_at lw_m1 219 rfl
theorem q242 : (Jvm.Cond.instanceMethod ({ cls := "DisjointPathsModel", name := "leastCut", desc := "(I)I" } : Jvm.MethodName)) ∈ lw_all := lw_g (lw_at lw_m1 220 rfl) rfl
theorem q243 : (Jvm.Cond.code ({ cls := "DisjointPathsModel", name := "leastCut", desc := "(I)I" } : Jvm.MethodName) prog_3_method_15_code (5 : Nat) (Option.some Jvm.ClassFile.FieldType.int)) ∈ lw_all := lw_g (lw_at lw_m1 221 rfl) rfl
theorem q244 : (Jvm.Cond.methodLink "DisjointPathsModel" (53 : Nat) ({ cls := "DisjointPathsModel", name := "isCut", desc := "(I)Z" } : Jvm.MethodName)) ∈ lw_all := lw_g (lw_at lw_m1 222 rfl) rfl
theorem q245 : (Jvm.Cond.privateMethod ({ cls := "DisjointPathsModel", name := "isCut", desc := "(I)Z" } : Jvm.MethodName)) ∈ lw_tbl := lw_at lw_m1 223 rfl
theorem q246 : (Jvm.Cond.instanceMethod ({ cls := "DisjointPathsModel", name := "isCut", desc := "(I)Z" } : Jvm.MethodName)) ∈ lw_all := lw_g (lw_at lw_m1 224 rfl) rfl
theorem q247 : (Jvm.Cond.code ({ cls := "DisjointPathsModel", name := "isCut", desc := "(I)Z" } : Jvm.MethodName) prog_3_method_13_code (2 : Nat) (Option.some Jvm.ClassFile.FieldType.boolean)) ∈ lw_all := lw_g (lw_at lw_m1 225 rfl) rfl
theorem q248 : (Jvm.Cond.methodLink "DisjointPathsModel" (56 : Nat) ({ cls := "DisjointPathsModel", name := "sizeOf", desc := "(I)I" } : Jvm.MethodName)) ∈ lw_all := lw_g (lw_at lw_m1 226 rfl) rfl
theorem q249 : (Jvm.Cond.privateMethod ({ cls := "DisjointPathsModel", name := "sizeOf", desc := "(I)I" } : Jvm.MethodName)) ∈ lw_tbl := lw_at lw_m1 227 rfl
theorem q250 : (Jvm.Cond.instanceMethod ({ cls := "DisjointPathsModel", name := "sizeOf", desc := "(I)I" } : Jvm.MethodName)) ∈ lw_all := lw_g (lw_at lw_m1 228 rfl) rfl
theorem q251 : (Jvm.Cond.code ({ cls := "DisjointPathsModel", name := "sizeOf", desc := "(I)I" } : Jvm.MethodName) prog_3_method_14_code (4 : Nat) (Option.some Jvm.ClassFile.FieldType.int)) ∈ lw_all := lw_g (lw_at lw_m1 229 rfl) rfl
theorem q253 : (Jvm.Cond.instanceMethod ({ cls := "DisjointPathsModel", name := "firstCut", desc := "()I" } : Jvm.MethodName)) ∈ lw_all := lw_g (lw_at lw_m1 231 rfl) rfl
theorem q254 : (Jvm.Cond.selects "DisjointPathsModel" ({ cls := "DisjointPathsModel", name := "firstCut", desc := "()I" } : Jvm.MethodName) ({ cls := "DisjointPathsModel", name := "firstCut", desc := "()I" } : Jvm.MethodName)) ∈ lw_all := lw_g (lw_at lw_m1 232 rfl) rfl
theorem q255 : (Jvm.Cond.code ({ cls := "DisjointPathsModel", name := "firstCut", desc := "()I" } : Jvm.MethodName) prog_3_method_17_code (1 : Nat) (Option.some Jvm.ClassFile.FieldType.int)) ∈ lw_all := lw_g (lw_at lw_m1 233 rfl) rfl
theorem q257 : (Jvm.Cond.instanceMethod ({ cls := "DisjointPathsModel", name := "cutWith", desc := "(I)I" } : Jvm.MethodName)) ∈ lw_all := lw_g (lw_at lw_m1 235 rfl) rfl
theorem q258 : (Jvm.Cond.selects "DisjointPathsModel" ({ cls := "DisjointPathsModel", name := "cutWith", desc := "(I)I" } : Jvm.MethodName) ({ cls := "DisjointPathsModel", name := "cutWith", desc := "(I)I" } : Jvm.MethodName)) ∈ lw_all := lw_g (lw_at lw_m1 236 rfl) rfl
theorem q259 : (Jvm.Cond.code ({ cls := "DisjointPathsModel", name := "cutWith", desc := "(I)I" } : Jvm.MethodName) prog_3_method_18_code (3 : Nat) (Option.some Jvm.ClassFile.FieldType.int)) ∈ lw_all := lw_g (lw_at lw_m1 237 rfl) rfl
theorem q261 : (Jvm.Cond.instanceMethod ({ cls := "DisjointPathsModel", name := "loss", desc := "(I)I" } : Jvm.MethodName)) ∈ lw_all := lw_g (lw_at lw_m1 239 rfl) rfl
theorem q262 : (Jvm.Cond.selects "DisjointPathsModel" ({ cls := "DisjointPathsModel", name := "loss", desc := "(I)I" } : Jvm.MethodName) ({ cls := "DisjointPathsModel", name := "loss", desc := "(I)I" } : Jvm.MethodName)) ∈ lw_all := lw_g (lw_at lw_m2 0 rfl) rfl
theorem q263 : (Jvm.Cond.code ({ cls := "DisjointPathsModel", name := "loss", desc := "(I)I" } : Jvm.MethodName) prog_3_method_19_code (6 : Nat) (Option.some Jvm.ClassFile.FieldType.int)) ∈ lw_all := lw_g (lw_at lw_m2 1 rfl) rfl
theorem q264 : (Jvm.Cond.methodLink "DisjointPathsModel" (62 : Nat) ({ cls := "DisjointPathsModel", name := "paths", desc := "()I" } : Jvm.MethodName)) ∈ lw_all := lw_g (lw_at lw_m2 2 rfl) rfl
theorem q266 : (Jvm.Cond.instanceMethod ({ cls := "DisjointPathsModel", name := "tightEdges", desc := "()I" } : Jvm.MethodName)) ∈ lw_all := lw_g (lw_at lw_m2 4 rfl) rfl
theorem q267 : (Jvm.Cond.selects "DisjointPathsModel" ({ cls := "DisjointPathsModel", name := "tightEdges", desc := "()I" } : Jvm.MethodName) ({ cls := "DisjointPathsModel", name := "tightEdges", desc := "()I" } : Jvm.MethodName)) ∈ lw_all := lw_g (lw_at lw_m2 5 rfl) rfl
theorem q268 : (Jvm.Cond.code ({ cls := "DisjointPathsModel", name := "tightEdges", desc := "()I" } : Jvm.MethodName) prog_3_method_21_code (1 : Nat) (Option.some Jvm.ClassFile.FieldType.int)) ∈ lw_all := lw_g (lw_at lw_m2 6 rfl) rfl
theorem q269 : (Jvm.Cond.methodLink "DisjointPathsModel" (65 : Nat) ({ cls := "DisjointPathsModel", name := "telling", desc := "(Z)I" } : Jvm.MethodName)) ∈ lw_all := lw_g (lw_at lw_m2 7 rfl) rfl
theorem q270 : (Jvm.Cond.privateMethod ({ cls := "DisjointPathsModel", name := "telling", desc := "(Z)I" } : Jvm.MethodName)) ∈ lw_tbl := lw_at lw_m2 8 rfl
theorem q271 : (Jvm.Cond.instanceMethod ({ cls := "DisjointPathsModel", name := "telling", desc := "(Z)I" } : Jvm.MethodName)) ∈ lw_all := lw_g (lw_at lw_m2 9 rfl) rfl
theorem q272 : (Jvm.Cond.code ({ cls := "DisjointPathsModel", name := "telling", desc := "(Z)I" } : Jvm.MethodName) prog_3_method_20_code (6 : Nat) (Option.some Jvm.ClassFile.FieldType.int)) ∈ lw_all := lw_g (lw_at lw_m2 10 rfl) rfl
theorem q274 : (Jvm.Cond.instanceMethod ({ cls := "DisjointPathsModel", name := "helpfulEdges", desc := "()I" } : Jvm.MethodName)) ∈ lw_all := lw_g (lw_at lw_m2 12 rfl) rfl
theorem q275 : (Jvm.Cond.selects "DisjointPathsModel" ({ cls := "DisjointPathsModel", name := "helpfulEdges", desc := "()I" } : Jvm.MethodName) ({ cls := "DisjointPathsModel", name := "helpfulEdges", desc := "()I" } : Jvm.MethodName)) ∈ lw_all := lw_g (lw_at lw_m2 13 rfl) rfl
theorem q276 : (Jvm.Cond.code ({ cls := "DisjointPathsModel", name := "helpfulEdges", desc := "()I" } : Jvm.MethodName) prog_3_method_22_code (1 : Nat) (Option.some Jvm.ClassFile.FieldType.int)) ∈ lw_all := lw_g (lw_at lw_m2 14 rfl) rfl
theorem q278 : (Jvm.Cond.instanceMethod ({ cls := "DisjointPathsModel", name := "distance", desc := "()I" } : Jvm.MethodName)) ∈ lw_all := lw_g (lw_at lw_m2 16 rfl) rfl
theorem q279 : (Jvm.Cond.selects "DisjointPathsModel" ({ cls := "DisjointPathsModel", name := "distance", desc := "()I" } : Jvm.MethodName) ({ cls := "DisjointPathsModel", name := "distance", desc := "()I" } : Jvm.MethodName)) ∈ lw_all := lw_g (lw_at lw_m2 17 rfl) rfl
theorem q280 : (Jvm.Cond.code ({ cls := "DisjointPathsModel", name := "distance", desc := "()I" } : Jvm.MethodName) prog_3_method_23_code (5 : Nat) (Option.some Jvm.ClassFile.FieldType.int)) ∈ lw_all := lw_g (lw_at lw_m2 18 rfl) rfl
theorem q282 : (Jvm.Cond.instanceMethod ({ cls := "DisjointPathsModel", name := "strength", desc := "()I" } : Jvm.MethodName)) ∈ lw_all := lw_g (lw_at lw_m2 20 rfl) rfl
theorem q283 : (Jvm.Cond.selects "DisjointPathsModel" ({ cls := "DisjointPathsModel", name := "strength", desc := "()I" } : Jvm.MethodName) ({ cls := "DisjointPathsModel", name := "strength", desc := "()I" } : Jvm.MethodName)) ∈ lw_all := lw_g (lw_at lw_m2 21 rfl) rfl
theorem q284 : (Jvm.Cond.code ({ cls := "DisjointPathsModel", name := "strength", desc := "()I" } : Jvm.MethodName) prog_3_method_24_code (7 : Nat) (Option.some Jvm.ClassFile.FieldType.int)) ∈ lw_all := lw_g (lw_at lw_m2 22 rfl) rfl
theorem q286 : (Jvm.Cond.instanceMethod ({ cls := "DisjointPathsModel", name := "clear", desc := "()I" } : Jvm.MethodName)) ∈ lw_all := lw_g (lw_at lw_m2 24 rfl) rfl
theorem q287 : (Jvm.Cond.selects "DisjointPathsModel" ({ cls := "DisjointPathsModel", name := "clear", desc := "()I" } : Jvm.MethodName) ({ cls := "DisjointPathsModel", name := "clear", desc := "()I" } : Jvm.MethodName)) ∈ lw_all := lw_g (lw_at lw_m2 25 rfl) rfl
theorem q288 : (Jvm.Cond.code ({ cls := "DisjointPathsModel", name := "clear", desc := "()I" } : Jvm.MethodName) prog_3_method_25_code (3 : Nat) (Option.some Jvm.ClassFile.FieldType.int)) ∈ lw_all := lw_g (lw_at lw_m2 26 rfl) rfl
theorem in_X2 : ∀ w ∈ wsX20, w ∈ lw_all := lw_in wsX20 [178, 180, 182, 184, 186, 188] (by decide +kernel) (by decide +kernel)
end
section
/-! DisjointPathsLaw -/
set_option maxRecDepth 100000
def RX0 : String := "DisjointPathsLaw"
abbrev cX0_cell : ByteArray := method_2_code
def yX0_cell : MethodName := ⟨RX0, "cell", "([II)I"⟩
theorem dX0_cell_0 : decode cX0_cell 0 = .ok (.iload_n 1, 1) := by decide +kernel
theorem dX0_cell_1 : decode cX0_cell 1 = .ok (.aload_n 0, 1) := by decide +kernel
theorem dX0_cell_2 : decode cX0_cell 2 = .ok (.arraylength, 1) := by decide +kernel
theorem dX0_cell_3 : decode cX0_cell 3 = .ok (.if_icmp .ge 9, 3) := by decide +kernel
theorem dX0_cell_6 : decode cX0_cell 6 = .ok (.aload_n 0, 1) := by decide +kernel
theorem dX0_cell_7 : decode cX0_cell 7 = .ok (.iload_n 1, 1) := by decide +kernel
theorem dX0_cell_8 : decode cX0_cell 8 = .ok (.iaload, 1) := by decide +kernel
theorem dX0_cell_9 : decode cX0_cell 9 = .ok (.goto 4, 3) := by decide +kernel
theorem dX0_cell_12 : decode cX0_cell 12 = .ok (.iconst 0, 1) := by decide +kernel
theorem dX0_cell_13 : decode cX0_cell 13 = .ok (.ireturn, 1) := by decide +kernel
theorem q22 : (Jvm.Cond.initialized "DisjointPathsLaw") ∈ lw_all := lw_g (lw_at lw_m1 0 rfl) rfl
theorem q25 : (Jvm.Cond.classLink "DisjointPathsLaw" (7 : Nat) "DisjointPaths") ∈ lw_all := lw_g (lw_at lw_m1 3 rfl) rfl
theorem q27 : (Jvm.Cond.methodLink "DisjointPathsLaw" (15 : Nat) ({ cls := "DisjointPaths", name := "<init>", desc := "(I)V" } : Jvm.MethodName)) ∈ lw_all := lw_g (lw_at lw_m1 5 rfl) rfl
theorem q59 : (Jvm.Cond.methodLink "DisjointPathsLaw" (21 : Nat) ({ cls := "DisjointPaths", name := "vertices", desc := "()I" } : Jvm.MethodName)) ∈ lw_all := lw_g (lw_at lw_m1 37 rfl) rfl
theorem q63 : (Jvm.Cond.methodLink "DisjointPathsLaw" (26 : Nat) ({ cls := "DisjointPaths", name := "edge", desc := "(III)I" } : Jvm.MethodName)) ∈ lw_all := lw_g (lw_at lw_m1 41 rfl) rfl
theorem q87 : (Jvm.Cond.methodLink "DisjointPathsLaw" (31 : Nat) ({ cls := "DisjointPaths", name := "joined", desc := "(II)Z" } : Jvm.MethodName)) ∈ lw_all := lw_g (lw_at lw_m1 65 rfl) rfl
theorem q91 : (Jvm.Cond.methodLink "DisjointPathsLaw" (36 : Nat) ({ cls := "DisjointPaths", name := "ends", desc := "(II)I" } : Jvm.MethodName)) ∈ lw_all := lw_g (lw_at lw_m1 69 rfl) rfl
theorem q95 : (Jvm.Cond.methodLink "DisjointPathsLaw" (41 : Nat) ({ cls := "DisjointPaths", name := "paths", desc := "()I" } : Jvm.MethodName)) ∈ lw_all := lw_g (lw_at lw_m1 73 rfl) rfl
theorem q119 : (Jvm.Cond.methodLink "DisjointPathsLaw" (45 : Nat) ({ cls := "DisjointPaths", name := "cutSize", desc := "()I" } : Jvm.MethodName)) ∈ lw_all := lw_g (lw_at lw_m1 97 rfl) rfl
theorem q123 : (Jvm.Cond.methodLink "DisjointPathsLaw" (49 : Nat) ({ cls := "DisjointPaths", name := "firstCut", desc := "()I" } : Jvm.MethodName)) ∈ lw_all := lw_g (lw_at lw_m1 101 rfl) rfl
theorem q127 : (Jvm.Cond.methodLink "DisjointPathsLaw" (53 : Nat) ({ cls := "DisjointPaths", name := "cutWith", desc := "(I)I" } : Jvm.MethodName)) ∈ lw_all := lw_g (lw_at lw_m1 105 rfl) rfl
theorem q131 : (Jvm.Cond.methodLink "DisjointPathsLaw" (58 : Nat) ({ cls := "DisjointPaths", name := "loss", desc := "(I)I" } : Jvm.MethodName)) ∈ lw_all := lw_g (lw_at lw_m1 109 rfl) rfl
theorem q135 : (Jvm.Cond.methodLink "DisjointPathsLaw" (62 : Nat) ({ cls := "DisjointPaths", name := "tightEdges", desc := "()I" } : Jvm.MethodName)) ∈ lw_all := lw_g (lw_at lw_m1 113 rfl) rfl
theorem q143 : (Jvm.Cond.methodLink "DisjointPathsLaw" (66 : Nat) ({ cls := "DisjointPaths", name := "helpfulEdges", desc := "()I" } : Jvm.MethodName)) ∈ lw_all := lw_g (lw_at lw_m1 121 rfl) rfl
theorem q147 : (Jvm.Cond.methodLink "DisjointPathsLaw" (70 : Nat) ({ cls := "DisjointPaths", name := "distance", desc := "()I" } : Jvm.MethodName)) ∈ lw_all := lw_g (lw_at lw_m1 125 rfl) rfl
theorem q155 : (Jvm.Cond.methodLink "DisjointPathsLaw" (74 : Nat) ({ cls := "DisjointPaths", name := "strength", desc := "()I" } : Jvm.MethodName)) ∈ lw_all := lw_g (lw_at lw_m1 133 rfl) rfl
theorem q159 : (Jvm.Cond.methodLink "DisjointPathsLaw" (78 : Nat) ({ cls := "DisjointPaths", name := "clear", desc := "()I" } : Jvm.MethodName)) ∈ lw_all := lw_g (lw_at lw_m1 137 rfl) rfl
theorem q163 : (Jvm.Cond.methodLink "DisjointPathsLaw" (9 : Nat) ({ cls := "DisjointPathsLaw", name := "cell", desc := "([II)I" } : Jvm.MethodName)) ∈ lw_all := lw_g (lw_at lw_m1 141 rfl) rfl
theorem q164 : (Jvm.Cond.static ({ cls := "DisjointPathsLaw", name := "cell", desc := "([II)I" } : Jvm.MethodName)) ∈ lw_all := lw_g (lw_at lw_m1 142 rfl) rfl
theorem q165 : (Jvm.Cond.code ({ cls := "DisjointPathsLaw", name := "cell", desc := "([II)I" } : Jvm.MethodName) method_2_code (2 : Nat) (Option.some Jvm.ClassFile.FieldType.int)) ∈ lw_all := lw_g (lw_at lw_m1 143 rfl) rfl
theorem q166 : (Jvm.Cond.classLink "DisjointPathsLaw" (18 : Nat) "DisjointPathsModel") ∈ lw_all := lw_g (lw_at lw_m1 144 rfl) rfl
theorem q168 : (Jvm.Cond.methodLink "DisjointPathsLaw" (20 : Nat) ({ cls := "DisjointPathsModel", name := "<init>", desc := "(I)V" } : Jvm.MethodName)) ∈ lw_all := lw_g (lw_at lw_m1 146 rfl) rfl
theorem q192 : (Jvm.Cond.methodLink "DisjointPathsLaw" (25 : Nat) ({ cls := "DisjointPathsModel", name := "vertices", desc := "()I" } : Jvm.MethodName)) ∈ lw_all := lw_g (lw_at lw_m1 170 rfl) rfl
theorem q196 : (Jvm.Cond.methodLink "DisjointPathsLaw" (30 : Nat) ({ cls := "DisjointPathsModel", name := "edge", desc := "(III)I" } : Jvm.MethodName)) ∈ lw_all := lw_g (lw_at lw_m1 174 rfl) rfl
theorem q212 : (Jvm.Cond.methodLink "DisjointPathsLaw" (35 : Nat) ({ cls := "DisjointPathsModel", name := "joined", desc := "(II)Z" } : Jvm.MethodName)) ∈ lw_all := lw_g (lw_at lw_m1 190 rfl) rfl
theorem q216 : (Jvm.Cond.methodLink "DisjointPathsLaw" (40 : Nat) ({ cls := "DisjointPathsModel", name := "ends", desc := "(II)I" } : Jvm.MethodName)) ∈ lw_all := lw_g (lw_at lw_m1 194 rfl) rfl
theorem q220 : (Jvm.Cond.methodLink "DisjointPathsLaw" (44 : Nat) ({ cls := "DisjointPathsModel", name := "paths", desc := "()I" } : Jvm.MethodName)) ∈ lw_all := lw_g (lw_at lw_m1 198 rfl) rfl
theorem q236 : (Jvm.Cond.methodLink "DisjointPathsLaw" (48 : Nat) ({ cls := "DisjointPathsModel", name := "cutSize", desc := "()I" } : Jvm.MethodName)) ∈ lw_all := lw_g (lw_at lw_m1 214 rfl) rfl
theorem q252 : (Jvm.Cond.methodLink "DisjointPathsLaw" (52 : Nat) ({ cls := "DisjointPathsModel", name := "firstCut", desc := "()I" } : Jvm.MethodName)) ∈ lw_all := lw_g (lw_at lw_m1 230 rfl) rfl
theorem q256 : (Jvm.Cond.methodLink "DisjointPathsLaw" (57 : Nat) ({ cls := "DisjointPathsModel", name := "cutWith", desc := "(I)I" } : Jvm.MethodName)) ∈ lw_all := lw_g (lw_at lw_m1 234 rfl) rfl
theorem q260 : (Jvm.Cond.methodLink "DisjointPathsLaw" (61 : Nat) ({ cls := "DisjointPathsModel", name := "loss", desc := "(I)I" } : Jvm.MethodName)) ∈ lw_all := lw_g (lw_at lw_m1 238 rfl) rfl
theorem q265 : (Jvm.Cond.methodLink "DisjointPathsLaw" (65 : Nat) ({ cls := "DisjointPathsModel", name := "tightEdges", desc := "()I" } : Jvm.MethodName)) ∈ lw_all := lw_g (lw_at lw_m2 3 rfl) rfl
theorem q273 : (Jvm.Cond.methodLink "DisjointPathsLaw" (69 : Nat) ({ cls := "DisjointPathsModel", name := "helpfulEdges", desc := "()I" } : Jvm.MethodName)) ∈ lw_all := lw_g (lw_at lw_m2 11 rfl) rfl
theorem q277 : (Jvm.Cond.methodLink "DisjointPathsLaw" (73 : Nat) ({ cls := "DisjointPathsModel", name := "distance", desc := "()I" } : Jvm.MethodName)) ∈ lw_all := lw_g (lw_at lw_m2 15 rfl) rfl
theorem q281 : (Jvm.Cond.methodLink "DisjointPathsLaw" (77 : Nat) ({ cls := "DisjointPathsModel", name := "strength", desc := "()I" } : Jvm.MethodName)) ∈ lw_all := lw_g (lw_at lw_m2 19 rfl) rfl
theorem q285 : (Jvm.Cond.methodLink "DisjointPathsLaw" (81 : Nat) ({ cls := "DisjointPathsModel", name := "clear", desc := "()I" } : Jvm.MethodName)) ∈ lw_all := lw_g (lw_at lw_m2 23 rfl) rfl
/-! java/lang/Object -/
set_option maxRecDepth 100000
def RJ0 : String := "java/lang/Object"
abbrev cJ0_init : ByteArray := object_method_1_code
def yJ0_init : MethodName := ⟨RJ0, "<init>", "()V"⟩
theorem dJ0_init_0 : decode cJ0_init 0 = .ok (.return_, 1) := by decide +kernel
theorem q31 : (Jvm.Cond.instanceMethod ({ cls := "java/lang/Object", name := "<init>", desc := "()V" } : Jvm.MethodName)) ∈ lw_all := lw_g (lw_at lw_m1 9 rfl) rfl
theorem q32 : (Jvm.Cond.code ({ cls := "java/lang/Object", name := "<init>", desc := "()V" } : Jvm.MethodName) object_method_1_code (1 : Nat) (Option.none : Option Jvm.ClassFile.FieldType)) ∈ lw_all := lw_g (lw_at lw_m1 10 rfl) rfl
theorem q58 : (Jvm.Cond.arrayClass Jvm.ClassFile.FieldType.int) ∈ lw_all := lw_g (lw_at lw_m1 36 rfl) rfl
set_option maxRecDepth 100000
theorem q191 : (Jvm.Cond.arrayClass Jvm.ClassFile.FieldType.boolean) ∈ lw_all := lw_g (lw_at lw_m1 169 rfl) rfl
/-! the law's own entry -/
set_option maxRecDepth 100000
abbrev cL_law : ByteArray := code
theorem dL_law_0 : decode cL_law 0 = .ok (.new 7, 3) := by decide +kernel
theorem dL_law_3 : decode cL_law 3 = .ok (.dup, 1) := by decide +kernel
theorem dL_law_4 : decode cL_law 4 = .ok (.aload_n 0, 1) := by decide +kernel
theorem dL_law_5 : decode cL_law 5 = .ok (.iconst 0, 1) := by decide +kernel
theorem dL_law_6 : decode cL_law 6 = .ok (.invokestatic 9, 3) := by decide +kernel
theorem dL_law_9 : decode cL_law 9 = .ok (.invokespecial 15, 3) := by decide +kernel
theorem dL_law_12 : decode cL_law 12 = .ok (.astore_n 1, 1) := by decide +kernel
theorem dL_law_13 : decode cL_law 13 = .ok (.new 18, 3) := by decide +kernel
theorem dL_law_16 : decode cL_law 16 = .ok (.dup, 1) := by decide +kernel
theorem dL_law_17 : decode cL_law 17 = .ok (.aload_n 0, 1) := by decide +kernel
theorem dL_law_18 : decode cL_law 18 = .ok (.iconst 0, 1) := by decide +kernel
theorem dL_law_19 : decode cL_law 19 = .ok (.invokestatic 9, 3) := by decide +kernel
theorem dL_law_22 : decode cL_law 22 = .ok (.invokespecial 20, 3) := by decide +kernel
theorem dL_law_25 : decode cL_law 25 = .ok (.astore_n 2, 1) := by decide +kernel
theorem dL_law_26 : decode cL_law 26 = .ok (.iconst 1, 1) := by decide +kernel
theorem dL_law_27 : decode cL_law 27 = .ok (.istore_n 3, 1) := by decide +kernel
theorem dL_law_28 : decode cL_law 28 = .ok (.iload_n 3, 1) := by decide +kernel
theorem dL_law_29 : decode cL_law 29 = .ok (.aload_n 0, 1) := by decide +kernel
theorem dL_law_30 : decode cL_law 30 = .ok (.arraylength, 1) := by decide +kernel
theorem dL_law_31 : decode cL_law 31 = .ok (.iconst 4, 1) := by decide +kernel
theorem dL_law_32 : decode cL_law 32 = .ok (.isub, 1) := by decide +kernel
theorem dL_law_33 : decode cL_law 33 = .ok (.if_icmp .gt 357, 3) := by decide +kernel
theorem dL_law_36 : decode cL_law 36 = .ok (.aload_n 0, 1) := by decide +kernel
theorem dL_law_37 : decode cL_law 37 = .ok (.iload_n 3, 1) := by decide +kernel
theorem dL_law_38 : decode cL_law 38 = .ok (.iaload, 1) := by decide +kernel
theorem dL_law_39 : decode cL_law 39 = .ok (.bipush 15, 2) := by decide +kernel
theorem dL_law_41 : decode cL_law 41 = .ok (.iand, 1) := by decide +kernel
theorem dL_law_42 : decode cL_law 42 = .ok (.tableswitch 342 0 13 #[70, 83, 126, 159, 192, 205, 218, 231, 254, 277, 290, 303, 316, 329], 70) := by decide +kernel
theorem dL_law_112 : decode cL_law 112 = .ok (.aload_n 1, 1) := by decide +kernel
theorem dL_law_113 : decode cL_law 113 = .ok (.invokevirtual 21, 3) := by decide +kernel
theorem dL_law_116 : decode cL_law 116 = .ok (.aload_n 2, 1) := by decide +kernel
theorem dL_law_117 : decode cL_law 117 = .ok (.invokevirtual 25, 3) := by decide +kernel
theorem dL_law_120 : decode cL_law 120 = .ok (.if_icmp .eq 264, 3) := by decide +kernel
theorem dL_law_123 : decode cL_law 123 = .ok (.iconst 0, 1) := by decide +kernel
theorem dL_law_124 : decode cL_law 124 = .ok (.ireturn, 1) := by decide +kernel
theorem dL_law_125 : decode cL_law 125 = .ok (.aload_n 1, 1) := by decide +kernel
theorem dL_law_126 : decode cL_law 126 = .ok (.aload_n 0, 1) := by decide +kernel
theorem dL_law_127 : decode cL_law 127 = .ok (.iload_n 3, 1) := by decide +kernel
theorem dL_law_128 : decode cL_law 128 = .ok (.iconst 1, 1) := by decide +kernel
theorem dL_law_129 : decode cL_law 129 = .ok (.iadd, 1) := by decide +kernel
theorem dL_law_130 : decode cL_law 130 = .ok (.iaload, 1) := by decide +kernel
theorem dL_law_131 : decode cL_law 131 = .ok (.aload_n 0, 1) := by decide +kernel
theorem dL_law_132 : decode cL_law 132 = .ok (.iload_n 3, 1) := by decide +kernel
theorem dL_law_133 : decode cL_law 133 = .ok (.iconst 2, 1) := by decide +kernel
theorem dL_law_134 : decode cL_law 134 = .ok (.iadd, 1) := by decide +kernel
theorem dL_law_135 : decode cL_law 135 = .ok (.iaload, 1) := by decide +kernel
theorem dL_law_136 : decode cL_law 136 = .ok (.aload_n 0, 1) := by decide +kernel
theorem dL_law_137 : decode cL_law 137 = .ok (.iload_n 3, 1) := by decide +kernel
theorem dL_law_138 : decode cL_law 138 = .ok (.iconst 3, 1) := by decide +kernel
theorem dL_law_139 : decode cL_law 139 = .ok (.iadd, 1) := by decide +kernel
theorem dL_law_140 : decode cL_law 140 = .ok (.iaload, 1) := by decide +kernel
theorem dL_law_141 : decode cL_law 141 = .ok (.invokevirtual 26, 3) := by decide +kernel
theorem dL_law_144 : decode cL_law 144 = .ok (.aload_n 2, 1) := by decide +kernel
theorem dL_law_145 : decode cL_law 145 = .ok (.aload_n 0, 1) := by decide +kernel
theorem dL_law_146 : decode cL_law 146 = .ok (.iload_n 3, 1) := by decide +kernel
theorem dL_law_147 : decode cL_law 147 = .ok (.iconst 1, 1) := by decide +kernel
theorem dL_law_148 : decode cL_law 148 = .ok (.iadd, 1) := by decide +kernel
theorem dL_law_149 : decode cL_law 149 = .ok (.iaload, 1) := by decide +kernel
theorem dL_law_150 : decode cL_law 150 = .ok (.aload_n 0, 1) := by decide +kernel
theorem dL_law_151 : decode cL_law 151 = .ok (.iload_n 3, 1) := by decide +kernel
theorem dL_law_152 : decode cL_law 152 = .ok (.iconst 2, 1) := by decide +kernel
theorem dL_law_153 : decode cL_law 153 = .ok (.iadd, 1) := by decide +kernel
theorem dL_law_154 : decode cL_law 154 = .ok (.iaload, 1) := by decide +kernel
theorem dL_law_155 : decode cL_law 155 = .ok (.aload_n 0, 1) := by decide +kernel
theorem dL_law_156 : decode cL_law 156 = .ok (.iload_n 3, 1) := by decide +kernel
theorem dL_law_157 : decode cL_law 157 = .ok (.iconst 3, 1) := by decide +kernel
theorem dL_law_158 : decode cL_law 158 = .ok (.iadd, 1) := by decide +kernel
theorem dL_law_159 : decode cL_law 159 = .ok (.iaload, 1) := by decide +kernel
theorem dL_law_160 : decode cL_law 160 = .ok (.invokevirtual 30, 3) := by decide +kernel
theorem dL_law_163 : decode cL_law 163 = .ok (.if_icmp .eq 221, 3) := by decide +kernel
theorem dL_law_166 : decode cL_law 166 = .ok (.iconst 0, 1) := by decide +kernel
theorem dL_law_167 : decode cL_law 167 = .ok (.ireturn, 1) := by decide +kernel
theorem dL_law_168 : decode cL_law 168 = .ok (.aload_n 1, 1) := by decide +kernel
theorem dL_law_169 : decode cL_law 169 = .ok (.aload_n 0, 1) := by decide +kernel
theorem dL_law_170 : decode cL_law 170 = .ok (.iload_n 3, 1) := by decide +kernel
theorem dL_law_171 : decode cL_law 171 = .ok (.iconst 1, 1) := by decide +kernel
theorem dL_law_172 : decode cL_law 172 = .ok (.iadd, 1) := by decide +kernel
theorem dL_law_173 : decode cL_law 173 = .ok (.iaload, 1) := by decide +kernel
theorem dL_law_174 : decode cL_law 174 = .ok (.aload_n 0, 1) := by decide +kernel
theorem dL_law_175 : decode cL_law 175 = .ok (.iload_n 3, 1) := by decide +kernel
theorem dL_law_176 : decode cL_law 176 = .ok (.iconst 2, 1) := by decide +kernel
theorem dL_law_177 : decode cL_law 177 = .ok (.iadd, 1) := by decide +kernel
theorem dL_law_178 : decode cL_law 178 = .ok (.iaload, 1) := by decide +kernel
theorem dL_law_179 : decode cL_law 179 = .ok (.invokevirtual 31, 3) := by decide +kernel
theorem dL_law_182 : decode cL_law 182 = .ok (.aload_n 2, 1) := by decide +kernel
theorem dL_law_183 : decode cL_law 183 = .ok (.aload_n 0, 1) := by decide +kernel
theorem dL_law_184 : decode cL_law 184 = .ok (.iload_n 3, 1) := by decide +kernel
theorem dL_law_185 : decode cL_law 185 = .ok (.iconst 1, 1) := by decide +kernel
theorem dL_law_186 : decode cL_law 186 = .ok (.iadd, 1) := by decide +kernel
theorem dL_law_187 : decode cL_law 187 = .ok (.iaload, 1) := by decide +kernel
theorem dL_law_188 : decode cL_law 188 = .ok (.aload_n 0, 1) := by decide +kernel
theorem dL_law_189 : decode cL_law 189 = .ok (.iload_n 3, 1) := by decide +kernel
theorem dL_law_190 : decode cL_law 190 = .ok (.iconst 2, 1) := by decide +kernel
theorem dL_law_191 : decode cL_law 191 = .ok (.iadd, 1) := by decide +kernel
theorem dL_law_192 : decode cL_law 192 = .ok (.iaload, 1) := by decide +kernel
theorem dL_law_193 : decode cL_law 193 = .ok (.invokevirtual 35, 3) := by decide +kernel
theorem dL_law_196 : decode cL_law 196 = .ok (.if_icmp .eq 188, 3) := by decide +kernel
theorem dL_law_199 : decode cL_law 199 = .ok (.iconst 0, 1) := by decide +kernel
theorem dL_law_200 : decode cL_law 200 = .ok (.ireturn, 1) := by decide +kernel
theorem dL_law_201 : decode cL_law 201 = .ok (.aload_n 1, 1) := by decide +kernel
theorem dL_law_202 : decode cL_law 202 = .ok (.aload_n 0, 1) := by decide +kernel
theorem dL_law_203 : decode cL_law 203 = .ok (.iload_n 3, 1) := by decide +kernel
theorem dL_law_204 : decode cL_law 204 = .ok (.iconst 1, 1) := by decide +kernel
theorem dL_law_205 : decode cL_law 205 = .ok (.iadd, 1) := by decide +kernel
theorem dL_law_206 : decode cL_law 206 = .ok (.iaload, 1) := by decide +kernel
theorem dL_law_207 : decode cL_law 207 = .ok (.aload_n 0, 1) := by decide +kernel
theorem dL_law_208 : decode cL_law 208 = .ok (.iload_n 3, 1) := by decide +kernel
theorem dL_law_209 : decode cL_law 209 = .ok (.iconst 2, 1) := by decide +kernel
theorem dL_law_210 : decode cL_law 210 = .ok (.iadd, 1) := by decide +kernel
theorem dL_law_211 : decode cL_law 211 = .ok (.iaload, 1) := by decide +kernel
theorem dL_law_212 : decode cL_law 212 = .ok (.invokevirtual 36, 3) := by decide +kernel
theorem dL_law_215 : decode cL_law 215 = .ok (.aload_n 2, 1) := by decide +kernel
theorem dL_law_216 : decode cL_law 216 = .ok (.aload_n 0, 1) := by decide +kernel
theorem dL_law_217 : decode cL_law 217 = .ok (.iload_n 3, 1) := by decide +kernel
theorem dL_law_218 : decode cL_law 218 = .ok (.iconst 1, 1) := by decide +kernel
theorem dL_law_219 : decode cL_law 219 = .ok (.iadd, 1) := by decide +kernel
theorem dL_law_220 : decode cL_law 220 = .ok (.iaload, 1) := by decide +kernel
theorem dL_law_221 : decode cL_law 221 = .ok (.aload_n 0, 1) := by decide +kernel
theorem dL_law_222 : decode cL_law 222 = .ok (.iload_n 3, 1) := by decide +kernel
theorem dL_law_223 : decode cL_law 223 = .ok (.iconst 2, 1) := by decide +kernel
theorem dL_law_224 : decode cL_law 224 = .ok (.iadd, 1) := by decide +kernel
theorem dL_law_225 : decode cL_law 225 = .ok (.iaload, 1) := by decide +kernel
theorem dL_law_226 : decode cL_law 226 = .ok (.invokevirtual 40, 3) := by decide +kernel
theorem dL_law_229 : decode cL_law 229 = .ok (.if_icmp .eq 155, 3) := by decide +kernel
theorem dL_law_232 : decode cL_law 232 = .ok (.iconst 0, 1) := by decide +kernel
theorem dL_law_233 : decode cL_law 233 = .ok (.ireturn, 1) := by decide +kernel
theorem dL_law_234 : decode cL_law 234 = .ok (.aload_n 1, 1) := by decide +kernel
theorem dL_law_235 : decode cL_law 235 = .ok (.invokevirtual 41, 3) := by decide +kernel
theorem dL_law_238 : decode cL_law 238 = .ok (.aload_n 2, 1) := by decide +kernel
theorem dL_law_239 : decode cL_law 239 = .ok (.invokevirtual 44, 3) := by decide +kernel
theorem dL_law_242 : decode cL_law 242 = .ok (.if_icmp .eq 142, 3) := by decide +kernel
theorem dL_law_245 : decode cL_law 245 = .ok (.iconst 0, 1) := by decide +kernel
theorem dL_law_246 : decode cL_law 246 = .ok (.ireturn, 1) := by decide +kernel
theorem dL_law_247 : decode cL_law 247 = .ok (.aload_n 1, 1) := by decide +kernel
theorem dL_law_248 : decode cL_law 248 = .ok (.invokevirtual 45, 3) := by decide +kernel
theorem dL_law_251 : decode cL_law 251 = .ok (.aload_n 2, 1) := by decide +kernel
theorem dL_law_252 : decode cL_law 252 = .ok (.invokevirtual 48, 3) := by decide +kernel
theorem dL_law_255 : decode cL_law 255 = .ok (.if_icmp .eq 129, 3) := by decide +kernel
theorem dL_law_258 : decode cL_law 258 = .ok (.iconst 0, 1) := by decide +kernel
theorem dL_law_259 : decode cL_law 259 = .ok (.ireturn, 1) := by decide +kernel
theorem dL_law_260 : decode cL_law 260 = .ok (.aload_n 1, 1) := by decide +kernel
theorem dL_law_261 : decode cL_law 261 = .ok (.invokevirtual 49, 3) := by decide +kernel
theorem dL_law_264 : decode cL_law 264 = .ok (.aload_n 2, 1) := by decide +kernel
theorem dL_law_265 : decode cL_law 265 = .ok (.invokevirtual 52, 3) := by decide +kernel
theorem dL_law_268 : decode cL_law 268 = .ok (.if_icmp .eq 116, 3) := by decide +kernel
theorem dL_law_271 : decode cL_law 271 = .ok (.iconst 0, 1) := by decide +kernel
theorem dL_law_272 : decode cL_law 272 = .ok (.ireturn, 1) := by decide +kernel
theorem dL_law_273 : decode cL_law 273 = .ok (.aload_n 1, 1) := by decide +kernel
theorem dL_law_274 : decode cL_law 274 = .ok (.aload_n 0, 1) := by decide +kernel
theorem dL_law_275 : decode cL_law 275 = .ok (.iload_n 3, 1) := by decide +kernel
theorem dL_law_276 : decode cL_law 276 = .ok (.iconst 1, 1) := by decide +kernel
theorem dL_law_277 : decode cL_law 277 = .ok (.iadd, 1) := by decide +kernel
theorem dL_law_278 : decode cL_law 278 = .ok (.iaload, 1) := by decide +kernel
theorem dL_law_279 : decode cL_law 279 = .ok (.invokevirtual 53, 3) := by decide +kernel
theorem dL_law_282 : decode cL_law 282 = .ok (.aload_n 2, 1) := by decide +kernel
theorem dL_law_283 : decode cL_law 283 = .ok (.aload_n 0, 1) := by decide +kernel
theorem dL_law_284 : decode cL_law 284 = .ok (.iload_n 3, 1) := by decide +kernel
theorem dL_law_285 : decode cL_law 285 = .ok (.iconst 1, 1) := by decide +kernel
theorem dL_law_286 : decode cL_law 286 = .ok (.iadd, 1) := by decide +kernel
theorem dL_law_287 : decode cL_law 287 = .ok (.iaload, 1) := by decide +kernel
theorem dL_law_288 : decode cL_law 288 = .ok (.invokevirtual 57, 3) := by decide +kernel
theorem dL_law_291 : decode cL_law 291 = .ok (.if_icmp .eq 93, 3) := by decide +kernel
theorem dL_law_294 : decode cL_law 294 = .ok (.iconst 0, 1) := by decide +kernel
theorem dL_law_295 : decode cL_law 295 = .ok (.ireturn, 1) := by decide +kernel
theorem dL_law_296 : decode cL_law 296 = .ok (.aload_n 1, 1) := by decide +kernel
theorem dL_law_297 : decode cL_law 297 = .ok (.aload_n 0, 1) := by decide +kernel
theorem dL_law_298 : decode cL_law 298 = .ok (.iload_n 3, 1) := by decide +kernel
theorem dL_law_299 : decode cL_law 299 = .ok (.iconst 1, 1) := by decide +kernel
theorem dL_law_300 : decode cL_law 300 = .ok (.iadd, 1) := by decide +kernel
theorem dL_law_301 : decode cL_law 301 = .ok (.iaload, 1) := by decide +kernel
theorem dL_law_302 : decode cL_law 302 = .ok (.invokevirtual 58, 3) := by decide +kernel
theorem dL_law_305 : decode cL_law 305 = .ok (.aload_n 2, 1) := by decide +kernel
theorem dL_law_306 : decode cL_law 306 = .ok (.aload_n 0, 1) := by decide +kernel
theorem dL_law_307 : decode cL_law 307 = .ok (.iload_n 3, 1) := by decide +kernel
theorem dL_law_308 : decode cL_law 308 = .ok (.iconst 1, 1) := by decide +kernel
theorem dL_law_309 : decode cL_law 309 = .ok (.iadd, 1) := by decide +kernel
theorem dL_law_310 : decode cL_law 310 = .ok (.iaload, 1) := by decide +kernel
theorem dL_law_311 : decode cL_law 311 = .ok (.invokevirtual 61, 3) := by decide +kernel
theorem dL_law_314 : decode cL_law 314 = .ok (.if_icmp .eq 70, 3) := by decide +kernel
theorem dL_law_317 : decode cL_law 317 = .ok (.iconst 0, 1) := by decide +kernel
theorem dL_law_318 : decode cL_law 318 = .ok (.ireturn, 1) := by decide +kernel
theorem dL_law_319 : decode cL_law 319 = .ok (.aload_n 1, 1) := by decide +kernel
theorem dL_law_320 : decode cL_law 320 = .ok (.invokevirtual 62, 3) := by decide +kernel
theorem dL_law_323 : decode cL_law 323 = .ok (.aload_n 2, 1) := by decide +kernel
theorem dL_law_324 : decode cL_law 324 = .ok (.invokevirtual 65, 3) := by decide +kernel
theorem dL_law_327 : decode cL_law 327 = .ok (.if_icmp .eq 57, 3) := by decide +kernel
theorem dL_law_330 : decode cL_law 330 = .ok (.iconst 0, 1) := by decide +kernel
theorem dL_law_331 : decode cL_law 331 = .ok (.ireturn, 1) := by decide +kernel
theorem dL_law_332 : decode cL_law 332 = .ok (.aload_n 1, 1) := by decide +kernel
theorem dL_law_333 : decode cL_law 333 = .ok (.invokevirtual 66, 3) := by decide +kernel
theorem dL_law_336 : decode cL_law 336 = .ok (.aload_n 2, 1) := by decide +kernel
theorem dL_law_337 : decode cL_law 337 = .ok (.invokevirtual 69, 3) := by decide +kernel
theorem dL_law_340 : decode cL_law 340 = .ok (.if_icmp .eq 44, 3) := by decide +kernel
theorem dL_law_343 : decode cL_law 343 = .ok (.iconst 0, 1) := by decide +kernel
theorem dL_law_344 : decode cL_law 344 = .ok (.ireturn, 1) := by decide +kernel
theorem dL_law_345 : decode cL_law 345 = .ok (.aload_n 1, 1) := by decide +kernel
theorem dL_law_346 : decode cL_law 346 = .ok (.invokevirtual 70, 3) := by decide +kernel
theorem dL_law_349 : decode cL_law 349 = .ok (.aload_n 2, 1) := by decide +kernel
theorem dL_law_350 : decode cL_law 350 = .ok (.invokevirtual 73, 3) := by decide +kernel
theorem dL_law_353 : decode cL_law 353 = .ok (.if_icmp .eq 31, 3) := by decide +kernel
theorem dL_law_356 : decode cL_law 356 = .ok (.iconst 0, 1) := by decide +kernel
theorem dL_law_357 : decode cL_law 357 = .ok (.ireturn, 1) := by decide +kernel
theorem dL_law_358 : decode cL_law 358 = .ok (.aload_n 1, 1) := by decide +kernel
theorem dL_law_359 : decode cL_law 359 = .ok (.invokevirtual 74, 3) := by decide +kernel
theorem dL_law_362 : decode cL_law 362 = .ok (.aload_n 2, 1) := by decide +kernel
theorem dL_law_363 : decode cL_law 363 = .ok (.invokevirtual 77, 3) := by decide +kernel
theorem dL_law_366 : decode cL_law 366 = .ok (.if_icmp .eq 18, 3) := by decide +kernel
theorem dL_law_369 : decode cL_law 369 = .ok (.iconst 0, 1) := by decide +kernel
theorem dL_law_370 : decode cL_law 370 = .ok (.ireturn, 1) := by decide +kernel
theorem dL_law_371 : decode cL_law 371 = .ok (.aload_n 1, 1) := by decide +kernel
theorem dL_law_372 : decode cL_law 372 = .ok (.invokevirtual 78, 3) := by decide +kernel
theorem dL_law_375 : decode cL_law 375 = .ok (.aload_n 2, 1) := by decide +kernel
theorem dL_law_376 : decode cL_law 376 = .ok (.invokevirtual 81, 3) := by decide +kernel
theorem dL_law_379 : decode cL_law 379 = .ok (.if_icmp .eq 5, 3) := by decide +kernel
theorem dL_law_382 : decode cL_law 382 = .ok (.iconst 0, 1) := by decide +kernel
theorem dL_law_383 : decode cL_law 383 = .ok (.ireturn, 1) := by decide +kernel
theorem dL_law_384 : decode cL_law 384 = .ok (.iinc 3 4, 3) := by decide +kernel
theorem dL_law_387 : decode cL_law 387 = .ok (.goto (-359), 3) := by decide +kernel
theorem dL_law_390 : decode cL_law 390 = .ok (.iconst 1, 1) := by decide +kernel
theorem dL_law_391 : decode cL_law 391 = .ok (.ireturn, 1) := by decide +kernel
end
section
/-! plain facts to paste, each family by itself; over the kit's nI, lN and upd -/
/-! ===== drawers: more things than places ===== -/
theorem fb_holes : ∀ (m n : Nat) (f : Nat → Nat), (∀ i, i < n → f i < m) → (∀ i j, i < j → j < n → f i ≠ f j) → n ≤ m := by
  intro m
  induction m with
  | zero =>
    intro n f h1 _
    rcases Nat.eq_zero_or_pos n with h | h
    · omega
    · exact absurd (h1 0 h) (Nat.not_lt_zero _)
  | succ m ih =>
    intro n f h1 h2
    by_cases hx : ∃ i, i < n ∧ f i = m
    · obtain ⟨a, ha, hfa⟩ := hx
      have hg := ih (n - 1) (fun i => if i < a then f i else f (i + 1)) (by
        intro i hi
        by_cases q : i < a
        · simp only [if_pos q]
          have b1 := h1 i (by omega)
          have b2 := h2 i a q ha
          omega
        · simp only [if_neg q]
          have b1 := h1 (i + 1) (by omega)
          have b2 := h2 a (i + 1) (by omega) (by omega)
          omega) (by
        intro i j hij hj
        by_cases q : i < a
        · by_cases r : j < a
          · simp only [if_pos q, if_pos r]
            exact h2 i j hij (by omega)
          · simp only [if_pos q, if_neg r]
            exact h2 i (j + 1) (by omega) (by omega)
        · have r : ¬ j < a := by omega
          simp only [if_neg q, if_neg r]
          exact h2 (i + 1) (j + 1) (by omega) (by omega))
      omega
    · have hg := ih n f (fun i hi => by
        have b1 := h1 i hi
        have b2 : f i ≠ m := fun e => hx ⟨i, hi, e⟩
        omega) h2
      omega
/-- two of them in one place -/
theorem fb_twice {m n : Nat} {f : Nat → Nat} (h : ∀ i, i < n → f i < m) (hm : m < n) : ∃ i j, i < j ∧ j < n ∧ f i = f j := by
  refine Classical.byContradiction fun hx => ?_
  have := fb_holes m n f h (fun i j hij hj e => hx ⟨i, j, hij, hj, e⟩)
  omega
/-- as many as places, none twice: each place is taken -/
theorem fb_onto {n : Nat} {f : Nat → Nat} (h : ∀ i, i < n → f i < n) (h2 : ∀ i j, i < j → j < n → f i ≠ f j) {y : Nat} (hy : y < n) : ∃ i, i < n ∧ f i = y := by
  refine Classical.byContradiction fun hx => ?_
  have hne : ∀ i, i < n → f i ≠ y := fun i hi e => hx ⟨i, hi, e⟩
  have := fb_holes (n - 1) n (fun i => if f i < y then f i else f i - 1) (by
    intro i hi
    have b1 := h i hi
    have b2 := hne i hi
    by_cases q : f i < y
    · simp only [if_pos q]; omega
    · simp only [if_neg q]; omega) (by
    intro i j hij hj
    have b1 := hne i (by omega)
    have b2 := hne j hj
    have b3 := h2 i j hij hj
    by_cases q : f i < y
    · by_cases r : f j < y
      · simp only [if_pos q, if_pos r]; exact b3
      · simp only [if_pos q, if_neg r]; omega
    · by_cases r : f j < y
      · simp only [if_neg q, if_pos r]; omega
      · simp only [if_neg q, if_neg r]; omega)
  omega
/-! ===== how many places have a property ===== -/
def fb_ct (p : Nat → Bool) : Nat → Nat
  | 0 => 0
  | n + 1 => fb_ct p n + (if p n then 1 else 0)
theorem fb_ct_succ (p : Nat → Bool) (n : Nat) : fb_ct p (n + 1) = fb_ct p n + (if p n then 1 else 0) := rfl
theorem fb_ct_le (p : Nat → Bool) : ∀ n, fb_ct p n ≤ n
  | 0 => Nat.le_refl _
  | n + 1 => by
    have h := fb_ct_le p n
    rw [fb_ct_succ]
    split <;> omega
theorem fb_ct_step (p : Nat → Bool) (m : Nat) : ∀ n, fb_ct p m ≤ fb_ct p (m + n)
  | 0 => Nat.le_refl _
  | n + 1 => by
    have h := fb_ct_step p m n
    show fb_ct p m ≤ fb_ct p (m + n + 1)
    rw [fb_ct_succ]
    omega
theorem fb_ct_mono (p : Nat → Bool) {m n : Nat} (h : m ≤ n) : fb_ct p m ≤ fb_ct p n := by
  have := fb_ct_step p m (n - m)
  rwa [Nat.add_sub_cancel' h] at this
theorem fb_ct_cong {p q : Nat → Bool} : ∀ {n : Nat}, (∀ k, k < n → p k = q k) → fb_ct p n = fb_ct q n
  | 0, _ => rfl
  | n + 1, h => by
    rw [fb_ct_succ, fb_ct_succ, fb_ct_cong (fun k hk => h k (by omega)), h n (by omega)]
/-- one place changed -/
theorem fb_ct_out (p : Nat → Bool) (b : Bool) {i n : Nat} (h : n ≤ i) : fb_ct (fun k => if k = i then b else p k) n = fb_ct p n :=
  fb_ct_cong fun k hk => if_neg (by omega)
theorem fb_ct_upd (p : Nat → Bool) (b : Bool) {i : Nat} : ∀ {n : Nat}, i < n → fb_ct (fun k => if k = i then b else p k) n + (if p i then 1 else 0) = fb_ct p n + (if b then 1 else 0)
  | 0, h => absurd h (Nat.not_lt_zero i)
  | n + 1, h => by
    rw [fb_ct_succ, fb_ct_succ]
    rcases Nat.lt_or_ge i n with q | q
    · have := fb_ct_upd p b q
      have e : (if n = i then b else p n) = p n := if_neg (by omega)
      rw [e]
      omega
    · have e : i = n := by omega
      subst e
      rw [fb_ct_out p b (Nat.le_refl _)]
      simp only [if_true]
      omega
theorem fb_ct_sub {p q : Nat → Bool} : ∀ {n : Nat}, (∀ k, k < n → p k = true → q k = true) → fb_ct p n ≤ fb_ct q n
  | 0, _ => Nat.le_refl _
  | n + 1, h => by
    have h1 := fb_ct_sub (n := n) (p := p) (q := q) (fun k hk => h k (by omega))
    have h2 := h n (by omega)
    rw [fb_ct_succ, fb_ct_succ]
    cases hp : p n <;> cases hq : q n <;> simp_all <;> omega
theorem fb_ct_or {p q : Nat → Bool} : ∀ {n : Nat}, (∀ k, k < n → ¬ (p k = true ∧ q k = true)) → fb_ct (fun k => p k || q k) n = fb_ct p n + fb_ct q n
  | 0, _ => rfl
  | n + 1, h => by
    have h1 := fb_ct_or (n := n) (p := p) (q := q) (fun k hk => h k (by omega))
    have h2 := h n (by omega)
    rw [fb_ct_succ, fb_ct_succ, fb_ct_succ, h1]
    cases hp : p n <;> cases hq : q n <;> simp_all <;> omega
theorem fb_ct_not (p : Nat → Bool) : ∀ n, fb_ct p n + fb_ct (fun k => !p k) n = n
  | 0 => rfl
  | n + 1 => by
    have h := fb_ct_not p n
    rw [fb_ct_succ, fb_ct_succ]
    cases p n <;> simp <;> omega
theorem fb_ct_split (p : Nat → Bool) (m : Nat) : ∀ n, fb_ct p (m + n) = fb_ct p m + fb_ct (fun k => p (m + k)) n
  | 0 => rfl
  | n + 1 => by
    have h := fb_ct_split p m n
    show fb_ct p (m + n + 1) = _
    rw [fb_ct_succ, fb_ct_succ, h, Nat.add_assoc]
theorem fb_ct_zero {p : Nat → Bool} : ∀ {n : Nat}, fb_ct p n = 0 ↔ ∀ k, k < n → p k = false
  | 0 => ⟨fun _ k hk => absurd hk (Nat.not_lt_zero k), fun _ => rfl⟩
  | n + 1 => by
    have h := fb_ct_zero (p := p) (n := n)
    rw [fb_ct_succ]
    constructor
    · intro e k hk
      have e1 : fb_ct p n = 0 := by omega
      rcases Nat.lt_or_ge k n with q | q
      · exact h.mp e1 k q
      · have ek : k = n := by omega
        subst ek
        cases hp : p k
        · rfl
        · simp [hp] at e
    · intro a
      rw [h.mpr (fun k hk => a k (by omega)), a n (by omega)]
      rfl
theorem fb_ct_pos {p : Nat → Bool} {n : Nat} : 0 < fb_ct p n ↔ ∃ k, k < n ∧ p k = true := by
  constructor
  · intro h
    refine Classical.byContradiction fun hx => ?_
    have := fb_ct_zero.mpr (fun k hk => by
      cases hp : p k
      · rfl
      · exact absurd ⟨k, hk, hp⟩ hx : ∀ k, k < n → p k = false)
    omega
  · rintro ⟨k, hk, hp⟩
    rcases Nat.eq_zero_or_pos (fb_ct p n) with e | e
    · have := fb_ct_zero.mp e k hk
      rw [this] at hp
      cases hp
    · exact e
theorem fb_ct_all {p : Nat → Bool} {n : Nat} : fb_ct p n = n ↔ ∀ k, k < n → p k = true := by
  have h := fb_ct_not p n
  constructor
  · intro e k hk
    have z : fb_ct (fun k => !p k) n = 0 := by omega
    have := fb_ct_zero.mp z k hk
    cases hp : p k
    · simp [hp] at this
    · rfl
  · intro a
    have z : fb_ct (fun k => !p k) n = 0 := fb_ct_zero.mpr (fun k hk => by simp [a k hk])
    omega
/-- the k-th place with the property -/
theorem fb_ct_kth {p : Nat → Bool} {k : Nat} : ∀ {n : Nat}, k < fb_ct p n → ∃ i, i < n ∧ p i = true ∧ fb_ct p i = k
  | 0, h => absurd h (Nat.not_lt_zero k)
  | n + 1, h => by
    rcases Nat.lt_or_ge k (fb_ct p n) with q | q
    · obtain ⟨i, h1, h2⟩ := fb_ct_kth q
      exact ⟨i, by omega, h2⟩
    · rw [fb_ct_succ] at h
      cases hp : p n
      · simp [hp] at h; omega
      · simp [hp] at h
        exact ⟨n, by omega, hp, by omega⟩
theorem fb_ct_kth_one {p : Nat → Bool} {i j : Nat} (hi : p i = true) (hj : p j = true) (e : fb_ct p i = fb_ct p j) : i = j := by
  have key : ∀ a b : Nat, a < b → p a = true → fb_ct p a < fb_ct p b := by
    intro a b hab ha
    have h := fb_ct_mono p (show a + 1 ≤ b from hab)
    rw [fb_ct_succ, ha] at h
    simp at h
    omega
  rcases Nat.lt_trichotomy i j with q | q | q
  · have := key i j q hi; omega
  · exact q
  · have := key j i q hj; omega
/-! ===== sums over a range: one place changed, parts, bounds ===== -/
def fb_sm (f : Nat → Nat) : Nat → Nat
  | 0 => 0
  | n + 1 => fb_sm f n + f n
theorem fb_sm_succ (f : Nat → Nat) (n : Nat) : fb_sm f (n + 1) = fb_sm f n + f n := rfl
theorem fb_sm_cong {f g : Nat → Nat} : ∀ {n : Nat}, (∀ k, k < n → f k = g k) → fb_sm f n = fb_sm g n
  | 0, _ => rfl
  | n + 1, h => by rw [fb_sm_succ, fb_sm_succ, fb_sm_cong (fun k hk => h k (by omega)), h n (by omega)]
theorem fb_sm_out (f : Nat → Nat) (v : Nat) {i n : Nat} (h : n ≤ i) : fb_sm (fun k => if k = i then v else f k) n = fb_sm f n :=
  fb_sm_cong fun k hk => if_neg (by omega)
theorem fb_sm_upd (f : Nat → Nat) (v : Nat) {i : Nat} : ∀ {n : Nat}, i < n → fb_sm (fun k => if k = i then v else f k) n + f i = fb_sm f n + v
  | 0, h => absurd h (Nat.not_lt_zero i)
  | n + 1, h => by
    rw [fb_sm_succ, fb_sm_succ]
    rcases Nat.lt_or_ge i n with q | q
    · have := fb_sm_upd f v q
      have e : (if n = i then v else f n) = f n := if_neg (by omega)
      rw [e]
      omega
    · have e : i = n := by omega
      subst e
      rw [fb_sm_out f v (Nat.le_refl _)]
      simp only [if_true]
      omega
theorem fb_sm_add (f g : Nat → Nat) : ∀ n, fb_sm (fun k => f k + g k) n = fb_sm f n + fb_sm g n
  | 0 => rfl
  | n + 1 => by
    have h := fb_sm_add f g n
    rw [fb_sm_succ, fb_sm_succ, fb_sm_succ, h]
    omega
theorem fb_sm_le {f g : Nat → Nat} : ∀ {n : Nat}, (∀ k, k < n → f k ≤ g k) → fb_sm f n ≤ fb_sm g n
  | 0, _ => Nat.le_refl _
  | n + 1, h => by
    have h1 := fb_sm_le (n := n) (f := f) (g := g) (fun k hk => h k (by omega))
    have h2 := h n (by omega)
    rw [fb_sm_succ, fb_sm_succ]
    omega
theorem fb_sm_const (c : Nat) : ∀ n, fb_sm (fun _ => c) n = n * c
  | 0 => by rw [Nat.zero_mul]; rfl
  | n + 1 => by rw [fb_sm_succ, fb_sm_const c n, Nat.succ_mul]
theorem fb_sm_bound {f : Nat → Nat} {c n : Nat} (h : ∀ k, k < n → f k ≤ c) : fb_sm f n ≤ n * c := by
  rw [← fb_sm_const c n]
  exact fb_sm_le h
theorem fb_sm_mono (f : Nat → Nat) (m : Nat) : ∀ n, fb_sm f m ≤ fb_sm f (m + n)
  | 0 => Nat.le_refl _
  | n + 1 => by
    have h := fb_sm_mono f m n
    show fb_sm f m ≤ fb_sm f (m + n + 1)
    rw [fb_sm_succ]
    omega
theorem fb_sm_part (f : Nat → Nat) {i n : Nat} (h : i < n) : fb_sm f i + f i ≤ fb_sm f n := by
  have := fb_sm_mono f (i + 1) (n - (i + 1))
  rw [fb_sm_succ, show i + 1 + (n - (i + 1)) = n by omega] at this
  exact this
theorem fb_sm_split (f : Nat → Nat) (m : Nat) : ∀ n, fb_sm f (m + n) = fb_sm f m + fb_sm (fun k => f (m + k)) n
  | 0 => rfl
  | n + 1 => by
    have h := fb_sm_split f m n
    show fb_sm f (m + n + 1) = _
    rw [fb_sm_succ, fb_sm_succ, h, Nat.add_assoc]
theorem fb_sm_zero {f : Nat → Nat} {n : Nat} (h : fb_sm f n = 0) : ∀ k, k < n → f k = 0 := fun k hk => by
  have := fb_sm_part f hk
  omega
theorem fa_and (a b : Nat) : nI a &&& nI b = nI (a &&& b) := by
  apply Int32.toBitVec_inj.1
  show BitVec.ofNat 32 a &&& BitVec.ofNat 32 b = BitVec.ofNat 32 (a &&& b)
  apply BitVec.eq_of_getLsbD_eq
  intro i hi
  simp [hi]
theorem fa_or (a b : Nat) : nI a ||| nI b = nI (a ||| b) := by
  apply Int32.toBitVec_inj.1
  show BitVec.ofNat 32 a ||| BitVec.ofNat 32 b = BitVec.ofNat 32 (a ||| b)
  apply BitVec.eq_of_getLsbD_eq
  intro i hi
  simp [hi]
theorem fb_xorI (a b : Nat) : nI a ^^^ nI b = nI (a ^^^ b) := by
  apply Int32.toBitVec_inj.1
  show BitVec.ofNat 32 a ^^^ BitVec.ofNat 32 b = BitVec.ofNat 32 (a ^^^ b)
  apply BitVec.eq_of_getLsbD_eq
  intro i hi
  simp [hi]
theorem fb_bit_set (n j i : Nat) : (n ||| 2 ^ j).testBit i = (n.testBit i || decide (i = j)) := by
  rw [Nat.testBit_or]
  by_cases h : j = i
  · subst h; simp
  · have h2 : ¬ i = j := fun e => h e.symm
    first | (simp [Nat.testBit_two_pow, h, h2]; done) | (simp [Nat.testBit_two_pow_of_ne h, h2]; done)
theorem fb_bit_flip (n j i : Nat) : (n ^^^ 2 ^ j).testBit i = (n.testBit i ^^ decide (i = j)) := by
  rw [Nat.testBit_xor]
  by_cases h : j = i
  · subst h; simp
  · have h2 : ¬ i = j := fun e => h e.symm
    first | (simp [Nat.testBit_two_pow, h, h2]; done) | (simp [Nat.testBit_two_pow_of_ne h, h2]; done)
end
section
/-! masks: sets of small numbers as Nat, by bits -/
abbrev mb (m v : Nat) : Prop := m.testBit v = true
theorem mb_iff {x y : Nat} (h : ∀ v, mb x v ↔ mb y v) : x = y := by
  apply Nat.eq_of_testBit_eq
  intro i
  have h1 := h i
  cases hx : x.testBit i <;> cases hy : y.testBit i
  · rfl
  · exact absurd (h1.mpr hy) (by rw [mb, hx]; decide)
  · exact absurd (h1.mp hx) (by rw [mb, hy]; decide)
  · rfl
theorem nmb {m v : Nat} (h : ¬ mb m v) : m.testBit v = false := by
  cases hx : m.testBit v with
  | false => rfl
  | true => exact absurd hx h
theorem mb_lt {m v k : Nat} (hm : m < 2 ^ k) (h : mb m v) : v < k := by
  refine Nat.lt_of_not_le fun hk => ?_
  have h1 : m.testBit v = false := Nat.testBit_lt_two_pow (Nat.lt_of_lt_of_le hm (Nat.pow_le_pow_right (by decide) hk))
  rw [mb, h1] at h
  cases h
theorem mb_pow {m k : Nat} (h : ∀ v, mb m v → v < k) : m < 2 ^ k := by
  apply Nat.lt_pow_two_of_testBit m
  intro i hi
  exact nmb fun q => absurd (h i q) (by omega)
theorem mb_0 {v : Nat} : ¬ mb 0 v := by
  simp [mb]
theorem mb_le {x y : Nat} (h : ∀ v, mb x v → mb y v) : x ≤ y := Nat.le_of_testBit h
theorem mb_some {x : Nat} (h : x ≠ 0) : ∃ v, mb x v := Nat.exists_testBit_of_ne_zero h
theorem mb_1 {w v : Nat} : mb (2 ^ w) v ↔ v = w := by
  rw [mb, Nat.testBit_two_pow]
  simp [eq_comm]
theorem mb_and {x y v : Nat} : mb (x &&& y) v ↔ mb x v ∧ mb y v := by
  simp [mb]
theorem mb_or {x y v : Nat} : mb (x ||| y) v ↔ mb x v ∨ mb y v := by
  simp [mb]
theorem mb_set {x w v : Nat} : mb (x ||| 2 ^ w) v ↔ mb x v ∨ v = w := by
  rw [mb_or, mb_1]
/-- the first set without the second -/
def dif (x y : Nat) : Nat := x ^^^ (x &&& y)
theorem mb_dif {x y v : Nat} : mb (dif x y) v ↔ mb x v ∧ ¬ mb y v := by
  unfold dif mb
  rw [Nat.testBit_xor, Nat.testBit_and]
  cases x.testBit v <;> cases y.testBit v <;> decide
theorem dif_le (x y : Nat) : dif x y ≤ x := mb_le fun _ h => (mb_dif.mp h).1
theorem dif_0 (x : Nat) : dif x 0 = x := mb_iff fun v => by
  rw [mb_dif]
  exact ⟨fun h => h.1, fun h => ⟨h, mb_0⟩⟩
theorem dif_lt {x y k : Nat} (h : x < 2 ^ k) : dif x y < 2 ^ k := Nat.lt_of_le_of_lt (dif_le x y) h
/-- the set of the places below k with a property -/
def mkm (p : Nat → Bool) : Nat → Nat
  | 0 => 0
  | k + 1 => if p k then mkm p k ||| 2 ^ k else mkm p k
theorem mkm_bit (p : Nat → Bool) : ∀ k v, mb (mkm p k) v ↔ v < k ∧ p v = true
  | 0, v => by
    constructor
    · intro h; exact absurd h mb_0
    · intro h; omega
  | k + 1, v => by
    have ih := mkm_bit p k v
    unfold mkm
    by_cases h : p k = true
    · rw [if_pos h, mb_set, ih]
      constructor
      · rintro (⟨h1, h2⟩ | h1)
        · exact ⟨by omega, h2⟩
        · subst h1; exact ⟨by omega, h⟩
      · rintro ⟨h1, h2⟩
        by_cases hv : v = k
        · exact Or.inr hv
        · exact Or.inl ⟨by omega, h2⟩
    · rw [if_neg h, ih]
      constructor
      · rintro ⟨h1, h2⟩; exact ⟨by omega, h2⟩
      · rintro ⟨h1, h2⟩
        refine ⟨?_, h2⟩
        by_cases hv : v = k
        · subst hv; exact absurd h2 h
        · omega
/-- a set out of any property -/
noncomputable def mkP (p : Nat → Prop) : Nat := mkm (fun v => @decide (p v) (Classical.propDecidable _)) 8
theorem mb_mkP {p : Nat → Prop} {v : Nat} : mb (mkP p) v ↔ v < 8 ∧ p v := by
  unfold mkP
  rw [mkm_bit]
  simp
/-- how many -/
def pc (x : Nat) : Nat := fb_ct (fun v => x.testBit v) 8
theorem pc_le (x : Nat) : pc x ≤ 8 := fb_ct_le _ 8
theorem pc_0 : pc 0 = 0 := by decide
theorem pc_mono {x y : Nat} (h : ∀ v, mb x v → mb y v) : pc x ≤ pc y := fb_ct_sub fun k _ hk => h k hk
theorem pc_split (x y : Nat) : pc (dif x y) + pc (x &&& y) = pc x := by
  unfold pc
  rw [← fb_ct_or]
  · refine fb_ct_cong fun k _ => ?_
    unfold dif
    rw [Nat.testBit_xor, Nat.testBit_and]
    cases x.testBit k <;> cases y.testBit k <;> rfl
  · intro k _ ⟨h1, h2⟩
    exact (mb_dif.mp h1).2 (mb_and.mp h2).2
theorem pc_pos {x v : Nat} (hv : v < 8) (h : mb x v) : 0 < pc x := fb_ct_pos.mpr ⟨v, hv, h⟩
theorem pc_dis {x y : Nat} (h : ∀ v, mb x v → ¬ mb y v) : pc (x ||| y) = pc x + pc y := by
  unfold pc
  rw [← fb_ct_or]
  · refine fb_ct_cong fun k _ => ?_
    rw [Nat.testBit_or]
  · intro k _ ⟨h1, h2⟩
    exact h k h1 h2
theorem pc_one {v : Nat} (hv : v < 8) : pc (2 ^ v) = 1 := by
  revert v
  decide
theorem pc_set {x v : Nat} (hv : v < 8) (h : ¬ mb x v) : pc (x ||| 2 ^ v) = pc x + 1 := by
  rw [pc_dis, pc_one hv]
  intro w h1 h2
  rw [mb_1] at h2
  subst h2
  exact h h1
theorem pc_eq {x y : Nat} (h : ∀ v, v < 8 → (mb x v ↔ mb y v)) : pc x = pc y := by
  refine fb_ct_cong fun k hk => ?_
  have h1 := h k hk
  cases hx : x.testBit k <;> cases hy : y.testBit k
  · rfl
  · exact absurd (h1.mpr hy) (by rw [mb, hx]; decide)
  · exact absurd (h1.mp hx) (by rw [mb, hy]; decide)
  · rfl
theorem pc_full {x : Nat} (h : pc x = 8) : ∀ v, v < 8 → mb x v := fb_ct_all.mp h
/-- the greater number is told by the highest bit where two differ -/
theorem mb_cmp {x y v : Nat} (hx : ¬ mb x v) (hy : mb y v) (h : ∀ w, v < w → (mb x w ↔ mb y w)) : x < y := by
  have e : x / 2 ^ (v + 1) = y / 2 ^ (v + 1) := by
    apply mb_iff
    intro w
    unfold mb
    rw [Nat.testBit_div_two_pow, Nat.testBit_div_two_pow]
    exact h _ (by omega)
  have hp : 2 ^ (v + 1) = 2 * 2 ^ v := by rw [Nat.pow_succ, Nat.mul_comm]
  have hx1 : x / 2 ^ v % 2 = 0 := by
    have := nmb hx
    rw [Nat.testBit_eq_decide_div_mod_eq] at this
    have := of_decide_eq_false this
    omega
  have hy1 : y / 2 ^ v % 2 = 1 := by
    have := hy
    rw [mb, Nat.testBit_eq_decide_div_mod_eq] at this
    exact of_decide_eq_true this
  have ex : x / 2 ^ (v + 1) = x / 2 ^ v / 2 := by rw [Nat.div_div_eq_div_mul, hp, Nat.mul_comm]
  have ey : y / 2 ^ (v + 1) = y / 2 ^ v / 2 := by rw [Nat.div_div_eq_div_mul, hp, Nat.mul_comm]
  have hlt : x / 2 ^ v < y / 2 ^ v := by omega
  exact Nat.lt_of_not_le fun hle => absurd (Nat.div_le_div_right (c := 2 ^ v) hle) (by omega)
/-- all vertices but the two ends -/
def inn (n s t : Nat) : Nat := mkm (fun v => !(v == s) && !(v == t)) n
theorem mb_inn {n s t v : Nat} : mb (inn n s t) v ↔ v < n ∧ v ≠ s ∧ v ≠ t := by
  unfold inn
  rw [mkm_bit]
  simp
theorem inn_lt (n s t : Nat) : inn n s t < 2 ^ n := mb_pow fun _ h => (mb_inn.mp h).1
/-! sums -/
theorem sm_swap (f : Nat → Nat → Nat) (m : Nat) : ∀ n, fb_sm (fun i => fb_sm (fun j => f i j) m) n = fb_sm (fun j => fb_sm (fun i => f i j) n) m
  | 0 => by
    show 0 = fb_sm (fun _ => 0) m
    rw [fb_sm_const, Nat.mul_zero]
  | n + 1 => by
    rw [fb_sm_succ, sm_swap f m n, ← fb_sm_add]
    rfl
theorem sm_one {g : Nat → Nat} {n y : Nat} (hy : y < n) (h : ∀ k, k < n → k ≠ y → g k = 0) : fb_sm g n = g y := by
  have h1 := fb_sm_upd (fun _ => 0) (g y) (i := y) hy
  rw [fb_sm_const, Nat.mul_zero] at h1
  have h2 : fb_sm g n = fb_sm (fun k => if k = y then g y else 0) n := fb_sm_cong fun k hk => by
    by_cases hk2 : k = y
    · subst hk2; simp
    · simp [hk2, h k hk hk2]
  omega
theorem sm_zero {g : Nat → Nat} {n : Nat} (h : ∀ k, k < n → g k = 0) : fb_sm g n = 0 := by
  rw [fb_sm_cong (g := fun _ => 0) h, fb_sm_const, Nat.mul_zero]
theorem sm_ge {g : Nat → Nat} {n y : Nat} (hy : y < n) : g y ≤ fb_sm g n := by
  have h1 := fb_sm_part g hy
  omega
theorem sm_two {g : Nat → Nat} {n x y : Nat} (hx : x < n) (hy : y < n) (hne : x ≠ y) : g x + g y ≤ fb_sm g n := by
  have h1 := fb_sm_upd g 0 hx
  have h2 := sm_ge (g := fun k => if k = x then 0 else g k) hy
  simp only [if_neg (Ne.symm hne)] at h2
  omega
theorem sm_pair (f : Nat → Nat) : ∀ m, fb_sm f (2 * m) = fb_sm (fun u => f (2 * u) + f (2 * u + 1)) m
  | 0 => rfl
  | m + 1 => by
    rw [show 2 * (m + 1) = 2 * m + 1 + 1 from rfl, fb_sm_succ, fb_sm_succ, fb_sm_succ, sm_pair f m]
    omega
theorem sm_pos {g : Nat → Nat} {n : Nat} (h : 0 < fb_sm g n) : ∃ y, y < n ∧ 0 < g y := by
  refine Classical.byContradiction fun hx => ?_
  have h1 := sm_zero (g := g) (n := n) fun k hk => by
    have h2 : ¬ 0 < g k := fun q => hx ⟨k, hk, q⟩
    omega
  omega
theorem sm_ct (p : Nat → Bool) : ∀ n, fb_sm (fun k => if p k then 1 else 0) n = fb_ct p n
  | 0 => rfl
  | n + 1 => by rw [fb_sm_succ, fb_ct_succ, sm_ct p n]
end
section
/-! the graph, what leads, disjoint parts, cuts, the least cut's size -/
/-- n vertices, edges both ways, no loops -/
def Gok (n : Nat) (a : Nat → Nat) : Prop := ∀ u, u < n → ∀ v, mb (a u) v → v < n ∧ v ≠ u ∧ mb (a v) u
theorem Gok.lt {n : Nat} {a : Nat → Nat} (h : Gok n a) {u : Nat} (hu : u < n) : a u < 2 ^ n := mb_pow fun v hv => (h u hu v hv).1
/-- some path from s to t has at least one inner vertex and none out of X -/
def Lds (a : Nat → Nat) (s t X : Nat) : Prop := ∀ Z : Nat → Prop, (∀ v, mb X v → mb (a s) v → Z v) → (∀ x y, mb X x → Z x → mb X y → mb (a x) y → Z y) → ∃ x, mb X x ∧ Z x ∧ mb (a t) x
theorem Lds.mono {a : Nat → Nat} {s t X Y : Nat} (h : Lds a s t X) (hs : ∀ v, mb X v → mb Y v) : Lds a s t Y := by
  intro Z h1 h2
  obtain ⟨x, hx, hz, ht⟩ := h Z (fun v hv => h1 v (hs v hv)) (fun x y hx hz hy => h2 x y (hs x hx) hz (hs y hy))
  exact ⟨x, hs x hx, hz, ht⟩
theorem Lds.ne {a : Nat → Nat} {s t X : Nat} (h : Lds a s t X) : ∃ x, mb X x := by
  obtain ⟨x, hx, -⟩ := h (fun _ => True) (fun _ _ _ => trivial) (fun _ _ _ _ _ _ => trivial)
  exact ⟨x, hx⟩
theorem nLds {a : Nat → Nat} {s t X : Nat} (h : ¬ Lds a s t X) : ∃ Z : Nat → Prop, (∀ v, mb X v → mb (a s) v → Z v) ∧ (∀ x y, mb X x → Z x → mb X y → mb (a x) y → Z y) ∧ ∀ x, mb X x → Z x → ¬ mb (a t) x := by
  refine Classical.byContradiction fun hx => h fun Z h1 h2 => ?_
  refine Classical.byContradiction fun hy => hx ⟨Z, h1, h2, fun x h3 h4 h5 => hy ⟨x, h3, h4, h5⟩⟩
/-- the same edges (on the vertices that matter), and none more: what leads, leads -/
theorem Lds.sub {a b : Nat → Nat} {s t X : Nat} (h : Lds a s t X) (hs : ∀ v, mb X v → mb (a s) v → mb (b s) v) (ht : ∀ v, mb X v → mb (a t) v → mb (b t) v) (hx : ∀ x y, mb X x → mb X y → mb (a x) y → mb (b x) y) : Lds b s t X := by
  intro Z h1 h2
  obtain ⟨x, k1, k2, k3⟩ := h Z (fun v hv hm => h1 v hv (hs v hv hm)) (fun x y q1 q2 q3 q4 => h2 x y q1 q2 q3 (hx x y q1 q3 q4))
  exact ⟨x, k1, k2, ht x k1 k3⟩
/-- p parts of X, without a common vertex, each of which leads -/
def Pk (a : Nat → Nat) (s t : Nat) : Nat → Nat → Prop
  | 0, _ => True
  | p + 1, X => ∃ P, (∀ v, mb P v → mb X v) ∧ Lds a s t P ∧ Pk a s t p (dif X P)
theorem Pk.cut {a : Nat → Nat} {s t : Nat} : ∀ {p X C : Nat}, X < 256 → Pk a s t p X → ¬ Lds a s t (dif X C) → p ≤ pc C
  | 0, _, _, _, _, _ => Nat.zero_le _
  | p + 1, X, C, hX, ⟨P, h1, h2, h3⟩, hn => by
    have hm : ∃ v, mb P v ∧ mb C v := by
      refine Classical.byContradiction fun hx => hn (h2.mono fun v hv => ?_)
      exact mb_dif.mpr ⟨h1 v hv, fun q => hx ⟨v, hv, q⟩⟩
    obtain ⟨v, hv, hc⟩ := hm
    have h4 : ¬ Lds a s t (dif (dif X P) (dif C P)) := fun q => hn (q.mono fun w hw => by
      rw [mb_dif, mb_dif, mb_dif] at hw
      rw [mb_dif]
      exact ⟨hw.1.1, fun z => hw.2 ⟨z, hw.1.2⟩⟩)
    have h5 := Pk.cut (dif_lt (k := 8) hX) h3 h4
    have h6 := pc_split C P
    have h7 : 0 < pc (C &&& P) := pc_pos (mb_lt (k := 8) hX (h1 v hv)) (mb_and.mpr ⟨hc, hv⟩)
    omega
/-- the greatest number of such parts -/
def Mx (a : Nat → Nat) (s t X p : Nat) : Prop := Pk a s t p X ∧ ∀ q, Pk a s t q X → q ≤ p
theorem Mx.one {a : Nat → Nat} {s t X p q : Nat} (h : Mx a s t X p) (h2 : Mx a s t X q) : p = q := Nat.le_antisymm (h2.2 p h.1) (h.2 q h2.1)
/-- whether the ends have an edge of their own, as a number -/
def dr (a : Nat → Nat) (s t : Nat) : Nat := if (a s).testBit t then 1 else 0
theorem dr_le (a : Nat → Nat) (s t : Nat) : dr a s t ≤ 1 := by
  unfold dr
  split <;> omega
/-- a cut: none of the shut and none of the firm vertices -/
def Cut (n s t : Nat) (a : Nat → Nat) (sh fi C : Nat) : Prop := (∀ v, mb C v → v < n ∧ v ≠ s ∧ v ≠ t ∧ ¬ mb sh v ∧ ¬ mb fi v) ∧ ¬ Lds a s t (dif (dif (inn n s t) sh) C)
/-- k is the least cut's size with the edge between the ends, or 9 -/
def Flw (n s t : Nat) (a : Nat → Nat) (sh fi k : Nat) : Prop := k ≤ 9 ∧ (k < 9 → ∃ C, Cut n s t a sh fi C ∧ pc C + dr a s t = k) ∧ ∀ C, Cut n s t a sh fi C → k ≤ pc C + dr a s t
theorem Flw.one {n s t sh fi k j : Nat} {a : Nat → Nat} (h : Flw n s t a sh fi k) (h2 : Flw n s t a sh fi j) : k = j := by
  obtain ⟨a1, b1, c1⟩ := h
  obtain ⟨a2, b2, c2⟩ := h2
  rcases Nat.lt_trichotomy k j with q | q | q
  · obtain ⟨C, h3, h4⟩ := b1 (by omega)
    have := c2 C h3
    omega
  · exact q
  · obtain ⟨C, h3, h4⟩ := b2 (by omega)
    have := c1 C h3
    omega
theorem Flw.ex (n s t : Nat) (a : Nat → Nat) (sh fi : Nat) : ∃ k, Flw n s t a sh fi k := by
  obtain ⟨k, h1, h2⟩ := pk_least (fun k => k = 9 ∨ ∃ C, Cut n s t a sh fi C ∧ pc C + dr a s t = k) ⟨9, Or.inl rfl⟩
  refine ⟨k, ?_, ?_, ?_⟩
  · exact Nat.le_of_not_lt fun q => h2 9 q (Or.inl rfl)
  · intro hk
    rcases h1 with h | h
    · omega
    · exact h
  · intro C hC
    exact Nat.le_of_not_lt fun q => h2 _ q (Or.inr ⟨C, hC, rfl⟩)
noncomputable def fl (n s t : Nat) (a : Nat → Nat) (sh fi : Nat) : Nat := Classical.choose (Flw.ex n s t a sh fi)
theorem fl_spec (n s t : Nat) (a : Nat → Nat) (sh fi : Nat) : Flw n s t a sh fi (fl n s t a sh fi) := Classical.choose_spec (Flw.ex n s t a sh fi)
theorem fl_eq {n s t sh fi k : Nat} {a : Nat → Nat} (h : Flw n s t a sh fi k) : fl n s t a sh fi = k := (fl_spec n s t a sh fi).one h
theorem fl_le {n s t sh fi : Nat} {a : Nat → Nat} : fl n s t a sh fi ≤ 9 := (fl_spec n s t a sh fi).1
/-- with no firm vertices there is a cut: all of them -/
theorem cut_all (n s t : Nat) (a : Nat → Nat) (sh : Nat) : Cut n s t a sh 0 (dif (inn n s t) sh) := by
  refine ⟨fun v hv => ?_, fun h => ?_⟩
  · rw [mb_dif, mb_inn] at hv
    exact ⟨hv.1.1, hv.1.2.1, hv.1.2.2, hv.2, mb_0⟩
  · obtain ⟨x, hx⟩ := h.ne
    rw [mb_dif] at hx
    exact hx.2 hx.1
theorem fl_lt {n s t sh : Nat} {a : Nat → Nat} (hn : n ≤ 8) (hs : s < n) : fl n s t a sh 0 < 9 := by
  have h1 := (fl_spec n s t a sh 0).2.2 _ (cut_all n s t a sh)
  have h2 : pc (dif (inn n s t) sh) < 8 := by
    refine Nat.lt_of_le_of_ne (pc_le _) fun q => ?_
    have h3 := pc_full q s (by omega)
    rw [mb_dif, mb_inn] at h3
    exact h3.1.2.1 rfl
  have := dr_le a s t
  omega
theorem fl_cut {n s t sh : Nat} {a : Nat → Nat} (hn : n ≤ 8) (hs : s < n) : ∃ C, Cut n s t a sh 0 C ∧ pc C + dr a s t = fl n s t a sh 0 := (fl_spec n s t a sh 0).2.1 (fl_lt hn hs)
end
section
/-! the split graph's room, what is left of it, cuts of it -/
/-- what can be pushed from x to y at first: vertex v has the entry 2 v and the exit 2 v + 1 -/
def cp (n s t : Nat) (a : Nat → Nat) (sh fi x y : Nat) : Nat :=
  if x % 2 = 0 then (if y = x + 1 ∧ x / 2 < n ∧ ¬ mb sh (x / 2) then (if x / 2 = s ∨ x / 2 = t ∨ mb fi (x / 2) then 9 else 1) else 0)
  else (if y % 2 = 0 ∧ y / 2 < n ∧ x / 2 < n ∧ ¬ mb sh (x / 2) ∧ ¬ mb sh (y / 2) ∧ mb (a (x / 2)) (y / 2) then (if x / 2 = s ∧ y / 2 = t then 1 else 9) else 0)
section CP
variable {n s t : Nat} {a : Nat → Nat} {sh fi : Nat}
theorem cp_e (v y : Nat) : cp n s t a sh fi (2 * v) y = if y = 2 * v + 1 ∧ v < n ∧ ¬ mb sh v then (if v = s ∨ v = t ∨ mb fi v then 9 else 1) else 0 := by
  unfold cp
  rw [if_pos (by omega : 2 * v % 2 = 0), show 2 * v / 2 = v by omega]
theorem cp_o (v y : Nat) : cp n s t a sh fi (2 * v + 1) y = if y % 2 = 0 ∧ y / 2 < n ∧ v < n ∧ ¬ mb sh v ∧ ¬ mb sh (y / 2) ∧ mb (a v) (y / 2) then (if v = s ∧ y / 2 = t then 1 else 9) else 0 := by
  unfold cp
  rw [if_neg (by omega : ¬ (2 * v + 1) % 2 = 0), show (2 * v + 1) / 2 = v by omega]
theorem cp_oe (u v : Nat) : cp n s t a sh fi (2 * u + 1) (2 * v) = if v < n ∧ u < n ∧ ¬ mb sh u ∧ ¬ mb sh v ∧ mb (a u) v then (if u = s ∧ v = t then 1 else 9) else 0 := by
  rw [cp_o, show 2 * v / 2 = v by omega]
  simp only [show 2 * v % 2 = 0 by omega, true_and]
theorem cp_oo (u v : Nat) : cp n s t a sh fi (2 * u + 1) (2 * v + 1) = 0 := by
  rw [cp_o, if_neg (by omega)]
theorem cp_ee (u v : Nat) : cp n s t a sh fi (2 * u) (2 * v) = 0 := by
  rw [cp_e, if_neg (by omega)]
theorem cp_eo {u v : Nat} (h : u ≠ v) : cp n s t a sh fi (2 * v) (2 * u + 1) = 0 := by
  rw [cp_e, if_neg (by omega)]
theorem cp_le (x y : Nat) : cp n s t a sh fi x y ≤ 9 := by
  unfold cp
  repeat' split
  all_goals omega
end CP
/-! double sums over a set and what is out of it -/
def dsI (N : Nat) (U : Nat → Bool) (g : Nat → Nat → Nat) : Nat := fb_sm (fun x => fb_sm (fun y => if U x && U y then g x y else 0) N) N
def dsO (N : Nat) (U : Nat → Bool) (g : Nat → Nat → Nat) : Nat := fb_sm (fun x => fb_sm (fun y => if U x && !U y then g x y else 0) N) N
theorem ds_split (N : Nat) (U : Nat → Bool) (g : Nat → Nat → Nat) : fb_sm (fun x => if U x then fb_sm (fun y => g x y) N else 0) N = dsI N U g + dsO N U g := by
  unfold dsI dsO
  rw [← fb_sm_add]
  refine fb_sm_cong fun x _ => ?_
  rw [← fb_sm_add]
  cases hx : U x with
  | false =>
    simp only [Bool.false_and, Bool.false_eq_true, if_false]
    exact (sm_zero fun k _ => rfl).symm
  | true =>
    simp only [Bool.true_and, if_true]
    refine fb_sm_cong fun y _ => ?_
    cases hy : U y <;> simp
theorem ds_swap (N : Nat) (U : Nat → Bool) (g : Nat → Nat → Nat) : dsI N U (fun x y => g y x) = dsI N U g := by
  unfold dsI
  rw [sm_swap]
  refine fb_sm_cong fun x _ => fb_sm_cong fun y _ => ?_
  rw [Bool.and_comm]
theorem ds_add (N : Nat) (U : Nat → Bool) (g h : Nat → Nat → Nat) : dsI N U (fun x y => g x y + h x y) = dsI N U g + dsI N U h := by
  unfold dsI
  rw [← fb_sm_add]
  refine fb_sm_cong fun x _ => ?_
  rw [← fb_sm_add]
  refine fb_sm_cong fun y _ => ?_
  cases U x && U y <;> simp
theorem ds_cong {N : Nat} {U : Nat → Bool} {g h : Nat → Nat → Nat} (e : ∀ x y, x < N → y < N → g x y = h x y) : dsI N U g = dsI N U h := by
  unfold dsI
  refine fb_sm_cong fun x hx => fb_sm_cong fun y hy => ?_
  rw [e x y hx hy]
/-- what goes out of a set with the start in it and not the end: what is left, and what was pushed -/
theorem cut_sum {N : Nat} {ρ c : Nat → Nat → Nat} {f k : Nat} {U : Nat → Bool} (h1 : ∀ x y, x < N → y < N → ρ x y + ρ y x = c x y + c y x) (h2 : ∀ x, x < N → U x = true → fb_sm (fun y => ρ x y) N + (if x = f then k else 0) = fb_sm (fun y => c x y) N) (hf : f < N) (hU : U f = true) : dsO N U ρ + k = dsO N U c := by
  have e1 : dsI N U ρ + dsI N U ρ = dsI N U c + dsI N U c := by
    have e2 := ds_add N U ρ (fun x y => ρ y x)
    have e3 := ds_add N U c (fun x y => c y x)
    have e8 := ds_swap N U ρ
    have e9 := ds_swap N U c
    have e7 : dsI N U (fun x y => ρ x y + ρ y x) = dsI N U (fun x y => c x y + c y x) := ds_cong h1
    omega
  have e4 := ds_split N U ρ
  have e5 := ds_split N U c
  have e6 : fb_sm (fun x => if U x then fb_sm (fun y => ρ x y) N else 0) N + k = fb_sm (fun x => if U x then fb_sm (fun y => c x y) N else 0) N := by
    have e7 : fb_sm (fun x => if x = f then k else 0) N = k := by
      rw [sm_one hf (fun y _ hy => if_neg hy), if_pos rfl]
    rw [← e7, ← fb_sm_add]
    refine fb_sm_cong fun x hx => ?_
    cases hUx : U x with
    | false =>
      have hne : x ≠ f := fun q => by rw [q, hU] at hUx; cases hUx
      simp [hne]
    | true =>
      simp only [if_true]
      exact h2 x hx hUx
  omega
theorem dsO_ge {N : Nat} {U : Nat → Bool} {g : Nat → Nat → Nat} {x y : Nat} (hx : x < N) (hy : y < N) (h1 : U x = true) (h2 : U y = false) : g x y ≤ dsO N U g := by
  unfold dsO
  refine Nat.le_trans ?_ (sm_ge hx)
  refine Nat.le_trans ?_ (sm_ge hy)
  simp [h1, h2]
theorem dsO_rows (U : Nat → Bool) (g : Nat → Nat → Nat) : dsO 16 U g = fb_sm (fun v => fb_sm (fun y => if U (2 * v) && !U y then g (2 * v) y else 0) 16 + fb_sm (fun y => if U (2 * v + 1) && !U y then g (2 * v + 1) y else 0) 16) 8 := by
  unfold dsO
  exact sm_pair _ 8
theorem pc_dr (C s d : Nat) (hs : s < 8) : fb_sm (fun v => (if C.testBit v then 1 else 0) + (if v = s then d else 0)) 8 = pc C + d := by
  rw [fb_sm_add, sm_ct, sm_one hs (fun y _ hy => if_neg hy), if_pos rfl]
  rfl
theorem if_z {b : Bool} {x : Nat} (h : x = 0) : (if b then x else 0) = 0 := by rw [h]; split <;> rfl
/-- what is left of the room when k units are pushed from the start's exit to the end's entry -/
def Res (n s t : Nat) (a : Nat → Nat) (sh fi : Nat) (ρ : Nat → Nat → Nat) (k : Nat) : Prop :=
  (∀ x y, x < 16 → y < 16 → ρ x y + ρ y x = cp n s t a sh fi x y + cp n s t a sh fi y x) ∧
  (∀ x, x < 16 → x ≠ 2 * t → fb_sm (fun y => ρ x y) 16 + (if x = 2 * s + 1 then k else 0) = fb_sm (fun y => cp n s t a sh fi x y) 16) ∧
  (∀ x, x < 16 → ρ x (2 * s) = cp n s t a sh fi x (2 * s))
section RES
variable {n s t : Nat} {a : Nat → Nat} {sh fi : Nat} {ρ : Nat → Nat → Nat} {k : Nat}
theorem Res.start (n s t : Nat) (a : Nat → Nat) (sh fi : Nat) {ρ : Nat → Nat → Nat} (h : ∀ x y, x < 16 → y < 16 → ρ x y = cp n s t a sh fi x y) (hs : 2 * s < 16) : Res n s t a sh fi ρ 0 := by
  refine ⟨fun x y hx hy => by rw [h x y hx hy, h y x hy hx], fun x hx _ => ?_, fun x hx => h x _ hx hs⟩
  rw [show (if x = 2 * s + 1 then 0 else 0) = 0 by split <;> rfl, Nat.add_zero]
  exact fb_sm_cong fun y hy => h x y hx hy
theorem Res.bound (h : Res n s t a sh fi ρ k) {x y : Nat} (hx : x < 16) (hy : y < 16) : ρ x y ≤ 18 := by
  have h1 := h.1 x y hx hy
  have h2 := cp_le (n := n) (s := s) (t := t) (a := a) (sh := sh) (fi := fi) x y
  have h3 := cp_le (n := n) (s := s) (t := t) (a := a) (sh := sh) (fi := fi) y x
  omega
theorem Res.cut (h : Res n s t a sh fi ρ k) {U : Nat → Bool} (hs : s < 8) (h1 : U (2 * s + 1) = true) (h2 : U (2 * t) = false) : dsO 16 U ρ + k = dsO 16 U (cp n s t a sh fi) :=
  cut_sum h.1 (fun x hx hU => h.2.1 x hx (fun q => by rw [q, h2] at hU; cases hU)) (by omega) h1
/-- a closed set out of which nothing more goes gives a cut of that size -/
theorem Res.isCut (h : Res n s t a sh fi ρ k) (hn : n ≤ 8) (hs : s < n) (ht : t < n) (hG : Gok n a) (hss : ¬ mb sh s) (hst : ¬ mb sh t) {U : Nat → Bool} (h1 : U (2 * s + 1) = true) (h2 : U (2 * t) = false) (hz : ∀ x y, x < 16 → y < 16 → U x = true → U y = false → ρ x y = 0) (hk : k < 9) : ∃ C, Cut n s t a sh fi C ∧ pc C + dr a s t = k := by
  have hc := h.cut (by omega) h1 h2
  have h0 : dsO 16 U ρ = 0 := by
    unfold dsO
    refine sm_zero fun x hx => sm_zero fun y hy => ?_
    cases hx1 : U x <;> cases hy1 : U y <;> simp
    exact hz x y hx hy hx1 hy1
  rw [h0, Nat.zero_add] at hc
  have hterm : ∀ x y, x < 16 → y < 16 → U x = true → U y = false → cp n s t a sh fi x y < 9 := fun x y hx hy q1 q2 => by
    have := dsO_ge (g := cp n s t a sh fi) hx hy q1 q2
    omega
  -- an edge that isn't the ends' own doesn't leave the set
  have hedge : ∀ u v, u < n → v < n → ¬ mb sh u → ¬ mb sh v → mb (a u) v → ¬ (u = s ∧ v = t) → U (2 * u + 1) = true → U (2 * v) = true := by
    intro u v hu hv q1 q2 q3 q4 q5
    cases hU : U (2 * v) with
    | true => rfl
    | false =>
      have := hterm (2 * u + 1) (2 * v) (by omega) (by omega) q5 hU
      rw [cp_oe, if_pos ⟨hv, hu, q1, q2, q3⟩, if_neg q4] at this
      omega
  let C := mkm (fun v => U (2 * v) && !U (2 * v + 1) && !sh.testBit v) n
  have hC : ∀ v, mb C v ↔ v < n ∧ U (2 * v) = true ∧ U (2 * v + 1) = false ∧ ¬ mb sh v := by
    intro v
    show mb (mkm _ n) v ↔ _
    rw [mkm_bit]
    simp [and_assoc]
  have hCc : ∀ v, mb C v → ¬ (v = s ∨ v = t ∨ mb fi v) := by
    intro v hv q
    obtain ⟨q1, q2, q3, q4⟩ := (hC v).mp hv
    have := hterm (2 * v) (2 * v + 1) (by omega) (by omega) q2 q3
    rw [cp_e, if_pos ⟨rfl, q1, q4⟩, if_pos q] at this
    omega
  refine ⟨C, ⟨fun v hv => ?_, fun hL => ?_⟩, ?_⟩
  · obtain ⟨q1, q2, q3, q4⟩ := (hC v).mp hv
    have q5 := hCc v hv
    exact ⟨q1, fun z => q5 (Or.inl z), fun z => q5 (Or.inr (Or.inl z)), q4, fun z => q5 (Or.inr (Or.inr z))⟩
  · have hX : ∀ v, mb (dif (dif (inn n s t) sh) C) v → v < n ∧ v ≠ s ∧ v ≠ t ∧ ¬ mb sh v ∧ ¬ mb C v := by
      intro v hv
      rw [mb_dif, mb_dif, mb_inn] at hv
      exact ⟨hv.1.1.1, hv.1.1.2.1, hv.1.1.2.2, hv.1.2, hv.2⟩
    have hin : ∀ v, mb (dif (dif (inn n s t) sh) C) v → U (2 * v) = true → U (2 * v + 1) = true := by
      intro v hv q
      obtain ⟨q1, q2, q3, q4, q5⟩ := hX v hv
      cases hU : U (2 * v + 1) with
      | true => rfl
      | false => exact absurd ((hC v).mpr ⟨q1, q, hU, q4⟩) q5
    obtain ⟨x, hx, hZ, hm⟩ := hL (fun v => U (2 * v + 1) = true) (fun v hv hm => by
      obtain ⟨q1, q2, q3, q4, q5⟩ := hX v hv
      exact hin v hv (hedge s v hs q1 hss q4 hm (fun z => q3 z.2) h1)) (fun x y hx hZ hy hm => by
      obtain ⟨q1, q2, q3, q4, q5⟩ := hX x hx
      obtain ⟨r1, r2, r3, r4, r5⟩ := hX y hy
      exact hin y hy (hedge x y q1 r1 q4 r4 hm (fun z => q2 z.1) hZ))
    obtain ⟨q1, q2, q3, q4, q5⟩ := hX x hx
    have := hedge x t q1 ht q4 hst (hG t ht x hm).2.2 (fun z => q2 z.1) hZ
    rw [h2] at this
    cases this
  · rw [hc, dsO_rows, ← pc_dr C s (dr a s t) (by omega)]
    refine fb_sm_cong fun v hv => ?_
    have e1 : fb_sm (fun y => if U (2 * v) && !U y then cp n s t a sh fi (2 * v) y else 0) 16 = if C.testBit v then 1 else 0 := by
      rw [sm_one (y := 2 * v + 1) (by omega) (fun y _ hy => if_z (by rw [cp_e, if_neg (fun z => hy z.1)]))]
      by_cases hm : mb C v
      · obtain ⟨q1, q2, q3, q4⟩ := (hC v).mp hm
        have hcv : cp n s t a sh fi (2 * v) (2 * v + 1) = 1 := by rw [cp_e, if_pos ⟨rfl, q1, q4⟩, if_neg (hCc v hm)]
        rw [hcv, q2, q3, show C.testBit v = true from hm]
        rfl
      · rw [nmb hm]
        cases q2 : U (2 * v) <;> cases q3 : U (2 * v + 1) <;> simp
        rw [cp_e, if_neg]
        intro q
        exact hm ((hC v).mpr ⟨q.2.1, q2, q3, q.2.2⟩)
    have e2 : fb_sm (fun y => if U (2 * v + 1) && !U y then cp n s t a sh fi (2 * v + 1) y else 0) 16 = if v = s then dr a s t else 0 := by
      by_cases hvs : v = s
      · subst hvs
        rw [if_pos rfl, sm_one (y := 2 * t) (by omega)]
        · rw [h1, h2]
          unfold dr
          by_cases hm : mb (a v) t
          · have hcv : cp n v t a sh fi (2 * v + 1) (2 * t) = 1 := by rw [cp_oe, if_pos ⟨ht, hs, hss, hst, hm⟩, if_pos ⟨rfl, rfl⟩]
            rw [hcv, show (a v).testBit t = true from hm]
            rfl
          · have hcv : cp n v t a sh fi (2 * v + 1) (2 * t) = 0 := by rw [cp_oe, if_neg (fun q => hm q.2.2.2.2)]
            rw [hcv, nmb hm]
            rfl
        · intro y hy hne
          rw [h1]
          cases hU : U y with
          | true => simp
          | false =>
            simp only [Bool.not_false, Bool.true_and, if_true]
            have hlt := hterm (2 * v + 1) y (by omega) hy h1 hU
            rw [cp_o] at hlt ⊢
            split
            · rename_i q
              rw [if_pos q, if_neg (by omega)] at hlt
              omega
            · rfl
      · rw [if_neg hvs]
        refine sm_zero fun y hy => ?_
        cases hU1 : U (2 * v + 1) with
        | false => simp
        | true =>
          cases hU : U y with
          | true => simp
          | false =>
            simp only [Bool.not_false, Bool.true_and, if_true]
            have hlt := hterm (2 * v + 1) y (by omega) hy hU1 hU
            rw [cp_o] at hlt ⊢
            split
            · rename_i q
              rw [if_pos q, if_neg (by omega)] at hlt
              omega
            · rfl
    rw [e1, e2]
/-- no more is pushed than any cut has room for -/
theorem Res.weak (h : Res n s t a sh fi ρ k) (hn : n ≤ 8) (hs : s < n) (ht : t < n) (hst : s ≠ t) (hG : Gok n a) {C : Nat} (hC : Cut n s t a sh fi C) : k ≤ pc C + dr a s t := by
  obtain ⟨hC1, hC2⟩ := hC
  obtain ⟨Z, z1, z2, z3⟩ := nLds hC2
  have hX : ∀ v, mb (dif (dif (inn n s t) sh) C) v ↔ v < n ∧ v ≠ s ∧ v ≠ t ∧ ¬ mb sh v ∧ ¬ mb C v := by
    intro v
    rw [mb_dif, mb_dif, mb_inn]
    constructor
    · rintro ⟨⟨⟨q1, q2, q3⟩, q4⟩, q5⟩; exact ⟨q1, q2, q3, q4, q5⟩
    · rintro ⟨q1, q2, q3, q4, q5⟩; exact ⟨⟨⟨q1, q2, q3⟩, q4⟩, q5⟩
  let In : Nat → Prop := fun v => v = s ∨ (mb (dif (dif (inn n s t) sh) C) v ∧ Z v)
  let Up : Nat → Prop := fun x => In (x / 2) ∨ (x % 2 = 0 ∧ mb C (x / 2))
  let U : Nat → Bool := fun x => @decide (Up x) (Classical.propDecidable _)
  have hU : ∀ x, U x = true ↔ Up x := fun x => by
    show @decide (Up x) (Classical.propDecidable _) = true ↔ Up x
    simp
  have hUn : ∀ x, U x = false ↔ ¬ Up x := fun x => by
    show @decide (Up x) (Classical.propDecidable _) = false ↔ ¬ Up x
    simp
  have hUe : ∀ v, Up (2 * v) ↔ In v ∨ mb C v := fun v => by
    show In (2 * v / 2) ∨ (2 * v % 2 = 0 ∧ mb C (2 * v / 2)) ↔ _
    rw [show 2 * v / 2 = v by omega]
    constructor
    · rintro (q | q)
      · exact Or.inl q
      · exact Or.inr q.2
    · rintro (q | q)
      · exact Or.inl q
      · exact Or.inr ⟨by omega, q⟩
  have hUo : ∀ v, Up (2 * v + 1) ↔ In v := fun v => by
    show In ((2 * v + 1) / 2) ∨ ((2 * v + 1) % 2 = 0 ∧ mb C ((2 * v + 1) / 2)) ↔ _
    rw [show (2 * v + 1) / 2 = v by omega]
    constructor
    · rintro (q | q)
      · exact q
      · omega
    · exact Or.inl
  have u1 : U (2 * s + 1) = true := (hU _).mpr ((hUo s).mpr (Or.inl rfl))
  have u2 : U (2 * t) = false := (hUn _).mpr fun q => by
    rcases (hUe t).mp q with (q1 | q1) | q1
    · exact hst q1.symm
    · exact ((hX t).mp q1.1).2.2.1 rfl
    · exact (hC1 t q1).2.2.1 rfl
  have hc := h.cut (by omega) u1 u2
  have hle : dsO 16 U (cp n s t a sh fi) ≤ pc C + dr a s t := by
    rw [dsO_rows, ← pc_dr C s (dr a s t) (by omega)]
    refine fb_sm_le fun v hv => ?_
    have e1 : fb_sm (fun y => if U (2 * v) && !U y then cp n s t a sh fi (2 * v) y else 0) 16 ≤ if C.testBit v then 1 else 0 := by
      rw [sm_one (y := 2 * v + 1) (by omega) (fun y _ hy => if_z (by rw [cp_e, if_neg (fun z => hy z.1)]))]
      cases q2 : U (2 * v) <;> cases q3 : U (2 * v + 1) <;> simp only [Bool.not_false, Bool.not_true, Bool.and_true, Bool.and_false, Bool.false_eq_true, if_false, if_true, Nat.zero_le]
      have hI : ¬ In v := fun z => (hUn _).mp q3 ((hUo v).mpr z)
      have hm : mb C v := by
        rcases (hUe v).mp ((hU _).mp q2) with z | z
        · exact absurd z hI
        · exact z
      obtain ⟨r1, r2, r3, r4, r5⟩ := hC1 v hm
      rw [cp_e, if_pos ⟨rfl, r1, r4⟩, if_neg (fun z => by rcases z with z | z | z; exact r2 z; exact r3 z; exact r5 z), show C.testBit v = true from hm]
      exact Nat.le_refl 1
    have hrow : ∀ y, U (2 * v + 1) = true → U y = false → cp n s t a sh fi (2 * v + 1) y ≠ 0 → v = s ∧ y = 2 * t := by
      intro y q1 q2 q3
      have q4 : y % 2 = 0 ∧ y / 2 < n ∧ v < n ∧ ¬ mb sh v ∧ ¬ mb sh (y / 2) ∧ mb (a v) (y / 2) := by
        refine Classical.byContradiction fun z => q3 ?_
        rw [cp_o, if_neg z]
      obtain ⟨p1, p2, p3, p4, p5, p6⟩ := q4
      have hy2 : y = 2 * (y / 2) := by omega
      generalize y / 2 = w at p2 p5 p6 hy2
      subst hy2
      have hw : ¬ (In w ∨ mb C w) := fun z => (hUn _).mp q2 ((hUe w).mpr z)
      have hv1 : In v := (hUo v).mp ((hU _).mp q1)
      have hwt : w = t := by
        refine Classical.byContradiction fun z => hw (Or.inl ?_)
        by_cases hws : w = s
        · exact Or.inl hws
        · have hXw : mb (dif (dif (inn n s t) sh) C) w := (hX w).mpr ⟨p2, hws, z, p5, fun q => hw (Or.inr q)⟩
          refine Or.inr ⟨hXw, ?_⟩
          rcases hv1 with e | ⟨e1, e2⟩
          · subst e; exact z1 w hXw p6
          · exact z2 v w e1 e2 hXw p6
      subst hwt
      rcases hv1 with e | ⟨e1, e2⟩
      · exact ⟨e, rfl⟩
      · exact absurd (hG v p3 w p6).2.2 (z3 v e1 e2)
    have e2 : fb_sm (fun y => if U (2 * v + 1) && !U y then cp n s t a sh fi (2 * v + 1) y else 0) 16 ≤ if v = s then dr a s t else 0 := by
      by_cases hvs : v = s
      · subst hvs
        rw [if_pos rfl, sm_one (y := 2 * t) (by omega)]
        · rw [u1, u2]
          unfold dr
          by_cases hm : mb (a v) t
          · have hcv : cp n v t a sh fi (2 * v + 1) (2 * t) ≤ 1 := by
              rw [cp_oe]
              split
              · rw [if_pos ⟨rfl, rfl⟩]; exact Nat.le_refl 1
              · exact Nat.zero_le 1
            rw [show (a v).testBit t = true from hm]
            exact hcv
          · have hcv : cp n v t a sh fi (2 * v + 1) (2 * t) = 0 := by rw [cp_oe, if_neg (fun q => hm q.2.2.2.2)]
            rw [hcv]
            exact Nat.zero_le _
        · intro y hy hne
          cases q1 : U (2 * v + 1) <;> cases q2 : U y <;> simp
          refine Classical.byContradiction fun z => hne (hrow y q1 q2 z).2
      · rw [if_neg hvs]
        refine Nat.le_of_eq (sm_zero fun y hy => ?_)
        cases q1 : U (2 * v + 1) <;> cases q2 : U y <;> simp
        refine Classical.byContradiction fun z => hvs (hrow y q1 q2 z).1
    exact Nat.add_le_add e1 e2
  omega
end RES
end
section
/-! out of a flow: disjoint parts that lead -/
/-- a flow between vertices, at most one unit through each inner one -/
def FF (n s t : Nat) (a : Nat → Nat) (F : Nat → Nat → Nat) : Prop :=
  (∀ v, mb (inn n s t) v → fb_sm (fun u => F u v) 8 = fb_sm (fun u => F v u) 8 ∧ fb_sm (fun u => F u v) 8 ≤ 1) ∧
  (∀ u v, u < 8 → v < 8 → 0 < F u v → u < n ∧ mb (a u) v) ∧
  (∀ u, u < 8 → F u s = 0)
/-- how much starts in X -/
def stX (s : Nat) (F : Nat → Nat → Nat) (X : Nat) : Nat := fb_sm (fun u => if X.testBit u then F s u else 0) 8
theorem FF.parts {n s t : Nat} {a : Nat → Nat} {F : Nat → Nat → Nat} (hn : n ≤ 8) (hs : s < n) (ht : t < n) (hG : Gok n a) (hF : FF n s t a F) : ∀ (p X : Nat), (∀ v, mb X v → mb (inn n s t) v) → (∀ u v, mb (inn n s t) u → mb (inn n s t) v → 0 < F u v → (mb X u ↔ mb X v)) → p ≤ stX s F X → Pk a s t p X := by
  obtain ⟨f1, f2, f3⟩ := hF
  have hi : ∀ v, mb (inn n s t) v → v < 8 ∧ v ≠ s ∧ v ≠ t := fun v hv => by
    have := mb_inn.mp hv
    exact ⟨by omega, this.2.1, this.2.2⟩
  intro p
  induction p with
  | zero => intro X _ _ _; trivial
  | succ p ih =>
    intro X hX hcl hst
    obtain ⟨v, hv8, hv⟩ := sm_pos (g := fun u => if X.testBit u then F s u else 0) (n := 8) (by unfold stX at hst; omega)
    have hvX : mb X v := by
      refine Classical.byContradiction fun q => ?_
      rw [nmb q] at hv
      simp at hv
    have hv : 0 < F s v := by
      rw [show X.testBit v = true from hvX] at hv
      simpa using hv
    have hvI := hX v hvX
    -- the set that v's flow goes through
    let Q : Nat → Prop := fun w => mb X w ∧ ∀ Z : Nat → Prop, Z v → (∀ x y, Z x → mb X y → 0 < F x y → Z y) → Z w
    have hQ : ∀ w, mb (mkP Q) w ↔ Q w := fun w => by
      rw [mb_mkP]
      exact ⟨fun h => h.2, fun h => ⟨(hi w (hX w h.1)).1, h⟩⟩
    have hQX : ∀ w, Q w → mb X w := fun w h => h.1
    have hQv : Q v := ⟨hvX, fun Z h1 _ => h1⟩
    have hQs : ∀ x y, Q x → mb X y → 0 < F x y → Q y := fun x y hx hy hxy => ⟨hy, fun Z h1 h2 => h2 x y (hx.2 Z h1 h2) hy hxy⟩
    have hQp : ∀ w, Q w → w ≠ v → ∃ x, Q x ∧ 0 < F x w := by
      intro w hw hne
      refine Classical.byContradiction fun hno => ?_
      have := hw.2 (fun z => Q z ∧ z ≠ w) ⟨hQv, Ne.symm hne⟩ (fun x y hx hy hxy => by
        have hq := hQs x y hx.1 hy hxy
        refine ⟨hq, fun e => ?_⟩
        subst e
        exact hno ⟨x, hx.1, hxy⟩)
      exact this.2 rfl
    have hone : ∀ w x y, mb (inn n s t) w → x < 8 → y < 8 → 0 < F x w → 0 < F y w → x = y := by
      intro w x y hw hx hy h1 h2
      refine Classical.byContradiction fun hne => ?_
      have h3 := sm_two (g := fun u => F u w) hx hy hne
      have h4 := (f1 w hw).2
      omega
    have hs8 : s < 8 := by omega
    have hQb : ∀ u w, mb (inn n s t) u → Q w → 0 < F u w → Q u := by
      intro u w hu hw huw
      by_cases hwv : w = v
      · subst hwv
        have := hone w s u (hX w hw.1) hs8 (hi u hu).1 hv huw
        exact absurd this.symm (hi u hu).2.1
      · obtain ⟨x, hx, hxw⟩ := hQp w hw hwv
        have := hone w x u (hX w hw.1) (hi x (hX x hx.1)).1 (hi u hu).1 hxw huw
        rw [← this]
        exact hx
    have hLd : Lds a s t (mkP Q) := by
      intro Z z1 z2
      have hall : ∀ w, Q w → Z w := by
        intro w hw
        have := hw.2 (fun z => Q z ∧ Z z) ⟨hQv, z1 v ((hQ v).mpr hQv) (f2 s v hs8 hv8 hv).2⟩ (fun x y hx hy hxy => by
          have hq := hQs x y hx.1 hy hxy
          exact ⟨hq, z2 x y ((hQ x).mpr hx.1) hx.2 ((hQ y).mpr hq) (f2 x y (hi x (hX x hx.1.1)).1 (hi y (hX y hy)).1 hxy).2⟩)
        exact this.2
      refine Classical.byContradiction fun hno => ?_
      have hnt : ∀ x, Q x → F x t = 0 := by
        intro x hx
        refine Classical.byContradiction fun q => hno ⟨x, (hQ x).mpr hx, hall x hx, ?_⟩
        have hx8 := (hi x (hX x hx.1)).1
        have hxn := (mb_inn.mp (hX x hx.1)).1
        have := (f2 x t hx8 (by omega) (by omega)).2
        exact (hG x hxn t this).2.2
      have hb : ∀ w, (mkP Q).testBit w = true ↔ Q w := hQ
      -- out of the set, summed, is into it, summed
      have e1 : fb_sm (fun x => if (mkP Q).testBit x then fb_sm (fun y => F x y) 8 else 0) 8 = fb_sm (fun x => fb_sm (fun y => if (mkP Q).testBit x && (mkP Q).testBit y then F x y else 0) 8) 8 := by
        refine fb_sm_cong fun x _ => ?_
        by_cases hx : Q x
        · rw [(hb x).mpr hx]
          simp only [Bool.true_and, if_true]
          refine fb_sm_cong fun y hy => ?_
          by_cases hyq : Q y
          · rw [(hb y).mpr hyq]; simp
          · rw [nmb (fun z => hyq ((hb y).mp z))]
            simp only [Bool.false_eq_true, if_false]
            refine Classical.byContradiction fun hne => ?_
            have hx8 := (hi x (hX x hx.1)).1
            have hpos : 0 < F x y := by omega
            obtain ⟨g1, g2⟩ := f2 x y hx8 hy hpos
            have hyn := (hG x g1 y g2).1
            by_cases hys : y = s
            · subst hys; have := f3 x hx8; omega
            · by_cases hyt : y = t
              · subst hyt; have := hnt x hx; omega
              · have hyI : mb (inn n s t) y := mb_inn.mpr ⟨hyn, hys, hyt⟩
                exact hyq (hQs x y hx ((hcl x y (hX x hx.1) hyI hpos).mp hx.1) hpos)
        · rw [nmb (fun z => hx ((hb x).mp z))]
          simp only [Bool.false_eq_true, if_false, Bool.false_and]
          exact (sm_zero fun _ _ => rfl).symm
      have e2 : fb_sm (fun y => if (mkP Q).testBit y then fb_sm (fun x => F x y) 8 else 0) 8 = fb_sm (fun x => if (mkP Q).testBit x then fb_sm (fun y => F x y) 8 else 0) 8 := by
        refine fb_sm_cong fun x _ => ?_
        by_cases hx : Q x
        · rw [(hb x).mpr hx]
          simp only [if_true]
          exact (f1 x (hX x hx.1)).1
        · rw [nmb (fun z => hx ((hb x).mp z))]
          simp
      have e3 : fb_sm (fun y => fb_sm (fun x => if (mkP Q).testBit x && (mkP Q).testBit y then F x y else 0) 8 + (if y = v then 1 else 0)) 8 ≤ fb_sm (fun y => if (mkP Q).testBit y then fb_sm (fun x => F x y) 8 else 0) 8 := by
        refine fb_sm_le fun y _ => ?_
        by_cases hy : Q y
        · rw [(hb y).mpr hy]
          simp only [Bool.and_true, if_true]
          have hsQ : ¬ Q s := fun q => (hi s (hX s q.1)).2.1 rfl
          have e4 : fb_sm (fun x => if x = s then F s y else 0) 8 = F s y := by
            rw [sm_one hs8 (fun z _ hz => if_neg hz), if_pos rfl]
          have e5 : (if y = v then 1 else 0) ≤ F s y := by
            split
            · rename_i q; subst q; exact hv
            · exact Nat.zero_le _
          refine Nat.le_trans (Nat.add_le_add_left e5 _) ?_
          rw [← e4, ← fb_sm_add]
          refine fb_sm_le fun x _ => ?_
          by_cases hxs : x = s
          · subst hxs
            rw [nmb (fun z => hsQ ((hb x).mp z))]
            simp
          · rw [if_neg hxs, Nat.add_zero]
            split
            · exact Nat.le_refl _
            · exact Nat.zero_le _
        · have hyv : y ≠ v := fun q => hy (q ▸ hQv)
          rw [nmb (fun z => hy ((hb y).mp z)), if_neg hyv]
          simp only [Bool.and_false, Bool.false_eq_true, if_false]
          rw [sm_zero (fun _ _ => rfl)]
          exact Nat.le_refl _
      rw [fb_sm_add, sm_one (g := fun y => if y = v then 1 else 0) hv8 (fun z _ hz => if_neg hz), if_pos rfl, e2, e1, sm_swap] at e3
      omega
    refine ⟨mkP Q, fun w hw => hQX w ((hQ w).mp hw), hLd, ih (dif X (mkP Q)) (fun w hw => hX w (mb_dif.mp hw).1) ?_ ?_⟩
    · intro u w hu hw huw
      rw [mb_dif, mb_dif, hQ, hQ]
      have h1 := hcl u w hu hw huw
      constructor
      · rintro ⟨q1, q2⟩
        exact ⟨h1.mp q1, fun z => q2 (hQb u w hu z huw)⟩
      · rintro ⟨q1, q2⟩
        exact ⟨h1.mpr q1, fun z => q2 (hQs u w z q1 huw)⟩
    · have e6 : stX s F X = stX s F (dif X (mkP Q)) + F s v := by
        unfold stX
        have e7 : fb_sm (fun u => if u = v then F s v else 0) 8 = F s v := by
          rw [sm_one hv8 (fun z _ hz => if_neg hz), if_pos rfl]
        rw [← e7, ← fb_sm_add]
        refine fb_sm_cong fun u hu => ?_
        by_cases huv : u = v
        · subst huv
          have h1 : ¬ mb (dif X (mkP Q)) u := fun z => (mb_dif.mp z).2 ((hQ u).mpr hQv)
          rw [nmb h1, show X.testBit u = true from hvX]
          simp
        · rw [if_neg huv, Nat.add_zero]
          by_cases huQ : Q u
          · have h1 : ¬ mb (dif X (mkP Q)) u := fun z => (mb_dif.mp z).2 ((hQ u).mpr huQ)
            rw [nmb h1, show X.testBit u = true from huQ.1]
            simp only [if_true, Bool.false_eq_true, if_false]
            obtain ⟨x, hx, hxu⟩ := hQp u huQ huv
            refine Classical.byContradiction fun q => ?_
            have := hone u s x (hX u huQ.1) hs8 (hi x (hX x hx.1)).1 (by omega) hxu
            exact (hi x (hX x hx.1)).2.1 this.symm
          · by_cases hux : mb X u
            · have h1 : mb (dif X (mkP Q)) u := mb_dif.mpr ⟨hux, fun z => huQ ((hQ u).mp z)⟩
              rw [show X.testBit u = true from hux, show (dif X (mkP Q)).testBit u = true from h1]
            · have h1 : ¬ mb (dif X (mkP Q)) u := fun z => hux (mb_dif.mp z).1
              rw [nmb h1, nmb hux]
      have e8 : F s v ≤ 1 := Nat.le_trans (sm_ge (g := fun u => F u v) hs8) (f1 v hvI).2
      omega
end
section
/-! pushing one unit along a way; Menger's theorem -/
/-- one unit from y to x -/
def up2 (ρ : Nat → Nat → Nat) (y x : Nat) : Nat → Nat → Nat := fun u v => if u = y ∧ v = x then ρ y x - 1 else if u = x ∧ v = y then ρ x y + 1 else ρ u v
/-- ρ' is ρ with one unit pushed from f to x -/
def Psh (ρ ρ' : Nat → Nat → Nat) (f x : Nat) : Prop :=
  (∀ u v, u < 16 → v < 16 → ρ' u v + ρ' v u = ρ u v + ρ v u) ∧
  (∀ u, u < 16 → fb_sm (fun v => ρ' u v) 16 + (if u = f then 1 else 0) = fb_sm (fun v => ρ u v) 16 + (if u = x then 1 else 0))
theorem Psh.rf (ρ : Nat → Nat → Nat) (f : Nat) : Psh ρ ρ f f := ⟨fun _ _ _ _ => rfl, fun _ _ => rfl⟩
theorem Psh.tr {ρ ρ1 ρ2 : Nat → Nat → Nat} {f y x : Nat} (h : Psh ρ ρ1 f y) (h2 : Psh ρ1 ρ2 y x) : Psh ρ ρ2 f x := by
  refine ⟨fun u v hu hv => (h2.1 u v hu hv).trans (h.1 u v hu hv), fun u hu => ?_⟩
  have a1 := h.2 u hu
  have a2 := h2.2 u hu
  omega
theorem up2_at {ρ : Nat → Nat → Nat} {y x : Nat} : up2 ρ y x y x = ρ y x - 1 := if_pos ⟨rfl, rfl⟩
theorem up2_ta {ρ : Nat → Nat → Nat} {y x : Nat} (h : y ≠ x) : up2 ρ y x x y = ρ x y + 1 := by
  unfold up2
  rw [if_neg (fun q => h q.2), if_pos ⟨rfl, rfl⟩]
theorem up2_ne {ρ : Nat → Nat → Nat} {y x u v : Nat} (h1 : ¬ (u = y ∧ v = x)) (h2 : ¬ (u = x ∧ v = y)) : up2 ρ y x u v = ρ u v := by
  unfold up2
  rw [if_neg h1, if_neg h2]
theorem Psh.one {ρ : Nat → Nat → Nat} {y x : Nat} (hne : y ≠ x) (hx : x < 16) (hy : y < 16) (hp : 0 < ρ y x) : Psh ρ (up2 ρ y x) y x := by
  constructor
  · intro u v _ _
    by_cases h1 : u = y ∧ v = x
    · obtain ⟨rfl, rfl⟩ := h1
      rw [up2_at, up2_ta hne]
      omega
    · by_cases h2 : u = x ∧ v = y
      · obtain ⟨rfl, rfl⟩ := h2
        rw [up2_at, up2_ta hne]
        omega
      · rw [up2_ne h1 h2, up2_ne (fun q => h2 ⟨q.2, q.1⟩) (fun q => h1 ⟨q.2, q.1⟩)]
  · intro u _
    by_cases hu : u = y
    · subst hu
      rw [if_pos rfl, if_neg hne]
      have e : fb_sm (fun v => up2 ρ u x u v) 16 = fb_sm (fun v => if v = x then ρ u x - 1 else ρ u v) 16 := fb_sm_cong fun v _ => by
        by_cases hv : v = x
        · subst hv; rw [up2_at, if_pos rfl]
        · rw [up2_ne (fun q => hv q.2) (fun q => hne q.1), if_neg hv]
      have := fb_sm_upd (fun v => ρ u v) (ρ u x - 1) hx
      omega
    · by_cases hu2 : u = x
      · subst hu2
        rw [if_neg hu, if_pos rfl]
        have e : fb_sm (fun v => up2 ρ y u u v) 16 = fb_sm (fun v => if v = y then ρ u y + 1 else ρ u v) 16 := fb_sm_cong fun v _ => by
          by_cases hv : v = y
          · subst hv; rw [up2_ta hne, if_pos rfl]
          · rw [up2_ne (fun q => hu q.1) (fun q => hv q.2), if_neg hv]
        have := fb_sm_upd (fun v => ρ u v) (ρ u y + 1) hy
        omega
      · rw [if_neg hu, if_neg hu2]
        rw [fb_sm_cong (fun v _ => up2_ne (ρ := ρ) (v := v) (fun q => hu q.1) (fun q => hu2 q.1))]
section AUG
variable {n s t : Nat} {a : Nat → Nat} {sh fi : Nat} {ρ ρ' : Nat → Nat → Nat} {k : Nat}
/-- nothing goes on from the start's entry but to the start's exit -/
theorem Res.entry (h : Res n s t a sh fi ρ k) (hs : s < 8) {x : Nat} (hx : x < 16) (hp : 0 < ρ (2 * s) x) : x = 2 * s + 1 := by
  have h1 := h.1 (2 * s) x (by omega) hx
  have h2 := h.2.2 x hx
  have h3 : 0 < cp n s t a sh fi (2 * s) x := by omega
  rw [cp_e] at h3
  refine Classical.byContradiction fun q => ?_
  rw [if_neg (fun z => q z.1)] at h3
  exact Nat.lt_irrefl 0 h3
theorem Res.pushed (h : Res n s t a sh fi ρ k) (hp : Psh ρ ρ' (2 * s + 1) (2 * t)) (hz : ∀ x, x < 16 → ρ' x (2 * s) = ρ x (2 * s)) : Res n s t a sh fi ρ' (k + 1) := by
  refine ⟨fun x y hx hy => (hp.1 x y hx hy).trans (h.1 x y hx hy), fun x hx hne => ?_, fun x hx => (hz x hx).trans (h.2.2 x hx)⟩
  have h1 := hp.2 x hx
  have h2 := h.2.1 x hx hne
  rw [if_neg hne] at h1
  by_cases hf : x = 2 * s + 1
  · rw [if_pos hf] at h1 h2 ⊢
    omega
  · rw [if_neg hf] at h1 h2 ⊢
    omega
end AUG
/-- what is reached from f in at most i steps -/
def Dl (ρ : Nat → Nat → Nat) (f : Nat) : Nat → Nat → Prop
  | 0, x => x = f
  | i + 1, x => Dl ρ f i x ∨ (x < 16 ∧ ∃ y, y < 16 ∧ Dl ρ f i y ∧ 0 < ρ y x)
theorem Dl.aug {ρ : Nat → Nat → Nat} {f z : Nat} (hz : ∀ x, x < 16 → 0 < ρ z x → x = f) : ∀ (i x : Nat), Dl ρ f i x → (∀ j, j < i → ¬ Dl ρ f j x) → ∃ ρ', Psh ρ ρ' f x ∧ (∀ u v, ¬ (Dl ρ f i u ∧ Dl ρ f i v) → ρ' u v = ρ u v) ∧ (x ≠ z → ∀ u, ρ' u z = ρ u z) := by
  intro i
  induction i with
  | zero =>
    intro x hx _
    have hx : x = f := hx
    subst hx
    exact ⟨ρ, Psh.rf ρ x, fun _ _ _ => rfl, fun _ _ => rfl⟩
  | succ i ih =>
    intro x hx hj
    have hnx : ¬ Dl ρ f i x := hj i (by omega)
    rcases hx with hx | ⟨hx16, y, hy16, hy, hp⟩
    · exact absurd hx hnx
    · have hjy : ∀ j, j < i → ¬ Dl ρ f j y := fun j hji q => hj (j + 1) (by omega) (Or.inr ⟨hx16, y, hy16, q, hp⟩)
      obtain ⟨ρ1, p1, p2, p3⟩ := ih y hy hjy
      have hne : y ≠ x := fun q => hnx (q ▸ hy)
      have e1 : ρ1 y x = ρ y x := p2 y x (fun q => hnx q.2)
      refine ⟨up2 ρ1 y x, p1.tr (Psh.one hne hx16 hy16 (by omega)), ?_, ?_⟩
      · intro u v hn
        rw [up2_ne]
        · exact p2 u v (fun q => hn ⟨Or.inl q.1, Or.inl q.2⟩)
        · rintro ⟨rfl, rfl⟩
          exact hn ⟨Or.inl hy, Or.inr ⟨hx16, _, hy16, hy, hp⟩⟩
        · rintro ⟨rfl, rfl⟩
          exact hn ⟨Or.inr ⟨hx16, _, hy16, hy, hp⟩, Or.inl hy⟩
      · intro hxz u
        have hyz : y ≠ z := fun q => by
          subst q
          have hxf := hz x hx16 hp
          have h0 : ¬ Dl ρ f 0 x := hj 0 (by omega)
          exact h0 hxf
        rw [up2_ne (fun q => hxz q.2.symm) (fun q => hyz q.2.symm)]
        exact p3 hyz u
section MEN
variable {n s t : Nat} {a : Nat → Nat}
/-- a greatest flow -/
theorem flow_ex (hn : n ≤ 8) (hs : s < n) (ht : t < n) (hst : s ≠ t) (hG : Gok n a) : ∃ (ρ : Nat → Nat → Nat) (k : Nat) (U : Nat → Bool), Res n s t a 0 0 ρ k ∧ U (2 * s + 1) = true ∧ U (2 * t) = false ∧ ∀ x y, x < 16 → y < 16 → U x = true → U y = false → ρ x y = 0 := by
  refine Classical.byContradiction fun hno => ?_
  have hstep : ∀ ρ k, Res n s t a 0 0 ρ k → ∃ ρ', Res n s t a 0 0 ρ' (k + 1) := by
    intro ρ k h
    have hr : ∃ i, Dl ρ (2 * s + 1) i (2 * t) := by
      refine Classical.byContradiction fun hni => hno ⟨ρ, k, fun x => @decide (∃ i, Dl ρ (2 * s + 1) i x) (Classical.propDecidable _), h, ?_, ?_, ?_⟩
      · exact @decide_eq_true _ (Classical.propDecidable _) ⟨0, rfl⟩
      · exact @decide_eq_false _ (Classical.propDecidable _) hni
      · intro x y hx hy q1 q2
        obtain ⟨i, hi⟩ := @of_decide_eq_true _ (Classical.propDecidable _) q1
        have q3 := @of_decide_eq_false _ (Classical.propDecidable _) q2
        refine Classical.byContradiction fun q4 => q3 ⟨i + 1, Or.inr ⟨hy, x, hx, hi, ?_⟩⟩
        omega
    obtain ⟨i, h1, h2⟩ := pk_least (fun i => Dl ρ (2 * s + 1) i (2 * t)) hr
    obtain ⟨ρ', p1, -, p3⟩ := Dl.aug (z := 2 * s) (fun x hx hp => h.entry (by omega) hx hp) i (2 * t) h1 h2
    exact ⟨ρ', h.pushed p1 (fun x _ => p3 (by omega) x)⟩
  have hall : ∀ k, ∃ ρ, Res n s t a 0 0 ρ k := by
    intro k
    induction k with
    | zero => exact ⟨_, Res.start n s t a 0 0 (ρ := cp n s t a 0 0) (fun _ _ _ _ => rfl) (by omega)⟩
    | succ k ih =>
      obtain ⟨ρ, h⟩ := ih
      exact hstep ρ k h
  obtain ⟨ρ, h⟩ := hall 20
  have h1 := h.weak hn hs ht hst hG (cut_all n s t a 0)
  have h2 := pc_le (dif (inn n s t) 0)
  have h3 := dr_le a s t
  omega
/-- the flow between vertices that is left behind in the room -/
theorem Res.ff {ρ : Nat → Nat → Nat} {k : Nat} (h : Res n s t a 0 0 ρ k) (hn : n ≤ 8) (hs : s < n) (ht : t < n) (hst : s ≠ t) (hG : Gok n a) : ∃ F : Nat → Nat → Nat, FF n s t a F ∧ fb_sm (fun u => F s u) 8 = k ∧ F s t ≤ dr a s t := by
  have hcl : ∀ v, v < n → ¬ mb (a v) v := fun v hv q => (hG v hv v q).2.1 rfl
  have hoe : ∀ u v, u < 8 → v < 8 → u ≠ v → ρ (2 * u + 1) (2 * v) + ρ (2 * v) (2 * u + 1) = cp n s t a 0 0 (2 * u + 1) (2 * v) := fun u v hu hv hne => by
    rw [h.1 _ _ (by omega) (by omega), cp_eo hne, Nat.add_zero]
  have hee : ∀ u v, u < 8 → v < 8 → ρ (2 * u) (2 * v) = 0 := fun u v hu hv => by
    have := h.1 (2 * u) (2 * v) (by omega) (by omega)
    rw [cp_ee, cp_ee] at this
    omega
  have hoo : ∀ u v, u < 8 → v < 8 → ρ (2 * u + 1) (2 * v + 1) = 0 := fun u v hu hv => by
    have := h.1 (2 * u + 1) (2 * v + 1) (by omega) (by omega)
    rw [cp_oo, cp_oo] at this
    omega
  let F : Nat → Nat → Nat := fun u v => if u = v then 0 else ρ (2 * v) (2 * u + 1)
  have hFne : ∀ u v, u ≠ v → F u v = ρ (2 * v) (2 * u + 1) := fun u v q => if_neg q
  have hFs : ∀ u, F u u = 0 := fun u => if_pos rfl
  have hself : ∀ v, v < 8 → cp n s t a 0 0 (2 * v + 1) (2 * v) = 0 := fun v hv => by
    rw [cp_oe, if_neg]
    intro q
    exact hcl v q.1 q.2.2.2.2
  -- what leaves a vertex is what is left in its exit's row
  have hout : ∀ v, v < 8 → fb_sm (fun y => ρ (2 * v + 1) y) 16 + fb_sm (fun u => F v u) 8 = fb_sm (fun y => cp n s t a 0 0 (2 * v + 1) y) 16 + ρ (2 * v + 1) (2 * v) := by
    intro v hv
    have e1 : fb_sm (fun u => if u = v then ρ (2 * v + 1) (2 * v) else 0) 8 = ρ (2 * v + 1) (2 * v) := by
      rw [sm_one hv (fun z _ hz => if_neg hz), if_pos rfl]
    rw [show (16 : Nat) = 2 * 8 from rfl, sm_pair, sm_pair, ← e1, ← fb_sm_add, ← fb_sm_add]
    refine fb_sm_cong fun u hu => ?_
    rw [hoo v u hv hu, cp_oo]
    by_cases huv : u = v
    · subst huv
      rw [hFs, if_pos rfl, hself u hu]
      omega
    · rw [if_neg huv, hFne v u (Ne.symm huv)]
      have := hoe v u hv hu (Ne.symm huv)
      omega
  have hin : ∀ v, mb (inn n s t) v → fb_sm (fun u => F u v) 8 + ρ (2 * v) (2 * v + 1) = 1 := by
    intro v hv
    obtain ⟨v1, v2, v3⟩ := mb_inn.mp hv
    have hv8 : v < 8 := by omega
    have e1 := h.2.1 (2 * v) (by omega) (by omega)
    rw [if_neg (by omega), Nat.add_zero] at e1
    have e2 : fb_sm (fun y => cp n s t a 0 0 (2 * v) y) 16 = 1 := by
      rw [sm_one (y := 2 * v + 1) (by omega) (fun y _ hy => by rw [cp_e, if_neg (fun z => hy z.1)]), cp_e, if_pos ⟨rfl, v1, mb_0⟩, if_neg]
      rintro (q | q | q)
      · exact v2 q
      · exact v3 q
      · exact mb_0 q
    rw [e2, show (16 : Nat) = 2 * 8 from rfl, sm_pair] at e1
    have e3 : fb_sm (fun u => ρ (2 * v) (2 * u) + ρ (2 * v) (2 * u + 1)) 8 = fb_sm (fun u => ρ (2 * v) (2 * u + 1)) 8 := fb_sm_cong fun u hu => by
      rw [hee v u hv8 hu, Nat.zero_add]
    have e4 := fb_sm_upd (fun u => ρ (2 * v) (2 * u + 1)) 0 hv8
    have e5 : fb_sm (fun u => F u v) 8 = fb_sm (fun u => if u = v then 0 else ρ (2 * v) (2 * u + 1)) 8 := rfl
    omega
  refine ⟨F, ⟨fun v hv => ?_, fun u v hu hv hp => ?_, fun u hu => ?_⟩, ?_, ?_⟩
  · obtain ⟨v1, v2, v3⟩ := mb_inn.mp hv
    have e1 := hin v hv
    have e2 := hout v (by omega)
    have e3 := h.2.1 (2 * v + 1) (by omega) (by omega)
    rw [if_neg (by omega), Nat.add_zero] at e3
    have e4 := h.1 (2 * v + 1) (2 * v) (by omega) (by omega)
    rw [hself v (by omega), cp_e, if_pos ⟨rfl, v1, mb_0⟩, if_neg (by
      rintro (q | q | q)
      · exact v2 q
      · exact v3 q
      · exact mb_0 q)] at e4
    constructor <;> omega
  · have hne : u ≠ v := fun q => by
      subst q
      rw [hFs] at hp
      exact Nat.lt_irrefl 0 hp
    rw [hFne u v hne] at hp
    have e1 := hoe u v hu hv hne
    have e2 : cp n s t a 0 0 (2 * u + 1) (2 * v) ≠ 0 := by omega
    rw [cp_oe] at e2
    have e3 : v < n ∧ u < n ∧ ¬ mb 0 u ∧ ¬ mb 0 v ∧ mb (a u) v := Classical.byContradiction fun q => e2 (if_neg q)
    exact ⟨e3.2.1, e3.2.2.2.2⟩
  · by_cases hus : u = s
    · subst hus; exact hFs u
    · rw [hFne u s hus]
      have e1 := hoe u s hu (by omega) hus
      have e2 := h.2.2 (2 * u + 1) (by omega)
      omega
  · have e2 := hout s (by omega)
    have e3 := h.2.1 (2 * s + 1) (by omega) (by omega)
    rw [if_pos rfl] at e3
    have e4 := h.2.2 (2 * s + 1) (by omega)
    rw [hself s (by omega)] at e4
    omega
  · rw [hFne s t hst]
    have e1 := hoe s t (by omega) (by omega) hst
    have e2 : cp n s t a 0 0 (2 * s + 1) (2 * t) ≤ dr a s t := by
      rw [cp_oe]
      unfold dr
      by_cases hm : mb (a s) t
      · rw [if_pos (show (a s).testBit t = true from hm)]
        split
        · rw [if_pos ⟨rfl, rfl⟩]; exact Nat.le_refl 1
        · exact Nat.zero_le 1
      · rw [if_neg (fun q => hm q.2.2.2.2)]
        exact Nat.zero_le _
    omega
/-- Menger's theorem: as many disjoint parts that lead as the least cut has vertices -/
theorem menger (hn : n ≤ 8) (hs : s < n) (ht : t < n) (hst : s ≠ t) (hG : Gok n a) : ∃ p, Mx a s t (inn n s t) p ∧ fl n s t a 0 0 = dr a s t + p := by
  obtain ⟨ρ, k, U, h, u1, u2, u3⟩ := flow_ex hn hs ht hst hG
  have hk : k < 9 := by
    have h1 := h.weak hn hs ht hst hG (cut_all n s t a 0)
    have h2 : pc (dif (inn n s t) 0) < 8 := by
      refine Nat.lt_of_le_of_ne (pc_le _) fun q => ?_
      have h3 := pc_full q s (by omega)
      rw [mb_dif, mb_inn] at h3
      exact h3.1.2.1 rfl
    have := dr_le a s t
    omega
  obtain ⟨C, hC, hCk⟩ := h.isCut hn hs ht hG mb_0 mb_0 u1 u2 u3 hk
  have hfl : fl n s t a 0 0 = k := fl_eq ⟨by omega, fun _ => ⟨C, hC, hCk⟩, fun D hD => h.weak hn hs ht hst hG hD⟩
  obtain ⟨F, hF, hFk, hFt⟩ := h.ff hn hs ht hst hG
  have hst2 : k ≤ stX s F (inn n s t) + dr a s t := by
    rw [← hFk]
    refine Nat.le_trans ?_ (Nat.add_le_add_left hFt _)
    have e1 : fb_sm (fun u => if u = t then F s t else 0) 8 = F s t := by
      rw [sm_one (by omega) (fun z _ hz => if_neg hz), if_pos rfl]
    unfold stX
    rw [← e1, ← fb_sm_add]
    refine fb_sm_le fun u hu => ?_
    by_cases hut : u = t
    · subst hut
      rw [if_pos rfl]
      omega
    · rw [if_neg hut, Nat.add_zero]
      by_cases hp : 0 < F s u
      · obtain ⟨q1, q2⟩ := hF.2.1 s u (by omega) hu hp
        have q3 := hG s hs u q2
        have q4 : mb (inn n s t) u := mb_inn.mpr ⟨q3.1, q3.2.1, hut⟩
        rw [show (inn n s t).testBit u = true from q4]
        exact Nat.le_refl _
      · omega
  have hpk := hF.parts hn hs ht hG (k - dr a s t) (inn n s t) (fun _ h => h) (fun u v hu hv _ => ⟨fun _ => hv, fun _ => hu⟩) (by omega)
  refine ⟨k - dr a s t, ⟨hpk, fun q hq => ?_⟩, by omega⟩
  have hC2 : ¬ Lds a s t (dif (inn n s t) C) := by
    have := hC.2
    rw [dif_0] at this
    exact this
  have hb : inn n s t < 256 := Nat.lt_of_lt_of_le (inn_lt n s t) (Nat.pow_le_pow_right (by decide) hn)
  have := hq.cut hb hC2
  omega
end MEN
end
section
/-! rows over small numbers: nI on the stack -/
/-- an entry that may be 'none' (-1) -/
def oI : Option Nat → Int32
  | none => -1
  | some x => nI x
theorem sh_l : ∀ n, n < 32 → ((nI n &&& 31).toBitVec.smod 32).toNat = n := by decide
theorem nI_m1 : (-1 : Int32) = nI 4294967295 := by decide
theorem nI_mod (x : Nat) : nI (x % 4294967296) = nI x := by
  apply Int32.toBitVec_inj.mp
  apply BitVec.eq_of_toNat_eq
  show (BitVec.ofNat 32 (x % 4294967296)).toNat = (BitVec.ofNat 32 x).toNat
  simp
theorem nI_dif {x : Nat} (y : Nat) (h : x < 2 ^ 31) : nI x &&& (nI y ^^^ (-1)) = nI (dif x y) := by
  rw [nI_m1, fb_xorI, fa_and]
  congr 1
  apply mb_iff
  intro v
  rw [mb_and, mb_dif]
  unfold mb
  rw [Nat.testBit_xor]
  by_cases hv : v < 32
  · have e : Nat.testBit 4294967295 v = true := by
      rw [show 4294967295 = 2 ^ 32 - 1 from rfl, Nat.testBit_two_pow_sub_one]
      exact decide_eq_true hv
    rw [e]
    cases x.testBit v <;> cases y.testBit v <;> decide
  · have e : x.testBit v = false := Nat.testBit_lt_two_pow (Nat.lt_of_lt_of_le h (Nat.pow_le_pow_right (by decide) (by omega)))
    rw [e]
    simp
theorem bit_toNat (x v : Nat) : nI (x / 2 ^ v) &&& nI 1 = nI (x.testBit v).toNat := by
  rw [fa_and, Nat.and_one_is_mod, Nat.toNat_testBit]
theorem bN_lt (b : Bool) : b.toNat < 2 ^ 31 := by cases b <;> decide
section NV
variable {p : Program} {l : Launch} {e : Env} {R : Room} {s : State} {m : MethodId} {args : Array Value} {below : List Frame} {meth : Method} {c : Code} {H : Heap} {locs : List Loc} {cells slots : Nat} {Q : State → Prop} {pc : Nat} {ls : Array Slot} {rest : List Value} {cc : ByteArray} {x y : Nat}
theorem nv_iadd (hx : p.tables.exec = Jvm.exec) (hb : c.code = cc) (hdg : decode cc pc = .ok (.iadd, 1)) (k : W p l e R s m args below meth c H locs cells slots Q (F0 m (pc + 1) ls (.int (nI (x + y)) :: rest))) : W p l e R s m args below meth c H locs cells slots Q (F0 m pc ls (.int (nI y) :: .int (nI x) :: rest)) :=
  lv_iadd hx hb hdg (by rw [nI_add]; exact k)
theorem nv_imul (hx : p.tables.exec = Jvm.exec) (hb : c.code = cc) (hdg : decode cc pc = .ok (.imul, 1)) (k : W p l e R s m args below meth c H locs cells slots Q (F0 m (pc + 1) ls (.int (nI (x * y)) :: rest))) : W p l e R s m args below meth c H locs cells slots Q (F0 m pc ls (.int (nI y) :: .int (nI x) :: rest)) :=
  lv_imul hx hb hdg (by rw [pk_mul]; exact k)
theorem nv_isub (hx : p.tables.exec = Jvm.exec) (hb : c.code = cc) (hdg : decode cc pc = .ok (.isub, 1)) (h : y ≤ x) (k : W p l e R s m args below meth c H locs cells slots Q (F0 m (pc + 1) ls (.int (nI (x - y)) :: rest))) : W p l e R s m args below meth c H locs cells slots Q (F0 m pc ls (.int (nI y) :: .int (nI x) :: rest)) :=
  lv_isub hx hb hdg (by rw [pk_sub h]; exact k)
theorem nv_iand (hx : p.tables.exec = Jvm.exec) (hb : c.code = cc) (hdg : decode cc pc = .ok (.iand, 1)) (k : W p l e R s m args below meth c H locs cells slots Q (F0 m (pc + 1) ls (.int (nI (x &&& y)) :: rest))) : W p l e R s m args below meth c H locs cells slots Q (F0 m pc ls (.int (nI y) :: .int (nI x) :: rest)) :=
  lv_iand hx hb hdg (by rw [fa_and]; exact k)
theorem nv_ior (hx : p.tables.exec = Jvm.exec) (hb : c.code = cc) (hdg : decode cc pc = .ok (.ior, 1)) (k : W p l e R s m args below meth c H locs cells slots Q (F0 m (pc + 1) ls (.int (nI (x ||| y)) :: rest))) : W p l e R s m args below meth c H locs cells slots Q (F0 m pc ls (.int (nI y) :: .int (nI x) :: rest)) :=
  lv_ior hx hb hdg (by rw [fa_or]; exact k)
/-- 1 << y -/
theorem nv_one (hx : p.tables.exec = Jvm.exec) (hb : c.code = cc) (hdg : decode cc pc = .ok (.ishl, 1)) (h : y < 31) (k : W p l e R s m args below meth c H locs cells slots Q (F0 m (pc + 1) ls (.int (nI (2 ^ y)) :: rest))) : W p l e R s m args below meth c H locs cells slots Q (F0 m pc ls (.int (nI y) :: .int (nI 1) :: rest)) :=
  lv_ishl hx hb hdg (by
    have h2 : 2 ^ y < 2 ^ 31 := Nat.pow_lt_pow_right (by decide) h
    rw [pk_shlN _ y (sh_l y (by omega)) (by omega), Nat.one_mul]; exact k)
/-- x >> y & 1: a bit -/
theorem nv_bit (hx : p.tables.exec = Jvm.exec) (hb : c.code = cc) (d1 : decode cc pc = .ok (.ishr, 1)) (d2 : decode cc (pc + 1) = .ok (.iconst 1, 1)) (d3 : decode cc (pc + 1 + 1) = .ok (.iand, 1)) (h : x < 2 ^ 31) (h2 : y < 32) (k : W p l e R s m args below meth c H locs cells slots Q (F0 m (pc + 3) ls (.int (nI (x.testBit y).toNat) :: rest))) : W p l e R s m args below meth c H locs cells slots Q (F0 m pc ls (.int (nI y) :: .int (nI x) :: rest)) := by
  refine lv_ishr hx hb d1 ?_
  rw [pk_shrN h _ y (sh_l y h2)]
  refine lv_iconst (v := nI 1) hx hb d2 (by decide) ?_
  refine lv_iand hx hb d3 ?_
  rw [bit_toNat]
  exact k
/-- x & ~y -/
theorem nv_dif (hx : p.tables.exec = Jvm.exec) (hb : c.code = cc) (d1 : decode cc pc = .ok (.iconst (-1), 1)) (d2 : decode cc (pc + 1) = .ok (.ixor, 1)) (d3 : decode cc (pc + 1 + 1) = .ok (.iand, 1)) (h : x < 2 ^ 31) (k : W p l e R s m args below meth c H locs cells slots Q (F0 m (pc + 3) ls (.int (nI (dif x y)) :: rest))) : W p l e R s m args below meth c H locs cells slots Q (F0 m pc ls (.int (nI y) :: .int (nI x) :: rest)) := by
  refine lv_iconst (v := -1) hx hb d1 (by decide) ?_
  refine lv_ixor hx hb d2 ?_
  refine lv_iand hx hb d3 ?_
  rw [nI_dif y h]
  exact k
theorem nv_icmp_eq {off : Int} {tgt : Nat} (hx : p.tables.exec = Jvm.exec) (hb : c.code = cc) (hdg : decode cc pc = .ok (.if_icmp .eq off, 3)) (ht : (pc : Int) + off = (tgt : Int)) (h : x < 2 ^ 31 ∧ y < 2 ^ 31) (kt : x = y → W p l e R s m args below meth c H locs cells slots Q (F0 m tgt ls rest)) (kf : ¬ x = y → W p l e R s m args below meth c H locs cells slots Q (F0 m (pc + 3) ls rest)) : W p l e R s m args below meth c H locs cells slots Q (F0 m pc ls (.int (nI y) :: .int (nI x) :: rest)) :=
  lv_icmp_eq hx hb hdg ht (fun q => kt ((nI_eq h.1 h.2).mp q)) (fun q => kf (fun z => q ((nI_eq h.1 h.2).mpr z)))
theorem nv_icmp_ne {off : Int} {tgt : Nat} (hx : p.tables.exec = Jvm.exec) (hb : c.code = cc) (hdg : decode cc pc = .ok (.if_icmp .ne off, 3)) (ht : (pc : Int) + off = (tgt : Int)) (h : x < 2 ^ 31 ∧ y < 2 ^ 31) (kt : ¬ x = y → W p l e R s m args below meth c H locs cells slots Q (F0 m tgt ls rest)) (kf : x = y → W p l e R s m args below meth c H locs cells slots Q (F0 m (pc + 3) ls rest)) : W p l e R s m args below meth c H locs cells slots Q (F0 m pc ls (.int (nI y) :: .int (nI x) :: rest)) :=
  lv_icmp_ne hx hb hdg ht (fun q => kt (fun z => q ((nI_eq h.1 h.2).mpr z))) (fun q => kf ((nI_eq h.1 h.2).mp q))
theorem nv_icmp_lt {off : Int} {tgt : Nat} (hx : p.tables.exec = Jvm.exec) (hb : c.code = cc) (hdg : decode cc pc = .ok (.if_icmp .lt off, 3)) (ht : (pc : Int) + off = (tgt : Int)) (h : x < 2 ^ 31 ∧ y < 2 ^ 31) (kt : x < y → W p l e R s m args below meth c H locs cells slots Q (F0 m tgt ls rest)) (kf : y ≤ x → W p l e R s m args below meth c H locs cells slots Q (F0 m (pc + 3) ls rest)) : W p l e R s m args below meth c H locs cells slots Q (F0 m pc ls (.int (nI y) :: .int (nI x) :: rest)) :=
  lv_icmp_lt hx hb hdg ht (fun q => kt ((nI_ltI h.1 h.2).mp q)) (fun q => kf (Nat.le_of_not_lt fun z => q ((nI_ltI h.1 h.2).mpr z)))
theorem nv_icmp_ge {off : Int} {tgt : Nat} (hx : p.tables.exec = Jvm.exec) (hb : c.code = cc) (hdg : decode cc pc = .ok (.if_icmp .ge off, 3)) (ht : (pc : Int) + off = (tgt : Int)) (h : x < 2 ^ 31 ∧ y < 2 ^ 31) (kt : y ≤ x → W p l e R s m args below meth c H locs cells slots Q (F0 m tgt ls rest)) (kf : x < y → W p l e R s m args below meth c H locs cells slots Q (F0 m (pc + 3) ls rest)) : W p l e R s m args below meth c H locs cells slots Q (F0 m pc ls (.int (nI y) :: .int (nI x) :: rest)) :=
  lv_icmp_ge hx hb hdg ht (fun q => kt ((nI_leI h.2 h.1).mp q)) (fun q => kf (Nat.lt_of_not_le fun z => q ((nI_leI h.2 h.1).mpr z)))
theorem nv_icmp_gt {off : Int} {tgt : Nat} (hx : p.tables.exec = Jvm.exec) (hb : c.code = cc) (hdg : decode cc pc = .ok (.if_icmp .gt off, 3)) (ht : (pc : Int) + off = (tgt : Int)) (h : x < 2 ^ 31 ∧ y < 2 ^ 31) (kt : y < x → W p l e R s m args below meth c H locs cells slots Q (F0 m tgt ls rest)) (kf : x ≤ y → W p l e R s m args below meth c H locs cells slots Q (F0 m (pc + 3) ls rest)) : W p l e R s m args below meth c H locs cells slots Q (F0 m pc ls (.int (nI y) :: .int (nI x) :: rest)) :=
  lv_icmp_gt hx hb hdg ht (fun q => kt ((nI_ltI h.2 h.1).mp q)) (fun q => kf (Nat.le_of_not_lt fun z => q ((nI_ltI h.2 h.1).mpr z)))
theorem nv_icmp_le {off : Int} {tgt : Nat} (hx : p.tables.exec = Jvm.exec) (hb : c.code = cc) (hdg : decode cc pc = .ok (.if_icmp .le off, 3)) (ht : (pc : Int) + off = (tgt : Int)) (h : x < 2 ^ 31 ∧ y < 2 ^ 31) (kt : x ≤ y → W p l e R s m args below meth c H locs cells slots Q (F0 m tgt ls rest)) (kf : y < x → W p l e R s m args below meth c H locs cells slots Q (F0 m (pc + 3) ls rest)) : W p l e R s m args below meth c H locs cells slots Q (F0 m pc ls (.int (nI y) :: .int (nI x) :: rest)) :=
  lv_icmp_le hx hb hdg ht (fun q => kt ((nI_leI h.1 h.2).mp q)) (fun q => kf (Nat.lt_of_not_le fun z => q ((nI_leI h.1 h.2).mpr z)))
theorem nv_if_le {off : Int} {tgt : Nat} (hx : p.tables.exec = Jvm.exec) (hb : c.code = cc) (hdg : decode cc pc = .ok (.ifCond .le off, 3)) (ht : (pc : Int) + off = (tgt : Int)) (h : x < 2 ^ 31) (kt : x = 0 → W p l e R s m args below meth c H locs cells slots Q (F0 m tgt ls rest)) (kf : 0 < x → W p l e R s m args below meth c H locs cells slots Q (F0 m (pc + 3) ls rest)) : W p l e R s m args below meth c H locs cells slots Q (F0 m pc ls (.int (nI x) :: rest)) :=
  lv_if_le hx hb hdg ht (fun q => kt (by
    rcases Nat.eq_zero_or_pos x with z | z
    · exact z
    · exact absurd q (nI_nle z h))) (fun q => kf (by
    rcases Nat.eq_zero_or_pos x with z | z
    · subst z; exact absurd (by decide : nI 0 ≤ 0) q
    · exact z))
theorem nv_if_eq {off : Int} {tgt : Nat} (hx : p.tables.exec = Jvm.exec) (hb : c.code = cc) (hdg : decode cc pc = .ok (.ifCond .eq off, 3)) (ht : (pc : Int) + off = (tgt : Int)) (h : x < 2 ^ 31) (kt : x = 0 → W p l e R s m args below meth c H locs cells slots Q (F0 m tgt ls rest)) (kf : ¬ x = 0 → W p l e R s m args below meth c H locs cells slots Q (F0 m (pc + 3) ls rest)) : W p l e R s m args below meth c H locs cells slots Q (F0 m pc ls (.int (nI x) :: rest)) :=
  lv_if_eq hx hb hdg ht (fun q => kt (by
    rcases Nat.eq_zero_or_pos x with z | z
    · exact z
    · exact absurd q (nI_ne0 z h))) (fun q => kf (fun z => q (by rw [z]; rfl)))
theorem nv_if_ne {off : Int} {tgt : Nat} (hx : p.tables.exec = Jvm.exec) (hb : c.code = cc) (hdg : decode cc pc = .ok (.ifCond .ne off, 3)) (ht : (pc : Int) + off = (tgt : Int)) (h : x < 2 ^ 31) (kt : ¬ x = 0 → W p l e R s m args below meth c H locs cells slots Q (F0 m tgt ls rest)) (kf : x = 0 → W p l e R s m args below meth c H locs cells slots Q (F0 m (pc + 3) ls rest)) : W p l e R s m args below meth c H locs cells slots Q (F0 m pc ls (.int (nI x) :: rest)) :=
  lv_if_ne hx hb hdg ht (fun q => kt (fun z => q (by rw [z]; rfl))) (fun q => kf (by
    rcases Nat.eq_zero_or_pos x with z | z
    · exact z
    · exact absurd q (nI_ne0 z h)))
/-- on a yes or no -/
theorem nb_if_eq {off : Int} {tgt : Nat} {b : Bool} (hx : p.tables.exec = Jvm.exec) (hb : c.code = cc) (hdg : decode cc pc = .ok (.ifCond .eq off, 3)) (ht : (pc : Int) + off = (tgt : Int)) (kt : b = false → W p l e R s m args below meth c H locs cells slots Q (F0 m tgt ls rest)) (kf : b = true → W p l e R s m args below meth c H locs cells slots Q (F0 m (pc + 3) ls rest)) : W p l e R s m args below meth c H locs cells slots Q (F0 m pc ls (.int (nI b.toNat) :: rest)) :=
  nv_if_eq hx hb hdg ht (bN_lt b) (fun q => kt (by cases b; rfl; exact absurd q (by decide))) (fun q => kf (by cases b; exact absurd rfl q; rfl))
theorem nb_if_ne {off : Int} {tgt : Nat} {b : Bool} (hx : p.tables.exec = Jvm.exec) (hb : c.code = cc) (hdg : decode cc pc = .ok (.ifCond .ne off, 3)) (ht : (pc : Int) + off = (tgt : Int)) (kt : b = true → W p l e R s m args below meth c H locs cells slots Q (F0 m tgt ls rest)) (kf : b = false → W p l e R s m args below meth c H locs cells slots Q (F0 m (pc + 3) ls rest)) : W p l e R s m args below meth c H locs cells slots Q (F0 m pc ls (.int (nI b.toNat) :: rest)) :=
  nv_if_ne hx hb hdg ht (bN_lt b) (fun q => kt (by cases b; exact absurd rfl q; rfl)) (fun q => kf (by cases b; rfl; exact absurd q (by decide)))
/-- a bit against 1 -/
theorem nb_icmp_ne {off : Int} {tgt : Nat} {b : Bool} (hx : p.tables.exec = Jvm.exec) (hb : c.code = cc) (hdg : decode cc pc = .ok (.if_icmp .ne off, 3)) (ht : (pc : Int) + off = (tgt : Int)) (kt : b = false → W p l e R s m args below meth c H locs cells slots Q (F0 m tgt ls rest)) (kf : b = true → W p l e R s m args below meth c H locs cells slots Q (F0 m (pc + 3) ls rest)) : W p l e R s m args below meth c H locs cells slots Q (F0 m pc ls (.int (nI 1) :: .int (nI b.toNat) :: rest)) :=
  nv_icmp_ne hx hb hdg ht ⟨bN_lt b, by decide⟩ (fun q => kt (by cases b; rfl; exact absurd rfl q)) (fun q => kf (by cases b; exact absurd q (by decide); rfl))
/-- on an entry that may be none -/
theorem no_if_ge {off : Int} {tgt : Nat} {o : Option Nat} (hx : p.tables.exec = Jvm.exec) (hb : c.code = cc) (hdg : decode cc pc = .ok (.ifCond .ge off, 3)) (ht : (pc : Int) + off = (tgt : Int)) (h : ∀ z, o = some z → z < 2 ^ 31) (kt : ∀ z, o = some z → W p l e R s m args below meth c H locs cells slots Q (F0 m tgt ls rest)) (kf : o = none → W p l e R s m args below meth c H locs cells slots Q (F0 m (pc + 3) ls rest)) : W p l e R s m args below meth c H locs cells slots Q (F0 m pc ls (.int (oI o) :: rest)) := by
  cases o with
  | none => exact lv_if_ge hx hb hdg ht (fun q => absurd q (by decide)) (fun _ => kf rfl)
  | some z => exact lv_if_ge hx hb hdg ht (fun _ => kt z rfl) (fun q => absurd (nI_pos' (h z rfl)) q)
theorem no_if_lt {off : Int} {tgt : Nat} {o : Option Nat} (hx : p.tables.exec = Jvm.exec) (hb : c.code = cc) (hdg : decode cc pc = .ok (.ifCond .lt off, 3)) (ht : (pc : Int) + off = (tgt : Int)) (h : ∀ z, o = some z → z < 2 ^ 31) (kt : o = none → W p l e R s m args below meth c H locs cells slots Q (F0 m tgt ls rest)) (kf : ∀ z, o = some z → W p l e R s m args below meth c H locs cells slots Q (F0 m (pc + 3) ls rest)) : W p l e R s m args below meth c H locs cells slots Q (F0 m pc ls (.int (oI o) :: rest)) := by
  cases o with
  | none => exact lv_if_lt hx hb hdg ht (fun _ => kt rfl) (fun q => absurd (by decide : (oI none) < 0) q)
  | some z => exact lv_if_lt hx hb hdg ht (fun q => absurd q (nI_pos (h z rfl))) (fun _ => kf z rfl)
theorem nv_iinc {i nL k : Nat} {lv lv' : List (Nat × Value)} (hx : p.tables.exec = Jvm.exec) (hb : c.code = cc) (hdg : decode cc pc = .ok (.iinc i 1, 3)) (h : lv_has ls nL lv) (hk : lv[k]? = some (i, .int (nI x))) (hn : i < nL) (hl : (i, Value.int (nI (x + 1))) :: lv.filter (fun q => !(q.1 == i) && !(q.1 + 1 == i && q.2.category == 2)) = lv') (kk : ∀ ls', lv_has ls' nL lv' → W p l e R s m args below meth c H locs cells slots Q (F0 m (pc + 3) ls' rest)) : W p l e R s m args below meth c H locs cells slots Q (F0 m pc ls rest) :=
  lv_iinc (v := nI (x + 1)) hx hb hdg h hk (by rw [← nI_1]; rfl) hn hl kk
theorem nv_idec {i nL k : Nat} {lv lv' : List (Nat × Value)} (hx : p.tables.exec = Jvm.exec) (hb : c.code = cc) (hdg : decode cc pc = .ok (.iinc i (-1), 3)) (h : lv_has ls nL lv) (hk : lv[k]? = some (i, .int (nI (x + 1)))) (hn : i < nL) (hl : (i, Value.int (nI x)) :: lv.filter (fun q => !(q.1 == i) && !(q.1 + 1 == i && q.2.category == 2)) = lv') (kk : ∀ ls', lv_has ls' nL lv' → W p l e R s m args below meth c H locs cells slots Q (F0 m (pc + 3) ls' rest)) : W p l e R s m args below meth c H locs cells slots Q (F0 m pc ls rest) :=
  lv_iinc (v := nI x) hx hb hdg h hk (by rw [show Int32.ofInt (-1) = (-1 : Int32) from by decide]; exact pk_m1 x) hn hl kk
end NV
end
section
/-! the two worlds: an object with its arrays; contracts and rows over them -/
abbrev vwCl : List vw_C := [(RX1, TX1, 8), (RX2, TX2, 6)]
/-- n, source, target, near, room, cameFrom, queue, steps -/
abbrev XS : Type := Nat × Nat × Nat × (Nat → Nat) × (Nat → Nat) × (Nat → Option Nat) × (Nat → Nat) × (Nat → Option Nat)
/-- n, s, t, near, whole, most -/
abbrev MS : Type := Nat × Nat × Nat × (Nat → Nat) × (Nat → Bool) × (Nat → Nat)
def bI (b : Bool) : Int32 := nI b.toNat
abbrev XW (h : Nat → Nat) (ca : Nat → ClassId) (u : XS) : va_W := [(h 0, .inr (0, [.int (nI u.1), .int (nI u.2.1), .int (nI u.2.2.1), .ref (h 1), .ref (h 2), .ref (h 3), .ref (h 4), .ref (h 5)])), (h 1, .inl (ca 1, 8, .inl (fun j => nI (u.2.2.2.1 j)))), (h 2, .inl (ca 2, 256, .inl (fun j => nI (u.2.2.2.2.1 j)))), (h 3, .inl (ca 3, 16, .inl (fun j => oI (u.2.2.2.2.2.1 j)))), (h 4, .inl (ca 4, 16, .inl (fun j => nI (u.2.2.2.2.2.2.1 j)))), (h 5, .inl (ca 5, 8, .inl (fun j => oI (u.2.2.2.2.2.2.2 j))))]
abbrev XT (ca : Nat → ClassId) : List (ClassId × FieldType) := [(ca 1, .int), (ca 2, .int), (ca 3, .int), (ca 4, .int), (ca 5, .int)]
abbrev MW (h : Nat → Nat) (ca : Nat → ClassId) (u : MS) : va_W := [(h 0, .inr (1, [.int (nI u.1), .int (nI u.2.1), .int (nI u.2.2.1), .ref (h 1), .ref (h 2), .ref (h 3)])), (h 1, .inl (ca 1, 8, .inl (fun j => nI (u.2.2.2.1 j)))), (h 2, .inl (ca 2, 256, .inl (fun j => bI (u.2.2.2.2.1 j)))), (h 3, .inl (ca 3, 256, .inl (fun j => nI (u.2.2.2.2.2 j))))]
abbrev MT (ca : Nat → ClassId) : List (ClassId × FieldType) := [(ca 1, .int), (ca 2, .boolean), (ca 3, .int)]
/-- the world ws stands in the heap H, which since H0 has changed in A alone -/
def WI (D : va_G) (ws : va_W) (tys : List (ClassId × FieldType)) (A : Nat → Prop) (s : State) (H0 H : Heap) (locs : List Loc) : Prop := va_K D vwCl tys s ∧ va_P D vwCl ws H ∧ va_D A ws ∧ va_S A H0 H locs ∧ ∀ q, H0.size ≤ q → A q
def WPc (D : va_G) (ws : va_W) (tys : List (ClassId × FieldType)) (av : List Value) (sz : Nat) : Array Value → State → Prop := va_Pc av (fun U => U.heap.size = sz ∧ va_P D vwCl ws U.heap ∧ va_K D vwCl tys U ∧ va_D (fun _ => True) ws)
def WQi {S : Type} (D : va_G) (ws : va_W) (wf : S → va_W) (tys : List (ClassId × FieldType)) (sz : Nat) (post : Int32 → S → Prop) : Array Value → State → Outcome → State → Prop := va_Qi post (fun u t => va_P D vwCl (wf u) t.heap ∧ va_K D vwCl tys t ∧ va_D (va_A ws sz) (wf u)) (va_A ws sz)
def WQv {S : Type} (D : va_G) (ws : va_W) (wf : S → va_W) (tys : List (ClassId × FieldType)) (sz : Nat) (post : S → Prop) : Array Value → State → Outcome → State → Prop := va_Qv post (fun u t => va_P D vwCl (wf u) t.heap ∧ va_K D vwCl tys t ∧ va_D (va_A ws sz) (wf u)) (va_A ws sz)
/-- a contract over a world: an int (or yes or no) answer -/
def WMi {S : Type} (l : Launch) (y : MethodName) (wd : List Cond) (rm : Room) (D : va_G) (ws : va_W) (wf : S → va_W) (tys : List (ClassId × FieldType)) (av : List Value) (post : Int32 → S → Prop) : Prop := ∀ sz, Met l y wd rm (WPc D ws tys av sz) (WQi D ws wf tys sz post) 0 0 (va_A ws sz)
def WMv {S : Type} (l : Launch) (y : MethodName) (wd : List Cond) (rm : Room) (D : va_G) (ws : va_W) (wf : S → va_W) (tys : List (ClassId × FieldType)) (av : List Value) (post : S → Prop) : Prop := ∀ sz, Met l y wd rm (WPc D ws tys av sz) (WQv D ws wf tys sz post) 0 0 (va_A ws sz)
theorem WPc.blind {D : va_G} {ws : va_W} {tys : List (ClassId × FieldType)} {av : List Value} {sz : Nat} : FrameBlind (WPc D ws tys av sz) := fun a U g mk q => by
  obtain ⟨q0, q1, qP, qK, qD⟩ := q
  exact ⟨q0, q1, qP, va_K.moved (u := U) (U := U.calling g mk a) (Vm.Alike.refl U.vm) qK, qD⟩
section WW
variable {p : Program} {l : Launch} {e : Env} {R : Room} {s : State} {m : MethodId} {args : Array Value} {below : List Frame} {meth : Method} {c : Code} {H : Heap} {locs : List Loc} {cells slots : Nat} {Q : State → Prop} {pc : Nat} {ls : Array Slot} {rest : List Value} {cc : ByteArray} {nL : Nat} {own : String} {D : va_G} {A : Nat → Prop} {H0 : Heap} {tys : List (ClassId × FieldType)} {ws : va_W}
theorem WI.pre (I : WI D ws tys A s H0 H locs) {av : List Value} {U : State} (hU : U.heap = H) (hW : s.WarmedH U.vm) : WPc D ws tys av H.size av.toArray U := ⟨rfl, by rw [hU], by rw [hU]; exact I.2.1, va_K.moved hW.alike I.1, I.2.2.1.weaken (fun _ _ _ _ => trivial)⟩
theorem WI.free (I : WI D ws tys A s H0 H locs) : ∀ q, va_A ws H.size q → A q := by
  intro q h
  rcases h with ⟨k, e, h⟩ | h
  · exact I.2.2.1.2 k (q, e) h
  · exact I.2.2.2.2 q (Nat.le_trans I.2.2.2.1.1 h)
/-- a call of a method on the same world -/
theorem wc_i {S : Type} {wf : S → va_W} {y : MethodName} {wd : List Cond} {rm : Room} {av : List Value} {post : Int32 → S → Prop} {index maxL n b : Nat} {bytes : ByteArray} {ret : Option FieldType} {C : String} {st0 : List Value} {lv : List (Nat × Value)}
    (F : CallFix p m c cc nL s args lw_all own) (I : WI D ws tys A s H0 H locs) (hM : WMi l y wd rm D ws wf tys (.ref b :: av) post) (cw : CallW R s args own C index y bytes maxL ret wd rm 0 0 n)
    (hrc : ∃ cell : Cell, H[b]? = some cell ∧ cell.vm.isStatics = false ∧ s.vm.findClass C = some cell.cls) (hl : lv_has ls nL lv) (hn : av.length = n) (hst : st0 = av.reverse ++ .ref b :: rest) (hroom : (rest.map fun v => v.category).sum ≤ 8) (hdg : decode cc pc = .ok (.invokevirtual index, 3)) (hf : cells ≤ R.cells ∧ slots ≤ R.slots)
    (kk : ∀ (r : Int32) (u : S) (H1 : Heap) (locs1 : List Loc), post r u → WI D (wf u) tys A s H0 H1 locs1 → W p l e R s m args below meth c H1 locs1 cells slots Q (F0 m (pc + 3) ls (.int r :: rest))) : W p l e R s m args below meth c H locs cells slots Q (F0 m pc ls st0) := by
  subst hst
  refine va_calli (va_runV (As := av) (rest := rest) F (hM H.size) cw ⟨WPc.blind, hrc, fun U hU hW => I.pre hU hW⟩ rfl hn hl.1 rfl (lv_room hroom) hdg hf) I.2.2.2.1 (fun q _ h => I.free q h) I.free (fun r u t H1 locs1 ht hvm hw hB _ _ hS => ?_)
  exact kk r u H1 locs1 hw ⟨I.1, by rw [← ht]; exact hB.1, hB.2.2.weaken (fun _ q _ h => I.free q.1 h), hS, I.2.2.2.2⟩
theorem wc_v {S : Type} {wf : S → va_W} {y : MethodName} {wd : List Cond} {rm : Room} {av : List Value} {post : S → Prop} {index maxL n b : Nat} {bytes : ByteArray} {ret : Option FieldType} {C : String} {st0 : List Value} {lv : List (Nat × Value)}
    (F : CallFix p m c cc nL s args lw_all own) (I : WI D ws tys A s H0 H locs) (hM : WMv l y wd rm D ws wf tys (.ref b :: av) post) (cw : CallW R s args own C index y bytes maxL ret wd rm 0 0 n)
    (hrc : ∃ cell : Cell, H[b]? = some cell ∧ cell.vm.isStatics = false ∧ s.vm.findClass C = some cell.cls) (hl : lv_has ls nL lv) (hn : av.length = n) (hst : st0 = av.reverse ++ .ref b :: rest) (hroom : (rest.map fun v => v.category).sum ≤ 8) (hdg : decode cc pc = .ok (.invokevirtual index, 3)) (hf : cells ≤ R.cells ∧ slots ≤ R.slots)
    (kk : ∀ (u : S) (H1 : Heap) (locs1 : List Loc), post u → WI D (wf u) tys A s H0 H1 locs1 → W p l e R s m args below meth c H1 locs1 cells slots Q (F0 m (pc + 3) ls rest)) : W p l e R s m args below meth c H locs cells slots Q (F0 m pc ls st0) := by
  subst hst
  refine va_callv (va_runV (As := av) (rest := rest) F (hM H.size) cw ⟨WPc.blind, hrc, fun U hU hW => I.pre hU hW⟩ rfl hn hl.1 rfl (lv_room hroom) hdg hf) I.2.2.2.1 (fun q _ h => I.free q h) I.free (fun u t H1 locs1 ht hvm hw hB _ _ hS => ?_)
  exact kk u H1 locs1 hw ⟨I.1, by rw [← ht]; exact hB.1, hB.2.2.weaken (fun _ q _ h => I.free q.1 h), hS, I.2.2.2.2⟩
/-- a method's ends -/
theorem wr_i {S : Type} {wf : S → va_W} {w0 : va_W} {v : Int32} {post : Int32 → S → Prop} {sz : Nat} (F : CallFix p m c cc nL s args lw_all own) (hr : meth.sig.returnType = some .int) (hlk : meth.locks = false) {u : S} (I : WI D (wf u) tys (va_A w0 sz) s s.heap H locs) (hp : post v u) (hdg : decode cc pc = .ok (.ireturn, 1)) : W p l e R s m args below meth c H locs cells slots (MQ below (WQi D w0 wf tys sz post) args s cells slots (va_A w0 sz)) (F0 m pc ls [.int v]) :=
  W.iret (v := v) F.1 F.2.1 hr (fun t ht hW => ⟨⟨v, u, rfl, hp, by rw [ht]; exact I.2.1, va_K.moved hW.alike I.1, I.2.2.1⟩, I.2.2.2.1.F ht⟩) I.2.2.2.1.2.2 hdg
theorem wr_z {S : Type} {wf : S → va_W} {w0 : va_W} {b : Bool} {post : Int32 → S → Prop} {sz : Nat} (F : CallFix p m c cc nL s args lw_all own) (hr : meth.sig.returnType = some .boolean) (hlk : meth.locks = false) {u : S} (I : WI D (wf u) tys (va_A w0 sz) s s.heap H locs) (hp : post (nI b.toNat) u) (hdg : decode cc pc = .ok (.ireturn, 1)) : W p l e R s m args below meth c H locs cells slots (MQ below (WQi D w0 wf tys sz post) args s cells slots (va_A w0 sz)) (F0 m pc ls [.int (nI b.toNat)]) :=
  W.zret (v := nI b.toNat) F.1 F.2.1 hr (by cases b <;> rfl) (fun t ht hW => ⟨⟨nI b.toNat, u, rfl, hp, by rw [ht]; exact I.2.1, va_K.moved hW.alike I.1, I.2.2.1⟩, I.2.2.2.1.F ht⟩) I.2.2.2.1.2.2 hdg
theorem wr_v {S : Type} {wf : S → va_W} {w0 : va_W} {post : S → Prop} {sz : Nat} (F : CallFix p m c cc nL s args lw_all own) (hr : meth.sig.returnType = none) (hlk : meth.locks = false) {u : S} (I : WI D (wf u) tys (va_A w0 sz) s s.heap H locs) (hp : post u) (hdg : decode cc pc = .ok (.return_, 1)) : W p l e R s m args below meth c H locs cells slots (MQ below (WQv D w0 wf tys sz post) args s cells slots (va_A w0 sz)) (F0 m pc ls []) :=
  W.vret F.1 F.2.1 hr (fun t ht hW => ⟨⟨u, rfl, hp, by rw [ht]; exact I.2.1, va_K.moved hW.alike I.1, I.2.2.1⟩, I.2.2.2.1.F ht⟩) I.2.2.2.1.2.2 hdg
/-- a method's start -/
theorem WI.start {av : List Value} {sz : Nat} (h : WPc D ws tys av sz args s) : args = av.toArray ∧ s.heap.size = sz ∧ WI D ws tys (va_A ws sz) s s.heap s.heap [] := by
  obtain ⟨h1, h2, h3, h4, h5⟩ := h
  exact ⟨h1, h2, h4, h3, h5.self, va_S.rf, fun q hq => Or.inr (by omega)⟩
end WW
/-- a contract out of a walk from the entry -/
theorem wm_i {S : Type} {l : Launch} {y : MethodName} {rm : Room} {D : va_G} {ws : va_W} {wf : S → va_W} {tys : List (ClassId × FieldType)} {av : List Value} {post : Int32 → S → Prop} {cc : ByteArray} {nL : Nat} (hy : plainName y.cls = true) (hlen : (lg_sl av).length ≤ nL)
    (body : ∀ (p : Program) (e : Env) (R : Room) (s : State) (m : MethodId) (args : Array Value) (below : List Frame) (meth : Method) (c : Code) (ls : Array Slot) (A : Nat → Prop) (Q : State → Prop), R = rm → CallFix p m c cc nL s args lw_all y.cls → (∀ (v : Int32) (u : S) (H : Heap) (locs : List Loc) (ls : Array Slot) (pc : Nat), post v u → WI D (wf u) tys A s s.heap H locs → decode cc pc = .ok (.ireturn, 1) → W p l e R s m args below meth c H locs 0 0 Q (F0 m pc ls [.int v])) → WI D ws tys A s s.heap s.heap [] → lv_has ls nL (lv_args 0 av) → W p l e R s m args below meth c s.heap [] 0 0 Q (F0 m 0 ls [])) : WMi l y (ws_ y cc nL (some .int)) rm D ws wf tys av post := by
  intro sz
  refine Met.ofW (cc := cc) (maxL := nL) (ret := (some .int)) hy rfl ?_
  intro p e s m args below meth c s₁ B hml hv
  obtain ⟨rfl, hsz, I⟩ := WI.start hv
  have hts := atoms_spec (ws := ws_ y cc nL (some .int)) B.pre
  have hts : ∀ w ∈ lw_all, w.before _ s = true := fun w h => hts w (List.mem_cons_of_mem _ h)
  rw [lg_entry_eq]
  have F : CallFix p m c cc nL s av.toArray lw_all y.cls := ⟨B.exec, B.bytes, hml, findClass_of_methodNamed B.named, hts⟩
  exact body p e _ s m _ below meth c _ (va_A ws sz) _ rfl F (fun v u H locs ls pc hp I hd => wr_i F B.returns B.notSynchronized I hp hd) I (lv_entry av hlen)
theorem wm_z {S : Type} {l : Launch} {y : MethodName} {rm : Room} {D : va_G} {ws : va_W} {wf : S → va_W} {tys : List (ClassId × FieldType)} {av : List Value} {post : Int32 → S → Prop} {cc : ByteArray} {nL : Nat} (hy : plainName y.cls = true) (hlen : (lg_sl av).length ≤ nL)
    (body : ∀ (p : Program) (e : Env) (R : Room) (s : State) (m : MethodId) (args : Array Value) (below : List Frame) (meth : Method) (c : Code) (ls : Array Slot) (A : Nat → Prop) (Q : State → Prop), R = rm → CallFix p m c cc nL s args lw_all y.cls → (∀ (b : Bool) (u : S) (H : Heap) (locs : List Loc) (ls : Array Slot) (pc : Nat), post (nI b.toNat) u → WI D (wf u) tys A s s.heap H locs → decode cc pc = .ok (.ireturn, 1) → W p l e R s m args below meth c H locs 0 0 Q (F0 m pc ls [.int (nI b.toNat)])) → WI D ws tys A s s.heap s.heap [] → lv_has ls nL (lv_args 0 av) → W p l e R s m args below meth c s.heap [] 0 0 Q (F0 m 0 ls [])) : WMi l y (ws_ y cc nL (some .boolean)) rm D ws wf tys av post := by
  intro sz
  refine Met.ofW (cc := cc) (maxL := nL) (ret := (some .boolean)) hy rfl ?_
  intro p e s m args below meth c s₁ B hml hv
  obtain ⟨rfl, hsz, I⟩ := WI.start hv
  have hts := atoms_spec (ws := ws_ y cc nL (some .boolean)) B.pre
  have hts : ∀ w ∈ lw_all, w.before _ s = true := fun w h => hts w (List.mem_cons_of_mem _ h)
  rw [lg_entry_eq]
  have F : CallFix p m c cc nL s av.toArray lw_all y.cls := ⟨B.exec, B.bytes, hml, findClass_of_methodNamed B.named, hts⟩
  exact body p e _ s m _ below meth c _ (va_A ws sz) _ rfl F (fun b u H locs ls pc hp I hd => wr_z F B.returns B.notSynchronized I hp hd) I (lv_entry av hlen)
theorem wm_v {S : Type} {l : Launch} {y : MethodName} {rm : Room} {D : va_G} {ws : va_W} {wf : S → va_W} {tys : List (ClassId × FieldType)} {av : List Value} {post : S → Prop} {cc : ByteArray} {nL : Nat} (hy : plainName y.cls = true) (hlen : (lg_sl av).length ≤ nL)
    (body : ∀ (p : Program) (e : Env) (R : Room) (s : State) (m : MethodId) (args : Array Value) (below : List Frame) (meth : Method) (c : Code) (ls : Array Slot) (A : Nat → Prop) (Q : State → Prop), R = rm → CallFix p m c cc nL s args lw_all y.cls → (∀ (u : S) (H : Heap) (locs : List Loc) (ls : Array Slot) (pc : Nat), post u → WI D (wf u) tys A s s.heap H locs → decode cc pc = .ok (.return_, 1) → W p l e R s m args below meth c H locs 0 0 Q (F0 m pc ls [])) → WI D ws tys A s s.heap s.heap [] → lv_has ls nL (lv_args 0 av) → W p l e R s m args below meth c s.heap [] 0 0 Q (F0 m 0 ls [])) : WMv l y (ws_ y cc nL none) rm D ws wf tys av post := by
  intro sz
  refine Met.ofW (cc := cc) (maxL := nL) (ret := none) hy rfl ?_
  intro p e s m args below meth c s₁ B hml hv
  obtain ⟨rfl, hsz, I⟩ := WI.start hv
  have hts := atoms_spec (ws := ws_ y cc nL none) B.pre
  have hts : ∀ w ∈ lw_all, w.before _ s = true := fun w h => hts w (List.mem_cons_of_mem _ h)
  rw [lg_entry_eq]
  have F : CallFix p m c cc nL s av.toArray lw_all y.cls := ⟨B.exec, B.bytes, hml, findClass_of_methodNamed B.named, hts⟩
  exact body p e _ s m _ below meth c _ (va_A ws sz) _ rfl F (fun u H locs ls pc hp I hd => wr_v F B.returns B.notSynchronized I hp hd) I (lv_entry av hlen)
theorem up_n {a : Nat → Nat} {i x : Nat} (h : i < 2 ^ 31) : upd (fun j => nI (a j)) (nI i).toNatClampNeg (nI x) = fun j => nI (va_up a i x j) := by
  rw [nI_clamp h]
  funext j
  unfold upd va_up
  split <;> rfl
theorem up_o {a : Nat → Option Nat} {i : Nat} {x : Option Nat} (h : i < 2 ^ 31) : upd (fun j => oI (a j)) (nI i).toNatClampNeg (oI x) = fun j => oI (va_up a i x j) := by
  rw [nI_clamp h]
  funext j
  unfold upd va_up
  split <;> rfl
theorem up_b {a : Nat → Bool} {i : Nat} {x : Bool} (h : i < 2 ^ 31) : upd (fun j => bI (a j)) (nI i).toNatClampNeg (vp_nar .boolean (nI x.toNat)) = fun j => bI (va_up a i x j) := by
  rw [nI_clamp h]
  funext j
  unfold upd va_up
  split
  · cases x <;> rfl
  · rfl
section XX
variable {p : Program} {l : Launch} {e : Env} {R : Room} {s : State} {m : MethodId} {args : Array Value} {below : List Frame} {meth : Method} {c : Code} {H : Heap} {locs : List Loc} {cells slots : Nat} {Q : State → Prop} {pc : Nat} {ls : Array Slot} {rest : List Value} {cc : ByteArray} {nL : Nat} {D : va_G} {A : Nat → Prop} {H0 : Heap} {h : Nat → Nat} {ca : Nat → ClassId} {n sr tg : Nat} {a r : Nat → Nat} {cf : Nat → Option Nat} {q : Nat → Nat} {st : Nat → Option Nat} {wh : Nat → Bool} {ms : Nat → Nat}
theorem xg_n (F : CallFix p m c cc nL s args lw_all RX1) (I : WI D (XW h ca (n, sr, tg, a, r, cf, q, st)) (XT ca) A s H0 H locs) (hdg : decode cc pc = .ok (.getfield 25, 3)) (kk : W p l e R s m args below meth c H locs cells slots Q (F0 m (pc + 3) ls (.int (nI n) :: rest))) : W p l e R s m args below meth c H locs cells slots Q (F0 m pc ls (.ref (h 0) :: rest)) :=
  va_get (D := D) (ci := 0) (v := .int (nI n)) (C := RX1) (T := TX1) (N := 8) F.1 F.2.1 F.2.2.2.2 in_X1 F.2.2.2.1 I.1 I.2.1 0 rfl rfl 0 (by decide) (F.2.2.2.2 _ q33) (fun _ h9 => h9) rfl hdg kk
theorem xg_s (F : CallFix p m c cc nL s args lw_all RX1) (I : WI D (XW h ca (n, sr, tg, a, r, cf, q, st)) (XT ca) A s H0 H locs) (hdg : decode cc pc = .ok (.getfield 50, 3)) (kk : W p l e R s m args below meth c H locs cells slots Q (F0 m (pc + 3) ls (.int (nI sr) :: rest))) : W p l e R s m args below meth c H locs cells slots Q (F0 m pc ls (.ref (h 0) :: rest)) :=
  va_get (D := D) (ci := 0) (v := .int (nI sr)) (C := RX1) (T := TX1) (N := 8) F.1 F.2.1 F.2.2.2.2 in_X1 F.2.2.2.1 I.1 I.2.1 0 rfl rfl 1 (by decide) (F.2.2.2.2 _ q34) (fun _ h9 => h9) rfl hdg kk
theorem xg_t (F : CallFix p m c cc nL s args lw_all RX1) (I : WI D (XW h ca (n, sr, tg, a, r, cf, q, st)) (XT ca) A s H0 H locs) (hdg : decode cc pc = .ok (.getfield 29, 3)) (kk : W p l e R s m args below meth c H locs cells slots Q (F0 m (pc + 3) ls (.int (nI tg) :: rest))) : W p l e R s m args below meth c H locs cells slots Q (F0 m pc ls (.ref (h 0) :: rest)) :=
  va_get (D := D) (ci := 0) (v := .int (nI tg)) (C := RX1) (T := TX1) (N := 8) F.1 F.2.1 F.2.2.2.2 in_X1 F.2.2.2.1 I.1 I.2.1 0 rfl rfl 2 (by decide) (F.2.2.2.2 _ q35) (fun _ h9 => h9) rfl hdg kk
theorem xg_near (F : CallFix p m c cc nL s args lw_all RX1) (I : WI D (XW h ca (n, sr, tg, a, r, cf, q, st)) (XT ca) A s H0 H locs) (hdg : decode cc pc = .ok (.getfield 7, 3)) (kk : W p l e R s m args below meth c H locs cells slots Q (F0 m (pc + 3) ls (.ref (h 1) :: rest))) : W p l e R s m args below meth c H locs cells slots Q (F0 m pc ls (.ref (h 0) :: rest)) :=
  va_get (D := D) (ci := 0) (v := .ref (h 1)) (C := RX1) (T := TX1) (N := 8) F.1 F.2.1 F.2.2.2.2 in_X1 F.2.2.2.1 I.1 I.2.1 0 rfl rfl 3 (by decide) (F.2.2.2.2 _ q36) (fun _ h9 => h9) rfl hdg kk
theorem xg_room (F : CallFix p m c cc nL s args lw_all RX1) (I : WI D (XW h ca (n, sr, tg, a, r, cf, q, st)) (XT ca) A s H0 H locs) (hdg : decode cc pc = .ok (.getfield 13, 3)) (kk : W p l e R s m args below meth c H locs cells slots Q (F0 m (pc + 3) ls (.ref (h 2) :: rest))) : W p l e R s m args below meth c H locs cells slots Q (F0 m pc ls (.ref (h 0) :: rest)) :=
  va_get (D := D) (ci := 0) (v := .ref (h 2)) (C := RX1) (T := TX1) (N := 8) F.1 F.2.1 F.2.2.2.2 in_X1 F.2.2.2.1 I.1 I.2.1 0 rfl rfl 4 (by decide) (F.2.2.2.2 _ q37) (fun _ h9 => h9) rfl hdg kk
theorem xg_came (F : CallFix p m c cc nL s args lw_all RX1) (I : WI D (XW h ca (n, sr, tg, a, r, cf, q, st)) (XT ca) A s H0 H locs) (hdg : decode cc pc = .ok (.getfield 16, 3)) (kk : W p l e R s m args below meth c H locs cells slots Q (F0 m (pc + 3) ls (.ref (h 3) :: rest))) : W p l e R s m args below meth c H locs cells slots Q (F0 m pc ls (.ref (h 0) :: rest)) :=
  va_get (D := D) (ci := 0) (v := .ref (h 3)) (C := RX1) (T := TX1) (N := 8) F.1 F.2.1 F.2.2.2.2 in_X1 F.2.2.2.1 I.1 I.2.1 0 rfl rfl 5 (by decide) (F.2.2.2.2 _ q38) (fun _ h9 => h9) rfl hdg kk
theorem xg_queue (F : CallFix p m c cc nL s args lw_all RX1) (I : WI D (XW h ca (n, sr, tg, a, r, cf, q, st)) (XT ca) A s H0 H locs) (hdg : decode cc pc = .ok (.getfield 19, 3)) (kk : W p l e R s m args below meth c H locs cells slots Q (F0 m (pc + 3) ls (.ref (h 4) :: rest))) : W p l e R s m args below meth c H locs cells slots Q (F0 m pc ls (.ref (h 0) :: rest)) :=
  va_get (D := D) (ci := 0) (v := .ref (h 4)) (C := RX1) (T := TX1) (N := 8) F.1 F.2.1 F.2.2.2.2 in_X1 F.2.2.2.1 I.1 I.2.1 0 rfl rfl 6 (by decide) (F.2.2.2.2 _ q39) (fun _ h9 => h9) rfl hdg kk
theorem xg_steps (F : CallFix p m c cc nL s args lw_all RX1) (I : WI D (XW h ca (n, sr, tg, a, r, cf, q, st)) (XT ca) A s H0 H locs) (hdg : decode cc pc = .ok (.getfield 22, 3)) (kk : W p l e R s m args below meth c H locs cells slots Q (F0 m (pc + 3) ls (.ref (h 5) :: rest))) : W p l e R s m args below meth c H locs cells slots Q (F0 m pc ls (.ref (h 0) :: rest)) :=
  va_get (D := D) (ci := 0) (v := .ref (h 5)) (C := RX1) (T := TX1) (N := 8) F.1 F.2.1 F.2.2.2.2 in_X1 F.2.2.2.1 I.1 I.2.1 0 rfl rfl 7 (by decide) (F.2.2.2.2 _ q40) (fun _ h9 => h9) rfl hdg kk
theorem xp_s {x : Nat} (F : CallFix p m c cc nL s args lw_all RX1) (I : WI D (XW h ca (n, sr, tg, a, r, cf, q, st)) (XT ca) A s H0 H locs) (hdg : decode cc pc = .ok (.putfield 50, 3)) (kk : ∀ (H1 : Heap) (locs1 : List Loc), WI D (XW h ca (n, x, tg, a, r, cf, q, st)) (XT ca) A s H0 H1 locs1 → W p l e R s m args below meth c H1 locs1 cells slots Q (F0 m (pc + 3) ls (rest))) : W p l e R s m args below meth c H locs cells slots Q (F0 m pc ls (.int (nI x) :: .ref (h 0) :: rest)) :=
  va_put (D := D) (ci := 0) (v := .int (nI x)) (ty := .int) (C := RX1) (T := TX1) (N := 8) F.1 F.2.1 F.2.2.2.2 in_X1 tyX1 tyX1_ok nmX1 F.2.2.2.1 I.1 I.2.1 I.2.2.1 I.2.2.2.1 0 rfl rfl 1 (by decide) (F.2.2.2.2 _ q34) (fun _ h9 => h9) rfl (by decide +kernel) rfl rfl (Nat.le_of_ble_eq_true rfl) hdg (fun H1 locs1 hP hD hS => kk H1 locs1 ⟨I.1, hP, hD, hS, I.2.2.2.2⟩)
theorem xp_t {x : Nat} (F : CallFix p m c cc nL s args lw_all RX1) (I : WI D (XW h ca (n, sr, tg, a, r, cf, q, st)) (XT ca) A s H0 H locs) (hdg : decode cc pc = .ok (.putfield 29, 3)) (kk : ∀ (H1 : Heap) (locs1 : List Loc), WI D (XW h ca (n, sr, x, a, r, cf, q, st)) (XT ca) A s H0 H1 locs1 → W p l e R s m args below meth c H1 locs1 cells slots Q (F0 m (pc + 3) ls (rest))) : W p l e R s m args below meth c H locs cells slots Q (F0 m pc ls (.int (nI x) :: .ref (h 0) :: rest)) :=
  va_put (D := D) (ci := 0) (v := .int (nI x)) (ty := .int) (C := RX1) (T := TX1) (N := 8) F.1 F.2.1 F.2.2.2.2 in_X1 tyX1 tyX1_ok nmX1 F.2.2.2.1 I.1 I.2.1 I.2.2.1 I.2.2.2.1 0 rfl rfl 2 (by decide) (F.2.2.2.2 _ q35) (fun _ h9 => h9) rfl (by decide +kernel) rfl rfl (Nat.le_of_ble_eq_true rfl) hdg (fun H1 locs1 hP hD hS => kk H1 locs1 ⟨I.1, hP, hD, hS, I.2.2.2.2⟩)
theorem xa_near {i : Nat} (F : CallFix p m c cc nL s args lw_all RX1) (I : WI D (XW h ca (n, sr, tg, a, r, cf, q, st)) (XT ca) A s H0 H locs) (hdg : decode cc pc = .ok (.iaload, 1)) (hi : i < 8) (kk : W p l e R s m args below meth c H locs cells slots Q (F0 m (pc + 1) ls (.int (nI (a i)) :: rest))) : W p l e R s m args below meth c H locs cells slots Q (F0 m pc ls (.int (nI i) :: .ref (h 1) :: rest)) :=
  va_iald F.1 F.2.1 I.1 I.2.1 1 0 rfl rfl (vp_in_nI hi (by decide)) hdg (by
    show W p l e R s m args below meth c H locs cells slots Q (F0 m (pc + 1) ls (.int (nI (a (nI i).toNatClampNeg)) :: rest))
    rw [nI_clamp (Nat.lt_trans hi (by decide))]
    exact kk)
theorem xs_near {i : Nat} {x : Nat} (F : CallFix p m c cc nL s args lw_all RX1) (I : WI D (XW h ca (n, sr, tg, a, r, cf, q, st)) (XT ca) A s H0 H locs) (hdg : decode cc pc = .ok (.iastore, 1)) (hi : i < 8) (kk : ∀ (H1 : Heap) (locs1 : List Loc), WI D (XW h ca (n, sr, tg, va_up a i x, r, cf, q, st)) (XT ca) A s H0 H1 locs1 → W p l e R s m args below meth c H1 locs1 cells slots Q (F0 m (pc + 1) ls (rest))) : W p l e R s m args below meth c H locs cells slots Q (F0 m pc ls (.int (nI x) :: .int (nI i) :: .ref (h 1) :: rest)) :=
  va_iast F.1 F.2.1 I.1 I.2.1 I.2.2.1 I.2.2.2.1 1 0 rfl rfl (vp_in_nI hi (by decide)) hdg (fun H1 locs1 hP hD hS => kk H1 locs1 ⟨I.1, by
    have e := up_n (a := a) (i := i) (x := x) (Nat.lt_trans hi (by decide))
    rw [e] at hP
    exact hP, by
    have e := up_n (a := a) (i := i) (x := x) (Nat.lt_trans hi (by decide))
    rw [e] at hD
    exact hD, hS, I.2.2.2.2⟩)
theorem xa_room {i : Nat} (F : CallFix p m c cc nL s args lw_all RX1) (I : WI D (XW h ca (n, sr, tg, a, r, cf, q, st)) (XT ca) A s H0 H locs) (hdg : decode cc pc = .ok (.iaload, 1)) (hi : i < 256) (kk : W p l e R s m args below meth c H locs cells slots Q (F0 m (pc + 1) ls (.int (nI (r i)) :: rest))) : W p l e R s m args below meth c H locs cells slots Q (F0 m pc ls (.int (nI i) :: .ref (h 2) :: rest)) :=
  va_iald F.1 F.2.1 I.1 I.2.1 2 1 rfl rfl (vp_in_nI hi (by decide)) hdg (by
    show W p l e R s m args below meth c H locs cells slots Q (F0 m (pc + 1) ls (.int (nI (r (nI i).toNatClampNeg)) :: rest))
    rw [nI_clamp (Nat.lt_trans hi (by decide))]
    exact kk)
theorem xs_room {i : Nat} {x : Nat} (F : CallFix p m c cc nL s args lw_all RX1) (I : WI D (XW h ca (n, sr, tg, a, r, cf, q, st)) (XT ca) A s H0 H locs) (hdg : decode cc pc = .ok (.iastore, 1)) (hi : i < 256) (kk : ∀ (H1 : Heap) (locs1 : List Loc), WI D (XW h ca (n, sr, tg, a, va_up r i x, cf, q, st)) (XT ca) A s H0 H1 locs1 → W p l e R s m args below meth c H1 locs1 cells slots Q (F0 m (pc + 1) ls (rest))) : W p l e R s m args below meth c H locs cells slots Q (F0 m pc ls (.int (nI x) :: .int (nI i) :: .ref (h 2) :: rest)) :=
  va_iast F.1 F.2.1 I.1 I.2.1 I.2.2.1 I.2.2.2.1 2 1 rfl rfl (vp_in_nI hi (by decide)) hdg (fun H1 locs1 hP hD hS => kk H1 locs1 ⟨I.1, by
    have e := up_n (a := r) (i := i) (x := x) (Nat.lt_trans hi (by decide))
    rw [e] at hP
    exact hP, by
    have e := up_n (a := r) (i := i) (x := x) (Nat.lt_trans hi (by decide))
    rw [e] at hD
    exact hD, hS, I.2.2.2.2⟩)
theorem xa_came {i : Nat} (F : CallFix p m c cc nL s args lw_all RX1) (I : WI D (XW h ca (n, sr, tg, a, r, cf, q, st)) (XT ca) A s H0 H locs) (hdg : decode cc pc = .ok (.iaload, 1)) (hi : i < 16) (kk : W p l e R s m args below meth c H locs cells slots Q (F0 m (pc + 1) ls (.int (oI (cf i)) :: rest))) : W p l e R s m args below meth c H locs cells slots Q (F0 m pc ls (.int (nI i) :: .ref (h 3) :: rest)) :=
  va_iald F.1 F.2.1 I.1 I.2.1 3 2 rfl rfl (vp_in_nI hi (by decide)) hdg (by
    show W p l e R s m args below meth c H locs cells slots Q (F0 m (pc + 1) ls (.int (oI (cf (nI i).toNatClampNeg)) :: rest))
    rw [nI_clamp (Nat.lt_trans hi (by decide))]
    exact kk)
theorem xs_came {i : Nat} {x : Option Nat} (F : CallFix p m c cc nL s args lw_all RX1) (I : WI D (XW h ca (n, sr, tg, a, r, cf, q, st)) (XT ca) A s H0 H locs) (hdg : decode cc pc = .ok (.iastore, 1)) (hi : i < 16) (kk : ∀ (H1 : Heap) (locs1 : List Loc), WI D (XW h ca (n, sr, tg, a, r, va_up cf i x, q, st)) (XT ca) A s H0 H1 locs1 → W p l e R s m args below meth c H1 locs1 cells slots Q (F0 m (pc + 1) ls (rest))) : W p l e R s m args below meth c H locs cells slots Q (F0 m pc ls (.int (oI x) :: .int (nI i) :: .ref (h 3) :: rest)) :=
  va_iast F.1 F.2.1 I.1 I.2.1 I.2.2.1 I.2.2.2.1 3 2 rfl rfl (vp_in_nI hi (by decide)) hdg (fun H1 locs1 hP hD hS => kk H1 locs1 ⟨I.1, by
    have e := up_o (a := cf) (i := i) (x := x) (Nat.lt_trans hi (by decide))
    rw [e] at hP
    exact hP, by
    have e := up_o (a := cf) (i := i) (x := x) (Nat.lt_trans hi (by decide))
    rw [e] at hD
    exact hD, hS, I.2.2.2.2⟩)
theorem xa_queue {i : Nat} (F : CallFix p m c cc nL s args lw_all RX1) (I : WI D (XW h ca (n, sr, tg, a, r, cf, q, st)) (XT ca) A s H0 H locs) (hdg : decode cc pc = .ok (.iaload, 1)) (hi : i < 16) (kk : W p l e R s m args below meth c H locs cells slots Q (F0 m (pc + 1) ls (.int (nI (q i)) :: rest))) : W p l e R s m args below meth c H locs cells slots Q (F0 m pc ls (.int (nI i) :: .ref (h 4) :: rest)) :=
  va_iald F.1 F.2.1 I.1 I.2.1 4 3 rfl rfl (vp_in_nI hi (by decide)) hdg (by
    show W p l e R s m args below meth c H locs cells slots Q (F0 m (pc + 1) ls (.int (nI (q (nI i).toNatClampNeg)) :: rest))
    rw [nI_clamp (Nat.lt_trans hi (by decide))]
    exact kk)
theorem xs_queue {i : Nat} {x : Nat} (F : CallFix p m c cc nL s args lw_all RX1) (I : WI D (XW h ca (n, sr, tg, a, r, cf, q, st)) (XT ca) A s H0 H locs) (hdg : decode cc pc = .ok (.iastore, 1)) (hi : i < 16) (kk : ∀ (H1 : Heap) (locs1 : List Loc), WI D (XW h ca (n, sr, tg, a, r, cf, va_up q i x, st)) (XT ca) A s H0 H1 locs1 → W p l e R s m args below meth c H1 locs1 cells slots Q (F0 m (pc + 1) ls (rest))) : W p l e R s m args below meth c H locs cells slots Q (F0 m pc ls (.int (nI x) :: .int (nI i) :: .ref (h 4) :: rest)) :=
  va_iast F.1 F.2.1 I.1 I.2.1 I.2.2.1 I.2.2.2.1 4 3 rfl rfl (vp_in_nI hi (by decide)) hdg (fun H1 locs1 hP hD hS => kk H1 locs1 ⟨I.1, by
    have e := up_n (a := q) (i := i) (x := x) (Nat.lt_trans hi (by decide))
    rw [e] at hP
    exact hP, by
    have e := up_n (a := q) (i := i) (x := x) (Nat.lt_trans hi (by decide))
    rw [e] at hD
    exact hD, hS, I.2.2.2.2⟩)
theorem xa_steps {i : Nat} (F : CallFix p m c cc nL s args lw_all RX1) (I : WI D (XW h ca (n, sr, tg, a, r, cf, q, st)) (XT ca) A s H0 H locs) (hdg : decode cc pc = .ok (.iaload, 1)) (hi : i < 8) (kk : W p l e R s m args below meth c H locs cells slots Q (F0 m (pc + 1) ls (.int (oI (st i)) :: rest))) : W p l e R s m args below meth c H locs cells slots Q (F0 m pc ls (.int (nI i) :: .ref (h 5) :: rest)) :=
  va_iald F.1 F.2.1 I.1 I.2.1 5 4 rfl rfl (vp_in_nI hi (by decide)) hdg (by
    show W p l e R s m args below meth c H locs cells slots Q (F0 m (pc + 1) ls (.int (oI (st (nI i).toNatClampNeg)) :: rest))
    rw [nI_clamp (Nat.lt_trans hi (by decide))]
    exact kk)
theorem xs_steps {i : Nat} {x : Option Nat} (F : CallFix p m c cc nL s args lw_all RX1) (I : WI D (XW h ca (n, sr, tg, a, r, cf, q, st)) (XT ca) A s H0 H locs) (hdg : decode cc pc = .ok (.iastore, 1)) (hi : i < 8) (kk : ∀ (H1 : Heap) (locs1 : List Loc), WI D (XW h ca (n, sr, tg, a, r, cf, q, va_up st i x)) (XT ca) A s H0 H1 locs1 → W p l e R s m args below meth c H1 locs1 cells slots Q (F0 m (pc + 1) ls (rest))) : W p l e R s m args below meth c H locs cells slots Q (F0 m pc ls (.int (oI x) :: .int (nI i) :: .ref (h 5) :: rest)) :=
  va_iast F.1 F.2.1 I.1 I.2.1 I.2.2.1 I.2.2.2.1 5 4 rfl rfl (vp_in_nI hi (by decide)) hdg (fun H1 locs1 hP hD hS => kk H1 locs1 ⟨I.1, by
    have e := up_o (a := st) (i := i) (x := x) (Nat.lt_trans hi (by decide))
    rw [e] at hP
    exact hP, by
    have e := up_o (a := st) (i := i) (x := x) (Nat.lt_trans hi (by decide))
    rw [e] at hD
    exact hD, hS, I.2.2.2.2⟩)
theorem x_recv (I : WI D (XW h ca (n, sr, tg, a, r, cf, q, st)) (XT ca) A s H0 H locs) : ∃ cell : Cell, H[h 0]? = some cell ∧ cell.vm.isStatics = false ∧ s.vm.findClass RX1 = some cell.cls := va_recv I.1 I.2.1 (ci := 0) (q0 := 0) rfl rfl
theorem mg_n (F : CallFix p m c cc nL s args lw_all RX2) (I : WI D (MW h ca (n, sr, tg, a, wh, ms)) (MT ca) A s H0 H locs) (hdg : decode cc pc = .ok (.getfield 20, 3)) (kk : W p l e R s m args below meth c H locs cells slots Q (F0 m (pc + 3) ls (.int (nI n) :: rest))) : W p l e R s m args below meth c H locs cells slots Q (F0 m pc ls (.ref (h 0) :: rest)) :=
  va_get (D := D) (ci := 1) (v := .int (nI n)) (C := RX2) (T := TX2) (N := 6) F.1 F.2.1 F.2.2.2.2 in_X2 F.2.2.2.1 I.1 I.2.1 0 rfl rfl 0 (by decide) (F.2.2.2.2 _ q172) (fun _ h9 => h9) rfl hdg kk
theorem mg_s (F : CallFix p m c cc nL s args lw_all RX2) (I : WI D (MW h ca (n, sr, tg, a, wh, ms)) (MT ca) A s H0 H locs) (hdg : decode cc pc = .ok (.getfield 39, 3)) (kk : W p l e R s m args below meth c H locs cells slots Q (F0 m (pc + 3) ls (.int (nI sr) :: rest))) : W p l e R s m args below meth c H locs cells slots Q (F0 m pc ls (.ref (h 0) :: rest)) :=
  va_get (D := D) (ci := 1) (v := .int (nI sr)) (C := RX2) (T := TX2) (N := 6) F.1 F.2.1 F.2.2.2.2 in_X2 F.2.2.2.1 I.1 I.2.1 0 rfl rfl 1 (by decide) (F.2.2.2.2 _ q173) (fun _ h9 => h9) rfl hdg kk
theorem mg_t (F : CallFix p m c cc nL s args lw_all RX2) (I : WI D (MW h ca (n, sr, tg, a, wh, ms)) (MT ca) A s H0 H locs) (hdg : decode cc pc = .ok (.getfield 24, 3)) (kk : W p l e R s m args below meth c H locs cells slots Q (F0 m (pc + 3) ls (.int (nI tg) :: rest))) : W p l e R s m args below meth c H locs cells slots Q (F0 m pc ls (.ref (h 0) :: rest)) :=
  va_get (D := D) (ci := 1) (v := .int (nI tg)) (C := RX2) (T := TX2) (N := 6) F.1 F.2.1 F.2.2.2.2 in_X2 F.2.2.2.1 I.1 I.2.1 0 rfl rfl 2 (by decide) (F.2.2.2.2 _ q174) (fun _ h9 => h9) rfl hdg kk
theorem mg_near (F : CallFix p m c cc nL s args lw_all RX2) (I : WI D (MW h ca (n, sr, tg, a, wh, ms)) (MT ca) A s H0 H locs) (hdg : decode cc pc = .ok (.getfield 7, 3)) (kk : W p l e R s m args below meth c H locs cells slots Q (F0 m (pc + 3) ls (.ref (h 1) :: rest))) : W p l e R s m args below meth c H locs cells slots Q (F0 m pc ls (.ref (h 0) :: rest)) :=
  va_get (D := D) (ci := 1) (v := .ref (h 1)) (C := RX2) (T := TX2) (N := 6) F.1 F.2.1 F.2.2.2.2 in_X2 F.2.2.2.1 I.1 I.2.1 0 rfl rfl 3 (by decide) (F.2.2.2.2 _ q175) (fun _ h9 => h9) rfl hdg kk
theorem mg_whole (F : CallFix p m c cc nL s args lw_all RX2) (I : WI D (MW h ca (n, sr, tg, a, wh, ms)) (MT ca) A s H0 H locs) (hdg : decode cc pc = .ok (.getfield 13, 3)) (kk : W p l e R s m args below meth c H locs cells slots Q (F0 m (pc + 3) ls (.ref (h 2) :: rest))) : W p l e R s m args below meth c H locs cells slots Q (F0 m pc ls (.ref (h 0) :: rest)) :=
  va_get (D := D) (ci := 1) (v := .ref (h 2)) (C := RX2) (T := TX2) (N := 6) F.1 F.2.1 F.2.2.2.2 in_X2 F.2.2.2.1 I.1 I.2.1 0 rfl rfl 4 (by decide) (F.2.2.2.2 _ q176) (fun _ h9 => h9) rfl hdg kk
theorem mg_most (F : CallFix p m c cc nL s args lw_all RX2) (I : WI D (MW h ca (n, sr, tg, a, wh, ms)) (MT ca) A s H0 H locs) (hdg : decode cc pc = .ok (.getfield 17, 3)) (kk : W p l e R s m args below meth c H locs cells slots Q (F0 m (pc + 3) ls (.ref (h 3) :: rest))) : W p l e R s m args below meth c H locs cells slots Q (F0 m pc ls (.ref (h 0) :: rest)) :=
  va_get (D := D) (ci := 1) (v := .ref (h 3)) (C := RX2) (T := TX2) (N := 6) F.1 F.2.1 F.2.2.2.2 in_X2 F.2.2.2.1 I.1 I.2.1 0 rfl rfl 5 (by decide) (F.2.2.2.2 _ q177) (fun _ h9 => h9) rfl hdg kk
theorem mp_s {x : Nat} (F : CallFix p m c cc nL s args lw_all RX2) (I : WI D (MW h ca (n, sr, tg, a, wh, ms)) (MT ca) A s H0 H locs) (hdg : decode cc pc = .ok (.putfield 39, 3)) (kk : ∀ (H1 : Heap) (locs1 : List Loc), WI D (MW h ca (n, x, tg, a, wh, ms)) (MT ca) A s H0 H1 locs1 → W p l e R s m args below meth c H1 locs1 cells slots Q (F0 m (pc + 3) ls (rest))) : W p l e R s m args below meth c H locs cells slots Q (F0 m pc ls (.int (nI x) :: .ref (h 0) :: rest)) :=
  va_put (D := D) (ci := 1) (v := .int (nI x)) (ty := .int) (C := RX2) (T := TX2) (N := 6) F.1 F.2.1 F.2.2.2.2 in_X2 tyX2 tyX2_ok nmX2 F.2.2.2.1 I.1 I.2.1 I.2.2.1 I.2.2.2.1 0 rfl rfl 1 (by decide) (F.2.2.2.2 _ q173) (fun _ h9 => h9) rfl (by decide +kernel) rfl rfl (Nat.le_of_ble_eq_true rfl) hdg (fun H1 locs1 hP hD hS => kk H1 locs1 ⟨I.1, hP, hD, hS, I.2.2.2.2⟩)
theorem mp_t {x : Nat} (F : CallFix p m c cc nL s args lw_all RX2) (I : WI D (MW h ca (n, sr, tg, a, wh, ms)) (MT ca) A s H0 H locs) (hdg : decode cc pc = .ok (.putfield 24, 3)) (kk : ∀ (H1 : Heap) (locs1 : List Loc), WI D (MW h ca (n, sr, x, a, wh, ms)) (MT ca) A s H0 H1 locs1 → W p l e R s m args below meth c H1 locs1 cells slots Q (F0 m (pc + 3) ls (rest))) : W p l e R s m args below meth c H locs cells slots Q (F0 m pc ls (.int (nI x) :: .ref (h 0) :: rest)) :=
  va_put (D := D) (ci := 1) (v := .int (nI x)) (ty := .int) (C := RX2) (T := TX2) (N := 6) F.1 F.2.1 F.2.2.2.2 in_X2 tyX2 tyX2_ok nmX2 F.2.2.2.1 I.1 I.2.1 I.2.2.1 I.2.2.2.1 0 rfl rfl 2 (by decide) (F.2.2.2.2 _ q174) (fun _ h9 => h9) rfl (by decide +kernel) rfl rfl (Nat.le_of_ble_eq_true rfl) hdg (fun H1 locs1 hP hD hS => kk H1 locs1 ⟨I.1, hP, hD, hS, I.2.2.2.2⟩)
theorem ma_near {i : Nat} (F : CallFix p m c cc nL s args lw_all RX2) (I : WI D (MW h ca (n, sr, tg, a, wh, ms)) (MT ca) A s H0 H locs) (hdg : decode cc pc = .ok (.iaload, 1)) (hi : i < 8) (kk : W p l e R s m args below meth c H locs cells slots Q (F0 m (pc + 1) ls (.int (nI (a i)) :: rest))) : W p l e R s m args below meth c H locs cells slots Q (F0 m pc ls (.int (nI i) :: .ref (h 1) :: rest)) :=
  va_iald F.1 F.2.1 I.1 I.2.1 1 0 rfl rfl (vp_in_nI hi (by decide)) hdg (by
    show W p l e R s m args below meth c H locs cells slots Q (F0 m (pc + 1) ls (.int (nI (a (nI i).toNatClampNeg)) :: rest))
    rw [nI_clamp (Nat.lt_trans hi (by decide))]
    exact kk)
theorem ms_near {i : Nat} {x : Nat} (F : CallFix p m c cc nL s args lw_all RX2) (I : WI D (MW h ca (n, sr, tg, a, wh, ms)) (MT ca) A s H0 H locs) (hdg : decode cc pc = .ok (.iastore, 1)) (hi : i < 8) (kk : ∀ (H1 : Heap) (locs1 : List Loc), WI D (MW h ca (n, sr, tg, va_up a i x, wh, ms)) (MT ca) A s H0 H1 locs1 → W p l e R s m args below meth c H1 locs1 cells slots Q (F0 m (pc + 1) ls (rest))) : W p l e R s m args below meth c H locs cells slots Q (F0 m pc ls (.int (nI x) :: .int (nI i) :: .ref (h 1) :: rest)) :=
  va_iast F.1 F.2.1 I.1 I.2.1 I.2.2.1 I.2.2.2.1 1 0 rfl rfl (vp_in_nI hi (by decide)) hdg (fun H1 locs1 hP hD hS => kk H1 locs1 ⟨I.1, by
    have e := up_n (a := a) (i := i) (x := x) (Nat.lt_trans hi (by decide))
    rw [e] at hP
    exact hP, by
    have e := up_n (a := a) (i := i) (x := x) (Nat.lt_trans hi (by decide))
    rw [e] at hD
    exact hD, hS, I.2.2.2.2⟩)
theorem ma_whole {i : Nat} (F : CallFix p m c cc nL s args lw_all RX2) (I : WI D (MW h ca (n, sr, tg, a, wh, ms)) (MT ca) A s H0 H locs) (hdg : decode cc pc = .ok (.baload, 1)) (hi : i < 256) (kk : W p l e R s m args below meth c H locs cells slots Q (F0 m (pc + 1) ls (.int (bI (wh i)) :: rest))) : W p l e R s m args below meth c H locs cells slots Q (F0 m pc ls (.int (nI i) :: .ref (h 2) :: rest)) :=
  va_zald F.1 F.2.1 I.1 I.2.1 2 1 rfl rfl (vp_in_nI hi (by decide)) hdg (by
    show W p l e R s m args below meth c H locs cells slots Q (F0 m (pc + 1) ls (.int (bI (wh (nI i).toNatClampNeg)) :: rest))
    rw [nI_clamp (Nat.lt_trans hi (by decide))]
    exact kk)
theorem ms_whole {i : Nat} {x : Bool} (F : CallFix p m c cc nL s args lw_all RX2) (I : WI D (MW h ca (n, sr, tg, a, wh, ms)) (MT ca) A s H0 H locs) (hdg : decode cc pc = .ok (.bastore, 1)) (hi : i < 256) (kk : ∀ (H1 : Heap) (locs1 : List Loc), WI D (MW h ca (n, sr, tg, a, va_up wh i x, ms)) (MT ca) A s H0 H1 locs1 → W p l e R s m args below meth c H1 locs1 cells slots Q (F0 m (pc + 1) ls (rest))) : W p l e R s m args below meth c H locs cells slots Q (F0 m pc ls (.int (nI x.toNat) :: .int (nI i) :: .ref (h 2) :: rest)) :=
  va_zast F.1 F.2.1 I.1 I.2.1 I.2.2.1 I.2.2.2.1 2 1 rfl rfl (vp_in_nI hi (by decide)) hdg (fun H1 locs1 hP hD hS => kk H1 locs1 ⟨I.1, by
    have e := up_b (a := wh) (i := i) (x := x) (Nat.lt_trans hi (by decide))
    rw [e] at hP
    exact hP, by
    have e := up_b (a := wh) (i := i) (x := x) (Nat.lt_trans hi (by decide))
    rw [e] at hD
    exact hD, hS, I.2.2.2.2⟩)
theorem ma_most {i : Nat} (F : CallFix p m c cc nL s args lw_all RX2) (I : WI D (MW h ca (n, sr, tg, a, wh, ms)) (MT ca) A s H0 H locs) (hdg : decode cc pc = .ok (.iaload, 1)) (hi : i < 256) (kk : W p l e R s m args below meth c H locs cells slots Q (F0 m (pc + 1) ls (.int (nI (ms i)) :: rest))) : W p l e R s m args below meth c H locs cells slots Q (F0 m pc ls (.int (nI i) :: .ref (h 3) :: rest)) :=
  va_iald F.1 F.2.1 I.1 I.2.1 3 2 rfl rfl (vp_in_nI hi (by decide)) hdg (by
    show W p l e R s m args below meth c H locs cells slots Q (F0 m (pc + 1) ls (.int (nI (ms (nI i).toNatClampNeg)) :: rest))
    rw [nI_clamp (Nat.lt_trans hi (by decide))]
    exact kk)
theorem ms_most {i : Nat} {x : Nat} (F : CallFix p m c cc nL s args lw_all RX2) (I : WI D (MW h ca (n, sr, tg, a, wh, ms)) (MT ca) A s H0 H locs) (hdg : decode cc pc = .ok (.iastore, 1)) (hi : i < 256) (kk : ∀ (H1 : Heap) (locs1 : List Loc), WI D (MW h ca (n, sr, tg, a, wh, va_up ms i x)) (MT ca) A s H0 H1 locs1 → W p l e R s m args below meth c H1 locs1 cells slots Q (F0 m (pc + 1) ls (rest))) : W p l e R s m args below meth c H locs cells slots Q (F0 m pc ls (.int (nI x) :: .int (nI i) :: .ref (h 3) :: rest)) :=
  va_iast F.1 F.2.1 I.1 I.2.1 I.2.2.1 I.2.2.2.1 3 2 rfl rfl (vp_in_nI hi (by decide)) hdg (fun H1 locs1 hP hD hS => kk H1 locs1 ⟨I.1, by
    have e := up_n (a := ms) (i := i) (x := x) (Nat.lt_trans hi (by decide))
    rw [e] at hP
    exact hP, by
    have e := up_n (a := ms) (i := i) (x := x) (Nat.lt_trans hi (by decide))
    rw [e] at hD
    exact hD, hS, I.2.2.2.2⟩)
theorem m_recv (I : WI D (MW h ca (n, sr, tg, a, wh, ms)) (MT ca) A s H0 H locs) : ∃ cell : Cell, H[h 0]? = some cell ∧ cell.vm.isStatics = false ∧ s.vm.findClass RX2 = some cell.cls := va_recv I.1 I.2.1 (ci := 1) (q0 := 0) rfl rfl
end XX
end
section
/-! DisjointPaths: the small methods -/
/-- no vertex -/
def xbad (n : Nat) (x : Int32) : Bool := decide (x < 0 ∨ nI n ≤ x)
def xbp (n : Nat) (x y : Int32) : Bool := xbad n x || xbad n y || decide (x = y)
theorem xbad_f {n : Nat} {x : Int32} (hn : n ≤ 8) (h : xbad n x = false) : ∃ j, j < n ∧ x = nI j := by
  have h1 := of_decide_eq_false h
  rcases pk_ix x (n := n) (by omega) with q | q | q
  · exact absurd (Or.inl q) h1
  · exact absurd (Or.inr q) h1
  · exact q
theorem xbad_ok {n j : Nat} (hn : n ≤ 8) (h : j < n) : xbad n (nI j) = false := by
  apply decide_eq_false
  rintro (q | q)
  · exact nI_pos (by omega) q
  · exact nI_ge h (by omega) q
theorem xbp_ok {n j k : Nat} (hn : n ≤ 8) (hj : j < n) (hk : k < n) (hne : j ≠ k) : xbp n (nI j) (nI k) = false := by
  unfold xbp
  rw [xbad_ok hn hj, xbad_ok hn hk]
  simp only [Bool.false_or]
  exact decide_eq_false fun q => hne ((nI_eq (by omega) (by omega)).mp q)
theorem xbp_f {n : Nat} {x y : Int32} (hn : n ≤ 8) (h : xbp n x y = false) : ∃ j k, j < n ∧ k < n ∧ j ≠ k ∧ x = nI j ∧ y = nI k := by
  unfold xbp at h
  rw [Bool.or_eq_false_iff, Bool.or_eq_false_iff] at h
  obtain ⟨⟨h1, h2⟩, h3⟩ := h
  obtain ⟨j, hj, ej⟩ := xbad_f hn h1
  obtain ⟨k, hk, ek⟩ := xbad_f hn h2
  refine ⟨j, k, hj, hk, fun q => ?_, ej, ek⟩
  exact of_decide_eq_false h3 (by rw [ej, ek, q])
/-- near with the edge between u and v put in, taken away -/
def lnk (a : Nat → Nat) (u v : Nat) : Nat → Nat := va_up (va_up a u (a u ||| 2 ^ v)) v (va_up a u (a u ||| 2 ^ v) v ||| 2 ^ u)
def ulk (a : Nat → Nat) (u v : Nat) : Nat → Nat := va_up (va_up a u (dif (a u) (2 ^ v))) v (dif (va_up a u (dif (a u) (2 ^ v)) v) (2 ^ u))
set_option maxHeartbeats 8000000 in
set_option maxRecDepth 100000 in
theorem met_vertices (l : Launch) (D : va_G) (h : Nat → Nat) (ca : Nat → ClassId) (n sr tg : Nat) (a r : Nat → Nat) (cf : Nat → Option Nat) (q : Nat → Nat) (st : Nat → Option Nat) : WMi l yX1_vertices (ws_ yX1_vertices cX1_vertices 1 (some .int)) ({ frames := 0, cells := 0, slots := 0, locals := 0 } : Room) D (XW h ca (n, sr, tg, a, r, cf, q, st)) (XW h ca) (XT ca) [.ref (h 0)] (fun r' u' => r' = nI n ∧ u' = (n, sr, tg, a, r, cf, q, st)) := by
  refine wm_i (by decide) (Nat.le_of_ble_eq_true rfl) ?_
  intro p e R s m args below meth c ls A Q hR F ret I hl
  have hl : lv_has ls 1 [(0, .ref (h 0))] := hl
  refine lv_aload_n F.1 F.2.1 dX1_vertices_0 rfl (lv_at hl 0 rfl) ?_
  refine xg_n F I dX1_vertices_1 ?_
  exact ret _ _ _ _ ls _ ⟨rfl, rfl⟩ I dX1_vertices_4
theorem fa_nle {x y : Int32} (h : x < y) : ¬ y ≤ x := by
  rw [Int32.le_iff_toInt_le]
  rw [Int32.lt_iff_toInt_lt] at h
  omega
theorem fa_nlt {x y : Int32} (h : ¬ x < y) : y ≤ x := by
  rw [Int32.le_iff_toInt_le]
  rw [Int32.lt_iff_toInt_lt] at h
  omega
set_option maxHeartbeats 8000000 in
set_option maxRecDepth 100000 in
theorem met_bad (l : Launch) (D : va_G) (h : Nat → Nat) (ca : Nat → ClassId) (n sr tg : Nat) (a r : Nat → Nat) (cf : Nat → Option Nat) (q : Nat → Nat) (st : Nat → Option Nat) (x : Int32) : WMi l yX1_bad (ws_ yX1_bad cX1_bad 2 (some .boolean)) ({ frames := 0, cells := 0, slots := 0, locals := 0 } : Room) D (XW h ca (n, sr, tg, a, r, cf, q, st)) (XW h ca) (XT ca) [.ref (h 0), .int x] (fun r' u' => r' = nI (xbad n x).toNat ∧ u' = (n, sr, tg, a, r, cf, q, st)) := by
  refine wm_z (by decide) (Nat.le_of_ble_eq_true rfl) ?_
  intro p e R s m args below meth c ls A Q hR F ret I hl
  have hl : lv_has ls 2 [(0, .ref (h 0)), (1, .int x)] := hl
  refine lv_iload_n F.1 F.2.1 dX1_bad_0 rfl (lv_at hl 1 rfl) ?_
  refine lv_if_lt (tgt := 12) F.1 F.2.1 dX1_bad_1 (by decide) (fun c1 => ?_) (fun c1 => ?_)
  · refine lv_iconst (v := nI 1) F.1 F.2.1 dX1_bad_12 (by decide) ?_
    refine lv_goto (tgt := 17) F.1 F.2.1 dX1_bad_13 (by decide) ?_
    have e : xbad n x = true := decide_eq_true (Or.inl c1)
    exact ret true _ _ _ ls _ ⟨by rw [e], rfl⟩ I dX1_bad_17
  · refine lv_iload_n F.1 F.2.1 dX1_bad_4 rfl (lv_at hl 1 rfl) ?_
    refine lv_aload_n F.1 F.2.1 dX1_bad_5 rfl (lv_at hl 0 rfl) ?_
    refine xg_n F I dX1_bad_6 ?_
    refine lv_icmp_lt (tgt := 16) F.1 F.2.1 dX1_bad_9 (by decide) (fun c2 => ?_) (fun c2 => ?_)
    · refine lv_iconst (v := nI 0) F.1 F.2.1 dX1_bad_16 (by decide) ?_
      have e : xbad n x = false := decide_eq_false (by
        rintro (q | q)
        · exact c1 q
        · exact (fa_nle c2) q)
      exact ret false _ _ _ ls _ ⟨by rw [e], rfl⟩ I dX1_bad_17
    · refine lv_iconst (v := nI 1) F.1 F.2.1 dX1_bad_12 (by decide) ?_
      refine lv_goto (tgt := 17) F.1 F.2.1 dX1_bad_13 (by decide) ?_
      have e : xbad n x = true := decide_eq_true (Or.inr (fa_nlt c2))
      exact ret true _ _ _ ls _ ⟨by rw [e], rfl⟩ I dX1_bad_17
section XA
variable {p : Program} {l : Launch} {e : Env} {R : Room} {s : State} {m : MethodId} {args : Array Value} {below : List Frame} {meth : Method} {c : Code} {H : Heap} {locs : List Loc} {cells slots : Nat} {Q : State → Prop} {pc : Nat} {ls : Array Slot} {rest : List Value} {cc : ByteArray} {nL : Nat} {D : va_G} {A : Nat → Prop} {H0 : Heap} {h : Nat → Nat} {ca : Nat → ClassId} {lv : List (Nat × Value)} 
theorem xk_bad {n sr tg : Nat} {a r : Nat → Nat} {cf : Nat → Option Nat} {q : Nat → Nat} {st : Nat → Option Nat} {x : Int32} (F : CallFix p m c cc nL s args lw_all RX1) (I : WI D (XW h ca (n, sr, tg, a, r, cf, q, st)) (XT ca) A s H0 H locs) (hl : lv_has ls nL lv) (hdg : decode cc pc = .ok (.invokevirtual 32, 3)) (hR : 1 ≤ R.frames ∧ 21 ≤ R.locals) (hroom : (rest.map fun v => v.category).sum ≤ 8) (hf : cells ≤ R.cells ∧ slots ≤ R.slots) (kk : ∀ (H1 : Heap) (locs1 : List Loc), WI D (XW h ca (n, sr, tg, a, r, cf, q, st)) (XT ca) A s H0 H1 locs1 → W p l e R s m args below meth c H1 locs1 cells slots Q (F0 m (pc + 3) ls (.int (nI (xbad n x).toNat) :: rest))) : W p l e R s m args below meth c H locs cells slots Q (F0 m pc ls (.int x :: .ref (h 0) :: rest)) :=
  wc_i F I (met_bad l D h ca n sr tg a r cf q st x) (cwV 1 F.2.2.2.2 (lw_V q71 q73 qs1 q23 q74) rfl rfl rfl (by decide +kernel) hR) (x_recv I) hl rfl rfl hroom hdg hf (fun r u H1 locs1 hp I => by
    obtain ⟨rfl, rfl⟩ := hp; exact kk H1 locs1 I)

end XA
set_option maxHeartbeats 8000000 in
set_option maxRecDepth 100000 in
theorem met_badPair (l : Launch) (D : va_G) (h : Nat → Nat) (ca : Nat → ClassId) (n sr tg : Nat) (a r : Nat → Nat) (cf : Nat → Option Nat) (q : Nat → Nat) (st : Nat → Option Nat) (x y : Int32) : WMi l yX1_badPair (ws_ yX1_badPair cX1_badPair 3 (some .boolean)) ({ frames := 1, cells := 0, slots := 0, locals := 21 } : Room) D (XW h ca (n, sr, tg, a, r, cf, q, st)) (XW h ca) (XT ca) [.ref (h 0), .int x, .int y] (fun r' u' => r' = nI (xbp n x y).toNat ∧ u' = (n, sr, tg, a, r, cf, q, st)) := by
  refine wm_z (by decide) (Nat.le_of_ble_eq_true rfl) ?_
  intro p e R s m args below meth c ls A Q hR F ret I hl
  have hl : lv_has ls 3 [(0, .ref (h 0)), (1, .int x), (2, .int y)] := hl
  refine lv_aload_n F.1 F.2.1 dX1_badPair_0 rfl (lv_at hl 0 rfl) ?_
  refine lv_iload_n F.1 F.2.1 dX1_badPair_1 rfl (lv_at hl 1 rfl) ?_
  refine xk_bad F I hl dX1_badPair_2 ⟨by rw [hR]; decide, by rw [hR]; decide⟩ (Nat.le_of_ble_eq_true rfl) ⟨Nat.zero_le _, Nat.zero_le _⟩ (fun H locs I => ?_)
  refine nb_if_ne (tgt := 21) F.1 F.2.1 dX1_badPair_5 (by decide) (fun c1 => ?_) (fun c1 => ?_)
  · refine lv_iconst (v := nI 1) F.1 F.2.1 dX1_badPair_21 (by decide) ?_
    refine lv_goto (tgt := 26) F.1 F.2.1 dX1_badPair_22 (by decide) ?_
    have e : xbp n x y = true := by unfold xbp; rw [c1]; rfl
    exact ret true _ _ _ ls _ ⟨by rw [e], rfl⟩ I dX1_badPair_26
  · refine lv_aload_n F.1 F.2.1 dX1_badPair_8 rfl (lv_at hl 0 rfl) ?_
    refine lv_iload_n F.1 F.2.1 dX1_badPair_9 rfl (lv_at hl 2 rfl) ?_
    refine xk_bad F I hl dX1_badPair_10 ⟨by rw [hR]; decide, by rw [hR]; decide⟩ (Nat.le_of_ble_eq_true rfl) ⟨Nat.zero_le _, Nat.zero_le _⟩ (fun H locs I => ?_)
    refine nb_if_ne (tgt := 21) F.1 F.2.1 dX1_badPair_13 (by decide) (fun c2 => ?_) (fun c2 => ?_)
    · refine lv_iconst (v := nI 1) F.1 F.2.1 dX1_badPair_21 (by decide) ?_
      refine lv_goto (tgt := 26) F.1 F.2.1 dX1_badPair_22 (by decide) ?_
      have e : xbp n x y = true := by unfold xbp; rw [c1, c2]; rfl
      exact ret true _ _ _ ls _ ⟨by rw [e], rfl⟩ I dX1_badPair_26
    · refine lv_iload_n F.1 F.2.1 dX1_badPair_16 rfl (lv_at hl 1 rfl) ?_
      refine lv_iload_n F.1 F.2.1 dX1_badPair_17 rfl (lv_at hl 2 rfl) ?_
      refine lv_icmp_ne (tgt := 25) F.1 F.2.1 dX1_badPair_18 (by decide) (fun c3 => ?_) (fun c3 => ?_)
      · refine lv_iconst (v := nI 0) F.1 F.2.1 dX1_badPair_25 (by decide) ?_
        have e : xbp n x y = false := by unfold xbp; rw [c1, c2, decide_eq_false c3]; rfl
        exact ret false _ _ _ ls _ ⟨by rw [e], rfl⟩ I dX1_badPair_26
      · refine lv_iconst (v := nI 1) F.1 F.2.1 dX1_badPair_21 (by decide) ?_
        refine lv_goto (tgt := 26) F.1 F.2.1 dX1_badPair_22 (by decide) ?_
        have e : xbp n x y = true := by unfold xbp; rw [c1, c2, decide_eq_true c3]; rfl
        exact ret true _ _ _ ls _ ⟨by rw [e], rfl⟩ I dX1_badPair_26
section XA
variable {p : Program} {l : Launch} {e : Env} {R : Room} {s : State} {m : MethodId} {args : Array Value} {below : List Frame} {meth : Method} {c : Code} {H : Heap} {locs : List Loc} {cells slots : Nat} {Q : State → Prop} {pc : Nat} {ls : Array Slot} {rest : List Value} {cc : ByteArray} {nL : Nat} {D : va_G} {A : Nat → Prop} {H0 : Heap} {h : Nat → Nat} {ca : Nat → ClassId} {lv : List (Nat × Value)} 
theorem xk_badPair {n sr tg : Nat} {a r : Nat → Nat} {cf : Nat → Option Nat} {q : Nat → Nat} {st : Nat → Option Nat} {x y : Int32} (F : CallFix p m c cc nL s args lw_all RX1) (I : WI D (XW h ca (n, sr, tg, a, r, cf, q, st)) (XT ca) A s H0 H locs) (hl : lv_has ls nL lv) (hdg : decode cc pc = .ok (.invokevirtual 36, 3)) (hR : 2 ≤ R.frames ∧ 43 ≤ R.locals) (hroom : (rest.map fun v => v.category).sum ≤ 8) (hf : cells ≤ R.cells ∧ slots ≤ R.slots) (kk : ∀ (H1 : Heap) (locs1 : List Loc), WI D (XW h ca (n, sr, tg, a, r, cf, q, st)) (XT ca) A s H0 H1 locs1 → W p l e R s m args below meth c H1 locs1 cells slots Q (F0 m (pc + 3) ls (.int (nI (xbp n x y).toNat) :: rest))) : W p l e R s m args below meth c H locs cells slots Q (F0 m pc ls (.int y :: .int x :: .ref (h 0) :: rest)) :=
  wc_i F I (met_badPair l D h ca n sr tg a r cf q st x y) (cwV 2 F.2.2.2.2 (lw_V q67 q69 qs0 q23 q70) rfl rfl rfl (by decide +kernel) hR) (x_recv I) hl rfl rfl hroom hdg hf (fun r u H1 locs1 hp I => by
    obtain ⟨rfl, rfl⟩ := hp; exact kk H1 locs1 I)

end XA
set_option maxHeartbeats 8000000 in
set_option maxRecDepth 100000 in
theorem met_linked (l : Launch) (D : va_G) (h : Nat → Nat) (ca : Nat → ClassId) (n sr tg : Nat) (a r : Nat → Nat) (cf : Nat → Option Nat) (q : Nat → Nat) (st : Nat → Option Nat) (u v : Nat) (hu : u < 8) (hv : v < 32) (ha : a u < 2 ^ 31) : WMi l yX1_linked (ws_ yX1_linked cX1_linked 3 (some .boolean)) ({ frames := 0, cells := 0, slots := 0, locals := 0 } : Room) D (XW h ca (n, sr, tg, a, r, cf, q, st)) (XW h ca) (XT ca) [.ref (h 0), .int (nI u), .int (nI v)] (fun r' u' => r' = nI ((a u).testBit v).toNat ∧ u' = (n, sr, tg, a, r, cf, q, st)) := by
  refine wm_z (by decide) (Nat.le_of_ble_eq_true rfl) ?_
  intro p e R s m args below meth c ls A Q hR F ret I hl
  have hl : lv_has ls 3 [(0, .ref (h 0)), (1, .int (nI u)), (2, .int (nI v))] := hl
  refine lv_aload_n F.1 F.2.1 dX1_linked_0 rfl (lv_at hl 0 rfl) ?_
  refine xg_near F I dX1_linked_1 ?_
  refine lv_iload_n F.1 F.2.1 dX1_linked_4 rfl (lv_at hl 1 rfl) ?_
  refine xa_near F I dX1_linked_5 hu ?_
  refine lv_iload_n F.1 F.2.1 dX1_linked_6 rfl (lv_at hl 2 rfl) ?_
  refine nv_bit F.1 F.2.1 dX1_linked_7 dX1_linked_8 dX1_linked_9 ha hv ?_
  refine lv_iconst (v := nI 1) F.1 F.2.1 dX1_linked_10 (by decide) ?_
  refine nb_icmp_ne (tgt := 18) F.1 F.2.1 dX1_linked_11 (by decide) (fun c1 => ?_) (fun c1 => ?_)
  · refine lv_iconst (v := nI 0) F.1 F.2.1 dX1_linked_18 (by decide) ?_
    exact ret false _ _ _ ls _ ⟨by rw [c1], rfl⟩ I dX1_linked_19
  · refine lv_iconst (v := nI 1) F.1 F.2.1 dX1_linked_14 (by decide) ?_
    refine lv_goto (tgt := 19) F.1 F.2.1 dX1_linked_15 (by decide) ?_
    exact ret true _ _ _ ls _ ⟨by rw [c1], rfl⟩ I dX1_linked_19
section XA
variable {p : Program} {l : Launch} {e : Env} {R : Room} {s : State} {m : MethodId} {args : Array Value} {below : List Frame} {meth : Method} {c : Code} {H : Heap} {locs : List Loc} {cells slots : Nat} {Q : State → Prop} {pc : Nat} {ls : Array Slot} {rest : List Value} {cc : ByteArray} {nL : Nat} {D : va_G} {A : Nat → Prop} {H0 : Heap} {h : Nat → Nat} {ca : Nat → ClassId} {lv : List (Nat × Value)} 
theorem xk_linked {n sr tg : Nat} {a r : Nat → Nat} {cf : Nat → Option Nat} {q : Nat → Nat} {st : Nat → Option Nat} {u v : Nat} (F : CallFix p m c cc nL s args lw_all RX1) (I : WI D (XW h ca (n, sr, tg, a, r, cf, q, st)) (XT ca) A s H0 H locs) (hl : lv_has ls nL lv) (hdg : decode cc pc = .ok (.invokevirtual 40, 3)) (hR : 1 ≤ R.frames ∧ 22 ≤ R.locals) (hroom : (rest.map fun v => v.category).sum ≤ 8) (hf : cells ≤ R.cells ∧ slots ≤ R.slots) (hu : u < 8) (hv : v < 32) (ha : a u < 2 ^ 31) (kk : ∀ (H1 : Heap) (locs1 : List Loc), WI D (XW h ca (n, sr, tg, a, r, cf, q, st)) (XT ca) A s H0 H1 locs1 → W p l e R s m args below meth c H1 locs1 cells slots Q (F0 m (pc + 3) ls (.int (nI ((a u).testBit v).toNat) :: rest))) : W p l e R s m args below meth c H locs cells slots Q (F0 m pc ls (.int (nI v) :: .int (nI u) :: .ref (h 0) :: rest)) :=
  wc_i F I (met_linked l D h ca n sr tg a r cf q st u v hu hv ha) (cwV 2 F.2.2.2.2 (lw_V q75 q77 qs2 q23 q78) rfl rfl rfl (by decide +kernel) hR) (x_recv I) hl rfl rfl hroom hdg hf (fun r u H1 locs1 hp I => by
    obtain ⟨rfl, rfl⟩ := hp; exact kk H1 locs1 I)

end XA
set_option maxHeartbeats 8000000 in
set_option maxRecDepth 100000 in
theorem met_link (l : Launch) (D : va_G) (h : Nat → Nat) (ca : Nat → ClassId) (n sr tg : Nat) (a r : Nat → Nat) (cf : Nat → Option Nat) (q : Nat → Nat) (st : Nat → Option Nat) (u v : Nat) (hu : u < 8) (hv : v < 8) : WMv l yX1_link (ws_ yX1_link cX1_link 3 none) ({ frames := 0, cells := 0, slots := 0, locals := 0 } : Room) D (XW h ca (n, sr, tg, a, r, cf, q, st)) (XW h ca) (XT ca) [.ref (h 0), .int (nI u), .int (nI v)] (fun u' => u' = (n, sr, tg, lnk a u v, r, cf, q, st)) := by
  refine wm_v (by decide) (Nat.le_of_ble_eq_true rfl) ?_
  intro p e R s m args below meth c ls A Q hR F ret I hl
  have hl : lv_has ls 3 [(0, .ref (h 0)), (1, .int (nI u)), (2, .int (nI v))] := hl
  refine lv_aload_n F.1 F.2.1 dX1_link_0 rfl (lv_at hl 0 rfl) ?_
  refine xg_near F I dX1_link_1 ?_
  refine lv_iload_n F.1 F.2.1 dX1_link_4 rfl (lv_at hl 1 rfl) ?_
  refine lv_aload_n F.1 F.2.1 dX1_link_5 rfl (lv_at hl 0 rfl) ?_
  refine xg_near F I dX1_link_6 ?_
  refine lv_iload_n F.1 F.2.1 dX1_link_9 rfl (lv_at hl 1 rfl) ?_
  refine xa_near F I dX1_link_10 hu ?_
  refine lv_iconst (v := nI 1) F.1 F.2.1 dX1_link_11 (by decide) ?_
  refine lv_iload_n F.1 F.2.1 dX1_link_12 rfl (lv_at hl 2 rfl) ?_
  refine nv_one F.1 F.2.1 dX1_link_13 (by omega) ?_
  refine nv_ior F.1 F.2.1 dX1_link_14 ?_
  refine xs_near (x := (a u) ||| (2 ^ v)) F I dX1_link_15 hu (fun H locs I => ?_)
  refine lv_aload_n F.1 F.2.1 dX1_link_16 rfl (lv_at hl 0 rfl) ?_
  refine xg_near F I dX1_link_17 ?_
  refine lv_iload_n F.1 F.2.1 dX1_link_20 rfl (lv_at hl 2 rfl) ?_
  refine lv_aload_n F.1 F.2.1 dX1_link_21 rfl (lv_at hl 0 rfl) ?_
  refine xg_near F I dX1_link_22 ?_
  refine lv_iload_n F.1 F.2.1 dX1_link_25 rfl (lv_at hl 2 rfl) ?_
  refine xa_near F I dX1_link_26 hv ?_
  refine lv_iconst (v := nI 1) F.1 F.2.1 dX1_link_27 (by decide) ?_
  refine lv_iload_n F.1 F.2.1 dX1_link_28 rfl (lv_at hl 1 rfl) ?_
  refine nv_one F.1 F.2.1 dX1_link_29 (by omega) ?_
  refine nv_ior F.1 F.2.1 dX1_link_30 ?_
  refine xs_near (x := ((va_up a u ((a u) ||| (2 ^ v))) v) ||| (2 ^ u)) F I dX1_link_31 hv (fun H locs I => ?_)
  exact ret _ _ _ ls _ rfl I dX1_link_32
section XA
variable {p : Program} {l : Launch} {e : Env} {R : Room} {s : State} {m : MethodId} {args : Array Value} {below : List Frame} {meth : Method} {c : Code} {H : Heap} {locs : List Loc} {cells slots : Nat} {Q : State → Prop} {pc : Nat} {ls : Array Slot} {rest : List Value} {cc : ByteArray} {nL : Nat} {D : va_G} {A : Nat → Prop} {H0 : Heap} {h : Nat → Nat} {ca : Nat → ClassId} {lv : List (Nat × Value)} 
theorem xk_link {n sr tg : Nat} {a r : Nat → Nat} {cf : Nat → Option Nat} {q : Nat → Nat} {st : Nat → Option Nat} {u v : Nat} (F : CallFix p m c cc nL s args lw_all RX1) (I : WI D (XW h ca (n, sr, tg, a, r, cf, q, st)) (XT ca) A s H0 H locs) (hl : lv_has ls nL lv) (hdg : decode cc pc = .ok (.invokevirtual 43, 3)) (hR : 1 ≤ R.frames ∧ 22 ≤ R.locals) (hroom : (rest.map fun v => v.category).sum ≤ 8) (hf : cells ≤ R.cells ∧ slots ≤ R.slots) (hu : u < 8) (hv : v < 8) (kk : ∀ (H1 : Heap) (locs1 : List Loc), WI D (XW h ca (n, sr, tg, lnk a u v, r, cf, q, st)) (XT ca) A s H0 H1 locs1 → W p l e R s m args below meth c H1 locs1 cells slots Q (F0 m (pc + 3) ls (rest))) : W p l e R s m args below meth c H locs cells slots Q (F0 m pc ls (.int (nI v) :: .int (nI u) :: .ref (h 0) :: rest)) :=
  wc_v F I (met_link l D h ca n sr tg a r cf q st u v hu hv) (cwV 2 F.2.2.2.2 (lw_V q79 q81 qs3 q23 q82) rfl rfl rfl (by decide +kernel) hR) (x_recv I) hl rfl rfl hroom hdg hf (fun u H1 locs1 hp I => by
    subst hp; exact kk H1 locs1 I)

end XA
set_option maxHeartbeats 8000000 in
set_option maxRecDepth 100000 in
theorem met_unlink (l : Launch) (D : va_G) (h : Nat → Nat) (ca : Nat → ClassId) (n sr tg : Nat) (a r : Nat → Nat) (cf : Nat → Option Nat) (q : Nat → Nat) (st : Nat → Option Nat) (u v : Nat) (hu : u < 8) (hv : v < 8) (hne : u ≠ v) (hau : a u < 2 ^ 31) (hav : a v < 2 ^ 31) : WMv l yX1_unlink (ws_ yX1_unlink cX1_unlink 3 none) ({ frames := 0, cells := 0, slots := 0, locals := 0 } : Room) D (XW h ca (n, sr, tg, a, r, cf, q, st)) (XW h ca) (XT ca) [.ref (h 0), .int (nI u), .int (nI v)] (fun u' => u' = (n, sr, tg, ulk a u v, r, cf, q, st)) := by
  refine wm_v (by decide) (Nat.le_of_ble_eq_true rfl) ?_
  intro p e R s m args below meth c ls A Q hR F ret I hl
  have hl : lv_has ls 3 [(0, .ref (h 0)), (1, .int (nI u)), (2, .int (nI v))] := hl
  refine lv_aload_n F.1 F.2.1 dX1_unlink_0 rfl (lv_at hl 0 rfl) ?_
  refine xg_near F I dX1_unlink_1 ?_
  refine lv_iload_n F.1 F.2.1 dX1_unlink_4 rfl (lv_at hl 1 rfl) ?_
  refine lv_aload_n F.1 F.2.1 dX1_unlink_5 rfl (lv_at hl 0 rfl) ?_
  refine xg_near F I dX1_unlink_6 ?_
  refine lv_iload_n F.1 F.2.1 dX1_unlink_9 rfl (lv_at hl 1 rfl) ?_
  refine xa_near F I dX1_unlink_10 hu ?_
  refine lv_iconst (v := nI 1) F.1 F.2.1 dX1_unlink_11 (by decide) ?_
  refine lv_iload_n F.1 F.2.1 dX1_unlink_12 rfl (lv_at hl 2 rfl) ?_
  refine nv_one F.1 F.2.1 dX1_unlink_13 (by omega) ?_
  refine nv_dif F.1 F.2.1 dX1_unlink_14 dX1_unlink_15 dX1_unlink_16 hau ?_
  refine xs_near (x := dif (a u) (2 ^ v)) F I dX1_unlink_17 hu (fun H locs I => ?_)
  refine lv_aload_n F.1 F.2.1 dX1_unlink_18 rfl (lv_at hl 0 rfl) ?_
  refine xg_near F I dX1_unlink_19 ?_
  refine lv_iload_n F.1 F.2.1 dX1_unlink_22 rfl (lv_at hl 2 rfl) ?_
  refine lv_aload_n F.1 F.2.1 dX1_unlink_23 rfl (lv_at hl 0 rfl) ?_
  refine xg_near F I dX1_unlink_24 ?_
  refine lv_iload_n F.1 F.2.1 dX1_unlink_27 rfl (lv_at hl 2 rfl) ?_
  refine xa_near F I dX1_unlink_28 hv ?_
  refine lv_iconst (v := nI 1) F.1 F.2.1 dX1_unlink_29 (by decide) ?_
  refine lv_iload_n F.1 F.2.1 dX1_unlink_30 rfl (lv_at hl 1 rfl) ?_
  refine nv_one F.1 F.2.1 dX1_unlink_31 (by omega) ?_
  refine nv_dif F.1 F.2.1 dX1_unlink_32 dX1_unlink_33 dX1_unlink_34 (by rw [va_up_ne _ _ (Ne.symm hne)]; exact hav) ?_
  refine xs_near (x := dif ((va_up a u (dif (a u) (2 ^ v))) v) (2 ^ u)) F I dX1_unlink_35 hv (fun H locs I => ?_)
  exact ret _ _ _ ls _ rfl I dX1_unlink_36
section XA
variable {p : Program} {l : Launch} {e : Env} {R : Room} {s : State} {m : MethodId} {args : Array Value} {below : List Frame} {meth : Method} {c : Code} {H : Heap} {locs : List Loc} {cells slots : Nat} {Q : State → Prop} {pc : Nat} {ls : Array Slot} {rest : List Value} {cc : ByteArray} {nL : Nat} {D : va_G} {A : Nat → Prop} {H0 : Heap} {h : Nat → Nat} {ca : Nat → ClassId} {lv : List (Nat × Value)} 
theorem xk_unlink {n sr tg : Nat} {a r : Nat → Nat} {cf : Nat → Option Nat} {q : Nat → Nat} {st : Nat → Option Nat} {u v : Nat} (F : CallFix p m c cc nL s args lw_all RX1) (I : WI D (XW h ca (n, sr, tg, a, r, cf, q, st)) (XT ca) A s H0 H locs) (hl : lv_has ls nL lv) (hdg : decode cc pc = .ok (.invokevirtual 47, 3)) (hR : 1 ≤ R.frames ∧ 22 ≤ R.locals) (hroom : (rest.map fun v => v.category).sum ≤ 8) (hf : cells ≤ R.cells ∧ slots ≤ R.slots) (hu : u < 8) (hv : v < 8) (hne : u ≠ v) (hau : a u < 2 ^ 31) (hav : a v < 2 ^ 31) (kk : ∀ (H1 : Heap) (locs1 : List Loc), WI D (XW h ca (n, sr, tg, ulk a u v, r, cf, q, st)) (XT ca) A s H0 H1 locs1 → W p l e R s m args below meth c H1 locs1 cells slots Q (F0 m (pc + 3) ls (rest))) : W p l e R s m args below meth c H locs cells slots Q (F0 m pc ls (.int (nI v) :: .int (nI u) :: .ref (h 0) :: rest)) :=
  wc_v F I (met_unlink l D h ca n sr tg a r cf q st u v hu hv hne hau hav) (cwV 2 F.2.2.2.2 (lw_V q83 q85 qs4 q23 q86) rfl rfl rfl (by decide +kernel) hR) (x_recv I) hl rfl rfl hroom hdg hf (fun u H1 locs1 hp I => by
    subst hp; exact kk H1 locs1 I)

end XA
set_option maxHeartbeats 8000000 in
set_option maxRecDepth 100000 in
theorem met_edge_bad (l : Launch) (D : va_G) (h : Nat → Nat) (ca : Nat → ClassId) (n sr tg : Nat) (a r : Nat → Nat) (cf : Nat → Option Nat) (q : Nat → Nat) (st : Nat → Option Nat) (x y o : Int32) (hbp : xbp n x y = true) : WMi l yX1_edge (ws_ yX1_edge cX1_edge 5 (some .int)) ({ frames := 2, cells := 0, slots := 0, locals := 43 } : Room) D (XW h ca (n, sr, tg, a, r, cf, q, st)) (XW h ca) (XT ca) [.ref (h 0), .int x, .int y, .int o] (fun r' u' => r' = (-1) ∧ u' = (n, sr, tg, a, r, cf, q, st)) := by
  refine wm_i (by decide) (Nat.le_of_ble_eq_true rfl) ?_
  intro p e R s m args below meth c ls A Q hR F ret I hl
  have hl : lv_has ls 5 [(0, .ref (h 0)), (1, .int x), (2, .int y), (3, .int o)] := hl
  refine lv_aload_n F.1 F.2.1 dX1_edge_0 rfl (lv_at hl 0 rfl) ?_
  refine lv_iload_n F.1 F.2.1 dX1_edge_1 rfl (lv_at hl 1 rfl) ?_
  refine lv_iload_n F.1 F.2.1 dX1_edge_2 rfl (lv_at hl 2 rfl) ?_
  refine xk_badPair F I hl dX1_edge_3 ⟨by rw [hR]; decide, by rw [hR]; decide⟩ (Nat.le_of_ble_eq_true rfl) ⟨Nat.zero_le _, Nat.zero_le _⟩ (fun H locs I => ?_)
  refine nb_if_eq (tgt := 11) F.1 F.2.1 dX1_edge_6 (by decide) (fun c1 => ?_) (fun c1 => ?_)
  · rw [hbp] at c1
    cases c1
  · refine lv_iconst (v := -1) F.1 F.2.1 dX1_edge_9 (by decide) ?_
    exact ret _ _ _ _ ls _ ⟨rfl, rfl⟩ I dX1_edge_10
set_option maxHeartbeats 8000000 in
set_option maxRecDepth 100000 in
theorem met_joined_bad (l : Launch) (D : va_G) (h : Nat → Nat) (ca : Nat → ClassId) (n sr tg : Nat) (a r : Nat → Nat) (cf : Nat → Option Nat) (q : Nat → Nat) (st : Nat → Option Nat) (x y : Int32) (hbp : xbp n x y = true) : WMi l yX1_joined (ws_ yX1_joined cX1_joined 3 (some .boolean)) ({ frames := 2, cells := 0, slots := 0, locals := 43 } : Room) D (XW h ca (n, sr, tg, a, r, cf, q, st)) (XW h ca) (XT ca) [.ref (h 0), .int x, .int y] (fun r' u' => r' = nI 0 ∧ u' = (n, sr, tg, a, r, cf, q, st)) := by
  refine wm_z (by decide) (Nat.le_of_ble_eq_true rfl) ?_
  intro p e R s m args below meth c ls A Q hR F ret I hl
  have hl : lv_has ls 3 [(0, .ref (h 0)), (1, .int x), (2, .int y)] := hl
  refine lv_aload_n F.1 F.2.1 dX1_joined_0 rfl (lv_at hl 0 rfl) ?_
  refine lv_iload_n F.1 F.2.1 dX1_joined_1 rfl (lv_at hl 1 rfl) ?_
  refine lv_iload_n F.1 F.2.1 dX1_joined_2 rfl (lv_at hl 2 rfl) ?_
  refine xk_badPair F I hl dX1_joined_3 ⟨by rw [hR]; decide, by rw [hR]; decide⟩ (Nat.le_of_ble_eq_true rfl) ⟨Nat.zero_le _, Nat.zero_le _⟩ (fun H locs I => ?_)
  refine nb_if_eq (tgt := 11) F.1 F.2.1 dX1_joined_6 (by decide) (fun c1 => ?_) (fun c1 => ?_)
  · rw [hbp] at c1
    cases c1
  · refine lv_iconst (v := nI 0) F.1 F.2.1 dX1_joined_9 (by decide) ?_
    exact ret false _ _ _ ls _ ⟨rfl, rfl⟩ I dX1_joined_10
set_option maxHeartbeats 8000000 in
set_option maxRecDepth 100000 in
theorem met_ends_bad (l : Launch) (D : va_G) (h : Nat → Nat) (ca : Nat → ClassId) (n sr tg : Nat) (a r : Nat → Nat) (cf : Nat → Option Nat) (q : Nat → Nat) (st : Nat → Option Nat) (x y : Int32) (hbp : xbp n x y = true) : WMi l yX1_ends (ws_ yX1_ends cX1_ends 3 (some .int)) ({ frames := 2, cells := 0, slots := 0, locals := 43 } : Room) D (XW h ca (n, sr, tg, a, r, cf, q, st)) (XW h ca) (XT ca) [.ref (h 0), .int x, .int y] (fun r' u' => r' = (-1) ∧ u' = (n, sr, tg, a, r, cf, q, st)) := by
  refine wm_i (by decide) (Nat.le_of_ble_eq_true rfl) ?_
  intro p e R s m args below meth c ls A Q hR F ret I hl
  have hl : lv_has ls 3 [(0, .ref (h 0)), (1, .int x), (2, .int y)] := hl
  refine lv_aload_n F.1 F.2.1 dX1_ends_0 rfl (lv_at hl 0 rfl) ?_
  refine lv_iload_n F.1 F.2.1 dX1_ends_1 rfl (lv_at hl 1 rfl) ?_
  refine lv_iload_n F.1 F.2.1 dX1_ends_2 rfl (lv_at hl 2 rfl) ?_
  refine xk_badPair F I hl dX1_ends_3 ⟨by rw [hR]; decide, by rw [hR]; decide⟩ (Nat.le_of_ble_eq_true rfl) ⟨Nat.zero_le _, Nat.zero_le _⟩ (fun H locs I => ?_)
  refine nb_if_eq (tgt := 11) F.1 F.2.1 dX1_ends_6 (by decide) (fun c1 => ?_) (fun c1 => ?_)
  · rw [hbp] at c1
    cases c1
  · refine lv_iconst (v := -1) F.1 F.2.1 dX1_ends_9 (by decide) ?_
    exact ret _ _ _ _ ls _ ⟨rfl, rfl⟩ I dX1_ends_10
set_option maxHeartbeats 8000000 in
set_option maxRecDepth 100000 in
theorem met_edge (l : Launch) (D : va_G) (h : Nat → Nat) (ca : Nat → ClassId) (n sr tg : Nat) (a r : Nat → Nat) (cf : Nat → Option Nat) (q : Nat → Nat) (st : Nat → Option Nat) (j k : Nat) (o : Int32) (hn : n ≤ 8) (hj : j < n) (hk : k < n) (hne : j ≠ k) (haj : a j < 2 ^ 31) (hak : a k < 2 ^ 31) : WMi l yX1_edge (ws_ yX1_edge cX1_edge 5 (some .int)) ({ frames := 2, cells := 0, slots := 0, locals := 43 } : Room) D (XW h ca (n, sr, tg, a, r, cf, q, st)) (XW h ca) (XT ca) [.ref (h 0), .int (nI j), .int (nI k), .int o] (fun r' u' => r' = nI ((a j).testBit k).toNat ∧ u' = (n, sr, tg, if o = 0 then ulk a j k else lnk a j k, r, cf, q, st)) := by
  refine wm_i (by decide) (Nat.le_of_ble_eq_true rfl) ?_
  intro p e R s m args below meth c ls A Q hR F ret I hl
  have hl : lv_has ls 5 [(0, .ref (h 0)), (1, .int (nI j)), (2, .int (nI k)), (3, .int o)] := hl
  refine lv_aload_n F.1 F.2.1 dX1_edge_0 rfl (lv_at hl 0 rfl) ?_
  refine lv_iload_n F.1 F.2.1 dX1_edge_1 rfl (lv_at hl 1 rfl) ?_
  refine lv_iload_n F.1 F.2.1 dX1_edge_2 rfl (lv_at hl 2 rfl) ?_
  refine xk_badPair F I hl dX1_edge_3 ⟨by rw [hR]; decide, by rw [hR]; decide⟩ (Nat.le_of_ble_eq_true rfl) ⟨Nat.zero_le _, Nat.zero_le _⟩ (fun H locs I => ?_)
  refine nb_if_eq (tgt := 11) F.1 F.2.1 dX1_edge_6 (by decide) (fun c1 => ?_) (fun c1 => ?_)
  · refine lv_aload_n F.1 F.2.1 dX1_edge_11 rfl (lv_at hl 0 rfl) ?_
    refine lv_iload_n F.1 F.2.1 dX1_edge_12 rfl (lv_at hl 1 rfl) ?_
    refine lv_iload_n F.1 F.2.1 dX1_edge_13 rfl (lv_at hl 2 rfl) ?_
    refine xk_linked F I hl dX1_edge_14 ⟨by rw [hR]; decide, by rw [hR]; decide⟩ (Nat.le_of_ble_eq_true rfl) ⟨Nat.zero_le _, Nat.zero_le _⟩ (by omega) (by omega) haj (fun H locs I => ?_)
    refine nb_if_eq (tgt := 24) F.1 F.2.1 dX1_edge_17 (by decide) (fun c2 => ?_) (fun c2 => ?_)
    · refine lv_iconst (v := nI 0) F.1 F.2.1 dX1_edge_24 (by decide) ?_
      refine lv_istore (lv' := [(4, .int (nI 0)), (0, .ref (h 0)), (1, .int (nI j)), (2, .int (nI k)), (3, .int o)]) F.1 F.2.1 dX1_edge_25 hl (by decide) rfl (fun ls hl => ?_)
      refine lv_iload_n F.1 F.2.1 dX1_edge_27 rfl (lv_at hl 4 rfl) ?_
      refine lv_if_eq (tgt := 40) F.1 F.2.1 dX1_edge_28 (by decide) (fun c3 => ?_) (fun c3 => ?_)
      · refine lv_aload_n F.1 F.2.1 dX1_edge_40 rfl (lv_at hl 1 rfl) ?_
        refine lv_iload_n F.1 F.2.1 dX1_edge_41 rfl (lv_at hl 2 rfl) ?_
        refine lv_iload_n F.1 F.2.1 dX1_edge_42 rfl (lv_at hl 3 rfl) ?_
        refine xk_unlink F I hl dX1_edge_43 ⟨by rw [hR]; decide, by rw [hR]; decide⟩ (Nat.le_of_ble_eq_true rfl) ⟨Nat.zero_le _, Nat.zero_le _⟩ (by omega) (by omega) hne haj hak (fun H locs I => ?_)
        refine lv_iload F.1 F.2.1 dX1_edge_46 (lv_at hl 0 rfl) ?_
        exact ret _ _ _ _ ls _ ⟨by rw [c2]; rfl, by rw [if_pos c3]⟩ I dX1_edge_48
      · refine lv_aload_n F.1 F.2.1 dX1_edge_31 rfl (lv_at hl 1 rfl) ?_
        refine lv_iload_n F.1 F.2.1 dX1_edge_32 rfl (lv_at hl 2 rfl) ?_
        refine lv_iload_n F.1 F.2.1 dX1_edge_33 rfl (lv_at hl 3 rfl) ?_
        refine xk_link F I hl dX1_edge_34 ⟨by rw [hR]; decide, by rw [hR]; decide⟩ (Nat.le_of_ble_eq_true rfl) ⟨Nat.zero_le _, Nat.zero_le _⟩ (by omega) (by omega) (fun H locs I => ?_)
        refine lv_goto (tgt := 46) F.1 F.2.1 dX1_edge_37 (by decide) ?_
        refine lv_iload F.1 F.2.1 dX1_edge_46 (lv_at hl 0 rfl) ?_
        exact ret _ _ _ _ ls _ ⟨by rw [c2]; rfl, by rw [if_neg c3]⟩ I dX1_edge_48
    · refine lv_iconst (v := nI 1) F.1 F.2.1 dX1_edge_20 (by decide) ?_
      refine lv_goto (tgt := 25) F.1 F.2.1 dX1_edge_21 (by decide) ?_
      refine lv_istore (lv' := [(4, .int (nI 1)), (0, .ref (h 0)), (1, .int (nI j)), (2, .int (nI k)), (3, .int o)]) F.1 F.2.1 dX1_edge_25 hl (by decide) rfl (fun ls hl => ?_)
      refine lv_iload_n F.1 F.2.1 dX1_edge_27 rfl (lv_at hl 4 rfl) ?_
      refine lv_if_eq (tgt := 40) F.1 F.2.1 dX1_edge_28 (by decide) (fun c3 => ?_) (fun c3 => ?_)
      · refine lv_aload_n F.1 F.2.1 dX1_edge_40 rfl (lv_at hl 1 rfl) ?_
        refine lv_iload_n F.1 F.2.1 dX1_edge_41 rfl (lv_at hl 2 rfl) ?_
        refine lv_iload_n F.1 F.2.1 dX1_edge_42 rfl (lv_at hl 3 rfl) ?_
        refine xk_unlink F I hl dX1_edge_43 ⟨by rw [hR]; decide, by rw [hR]; decide⟩ (Nat.le_of_ble_eq_true rfl) ⟨Nat.zero_le _, Nat.zero_le _⟩ (by omega) (by omega) hne haj hak (fun H locs I => ?_)
        refine lv_iload F.1 F.2.1 dX1_edge_46 (lv_at hl 0 rfl) ?_
        exact ret _ _ _ _ ls _ ⟨by rw [c2]; rfl, by rw [if_pos c3]⟩ I dX1_edge_48
      · refine lv_aload_n F.1 F.2.1 dX1_edge_31 rfl (lv_at hl 1 rfl) ?_
        refine lv_iload_n F.1 F.2.1 dX1_edge_32 rfl (lv_at hl 2 rfl) ?_
        refine lv_iload_n F.1 F.2.1 dX1_edge_33 rfl (lv_at hl 3 rfl) ?_
        refine xk_link F I hl dX1_edge_34 ⟨by rw [hR]; decide, by rw [hR]; decide⟩ (Nat.le_of_ble_eq_true rfl) ⟨Nat.zero_le _, Nat.zero_le _⟩ (by omega) (by omega) (fun H locs I => ?_)
        refine lv_goto (tgt := 46) F.1 F.2.1 dX1_edge_37 (by decide) ?_
        refine lv_iload F.1 F.2.1 dX1_edge_46 (lv_at hl 0 rfl) ?_
        exact ret _ _ _ _ ls _ ⟨by rw [c2]; rfl, by rw [if_neg c3]⟩ I dX1_edge_48
  · rw [xbp_ok hn hj hk hne] at c1
    cases c1
set_option maxHeartbeats 8000000 in
set_option maxRecDepth 100000 in
theorem met_joined (l : Launch) (D : va_G) (h : Nat → Nat) (ca : Nat → ClassId) (n sr tg : Nat) (a r : Nat → Nat) (cf : Nat → Option Nat) (q : Nat → Nat) (st : Nat → Option Nat) (j k : Nat) (hn : n ≤ 8) (hj : j < n) (hk : k < n) (hne : j ≠ k) (haj : a j < 2 ^ 31) (hak : a k < 2 ^ 31) : WMi l yX1_joined (ws_ yX1_joined cX1_joined 3 (some .boolean)) ({ frames := 2, cells := 0, slots := 0, locals := 43 } : Room) D (XW h ca (n, sr, tg, a, r, cf, q, st)) (XW h ca) (XT ca) [.ref (h 0), .int (nI j), .int (nI k)] (fun r' u' => r' = nI ((a j).testBit k).toNat ∧ u' = (n, sr, tg, a, r, cf, q, st)) := by
  refine wm_z (by decide) (Nat.le_of_ble_eq_true rfl) ?_
  intro p e R s m args below meth c ls A Q hR F ret I hl
  have hl : lv_has ls 3 [(0, .ref (h 0)), (1, .int (nI j)), (2, .int (nI k))] := hl
  refine lv_aload_n F.1 F.2.1 dX1_joined_0 rfl (lv_at hl 0 rfl) ?_
  refine lv_iload_n F.1 F.2.1 dX1_joined_1 rfl (lv_at hl 1 rfl) ?_
  refine lv_iload_n F.1 F.2.1 dX1_joined_2 rfl (lv_at hl 2 rfl) ?_
  refine xk_badPair F I hl dX1_joined_3 ⟨by rw [hR]; decide, by rw [hR]; decide⟩ (Nat.le_of_ble_eq_true rfl) ⟨Nat.zero_le _, Nat.zero_le _⟩ (fun H locs I => ?_)
  refine nb_if_eq (tgt := 11) F.1 F.2.1 dX1_joined_6 (by decide) (fun c1 => ?_) (fun c1 => ?_)
  · refine lv_aload_n F.1 F.2.1 dX1_joined_11 rfl (lv_at hl 0 rfl) ?_
    refine lv_iload_n F.1 F.2.1 dX1_joined_12 rfl (lv_at hl 1 rfl) ?_
    refine lv_iload_n F.1 F.2.1 dX1_joined_13 rfl (lv_at hl 2 rfl) ?_
    refine xk_linked F I hl dX1_joined_14 ⟨by rw [hR]; decide, by rw [hR]; decide⟩ (Nat.le_of_ble_eq_true rfl) ⟨Nat.zero_le _, Nat.zero_le _⟩ (by omega) (by omega) haj (fun H locs I => ?_)
    exact ret _ _ _ _ ls _ ⟨rfl, rfl⟩ I dX1_joined_17
  · rw [xbp_ok hn hj hk hne] at c1
    cases c1
set_option maxHeartbeats 8000000 in
set_option maxRecDepth 100000 in
theorem met_ends (l : Launch) (D : va_G) (h : Nat → Nat) (ca : Nat → ClassId) (n sr tg : Nat) (a r : Nat → Nat) (cf : Nat → Option Nat) (q : Nat → Nat) (st : Nat → Option Nat) (j k : Nat) (hn : n ≤ 8) (hj : j < n) (hk : k < n) (hne : j ≠ k) : WMi l yX1_ends (ws_ yX1_ends cX1_ends 3 (some .int)) ({ frames := 2, cells := 0, slots := 0, locals := 43 } : Room) D (XW h ca (n, sr, tg, a, r, cf, q, st)) (XW h ca) (XT ca) [.ref (h 0), .int (nI j), .int (nI k)] (fun r' u' => r' = nI 0 ∧ u' = (n, j, k, a, r, cf, q, st)) := by
  refine wm_i (by decide) (Nat.le_of_ble_eq_true rfl) ?_
  intro p e R s m args below meth c ls A Q hR F ret I hl
  have hl : lv_has ls 3 [(0, .ref (h 0)), (1, .int (nI j)), (2, .int (nI k))] := hl
  refine lv_aload_n F.1 F.2.1 dX1_ends_0 rfl (lv_at hl 0 rfl) ?_
  refine lv_iload_n F.1 F.2.1 dX1_ends_1 rfl (lv_at hl 1 rfl) ?_
  refine lv_iload_n F.1 F.2.1 dX1_ends_2 rfl (lv_at hl 2 rfl) ?_
  refine xk_badPair F I hl dX1_ends_3 ⟨by rw [hR]; decide, by rw [hR]; decide⟩ (Nat.le_of_ble_eq_true rfl) ⟨Nat.zero_le _, Nat.zero_le _⟩ (fun H locs I => ?_)
  refine nb_if_eq (tgt := 11) F.1 F.2.1 dX1_ends_6 (by decide) (fun c1 => ?_) (fun c1 => ?_)
  · refine lv_aload_n F.1 F.2.1 dX1_ends_11 rfl (lv_at hl 0 rfl) ?_
    refine lv_iload_n F.1 F.2.1 dX1_ends_12 rfl (lv_at hl 1 rfl) ?_
    refine xp_s F I dX1_ends_13 (fun H locs I => ?_)
    refine lv_aload_n F.1 F.2.1 dX1_ends_16 rfl (lv_at hl 0 rfl) ?_
    refine lv_iload_n F.1 F.2.1 dX1_ends_17 rfl (lv_at hl 2 rfl) ?_
    refine xp_t F I dX1_ends_18 (fun H locs I => ?_)
    refine lv_iconst (v := nI 0) F.1 F.2.1 dX1_ends_21 (by decide) ?_
    exact ret _ _ _ _ ls _ ⟨rfl, rfl⟩ I dX1_ends_22
  · rw [xbp_ok hn hj hk hne] at c1
    cases c1
end
section
/-! what layOut lays out -/
/-- before the ends' own edge is narrowed -/
def cp0 (n s t : Nat) (a : Nat → Nat) (sh fi x y : Nat) : Nat :=
  if x % 2 = 0 then (if y = x + 1 ∧ x / 2 < n ∧ ¬ mb sh (x / 2) then (if x / 2 = s ∨ x / 2 = t ∨ mb fi (x / 2) then 9 else 1) else 0)
  else (if y % 2 = 0 ∧ y / 2 < n ∧ x / 2 < n ∧ ¬ mb sh (x / 2) ∧ ¬ mb sh (y / 2) ∧ mb (a (x / 2)) (y / 2) then 9 else 0)
def Lay (n s t : Nat) (a : Nat → Nat) (sh fi i : Nat) (r : Nat → Nat) : Prop := ∀ x y, x < 16 → y < 16 → r (x * 16 + y) = if x / 2 < i then cp0 n s t a sh fi x y else 0
theorem lay_skip {n s t : Nat} {a : Nat → Nat} {sh fi i : Nat} {r : Nat → Nat} (h : Lay n s t a sh fi i r) (hs : mb sh i) : Lay n s t a sh fi (i + 1) r := by
  intro x y hx hy
  rw [h x y hx hy]
  by_cases h1 : x / 2 < i
  · rw [if_pos h1, if_pos (by omega)]
  · rw [if_neg h1]
    by_cases h2 : x / 2 < i + 1
    · rw [if_pos h2]
      have e : x / 2 = i := by omega
      unfold cp0
      rw [e]
      split
      · rw [if_neg (fun q => q.2.2 hs)]
      · rw [if_neg (fun q => q.2.2.2.1 hs)]
    · rw [if_neg h2]
theorem lay_step {n s t : Nat} {a : Nat → Nat} {sh fi i v : Nat} {r r4 : Nat → Nat} (h : Lay n s t a sh fi i r) (hi : i < n) (hs : ¬ mb sh i) (hv : v = if i = s ∨ i = t ∨ mb fi i then 9 else 1)
    (h4 : ∀ x y, x < 16 → y < 16 → r4 (x * 16 + y) = if x = 2 * i + 1 ∧ y % 2 = 0 ∧ y / 2 < n ∧ mb (a i) (y / 2) ∧ ¬ mb sh (y / 2) then 9 else va_up r (2 * i * 16 + 2 * i + 1) v (x * 16 + y)) : Lay n s t a sh fi (i + 1) r4 := by
  intro x y hx hy
  rw [h4 x y hx hy]
  by_cases h1 : x / 2 = i
  · rw [if_pos (by omega : x / 2 < i + 1)]
    unfold cp0
    rw [h1]
    by_cases h2 : x % 2 = 0
    · rw [if_neg (by omega), if_pos h2]
      by_cases h3 : y = x + 1
      · have e : x * 16 + y = 2 * i * 16 + 2 * i + 1 := by omega
        rw [e, va_up_self, if_pos ⟨h3, hi, hs⟩, hv]
      · rw [va_up_ne _ _ (by omega), if_neg (fun q => h3 q.1), h x y hx hy, if_neg (by omega)]
    · rw [if_neg h2, va_up_ne _ _ (by omega), h x y hx hy, if_neg (by omega : ¬ x / 2 < i)]
      have e : x = 2 * i + 1 := by omega
      by_cases h5 : y % 2 = 0 ∧ y / 2 < n ∧ mb (a i) (y / 2) ∧ ¬ mb sh (y / 2)
      · rw [if_pos ⟨e, h5⟩, if_pos ⟨h5.1, h5.2.1, hi, hs, h5.2.2.2, h5.2.2.1⟩]
      · rw [if_neg (fun q => h5 q.2), if_neg (fun q => h5 ⟨q.1, q.2.1, q.2.2.2.2.2, q.2.2.2.2.1⟩)]
  · rw [if_neg (by omega), va_up_ne _ _ (by omega), h x y hx hy]
    by_cases h2 : x / 2 < i
    · rw [if_pos h2, if_pos (by omega)]
    · rw [if_neg h2, if_neg (by omega)]
theorem lay_end {n s t : Nat} {a : Nat → Nat} {sh fi : Nat} {r : Nat → Nat} (h : Lay n s t a sh fi n r) (hb : mb (a s) t = False) : ∀ x y, x < 16 → y < 16 → r (x * 16 + y) = cp n s t a sh fi x y := by
  intro x y hx hy
  rw [h x y hx hy]
  unfold cp0 cp
  by_cases h1 : x / 2 < n
  · rw [if_pos h1]
    split
    · rfl
    · split
      · rename_i q
        rw [if_neg]
        rintro ⟨e1, e2⟩
        rw [e1, e2] at q
        rw [← hb]
        exact q.2.2.2.2.2
      · rfl
  · rw [if_neg h1]
    split
    · rw [if_neg (fun q => h1 q.2.1)]
    · rw [if_neg (fun q => h1 q.2.2.1)]
theorem lay_end1 {n s t : Nat} {a : Nat → Nat} {sh fi : Nat} {r : Nat → Nat} (h : Lay n s t a sh fi n r) (hn : n ≤ 8) (hs : s < n) (ht : t < n) (hss : ¬ mb sh s) (hst : ¬ mb sh t) (hb : mb (a s) t) : ∀ x y, x < 16 → y < 16 → va_up r ((2 * s + 1) * 16 + 2 * t) 1 (x * 16 + y) = cp n s t a sh fi x y := by
  intro x y hx hy
  by_cases h0 : x = 2 * s + 1 ∧ y = 2 * t
  · obtain ⟨rfl, rfl⟩ := h0
    rw [va_up_self, cp_oe, if_pos ⟨ht, hs, hss, hst, hb⟩, if_pos ⟨rfl, rfl⟩]
  · rw [va_up_ne _ _ (by omega), h x y hx hy]
    unfold cp0 cp
    by_cases h1 : x / 2 < n
    · rw [if_pos h1]
      split
      · rfl
      · split
        · rename_i q2 q
          rw [if_neg]
          rintro ⟨e1, e2⟩
          omega
        · rfl
    · rw [if_neg h1]
      split
      · rw [if_neg (fun q => h1 q.2.1)]
      · rw [if_neg (fun q => h1 q.2.2.1)]
/-- one edge laid out -/
theorem loe_yes {u i : Nat} {a : Nat → Nat} {sh : Nat} {r r2 : Nat → Nat} (h : ∀ x y, x < 16 → y < 16 → r2 (x * 16 + y) = if x = 2 * u + 1 ∧ y % 2 = 0 ∧ y / 2 < i ∧ mb (a u) (y / 2) ∧ ¬ mb sh (y / 2) then 9 else r (x * 16 + y)) (hi : i < 8) (h1 : mb (a u) i) (h2 : ¬ mb sh i) : ∀ x y, x < 16 → y < 16 → va_up r2 ((2 * u + 1) * 16 + 2 * i) 9 (x * 16 + y) = if x = 2 * u + 1 ∧ y % 2 = 0 ∧ y / 2 < i + 1 ∧ mb (a u) (y / 2) ∧ ¬ mb sh (y / 2) then 9 else r (x * 16 + y) := by
  intro x y hx hy
  by_cases h0 : x = 2 * u + 1 ∧ y = 2 * i
  · obtain ⟨rfl, rfl⟩ := h0
    rw [va_up_self, if_pos]
    rw [show 2 * i / 2 = i by omega]
    exact ⟨rfl, by omega, by omega, h1, h2⟩
  · rw [va_up_ne _ _ (by omega), h x y hx hy]
    by_cases h3 : x = 2 * u + 1 ∧ y % 2 = 0 ∧ y / 2 < i ∧ mb (a u) (y / 2) ∧ ¬ mb sh (y / 2)
    · rw [if_pos h3, if_pos ⟨h3.1, h3.2.1, by omega, h3.2.2.2⟩]
    · rw [if_neg h3, if_neg (fun q => h3 ⟨q.1, q.2.1, by omega, q.2.2.2⟩)]
theorem loe_no {u i : Nat} {a : Nat → Nat} {sh : Nat} {r r2 : Nat → Nat} (h : ∀ x y, x < 16 → y < 16 → r2 (x * 16 + y) = if x = 2 * u + 1 ∧ y % 2 = 0 ∧ y / 2 < i ∧ mb (a u) (y / 2) ∧ ¬ mb sh (y / 2) then 9 else r (x * 16 + y)) (h1 : ¬ mb (a u) i ∨ mb sh i) : ∀ x y, x < 16 → y < 16 → r2 (x * 16 + y) = if x = 2 * u + 1 ∧ y % 2 = 0 ∧ y / 2 < i + 1 ∧ mb (a u) (y / 2) ∧ ¬ mb sh (y / 2) then 9 else r (x * 16 + y) := by
  intro x y hx hy
  rw [h x y hx hy]
  by_cases h3 : x = 2 * u + 1 ∧ y % 2 = 0 ∧ y / 2 < i ∧ mb (a u) (y / 2) ∧ ¬ mb sh (y / 2)
  · rw [if_pos h3, if_pos ⟨h3.1, h3.2.1, by omega, h3.2.2.2⟩]
  · rw [if_neg h3, if_neg]
    intro q
    by_cases h4 : y / 2 = i
    · rw [h4] at q
      rcases h1 with h1 | h1
      · exact h1 q.2.2.2.1
      · exact q.2.2.2.2 h1
    · exact h3 ⟨q.1, q.2.1, by omega, q.2.2.2⟩
end
section
/-! DisjointPaths: layOutEdges, layOut -/
set_option maxHeartbeats 8000000 in
set_option maxRecDepth 100000 in
theorem met_layOutEdges (l : Launch) (D : va_G) (h : Nat → Nat) (ca : Nat → ClassId) (n sr tg : Nat) (a r : Nat → Nat) (cf : Nat → Option Nat) (q : Nat → Nat) (st : Nat → Option Nat) (u sh : Nat) (hn : n ≤ 8) (hu : u < n) (ha : a u < 2 ^ 31) (hsh : sh < 2 ^ 31) : WMv l yX1_layOutEdges (ws_ yX1_layOutEdges cX1_layOutEdges 4 none) ({ frames := 1, cells := 0, slots := 0, locals := 22 } : Room) D (XW h ca (n, sr, tg, a, r, cf, q, st)) (XW h ca) (XT ca) [.ref (h 0), .int (nI u), .int (nI sh)] (fun u' => ∃ r2 : Nat → Nat, (∀ x y, x < 16 → y < 16 → r2 (x * 16 + y) = if x = 2 * u + 1 ∧ y % 2 = 0 ∧ y / 2 < n ∧ mb (a u) (y / 2) ∧ ¬ mb sh (y / 2) then 9 else r (x * 16 + y)) ∧ u' = (n, sr, tg, a, r2, cf, q, st)) := by
  refine wm_v (by decide) (Nat.le_of_ble_eq_true rfl) ?_
  intro p e R s m args below meth c ls A Q hR F ret I hl
  have hl : lv_has ls 4 [(0, .ref (h 0)), (1, .int (nI u)), (2, .int (nI sh))] := hl
  have L : ∀ (k : Nat), ∀ (i : Nat) (r2 : Nat → Nat), n - i < k → i ≤ n → (∀ x y, x < 16 → y < 16 → r2 (x * 16 + y) = if x = 2 * u + 1 ∧ y % 2 = 0 ∧ y / 2 < i ∧ mb (a u) (y / 2) ∧ ¬ mb sh (y / 2) then 9 else r (x * 16 + y)) → ∀ (H : Heap) (locs : List Loc) (ls : Array Slot), WI D (XW h ca (n, sr, tg, a, r2, cf, q, st)) (XT ca) A s s.heap H locs → lv_has ls 4 [(3, .int (nI i)), (0, .ref (h 0)), (1, .int (nI u)), (2, .int (nI sh))] → W p l e R s m args below meth c H locs 0 0 Q (F0 m 2 ls []) := by
    intro k
    induction k with
    | zero =>
      intro i r2 hk hi hinv
      exact absurd hk (Nat.not_lt_zero _)
    | succ k ih =>
      intro i r2 hk hi hinv H locs ls I hl
      refine lv_iload_n F.1 F.2.1 dX1_layOutEdges_2 rfl (lv_at hl 0 rfl) ?_
      refine lv_aload_n F.1 F.2.1 dX1_layOutEdges_3 rfl (lv_at hl 1 rfl) ?_
      refine xg_n F I dX1_layOutEdges_4 ?_
      refine nv_icmp_ge (tgt := 52) F.1 F.2.1 dX1_layOutEdges_7 (by decide) ⟨by omega, by omega⟩ (fun c1 => ?_) (fun c1 => ?_)
      · have e : i = n := by omega
        subst e
        exact ret _ _ _ ls _ ⟨r2, hinv, rfl⟩ I dX1_layOutEdges_52
      · refine lv_aload_n F.1 F.2.1 dX1_layOutEdges_10 rfl (lv_at hl 1 rfl) ?_
        refine lv_iload_n F.1 F.2.1 dX1_layOutEdges_11 rfl (lv_at hl 2 rfl) ?_
        refine lv_iload_n F.1 F.2.1 dX1_layOutEdges_12 rfl (lv_at hl 0 rfl) ?_
        refine xk_linked F I hl dX1_layOutEdges_13 ⟨by rw [hR]; decide, by rw [hR]; decide⟩ (Nat.le_of_ble_eq_true rfl) ⟨Nat.zero_le _, Nat.zero_le _⟩ (by omega) (by omega) ha (fun H locs I => ?_)
        refine nb_if_eq (tgt := 46) F.1 F.2.1 dX1_layOutEdges_16 (by decide) (fun c2 => ?_) (fun c2 => ?_)
        · refine nv_iinc (lv' := [(3, .int (nI (i + 1))), (0, .ref (h 0)), (1, .int (nI u)), (2, .int (nI sh))]) F.1 F.2.1 dX1_layOutEdges_46 hl (k := 0) rfl (by decide) rfl (fun ls hl => ?_)
          refine lv_goto (tgt := 2) F.1 F.2.1 dX1_layOutEdges_49 (by decide) ?_
          exact ih (i + 1) _ (by omega) (by omega) (loe_no hinv (Or.inl (by rw [mb, c2]; decide))) _ _ _ I (lv_sub hl [0, 1, 2, 3] rfl)
        · refine lv_iload_n F.1 F.2.1 dX1_layOutEdges_19 rfl (lv_at hl 3 rfl) ?_
          refine lv_iload_n F.1 F.2.1 dX1_layOutEdges_20 rfl (lv_at hl 0 rfl) ?_
          refine nv_bit F.1 F.2.1 dX1_layOutEdges_21 dX1_layOutEdges_22 dX1_layOutEdges_23 hsh (by omega) ?_
          refine nb_if_ne (tgt := 46) F.1 F.2.1 dX1_layOutEdges_24 (by decide) (fun c3 => ?_) (fun c3 => ?_)
          · refine nv_iinc (lv' := [(3, .int (nI (i + 1))), (0, .ref (h 0)), (1, .int (nI u)), (2, .int (nI sh))]) F.1 F.2.1 dX1_layOutEdges_46 hl (k := 0) rfl (by decide) rfl (fun ls hl => ?_)
            refine lv_goto (tgt := 2) F.1 F.2.1 dX1_layOutEdges_49 (by decide) ?_
            exact ih (i + 1) _ (by omega) (by omega) (loe_no hinv (Or.inr c3)) _ _ _ I (lv_sub hl [0, 1, 2, 3] rfl)
          · refine lv_aload_n F.1 F.2.1 dX1_layOutEdges_27 rfl (lv_at hl 1 rfl) ?_
            refine xg_room F I dX1_layOutEdges_28 ?_
            refine lv_iconst (v := nI 2) F.1 F.2.1 dX1_layOutEdges_31 (by decide) ?_
            refine lv_iload_n F.1 F.2.1 dX1_layOutEdges_32 rfl (lv_at hl 2 rfl) ?_
            refine nv_imul F.1 F.2.1 dX1_layOutEdges_33 ?_
            refine lv_iconst (v := nI 1) F.1 F.2.1 dX1_layOutEdges_34 (by decide) ?_
            refine nv_iadd F.1 F.2.1 dX1_layOutEdges_35 ?_
            refine lv_bipush (v := nI 16) F.1 F.2.1 dX1_layOutEdges_36 (by decide) ?_
            refine nv_imul F.1 F.2.1 dX1_layOutEdges_38 ?_
            refine lv_iconst (v := nI 2) F.1 F.2.1 dX1_layOutEdges_39 (by decide) ?_
            refine lv_iload_n F.1 F.2.1 dX1_layOutEdges_40 rfl (lv_at hl 0 rfl) ?_
            refine nv_imul F.1 F.2.1 dX1_layOutEdges_41 ?_
            refine nv_iadd F.1 F.2.1 dX1_layOutEdges_42 ?_
            refine lv_bipush (v := nI 9) F.1 F.2.1 dX1_layOutEdges_43 (by decide) ?_
            refine xs_room (x := 9) F I dX1_layOutEdges_45 (by omega) (fun H locs I => ?_)
            refine nv_iinc (lv' := [(3, .int (nI (i + 1))), (0, .ref (h 0)), (1, .int (nI u)), (2, .int (nI sh))]) F.1 F.2.1 dX1_layOutEdges_46 hl (k := 0) rfl (by decide) rfl (fun ls hl => ?_)
            refine lv_goto (tgt := 2) F.1 F.2.1 dX1_layOutEdges_49 (by decide) ?_
            exact ih (i + 1) _ (by omega) (by omega) (loe_yes hinv (by omega) c2 (by rw [mb, c3]; decide)) _ _ _ I (lv_sub hl [0, 1, 2, 3] rfl)
  refine lv_iconst (v := nI 0) F.1 F.2.1 dX1_layOutEdges_0 (by decide) ?_
  refine lv_istore_n (lv' := [(3, .int (nI 0)), (0, .ref (h 0)), (1, .int (nI u)), (2, .int (nI sh))]) F.1 F.2.1 dX1_layOutEdges_1 rfl hl (by decide) rfl (fun ls hl => ?_)
  exact L (n + 1) 0 r (by omega) (by omega) (fun x y _ _ => by rw [if_neg (by omega)]) _ _ _ I (lv_sub hl [0, 1, 2, 3] rfl)
section XA
variable {p : Program} {l : Launch} {e : Env} {R : Room} {s : State} {m : MethodId} {args : Array Value} {below : List Frame} {meth : Method} {c : Code} {H : Heap} {locs : List Loc} {cells slots : Nat} {Q : State → Prop} {pc : Nat} {ls : Array Slot} {rest : List Value} {cc : ByteArray} {nL : Nat} {D : va_G} {A : Nat → Prop} {H0 : Heap} {h : Nat → Nat} {ca : Nat → ClassId} {lv : List (Nat × Value)} 
theorem xk_layOutEdges {n sr tg : Nat} {a r : Nat → Nat} {cf : Nat → Option Nat} {q : Nat → Nat} {st : Nat → Option Nat} {u sh : Nat} (F : CallFix p m c cc nL s args lw_all RX1) (I : WI D (XW h ca (n, sr, tg, a, r, cf, q, st)) (XT ca) A s H0 H locs) (hl : lv_has ls nL lv) (hdg : decode cc pc = .ok (.invokevirtual 53, 3)) (hR : 2 ≤ R.frames ∧ 45 ≤ R.locals) (hroom : (rest.map fun v => v.category).sum ≤ 8) (hf : cells ≤ R.cells ∧ slots ≤ R.slots) (hn : n ≤ 8) (hu : u < n) (ha : a u < 2 ^ 31) (hsh : sh < 2 ^ 31) (kk : ∀ (r2 : Nat → Nat), (∀ x y, x < 16 → y < 16 → r2 (x * 16 + y) = if x = 2 * u + 1 ∧ y % 2 = 0 ∧ y / 2 < n ∧ mb (a u) (y / 2) ∧ ¬ mb sh (y / 2) then 9 else r (x * 16 + y)) → ∀ (H1 : Heap) (locs1 : List Loc), WI D (XW h ca (n, sr, tg, a, r2, cf, q, st)) (XT ca) A s H0 H1 locs1 → W p l e R s m args below meth c H1 locs1 cells slots Q (F0 m (pc + 3) ls (rest))) : W p l e R s m args below meth c H locs cells slots Q (F0 m pc ls (.int (nI sh) :: .int (nI u) :: .ref (h 0) :: rest)) :=
  wc_v F I (met_layOutEdges l D h ca n sr tg a r cf q st u sh hn hu ha hsh) (cwV 2 F.2.2.2.2 (lw_V q107 q109 qs7 q23 q110) rfl rfl rfl (by decide +kernel) hR) (x_recv I) hl rfl rfl hroom hdg hf (fun u H1 locs1 hp I => by
    obtain ⟨r2, h2, rfl⟩ := hp; exact kk r2 h2 H1 locs1 I)

end XA
set_option maxHeartbeats 8000000 in
set_option maxRecDepth 100000 in
theorem met_layOut (l : Launch) (D : va_G) (h : Nat → Nat) (ca : Nat → ClassId) (n sr tg : Nat) (a r : Nat → Nat) (cf : Nat → Option Nat) (q : Nat → Nat) (st : Nat → Option Nat) (sh fi : Nat) (hn : n ≤ 8) (hs : sr < n) (ht : tg < n) (hG : Gok n a) (hsh : sh < 2 ^ 31) (hfi : fi < 2 ^ 31) (hss : ¬ mb sh sr) (hst : ¬ mb sh tg) : WMv l yX1_layOut (ws_ yX1_layOut cX1_layOut 5 none) ({ frames := 2, cells := 0, slots := 0, locals := 45 } : Room) D (XW h ca (n, sr, tg, a, r, cf, q, st)) (XW h ca) (XT ca) [.ref (h 0), .int (nI sh), .int (nI fi)] (fun u' => ∃ r2 : Nat → Nat, (∀ x y, x < 16 → y < 16 → r2 (x * 16 + y) = cp n sr tg a sh fi x y) ∧ u' = (n, sr, tg, a, r2, cf, q, st)) := by
  refine wm_v (by decide) (Nat.le_of_ble_eq_true rfl) ?_
  intro p e R s m args below meth c ls A Q hR F ret I hl
  have hl : lv_has ls 5 [(0, .ref (h 0)), (1, .int (nI sh)), (2, .int (nI fi))] := hl
  have ha : ∀ j, j < n → a j < 2 ^ 31 := fun j hj => Nat.lt_of_lt_of_le (hG.lt hj) (Nat.pow_le_pow_right (by decide) (by omega))
  have L2 : ∀ (k : Nat), ∀ (i : Nat) (r2 : Nat → Nat), n - i < k → i ≤ n → Lay n sr tg a sh fi i r2 → ∀ (H : Heap) (locs : List Loc) (ls : Array Slot), WI D (XW h ca (n, sr, tg, a, r2, cf, q, st)) (XT ca) A s s.heap H locs → lv_has ls 5 [(3, .int (nI i)), (0, .ref (h 0)), (1, .int (nI sh)), (2, .int (nI fi))] → W p l e R s m args below meth c H locs 0 0 Q (F0 m 24 ls []) := by
    intro k
    induction k with
    | zero =>
      intro i r2 hk hi hinv
      exact absurd hk (Nat.not_lt_zero _)
    | succ k ih =>
      intro i r2 hk hi hinv H locs ls I hl
      refine lv_iload_n F.1 F.2.1 dX1_layOut_24 rfl (lv_at hl 0 rfl) ?_
      refine lv_aload_n F.1 F.2.1 dX1_layOut_25 rfl (lv_at hl 1 rfl) ?_
      refine xg_n F I dX1_layOut_26 ?_
      refine nv_icmp_ge (tgt := 112) F.1 F.2.1 dX1_layOut_29 (by decide) ⟨by omega, by omega⟩ (fun c1 => ?_) (fun c1 => ?_)
      · have e : i = n := by omega
        subst e
        refine lv_aload_n F.1 F.2.1 dX1_layOut_112 rfl (lv_at hl 1 rfl) ?_
        refine lv_aload_n F.1 F.2.1 dX1_layOut_113 rfl (lv_at hl 1 rfl) ?_
        refine xg_s F I dX1_layOut_114 ?_
        refine lv_aload_n F.1 F.2.1 dX1_layOut_117 rfl (lv_at hl 1 rfl) ?_
        refine xg_t F I dX1_layOut_118 ?_
        refine xk_linked F I hl dX1_layOut_121 ⟨by rw [hR]; decide, by rw [hR]; decide⟩ (Nat.le_of_ble_eq_true rfl) ⟨Nat.zero_le _, Nat.zero_le _⟩ (by omega) (by omega) (ha sr hs) (fun H locs I => ?_)
        refine nb_if_eq (tgt := 151) F.1 F.2.1 dX1_layOut_124 (by decide) (fun c2 => ?_) (fun c2 => ?_)
        · exact ret _ _ _ ls _ ⟨r2, lay_end hinv (by rw [mb, c2]; simp), rfl⟩ I dX1_layOut_151
        · refine lv_aload_n F.1 F.2.1 dX1_layOut_127 rfl (lv_at hl 1 rfl) ?_
          refine xg_room F I dX1_layOut_128 ?_
          refine lv_iconst (v := nI 2) F.1 F.2.1 dX1_layOut_131 (by decide) ?_
          refine lv_aload_n F.1 F.2.1 dX1_layOut_132 rfl (lv_at hl 1 rfl) ?_
          refine xg_s F I dX1_layOut_133 ?_
          refine nv_imul F.1 F.2.1 dX1_layOut_136 ?_
          refine lv_iconst (v := nI 1) F.1 F.2.1 dX1_layOut_137 (by decide) ?_
          refine nv_iadd F.1 F.2.1 dX1_layOut_138 ?_
          refine lv_bipush (v := nI 16) F.1 F.2.1 dX1_layOut_139 (by decide) ?_
          refine nv_imul F.1 F.2.1 dX1_layOut_141 ?_
          refine lv_iconst (v := nI 2) F.1 F.2.1 dX1_layOut_142 (by decide) ?_
          refine lv_aload_n F.1 F.2.1 dX1_layOut_143 rfl (lv_at hl 1 rfl) ?_
          refine xg_t F I dX1_layOut_144 ?_
          refine nv_imul F.1 F.2.1 dX1_layOut_147 ?_
          refine nv_iadd F.1 F.2.1 dX1_layOut_148 ?_
          refine lv_iconst (v := nI 1) F.1 F.2.1 dX1_layOut_149 (by decide) ?_
          refine xs_room (x := 1) F I dX1_layOut_150 (by omega) (fun H locs I => ?_)
          exact ret _ _ _ ls _ ⟨_, lay_end1 hinv hn hs ht hss hst c2, rfl⟩ I dX1_layOut_151
      · refine lv_iload_n F.1 F.2.1 dX1_layOut_32 rfl (lv_at hl 2 rfl) ?_
        refine lv_iload_n F.1 F.2.1 dX1_layOut_33 rfl (lv_at hl 0 rfl) ?_
        refine nv_bit F.1 F.2.1 dX1_layOut_34 dX1_layOut_35 dX1_layOut_36 hsh (by omega) ?_
        refine nb_if_ne (tgt := 106) F.1 F.2.1 dX1_layOut_37 (by decide) (fun c2 => ?_) (fun c2 => ?_)
        · refine nv_iinc (lv' := [(3, .int (nI (i + 1))), (0, .ref (h 0)), (1, .int (nI sh)), (2, .int (nI fi))]) F.1 F.2.1 dX1_layOut_106 hl (k := 0) rfl (by decide) rfl (fun ls hl => ?_)
          refine lv_goto (tgt := 24) F.1 F.2.1 dX1_layOut_109 (by decide) ?_
          exact ih (i + 1) _ (by omega) (by omega) (lay_skip hinv c2) _ _ _ I (lv_sub hl [0, 1, 2, 3] rfl)
        · have K : ∀ (o : Bool), (o = true ↔ (i = sr ∨ i = tg ∨ mb fi i)) → ∀ (H : Heap) (locs : List Loc) (ls : Array Slot), WI D (XW h ca (n, sr, tg, a, r2, cf, q, st)) (XT ca) A s s.heap H locs → lv_has ls 5 [(3, .int (nI i)), (0, .ref (h 0)), (1, .int (nI sh)), (2, .int (nI fi))] → W p l e R s m args below meth c H locs 0 0 Q (F0 m 70 ls [.int (nI o.toNat)]) := by
            intro o ho H locs ls I hl
            refine lv_istore (lv' := [(4, .int (nI o.toNat)), (3, .int (nI i)), (0, .ref (h 0)), (1, .int (nI sh)), (2, .int (nI fi))]) F.1 F.2.1 dX1_layOut_70 hl (by decide) rfl (fun ls hl => ?_)
            refine lv_aload_n F.1 F.2.1 dX1_layOut_72 rfl (lv_at hl 2 rfl) ?_
            refine xg_room F I dX1_layOut_73 ?_
            refine lv_iconst (v := nI 2) F.1 F.2.1 dX1_layOut_76 (by decide) ?_
            refine lv_iload_n F.1 F.2.1 dX1_layOut_77 rfl (lv_at hl 1 rfl) ?_
            refine nv_imul F.1 F.2.1 dX1_layOut_78 ?_
            refine lv_bipush (v := nI 16) F.1 F.2.1 dX1_layOut_79 (by decide) ?_
            refine nv_imul F.1 F.2.1 dX1_layOut_81 ?_
            refine lv_iconst (v := nI 2) F.1 F.2.1 dX1_layOut_82 (by decide) ?_
            refine lv_iload_n F.1 F.2.1 dX1_layOut_83 rfl (lv_at hl 1 rfl) ?_
            refine nv_imul F.1 F.2.1 dX1_layOut_84 ?_
            refine nv_iadd F.1 F.2.1 dX1_layOut_85 ?_
            refine lv_iconst (v := nI 1) F.1 F.2.1 dX1_layOut_86 (by decide) ?_
            refine nv_iadd F.1 F.2.1 dX1_layOut_87 ?_
            refine lv_iload F.1 F.2.1 dX1_layOut_88 (lv_at hl 0 rfl) ?_
            refine nb_if_eq (tgt := 98) F.1 F.2.1 dX1_layOut_90 (by decide) (fun c3 => ?_) (fun c3 => ?_)
            · refine lv_iconst (v := nI 1) F.1 F.2.1 dX1_layOut_98 (by decide) ?_
              refine xs_room (x := 1) F I dX1_layOut_99 (by omega) (fun H locs I => ?_)
              refine lv_aload_n F.1 F.2.1 dX1_layOut_100 rfl (lv_at hl 2 rfl) ?_
              refine lv_iload_n F.1 F.2.1 dX1_layOut_101 rfl (lv_at hl 1 rfl) ?_
              refine lv_iload_n F.1 F.2.1 dX1_layOut_102 rfl (lv_at hl 3 rfl) ?_
              refine xk_layOutEdges F I hl dX1_layOut_103 ⟨by rw [hR]; decide, by rw [hR]; decide⟩ (Nat.le_of_ble_eq_true rfl) ⟨Nat.zero_le _, Nat.zero_le _⟩ hn (by omega) (ha i (by omega)) hsh (fun r4 h4 H locs I => ?_)
              refine nv_iinc (lv' := [(3, .int (nI (i + 1))), (4, .int (nI o.toNat)), (0, .ref (h 0)), (1, .int (nI sh)), (2, .int (nI fi))]) F.1 F.2.1 dX1_layOut_106 hl (k := 1) rfl (by decide) rfl (fun ls hl => ?_)
              refine lv_goto (tgt := 24) F.1 F.2.1 dX1_layOut_109 (by decide) ?_
              exact ih (i + 1) _ (by omega) (by omega) (lay_step hinv (by omega) (by rw [mb, c2]; decide) (by rw [if_neg (fun q => by rw [ho.mpr q] at c3; cases c3)]) h4) _ _ _ I (lv_sub hl [0, 2, 3, 4] rfl)
            · refine lv_bipush (v := nI 9) F.1 F.2.1 dX1_layOut_93 (by decide) ?_
              refine lv_goto (tgt := 99) F.1 F.2.1 dX1_layOut_95 (by decide) ?_
              refine xs_room (x := 9) F I dX1_layOut_99 (by omega) (fun H locs I => ?_)
              refine lv_aload_n F.1 F.2.1 dX1_layOut_100 rfl (lv_at hl 2 rfl) ?_
              refine lv_iload_n F.1 F.2.1 dX1_layOut_101 rfl (lv_at hl 1 rfl) ?_
              refine lv_iload_n F.1 F.2.1 dX1_layOut_102 rfl (lv_at hl 3 rfl) ?_
              refine xk_layOutEdges F I hl dX1_layOut_103 ⟨by rw [hR]; decide, by rw [hR]; decide⟩ (Nat.le_of_ble_eq_true rfl) ⟨Nat.zero_le _, Nat.zero_le _⟩ hn (by omega) (ha i (by omega)) hsh (fun r4 h4 H locs I => ?_)
              refine nv_iinc (lv' := [(3, .int (nI (i + 1))), (4, .int (nI o.toNat)), (0, .ref (h 0)), (1, .int (nI sh)), (2, .int (nI fi))]) F.1 F.2.1 dX1_layOut_106 hl (k := 1) rfl (by decide) rfl (fun ls hl => ?_)
              refine lv_goto (tgt := 24) F.1 F.2.1 dX1_layOut_109 (by decide) ?_
              exact ih (i + 1) _ (by omega) (by omega) (lay_step hinv (by omega) (by rw [mb, c2]; decide) (by rw [if_pos (ho.mp c3)]) h4) _ _ _ I (lv_sub hl [0, 2, 3, 4] rfl)
          refine lv_iload_n F.1 F.2.1 dX1_layOut_40 rfl (lv_at hl 0 rfl) ?_
          refine lv_aload_n F.1 F.2.1 dX1_layOut_41 rfl (lv_at hl 1 rfl) ?_
          refine xg_s F I dX1_layOut_42 ?_
          refine nv_icmp_eq (tgt := 65) F.1 F.2.1 dX1_layOut_45 (by decide) ⟨by omega, by omega⟩ (fun c3 => ?_) (fun c3 => ?_)
          · refine lv_iconst (v := nI 1) F.1 F.2.1 dX1_layOut_65 (by decide) ?_
            refine lv_goto (tgt := 70) F.1 F.2.1 dX1_layOut_66 (by decide) ?_
            exact K true ⟨fun _ => Or.inl c3, fun _ => rfl⟩ _ _ _ I hl
          · refine lv_iload_n F.1 F.2.1 dX1_layOut_48 rfl (lv_at hl 0 rfl) ?_
            refine lv_aload_n F.1 F.2.1 dX1_layOut_49 rfl (lv_at hl 1 rfl) ?_
            refine xg_t F I dX1_layOut_50 ?_
            refine nv_icmp_eq (tgt := 65) F.1 F.2.1 dX1_layOut_53 (by decide) ⟨by omega, by omega⟩ (fun c4 => ?_) (fun c4 => ?_)
            · refine lv_iconst (v := nI 1) F.1 F.2.1 dX1_layOut_65 (by decide) ?_
              refine lv_goto (tgt := 70) F.1 F.2.1 dX1_layOut_66 (by decide) ?_
              exact K true ⟨fun _ => Or.inr (Or.inl c4), fun _ => rfl⟩ _ _ _ I hl
            · refine lv_iload_n F.1 F.2.1 dX1_layOut_56 rfl (lv_at hl 3 rfl) ?_
              refine lv_iload_n F.1 F.2.1 dX1_layOut_57 rfl (lv_at hl 0 rfl) ?_
              refine nv_bit F.1 F.2.1 dX1_layOut_58 dX1_layOut_59 dX1_layOut_60 hfi (by omega) ?_
              refine lv_iconst (v := nI 1) F.1 F.2.1 dX1_layOut_61 (by decide) ?_
              refine nb_icmp_ne (tgt := 69) F.1 F.2.1 dX1_layOut_62 (by decide) (fun c5 => ?_) (fun c5 => ?_)
              · refine lv_iconst (v := nI 0) F.1 F.2.1 dX1_layOut_69 (by decide) ?_
                have e5 : ¬ (i = sr ∨ i = tg ∨ mb fi i) := by
                  rintro (q | q | q)
                  · exact c3 q
                  · exact c4 q
                  · rw [mb, c5] at q; cases q
                exact K false ⟨fun q => absurd q (by decide), fun q => absurd q e5⟩ _ _ _ I hl
              · refine lv_iconst (v := nI 1) F.1 F.2.1 dX1_layOut_65 (by decide) ?_
                refine lv_goto (tgt := 70) F.1 F.2.1 dX1_layOut_66 (by decide) ?_
                exact K true ⟨fun _ => Or.inr (Or.inr c5), fun _ => rfl⟩ _ _ _ I hl
  have L1 : ∀ (k : Nat), ∀ (i : Nat) (r2 : Nat → Nat), 256 - i < k → i ≤ 256 → (∀ j, j < i → r2 j = 0) → ∀ (H : Heap) (locs : List Loc) (ls : Array Slot), WI D (XW h ca (n, sr, tg, a, r2, cf, q, st)) (XT ca) A s s.heap H locs → lv_has ls 5 [(3, .int (nI i)), (0, .ref (h 0)), (1, .int (nI sh)), (2, .int (nI fi))] → W p l e R s m args below meth c H locs 0 0 Q (F0 m 2 ls []) := by
    intro k
    induction k with
    | zero =>
      intro i r2 hk hi hinv
      exact absurd hk (Nat.not_lt_zero _)
    | succ k ih =>
      intro i r2 hk hi hinv H locs ls I hl
      refine lv_iload_n F.1 F.2.1 dX1_layOut_2 rfl (lv_at hl 0 rfl) ?_
      refine lv_sipush (v := nI 256) F.1 F.2.1 dX1_layOut_3 (by decide) ?_
      refine nv_icmp_ge (tgt := 22) F.1 F.2.1 dX1_layOut_6 (by decide) ⟨by omega, by omega⟩ (fun c1 => ?_) (fun c1 => ?_)
      · refine lv_iconst (v := nI 0) F.1 F.2.1 dX1_layOut_22 (by decide) ?_
        refine lv_istore_n (lv' := [(3, .int (nI 0)), (0, .ref (h 0)), (1, .int (nI sh)), (2, .int (nI fi))]) F.1 F.2.1 dX1_layOut_23 rfl hl (by decide) rfl (fun ls hl => ?_)
        exact L2 (n + 1) 0 r2 (by omega) (by omega) (fun x y _ _ => by rw [if_neg (by omega)]; exact hinv _ (by omega)) _ _ _ I (lv_sub hl [0, 1, 2, 3] rfl)
      · refine lv_aload_n F.1 F.2.1 dX1_layOut_9 rfl (lv_at hl 1 rfl) ?_
        refine xg_room F I dX1_layOut_10 ?_
        refine lv_iload_n F.1 F.2.1 dX1_layOut_13 rfl (lv_at hl 0 rfl) ?_
        refine lv_iconst (v := nI 0) F.1 F.2.1 dX1_layOut_14 (by decide) ?_
        refine xs_room (x := 0) F I dX1_layOut_15 (by omega) (fun H locs I => ?_)
        refine nv_iinc (lv' := [(3, .int (nI (i + 1))), (0, .ref (h 0)), (1, .int (nI sh)), (2, .int (nI fi))]) F.1 F.2.1 dX1_layOut_16 hl (k := 0) rfl (by decide) rfl (fun ls hl => ?_)
        refine lv_goto (tgt := 2) F.1 F.2.1 dX1_layOut_19 (by decide) ?_
        exact ih (i + 1) _ (by omega) (by omega) (fun j hj => by
          by_cases e : j = i
          · subst e; rw [va_up_self]
          · rw [va_up_ne _ _ e]; exact hinv j (by omega)) _ _ _ I (lv_sub hl [0, 1, 2, 3] rfl)
  refine lv_iconst (v := nI 0) F.1 F.2.1 dX1_layOut_0 (by decide) ?_
  refine lv_istore_n (lv' := [(3, .int (nI 0)), (0, .ref (h 0)), (1, .int (nI sh)), (2, .int (nI fi))]) F.1 F.2.1 dX1_layOut_1 rfl hl (by decide) rfl (fun ls hl => ?_)
  exact L1 257 0 r (by omega) (by omega) (fun j hj => by omega) _ _ _ I (lv_sub hl [0, 1, 2, 3] rfl)
section XA
variable {p : Program} {l : Launch} {e : Env} {R : Room} {s : State} {m : MethodId} {args : Array Value} {below : List Frame} {meth : Method} {c : Code} {H : Heap} {locs : List Loc} {cells slots : Nat} {Q : State → Prop} {pc : Nat} {ls : Array Slot} {rest : List Value} {cc : ByteArray} {nL : Nat} {D : va_G} {A : Nat → Prop} {H0 : Heap} {h : Nat → Nat} {ca : Nat → ClassId} {lv : List (Nat × Value)} 
theorem xk_layOut {n sr tg : Nat} {a r : Nat → Nat} {cf : Nat → Option Nat} {q : Nat → Nat} {st : Nat → Option Nat} {sh fi : Nat} (F : CallFix p m c cc nL s args lw_all RX1) (I : WI D (XW h ca (n, sr, tg, a, r, cf, q, st)) (XT ca) A s H0 H locs) (hl : lv_has ls nL lv) (hdg : decode cc pc = .ok (.invokevirtual 56, 3)) (hR : 3 ≤ R.frames ∧ 69 ≤ R.locals) (hroom : (rest.map fun v => v.category).sum ≤ 8) (hf : cells ≤ R.cells ∧ slots ≤ R.slots) (hn : n ≤ 8) (hs : sr < n) (ht : tg < n) (hG : Gok n a) (hsh : sh < 2 ^ 31) (hfi : fi < 2 ^ 31) (hss : ¬ mb sh sr) (hst : ¬ mb sh tg) (kk : ∀ (r2 : Nat → Nat), (∀ x y, x < 16 → y < 16 → r2 (x * 16 + y) = cp n sr tg a sh fi x y) → ∀ (H1 : Heap) (locs1 : List Loc), WI D (XW h ca (n, sr, tg, a, r2, cf, q, st)) (XT ca) A s H0 H1 locs1 → W p l e R s m args below meth c H1 locs1 cells slots Q (F0 m (pc + 3) ls (rest))) : W p l e R s m args below meth c H locs cells slots Q (F0 m pc ls (.int (nI fi) :: .int (nI sh) :: .ref (h 0) :: rest)) :=
  wc_v F I (met_layOut l D h ca n sr tg a r cf q st sh fi hn hs ht hG hsh hfi hss hst) (cwV 2 F.2.2.2.2 (lw_V q103 q105 qs6 q23 q106) rfl rfl rfl (by decide +kernel) hR) (x_recv I) hl rfl rfl hroom hdg hf (fun u H1 locs1 hp I => by
    obtain ⟨r2, h2, rfl⟩ := hp; exact kk r2 h2 H1 locs1 I)

end XA
end
section
/-! the search breadth first, and pushing back along it -/
/-- the queue q with put entries; each but the first came from an earlier one -/
def BI (n f : Nat) (ρ : Nat → Nat → Nat) (cf : Nat → Option Nat) (q : Nat → Nat) (put : Nat) : Prop :=
  (∀ i, i < put → q i < 2 * n ∧ cf (q i) ≠ none) ∧ (∀ i j, i < j → j < put → q i ≠ q j) ∧ (∀ b, b < 16 → cf b ≠ none → ∃ i, i < put ∧ q i = b) ∧
  (cf f = some f ∧ q 0 = f ∧ 0 < put) ∧ (∀ i, 0 < i → i < put → ∃ j, j < i ∧ cf (q i) = some (q j) ∧ 0 < ρ (q j) (q i))
section BFS
variable {n f : Nat} {ρ : Nat → Nat → Nat} {cf : Nat → Option Nat} {q : Nat → Nat} {put : Nat}
theorem BI.start {cf0 : Nat → Option Nat} {q0 : Nat → Nat} (hn : n ≤ 8) (hf : f < 2 * n) (h : ∀ j, j < 16 → cf0 j = none) : BI n f ρ (va_up cf0 f (some f)) (va_up q0 0 f) 1 := by
  refine ⟨fun i hi => ?_, fun i j hij hj => ?_, fun b hb hc => ?_, ⟨?_, ?_, ?_⟩, fun i h0 hi => ?_⟩
  · have e : i = 0 := by omega
    subst e
    rw [va_up_self, va_up_self]
    exact ⟨hf, fun z => by cases z⟩
  · omega
  · refine ⟨0, by omega, ?_⟩
    rw [va_up_self]
    refine Classical.byContradiction fun z => hc ?_
    rw [va_up_ne _ _ (fun w => z w.symm)]
    exact h b hb
  · rw [va_up_self]
  · rw [va_up_self]
  · omega
  · omega
theorem BI.le (h : BI n f ρ cf q put) : put ≤ 2 * n := fb_holes (2 * n) put q (fun i hi => (h.1 i hi).1) h.2.1
theorem BI.val (h : BI n f ρ cf q put) {b z : Nat} (hb : b < 16) (hz : cf b = some z) : z < 2 * n := by
  obtain ⟨h1, h2, h3, ⟨h4, h5, h6⟩, h7⟩ := h
  obtain ⟨i, hi, e⟩ := h3 b hb (by rw [hz]; exact fun w => by cases w)
  rcases Nat.eq_zero_or_pos i with q0 | q0
  · subst q0
    rw [← e, h5, h4] at hz
    cases hz
    rw [← h5]
    exact (h1 0 hi).1
  · obtain ⟨j, hj, e2, -⟩ := h7 i q0 hi
    rw [← e, e2] at hz
    cases hz
    exact (h1 j (by omega)).1
theorem BI.room (h : BI n f ρ cf q put) {b : Nat} (hb : b < 2 * n) (hc : cf b = none) : put + 1 ≤ 2 * n := by
  refine fb_holes (2 * n) (put + 1) (va_up q put b) (fun i hi => ?_) (fun i j hij hj => ?_)
  · by_cases e : i = put
    · subst e; rw [va_up_self]; exact hb
    · rw [va_up_ne _ _ e]; exact (h.1 i (by omega)).1
  · rw [va_up_ne _ _ (by omega : i ≠ put)]
    by_cases e : j = put
    · subst e
      rw [va_up_self]
      intro z
      exact (h.1 i (by omega)).2 (by rw [z]; exact hc)
    · rw [va_up_ne _ _ e]
      exact h.2.1 i j hij (by omega)
theorem up_some {α : Type} {g : Nat → Option α} {b y : Nat} {v : α} (h : g y ≠ none) : va_up g b (some v) y ≠ none := by
  by_cases e : y = b
  · subst e; rw [va_up_self]; exact fun z => by cases z
  · rw [va_up_ne _ _ e]; exact h
theorem BI.visit (h : BI n f ρ cf q put) {b g : Nat} (hn : n ≤ 8) (hb : b < 2 * n) (hc : cf b = none) (hg : g < put) (hr : 0 < ρ (q g) b) : BI n f ρ (va_up cf b (some (q g))) (va_up q put b) (put + 1) := by
  obtain ⟨h1, h2, h3, ⟨h4, h5, h6⟩, h7⟩ := h
  have hq : ∀ i, i < put → va_up q put b i = q i := fun i hi => va_up_ne _ _ (by omega)
  have hne : ∀ i, i < put → q i ≠ b := fun i hi z => (h1 i hi).2 (by rw [z]; exact hc)
  have hcq : ∀ i, i < put → va_up cf b (some (q g)) (q i) = cf (q i) := fun i hi => va_up_ne _ _ (hne i hi)
  refine ⟨fun i hi => ?_, fun i j hij hj => ?_, fun y hy hcy => ?_, ⟨?_, ?_, by omega⟩, fun i h0 hi => ?_⟩
  · by_cases e : i = put
    · subst e
      rw [va_up_self, va_up_self]
      exact ⟨hb, fun z => by cases z⟩
    · rw [hq i (by omega), hcq i (by omega)]
      exact h1 i (by omega)
  · rw [hq i (by omega)]
    by_cases e : j = put
    · subst e
      rw [va_up_self]
      exact hne i (by omega)
    · rw [hq j (by omega)]
      exact h2 i j hij (by omega)
  · by_cases e : y = b
    · subst e
      exact ⟨put, by omega, va_up_self _ _ _⟩
    · rw [va_up_ne _ _ e] at hcy
      obtain ⟨i, hi, e2⟩ := h3 y hy hcy
      exact ⟨i, by omega, by rw [hq i hi]; exact e2⟩
  · rw [← h5, hcq 0 h6, h5]
    exact h4
  · rw [hq 0 h6]
    exact h5
  · by_cases e : i = put
    · subst e
      refine ⟨g, hg, ?_, ?_⟩
      · rw [va_up_self, va_up_self, hq g hg]
      · rw [va_up_self, hq g hg]
        exact hr
    · obtain ⟨j, hj, e2, e3⟩ := h7 i h0 (by omega)
      refine ⟨j, hj, ?_, ?_⟩
      · rw [hq i (by omega), hq j (by omega), hcq i (by omega)]
        exact e2
      · rw [hq i (by omega), hq j (by omega)]
        exact e3
/-- the entries below g have been looked at -/
def Seen (n : Nat) (ρ : Nat → Nat → Nat) (cf : Nat → Option Nat) (q : Nat → Nat) (g : Nat) : Prop := ∀ i, i < g → ∀ y, y < 2 * n → 0 < ρ (q i) y → cf y ≠ none
theorem Seen.visit {g b x : Nat} (h : Seen n ρ cf q g) (hg : g ≤ put) : Seen n ρ (va_up cf b (some x)) (va_up q put b) g := by
  intro i hi y hy hr
  rw [va_up_ne _ _ (by omega : i ≠ put)] at hr
  exact up_some (h i hi y hy hr)
theorem Seen.next {g : Nat} (h : Seen n ρ cf q g) (h2 : ∀ y, y < 2 * n → 0 < ρ (q g) y → cf y ≠ none) : Seen n ρ cf q (g + 1) := by
  intro i hi y hy hr
  by_cases e : i = g
  · subst e; exact h2 y hy hr
  · exact h i (by omega) y hy hr
end BFS
theorem Psh.tr2 {ρ ρ1 ρ2 : Nat → Nat → Nat} {x y z : Nat} (h : Psh ρ ρ1 y z) (h2 : Psh ρ1 ρ2 x y) : Psh ρ ρ2 x z := by
  refine ⟨fun u v hu hv => (h2.1 u v hu hv).trans (h.1 u v hu hv), fun u hu => ?_⟩
  have a1 := h.2 u hu
  have a2 := h2.2 u hu
  omega
theorem Psh.cong {ρ ρ1 ρ2 : Nat → Nat → Nat} {x y : Nat} (h : Psh ρ ρ1 x y) (e : ∀ u v, u < 16 → v < 16 → ρ2 u v = ρ1 u v) : Psh ρ ρ2 x y := by
  refine ⟨fun u v hu hv => by rw [e u v hu hv, e v u hv hu]; exact h.1 u v hu hv, fun u hu => ?_⟩
  rw [fb_sm_cong (fun v hv => e u v hu hv)]
  exact h.2 u hu
/-- the room array as a table -/
abbrev rt (r : Nat → Nat) : Nat → Nat → Nat := fun x y => r (x * 16 + y)
theorem push_up2 {r : Nat → Nat} {x y : Nat} (hx : x < 16) (hy : y < 16) (hne : y ≠ x) : ∀ u v, u < 16 → v < 16 → rt (va_up (va_up r (y * 16 + x) (r (y * 16 + x) - 1)) (x * 16 + y) (va_up r (y * 16 + x) (r (y * 16 + x) - 1) (x * 16 + y) + 1)) u v = up2 (rt r) y x u v := by
  intro u v hu hv
  show va_up _ _ _ (u * 16 + v) = _
  have e0 : va_up r (y * 16 + x) (r (y * 16 + x) - 1) (x * 16 + y) = r (x * 16 + y) := va_up_ne _ _ (by omega)
  rw [e0]
  by_cases h2 : u = x ∧ v = y
  · obtain ⟨rfl, rfl⟩ := h2
    rw [va_up_self, up2_ta hne]
  · rw [va_up_ne _ _ (by omega)]
    by_cases h1 : u = y ∧ v = x
    · obtain ⟨rfl, rfl⟩ := h1
      rw [va_up_self, up2_at]
    · rw [va_up_ne _ _ (by omega), up2_ne h1 h2]
/-- pushing back along the queue: now at its entry j -/
def PI (s t : Nat) (ρ0 : Nat → Nat → Nat) (cf : Nat → Option Nat) (q : Nat → Nat) (j : Nat) (ρ : Nat → Nat → Nat) : Prop :=
  Psh ρ0 ρ (q j) (2 * t) ∧ (∀ i, 0 < i → i ≤ j → ∀ x, cf (q i) = some x → 0 < ρ x (q i)) ∧ q j ≠ 2 * s ∧ ∀ x, x < 16 → ρ x (2 * s) = ρ0 x (2 * s)
theorem PI.step {n s t : Nat} {ρ0 ρ ρ' : Nat → Nat → Nat} {cf : Nat → Option Nat} {q : Nat → Nat} {put j j2 : Nat} (hB : BI n (2 * s + 1) ρ0 cf q put) (hn : n ≤ 8) (hz : ∀ x, x < 16 → 0 < ρ0 (2 * s) x → x = 2 * s + 1) (h : PI s t ρ0 cf q j ρ) (hj : j < put) (h2 : j2 < j) (hc : cf (q j) = some (q j2)) (hr : 0 < ρ0 (q j2) (q j)) (he : ∀ u v, u < 16 → v < 16 → ρ' u v = up2 ρ (q j2) (q j) u v) : PI s t ρ0 cf q j2 ρ' := by
  obtain ⟨p1, p2, p3, p4⟩ := h
  have hqj := (hB.1 j hj).1
  have hqj2 := (hB.1 j2 (by omega)).1
  have hne : q j2 ≠ q j := hB.2.1 j2 j h2 hj
  have hpos : 0 < ρ (q j2) (q j) := p2 j (by omega) (Nat.le_refl j) _ hc
  have hns : q j2 ≠ 2 * s := fun e => by
    rw [e] at hr
    have h3 := hz (q j) (by omega) hr
    have h4 := hB.2.1 0 j (by omega) hj
    rw [hB.2.2.2.1.2.1] at h4
    exact h4 h3.symm
  refine ⟨(p1.tr2 (Psh.one hne (by omega) (by omega) hpos)).cong he, fun i h0 hi x hx => ?_, hns, fun x hx => ?_⟩
  · have hqi := (hB.1 i (by omega)).1
    have hx2 : x < 2 * n := hB.val (by omega) hx
    have hij : q i ≠ q j := hB.2.1 i j (by omega) hj
    have hp := p2 i h0 (by omega) x hx
    rw [he x (q i) (by omega) (by omega)]
    by_cases e : x = q j ∧ q i = q j2
    · rw [e.1, e.2, up2_ta hne]
      omega
    · rw [up2_ne (fun z => hij z.2) e]
      exact hp
  · by_cases hs : 2 * s < 16
    · rw [he x _ hx hs, up2_ne (fun z => p3 z.2.symm) (fun z => hns z.2.symm)]
      exact p4 x hx
    · have h5 : 2 * s + 1 < 2 * n := by
        rw [← hB.2.2.2.1.2.1]
        exact (hB.1 0 hB.2.2.2.1.2.2).1
      omega
theorem cp_out {n s t : Nat} {a : Nat → Nat} {sh fi x y : Nat} (h : 2 * n ≤ y) : cp n s t a sh fi x y = 0 ∧ cp n s t a sh fi y x = 0 := by
  constructor
  · unfold cp
    split
    · rw [if_neg (by omega)]
    · rw [if_neg (by omega)]
  · unfold cp
    split
    · rw [if_neg (by omega)]
    · rw [if_neg (by omega)]
/-- nothing more to be pushed: that is the least cut -/
theorem flow_done {n s t : Nat} {a : Nat → Nat} {sh fi k put : Nat} {ρ : Nat → Nat → Nat} {cf : Nat → Option Nat} {q : Nat → Nat} (h : Res n s t a sh fi ρ k) (hn : n ≤ 8) (hs : s < n) (ht : t < n) (hst : s ≠ t) (hG : Gok n a) (hss : ¬ mb sh s) (hsh : ¬ mb sh t) (hk : k ≤ 9) (hw : k < 9 → BI n (2 * s + 1) ρ cf q put ∧ Seen n ρ cf q put ∧ cf (2 * t) = none) : fl n s t a sh fi = k := by
  refine fl_eq ⟨hk, fun h9 => ?_, fun C hC => h.weak hn hs ht hst hG hC⟩
  obtain ⟨hB, hS, hT⟩ := hw h9
  refine h.isCut hn hs ht hG hss hsh (U := fun x => (cf x).isSome) ?_ ?_ ?_ h9
  · show (cf (2 * s + 1)).isSome = true
    rw [hB.2.2.2.1.1]
    rfl
  · show (cf (2 * t)).isSome = false
    rw [hT]
    rfl
  · intro x y hx hy h1 h2
    have h1 : (cf x).isSome = true := h1
    have h2 : (cf y).isSome = false := h2
    have hcx : cf x ≠ none := fun z => by rw [z] at h1; cases h1
    have hcy : cf y = none := by
      cases hz : cf y with
      | none => rfl
      | some z => rw [hz] at h2; cases h2
    by_cases hy2 : y < 2 * n
    · obtain ⟨i, hi, e⟩ := hB.2.2.1 x hx hcx
      refine Classical.byContradiction fun hne => hS i hi y hy2 ?_ hcy
      rw [e]
      omega
    · have h3 := h.1 x y hx hy
      have h4 := cp_out (n := n) (s := s) (t := t) (a := a) (sh := sh) (fi := fi) (x := x) (y := y) (by omega)
      rw [h4.1, h4.2] at h3
      omega
end
section
/-! DisjointPaths: findWay, push, flow -/
set_option maxHeartbeats 8000000 in
set_option maxRecDepth 100000 in
theorem met_findWay (l : Launch) (D : va_G) (h : Nat → Nat) (ca : Nat → ClassId) (n sr tg : Nat) (a r : Nat → Nat) (cf : Nat → Option Nat) (q : Nat → Nat) (st : Nat → Option Nat) (hn : n ≤ 8) (hs : sr < n) (ht : tg < n) (hr : ∀ j, j < 256 → r j < 2 ^ 31) : WMi l yX1_findWay (ws_ yX1_findWay cX1_findWay 7 (some .boolean)) ({ frames := 0, cells := 0, slots := 0, locals := 0 } : Room) D (XW h ca (n, sr, tg, a, r, cf, q, st)) (XW h ca) (XT ca) [.ref (h 0)] (fun r' u' => ∃ (cf2 : Nat → Option Nat) (q2 : Nat → Nat) (put : Nat), BI n (2 * sr + 1) (rt r) cf2 q2 put ∧ Seen n (rt r) cf2 q2 put ∧ r' = nI (cf2 (2 * tg)).isSome.toNat ∧ u' = (n, sr, tg, a, r, cf2, q2, st)) := by
  refine wm_z (by decide) (Nat.le_of_ble_eq_true rfl) ?_
  intro p e R s m args below meth c ls A Q hR F ret I hl
  have hl : lv_has ls 7 [(0, .ref (h 0))] := hl
  have K : ∀ (put : Nat) (cf2 : Nat → Option Nat) (q2 : Nat → Nat), BI n (2 * sr + 1) (rt r) cf2 q2 put → Seen n (rt r) cf2 q2 put → ∀ (H : Heap) (locs : List Loc) (ls : Array Slot), WI D (XW h ca (n, sr, tg, a, r, cf2, q2, st)) (XT ca) A s s.heap H locs → lv_has ls 7 [(2, .int (nI (2 * tg))), (0, .ref (h 0))] → W p l e R s m args below meth c H locs 0 0 Q (F0 m 150 ls []) := by
    intro put cf2 q2 hB hS H locs ls I hl
    refine lv_aload_n F.1 F.2.1 dX1_findWay_150 rfl (lv_at hl 1 rfl) ?_
    refine xg_came F I dX1_findWay_151 ?_
    refine lv_iload_n F.1 F.2.1 dX1_findWay_154 rfl (lv_at hl 0 rfl) ?_
    refine xa_came F I dX1_findWay_155 (by omega) ?_
    refine no_if_lt (tgt := 163) F.1 F.2.1 dX1_findWay_156 (by decide) (fun z hz => Nat.lt_of_lt_of_le (hB.val (by omega) hz) (by omega)) (fun c1 => ?_) (fun z c1 => ?_)
    · refine lv_iconst (v := nI 0) F.1 F.2.1 dX1_findWay_163 (by decide) ?_
      exact ret false _ _ _ ls _ ⟨cf2, q2, put, hB, hS, by rw [c1]; rfl, rfl⟩ I dX1_findWay_164
    · refine lv_iconst (v := nI 1) F.1 F.2.1 dX1_findWay_159 (by decide) ?_
      refine lv_goto (tgt := 164) F.1 F.2.1 dX1_findWay_160 (by decide) ?_
      exact ret true _ _ _ ls _ ⟨cf2, q2, put, hB, hS, by rw [c1]; rfl, rfl⟩ I dX1_findWay_164
  have L2 : ∀ (k : Nat), ∀ (g put : Nat) (cf2 : Nat → Option Nat) (q2 : Nat → Nat), 16 - g < k → g ≤ put → BI n (2 * sr + 1) (rt r) cf2 q2 put → Seen n (rt r) cf2 q2 g → ∀ (H : Heap) (locs : List Loc) (ls : Array Slot), WI D (XW h ca (n, sr, tg, a, r, cf2, q2, st)) (XT ca) A s s.heap H locs → lv_has ls 7 [(4, .int (nI g)), (3, .int (nI put)), (2, .int (nI (2 * tg))), (1, .int (nI ((2 * sr) + 1))), (0, .ref (h 0))] → W p l e R s m args below meth c H locs 0 0 Q (F0 m 56 ls []) := by
    intro k
    induction k with
    | zero =>
      intro g put cf2 q2 hk hgp hB hS
      exact absurd hk (Nat.not_lt_zero _)
    | succ k ih =>
      intro g put cf2 q2 hk hgp hB hS H locs ls I hl
      have ihO := ih
      have hle := hB.le
      have L3 : ∀ (k : Nat), ∀ (b aa put : Nat) (cf2 : Nat → Option Nat) (q2 : Nat → Nat), 2 * n - b < k → b ≤ 2 * n → g < put → BI n (2 * sr + 1) (rt r) cf2 q2 put → Seen n (rt r) cf2 q2 g → q2 g = aa → (∀ y, y < b → 0 < rt r aa y → cf2 y ≠ none) → ∀ (H : Heap) (locs : List Loc) (ls : Array Slot), WI D (XW h ca (n, sr, tg, a, r, cf2, q2, st)) (XT ca) A s s.heap H locs → lv_has ls 7 [(6, .int (nI b)), (5, .int (nI aa)), (4, .int (nI g)), (3, .int (nI put)), (2, .int (nI (2 * tg))), (1, .int (nI ((2 * sr) + 1))), (0, .ref (h 0))] → W p l e R s m args below meth c H locs 0 0 Q (F0 m 81 ls []) := by
        intro k
        induction k with
        | zero =>
          intro b aa put cf2 q2 hk hb hg hB hS hq hinv
          exact absurd hk (Nat.not_lt_zero _)
        | succ k ih =>
          intro b aa put cf2 q2 hk hb hg hB hS hq hinv H locs ls I hl
          have hle := hB.le
          have haa : aa < 2 * n := by rw [← hq]; exact (hB.1 g hg).1
          refine lv_iload F.1 F.2.1 dX1_findWay_81 (lv_at hl 0 rfl) ?_
          refine lv_iconst (v := nI 2) F.1 F.2.1 dX1_findWay_83 (by decide) ?_
          refine lv_aload_n F.1 F.2.1 dX1_findWay_84 rfl (lv_at hl 6 rfl) ?_
          refine xg_n F I dX1_findWay_85 ?_
          refine nv_imul F.1 F.2.1 dX1_findWay_88 ?_
          refine nv_icmp_ge (tgt := 144) F.1 F.2.1 dX1_findWay_89 (by decide) ⟨by omega, by omega⟩ (fun c1 => ?_) (fun c1 => ?_)
          · refine nv_iinc (lv' := [(4, .int (nI (g + 1))), (6, .int (nI b)), (5, .int (nI aa)), (3, .int (nI put)), (2, .int (nI (2 * tg))), (1, .int (nI ((2 * sr) + 1))), (0, .ref (h 0))]) F.1 F.2.1 dX1_findWay_144 hl (k := 2) rfl (by decide) rfl (fun ls hl => ?_)
            refine lv_goto (tgt := 56) F.1 F.2.1 dX1_findWay_147 (by decide) ?_
            exact ihO (g + 1) put cf2 q2 (by omega) (by omega) hB (hS.next (by rw [hq]; exact fun y hy hp => hinv y (by omega) hp)) _ _ _ I (lv_sub hl [0, 3, 4, 5, 6] rfl)
          · refine lv_aload_n F.1 F.2.1 dX1_findWay_92 rfl (lv_at hl 6 rfl) ?_
            refine xg_room F I dX1_findWay_93 ?_
            refine lv_iload F.1 F.2.1 dX1_findWay_96 (lv_at hl 1 rfl) ?_
            refine lv_bipush (v := nI 16) F.1 F.2.1 dX1_findWay_98 (by decide) ?_
            refine nv_imul F.1 F.2.1 dX1_findWay_100 ?_
            refine lv_iload F.1 F.2.1 dX1_findWay_101 (lv_at hl 0 rfl) ?_
            refine nv_iadd F.1 F.2.1 dX1_findWay_103 ?_
            refine xa_room F I dX1_findWay_104 (by omega) ?_
            refine nv_if_le (tgt := 138) F.1 F.2.1 dX1_findWay_105 (by decide) (hr _ (by omega)) (fun c2 => ?_) (fun c2 => ?_)
            · refine nv_iinc (lv' := [(6, .int (nI (b + 1))), (5, .int (nI aa)), (4, .int (nI g)), (3, .int (nI put)), (2, .int (nI (2 * tg))), (1, .int (nI ((2 * sr) + 1))), (0, .ref (h 0))]) F.1 F.2.1 dX1_findWay_138 hl (k := 0) rfl (by decide) rfl (fun ls hl => ?_)
              refine lv_goto (tgt := 81) F.1 F.2.1 dX1_findWay_141 (by decide) ?_
              exact ih (b + 1) aa put cf2 q2 (by omega) (by omega) hg hB hS hq (fun y hy hp => by
                by_cases e : y = b
                · subst e; exact absurd c2 (Nat.pos_iff_ne_zero.mp hp)
                · exact hinv y (by omega) hp) _ _ _ I (lv_sub hl [0, 1, 2, 3, 4, 5, 6] rfl)
            · refine lv_aload_n F.1 F.2.1 dX1_findWay_108 rfl (lv_at hl 6 rfl) ?_
              refine xg_came F I dX1_findWay_109 ?_
              refine lv_iload F.1 F.2.1 dX1_findWay_112 (lv_at hl 0 rfl) ?_
              refine xa_came F I dX1_findWay_114 (by omega) ?_
              refine no_if_ge (tgt := 138) F.1 F.2.1 dX1_findWay_115 (by decide) (fun z hz => Nat.lt_of_lt_of_le (hB.val (by omega) hz) (by omega)) (fun z c3 => ?_) (fun c3 => ?_)
              · refine nv_iinc (lv' := [(6, .int (nI (b + 1))), (5, .int (nI aa)), (4, .int (nI g)), (3, .int (nI put)), (2, .int (nI (2 * tg))), (1, .int (nI ((2 * sr) + 1))), (0, .ref (h 0))]) F.1 F.2.1 dX1_findWay_138 hl (k := 0) rfl (by decide) rfl (fun ls hl => ?_)
                refine lv_goto (tgt := 81) F.1 F.2.1 dX1_findWay_141 (by decide) ?_
                exact ih (b + 1) aa put cf2 q2 (by omega) (by omega) hg hB hS hq (fun y hy hp => by
                  by_cases e : y = b
                  · subst e; rw [c3]; exact fun w => by cases w
                  · exact hinv y (by omega) hp) _ _ _ I (lv_sub hl [0, 1, 2, 3, 4, 5, 6] rfl)
              · have hrm := hB.room (by omega) c3
                have hB2 := hB.visit hn (by omega) c3 hg (by rw [hq]; exact c2)
                rw [hq] at hB2
                refine lv_aload_n F.1 F.2.1 dX1_findWay_118 rfl (lv_at hl 6 rfl) ?_
                refine xg_came F I dX1_findWay_119 ?_
                refine lv_iload F.1 F.2.1 dX1_findWay_122 (lv_at hl 0 rfl) ?_
                refine lv_iload F.1 F.2.1 dX1_findWay_124 (lv_at hl 1 rfl) ?_
                refine xs_came (x := some aa) F I dX1_findWay_126 (by omega) (fun H locs I => ?_)
                refine lv_aload_n F.1 F.2.1 dX1_findWay_127 rfl (lv_at hl 6 rfl) ?_
                refine xg_queue F I dX1_findWay_128 ?_
                refine lv_iload_n F.1 F.2.1 dX1_findWay_131 rfl (lv_at hl 3 rfl) ?_
                refine lv_iload F.1 F.2.1 dX1_findWay_132 (lv_at hl 0 rfl) ?_
                refine xs_queue (x := b) F I dX1_findWay_134 (by omega) (fun H locs I => ?_)
                refine nv_iinc (lv' := [(3, .int (nI (put + 1))), (6, .int (nI b)), (5, .int (nI aa)), (4, .int (nI g)), (2, .int (nI (2 * tg))), (1, .int (nI ((2 * sr) + 1))), (0, .ref (h 0))]) F.1 F.2.1 dX1_findWay_135 hl (k := 3) rfl (by decide) rfl (fun ls hl => ?_)
                refine nv_iinc (lv' := [(6, .int (nI (b + 1))), (3, .int (nI (put + 1))), (5, .int (nI aa)), (4, .int (nI g)), (2, .int (nI (2 * tg))), (1, .int (nI ((2 * sr) + 1))), (0, .ref (h 0))]) F.1 F.2.1 dX1_findWay_138 hl (k := 1) rfl (by decide) rfl (fun ls hl => ?_)
                refine lv_goto (tgt := 81) F.1 F.2.1 dX1_findWay_141 (by decide) ?_
                exact ih (b + 1) aa (put + 1) _ _ (by omega) (by omega) (by omega) hB2 (hS.visit (by omega)) (by rw [va_up_ne _ _ (by omega)]; exact hq) (fun y hy hp => by
                  by_cases e : y = b
                  · subst e; rw [va_up_self]; exact fun w => by cases w
                  · exact up_some (hinv y (by omega) hp)) _ _ _ I (lv_sub hl [0, 2, 3, 1, 4, 5, 6] rfl)
      refine lv_iload F.1 F.2.1 dX1_findWay_56 (lv_at hl 0 rfl) ?_
      refine lv_iload_n F.1 F.2.1 dX1_findWay_58 rfl (lv_at hl 1 rfl) ?_
      refine nv_icmp_ge (tgt := 150) F.1 F.2.1 dX1_findWay_59 (by decide) ⟨by omega, by omega⟩ (fun c1 => ?_) (fun c1 => ?_)
      · have e : g = put := by omega
        have hS : Seen n (rt r) cf2 q2 put := by rw [← e]; exact hS
        exact K put cf2 q2 hB hS _ _ _ I (lv_sub hl [2, 4] rfl)
      · refine lv_iload F.1 F.2.1 dX1_findWay_62 (lv_at hl 0 rfl) ?_
        refine lv_bipush (v := nI 16) F.1 F.2.1 dX1_findWay_64 (by decide) ?_
        refine nv_icmp_ge (tgt := 150) F.1 F.2.1 dX1_findWay_66 (by decide) ⟨by omega, by omega⟩ (fun c2 => ?_) (fun c2 => ?_)
        · have e : g = put := by omega
          have hS : Seen n (rt r) cf2 q2 put := by rw [← e]; exact hS
          exact K put cf2 q2 hB hS _ _ _ I (lv_sub hl [2, 4] rfl)
        · refine lv_aload_n F.1 F.2.1 dX1_findWay_69 rfl (lv_at hl 4 rfl) ?_
          refine xg_queue F I dX1_findWay_70 ?_
          refine lv_iload F.1 F.2.1 dX1_findWay_73 (lv_at hl 0 rfl) ?_
          refine xa_queue F I dX1_findWay_75 (by omega) ?_
          refine lv_istore (lv' := [(5, .int (nI (q2 g))), (4, .int (nI g)), (3, .int (nI put)), (2, .int (nI (2 * tg))), (1, .int (nI ((2 * sr) + 1))), (0, .ref (h 0))]) F.1 F.2.1 dX1_findWay_76 hl (by decide) rfl (fun ls hl => ?_)
          refine lv_iconst (v := nI 0) F.1 F.2.1 dX1_findWay_78 (by decide) ?_
          refine lv_istore (lv' := [(6, .int (nI 0)), (5, .int (nI (q2 g))), (4, .int (nI g)), (3, .int (nI put)), (2, .int (nI (2 * tg))), (1, .int (nI ((2 * sr) + 1))), (0, .ref (h 0))]) F.1 F.2.1 dX1_findWay_79 hl (by decide) rfl (fun ls hl => ?_)
          exact L3 (2 * n + 1) 0 (q2 g) put cf2 q2 (by omega) (by omega) c1 hB hS rfl (fun y hy => by omega) _ _ _ I (lv_sub hl [0, 1, 2, 3, 4, 5, 6] rfl)
  have L1 : ∀ (k : Nat), ∀ (i : Nat) (cf2 : Nat → Option Nat), 16 - i < k → i ≤ 16 → (∀ j, j < i → cf2 j = none) → ∀ (H : Heap) (locs : List Loc) (ls : Array Slot), WI D (XW h ca (n, sr, tg, a, r, cf2, q, st)) (XT ca) A s s.heap H locs → lv_has ls 7 [(1, .int (nI i)), (0, .ref (h 0))] → W p l e R s m args below meth c H locs 0 0 Q (F0 m 2 ls []) := by
    intro k
    induction k with
    | zero =>
      intro i cf2 hk hi hinv
      exact absurd hk (Nat.not_lt_zero _)
    | succ k ih =>
      intro i cf2 hk hi hinv H locs ls I hl
      refine lv_iload_n F.1 F.2.1 dX1_findWay_2 rfl (lv_at hl 0 rfl) ?_
      refine lv_bipush (v := nI 16) F.1 F.2.1 dX1_findWay_3 (by decide) ?_
      refine nv_icmp_ge (tgt := 21) F.1 F.2.1 dX1_findWay_5 (by decide) ⟨by omega, by omega⟩ (fun c1 => ?_) (fun c1 => ?_)
      · refine lv_iconst (v := nI 2) F.1 F.2.1 dX1_findWay_21 (by decide) ?_
        refine lv_aload_n F.1 F.2.1 dX1_findWay_22 rfl (lv_at hl 1 rfl) ?_
        refine xg_s F I dX1_findWay_23 ?_
        refine nv_imul F.1 F.2.1 dX1_findWay_26 ?_
        refine lv_iconst (v := nI 1) F.1 F.2.1 dX1_findWay_27 (by decide) ?_
        refine nv_iadd F.1 F.2.1 dX1_findWay_28 ?_
        refine lv_istore_n (lv' := [(1, .int (nI ((2 * sr) + 1))), (0, .ref (h 0))]) F.1 F.2.1 dX1_findWay_29 rfl hl (by decide) rfl (fun ls hl => ?_)
        refine lv_iconst (v := nI 2) F.1 F.2.1 dX1_findWay_30 (by decide) ?_
        refine lv_aload_n F.1 F.2.1 dX1_findWay_31 rfl (lv_at hl 1 rfl) ?_
        refine xg_t F I dX1_findWay_32 ?_
        refine nv_imul F.1 F.2.1 dX1_findWay_35 ?_
        refine lv_istore_n (lv' := [(2, .int (nI (2 * tg))), (1, .int (nI ((2 * sr) + 1))), (0, .ref (h 0))]) F.1 F.2.1 dX1_findWay_36 rfl hl (by decide) rfl (fun ls hl => ?_)
        refine lv_aload_n F.1 F.2.1 dX1_findWay_37 rfl (lv_at hl 2 rfl) ?_
        refine xg_came F I dX1_findWay_38 ?_
        refine lv_iload_n F.1 F.2.1 dX1_findWay_41 rfl (lv_at hl 1 rfl) ?_
        refine lv_iload_n F.1 F.2.1 dX1_findWay_42 rfl (lv_at hl 1 rfl) ?_
        refine xs_came (x := some ((2 * sr) + 1)) F I dX1_findWay_43 (by omega) (fun H locs I => ?_)
        refine lv_aload_n F.1 F.2.1 dX1_findWay_44 rfl (lv_at hl 2 rfl) ?_
        refine xg_queue F I dX1_findWay_45 ?_
        refine lv_iconst (v := nI 0) F.1 F.2.1 dX1_findWay_48 (by decide) ?_
        refine lv_iload_n F.1 F.2.1 dX1_findWay_49 rfl (lv_at hl 1 rfl) ?_
        refine xs_queue (x := (2 * sr) + 1) F I dX1_findWay_50 (by omega) (fun H locs I => ?_)
        refine lv_iconst (v := nI 1) F.1 F.2.1 dX1_findWay_51 (by decide) ?_
        refine lv_istore_n (lv' := [(3, .int (nI 1)), (2, .int (nI (2 * tg))), (1, .int (nI ((2 * sr) + 1))), (0, .ref (h 0))]) F.1 F.2.1 dX1_findWay_52 rfl hl (by decide) rfl (fun ls hl => ?_)
        refine lv_iconst (v := nI 0) F.1 F.2.1 dX1_findWay_53 (by decide) ?_
        refine lv_istore (lv' := [(4, .int (nI 0)), (3, .int (nI 1)), (2, .int (nI (2 * tg))), (1, .int (nI ((2 * sr) + 1))), (0, .ref (h 0))]) F.1 F.2.1 dX1_findWay_54 hl (by decide) rfl (fun ls hl => ?_)
        exact L2 17 0 1 _ _ (by omega) (by omega) (BI.start hn (by omega) (fun j hj => hinv j (by omega))) (fun i hi => by omega) _ _ _ I (lv_sub hl [0, 1, 2, 3, 4] rfl)
      · refine lv_aload_n F.1 F.2.1 dX1_findWay_8 rfl (lv_at hl 1 rfl) ?_
        refine xg_came F I dX1_findWay_9 ?_
        refine lv_iload_n F.1 F.2.1 dX1_findWay_12 rfl (lv_at hl 0 rfl) ?_
        refine lv_iconst (v := -1) F.1 F.2.1 dX1_findWay_13 (by decide) ?_
        refine xs_came (x := none) F I dX1_findWay_14 (by omega) (fun H locs I => ?_)
        refine nv_iinc (lv' := [(1, .int (nI (i + 1))), (0, .ref (h 0))]) F.1 F.2.1 dX1_findWay_15 hl (k := 0) rfl (by decide) rfl (fun ls hl => ?_)
        refine lv_goto (tgt := 2) F.1 F.2.1 dX1_findWay_18 (by decide) ?_
        exact ih (i + 1) _ (by omega) (by omega) (fun j hj => by
          by_cases e : j = i
          · subst e; rw [va_up_self]
          · rw [va_up_ne _ _ e]; exact hinv j (by omega)) _ _ _ I (lv_sub hl [0, 1] rfl)
  refine lv_iconst (v := nI 0) F.1 F.2.1 dX1_findWay_0 (by decide) ?_
  refine lv_istore_n (lv' := [(1, .int (nI 0)), (0, .ref (h 0))]) F.1 F.2.1 dX1_findWay_1 rfl hl (by decide) rfl (fun ls hl => ?_)
  exact L1 17 0 cf (by omega) (by omega) (fun j hj => by omega) _ _ _ I (lv_sub hl [0, 1] rfl)
section XA
variable {p : Program} {l : Launch} {e : Env} {R : Room} {s : State} {m : MethodId} {args : Array Value} {below : List Frame} {meth : Method} {c : Code} {H : Heap} {locs : List Loc} {cells slots : Nat} {Q : State → Prop} {pc : Nat} {ls : Array Slot} {rest : List Value} {cc : ByteArray} {nL : Nat} {D : va_G} {A : Nat → Prop} {H0 : Heap} {h : Nat → Nat} {ca : Nat → ClassId} {lv : List (Nat × Value)} 
theorem xk_findWay {n sr tg : Nat} {a r : Nat → Nat} {cf : Nat → Option Nat} {q : Nat → Nat} {st : Nat → Option Nat} (F : CallFix p m c cc nL s args lw_all RX1) (I : WI D (XW h ca (n, sr, tg, a, r, cf, q, st)) (XT ca) A s H0 H locs) (hl : lv_has ls nL lv) (hdg : decode cc pc = .ok (.invokevirtual 59, 3)) (hR : 1 ≤ R.frames ∧ 26 ≤ R.locals) (hroom : (rest.map fun v => v.category).sum ≤ 8) (hf : cells ≤ R.cells ∧ slots ≤ R.slots) (hn : n ≤ 8) (hs : sr < n) (ht : tg < n) (hr : ∀ j, j < 256 → r j < 2 ^ 31) (kk : ∀ (cf2 : Nat → Option Nat) (q2 : Nat → Nat) (put : Nat), BI n (2 * sr + 1) (rt r) cf2 q2 put → Seen n (rt r) cf2 q2 put → ∀ (H1 : Heap) (locs1 : List Loc), WI D (XW h ca (n, sr, tg, a, r, cf2, q2, st)) (XT ca) A s H0 H1 locs1 → W p l e R s m args below meth c H1 locs1 cells slots Q (F0 m (pc + 3) ls (.int (nI ((cf2 (2 * tg)).isSome).toNat) :: rest))) : W p l e R s m args below meth c H locs cells slots Q (F0 m pc ls (.ref (h 0) :: rest)) :=
  wc_i F I (met_findWay l D h ca n sr tg a r cf q st hn hs ht hr) (cwV 0 F.2.2.2.2 (lw_V q111 q113 qs8 q23 q114) rfl rfl rfl (by decide +kernel) hR) (x_recv I) hl rfl rfl hroom hdg hf (fun r u H1 locs1 hp I => by
    obtain ⟨cf2, q2, put, h1, h2, rfl, rfl⟩ := hp; exact kk cf2 q2 put h1 h2 H1 locs1 I)

end XA
set_option maxHeartbeats 8000000 in
set_option maxRecDepth 100000 in
theorem met_push (l : Launch) (D : va_G) (h : Nat → Nat) (ca : Nat → ClassId) (n sr tg : Nat) (a r : Nat → Nat) (cf : Nat → Option Nat) (q : Nat → Nat) (st : Nat → Option Nat) (put : Nat) (hn : n ≤ 8) (hs : sr < n) (ht : tg < n) (hst : sr ≠ tg) (hB : BI n (2 * sr + 1) (rt r) cf q put) (hto : cf (2 * tg) ≠ none) (hz : ∀ x, x < 16 → 0 < rt r (2 * sr) x → x = 2 * sr + 1) : WMv l yX1_push (ws_ yX1_push cX1_push 5 none) ({ frames := 0, cells := 0, slots := 0, locals := 0 } : Room) D (XW h ca (n, sr, tg, a, r, cf, q, st)) (XW h ca) (XT ca) [.ref (h 0)] (fun u' => ∃ r2 : Nat → Nat, Psh (rt r) (rt r2) (2 * sr + 1) (2 * tg) ∧ (∀ x, x < 16 → rt r2 x (2 * sr) = rt r x (2 * sr)) ∧ u' = (n, sr, tg, a, r2, cf, q, st)) := by
  refine wm_v (by decide) (Nat.le_of_ble_eq_true rfl) ?_
  intro p e R s m args below meth c ls A Q hR F ret I hl
  have hl : lv_has ls 5 [(0, .ref (h 0))] := hl
  have hle := hB.le
  obtain ⟨j0, hj0, ej0⟩ := hB.2.2.1 (2 * tg) (by omega) hto
  have L : ∀ (k : Nat), ∀ (j i : Nat) (r2 : Nat → Nat), j < k → j < put → j + i ≤ 15 → PI sr tg (rt r) cf q j (rt r2) → ∀ (H : Heap) (locs : List Loc) (ls : Array Slot), WI D (XW h ca (n, sr, tg, a, r2, cf, q, st)) (XT ca) A s s.heap H locs → lv_has ls 5 [(3, .int (nI i)), (2, .int (nI ((2 * sr) + 1))), (1, .int (nI (q j))), (0, .ref (h 0))] → W p l e R s m args below meth c H locs 0 0 Q (F0 m 18 ls []) := by
    intro k
    induction k with
    | zero =>
      intro j i r2 hk hj hji hP
      exact absurd hk (Nat.not_lt_zero _)
    | succ k ih =>
      intro j i r2 hk hj hji hP H locs ls I hl
      have hqj := (hB.1 j hj).1
      refine lv_iload_n F.1 F.2.1 dX1_push_18 rfl (lv_at hl 0 rfl) ?_
      refine lv_bipush (v := nI 16) F.1 F.2.1 dX1_push_19 (by decide) ?_
      refine nv_icmp_ge (tgt := 98) F.1 F.2.1 dX1_push_21 (by decide) ⟨by omega, by omega⟩ (fun c1 => ?_) (fun c1 => ?_)
      · exact absurd c1 (by omega)
      · refine lv_iload_n F.1 F.2.1 dX1_push_24 rfl (lv_at hl 2 rfl) ?_
        refine lv_iload_n F.1 F.2.1 dX1_push_25 rfl (lv_at hl 1 rfl) ?_
        refine nv_icmp_eq (tgt := 98) F.1 F.2.1 dX1_push_26 (by decide) ⟨by omega, by omega⟩ (fun c2 => ?_) (fun c2 => ?_)
        · have e := hP.1
          rw [c2] at e
          exact ret _ _ _ ls _ ⟨r2, e, hP.2.2.2, rfl⟩ I dX1_push_98
        · have h0 : 0 < j := by
            rcases Nat.eq_zero_or_pos j with z | z
            · subst z; exact absurd hB.2.2.2.1.2.1 c2
            · exact z
          obtain ⟨j2, hj2, ec, er⟩ := hB.2.2.2.2 j h0 hj
          have hqj2 := (hB.1 j2 (by omega)).1
          have hne : q j2 ≠ q j := hB.2.1 j2 j hj2 hj
          have hpos : 0 < r2 (q j2 * 16 + q j) := hP.2.1 j h0 (Nat.le_refl j) _ ec
          refine lv_aload_n F.1 F.2.1 dX1_push_29 rfl (lv_at hl 3 rfl) ?_
          refine xg_came F I dX1_push_30 ?_
          refine lv_iload_n F.1 F.2.1 dX1_push_33 rfl (lv_at hl 2 rfl) ?_
          refine xa_came F I dX1_push_34 (by omega) ?_
          rw [ec]
          show W p l e R s m args below meth c H locs 0 0 Q (F0 m 35 ls [.int (nI (q j2))])
          refine lv_istore (lv' := [(4, .int (nI (q j2))), (3, .int (nI i)), (2, .int (nI ((2 * sr) + 1))), (1, .int (nI (q j))), (0, .ref (h 0))]) F.1 F.2.1 dX1_push_35 hl (by decide) rfl (fun ls hl => ?_)
          refine lv_aload_n F.1 F.2.1 dX1_push_37 rfl (lv_at hl 4 rfl) ?_
          refine xg_room F I dX1_push_38 ?_
          refine lv_iload F.1 F.2.1 dX1_push_41 (lv_at hl 0 rfl) ?_
          refine lv_bipush (v := nI 16) F.1 F.2.1 dX1_push_43 (by decide) ?_
          refine nv_imul F.1 F.2.1 dX1_push_45 ?_
          refine lv_iload_n F.1 F.2.1 dX1_push_46 rfl (lv_at hl 3 rfl) ?_
          refine nv_iadd F.1 F.2.1 dX1_push_47 ?_
          refine lv_aload_n F.1 F.2.1 dX1_push_48 rfl (lv_at hl 4 rfl) ?_
          refine xg_room F I dX1_push_49 ?_
          refine lv_iload F.1 F.2.1 dX1_push_52 (lv_at hl 0 rfl) ?_
          refine lv_bipush (v := nI 16) F.1 F.2.1 dX1_push_54 (by decide) ?_
          refine nv_imul F.1 F.2.1 dX1_push_56 ?_
          refine lv_iload_n F.1 F.2.1 dX1_push_57 rfl (lv_at hl 3 rfl) ?_
          refine nv_iadd F.1 F.2.1 dX1_push_58 ?_
          refine xa_room F I dX1_push_59 (by omega) ?_
          refine lv_iconst (v := nI 1) F.1 F.2.1 dX1_push_60 (by decide) ?_
          refine nv_isub F.1 F.2.1 dX1_push_61 (by omega) ?_
          refine xs_room (x := (r2 (((q j2) * 16) + (q j))) - 1) F I dX1_push_62 (by omega) (fun H locs I => ?_)
          refine lv_aload_n F.1 F.2.1 dX1_push_63 rfl (lv_at hl 4 rfl) ?_
          refine xg_room F I dX1_push_64 ?_
          refine lv_iload_n F.1 F.2.1 dX1_push_67 rfl (lv_at hl 3 rfl) ?_
          refine lv_bipush (v := nI 16) F.1 F.2.1 dX1_push_68 (by decide) ?_
          refine nv_imul F.1 F.2.1 dX1_push_70 ?_
          refine lv_iload F.1 F.2.1 dX1_push_71 (lv_at hl 0 rfl) ?_
          refine nv_iadd F.1 F.2.1 dX1_push_73 ?_
          refine lv_aload_n F.1 F.2.1 dX1_push_74 rfl (lv_at hl 4 rfl) ?_
          refine xg_room F I dX1_push_75 ?_
          refine lv_iload_n F.1 F.2.1 dX1_push_78 rfl (lv_at hl 3 rfl) ?_
          refine lv_bipush (v := nI 16) F.1 F.2.1 dX1_push_79 (by decide) ?_
          refine nv_imul F.1 F.2.1 dX1_push_81 ?_
          refine lv_iload F.1 F.2.1 dX1_push_82 (lv_at hl 0 rfl) ?_
          refine nv_iadd F.1 F.2.1 dX1_push_84 ?_
          refine xa_room F I dX1_push_85 (by omega) ?_
          refine lv_iconst (v := nI 1) F.1 F.2.1 dX1_push_86 (by decide) ?_
          refine nv_iadd F.1 F.2.1 dX1_push_87 ?_
          refine xs_room (x := ((va_up r2 (((q j2) * 16) + (q j)) ((r2 (((q j2) * 16) + (q j))) - 1)) (((q j) * 16) + (q j2))) + 1) F I dX1_push_88 (by omega) (fun H locs I => ?_)
          refine lv_iload F.1 F.2.1 dX1_push_89 (lv_at hl 0 rfl) ?_
          refine lv_istore_n (lv' := [(1, .int (nI (q j2))), (4, .int (nI (q j2))), (3, .int (nI i)), (2, .int (nI ((2 * sr) + 1))), (0, .ref (h 0))]) F.1 F.2.1 dX1_push_91 rfl hl (by decide) rfl (fun ls hl => ?_)
          refine nv_iinc (lv' := [(3, .int (nI (i + 1))), (1, .int (nI (q j2))), (4, .int (nI (q j2))), (2, .int (nI ((2 * sr) + 1))), (0, .ref (h 0))]) F.1 F.2.1 dX1_push_92 hl (k := 2) rfl (by decide) rfl (fun ls hl => ?_)
          refine lv_goto (tgt := 18) F.1 F.2.1 dX1_push_95 (by decide) ?_
          exact ih j2 (i + 1) _ (by omega) (by omega) (by omega) (hP.step hB hn hz hj hj2 ec er (push_up2 (by omega) (by omega) hne)) _ _ _ I (lv_sub hl [0, 3, 1, 4] rfl)
  refine lv_iconst (v := nI 2) F.1 F.2.1 dX1_push_0 (by decide) ?_
  refine lv_aload_n F.1 F.2.1 dX1_push_1 rfl (lv_at hl 0 rfl) ?_
  refine xg_t F I dX1_push_2 ?_
  refine nv_imul F.1 F.2.1 dX1_push_5 ?_
  refine lv_istore_n (lv' := [(1, .int (nI (2 * tg))), (0, .ref (h 0))]) F.1 F.2.1 dX1_push_6 rfl hl (by decide) rfl (fun ls hl => ?_)
  refine lv_iconst (v := nI 2) F.1 F.2.1 dX1_push_7 (by decide) ?_
  refine lv_aload_n F.1 F.2.1 dX1_push_8 rfl (lv_at hl 1 rfl) ?_
  refine xg_s F I dX1_push_9 ?_
  refine nv_imul F.1 F.2.1 dX1_push_12 ?_
  refine lv_iconst (v := nI 1) F.1 F.2.1 dX1_push_13 (by decide) ?_
  refine nv_iadd F.1 F.2.1 dX1_push_14 ?_
  refine lv_istore_n (lv' := [(2, .int (nI ((2 * sr) + 1))), (1, .int (nI (2 * tg))), (0, .ref (h 0))]) F.1 F.2.1 dX1_push_15 rfl hl (by decide) rfl (fun ls hl => ?_)
  refine lv_iconst (v := nI 0) F.1 F.2.1 dX1_push_16 (by decide) ?_
  refine lv_istore_n (lv' := [(3, .int (nI 0)), (2, .int (nI ((2 * sr) + 1))), (1, .int (nI (2 * tg))), (0, .ref (h 0))]) F.1 F.2.1 dX1_push_17 rfl hl (by decide) rfl (fun ls hl => ?_)
  rw [← ej0] at hl
  exact L (j0 + 1) j0 0 r (by omega) hj0 (by omega) ⟨by rw [← ej0]; exact Psh.rf _ _, fun i h0 hi x hx => by
    obtain ⟨j2, hj2, ec, er⟩ := hB.2.2.2.2 i h0 (by omega)
    rw [ec] at hx
    cases hx
    exact er, by omega, fun x _ => rfl⟩ _ _ _ I (lv_sub hl [0, 1, 2, 3] rfl)
section XA
variable {p : Program} {l : Launch} {e : Env} {R : Room} {s : State} {m : MethodId} {args : Array Value} {below : List Frame} {meth : Method} {c : Code} {H : Heap} {locs : List Loc} {cells slots : Nat} {Q : State → Prop} {pc : Nat} {ls : Array Slot} {rest : List Value} {cc : ByteArray} {nL : Nat} {D : va_G} {A : Nat → Prop} {H0 : Heap} {h : Nat → Nat} {ca : Nat → ClassId} {lv : List (Nat × Value)} 
theorem xk_push {n sr tg : Nat} {a r : Nat → Nat} {cf : Nat → Option Nat} {q : Nat → Nat} {st : Nat → Option Nat} {put : Nat} (F : CallFix p m c cc nL s args lw_all RX1) (I : WI D (XW h ca (n, sr, tg, a, r, cf, q, st)) (XT ca) A s H0 H locs) (hl : lv_has ls nL lv) (hdg : decode cc pc = .ok (.invokevirtual 63, 3)) (hR : 1 ≤ R.frames ∧ 24 ≤ R.locals) (hroom : (rest.map fun v => v.category).sum ≤ 8) (hf : cells ≤ R.cells ∧ slots ≤ R.slots) (hn : n ≤ 8) (hs : sr < n) (ht : tg < n) (hst : sr ≠ tg) (hB : BI n (2 * sr + 1) (rt r) cf q put) (hto : cf (2 * tg) ≠ none) (hz : ∀ x, x < 16 → 0 < rt r (2 * sr) x → x = 2 * sr + 1) (kk : ∀ (r2 : Nat → Nat), Psh (rt r) (rt r2) (2 * sr + 1) (2 * tg) → (∀ x, x < 16 → rt r2 x (2 * sr) = rt r x (2 * sr)) → ∀ (H1 : Heap) (locs1 : List Loc), WI D (XW h ca (n, sr, tg, a, r2, cf, q, st)) (XT ca) A s H0 H1 locs1 → W p l e R s m args below meth c H1 locs1 cells slots Q (F0 m (pc + 3) ls (rest))) : W p l e R s m args below meth c H locs cells slots Q (F0 m pc ls (.ref (h 0) :: rest)) :=
  wc_v F I (met_push l D h ca n sr tg a r cf q st put hn hs ht hst hB hto hz) (cwV 0 F.2.2.2.2 (lw_V q115 q117 qs9 q23 q118) rfl rfl rfl (by decide +kernel) hR) (x_recv I) hl rfl rfl hroom hdg hf (fun u H1 locs1 hp I => by
    obtain ⟨r2, h1, h2, rfl⟩ := hp; exact kk r2 h1 h2 H1 locs1 I)

end XA
set_option maxHeartbeats 8000000 in
set_option maxRecDepth 100000 in
theorem met_flow (l : Launch) (D : va_G) (h : Nat → Nat) (ca : Nat → ClassId) (n sr tg : Nat) (a r : Nat → Nat) (cf : Nat → Option Nat) (q : Nat → Nat) (st : Nat → Option Nat) (sh fi : Nat) (hn : n ≤ 8) (hs : sr < n) (ht : tg < n) (hst : sr ≠ tg) (hG : Gok n a) (hsh : sh < 2 ^ 31) (hfi : fi < 2 ^ 31) (hss : ¬ mb sh sr) (hsh2 : ¬ mb sh tg) : WMi l yX1_flow (ws_ yX1_flow cX1_flow 6 (some .int)) ({ frames := 3, cells := 0, slots := 0, locals := 69 } : Room) D (XW h ca (n, sr, tg, a, r, cf, q, st)) (XW h ca) (XT ca) [.ref (h 0), .int (nI sh), .int (nI fi)] (fun r' u' => ∃ (r2 : Nat → Nat) (cf2 : Nat → Option Nat) (q2 : Nat → Nat), r' = nI (fl n sr tg a sh fi) ∧ u' = (n, sr, tg, a, r2, cf2, q2, st)) := by
  refine wm_i (by decide) (Nat.le_of_ble_eq_true rfl) ?_
  intro p e R s m args below meth c ls A Q hR F ret I hl
  have hl : lv_has ls 6 [(0, .ref (h 0)), (1, .int (nI sh)), (2, .int (nI fi))] := hl
  have L : ∀ (k : Nat), ∀ (i put : Nat) (r2 : Nat → Nat) (cf2 : Nat → Option Nat) (q2 : Nat → Nat), 9 - i < k → i ≤ 9 → Res n sr tg a sh fi (rt r2) i → BI n (2 * sr + 1) (rt r2) cf2 q2 put → Seen n (rt r2) cf2 q2 put → ∀ (H : Heap) (locs : List Loc) (ls : Array Slot), WI D (XW h ca (n, sr, tg, a, r2, cf2, q2, st)) (XT ca) A s s.heap H locs → lv_has ls 6 [(5, .int (nI i)), (4, .int (nI ((cf2 (2 * tg)).isSome).toNat)), (3, .int (nI i)), (0, .ref (h 0))] → W p l e R s m args below meth c H locs 0 0 Q (F0 m 17 ls []) := by
    intro k
    induction k with
    | zero =>
      intro i put r2 cf2 q2 hk hi hRes hB hS
      exact absurd hk (Nat.not_lt_zero _)
    | succ k ih =>
      intro i put r2 cf2 q2 hk hi hRes hB hS H locs ls I hl
      refine lv_iload F.1 F.2.1 dX1_flow_17 (lv_at hl 0 rfl) ?_
      refine lv_bipush (v := nI 9) F.1 F.2.1 dX1_flow_19 (by decide) ?_
      refine nv_icmp_ge (tgt := 48) F.1 F.2.1 dX1_flow_21 (by decide) ⟨by omega, by omega⟩ (fun c1 => ?_) (fun c1 => ?_)
      · refine lv_iload_n F.1 F.2.1 dX1_flow_48 rfl (lv_at hl 2 rfl) ?_
        exact ret _ _ _ _ ls _ ⟨r2, cf2, q2, by rw [flow_done (cf := cf2) (q := q2) (put := put) hRes hn hs ht hst hG hss hsh2 hi (fun z => absurd z (by omega))], rfl⟩ I dX1_flow_49
      · refine lv_iload F.1 F.2.1 dX1_flow_24 (lv_at hl 1 rfl) ?_
        refine nb_if_eq (tgt := 48) F.1 F.2.1 dX1_flow_26 (by decide) (fun c2 => ?_) (fun c2 => ?_)
        · have hno : cf2 (2 * tg) = none := by
            cases hz : cf2 (2 * tg) with
            | none => rfl
            | some z => rw [hz] at c2; cases c2
          refine lv_iload_n F.1 F.2.1 dX1_flow_48 rfl (lv_at hl 2 rfl) ?_
          exact ret _ _ _ _ ls _ ⟨r2, cf2, q2, by rw [flow_done hRes hn hs ht hst hG hss hsh2 hi (fun _ => ⟨hB, hS, hno⟩)], rfl⟩ I dX1_flow_49
        · have hto : cf2 (2 * tg) ≠ none := fun z => by rw [z] at c2; cases c2
          refine lv_aload_n F.1 F.2.1 dX1_flow_29 rfl (lv_at hl 3 rfl) ?_
          refine xk_push F I hl dX1_flow_30 ⟨by rw [hR]; decide, by rw [hR]; decide⟩ (Nat.le_of_ble_eq_true rfl) ⟨Nat.zero_le _, Nat.zero_le _⟩ hn hs ht hst hB hto (fun x hx hp => hRes.entry (by omega) hx hp) (fun r3 hp1 hp2 H locs I => ?_)
          have hRes3 := hRes.pushed hp1 hp2
          refine nv_iinc (lv' := [(3, .int (nI (i + 1))), (5, .int (nI i)), (4, .int (nI ((cf2 (2 * tg)).isSome).toNat)), (0, .ref (h 0))]) F.1 F.2.1 dX1_flow_33 hl (k := 2) rfl (by decide) rfl (fun ls hl => ?_)
          refine lv_aload_n F.1 F.2.1 dX1_flow_36 rfl (lv_at hl 3 rfl) ?_
          refine xk_findWay F I hl dX1_flow_37 ⟨by rw [hR]; decide, by rw [hR]; decide⟩ (Nat.le_of_ble_eq_true rfl) ⟨Nat.zero_le _, Nat.zero_le _⟩ hn hs ht (fun j hj => Nat.lt_of_le_of_lt (by have := hRes3.bound (x := j / 16) (y := j % 16) (by omega) (by omega); rw [rt, show j / 16 * 16 + j % 16 = j by omega] at this; exact this) (by decide)) (fun cf3 q3 put3 hB3 hS3 H locs I => ?_)
          refine lv_istore (lv' := [(4, .int (nI ((cf3 (2 * tg)).isSome).toNat)), (3, .int (nI (i + 1))), (5, .int (nI i)), (0, .ref (h 0))]) F.1 F.2.1 dX1_flow_40 hl (by decide) rfl (fun ls hl => ?_)
          refine nv_iinc (lv' := [(5, .int (nI (i + 1))), (4, .int (nI ((cf3 (2 * tg)).isSome).toNat)), (3, .int (nI (i + 1))), (0, .ref (h 0))]) F.1 F.2.1 dX1_flow_42 hl (k := 2) rfl (by decide) rfl (fun ls hl => ?_)
          refine lv_goto (tgt := 17) F.1 F.2.1 dX1_flow_45 (by decide) ?_
          exact ih (i + 1) put3 r3 cf3 q3 (by omega) (by omega) hRes3 hB3 hS3 _ _ _ I (lv_sub hl [0, 1, 2, 3] rfl)
  refine lv_aload_n F.1 F.2.1 dX1_flow_0 rfl (lv_at hl 0 rfl) ?_
  refine lv_iload_n F.1 F.2.1 dX1_flow_1 rfl (lv_at hl 1 rfl) ?_
  refine lv_iload_n F.1 F.2.1 dX1_flow_2 rfl (lv_at hl 2 rfl) ?_
  refine xk_layOut F I hl dX1_flow_3 ⟨by rw [hR]; decide, by rw [hR]; decide⟩ (Nat.le_of_ble_eq_true rfl) ⟨Nat.zero_le _, Nat.zero_le _⟩ hn hs ht hG hsh hfi hss hsh2 (fun r1 h1 H locs I => ?_)
  have hRes : Res n sr tg a sh fi (rt r1) 0 := Res.start n sr tg a sh fi h1 (by omega)
  refine lv_iconst (v := nI 0) F.1 F.2.1 dX1_flow_6 (by decide) ?_
  refine lv_istore_n (lv' := [(3, .int (nI 0)), (0, .ref (h 0)), (1, .int (nI sh)), (2, .int (nI fi))]) F.1 F.2.1 dX1_flow_7 rfl hl (by decide) rfl (fun ls hl => ?_)
  refine lv_aload_n F.1 F.2.1 dX1_flow_8 rfl (lv_at hl 1 rfl) ?_
  refine xk_findWay F I hl dX1_flow_9 ⟨by rw [hR]; decide, by rw [hR]; decide⟩ (Nat.le_of_ble_eq_true rfl) ⟨Nat.zero_le _, Nat.zero_le _⟩ hn hs ht (fun j hj => Nat.lt_of_le_of_lt (by have := hRes.bound (x := j / 16) (y := j % 16) (by omega) (by omega); rw [rt, show j / 16 * 16 + j % 16 = j by omega] at this; exact this) (by decide)) (fun cf2 q2 put hB hS H locs I => ?_)
  refine lv_istore (lv' := [(4, .int (nI ((cf2 (2 * tg)).isSome).toNat)), (3, .int (nI 0)), (0, .ref (h 0)), (1, .int (nI sh)), (2, .int (nI fi))]) F.1 F.2.1 dX1_flow_12 hl (by decide) rfl (fun ls hl => ?_)
  refine lv_iconst (v := nI 0) F.1 F.2.1 dX1_flow_14 (by decide) ?_
  refine lv_istore (lv' := [(5, .int (nI 0)), (4, .int (nI ((cf2 (2 * tg)).isSome).toNat)), (3, .int (nI 0)), (0, .ref (h 0)), (1, .int (nI sh)), (2, .int (nI fi))]) F.1 F.2.1 dX1_flow_15 hl (by decide) rfl (fun ls hl => ?_)
  exact L 10 0 put r1 cf2 q2 (by omega) (by omega) hRes hB hS _ _ _ I (lv_sub hl [0, 1, 2, 3] rfl)
section XA
variable {p : Program} {l : Launch} {e : Env} {R : Room} {s : State} {m : MethodId} {args : Array Value} {below : List Frame} {meth : Method} {c : Code} {H : Heap} {locs : List Loc} {cells slots : Nat} {Q : State → Prop} {pc : Nat} {ls : Array Slot} {rest : List Value} {cc : ByteArray} {nL : Nat} {D : va_G} {A : Nat → Prop} {H0 : Heap} {h : Nat → Nat} {ca : Nat → ClassId} {lv : List (Nat × Value)} 
theorem xk_flow {n sr tg : Nat} {a r : Nat → Nat} {cf : Nat → Option Nat} {q : Nat → Nat} {st : Nat → Option Nat} {sh fi : Nat} (F : CallFix p m c cc nL s args lw_all RX1) (I : WI D (XW h ca (n, sr, tg, a, r, cf, q, st)) (XT ca) A s H0 H locs) (hl : lv_has ls nL lv) (hdg : decode cc pc = .ok (.invokevirtual 66, 3)) (hR : 4 ≤ R.frames ∧ 94 ≤ R.locals) (hroom : (rest.map fun v => v.category).sum ≤ 8) (hf : cells ≤ R.cells ∧ slots ≤ R.slots) (hn : n ≤ 8) (hs : sr < n) (ht : tg < n) (hst : sr ≠ tg) (hG : Gok n a) (hsh : sh < 2 ^ 31) (hfi : fi < 2 ^ 31) (hss : ¬ mb sh sr) (hsh2 : ¬ mb sh tg) (kk : ∀ (r2 : Nat → Nat) (cf2 : Nat → Option Nat) (q2 : Nat → Nat) (H1 : Heap) (locs1 : List Loc), WI D (XW h ca (n, sr, tg, a, r2, cf2, q2, st)) (XT ca) A s H0 H1 locs1 → W p l e R s m args below meth c H1 locs1 cells slots Q (F0 m (pc + 3) ls (.int (nI (fl n sr tg a sh fi)) :: rest))) : W p l e R s m args below meth c H locs cells slots Q (F0 m pc ls (.int (nI fi) :: .int (nI sh) :: .ref (h 0) :: rest)) :=
  wc_i F I (met_flow l D h ca n sr tg a r cf q st sh fi hn hs ht hst hG hsh hfi hss hsh2) (cwV 2 F.2.2.2.2 (lw_V q99 q101 qs5 q23 q102) rfl rfl rfl (by decide +kernel) hR) (x_recv I) hl rfl rfl hroom hdg hf (fun r u H1 locs1 hp I => by
    obtain ⟨r2, cf2, q2, rfl, rfl⟩ := hp; exact kk r2 cf2 q2 H1 locs1 I)

end XA
end
section
/-! edges put in and taken away; counts of pairs; balls; the least cut bit by bit -/
section LNK
variable {n u v : Nat} {a : Nat → Nat}
theorem lnk_at (h : u ≠ v) (x : Nat) : lnk a u v x = if x = v then a v ||| 2 ^ u else if x = u then a u ||| 2 ^ v else a x := by
  unfold lnk
  by_cases h1 : x = v
  · subst h1
    rw [va_up_self, va_up_ne _ _ (Ne.symm h), if_pos rfl]
  · rw [va_up_ne _ _ h1, if_neg h1]
    by_cases h2 : x = u
    · subst h2
      rw [va_up_self, if_pos rfl]
    · rw [va_up_ne _ _ h2, if_neg h2]
theorem ulk_at (h : u ≠ v) (x : Nat) : ulk a u v x = if x = v then dif (a v) (2 ^ u) else if x = u then dif (a u) (2 ^ v) else a x := by
  unfold ulk
  by_cases h1 : x = v
  · subst h1
    rw [va_up_self, va_up_ne _ _ (Ne.symm h), if_pos rfl]
  · rw [va_up_ne _ _ h1, if_neg h1]
    by_cases h2 : x = u
    · subst h2
      rw [va_up_self, if_pos rfl]
    · rw [va_up_ne _ _ h2, if_neg h2]
theorem mb_lnk (h : u ≠ v) {x y : Nat} : mb (lnk a u v x) y ↔ mb (a x) y ∨ (x = u ∧ y = v) ∨ (x = v ∧ y = u) := by
  rw [lnk_at h]
  by_cases h1 : x = v
  · subst h1
    rw [if_pos rfl, mb_set]
    constructor
    · rintro (q | q)
      · exact Or.inl q
      · exact Or.inr (Or.inr ⟨rfl, q⟩)
    · rintro (q | q | q)
      · exact Or.inl q
      · exact absurd q.1.symm h
      · exact Or.inr q.2
  · rw [if_neg h1]
    by_cases h2 : x = u
    · subst h2
      rw [if_pos rfl, mb_set]
      constructor
      · rintro (q | q)
        · exact Or.inl q
        · exact Or.inr (Or.inl ⟨rfl, q⟩)
      · rintro (q | q | q)
        · exact Or.inl q
        · exact Or.inr q.2
        · exact absurd q.1 h1
    · rw [if_neg h2]
      constructor
      · exact Or.inl
      · rintro (q | q | q)
        · exact q
        · exact absurd q.1 h2
        · exact absurd q.1 h1
theorem mb_ulk (h : u ≠ v) {x y : Nat} : mb (ulk a u v x) y ↔ mb (a x) y ∧ ¬ (x = u ∧ y = v) ∧ ¬ (x = v ∧ y = u) := by
  rw [ulk_at h]
  by_cases h1 : x = v
  · subst h1
    rw [if_pos rfl, mb_dif, mb_1]
    constructor
    · rintro ⟨q1, q2⟩
      exact ⟨q1, fun z => h z.1.symm, fun z => q2 z.2⟩
    · rintro ⟨q1, q2, q3⟩
      exact ⟨q1, fun z => q3 ⟨rfl, z⟩⟩
  · rw [if_neg h1]
    by_cases h2 : x = u
    · subst h2
      rw [if_pos rfl, mb_dif, mb_1]
      constructor
      · rintro ⟨q1, q2⟩
        exact ⟨q1, fun z => q2 z.2, fun z => h1 z.1⟩
      · rintro ⟨q1, q2, q3⟩
        exact ⟨q1, fun z => q2 ⟨rfl, z⟩⟩
    · rw [if_neg h2]
      exact ⟨fun q => ⟨q, fun z => h2 z.1, fun z => h1 z.1⟩, fun q => q.1⟩
theorem Gok_lnk (hG : Gok n a) (hu : u < n) (hv : v < n) (h : u ≠ v) : Gok n (lnk a u v) := by
  intro x hx y hy
  rw [mb_lnk h] at hy
  rw [mb_lnk h]
  rcases hy with q | ⟨rfl, rfl⟩ | ⟨rfl, rfl⟩
  · obtain ⟨q1, q2, q3⟩ := hG x hx y q
    exact ⟨q1, q2, Or.inl q3⟩
  · exact ⟨hv, Ne.symm h, Or.inr (Or.inr ⟨rfl, rfl⟩)⟩
  · exact ⟨hu, h, Or.inr (Or.inl ⟨rfl, rfl⟩)⟩
theorem Gok_ulk (hG : Gok n a) (h : u ≠ v) : Gok n (ulk a u v) := by
  intro x hx y hy
  rw [mb_ulk h] at hy
  rw [mb_ulk h]
  obtain ⟨q1, q2, q3⟩ := hG x hx y hy.1
  exact ⟨q1, q2, q3, fun z => hy.2.2 ⟨z.2, z.1⟩, fun z => hy.2.1 ⟨z.2, z.1⟩⟩
theorem Gok.b31 (hG : Gok n a) (hn : n ≤ 8) {j : Nat} (hj : j < n) : a j < 2 ^ 31 := Nat.lt_of_lt_of_le (hG.lt hj) (Nat.pow_le_pow_right (by decide) (by omega))
theorem lnk_ulk (h : u ≠ v) (h1 : mb (a u) v) (h2 : mb (a v) u) : lnk (ulk a u v) u v = a := by
  funext x
  apply mb_iff
  intro y
  rw [mb_lnk h, mb_ulk h]
  constructor
  · rintro (q | ⟨rfl, rfl⟩ | ⟨rfl, rfl⟩)
    · exact q.1
    · exact h1
    · exact h2
  · intro q
    by_cases e1 : x = u ∧ y = v
    · exact Or.inr (Or.inl e1)
    · by_cases e2 : x = v ∧ y = u
      · exact Or.inr (Or.inr e2)
      · exact Or.inl ⟨q, e1, e2⟩
theorem ulk_lnk (h : u ≠ v) (h1 : ¬ mb (a u) v) (h2 : ¬ mb (a v) u) : ulk (lnk a u v) u v = a := by
  funext x
  apply mb_iff
  intro y
  rw [mb_ulk h, mb_lnk h]
  constructor
  · rintro ⟨q | q | q, q2, q3⟩
    · exact q
    · exact absurd q q2
    · exact absurd q q3
  · intro q
    exact ⟨Or.inl q, fun z => h1 (by rw [← z.1, ← z.2]; exact q), fun z => h2 (by rw [← z.1, ← z.2]; exact q)⟩
/-- the edge put in or taken away, whichever changes -/
def tog (a : Nat → Nat) (u v : Nat) : Nat → Nat := if (a u).testBit v then ulk a u v else lnk a u v
theorem Gok_tog (hG : Gok n a) (hu : u < n) (hv : v < n) (h : u ≠ v) : Gok n (tog a u v) := by
  unfold tog
  split
  · exact Gok_ulk hG h
  · exact Gok_lnk hG hu hv h
/-- fewer edges, no more flow -/
theorem fl_mono {s t : Nat} {b : Nat → Nat} (hn : n ≤ 8) (hs : s < n) (hab : ∀ x y, mb (a x) y → mb (b x) y) : fl n s t a 0 0 ≤ fl n s t b 0 0 := by
  obtain ⟨C, hC, hk⟩ := fl_cut (t := t) (sh := 0) (a := b) hn hs
  have h1 := (fl_spec n s t a 0 0).2.2 C ⟨hC.1, fun q => hC.2 (q.sub (fun v _ => hab s v) (fun v _ => hab t v) (fun x y _ _ => hab x y))⟩
  have h2 : dr a s t ≤ dr b s t := by
    unfold dr
    by_cases h : mb (a s) t
    · rw [if_pos h, if_pos (hab s t h)]; exact Nat.le_refl 1
    · rw [if_neg h]; exact Nat.zero_le _
  omega
end LNK
/-- how many pairs -/
def prs (P : Nat → Nat → Bool) (n : Nat) : Nat := fb_sm (fun u => fb_sm (fun v => if decide (u < v) && P u v then 1 else 0) n) n
theorem prs_0 (P : Nat → Nat → Bool) (u : Nat) : ∀ k, k ≤ u + 1 → fb_sm (fun v => if decide (u < v) && P u v then 1 else 0) k = 0 := fun k hk => sm_zero fun v hv => by
  rw [decide_eq_false (by omega)]
  rfl
/-- the strength's least, pair by pair -/
noncomputable def sI (n : Nat) (a : Nat → Nat) (u L : Nat) : Nat → Nat
  | 0 => L
  | v + 1 => if u < v ∧ ¬ mb (a u) v then (if fl n u v a 0 0 < sI n a u L v then fl n u v a 0 0 else sI n a u L v) else sI n a u L v
noncomputable def sO (n : Nat) (a : Nat → Nat) : Nat → Nat
  | 0 => n - 1
  | u + 1 => sI n a u (sO n a u) n
theorem sI_0 (n : Nat) (a : Nat → Nat) (u L : Nat) : ∀ k, k ≤ u + 1 → sI n a u L k = L
  | 0, _ => rfl
  | k + 1, h => by
    unfold sI
    rw [if_neg (by omega)]
    exact sI_0 n a u L k (by omega)
theorem sI_le (n : Nat) (a : Nat → Nat) (u L : Nat) : ∀ k, sI n a u L k ≤ L
  | 0 => Nat.le_refl _
  | k + 1 => by
    have := sI_le n a u L k
    unfold sI
    split
    · split
      · omega
      · omega
    · omega
theorem sO_le (n : Nat) (a : Nat → Nat) : ∀ u, sO n a u ≤ n - 1
  | 0 => Nat.le_refl _
  | u + 1 => Nat.le_trans (sI_le n a u _ n) (sO_le n a u)
/-- near emptied below n -/
def zr (n : Nat) (a : Nat → Nat) : Nat → Nat := fun j => if j < n then 0 else a j
theorem zr_0 (a : Nat → Nat) : zr 0 a = a := funext fun j => if_neg (Nat.not_lt_zero j)
theorem zr_up (n : Nat) (a : Nat → Nat) : va_up (zr n a) n 0 = zr (n + 1) a := by
  funext j
  unfold zr
  by_cases h : j = n
  · subst h; rw [va_up_self, if_pos (by omega)]
  · rw [va_up_ne _ _ h]
    by_cases h2 : j < n
    · rw [if_pos h2, if_pos (by omega)]
    · rw [if_neg h2, if_neg (by omega)]
theorem Gok_zr (n : Nat) (a : Nat → Nat) : Gok n (zr n a) := by
  intro u hu v hv
  unfold zr at hv
  rw [if_pos hu] at hv
  exact absurd hv mb_0
/-- what a set's members have for neighbours, and the set -/
def orA (a : Nat → Nat) (X Y : Nat) : Nat → Nat
  | 0 => Y
  | k + 1 => if X.testBit k then orA a X Y k ||| a k else orA a X Y k
theorem mb_orA (a : Nat → Nat) (X Y v : Nat) : ∀ k, mb (orA a X Y k) v ↔ mb Y v ∨ ∃ u, u < k ∧ mb X u ∧ mb (a u) v
  | 0 => ⟨Or.inl, fun h => by
    rcases h with h | ⟨u, h, -⟩
    · exact h
    · omega⟩
  | k + 1 => by
    have ih := mb_orA a X Y v k
    unfold orA
    by_cases h : mb X k
    · rw [if_pos h, mb_or, ih]
      constructor
      · rintro ((q | ⟨u, q1, q2⟩) | q)
        · exact Or.inl q
        · exact Or.inr ⟨u, by omega, q2⟩
        · exact Or.inr ⟨k, by omega, h, q⟩
      · rintro (q | ⟨u, q1, q2, q3⟩)
        · exact Or.inl (Or.inl q)
        · by_cases e : u = k
          · subst e; exact Or.inr q3
          · exact Or.inl (Or.inr ⟨u, by omega, q2, q3⟩)
    · rw [if_neg h, ih]
      constructor
      · rintro (q | ⟨u, q1, q2⟩)
        · exact Or.inl q
        · exact Or.inr ⟨u, by omega, q2⟩
      · rintro (q | ⟨u, q1, q2, q3⟩)
        · exact Or.inl q
        · by_cases e : u = k
          · subst e; exact absurd q2 h
          · exact Or.inr ⟨u, by omega, q2, q3⟩
/-- within d steps of s -/
def bl (n : Nat) (a : Nat → Nat) (s : Nat) : Nat → Nat
  | 0 => 2 ^ s
  | d + 1 => orA a (bl n a s d) (bl n a s d) n
theorem bl_succ {n : Nat} {a : Nat → Nat} {s d v : Nat} : mb (bl n a s (d + 1)) v ↔ mb (bl n a s d) v ∨ ∃ u, u < n ∧ mb (bl n a s d) u ∧ mb (a u) v := mb_orA a _ _ v n
theorem bl_mono {n : Nat} {a : Nat → Nat} {s v : Nat} : ∀ {d e : Nat}, d ≤ e → mb (bl n a s d) v → mb (bl n a s e) v := by
  intro d e h hm
  induction e with
  | zero =>
    have : d = 0 := by omega
    subst this
    exact hm
  | succ e ih =>
    by_cases h2 : d = e + 1
    · subst h2; exact hm
    · exact bl_succ.mpr (Or.inl (ih (by omega)))
theorem bl_lt {n : Nat} {a : Nat → Nat} {s : Nat} (hs : s < n) (hG : Gok n a) : ∀ {d v : Nat}, mb (bl n a s d) v → v < n
  | 0, v, h => by
    have := mb_1.mp h
    omega
  | d + 1, v, h => by
    rcases bl_succ.mp h with q | ⟨u, q1, q2, q3⟩
    · exact bl_lt hs hG q
    · exact (hG u q1 v q3).1
/-- the distance, or none -/
def dst (n : Nat) (a : Nat → Nat) (s t : Nat) (o : Option Nat) : Prop := match o with
  | none => ∀ d, d < n → ¬ mb (bl n a s d) t
  | some d => d < n ∧ mb (bl n a s d) t ∧ ∀ j, j < d → ¬ mb (bl n a s j) t
theorem dst.one {n : Nat} {a : Nat → Nat} {s t : Nat} {o o2 : Option Nat} (h : dst n a s t o) (h2 : dst n a s t o2) : o = o2 := by
  cases o with
  | none => cases o2 with
    | none => rfl
    | some d => exact absurd h2.2.1 (h d h2.1)
  | some d => cases o2 with
    | none => exact absurd h.2.1 (h2 d h.1)
    | some e =>
      rcases Nat.lt_trichotomy d e with q | q | q
      · exact absurd h.2.1 (h2.2.2 d q)
      · rw [q]
      · exact absurd h2.2.1 (h.2.2 e q)
/-- balls that don't grow once don't grow any more -/
theorem bl_stop {n : Nat} {a : Nat → Nat} {s d : Nat} (h : bl n a s (d + 1) = bl n a s d) : ∀ e, bl n a s (d + e) = bl n a s d
  | 0 => rfl
  | e + 1 => by
    have ih := bl_stop h e
    show orA a (bl n a s (d + e)) (bl n a s (d + e)) n = _
    rw [ih]
    exact h
theorem bl_grow {n : Nat} {a : Nat → Nat} {s : Nat} (hn : n ≤ 8) (hs : s < n) (hG : Gok n a) : ∀ d, (∃ e, e ≤ d ∧ bl n a s (e + 1) = bl n a s e) ∨ d + 2 ≤ pc (bl n a s (d + 1)) := by
  have key : ∀ d, bl n a s (d + 1) = bl n a s d ∨ pc (bl n a s d) + 1 ≤ pc (bl n a s (d + 1)) := by
    intro d
    by_cases h : bl n a s (d + 1) = bl n a s d
    · exact Or.inl h
    · refine Or.inr ?_
      have h1 : ∃ v, mb (bl n a s (d + 1)) v ∧ ¬ mb (bl n a s d) v := by
        refine Classical.byContradiction fun hx => h (mb_iff fun v => ⟨fun q => ?_, fun q => bl_mono (by omega) q⟩)
        exact Classical.byContradiction fun z => hx ⟨v, q, z⟩
      obtain ⟨v, v1, v2⟩ := h1
      have hv := bl_lt hs hG v1
      rw [← pc_set (by omega) v2]
      refine pc_mono fun w hw => ?_
      rw [mb_set] at hw
      rcases hw with q | q
      · exact bl_mono (by omega) q
      · subst q; exact v1
  intro d
  induction d with
  | zero =>
    rcases key 0 with q | q
    · exact Or.inl ⟨0, Nat.le_refl _, q⟩
    · refine Or.inr ?_
      have h1 : pc (bl n a s 0) = 1 := pc_one (by omega)
      omega
  | succ d ih =>
    rcases ih with ⟨e, he, h⟩ | ih
    · exact Or.inl ⟨e, by omega, h⟩
    · rcases key (d + 1) with q | q
      · exact Or.inl ⟨d + 1, Nat.le_refl _, q⟩
      · exact Or.inr (by omega)
/-- who is reached at all is reached in fewer than n steps -/
theorem bl_all {n : Nat} {a : Nat → Nat} {s : Nat} (hn : n ≤ 8) (hs : s < n) (hG : Gok n a) {d v : Nat} (h : mb (bl n a s d) v) : mb (bl n a s (n - 1)) v := by
  by_cases hd : d ≤ n - 1
  · exact bl_mono hd h
  · by_cases h1 : n = 1
    · subst h1
      have := bl_lt hs hG h
      have e : v = s := by omega
      subst e
      exact mb_1.mpr rfl
    · rcases bl_grow hn hs hG (n - 2) with ⟨e, he, h2⟩ | h2
      · have h3 := bl_stop h2 (d - e)
        have h4 := bl_stop h2 (n - 1 - e)
        rw [show e + (d - e) = d by omega] at h3
        rw [show e + (n - 1 - e) = n - 1 by omega] at h4
        rw [h4, ← h3]
        exact h
      · rw [show n - 2 + 1 = n - 1 by omega] at h2
        -- all n vertices
        refine Classical.byContradiction fun hx => ?_
        have hv := bl_lt hs hG h
        have h5 : pc (bl n a s (n - 1) ||| 2 ^ v) = pc (bl n a s (n - 1)) + 1 := pc_set (by omega) hx
        have h6 : pc (bl n a s (n - 1) ||| 2 ^ v) ≤ pc (2 ^ n - 1) := pc_mono fun w hw => by
          rw [mb, Nat.testBit_two_pow_sub_one]
          rw [mb_set] at hw
          rcases hw with q | q
          · exact decide_eq_true (bl_lt hs hG q)
          · subst q; exact decide_eq_true hv
        have h7 : ∀ m, m ≤ 8 → pc (2 ^ m - 1) = m := by decide
        rw [h7 n hn] at h6
        omega
end
section
/-! the least cut, by size and then by number; and finding it bit by bit -/
def IsLC (n s t : Nat) (a : Nat → Nat) (wi C : Nat) : Prop := (∀ v, mb wi v → mb C v) ∧ Cut n s t a 0 0 C ∧ ∀ D, (∀ v, mb wi v → mb D v) → Cut n s t a 0 0 D → pc C ≤ pc D ∧ (pc D = pc C → C ≤ D)
theorem IsLC.one {n s t : Nat} {a : Nat → Nat} {wi C D : Nat} (h : IsLC n s t a wi C) (h2 : IsLC n s t a wi D) : C = D := by
  have a1 := h.2.2 D h2.1 h2.2.1
  have a2 := h2.2.2 C h.1 h.2.1
  exact Nat.le_antisymm (a1.2 (by omega)) (a2.2 (by omega))
theorem IsLC.ex {n s t : Nat} {a : Nat → Nat} {wi : Nat} (h : ∃ C, (∀ v, mb wi v → mb C v) ∧ Cut n s t a 0 0 C) : ∃ C, IsLC n s t a wi C := by
  obtain ⟨k, ⟨C0, c1, c2, c3⟩, hk⟩ := pk_least (fun k => ∃ C, (∀ v, mb wi v → mb C v) ∧ Cut n s t a 0 0 C ∧ pc C = k) (by
    obtain ⟨C, h1, h2⟩ := h
    exact ⟨pc C, C, h1, h2, rfl⟩)
  obtain ⟨C, ⟨d1, d2, d3⟩, hC⟩ := pk_least (fun C => (∀ v, mb wi v → mb C v) ∧ Cut n s t a 0 0 C ∧ pc C = k) ⟨C0, c1, c2, c3⟩
  refine ⟨C, d1, d2, fun D e1 e2 => ⟨?_, fun e3 => ?_⟩⟩
  · exact Nat.le_of_not_lt fun q => hk (pc D) (by omega) ⟨D, e1, e2, rfl⟩
  · exact Nat.le_of_not_lt fun q => hC D q ⟨e1, e2, by omega⟩
/-- between the vertices from i on, the least cut's are shut and the others firm -/
def FC (n s t : Nat) (C i sh fi left : Nat) : Prop := (∀ v, mb sh v ↔ mb C v ∧ i ≤ v) ∧ (∀ v, mb fi v ↔ i ≤ v ∧ v < n ∧ v ≠ s ∧ v ≠ t ∧ ¬ mb C v) ∧ pc sh + left = pc C
section FCS
variable {n s t : Nat} {a : Nat → Nat} {C i sh fi left : Nat}
theorem FC.start (hn : n ≤ 8) (hs : s < n) (hd : ¬ mb (a s) t) (hC : IsLC n s t a 0 C) : FC n s t C n 0 0 (fl n s t a 0 0) := by
  have hdr : dr a s t = 0 := if_neg hd
  refine ⟨fun v => ⟨fun q => absurd q mb_0, fun q => ?_⟩, fun v => ⟨fun q => absurd q mb_0, fun q => by omega⟩, ?_⟩
  · have := (hC.2.1.1 v q.1).1
    omega
  · obtain ⟨D, hD, hk⟩ := fl_cut (t := t) (sh := 0) (a := a) hn hs
    have h1 := (hC.2.2 D (fun v q => absurd q mb_0) hD).1
    have h2 := (fl_spec n s t a 0 0).2.2 C hC.2.1
    rw [pc_0]
    omega
theorem FC.skip (h : FC n s t C (i + 1) sh fi left) (hC : IsLC n s t a 0 C) (hi : i = s ∨ i = t) : FC n s t C i sh fi left := by
  obtain ⟨h1, h2, h3⟩ := h
  refine ⟨fun v => ?_, fun v => ?_, h3⟩
  · rw [h1]
    constructor
    · rintro ⟨q1, q2⟩; exact ⟨q1, by omega⟩
    · rintro ⟨q1, q2⟩
      refine ⟨q1, ?_⟩
      have := hC.2.1.1 v q1
      omega
  · rw [h2]
    constructor
    · rintro ⟨q1, q2⟩; exact ⟨by omega, q2⟩
    · rintro ⟨q1, q2, q3, q4, q5⟩; exact ⟨by omega, q2, q3, q4, q5⟩
/-- a cut without the shut ones, with them a cut -/
theorem cut_join {D : Nat} (h : Cut n s t a sh fi D) (hs : ∀ v, mb sh v → v < n ∧ v ≠ s ∧ v ≠ t) : Cut n s t a 0 0 (D ||| sh) := by
  refine ⟨fun v hv => ?_, fun hL => h.2 (hL.mono fun v hv => ?_)⟩
  · rw [mb_or] at hv
    rcases hv with q | q
    · obtain ⟨a1, a2, a3, -, -⟩ := h.1 v q
      exact ⟨a1, a2, a3, mb_0, mb_0⟩
    · obtain ⟨a1, a2, a3⟩ := hs v q
      exact ⟨a1, a2, a3, mb_0, mb_0⟩
  · rw [mb_dif, mb_dif, mb_or] at hv
    rw [mb_dif, mb_dif]
    exact ⟨⟨hv.1.1, fun z => hv.2 (Or.inr z)⟩, fun z => hv.2 (Or.inl z)⟩
theorem cut_part (hC : Cut n s t a 0 0 C) (hs : ∀ v, mb sh v → mb C v) (hf : ∀ v, mb fi v → ¬ mb C v) : Cut n s t a sh fi (dif C sh) := by
  refine ⟨fun v hv => ?_, fun hL => hC.2 (hL.mono fun v hv => ?_)⟩
  · rw [mb_dif] at hv
    obtain ⟨a1, a2, a3, -, -⟩ := hC.1 v hv.1
    exact ⟨a1, a2, a3, hv.2, fun z => hf v z hv.1⟩
  · rw [mb_dif, mb_dif, mb_dif] at hv
    rw [mb_dif, mb_dif]
    exact ⟨⟨hv.1.1, mb_0⟩, fun z => hv.2 ⟨z, hv.1.2⟩⟩
theorem FC.tell (h : FC n s t C (i + 1) sh fi left) (hn : n ≤ 8) (hd : ¬ mb (a s) t) (hC : IsLC n s t a 0 C) (hi : i < n) (his : i ≠ s) (hit : i ≠ t) : fl n s t a sh (fi ||| 2 ^ i) = left ↔ ¬ mb C i := by
  obtain ⟨h1, h2, h3⟩ := h
  have hdr : dr a s t = 0 := if_neg hd
  have hle := pc_le C
  have hsC : ∀ v, mb sh v → mb C v := fun v q => ((h1 v).mp q).1
  have hsI : ∀ v, mb sh v → v < n ∧ v ≠ s ∧ v ≠ t := fun v q => by
    obtain ⟨a1, a2, a3, -, -⟩ := hC.2.1.1 v (hsC v q)
    exact ⟨a1, a2, a3⟩
  have hsize : ∀ D, Cut n s t a sh (fi ||| 2 ^ i) D → pc (D ||| sh) = pc D + pc sh := fun D hD => pc_dis fun v q => (hD.1 v q).2.2.2.1
  constructor
  · intro e hm
    obtain ⟨D, hD, hk⟩ := (fl_spec n s t a sh (fi ||| 2 ^ i)).2.1 (by omega)
    have hE := cut_join hD hsI
    have hpc := hsize D hD
    have h4 := (hC.2.2 _ (fun v q => absurd q mb_0) hE).2 (by omega)
    have h5 : D ||| sh < C := by
      refine mb_cmp (v := i) ?_ hm ?_
      · rw [mb_or]
        rintro (q | q)
        · exact (hD.1 i q).2.2.2.2 (mb_set.mpr (Or.inr rfl))
        · have := (h1 i).mp q
          omega
      · intro w hw
        rw [mb_or]
        constructor
        · rintro (q | q)
          · refine Classical.byContradiction fun z => ?_
            obtain ⟨a1, a2, a3, a4, a5⟩ := hD.1 w q
            exact a5 (mb_set.mpr (Or.inl ((h2 w).mpr ⟨by omega, a1, a2, a3, z⟩)))
          · exact hsC w q
        · intro q
          exact Or.inr ((h1 w).mpr ⟨q, by omega⟩)
    omega
  · intro hm
    have hcut : Cut n s t a sh (fi ||| 2 ^ i) (dif C sh) := cut_part hC.2.1 hsC fun v q => by
      rw [mb_set] at q
      rcases q with q | q
      · exact ((h2 v).mp q).2.2.2.2
      · subst q; exact hm
    have h4 := (fl_spec n s t a sh (fi ||| 2 ^ i)).2.2 _ hcut
    have h5 := pc_split C sh
    have h6 : pc (C &&& sh) = pc sh := pc_eq fun v _ => by
      rw [mb_and]
      exact ⟨fun q => q.2, fun q => ⟨hsC v q, q⟩⟩
    obtain ⟨D, hD, hk⟩ := (fl_spec n s t a sh (fi ||| 2 ^ i)).2.1 (by omega)
    have h7 := (hC.2.2 _ (fun v q => absurd q mb_0) (cut_join hD hsI)).1
    have h8 := hsize D hD
    omega
theorem FC.firm (h : FC n s t C (i + 1) sh fi left) (hi : i < n) (his : i ≠ s) (hit : i ≠ t) (hm : ¬ mb C i) : FC n s t C i sh (fi ||| 2 ^ i) left := by
  obtain ⟨h1, h2, h3⟩ := h
  refine ⟨fun v => ?_, fun v => ?_, h3⟩
  · rw [h1]
    constructor
    · rintro ⟨q1, q2⟩; exact ⟨q1, by omega⟩
    · rintro ⟨q1, q2⟩
      refine ⟨q1, ?_⟩
      by_cases e : v = i
      · subst e; exact absurd q1 hm
      · omega
  · rw [mb_set, h2]
    constructor
    · rintro (⟨q1, q2⟩ | q)
      · exact ⟨by omega, q2⟩
      · subst q; exact ⟨Nat.le_refl _, hi, his, hit, hm⟩
    · rintro ⟨q1, q2⟩
      by_cases e : v = i
      · exact Or.inr e
      · exact Or.inl ⟨by omega, q2⟩
theorem FC.shut (h : FC n s t C (i + 1) sh fi (left + 1)) (hn : n ≤ 8) (hi : i < n) (hm : mb C i) : FC n s t C i (sh ||| 2 ^ i) fi left := by
  obtain ⟨h1, h2, h3⟩ := h
  have hns : ¬ mb sh i := fun q => by
    have := (h1 i).mp q
    omega
  refine ⟨fun v => ?_, fun v => ?_, ?_⟩
  · rw [mb_set, h1]
    constructor
    · rintro (⟨q1, q2⟩ | q)
      · exact ⟨q1, by omega⟩
      · subst q; exact ⟨hm, Nat.le_refl _⟩
    · rintro ⟨q1, q2⟩
      by_cases e : v = i
      · exact Or.inr e
      · exact Or.inl ⟨q1, by omega⟩
  · rw [h2]
    constructor
    · rintro ⟨q1, q2⟩; exact ⟨by omega, q2⟩
    · rintro ⟨q1, q2, q3, q4, q5⟩
      refine ⟨?_, q2, q3, q4, q5⟩
      by_cases e : v = i
      · subst e; exact absurd hm q5
      · omega
  · rw [pc_set (by omega) hns]
    omega
theorem FC.pos (h : FC n s t C (i + 1) sh fi left) (hn : n ≤ 8) (hi : i < n) (hm : mb C i) : 0 < left := by
  obtain ⟨h1, h2, h3⟩ := h
  have hns : ¬ mb sh i := fun q => by
    have := (h1 i).mp q
    omega
  have h4 : pc (sh ||| 2 ^ i) ≤ pc C := pc_mono fun v q => by
    rw [mb_set] at q
    rcases q with q | q
    · exact ((h1 v).mp q).1
    · subst q; exact hm
  rw [pc_set (by omega) hns] at h4
  omega
theorem FC.done (h : FC n s t C 0 sh fi left) : sh = C := mb_iff fun v => by
  rw [h.1]
  exact ⟨fun q => q.1, fun q => ⟨q, Nat.zero_le _⟩⟩
theorem FC.small (h : FC n s t C i sh fi left) (hn : n ≤ 8) (hC : IsLC n s t a 0 C) : sh < 256 ∧ fi < 256 ∧ ¬ mb sh s ∧ ¬ mb sh t := by
  obtain ⟨h1, h2, h3⟩ := h
  refine ⟨mb_pow (k := 8) fun v q => ?_, mb_pow (k := 8) fun v q => ?_, fun q => ?_, fun q => ?_⟩
  · have := (hC.2.1.1 v ((h1 v).mp q).1).1
    omega
  · have := (h2 v).mp q
    omega
  · exact (hC.2.1.1 s ((h1 s).mp q).1).2.1 rfl
  · exact (hC.2.1.1 t ((h1 t).mp q).1).2.2.1 rfl
end FCS
/-- i - 1 as a Java int -/
def pI (i : Nat) : Int32 := nI i - 1
theorem pI_0 : pI 0 = -1 := by decide
theorem pI_s (i : Nat) : pI (i + 1) = nI i := nI_pred i
theorem nv_pdec {p : Program} {l : Launch} {e : Env} {R : Room} {s : State} {m : MethodId} {args : Array Value} {below : List Frame} {meth : Method} {c : Code} {H : Heap} {locs : List Loc} {cells slots : Nat} {Q : State → Prop} {pc : Nat} {ls : Array Slot} {rest : List Value} {cc : ByteArray} {x : Nat} {i nL k : Nat} {lv lv' : List (Nat × Value)} (hx : p.tables.exec = Jvm.exec) (hb : c.code = cc) (hdg : decode cc pc = .ok (.iinc i (-1), 3)) (h : lv_has ls nL lv) (hk : lv[k]? = some (i, .int (nI x))) (hn : i < nL) (hl : (i, Value.int (pI x)) :: lv.filter (fun q => !(q.1 == i) && !(q.1 + 1 == i && q.2.category == 2)) = lv') (kk : ∀ ls', lv_has ls' nL lv' → W p l e R s m args below meth c H locs cells slots Q (F0 m (pc + 3) ls' rest)) : W p l e R s m args below meth c H locs cells slots Q (F0 m pc ls rest) :=
  lv_iinc (v := pI x) hx hb hdg h hk (by
    rw [show Int32.ofInt (-1) = (-1 : Int32) from by decide]
    unfold pI
    rw [Int32.sub_eq_add_neg]) hn hl kk
end
section
/-! the distance, by levels; counts -/
def lvl (n : Nat) (a : Nat → Nat) (s d v : Nat) : Prop := mb (bl n a s d) v ∧ ∀ j, j < d → ¬ mb (bl n a s j) v
theorem lvl.one {n : Nat} {a : Nat → Nat} {s d e v : Nat} (h : lvl n a s d v) (h2 : lvl n a s e v) : d = e := by
  rcases Nat.lt_trichotomy d e with q | q | q
  · exact absurd h.1 (h2.2 d q)
  · exact q
  · exact absurd h2.1 (h.2 e q)
def Ds (n : Nat) (a : Nat → Nat) (s d : Nat) (st : Nat → Option Nat) : Prop := ∀ v, v < n → (∀ k, st v = some k → k ≤ d ∧ lvl n a s k v) ∧ (st v = none → ¬ mb (bl n a s d) v)
def Di (n : Nat) (a : Nat → Nat) (s d i : Nat) (st : Nat → Option Nat) : Prop := ∀ v, v < n → (∀ k, st v = some k → k ≤ d + 1 ∧ lvl n a s k v) ∧ (st v = none → ¬ mb (bl n a s d) v ∧ ∀ u, u < i → lvl n a s d u → ¬ mb (a u) v)
def oD : Option Nat → Int32
  | none => -4
  | some d => nI d
theorem oI_eq {o : Option Nat} {d : Nat} (h : ∀ z, o = some z → z < 2 ^ 31) (hd : d < 2 ^ 31) : oI o = nI d ↔ o = some d := by
  cases o with
  | none =>
    constructor
    · intro q
      have h1 : (oI none).toInt = (nI d).toInt := by rw [q]
      rw [nI_toInt hd] at h1
      have h2 : (oI none).toInt = -1 := by decide
      omega
    · intro q; cases q
  | some z =>
    show nI z = nI d ↔ _
    rw [nI_eq (h z rfl) hd]
    exact ⟨fun q => by rw [q], fun q => by cases q; rfl⟩
section DST
variable {n : Nat} {a : Nat → Nat} {s d i : Nat} {st : Nat → Option Nat}
theorem Ds.start {st0 : Nat → Option Nat} (h : ∀ v, v < n → st0 v = none) : Ds n a s 0 (va_up st0 s (some 0)) := by
  intro v hv
  by_cases e : v = s
  · subst e
    rw [va_up_self]
    refine ⟨fun k q => ?_, fun q => by cases q⟩
    cases q
    exact ⟨Nat.le_refl _, mb_1.mpr rfl, fun j hj => by omega⟩
  · rw [va_up_ne _ _ e, h v hv]
    exact ⟨fun k q => (by cases q), fun _ q => e (mb_1.mp q)⟩
theorem Ds.opn (h : Ds n a s d st) : Di n a s d 0 st := by
  intro v hv
  obtain ⟨h1, h2⟩ := h v hv
  exact ⟨fun k q => ⟨by have := (h1 k q).1; omega, (h1 k q).2⟩, fun q => ⟨h2 q, fun u hu => by omega⟩⟩
theorem Di.skip (h : Di n a s d i st) (hi : i < n) (hne : st i ≠ some d) : Di n a s d (i + 1) st := by
  intro v hv
  obtain ⟨h1, h2⟩ := h v hv
  refine ⟨h1, fun q => ⟨(h2 q).1, fun u hu hl => ?_⟩⟩
  by_cases e : u = i
  · subst e
    obtain ⟨g1, g2⟩ := h u hi
    cases hz : st u with
    | none => exact absurd hl.1 (g2 hz).1
    | some k =>
      have := (g1 k hz).2.one hl
      subst this
      exact absurd hz hne
  · exact (h2 q).2 u (by omega) hl
theorem Di.step {st3 : Nat → Option Nat} (h : Di n a s d i st) (hi : i < n) (he : st i = some d) (h3 : ∀ v, v < n → st3 v = if mb (a i) v ∧ st v = none then some (d + 1) else st v) : Di n a s d (i + 1) st3 := by
  have hl := ((h i hi).1 d he).2
  intro v hv
  obtain ⟨h1, h2⟩ := h v hv
  rw [h3 v hv]
  by_cases hc : mb (a i) v ∧ st v = none
  · rw [if_pos hc]
    refine ⟨fun k q => ?_, fun q => by cases q⟩
    cases q
    refine ⟨Nat.le_refl _, bl_succ.mpr (Or.inr ⟨i, hi, hl.1, hc.1⟩), fun j hj q => (h2 hc.2).1 (bl_mono (by omega) q)⟩
  · rw [if_neg hc]
    refine ⟨h1, fun q => ⟨(h2 q).1, fun u hu hlu => ?_⟩⟩
    by_cases e : u = i
    · subst e
      exact fun z => hc ⟨z, q⟩
    · exact (h2 q).2 u (by omega) hlu
theorem Di.close (h : Di n a s d n st) : Ds n a s (d + 1) st := by
  intro v hv
  obtain ⟨h1, h2⟩ := h v hv
  refine ⟨h1, fun q hm => ?_⟩
  rcases bl_succ.mp hm with z | ⟨u, hu, z1, z2⟩
  · exact (h2 q).1 z
  · by_cases hl : lvl n a s d u
    · exact (h2 q).2 u hu hl z2
    · -- u is nearer: then v is within d already
      have : ∃ j, j < d ∧ mb (bl n a s j) u := by
        refine Classical.byContradiction fun hx => hl ⟨z1, fun j hj w => hx ⟨j, hj, w⟩⟩
      obtain ⟨j, hj, w⟩ := this
      exact (h2 q).1 (bl_mono (d := j + 1) (by omega) (bl_succ.mpr (Or.inr ⟨u, hu, w, z2⟩)))
theorem Ds.val (h : Ds n a s d st) {v k : Nat} (hv : v < n) (e : st v = some k) : k ≤ d := ((h v hv).1 k e).1
theorem Di.val (h : Di n a s d i st) {v k : Nat} (hv : v < n) (e : st v = some k) : k ≤ d + 1 := ((h v hv).1 k e).1
theorem Ds.found (h : Ds n a s d st) (hn : n ≤ 8) (hs : s < n) (hG : Gok n a) {t k : Nat} (ht : t < n) (e : st t = some k) : dst n a s t (some k) := by
  have h1 := ((h t ht).1 k e).2
  refine ⟨?_, h1.1, h1.2⟩
  refine Nat.lt_of_not_le fun q => h1.2 (n - 1) (by omega) (bl_all hn hs hG h1.1)
theorem Ds.none (h : Ds n a s d st) (hd : n ≤ d) {t : Nat} (ht : t < n) (e : st t = none) : dst n a s t none := fun j hj q => (h t ht).2 e (bl_mono (by omega) q)
end DST
theorem cnt_no {x A v : Nat} {g : Nat → Nat} (h : x = A + fb_sm g v) (hg : g v = 0) : x = A + fb_sm g (v + 1) := by
  rw [fb_sm_succ]
  omega
theorem cnt_yes {x A v y : Nat} {g : Nat → Nat} (h : x = A + fb_sm g v) (hg : g v = y) : x + y = A + fb_sm g (v + 1) := by
  rw [fb_sm_succ]
  omega
def prg (P : Nat → Nat → Bool) (u v : Nat) : Nat := if decide (u < v) && P u v then 1 else 0
theorem prg_no {P : Nat → Nat → Bool} {u v : Nat} (h : P u v = false) : prg P u v = 0 := by
  unfold prg
  rw [h, Bool.and_false]
  rfl
theorem prg_yes {P : Nat → Nat → Bool} {u v : Nat} (huv : u < v) (h : P u v = true) : prg P u v = 1 := by
  unfold prg
  rw [h, decide_eq_true huv]
  rfl
theorem prg_bit {P : Nat → Nat → Bool} {u v : Nat} (huv : u < v) : prg P u v = (P u v).toNat := by
  cases h : P u v with
  | false => exact prg_no h
  | true => exact prg_yes huv h
theorem prg_0 (P : Nat → Nat → Bool) (u k : Nat) (hk : k ≤ u + 1) : fb_sm (prg P u) k = 0 := prs_0 P u k hk
theorem prs_eq (P : Nat → Nat → Bool) (n : Nat) : prs P n = fb_sm (fun u => fb_sm (prg P u) n) n := rfl
end
section
/-! DisjointPaths: the questions -/
set_option maxHeartbeats 8000000 in
set_option maxRecDepth 100000 in
theorem met_paths (l : Launch) (D : va_G) (h : Nat → Nat) (ca : Nat → ClassId) (n sr tg : Nat) (a r : Nat → Nat) (cf : Nat → Option Nat) (q : Nat → Nat) (st : Nat → Option Nat) (hn : n ≤ 8) (hs : sr < n) (ht : tg < n) (hst : sr ≠ tg) (hG : Gok n a) : WMi l yX1_paths (ws_ yX1_paths cX1_paths 1 (some .int)) ({ frames := 4, cells := 0, slots := 0, locals := 94 } : Room) D (XW h ca (n, sr, tg, a, r, cf, q, st)) (XW h ca) (XT ca) [.ref (h 0)] (fun r' u' => ∃ (r2 : Nat → Nat) (cf2 : Nat → Option Nat) (q2 : Nat → Nat), r' = nI (fl n sr tg a 0 0) ∧ u' = (n, sr, tg, a, r2, cf2, q2, st)) := by
  refine wm_i (by decide) (Nat.le_of_ble_eq_true rfl) ?_
  intro p e R s m args below meth c ls A Q hR F ret I hl
  have hl : lv_has ls 1 [(0, .ref (h 0))] := hl
  refine lv_aload_n F.1 F.2.1 dX1_paths_0 rfl (lv_at hl 0 rfl) ?_
  refine lv_iconst (v := nI 0) F.1 F.2.1 dX1_paths_1 (by decide) ?_
  refine lv_iconst (v := nI 0) F.1 F.2.1 dX1_paths_2 (by decide) ?_
  refine xk_flow F I hl dX1_paths_3 ⟨by rw [hR]; decide, by rw [hR]; decide⟩ (Nat.le_of_ble_eq_true rfl) ⟨Nat.zero_le _, Nat.zero_le _⟩ hn hs ht hst hG (by decide) (by decide) mb_0 mb_0 (fun r2 cf2 q2 H locs I => ?_)
  exact ret _ _ _ _ ls _ ⟨r2, cf2, q2, rfl, rfl⟩ I dX1_paths_6
set_option maxHeartbeats 8000000 in
set_option maxRecDepth 100000 in
theorem met_cutSize (l : Launch) (D : va_G) (h : Nat → Nat) (ca : Nat → ClassId) (n sr tg : Nat) (a r : Nat → Nat) (cf : Nat → Option Nat) (q : Nat → Nat) (st : Nat → Option Nat) (hn : n ≤ 8) (hs : sr < n) (ht : tg < n) (hst : sr ≠ tg) (hG : Gok n a) : WMi l yX1_cutSize (ws_ yX1_cutSize cX1_cutSize 1 (some .int)) ({ frames := 4, cells := 0, slots := 0, locals := 94 } : Room) D (XW h ca (n, sr, tg, a, r, cf, q, st)) (XW h ca) (XT ca) [.ref (h 0)] (fun r' u' => ∃ (r2 : Nat → Nat) (cf2 : Nat → Option Nat) (q2 : Nat → Nat), r' = (if (a sr).testBit tg then -4 else nI (fl n sr tg a 0 0)) ∧ u' = (n, sr, tg, a, r2, cf2, q2, st)) := by
  refine wm_i (by decide) (Nat.le_of_ble_eq_true rfl) ?_
  intro p e R s m args below meth c ls A Q hR F ret I hl
  have hl : lv_has ls 1 [(0, .ref (h 0))] := hl
  refine lv_aload_n F.1 F.2.1 dX1_cutSize_0 rfl (lv_at hl 0 rfl) ?_
  refine lv_aload_n F.1 F.2.1 dX1_cutSize_1 rfl (lv_at hl 0 rfl) ?_
  refine xg_s F I dX1_cutSize_2 ?_
  refine lv_aload_n F.1 F.2.1 dX1_cutSize_5 rfl (lv_at hl 0 rfl) ?_
  refine xg_t F I dX1_cutSize_6 ?_
  refine xk_linked F I hl dX1_cutSize_9 ⟨by rw [hR]; decide, by rw [hR]; decide⟩ (Nat.le_of_ble_eq_true rfl) ⟨Nat.zero_le _, Nat.zero_le _⟩ (by omega) (by omega) (hG.b31 hn hs) (fun H locs I => ?_)
  refine nb_if_eq (tgt := 18) F.1 F.2.1 dX1_cutSize_12 (by decide) (fun c1 => ?_) (fun c1 => ?_)
  · refine lv_aload_n F.1 F.2.1 dX1_cutSize_18 rfl (lv_at hl 0 rfl) ?_
    refine lv_iconst (v := nI 0) F.1 F.2.1 dX1_cutSize_19 (by decide) ?_
    refine lv_iconst (v := nI 0) F.1 F.2.1 dX1_cutSize_20 (by decide) ?_
    refine xk_flow F I hl dX1_cutSize_21 ⟨by rw [hR]; decide, by rw [hR]; decide⟩ (Nat.le_of_ble_eq_true rfl) ⟨Nat.zero_le _, Nat.zero_le _⟩ hn hs ht hst hG (by decide) (by decide) mb_0 mb_0 (fun r2 cf2 q2 H locs I => ?_)
    exact ret _ _ _ _ ls _ ⟨r2, cf2, q2, by rw [c1]; rfl, rfl⟩ I dX1_cutSize_24
  · refine lv_bipush (v := -4) F.1 F.2.1 dX1_cutSize_15 (by decide) ?_
    exact ret _ _ _ _ ls _ ⟨r, cf, q, by rw [c1]; rfl, rfl⟩ I dX1_cutSize_17
set_option maxHeartbeats 8000000 in
set_option maxRecDepth 100000 in
theorem met_cutWith_bad (l : Launch) (D : va_G) (h : Nat → Nat) (ca : Nat → ClassId) (n sr tg : Nat) (a r : Nat → Nat) (cf : Nat → Option Nat) (q : Nat → Nat) (st : Nat → Option Nat) (x : Int32) (hb : xbad n x = true) : WMi l yX1_cutWith (ws_ yX1_cutWith cX1_cutWith 2 (some .int)) ({ frames := 4, cells := 0, slots := 0, locals := 94 } : Room) D (XW h ca (n, sr, tg, a, r, cf, q, st)) (XW h ca) (XT ca) [.ref (h 0), .int x] (fun r' u' => r' = (-1) ∧ u' = (n, sr, tg, a, r, cf, q, st)) := by
  refine wm_i (by decide) (Nat.le_of_ble_eq_true rfl) ?_
  intro p e R s m args below meth c ls A Q hR F ret I hl
  have hl : lv_has ls 2 [(0, .ref (h 0)), (1, .int x)] := hl
  refine lv_aload_n F.1 F.2.1 dX1_cutWith_0 rfl (lv_at hl 0 rfl) ?_
  refine lv_iload_n F.1 F.2.1 dX1_cutWith_1 rfl (lv_at hl 1 rfl) ?_
  refine xk_bad F I hl dX1_cutWith_2 ⟨by rw [hR]; decide, by rw [hR]; decide⟩ (Nat.le_of_ble_eq_true rfl) ⟨Nat.zero_le _, Nat.zero_le _⟩ (fun H locs I => ?_)
  refine nb_if_eq (tgt := 10) F.1 F.2.1 dX1_cutWith_5 (by decide) (fun c1 => ?_) (fun c1 => ?_)
  · rw [hb] at c1
    cases c1
  · refine lv_iconst (v := -1) F.1 F.2.1 dX1_cutWith_8 (by decide) ?_
    exact ret _ _ _ _ ls _ ⟨rfl, rfl⟩ I dX1_cutWith_9
set_option maxHeartbeats 8000000 in
set_option maxRecDepth 100000 in
theorem met_loss_bad (l : Launch) (D : va_G) (h : Nat → Nat) (ca : Nat → ClassId) (n sr tg : Nat) (a r : Nat → Nat) (cf : Nat → Option Nat) (q : Nat → Nat) (st : Nat → Option Nat) (x : Int32) (hb : xbad n x = true) : WMi l yX1_loss (ws_ yX1_loss cX1_loss 4 (some .int)) ({ frames := 4, cells := 0, slots := 0, locals := 94 } : Room) D (XW h ca (n, sr, tg, a, r, cf, q, st)) (XW h ca) (XT ca) [.ref (h 0), .int x] (fun r' u' => r' = (-1) ∧ u' = (n, sr, tg, a, r, cf, q, st)) := by
  refine wm_i (by decide) (Nat.le_of_ble_eq_true rfl) ?_
  intro p e R s m args below meth c ls A Q hR F ret I hl
  have hl : lv_has ls 4 [(0, .ref (h 0)), (1, .int x)] := hl
  refine lv_aload_n F.1 F.2.1 dX1_loss_0 rfl (lv_at hl 0 rfl) ?_
  refine lv_iload_n F.1 F.2.1 dX1_loss_1 rfl (lv_at hl 1 rfl) ?_
  refine xk_bad F I hl dX1_loss_2 ⟨by rw [hR]; decide, by rw [hR]; decide⟩ (Nat.le_of_ble_eq_true rfl) ⟨Nat.zero_le _, Nat.zero_le _⟩ (fun H locs I => ?_)
  refine nb_if_eq (tgt := 10) F.1 F.2.1 dX1_loss_5 (by decide) (fun c1 => ?_) (fun c1 => ?_)
  · rw [hb] at c1
    cases c1
  · refine lv_iconst (v := -1) F.1 F.2.1 dX1_loss_8 (by decide) ?_
    exact ret _ _ _ _ ls _ ⟨rfl, rfl⟩ I dX1_loss_9
set_option maxHeartbeats 8000000 in
set_option maxRecDepth 100000 in
theorem met_cutWith (l : Launch) (D : va_G) (h : Nat → Nat) (ca : Nat → ClassId) (n sr tg : Nat) (a r : Nat → Nat) (cf : Nat → Option Nat) (q : Nat → Nat) (st : Nat → Option Nat) (v : Nat) (hn : n ≤ 8) (hs : sr < n) (ht : tg < n) (hst : sr ≠ tg) (hG : Gok n a) (hv : v < n) : WMi l yX1_cutWith (ws_ yX1_cutWith cX1_cutWith 2 (some .int)) ({ frames := 4, cells := 0, slots := 0, locals := 94 } : Room) D (XW h ca (n, sr, tg, a, r, cf, q, st)) (XW h ca) (XT ca) [.ref (h 0), .int (nI v)] (fun r' u' => ∃ (r2 : Nat → Nat) (cf2 : Nat → Option Nat) (q2 : Nat → Nat), r' = (if v = sr ∨ v = tg ∨ mb (a sr) tg then -4 else nI (fl n sr tg a (2 ^ v) 0 + 1)) ∧ u' = (n, sr, tg, a, r2, cf2, q2, st)) := by
  refine wm_i (by decide) (Nat.le_of_ble_eq_true rfl) ?_
  intro p e R s m args below meth c ls A Q hR F ret I hl
  have hl : lv_has ls 2 [(0, .ref (h 0)), (1, .int (nI v))] := hl
  refine lv_aload_n F.1 F.2.1 dX1_cutWith_0 rfl (lv_at hl 0 rfl) ?_
  refine lv_iload_n F.1 F.2.1 dX1_cutWith_1 rfl (lv_at hl 1 rfl) ?_
  refine xk_bad F I hl dX1_cutWith_2 ⟨by rw [hR]; decide, by rw [hR]; decide⟩ (Nat.le_of_ble_eq_true rfl) ⟨Nat.zero_le _, Nat.zero_le _⟩ (fun H locs I => ?_)
  refine nb_if_eq (tgt := 10) F.1 F.2.1 dX1_cutWith_5 (by decide) (fun c1 => ?_) (fun c1 => ?_)
  · refine lv_iload_n F.1 F.2.1 dX1_cutWith_10 rfl (lv_at hl 1 rfl) ?_
    refine lv_aload_n F.1 F.2.1 dX1_cutWith_11 rfl (lv_at hl 0 rfl) ?_
    refine xg_s F I dX1_cutWith_12 ?_
    refine nv_icmp_eq (tgt := 41) F.1 F.2.1 dX1_cutWith_15 (by decide) ⟨by omega, by omega⟩ (fun c2 => ?_) (fun c2 => ?_)
    · refine lv_bipush (v := -4) F.1 F.2.1 dX1_cutWith_41 (by decide) ?_
      exact ret _ _ _ _ ls _ ⟨r, cf, q, by rw [if_pos (Or.inl c2)], rfl⟩ I dX1_cutWith_43
    · refine lv_iload_n F.1 F.2.1 dX1_cutWith_18 rfl (lv_at hl 1 rfl) ?_
      refine lv_aload_n F.1 F.2.1 dX1_cutWith_19 rfl (lv_at hl 0 rfl) ?_
      refine xg_t F I dX1_cutWith_20 ?_
      refine nv_icmp_eq (tgt := 41) F.1 F.2.1 dX1_cutWith_23 (by decide) ⟨by omega, by omega⟩ (fun c3 => ?_) (fun c3 => ?_)
      · refine lv_bipush (v := -4) F.1 F.2.1 dX1_cutWith_41 (by decide) ?_
        exact ret _ _ _ _ ls _ ⟨r, cf, q, by rw [if_pos (Or.inr (Or.inl c3))], rfl⟩ I dX1_cutWith_43
      · refine lv_aload_n F.1 F.2.1 dX1_cutWith_26 rfl (lv_at hl 0 rfl) ?_
        refine lv_aload_n F.1 F.2.1 dX1_cutWith_27 rfl (lv_at hl 0 rfl) ?_
        refine xg_s F I dX1_cutWith_28 ?_
        refine lv_aload_n F.1 F.2.1 dX1_cutWith_31 rfl (lv_at hl 0 rfl) ?_
        refine xg_t F I dX1_cutWith_32 ?_
        refine xk_linked F I hl dX1_cutWith_35 ⟨by rw [hR]; decide, by rw [hR]; decide⟩ (Nat.le_of_ble_eq_true rfl) ⟨Nat.zero_le _, Nat.zero_le _⟩ (by omega) (by omega) (hG.b31 hn hs) (fun H locs I => ?_)
        refine nb_if_eq (tgt := 44) F.1 F.2.1 dX1_cutWith_38 (by decide) (fun c4 => ?_) (fun c4 => ?_)
        · have hv2 : 2 ^ v < 2 ^ 31 := Nat.pow_lt_pow_right (by decide) (by omega)
          refine lv_aload_n F.1 F.2.1 dX1_cutWith_44 rfl (lv_at hl 0 rfl) ?_
          refine lv_iconst (v := nI 1) F.1 F.2.1 dX1_cutWith_45 (by decide) ?_
          refine lv_iload_n F.1 F.2.1 dX1_cutWith_46 rfl (lv_at hl 1 rfl) ?_
          refine nv_one F.1 F.2.1 dX1_cutWith_47 (by omega) ?_
          refine lv_iconst (v := nI 0) F.1 F.2.1 dX1_cutWith_48 (by decide) ?_
          refine xk_flow F I hl dX1_cutWith_49 ⟨by rw [hR]; decide, by rw [hR]; decide⟩ (Nat.le_of_ble_eq_true rfl) ⟨Nat.zero_le _, Nat.zero_le _⟩ hn hs ht hst hG hv2 (by decide) (fun z => c2 (mb_1.mp z).symm) (fun z => c3 (mb_1.mp z).symm) (fun r2 cf2 q2 H locs I => ?_)
          have e5 : ¬ (v = sr ∨ v = tg ∨ mb (a sr) tg) := by
            rintro (z | z | z)
            · exact c2 z
            · exact c3 z
            · rw [mb, c4] at z; cases z
          refine lv_iconst (v := nI 1) F.1 F.2.1 dX1_cutWith_52 (by decide) ?_
          refine nv_iadd F.1 F.2.1 dX1_cutWith_53 ?_
          exact ret _ _ _ _ ls _ ⟨r2, cf2, q2, by rw [if_neg e5], rfl⟩ I dX1_cutWith_54
        · refine lv_bipush (v := -4) F.1 F.2.1 dX1_cutWith_41 (by decide) ?_
          exact ret _ _ _ _ ls _ ⟨r, cf, q, by rw [if_pos (Or.inr (Or.inr c4))], rfl⟩ I dX1_cutWith_43
  · rw [xbad_ok hn hv] at c1
    cases c1
set_option maxHeartbeats 8000000 in
set_option maxRecDepth 100000 in
theorem met_loss (l : Launch) (D : va_G) (h : Nat → Nat) (ca : Nat → ClassId) (n sr tg : Nat) (a r : Nat → Nat) (cf : Nat → Option Nat) (q : Nat → Nat) (st : Nat → Option Nat) (v : Nat) (hn : n ≤ 8) (hs : sr < n) (ht : tg < n) (hst : sr ≠ tg) (hG : Gok n a) (hv : v < n) : WMi l yX1_loss (ws_ yX1_loss cX1_loss 4 (some .int)) ({ frames := 4, cells := 0, slots := 0, locals := 94 } : Room) D (XW h ca (n, sr, tg, a, r, cf, q, st)) (XW h ca) (XT ca) [.ref (h 0), .int (nI v)] (fun r' u' => ∃ (r2 : Nat → Nat) (cf2 : Nat → Option Nat) (q2 : Nat → Nat), r' = (if v = sr ∨ v = tg then nI 0 else nI (fl n sr tg a 0 0) - nI (fl n sr tg a (2 ^ v) 0)) ∧ u' = (n, sr, tg, a, r2, cf2, q2, st)) := by
  refine wm_i (by decide) (Nat.le_of_ble_eq_true rfl) ?_
  intro p e R s m args below meth c ls A Q hR F ret I hl
  have hl : lv_has ls 4 [(0, .ref (h 0)), (1, .int (nI v))] := hl
  refine lv_aload_n F.1 F.2.1 dX1_loss_0 rfl (lv_at hl 0 rfl) ?_
  refine lv_iload_n F.1 F.2.1 dX1_loss_1 rfl (lv_at hl 1 rfl) ?_
  refine xk_bad F I hl dX1_loss_2 ⟨by rw [hR]; decide, by rw [hR]; decide⟩ (Nat.le_of_ble_eq_true rfl) ⟨Nat.zero_le _, Nat.zero_le _⟩ (fun H locs I => ?_)
  refine nb_if_eq (tgt := 10) F.1 F.2.1 dX1_loss_5 (by decide) (fun c1 => ?_) (fun c1 => ?_)
  · refine lv_iload_n F.1 F.2.1 dX1_loss_10 rfl (lv_at hl 1 rfl) ?_
    refine lv_aload_n F.1 F.2.1 dX1_loss_11 rfl (lv_at hl 0 rfl) ?_
    refine xg_s F I dX1_loss_12 ?_
    refine nv_icmp_eq (tgt := 26) F.1 F.2.1 dX1_loss_15 (by decide) ⟨by omega, by omega⟩ (fun c2 => ?_) (fun c2 => ?_)
    · refine lv_iconst (v := nI 0) F.1 F.2.1 dX1_loss_26 (by decide) ?_
      exact ret _ _ _ _ ls _ ⟨r, cf, q, by rw [if_pos (Or.inl c2)], rfl⟩ I dX1_loss_27
    · refine lv_iload_n F.1 F.2.1 dX1_loss_18 rfl (lv_at hl 1 rfl) ?_
      refine lv_aload_n F.1 F.2.1 dX1_loss_19 rfl (lv_at hl 0 rfl) ?_
      refine xg_t F I dX1_loss_20 ?_
      refine nv_icmp_ne (tgt := 28) F.1 F.2.1 dX1_loss_23 (by decide) ⟨by omega, by omega⟩ (fun c3 => ?_) (fun c3 => ?_)
      · have hv2 : 2 ^ v < 2 ^ 31 := Nat.pow_lt_pow_right (by decide) (by omega)
        refine lv_aload_n F.1 F.2.1 dX1_loss_28 rfl (lv_at hl 0 rfl) ?_
        refine lv_iconst (v := nI 0) F.1 F.2.1 dX1_loss_29 (by decide) ?_
        refine lv_iconst (v := nI 0) F.1 F.2.1 dX1_loss_30 (by decide) ?_
        refine xk_flow F I hl dX1_loss_31 ⟨by rw [hR]; decide, by rw [hR]; decide⟩ (Nat.le_of_ble_eq_true rfl) ⟨Nat.zero_le _, Nat.zero_le _⟩ hn hs ht hst hG (by decide) (by decide) mb_0 mb_0 (fun r2 cf2 q2 H locs I => ?_)
        refine lv_istore_n (lv' := [(2, .int (nI (fl n sr tg a 0 0))), (0, .ref (h 0)), (1, .int (nI v))]) F.1 F.2.1 dX1_loss_34 rfl hl (by decide) rfl (fun ls hl => ?_)
        refine lv_aload_n F.1 F.2.1 dX1_loss_35 rfl (lv_at hl 1 rfl) ?_
        refine lv_iconst (v := nI 1) F.1 F.2.1 dX1_loss_36 (by decide) ?_
        refine lv_iload_n F.1 F.2.1 dX1_loss_37 rfl (lv_at hl 2 rfl) ?_
        refine nv_one F.1 F.2.1 dX1_loss_38 (by omega) ?_
        refine lv_iconst (v := nI 0) F.1 F.2.1 dX1_loss_39 (by decide) ?_
        refine xk_flow F I hl dX1_loss_40 ⟨by rw [hR]; decide, by rw [hR]; decide⟩ (Nat.le_of_ble_eq_true rfl) ⟨Nat.zero_le _, Nat.zero_le _⟩ hn hs ht hst hG hv2 (by decide) (fun z => c2 (mb_1.mp z).symm) (fun z => c3 (mb_1.mp z).symm) (fun r3 cf3 q3 H locs I => ?_)
        refine lv_istore_n (lv' := [(3, .int (nI (fl n sr tg a (2 ^ v) 0))), (2, .int (nI (fl n sr tg a 0 0))), (0, .ref (h 0)), (1, .int (nI v))]) F.1 F.2.1 dX1_loss_43 rfl hl (by decide) rfl (fun ls hl => ?_)
        refine lv_iload_n F.1 F.2.1 dX1_loss_44 rfl (lv_at hl 1 rfl) ?_
        refine lv_iload_n F.1 F.2.1 dX1_loss_45 rfl (lv_at hl 0 rfl) ?_
        refine lv_isub F.1 F.2.1 dX1_loss_46 ?_
        have e5 : ¬ (v = sr ∨ v = tg) := by
          rintro (z | z)
          · exact c2 z
          · exact c3 z
        exact ret _ _ _ _ ls _ ⟨r3, cf3, q3, by rw [if_neg e5], rfl⟩ I dX1_loss_47
      · refine lv_iconst (v := nI 0) F.1 F.2.1 dX1_loss_26 (by decide) ?_
        exact ret _ _ _ _ ls _ ⟨r, cf, q, by rw [if_pos (Or.inr c3)], rfl⟩ I dX1_loss_27
  · rw [xbad_ok hn hv] at c1
    cases c1
set_option maxHeartbeats 8000000 in
set_option maxRecDepth 100000 in
theorem met_flowWith (l : Launch) (D : va_G) (h : Nat → Nat) (ca : Nat → ClassId) (n sr tg : Nat) (a r : Nat → Nat) (cf : Nat → Option Nat) (q : Nat → Nat) (st : Nat → Option Nat) (u v : Nat) (hn : n ≤ 8) (hs : sr < n) (ht : tg < n) (hst : sr ≠ tg) (hG : Gok n a) (hu : u < n) (hv : v < n) (hne : u ≠ v) : WMi l yX1_flowWith (ws_ yX1_flowWith cX1_flowWith 5 (some .int)) ({ frames := 4, cells := 0, slots := 0, locals := 94 } : Room) D (XW h ca (n, sr, tg, a, r, cf, q, st)) (XW h ca) (XT ca) [.ref (h 0), .int (nI u), .int (nI v)] (fun r' u' => ∃ (r2 : Nat → Nat) (cf2 : Nat → Option Nat) (q2 : Nat → Nat), r' = nI (fl n sr tg (tog a u v) 0 0) ∧ u' = (n, sr, tg, a, r2, cf2, q2, st)) := by
  refine wm_i (by decide) (Nat.le_of_ble_eq_true rfl) ?_
  intro p e R s m args below meth c ls A Q hR F ret I hl
  have hl : lv_has ls 5 [(0, .ref (h 0)), (1, .int (nI u)), (2, .int (nI v))] := hl
  refine lv_aload_n F.1 F.2.1 dX1_flowWith_0 rfl (lv_at hl 0 rfl) ?_
  refine lv_iload_n F.1 F.2.1 dX1_flowWith_1 rfl (lv_at hl 1 rfl) ?_
  refine lv_iload_n F.1 F.2.1 dX1_flowWith_2 rfl (lv_at hl 2 rfl) ?_
  refine xk_linked F I hl dX1_flowWith_3 ⟨by rw [hR]; decide, by rw [hR]; decide⟩ (Nat.le_of_ble_eq_true rfl) ⟨Nat.zero_le _, Nat.zero_le _⟩ (by omega) (by omega) (hG.b31 hn hu) (fun H locs I => ?_)
  refine lv_istore_n (lv' := [(3, .int (nI ((a u).testBit v).toNat)), (0, .ref (h 0)), (1, .int (nI u)), (2, .int (nI v))]) F.1 F.2.1 dX1_flowWith_6 rfl hl (by decide) rfl (fun ls hl => ?_)
  refine lv_iload_n F.1 F.2.1 dX1_flowWith_7 rfl (lv_at hl 0 rfl) ?_
  refine nb_if_eq (tgt := 20) F.1 F.2.1 dX1_flowWith_8 (by decide) (fun c1 => ?_) (fun c1 => ?_)
  · have hm : ¬ mb (a u) v := by rw [mb, c1]; decide
    have hm2 : ¬ mb (a v) u := fun z => hm (hG v hv u z).2.2
    have hG2 := Gok_lnk hG hu hv hne
    refine lv_aload_n F.1 F.2.1 dX1_flowWith_20 rfl (lv_at hl 1 rfl) ?_
    refine lv_iload_n F.1 F.2.1 dX1_flowWith_21 rfl (lv_at hl 2 rfl) ?_
    refine lv_iload_n F.1 F.2.1 dX1_flowWith_22 rfl (lv_at hl 3 rfl) ?_
    refine xk_link F I hl dX1_flowWith_23 ⟨by rw [hR]; decide, by rw [hR]; decide⟩ (Nat.le_of_ble_eq_true rfl) ⟨Nat.zero_le _, Nat.zero_le _⟩ (by omega) (by omega) (fun H locs I => ?_)
    refine lv_aload_n F.1 F.2.1 dX1_flowWith_26 rfl (lv_at hl 1 rfl) ?_
    refine lv_iconst (v := nI 0) F.1 F.2.1 dX1_flowWith_27 (by decide) ?_
    refine lv_iconst (v := nI 0) F.1 F.2.1 dX1_flowWith_28 (by decide) ?_
    refine xk_flow F I hl dX1_flowWith_29 ⟨by rw [hR]; decide, by rw [hR]; decide⟩ (Nat.le_of_ble_eq_true rfl) ⟨Nat.zero_le _, Nat.zero_le _⟩ hn hs ht hst hG2 (by decide) (by decide) mb_0 mb_0 (fun r2 cf2 q2 H locs I => ?_)
    refine lv_istore (lv' := [(4, .int (nI (fl n sr tg (lnk a u v) 0 0))), (3, .int (nI ((a u).testBit v).toNat)), (0, .ref (h 0)), (1, .int (nI u)), (2, .int (nI v))]) F.1 F.2.1 dX1_flowWith_32 hl (by decide) rfl (fun ls hl => ?_)
    refine lv_iload_n F.1 F.2.1 dX1_flowWith_34 rfl (lv_at hl 1 rfl) ?_
    refine nb_if_eq (tgt := 47) F.1 F.2.1 dX1_flowWith_35 (by decide) (fun c2 => ?_) (fun c2 => ?_)
    · refine lv_aload_n F.1 F.2.1 dX1_flowWith_47 rfl (lv_at hl 2 rfl) ?_
      refine lv_iload_n F.1 F.2.1 dX1_flowWith_48 rfl (lv_at hl 3 rfl) ?_
      refine lv_iload_n F.1 F.2.1 dX1_flowWith_49 rfl (lv_at hl 4 rfl) ?_
      refine xk_unlink F I hl dX1_flowWith_50 ⟨by rw [hR]; decide, by rw [hR]; decide⟩ (Nat.le_of_ble_eq_true rfl) ⟨Nat.zero_le _, Nat.zero_le _⟩ (by omega) (by omega) hne (hG2.b31 hn hu) (hG2.b31 hn hv) (fun H locs I => ?_)
      rw [ulk_lnk hne hm hm2] at I
      refine lv_iload F.1 F.2.1 dX1_flowWith_53 (lv_at hl 0 rfl) ?_
      exact ret _ _ _ _ ls _ ⟨r2, cf2, q2, by unfold tog; rw [c1]; rfl, rfl⟩ I dX1_flowWith_55
    · rw [c1] at c2
      cases c2
  · have hm : mb (a u) v := c1
    have hm2 : mb (a v) u := (hG u hu v hm).2.2
    have hG2 := Gok_ulk hG hne
    refine lv_aload_n F.1 F.2.1 dX1_flowWith_11 rfl (lv_at hl 1 rfl) ?_
    refine lv_iload_n F.1 F.2.1 dX1_flowWith_12 rfl (lv_at hl 2 rfl) ?_
    refine lv_iload_n F.1 F.2.1 dX1_flowWith_13 rfl (lv_at hl 3 rfl) ?_
    refine xk_unlink F I hl dX1_flowWith_14 ⟨by rw [hR]; decide, by rw [hR]; decide⟩ (Nat.le_of_ble_eq_true rfl) ⟨Nat.zero_le _, Nat.zero_le _⟩ (by omega) (by omega) hne (hG.b31 hn hu) (hG.b31 hn hv) (fun H locs I => ?_)
    refine lv_goto (tgt := 26) F.1 F.2.1 dX1_flowWith_17 (by decide) ?_
    refine lv_aload_n F.1 F.2.1 dX1_flowWith_26 rfl (lv_at hl 1 rfl) ?_
    refine lv_iconst (v := nI 0) F.1 F.2.1 dX1_flowWith_27 (by decide) ?_
    refine lv_iconst (v := nI 0) F.1 F.2.1 dX1_flowWith_28 (by decide) ?_
    refine xk_flow F I hl dX1_flowWith_29 ⟨by rw [hR]; decide, by rw [hR]; decide⟩ (Nat.le_of_ble_eq_true rfl) ⟨Nat.zero_le _, Nat.zero_le _⟩ hn hs ht hst hG2 (by decide) (by decide) mb_0 mb_0 (fun r2 cf2 q2 H locs I => ?_)
    refine lv_istore (lv' := [(4, .int (nI (fl n sr tg (ulk a u v) 0 0))), (3, .int (nI ((a u).testBit v).toNat)), (0, .ref (h 0)), (1, .int (nI u)), (2, .int (nI v))]) F.1 F.2.1 dX1_flowWith_32 hl (by decide) rfl (fun ls hl => ?_)
    refine lv_iload_n F.1 F.2.1 dX1_flowWith_34 rfl (lv_at hl 1 rfl) ?_
    refine nb_if_eq (tgt := 47) F.1 F.2.1 dX1_flowWith_35 (by decide) (fun c2 => ?_) (fun c2 => ?_)
    · rw [c1] at c2
      cases c2
    · refine lv_aload_n F.1 F.2.1 dX1_flowWith_38 rfl (lv_at hl 2 rfl) ?_
      refine lv_iload_n F.1 F.2.1 dX1_flowWith_39 rfl (lv_at hl 3 rfl) ?_
      refine lv_iload_n F.1 F.2.1 dX1_flowWith_40 rfl (lv_at hl 4 rfl) ?_
      refine xk_link F I hl dX1_flowWith_41 ⟨by rw [hR]; decide, by rw [hR]; decide⟩ (Nat.le_of_ble_eq_true rfl) ⟨Nat.zero_le _, Nat.zero_le _⟩ (by omega) (by omega) (fun H locs I => ?_)
      rw [lnk_ulk hne hm hm2] at I
      refine lv_goto (tgt := 53) F.1 F.2.1 dX1_flowWith_44 (by decide) ?_
      refine lv_iload F.1 F.2.1 dX1_flowWith_53 (lv_at hl 0 rfl) ?_
      exact ret _ _ _ _ ls _ ⟨r2, cf2, q2, by unfold tog; rw [c1]; rfl, rfl⟩ I dX1_flowWith_55
section XA
variable {p : Program} {l : Launch} {e : Env} {R : Room} {s : State} {m : MethodId} {args : Array Value} {below : List Frame} {meth : Method} {c : Code} {H : Heap} {locs : List Loc} {cells slots : Nat} {Q : State → Prop} {pc : Nat} {ls : Array Slot} {rest : List Value} {cc : ByteArray} {nL : Nat} {D : va_G} {A : Nat → Prop} {H0 : Heap} {h : Nat → Nat} {ca : Nat → ClassId} {lv : List (Nat × Value)} 
theorem xk_flowWith {n sr tg : Nat} {a r : Nat → Nat} {cf : Nat → Option Nat} {q : Nat → Nat} {st : Nat → Option Nat} {u v : Nat} (F : CallFix p m c cc nL s args lw_all RX1) (I : WI D (XW h ca (n, sr, tg, a, r, cf, q, st)) (XT ca) A s H0 H locs) (hl : lv_has ls nL lv) (hdg : decode cc pc = .ok (.invokevirtual 70, 3)) (hR : 5 ≤ R.frames ∧ 118 ≤ R.locals) (hroom : (rest.map fun v => v.category).sum ≤ 8) (hf : cells ≤ R.cells ∧ slots ≤ R.slots) (hn : n ≤ 8) (hs : sr < n) (ht : tg < n) (hst : sr ≠ tg) (hG : Gok n a) (hu : u < n) (hv : v < n) (hne : u ≠ v) (kk : ∀ (r2 : Nat → Nat) (cf2 : Nat → Option Nat) (q2 : Nat → Nat) (H1 : Heap) (locs1 : List Loc), WI D (XW h ca (n, sr, tg, a, r2, cf2, q2, st)) (XT ca) A s H0 H1 locs1 → W p l e R s m args below meth c H1 locs1 cells slots Q (F0 m (pc + 3) ls (.int (nI (fl n sr tg (tog a u v) 0 0)) :: rest))) : W p l e R s m args below meth c H locs cells slots Q (F0 m pc ls (.int (nI v) :: .int (nI u) :: .ref (h 0) :: rest)) :=
  wc_i F I (met_flowWith l D h ca n sr tg a r cf q st u v hn hs ht hst hG hu hv hne) (cwV 2 F.2.2.2.2 (lw_V q139 q141 qs10 q23 q142) rfl rfl rfl (by decide +kernel) hR) (x_recv I) hl rfl rfl hroom hdg hf (fun r u H1 locs1 hp I => by
    obtain ⟨r2, cf2, q2, rfl, rfl⟩ := hp; exact kk r2 cf2 q2 H1 locs1 I)

end XA
set_option maxHeartbeats 8000000 in
set_option maxRecDepth 100000 in
theorem met_tightEdges (l : Launch) (D : va_G) (h : Nat → Nat) (ca : Nat → ClassId) (n sr tg : Nat) (a r : Nat → Nat) (cf : Nat → Option Nat) (q : Nat → Nat) (st : Nat → Option Nat) (hn : n ≤ 8) (hs : sr < n) (ht : tg < n) (hst : sr ≠ tg) (hG : Gok n a) : WMi l yX1_tightEdges (ws_ yX1_tightEdges cX1_tightEdges 6 (some .int)) ({ frames := 5, cells := 0, slots := 0, locals := 118 } : Room) D (XW h ca (n, sr, tg, a, r, cf, q, st)) (XW h ca) (XT ca) [.ref (h 0)] (fun r' u' => ∃ (r2 : Nat → Nat) (cf2 : Nat → Option Nat) (q2 : Nat → Nat), r' = nI (prs (fun u v => (a u).testBit v && decide (fl n sr tg (tog a u v) 0 0 < fl n sr tg a 0 0)) n) ∧ u' = (n, sr, tg, a, r2, cf2, q2, st)) := by
  refine wm_i (by decide) (Nat.le_of_ble_eq_true rfl) ?_
  intro p e R s m args below meth c ls A Q hR F ret I hl
  have hl : lv_has ls 6 [(0, .ref (h 0))] := hl
  obtain ⟨g, hg⟩ : ∃ g : Nat → Nat → Nat, g = prg (fun u v => (a u).testBit v && decide (fl n sr tg (tog a u v) 0 0 < fl n sr tg a 0 0)) := ⟨_, rfl⟩
  have hall : prs (fun u v => (a u).testBit v && decide (fl n sr tg (tog a u v) 0 0 < fl n sr tg a 0 0)) n = fb_sm (fun u => fb_sm (g u) n) n := by rw [hg]; exact prs_eq _ n
  have hg0 : ∀ u k, k ≤ u + 1 → fb_sm (g u) k = 0 := fun u k hk => by rw [hg]; exact prg_0 _ u k hk
  have hb1 := fl_le (n := n) (s := sr) (t := tg) (a := a) (sh := 0) (fi := 0)
  have L : ∀ (k : Nat), ∀ (u x : Nat) (r2 : Nat → Nat) (cf2 : Nat → Option Nat) (q2 : Nat → Nat), n - u < k → u ≤ n → x = fb_sm (fun u => fb_sm (g u) n) u → ∀ (H : Heap) (locs : List Loc) (ls : Array Slot), WI D (XW h ca (n, sr, tg, a, r2, cf2, q2, st)) (XT ca) A s s.heap H locs → lv_has ls 6 [(3, .int (nI u)), (2, .int (nI x)), (1, .int (nI (fl n sr tg a 0 0))), (0, .ref (h 0))] → W p l e R s m args below meth c H locs 0 0 Q (F0 m 11 ls []) := by
    intro k
    induction k with
    | zero =>
      intro u x r2 cf2 q2 hk hu hx
      exact absurd hk (Nat.not_lt_zero _)
    | succ k ih =>
      intro u x r2 cf2 q2 hk hu hx H locs ls I hl
      have ihO := ih
      have L3 : ∀ (k : Nat), ∀ (v x : Nat) (r2 : Nat → Nat) (cf2 : Nat → Option Nat) (q2 : Nat → Nat), n - v < k → u + 1 ≤ v → v ≤ n → x = fb_sm (fun u => fb_sm (g u) n) u + fb_sm (g u) v → ∀ (H : Heap) (locs : List Loc) (ls : Array Slot), WI D (XW h ca (n, sr, tg, a, r2, cf2, q2, st)) (XT ca) A s s.heap H locs → lv_has ls 6 [(4, .int (nI v)), (3, .int (nI u)), (2, .int (nI x)), (1, .int (nI (fl n sr tg a 0 0))), (0, .ref (h 0))] → W p l e R s m args below meth c H locs 0 0 Q (F0 m 24 ls []) := by
        intro k
        induction k with
        | zero =>
          intro v x r2 cf2 q2 hk huv hvn hx
          exact absurd hk (Nat.not_lt_zero _)
        | succ k ih =>
          intro v x r2 cf2 q2 hk huv hvn hx H locs ls I hl
          refine lv_iload F.1 F.2.1 dX1_tightEdges_24 (lv_at hl 0 rfl) ?_
          refine lv_aload_n F.1 F.2.1 dX1_tightEdges_26 rfl (lv_at hl 4 rfl) ?_
          refine xg_n F I dX1_tightEdges_27 ?_
          refine nv_icmp_ge (tgt := 67) F.1 F.2.1 dX1_tightEdges_30 (by decide) ⟨by omega, by omega⟩ (fun c1 => ?_) (fun c1 => ?_)
          · have e : v = n := by omega
            rw [e] at hx
            refine nv_iinc (lv' := [(3, .int (nI (u + 1))), (4, .int (nI v)), (2, .int (nI x)), (1, .int (nI (fl n sr tg a 0 0))), (0, .ref (h 0))]) F.1 F.2.1 dX1_tightEdges_67 hl (k := 1) rfl (by decide) rfl (fun ls hl => ?_)
            refine lv_goto (tgt := 11) F.1 F.2.1 dX1_tightEdges_70 (by decide) ?_
            exact ihO (u + 1) x r2 cf2 q2 (by omega) (by omega) (by rw [fb_sm_succ]; exact hx) _ _ _ I (lv_sub hl [0, 2, 3, 4] rfl)
          · refine lv_aload_n F.1 F.2.1 dX1_tightEdges_33 rfl (lv_at hl 4 rfl) ?_
            refine lv_iload_n F.1 F.2.1 dX1_tightEdges_34 rfl (lv_at hl 1 rfl) ?_
            refine lv_iload F.1 F.2.1 dX1_tightEdges_35 (lv_at hl 0 rfl) ?_
            refine xk_linked F I hl dX1_tightEdges_37 ⟨by rw [hR]; decide, by rw [hR]; decide⟩ (Nat.le_of_ble_eq_true rfl) ⟨Nat.zero_le _, Nat.zero_le _⟩ (by omega) (by omega) (hG.b31 hn (by omega)) (fun H locs I => ?_)
            refine nb_if_eq (tgt := 61) F.1 F.2.1 dX1_tightEdges_40 (by decide) (fun c2 => ?_) (fun c2 => ?_)
            · refine nv_iinc (lv' := [(4, .int (nI (v + 1))), (3, .int (nI u)), (2, .int (nI x)), (1, .int (nI (fl n sr tg a 0 0))), (0, .ref (h 0))]) F.1 F.2.1 dX1_tightEdges_61 hl (k := 0) rfl (by decide) rfl (fun ls hl => ?_)
              refine lv_goto (tgt := 24) F.1 F.2.1 dX1_tightEdges_64 (by decide) ?_
              exact ih (v + 1) x r2 cf2 q2 (by omega) (by omega) (by omega) (cnt_no hx (by rw [hg]; exact prg_no (show ((a u).testBit v && decide (fl n sr tg (tog a u v) 0 0 < fl n sr tg a 0 0)) = false by rw [c2]; rfl))) _ _ _ I (lv_sub hl [0, 1, 2, 3, 4] rfl)
            · refine lv_aload_n F.1 F.2.1 dX1_tightEdges_43 rfl (lv_at hl 4 rfl) ?_
              refine lv_iload_n F.1 F.2.1 dX1_tightEdges_44 rfl (lv_at hl 1 rfl) ?_
              refine lv_iload F.1 F.2.1 dX1_tightEdges_45 (lv_at hl 0 rfl) ?_
              refine xk_flowWith F I hl dX1_tightEdges_47 ⟨by rw [hR]; decide, by rw [hR]; decide⟩ (Nat.le_of_ble_eq_true rfl) ⟨Nat.zero_le _, Nat.zero_le _⟩ hn hs ht hst hG (by omega) (by omega) (by omega) (fun r3 cf3 q3 H locs I => ?_)
              have hb2 := fl_le (n := n) (s := sr) (t := tg) (a := tog a u v) (sh := 0) (fi := 0)
              refine lv_istore (lv' := [(5, .int (nI (fl n sr tg (tog a u v) 0 0))), (4, .int (nI v)), (3, .int (nI u)), (2, .int (nI x)), (1, .int (nI (fl n sr tg a 0 0))), (0, .ref (h 0))]) F.1 F.2.1 dX1_tightEdges_50 hl (by decide) rfl (fun ls hl => ?_)
              refine lv_iload F.1 F.2.1 dX1_tightEdges_52 (lv_at hl 0 rfl) ?_
              refine lv_iload_n F.1 F.2.1 dX1_tightEdges_54 rfl (lv_at hl 4 rfl) ?_
              refine nv_icmp_ge (tgt := 61) F.1 F.2.1 dX1_tightEdges_55 (by decide) ⟨by omega, by omega⟩ (fun c3 => ?_) (fun c3 => ?_)
              · refine nv_iinc (lv' := [(4, .int (nI (v + 1))), (5, .int (nI (fl n sr tg (tog a u v) 0 0))), (3, .int (nI u)), (2, .int (nI x)), (1, .int (nI (fl n sr tg a 0 0))), (0, .ref (h 0))]) F.1 F.2.1 dX1_tightEdges_61 hl (k := 1) rfl (by decide) rfl (fun ls hl => ?_)
                refine lv_goto (tgt := 24) F.1 F.2.1 dX1_tightEdges_64 (by decide) ?_
                exact ih (v + 1) x r3 cf3 q3 (by omega) (by omega) (by omega) (cnt_no hx (by rw [hg]; exact prg_no (show ((a u).testBit v && decide (fl n sr tg (tog a u v) 0 0 < fl n sr tg a 0 0)) = false by rw [c2, decide_eq_false (by omega : ¬ fl n sr tg (tog a u v) 0 0 < fl n sr tg a 0 0)]; rfl))) _ _ _ I (lv_sub hl [0, 2, 3, 4, 5] rfl)
              · refine nv_iinc (lv' := [(2, .int (nI (x + 1))), (5, .int (nI (fl n sr tg (tog a u v) 0 0))), (4, .int (nI v)), (3, .int (nI u)), (1, .int (nI (fl n sr tg a 0 0))), (0, .ref (h 0))]) F.1 F.2.1 dX1_tightEdges_58 hl (k := 3) rfl (by decide) rfl (fun ls hl => ?_)
                refine nv_iinc (lv' := [(4, .int (nI (v + 1))), (2, .int (nI (x + 1))), (5, .int (nI (fl n sr tg (tog a u v) 0 0))), (3, .int (nI u)), (1, .int (nI (fl n sr tg a 0 0))), (0, .ref (h 0))]) F.1 F.2.1 dX1_tightEdges_61 hl (k := 2) rfl (by decide) rfl (fun ls hl => ?_)
                refine lv_goto (tgt := 24) F.1 F.2.1 dX1_tightEdges_64 (by decide) ?_
                exact ih (v + 1) (x + 1) r3 cf3 q3 (by omega) (by omega) (by omega) (cnt_yes hx (by rw [hg]; exact prg_yes (by omega) (show ((a u).testBit v && decide (fl n sr tg (tog a u v) 0 0 < fl n sr tg a 0 0)) = true by rw [c2, decide_eq_true c3]; rfl))) _ _ _ I (lv_sub hl [0, 3, 1, 4, 5] rfl)
      refine lv_iload_n F.1 F.2.1 dX1_tightEdges_11 rfl (lv_at hl 0 rfl) ?_
      refine lv_aload_n F.1 F.2.1 dX1_tightEdges_12 rfl (lv_at hl 3 rfl) ?_
      refine xg_n F I dX1_tightEdges_13 ?_
      refine nv_icmp_ge (tgt := 73) F.1 F.2.1 dX1_tightEdges_16 (by decide) ⟨by omega, by omega⟩ (fun c1 => ?_) (fun c1 => ?_)
      · have e : u = n := by omega
        rw [e] at hx
        refine lv_iload_n F.1 F.2.1 dX1_tightEdges_73 rfl (lv_at hl 1 rfl) ?_
        exact ret _ _ _ _ ls _ ⟨r2, cf2, q2, by rw [hall, hx], rfl⟩ I dX1_tightEdges_74
      · refine lv_iload_n F.1 F.2.1 dX1_tightEdges_19 rfl (lv_at hl 0 rfl) ?_
        refine lv_iconst (v := nI 1) F.1 F.2.1 dX1_tightEdges_20 (by decide) ?_
        refine nv_iadd F.1 F.2.1 dX1_tightEdges_21 ?_
        refine lv_istore (lv' := [(4, .int (nI (u + 1))), (3, .int (nI u)), (2, .int (nI x)), (1, .int (nI (fl n sr tg a 0 0))), (0, .ref (h 0))]) F.1 F.2.1 dX1_tightEdges_22 hl (by decide) rfl (fun ls hl => ?_)
        exact L3 (n + 1) (u + 1) x r2 cf2 q2 (by omega) (by omega) (by omega) (by rw [hg0 u (u + 1) (Nat.le_refl _)]; exact hx) _ _ _ I (lv_sub hl [0, 1, 2, 3, 4] rfl)
  refine lv_aload_n F.1 F.2.1 dX1_tightEdges_0 rfl (lv_at hl 0 rfl) ?_
  refine lv_iconst (v := nI 0) F.1 F.2.1 dX1_tightEdges_1 (by decide) ?_
  refine lv_iconst (v := nI 0) F.1 F.2.1 dX1_tightEdges_2 (by decide) ?_
  refine xk_flow F I hl dX1_tightEdges_3 ⟨by rw [hR]; decide, by rw [hR]; decide⟩ (Nat.le_of_ble_eq_true rfl) ⟨Nat.zero_le _, Nat.zero_le _⟩ hn hs ht hst hG (by decide) (by decide) mb_0 mb_0 (fun r2 cf2 q2 H locs I => ?_)
  refine lv_istore_n (lv' := [(1, .int (nI (fl n sr tg a 0 0))), (0, .ref (h 0))]) F.1 F.2.1 dX1_tightEdges_6 rfl hl (by decide) rfl (fun ls hl => ?_)
  refine lv_iconst (v := nI 0) F.1 F.2.1 dX1_tightEdges_7 (by decide) ?_
  refine lv_istore_n (lv' := [(2, .int (nI 0)), (1, .int (nI (fl n sr tg a 0 0))), (0, .ref (h 0))]) F.1 F.2.1 dX1_tightEdges_8 rfl hl (by decide) rfl (fun ls hl => ?_)
  refine lv_iconst (v := nI 0) F.1 F.2.1 dX1_tightEdges_9 (by decide) ?_
  refine lv_istore_n (lv' := [(3, .int (nI 0)), (2, .int (nI 0)), (1, .int (nI (fl n sr tg a 0 0))), (0, .ref (h 0))]) F.1 F.2.1 dX1_tightEdges_10 rfl hl (by decide) rfl (fun ls hl => ?_)
  exact L (n + 1) 0 0 r2 cf2 q2 (by omega) (by omega) rfl _ _ _ I (lv_sub hl [0, 1, 2, 3] rfl)
set_option maxHeartbeats 8000000 in
set_option maxRecDepth 100000 in
theorem met_helpfulEdges (l : Launch) (D : va_G) (h : Nat → Nat) (ca : Nat → ClassId) (n sr tg : Nat) (a r : Nat → Nat) (cf : Nat → Option Nat) (q : Nat → Nat) (st : Nat → Option Nat) (hn : n ≤ 8) (hs : sr < n) (ht : tg < n) (hst : sr ≠ tg) (hG : Gok n a) : WMi l yX1_helpfulEdges (ws_ yX1_helpfulEdges cX1_helpfulEdges 6 (some .int)) ({ frames := 5, cells := 0, slots := 0, locals := 118 } : Room) D (XW h ca (n, sr, tg, a, r, cf, q, st)) (XW h ca) (XT ca) [.ref (h 0)] (fun r' u' => ∃ (r2 : Nat → Nat) (cf2 : Nat → Option Nat) (q2 : Nat → Nat), r' = nI (prs (fun u v => !(a u).testBit v && decide (fl n sr tg a 0 0 < fl n sr tg (tog a u v) 0 0)) n) ∧ u' = (n, sr, tg, a, r2, cf2, q2, st)) := by
  refine wm_i (by decide) (Nat.le_of_ble_eq_true rfl) ?_
  intro p e R s m args below meth c ls A Q hR F ret I hl
  have hl : lv_has ls 6 [(0, .ref (h 0))] := hl
  obtain ⟨g, hg⟩ : ∃ g : Nat → Nat → Nat, g = prg (fun u v => !(a u).testBit v && decide (fl n sr tg a 0 0 < fl n sr tg (tog a u v) 0 0)) := ⟨_, rfl⟩
  have hall : prs (fun u v => !(a u).testBit v && decide (fl n sr tg a 0 0 < fl n sr tg (tog a u v) 0 0)) n = fb_sm (fun u => fb_sm (g u) n) n := by rw [hg]; exact prs_eq _ n
  have hg0 : ∀ u k, k ≤ u + 1 → fb_sm (g u) k = 0 := fun u k hk => by rw [hg]; exact prg_0 _ u k hk
  have hb1 := fl_le (n := n) (s := sr) (t := tg) (a := a) (sh := 0) (fi := 0)
  have L : ∀ (k : Nat), ∀ (u x : Nat) (r2 : Nat → Nat) (cf2 : Nat → Option Nat) (q2 : Nat → Nat), n - u < k → u ≤ n → x = fb_sm (fun u => fb_sm (g u) n) u → ∀ (H : Heap) (locs : List Loc) (ls : Array Slot), WI D (XW h ca (n, sr, tg, a, r2, cf2, q2, st)) (XT ca) A s s.heap H locs → lv_has ls 6 [(3, .int (nI u)), (2, .int (nI x)), (1, .int (nI (fl n sr tg a 0 0))), (0, .ref (h 0))] → W p l e R s m args below meth c H locs 0 0 Q (F0 m 11 ls []) := by
    intro k
    induction k with
    | zero =>
      intro u x r2 cf2 q2 hk hu hx
      exact absurd hk (Nat.not_lt_zero _)
    | succ k ih =>
      intro u x r2 cf2 q2 hk hu hx H locs ls I hl
      have ihO := ih
      have L3 : ∀ (k : Nat), ∀ (v x : Nat) (r2 : Nat → Nat) (cf2 : Nat → Option Nat) (q2 : Nat → Nat), n - v < k → u + 1 ≤ v → v ≤ n → x = fb_sm (fun u => fb_sm (g u) n) u + fb_sm (g u) v → ∀ (H : Heap) (locs : List Loc) (ls : Array Slot), WI D (XW h ca (n, sr, tg, a, r2, cf2, q2, st)) (XT ca) A s s.heap H locs → lv_has ls 6 [(4, .int (nI v)), (3, .int (nI u)), (2, .int (nI x)), (1, .int (nI (fl n sr tg a 0 0))), (0, .ref (h 0))] → W p l e R s m args below meth c H locs 0 0 Q (F0 m 24 ls []) := by
        intro k
        induction k with
        | zero =>
          intro v x r2 cf2 q2 hk huv hvn hx
          exact absurd hk (Nat.not_lt_zero _)
        | succ k ih =>
          intro v x r2 cf2 q2 hk huv hvn hx H locs ls I hl
          refine lv_iload F.1 F.2.1 dX1_helpfulEdges_24 (lv_at hl 0 rfl) ?_
          refine lv_aload_n F.1 F.2.1 dX1_helpfulEdges_26 rfl (lv_at hl 4 rfl) ?_
          refine xg_n F I dX1_helpfulEdges_27 ?_
          refine nv_icmp_ge (tgt := 67) F.1 F.2.1 dX1_helpfulEdges_30 (by decide) ⟨by omega, by omega⟩ (fun c1 => ?_) (fun c1 => ?_)
          · have e : v = n := by omega
            rw [e] at hx
            refine nv_iinc (lv' := [(3, .int (nI (u + 1))), (4, .int (nI v)), (2, .int (nI x)), (1, .int (nI (fl n sr tg a 0 0))), (0, .ref (h 0))]) F.1 F.2.1 dX1_helpfulEdges_67 hl (k := 1) rfl (by decide) rfl (fun ls hl => ?_)
            refine lv_goto (tgt := 11) F.1 F.2.1 dX1_helpfulEdges_70 (by decide) ?_
            exact ihO (u + 1) x r2 cf2 q2 (by omega) (by omega) (by rw [fb_sm_succ]; exact hx) _ _ _ I (lv_sub hl [0, 2, 3, 4] rfl)
          · refine lv_aload_n F.1 F.2.1 dX1_helpfulEdges_33 rfl (lv_at hl 4 rfl) ?_
            refine lv_iload_n F.1 F.2.1 dX1_helpfulEdges_34 rfl (lv_at hl 1 rfl) ?_
            refine lv_iload F.1 F.2.1 dX1_helpfulEdges_35 (lv_at hl 0 rfl) ?_
            refine xk_linked F I hl dX1_helpfulEdges_37 ⟨by rw [hR]; decide, by rw [hR]; decide⟩ (Nat.le_of_ble_eq_true rfl) ⟨Nat.zero_le _, Nat.zero_le _⟩ (by omega) (by omega) (hG.b31 hn (by omega)) (fun H locs I => ?_)
            refine nb_if_ne (tgt := 61) F.1 F.2.1 dX1_helpfulEdges_40 (by decide) (fun c2 => ?_) (fun c2 => ?_)
            · refine nv_iinc (lv' := [(4, .int (nI (v + 1))), (3, .int (nI u)), (2, .int (nI x)), (1, .int (nI (fl n sr tg a 0 0))), (0, .ref (h 0))]) F.1 F.2.1 dX1_helpfulEdges_61 hl (k := 0) rfl (by decide) rfl (fun ls hl => ?_)
              refine lv_goto (tgt := 24) F.1 F.2.1 dX1_helpfulEdges_64 (by decide) ?_
              exact ih (v + 1) x r2 cf2 q2 (by omega) (by omega) (by omega) (cnt_no hx (by rw [hg]; exact prg_no (show (!(a u).testBit v && decide (fl n sr tg a 0 0 < fl n sr tg (tog a u v) 0 0)) = false by rw [c2]; rfl))) _ _ _ I (lv_sub hl [0, 1, 2, 3, 4] rfl)
            · refine lv_aload_n F.1 F.2.1 dX1_helpfulEdges_43 rfl (lv_at hl 4 rfl) ?_
              refine lv_iload_n F.1 F.2.1 dX1_helpfulEdges_44 rfl (lv_at hl 1 rfl) ?_
              refine lv_iload F.1 F.2.1 dX1_helpfulEdges_45 (lv_at hl 0 rfl) ?_
              refine xk_flowWith F I hl dX1_helpfulEdges_47 ⟨by rw [hR]; decide, by rw [hR]; decide⟩ (Nat.le_of_ble_eq_true rfl) ⟨Nat.zero_le _, Nat.zero_le _⟩ hn hs ht hst hG (by omega) (by omega) (by omega) (fun r3 cf3 q3 H locs I => ?_)
              have hb2 := fl_le (n := n) (s := sr) (t := tg) (a := tog a u v) (sh := 0) (fi := 0)
              refine lv_istore (lv' := [(5, .int (nI (fl n sr tg (tog a u v) 0 0))), (4, .int (nI v)), (3, .int (nI u)), (2, .int (nI x)), (1, .int (nI (fl n sr tg a 0 0))), (0, .ref (h 0))]) F.1 F.2.1 dX1_helpfulEdges_50 hl (by decide) rfl (fun ls hl => ?_)
              refine lv_iload F.1 F.2.1 dX1_helpfulEdges_52 (lv_at hl 0 rfl) ?_
              refine lv_iload_n F.1 F.2.1 dX1_helpfulEdges_54 rfl (lv_at hl 4 rfl) ?_
              refine nv_icmp_le (tgt := 61) F.1 F.2.1 dX1_helpfulEdges_55 (by decide) ⟨by omega, by omega⟩ (fun c3 => ?_) (fun c3 => ?_)
              · refine nv_iinc (lv' := [(4, .int (nI (v + 1))), (5, .int (nI (fl n sr tg (tog a u v) 0 0))), (3, .int (nI u)), (2, .int (nI x)), (1, .int (nI (fl n sr tg a 0 0))), (0, .ref (h 0))]) F.1 F.2.1 dX1_helpfulEdges_61 hl (k := 1) rfl (by decide) rfl (fun ls hl => ?_)
                refine lv_goto (tgt := 24) F.1 F.2.1 dX1_helpfulEdges_64 (by decide) ?_
                exact ih (v + 1) x r3 cf3 q3 (by omega) (by omega) (by omega) (cnt_no hx (by rw [hg]; exact prg_no (show (!(a u).testBit v && decide (fl n sr tg a 0 0 < fl n sr tg (tog a u v) 0 0)) = false by rw [c2, decide_eq_false (by omega : ¬ fl n sr tg a 0 0 < fl n sr tg (tog a u v) 0 0)]; rfl))) _ _ _ I (lv_sub hl [0, 2, 3, 4, 5] rfl)
              · refine nv_iinc (lv' := [(2, .int (nI (x + 1))), (5, .int (nI (fl n sr tg (tog a u v) 0 0))), (4, .int (nI v)), (3, .int (nI u)), (1, .int (nI (fl n sr tg a 0 0))), (0, .ref (h 0))]) F.1 F.2.1 dX1_helpfulEdges_58 hl (k := 3) rfl (by decide) rfl (fun ls hl => ?_)
                refine nv_iinc (lv' := [(4, .int (nI (v + 1))), (2, .int (nI (x + 1))), (5, .int (nI (fl n sr tg (tog a u v) 0 0))), (3, .int (nI u)), (1, .int (nI (fl n sr tg a 0 0))), (0, .ref (h 0))]) F.1 F.2.1 dX1_helpfulEdges_61 hl (k := 2) rfl (by decide) rfl (fun ls hl => ?_)
                refine lv_goto (tgt := 24) F.1 F.2.1 dX1_helpfulEdges_64 (by decide) ?_
                exact ih (v + 1) (x + 1) r3 cf3 q3 (by omega) (by omega) (by omega) (cnt_yes hx (by rw [hg]; exact prg_yes (by omega) (show (!(a u).testBit v && decide (fl n sr tg a 0 0 < fl n sr tg (tog a u v) 0 0)) = true by rw [c2, decide_eq_true c3]; rfl))) _ _ _ I (lv_sub hl [0, 3, 1, 4, 5] rfl)
      refine lv_iload_n F.1 F.2.1 dX1_helpfulEdges_11 rfl (lv_at hl 0 rfl) ?_
      refine lv_aload_n F.1 F.2.1 dX1_helpfulEdges_12 rfl (lv_at hl 3 rfl) ?_
      refine xg_n F I dX1_helpfulEdges_13 ?_
      refine nv_icmp_ge (tgt := 73) F.1 F.2.1 dX1_helpfulEdges_16 (by decide) ⟨by omega, by omega⟩ (fun c1 => ?_) (fun c1 => ?_)
      · have e : u = n := by omega
        rw [e] at hx
        refine lv_iload_n F.1 F.2.1 dX1_helpfulEdges_73 rfl (lv_at hl 1 rfl) ?_
        exact ret _ _ _ _ ls _ ⟨r2, cf2, q2, by rw [hall, hx], rfl⟩ I dX1_helpfulEdges_74
      · refine lv_iload_n F.1 F.2.1 dX1_helpfulEdges_19 rfl (lv_at hl 0 rfl) ?_
        refine lv_iconst (v := nI 1) F.1 F.2.1 dX1_helpfulEdges_20 (by decide) ?_
        refine nv_iadd F.1 F.2.1 dX1_helpfulEdges_21 ?_
        refine lv_istore (lv' := [(4, .int (nI (u + 1))), (3, .int (nI u)), (2, .int (nI x)), (1, .int (nI (fl n sr tg a 0 0))), (0, .ref (h 0))]) F.1 F.2.1 dX1_helpfulEdges_22 hl (by decide) rfl (fun ls hl => ?_)
        exact L3 (n + 1) (u + 1) x r2 cf2 q2 (by omega) (by omega) (by omega) (by rw [hg0 u (u + 1) (Nat.le_refl _)]; exact hx) _ _ _ I (lv_sub hl [0, 1, 2, 3, 4] rfl)
  refine lv_aload_n F.1 F.2.1 dX1_helpfulEdges_0 rfl (lv_at hl 0 rfl) ?_
  refine lv_iconst (v := nI 0) F.1 F.2.1 dX1_helpfulEdges_1 (by decide) ?_
  refine lv_iconst (v := nI 0) F.1 F.2.1 dX1_helpfulEdges_2 (by decide) ?_
  refine xk_flow F I hl dX1_helpfulEdges_3 ⟨by rw [hR]; decide, by rw [hR]; decide⟩ (Nat.le_of_ble_eq_true rfl) ⟨Nat.zero_le _, Nat.zero_le _⟩ hn hs ht hst hG (by decide) (by decide) mb_0 mb_0 (fun r2 cf2 q2 H locs I => ?_)
  refine lv_istore_n (lv' := [(1, .int (nI (fl n sr tg a 0 0))), (0, .ref (h 0))]) F.1 F.2.1 dX1_helpfulEdges_6 rfl hl (by decide) rfl (fun ls hl => ?_)
  refine lv_iconst (v := nI 0) F.1 F.2.1 dX1_helpfulEdges_7 (by decide) ?_
  refine lv_istore_n (lv' := [(2, .int (nI 0)), (1, .int (nI (fl n sr tg a 0 0))), (0, .ref (h 0))]) F.1 F.2.1 dX1_helpfulEdges_8 rfl hl (by decide) rfl (fun ls hl => ?_)
  refine lv_iconst (v := nI 0) F.1 F.2.1 dX1_helpfulEdges_9 (by decide) ?_
  refine lv_istore_n (lv' := [(3, .int (nI 0)), (2, .int (nI 0)), (1, .int (nI (fl n sr tg a 0 0))), (0, .ref (h 0))]) F.1 F.2.1 dX1_helpfulEdges_10 rfl hl (by decide) rfl (fun ls hl => ?_)
  exact L (n + 1) 0 0 r2 cf2 q2 (by omega) (by omega) rfl _ _ _ I (lv_sub hl [0, 1, 2, 3] rfl)
set_option maxHeartbeats 8000000 in
set_option maxRecDepth 100000 in
theorem met_strength (l : Launch) (D : va_G) (h : Nat → Nat) (ca : Nat → ClassId) (n sr tg : Nat) (a r : Nat → Nat) (cf : Nat → Option Nat) (q : Nat → Nat) (st : Nat → Option Nat) (hn : n ≤ 8) (hs : sr < n) (ht : tg < n) (hst : sr ≠ tg) (hG : Gok n a) : WMi l yX1_strength (ws_ yX1_strength cX1_strength 7 (some .int)) ({ frames := 4, cells := 0, slots := 0, locals := 94 } : Room) D (XW h ca (n, sr, tg, a, r, cf, q, st)) (XW h ca) (XT ca) [.ref (h 0)] (fun r' u' => ∃ (r2 : Nat → Nat) (cf2 : Nat → Option Nat) (q2 : Nat → Nat), r' = nI (sO n a n) ∧ u' = (n, sr, tg, a, r2, cf2, q2, st)) := by
  refine wm_i (by decide) (Nat.le_of_ble_eq_true rfl) ?_
  intro p e R s m args below meth c ls A Q hR F ret I hl
  have hl : lv_has ls 7 [(0, .ref (h 0))] := hl
  have L : ∀ (k : Nat), ∀ (u x s2 t2 : Nat) (r2 : Nat → Nat) (cf2 : Nat → Option Nat) (q2 : Nat → Nat), n - u < k → u ≤ n → x = sO n a u → ∀ (H : Heap) (locs : List Loc) (ls : Array Slot), WI D (XW h ca (n, s2, t2, a, r2, cf2, q2, st)) (XT ca) A s s.heap H locs → lv_has ls 7 [(4, .int (nI u)), (3, .int (nI x)), (2, .int (nI tg)), (1, .int (nI sr)), (0, .ref (h 0))] → W p l e R s m args below meth c H locs 0 0 Q (F0 m 20 ls []) := by
    intro k
    induction k with
    | zero =>
      intro u x s2 t2 r2 cf2 q2 hk hu hx
      exact absurd hk (Nat.not_lt_zero _)
    | succ k ih =>
      intro u x s2 t2 r2 cf2 q2 hk hu hx H locs ls I hl
      have ihO := ih
      have hsO := sO_le n a u
      have L3 : ∀ (k : Nat), ∀ (v x s2 t2 : Nat) (r2 : Nat → Nat) (cf2 : Nat → Option Nat) (q2 : Nat → Nat), n - v < k → u + 1 ≤ v → v ≤ n → x = sI n a u (sO n a u) v → ∀ (H : Heap) (locs : List Loc) (ls : Array Slot), WI D (XW h ca (n, s2, t2, a, r2, cf2, q2, st)) (XT ca) A s s.heap H locs → lv_has ls 7 [(5, .int (nI v)), (4, .int (nI u)), (3, .int (nI x)), (2, .int (nI tg)), (1, .int (nI sr)), (0, .ref (h 0))] → W p l e R s m args below meth c H locs 0 0 Q (F0 m 35 ls []) := by
        intro k
        induction k with
        | zero =>
          intro v x s2 t2 r2 cf2 q2 hk huv hvn hx
          exact absurd hk (Nat.not_lt_zero _)
        | succ k ih =>
          intro v x s2 t2 r2 cf2 q2 hk huv hvn hx H locs ls I hl
          have hsI := sI_le n a u (sO n a u) v
          refine lv_iload F.1 F.2.1 dX1_strength_35 (lv_at hl 0 rfl) ?_
          refine lv_aload_n F.1 F.2.1 dX1_strength_37 rfl (lv_at hl 5 rfl) ?_
          refine xg_n F I dX1_strength_38 ?_
          refine nv_icmp_ge (tgt := 94) F.1 F.2.1 dX1_strength_41 (by decide) ⟨by omega, by omega⟩ (fun c1 => ?_) (fun c1 => ?_)
          · have e : v = n := by omega
            rw [e] at hx
            refine nv_iinc (lv' := [(4, .int (nI (u + 1))), (5, .int (nI v)), (3, .int (nI x)), (2, .int (nI tg)), (1, .int (nI sr)), (0, .ref (h 0))]) F.1 F.2.1 dX1_strength_94 hl (k := 1) rfl (by decide) rfl (fun ls hl => ?_)
            refine lv_goto (tgt := 20) F.1 F.2.1 dX1_strength_97 (by decide) ?_
            exact ihO (u + 1) x s2 t2 r2 cf2 q2 (by omega) (by omega) hx _ _ _ I (lv_sub hl [0, 2, 3, 4, 5] rfl)
          · refine lv_aload_n F.1 F.2.1 dX1_strength_44 rfl (lv_at hl 5 rfl) ?_
            refine lv_iload F.1 F.2.1 dX1_strength_45 (lv_at hl 1 rfl) ?_
            refine lv_iload F.1 F.2.1 dX1_strength_47 (lv_at hl 0 rfl) ?_
            refine xk_linked F I hl dX1_strength_49 ⟨by rw [hR]; decide, by rw [hR]; decide⟩ (Nat.le_of_ble_eq_true rfl) ⟨Nat.zero_le _, Nat.zero_le _⟩ (by omega) (by omega) (hG.b31 hn (by omega)) (fun H locs I => ?_)
            refine nb_if_ne (tgt := 88) F.1 F.2.1 dX1_strength_52 (by decide) (fun c2 => ?_) (fun c2 => ?_)
            · refine nv_iinc (lv' := [(5, .int (nI (v + 1))), (4, .int (nI u)), (3, .int (nI x)), (2, .int (nI tg)), (1, .int (nI sr)), (0, .ref (h 0))]) F.1 F.2.1 dX1_strength_88 hl (k := 0) rfl (by decide) rfl (fun ls hl => ?_)
              refine lv_goto (tgt := 35) F.1 F.2.1 dX1_strength_91 (by decide) ?_
              exact ih (v + 1) x s2 t2 r2 cf2 q2 (by omega) (by omega) (by omega) (by unfold sI; rw [if_neg (fun z => z.2 c2)]; exact hx) _ _ _ I (lv_sub hl [0, 1, 2, 3, 4, 5] rfl)
            · refine lv_aload_n F.1 F.2.1 dX1_strength_55 rfl (lv_at hl 5 rfl) ?_
              refine lv_iload F.1 F.2.1 dX1_strength_56 (lv_at hl 1 rfl) ?_
              refine xp_s F I dX1_strength_58 (fun H locs I => ?_)
              refine lv_aload_n F.1 F.2.1 dX1_strength_61 rfl (lv_at hl 5 rfl) ?_
              refine lv_iload F.1 F.2.1 dX1_strength_62 (lv_at hl 0 rfl) ?_
              refine xp_t F I dX1_strength_64 (fun H locs I => ?_)
              refine lv_aload_n F.1 F.2.1 dX1_strength_67 rfl (lv_at hl 5 rfl) ?_
              refine lv_iconst (v := nI 0) F.1 F.2.1 dX1_strength_68 (by decide) ?_
              refine lv_iconst (v := nI 0) F.1 F.2.1 dX1_strength_69 (by decide) ?_
              refine xk_flow F I hl dX1_strength_70 ⟨by rw [hR]; decide, by rw [hR]; decide⟩ (Nat.le_of_ble_eq_true rfl) ⟨Nat.zero_le _, Nat.zero_le _⟩ hn (by omega) (by omega) (by omega) hG (by decide) (by decide) mb_0 mb_0 (fun r3 cf3 q3 H locs I => ?_)
              have hb2 := fl_le (n := n) (s := u) (t := v) (a := a) (sh := 0) (fi := 0)
              have hcond : u < v ∧ ¬ mb (a u) v := ⟨by omega, by rw [mb, c2]; decide⟩
              refine lv_istore (lv' := [(6, .int (nI (fl n u v a 0 0))), (5, .int (nI v)), (4, .int (nI u)), (3, .int (nI x)), (2, .int (nI tg)), (1, .int (nI sr)), (0, .ref (h 0))]) F.1 F.2.1 dX1_strength_73 hl (by decide) rfl (fun ls hl => ?_)
              refine lv_iload F.1 F.2.1 dX1_strength_75 (lv_at hl 0 rfl) ?_
              refine lv_iload_n F.1 F.2.1 dX1_strength_77 rfl (lv_at hl 3 rfl) ?_
              refine nv_icmp_ge (tgt := 86) F.1 F.2.1 dX1_strength_78 (by decide) ⟨by omega, by omega⟩ (fun c3 => ?_) (fun c3 => ?_)
              · refine lv_iload_n F.1 F.2.1 dX1_strength_86 rfl (lv_at hl 3 rfl) ?_
                refine lv_istore_n (lv' := [(3, .int (nI x)), (6, .int (nI (fl n u v a 0 0))), (5, .int (nI v)), (4, .int (nI u)), (2, .int (nI tg)), (1, .int (nI sr)), (0, .ref (h 0))]) F.1 F.2.1 dX1_strength_87 rfl hl (by decide) rfl (fun ls hl => ?_)
                refine nv_iinc (lv' := [(5, .int (nI (v + 1))), (3, .int (nI x)), (6, .int (nI (fl n u v a 0 0))), (4, .int (nI u)), (2, .int (nI tg)), (1, .int (nI sr)), (0, .ref (h 0))]) F.1 F.2.1 dX1_strength_88 hl (k := 2) rfl (by decide) rfl (fun ls hl => ?_)
                refine lv_goto (tgt := 35) F.1 F.2.1 dX1_strength_91 (by decide) ?_
                exact ih (v + 1) x u v r3 cf3 q3 (by omega) (by omega) (by omega) (by unfold sI; rw [if_pos hcond, if_neg (by omega)]; exact hx) _ _ _ I (lv_sub hl [0, 3, 1, 4, 5, 6] rfl)
              · refine lv_iload F.1 F.2.1 dX1_strength_81 (lv_at hl 0 rfl) ?_
                refine lv_goto (tgt := 87) F.1 F.2.1 dX1_strength_83 (by decide) ?_
                refine lv_istore_n (lv' := [(3, .int (nI (fl n u v a 0 0))), (6, .int (nI (fl n u v a 0 0))), (5, .int (nI v)), (4, .int (nI u)), (2, .int (nI tg)), (1, .int (nI sr)), (0, .ref (h 0))]) F.1 F.2.1 dX1_strength_87 rfl hl (by decide) rfl (fun ls hl => ?_)
                refine nv_iinc (lv' := [(5, .int (nI (v + 1))), (3, .int (nI (fl n u v a 0 0))), (6, .int (nI (fl n u v a 0 0))), (4, .int (nI u)), (2, .int (nI tg)), (1, .int (nI sr)), (0, .ref (h 0))]) F.1 F.2.1 dX1_strength_88 hl (k := 2) rfl (by decide) rfl (fun ls hl => ?_)
                refine lv_goto (tgt := 35) F.1 F.2.1 dX1_strength_91 (by decide) ?_
                exact ih (v + 1) _ u v r3 cf3 q3 (by omega) (by omega) (by omega) (by unfold sI; rw [if_pos hcond, if_pos (by omega)]) _ _ _ I (lv_sub hl [0, 3, 1, 4, 5, 6] rfl)
      refine lv_iload F.1 F.2.1 dX1_strength_20 (lv_at hl 0 rfl) ?_
      refine lv_aload_n F.1 F.2.1 dX1_strength_22 rfl (lv_at hl 4 rfl) ?_
      refine xg_n F I dX1_strength_23 ?_
      refine nv_icmp_ge (tgt := 100) F.1 F.2.1 dX1_strength_26 (by decide) ⟨by omega, by omega⟩ (fun c1 => ?_) (fun c1 => ?_)
      · have e : u = n := by omega
        rw [e] at hx
        refine lv_aload_n F.1 F.2.1 dX1_strength_100 rfl (lv_at hl 4 rfl) ?_
        refine lv_iload_n F.1 F.2.1 dX1_strength_101 rfl (lv_at hl 3 rfl) ?_
        refine xp_s F I dX1_strength_102 (fun H locs I => ?_)
        refine lv_aload_n F.1 F.2.1 dX1_strength_105 rfl (lv_at hl 4 rfl) ?_
        refine lv_iload_n F.1 F.2.1 dX1_strength_106 rfl (lv_at hl 2 rfl) ?_
        refine xp_t F I dX1_strength_107 (fun H locs I => ?_)
        refine lv_iload_n F.1 F.2.1 dX1_strength_110 rfl (lv_at hl 1 rfl) ?_
        exact ret _ _ _ _ ls _ ⟨r2, cf2, q2, by rw [hx], rfl⟩ I dX1_strength_111
      · refine lv_iload F.1 F.2.1 dX1_strength_29 (lv_at hl 0 rfl) ?_
        refine lv_iconst (v := nI 1) F.1 F.2.1 dX1_strength_31 (by decide) ?_
        refine nv_iadd F.1 F.2.1 dX1_strength_32 ?_
        refine lv_istore (lv' := [(5, .int (nI (u + 1))), (4, .int (nI u)), (3, .int (nI x)), (2, .int (nI tg)), (1, .int (nI sr)), (0, .ref (h 0))]) F.1 F.2.1 dX1_strength_33 hl (by decide) rfl (fun ls hl => ?_)
        exact L3 (n + 1) (u + 1) x s2 t2 r2 cf2 q2 (by omega) (by omega) (by omega) (by rw [sI_0 n a u _ (u + 1) (Nat.le_refl _)]; exact hx) _ _ _ I (lv_sub hl [0, 1, 2, 3, 4, 5] rfl)
  refine lv_aload_n F.1 F.2.1 dX1_strength_0 rfl (lv_at hl 0 rfl) ?_
  refine xg_s F I dX1_strength_1 ?_
  refine lv_istore_n (lv' := [(1, .int (nI sr)), (0, .ref (h 0))]) F.1 F.2.1 dX1_strength_4 rfl hl (by decide) rfl (fun ls hl => ?_)
  refine lv_aload_n F.1 F.2.1 dX1_strength_5 rfl (lv_at hl 1 rfl) ?_
  refine xg_t F I dX1_strength_6 ?_
  refine lv_istore_n (lv' := [(2, .int (nI tg)), (1, .int (nI sr)), (0, .ref (h 0))]) F.1 F.2.1 dX1_strength_9 rfl hl (by decide) rfl (fun ls hl => ?_)
  refine lv_aload_n F.1 F.2.1 dX1_strength_10 rfl (lv_at hl 2 rfl) ?_
  refine xg_n F I dX1_strength_11 ?_
  refine lv_iconst (v := nI 1) F.1 F.2.1 dX1_strength_14 (by decide) ?_
  refine nv_isub F.1 F.2.1 dX1_strength_15 (by omega) ?_
  refine lv_istore_n (lv' := [(3, .int (nI (n - 1))), (2, .int (nI tg)), (1, .int (nI sr)), (0, .ref (h 0))]) F.1 F.2.1 dX1_strength_16 rfl hl (by decide) rfl (fun ls hl => ?_)
  refine lv_iconst (v := nI 0) F.1 F.2.1 dX1_strength_17 (by decide) ?_
  refine lv_istore (lv' := [(4, .int (nI 0)), (3, .int (nI (n - 1))), (2, .int (nI tg)), (1, .int (nI sr)), (0, .ref (h 0))]) F.1 F.2.1 dX1_strength_18 hl (by decide) rfl (fun ls hl => ?_)
  exact L (n + 1) 0 _ sr tg r cf q (by omega) (by omega) rfl _ _ _ I (lv_sub hl [0, 1, 2, 3, 4] rfl)
set_option maxHeartbeats 8000000 in
set_option maxRecDepth 100000 in
theorem met_clear (l : Launch) (D : va_G) (h : Nat → Nat) (ca : Nat → ClassId) (n sr tg : Nat) (a r : Nat → Nat) (cf : Nat → Option Nat) (q : Nat → Nat) (st : Nat → Option Nat) (hn : n ≤ 8) (hG : Gok n a) : WMi l yX1_clear (ws_ yX1_clear cX1_clear 4 (some .int)) ({ frames := 0, cells := 0, slots := 0, locals := 0 } : Room) D (XW h ca (n, sr, tg, a, r, cf, q, st)) (XW h ca) (XT ca) [.ref (h 0)] (fun r' u' => r' = nI (prs (fun u v => (a u).testBit v) n) ∧ u' = (n, sr, tg, zr n a, r, cf, q, st)) := by
  refine wm_i (by decide) (Nat.le_of_ble_eq_true rfl) ?_
  intro p e R s m args below meth c ls A Q hR F ret I hl
  have hl : lv_has ls 4 [(0, .ref (h 0))] := hl
  obtain ⟨g, hg⟩ : ∃ g : Nat → Nat → Nat, g = prg (fun u v => (a u).testBit v) := ⟨_, rfl⟩
  have hall : prs (fun u v => (a u).testBit v) n = fb_sm (fun u => fb_sm (g u) n) n := by rw [hg]; exact prs_eq _ n
  have hg0 : ∀ u k, k ≤ u + 1 → fb_sm (g u) k = 0 := fun u k hk => by rw [hg]; exact prg_0 _ u k hk
  have L4 : ∀ (k : Nat), ∀ (i x : Nat), n - i < k → i ≤ n → x = fb_sm (fun u => fb_sm (g u) n) n → ∀ (H : Heap) (locs : List Loc) (ls : Array Slot), WI D (XW h ca (n, sr, tg, zr i a, r, cf, q, st)) (XT ca) A s s.heap H locs → lv_has ls 4 [(2, .int (nI i)), (1, .int (nI x)), (0, .ref (h 0))] → W p l e R s m args below meth c H locs 0 0 Q (F0 m 51 ls []) := by
    intro k
    induction k with
    | zero =>
      intro i x hk hi hx
      exact absurd hk (Nat.not_lt_zero _)
    | succ k ih =>
      intro i x hk hi hx H locs ls I hl
      refine lv_iload_n F.1 F.2.1 dX1_clear_51 rfl (lv_at hl 0 rfl) ?_
      refine lv_aload_n F.1 F.2.1 dX1_clear_52 rfl (lv_at hl 2 rfl) ?_
      refine xg_n F I dX1_clear_53 ?_
      refine nv_icmp_ge (tgt := 72) F.1 F.2.1 dX1_clear_56 (by decide) ⟨by omega, by omega⟩ (fun c1 => ?_) (fun c1 => ?_)
      · have e : i = n := by omega
        rw [e] at I
        refine lv_iload_n F.1 F.2.1 dX1_clear_72 rfl (lv_at hl 1 rfl) ?_
        exact ret _ _ _ _ ls _ ⟨by rw [hall, hx], rfl⟩ I dX1_clear_73
      · refine lv_aload_n F.1 F.2.1 dX1_clear_59 rfl (lv_at hl 2 rfl) ?_
        refine xg_near F I dX1_clear_60 ?_
        refine lv_iload_n F.1 F.2.1 dX1_clear_63 rfl (lv_at hl 0 rfl) ?_
        refine lv_iconst (v := nI 0) F.1 F.2.1 dX1_clear_64 (by decide) ?_
        refine xs_near (x := 0) F I dX1_clear_65 (by omega) (fun H locs I => ?_)
        refine nv_iinc (lv' := [(2, .int (nI (i + 1))), (1, .int (nI x)), (0, .ref (h 0))]) F.1 F.2.1 dX1_clear_66 hl (k := 0) rfl (by decide) rfl (fun ls hl => ?_)
        refine lv_goto (tgt := 51) F.1 F.2.1 dX1_clear_69 (by decide) ?_
        rw [zr_up] at I
        exact ih (i + 1) x (by omega) (by omega) hx _ _ _ I (lv_sub hl [0, 1, 2] rfl)
  have L : ∀ (k : Nat), ∀ (u x : Nat), n - u < k → u ≤ n → x = fb_sm (fun u => fb_sm (g u) n) u → ∀ (H : Heap) (locs : List Loc) (ls : Array Slot), WI D (XW h ca (n, sr, tg, a, r, cf, q, st)) (XT ca) A s s.heap H locs → lv_has ls 4 [(2, .int (nI u)), (1, .int (nI x)), (0, .ref (h 0))] → W p l e R s m args below meth c H locs 0 0 Q (F0 m 4 ls []) := by
    intro k
    induction k with
    | zero =>
      intro u x hk hu hx
      exact absurd hk (Nat.not_lt_zero _)
    | succ k ih =>
      intro u x hk hu hx H locs ls I hl
      have ihO := ih
      have L3 : ∀ (k : Nat), ∀ (v x : Nat), n - v < k → u + 1 ≤ v → v ≤ n → x = fb_sm (fun u => fb_sm (g u) n) u + fb_sm (g u) v → ∀ (H : Heap) (locs : List Loc) (ls : Array Slot), WI D (XW h ca (n, sr, tg, a, r, cf, q, st)) (XT ca) A s s.heap H locs → lv_has ls 4 [(3, .int (nI v)), (2, .int (nI u)), (1, .int (nI x)), (0, .ref (h 0))] → W p l e R s m args below meth c H locs 0 0 Q (F0 m 16 ls []) := by
        intro k
        induction k with
        | zero =>
          intro v x hk huv hvn hx
          exact absurd hk (Nat.not_lt_zero _)
        | succ k ih =>
          intro v x hk huv hvn hx H locs ls I hl
          refine lv_iload_n F.1 F.2.1 dX1_clear_16 rfl (lv_at hl 0 rfl) ?_
          refine lv_aload_n F.1 F.2.1 dX1_clear_17 rfl (lv_at hl 3 rfl) ?_
          refine xg_n F I dX1_clear_18 ?_
          refine nv_icmp_ge (tgt := 43) F.1 F.2.1 dX1_clear_21 (by decide) ⟨by omega, by omega⟩ (fun c1 => ?_) (fun c1 => ?_)
          · have e : v = n := by omega
            rw [e] at hx
            refine nv_iinc (lv' := [(2, .int (nI (u + 1))), (3, .int (nI v)), (1, .int (nI x)), (0, .ref (h 0))]) F.1 F.2.1 dX1_clear_43 hl (k := 1) rfl (by decide) rfl (fun ls hl => ?_)
            refine lv_goto (tgt := 4) F.1 F.2.1 dX1_clear_46 (by decide) ?_
            exact ihO (u + 1) x (by omega) (by omega) (by rw [fb_sm_succ]; exact hx) _ _ _ I (lv_sub hl [0, 2, 3] rfl)
          · refine lv_iload_n F.1 F.2.1 dX1_clear_24 rfl (lv_at hl 2 rfl) ?_
            refine lv_aload_n F.1 F.2.1 dX1_clear_25 rfl (lv_at hl 3 rfl) ?_
            refine xg_near F I dX1_clear_26 ?_
            refine lv_iload_n F.1 F.2.1 dX1_clear_29 rfl (lv_at hl 1 rfl) ?_
            refine xa_near F I dX1_clear_30 (by omega) ?_
            refine lv_iload_n F.1 F.2.1 dX1_clear_31 rfl (lv_at hl 0 rfl) ?_
            refine nv_bit F.1 F.2.1 dX1_clear_32 dX1_clear_33 dX1_clear_34 (hG.b31 hn (by omega)) (by omega) ?_
            refine nv_iadd F.1 F.2.1 dX1_clear_35 ?_
            refine lv_istore_n (lv' := [(1, .int (nI (x + (((a u).testBit v).toNat)))), (3, .int (nI v)), (2, .int (nI u)), (0, .ref (h 0))]) F.1 F.2.1 dX1_clear_36 rfl hl (by decide) rfl (fun ls hl => ?_)
            refine nv_iinc (lv' := [(3, .int (nI (v + 1))), (1, .int (nI (x + (((a u).testBit v).toNat)))), (2, .int (nI u)), (0, .ref (h 0))]) F.1 F.2.1 dX1_clear_37 hl (k := 1) rfl (by decide) rfl (fun ls hl => ?_)
            refine lv_goto (tgt := 16) F.1 F.2.1 dX1_clear_40 (by decide) ?_
            exact ih (v + 1) _ (by omega) (by omega) (by omega) (cnt_yes hx (by rw [hg]; exact prg_bit (by omega))) _ _ _ I (lv_sub hl [0, 2, 1, 3] rfl)
      refine lv_iload_n F.1 F.2.1 dX1_clear_4 rfl (lv_at hl 0 rfl) ?_
      refine lv_aload_n F.1 F.2.1 dX1_clear_5 rfl (lv_at hl 2 rfl) ?_
      refine xg_n F I dX1_clear_6 ?_
      refine nv_icmp_ge (tgt := 49) F.1 F.2.1 dX1_clear_9 (by decide) ⟨by omega, by omega⟩ (fun c1 => ?_) (fun c1 => ?_)
      · have e : u = n := by omega
        rw [e] at hx
        have I : WI D (XW h ca (n, sr, tg, zr 0 a, r, cf, q, st)) (XT ca) A s s.heap H locs := by rw [zr_0]; exact I
        refine lv_iconst (v := nI 0) F.1 F.2.1 dX1_clear_49 (by decide) ?_
        refine lv_istore_n (lv' := [(2, .int (nI 0)), (1, .int (nI x)), (0, .ref (h 0))]) F.1 F.2.1 dX1_clear_50 rfl hl (by decide) rfl (fun ls hl => ?_)
        exact L4 (n + 1) 0 x (by omega) (by omega) hx _ _ _ I (lv_sub hl [0, 1, 2] rfl)
      · refine lv_iload_n F.1 F.2.1 dX1_clear_12 rfl (lv_at hl 0 rfl) ?_
        refine lv_iconst (v := nI 1) F.1 F.2.1 dX1_clear_13 (by decide) ?_
        refine nv_iadd F.1 F.2.1 dX1_clear_14 ?_
        refine lv_istore_n (lv' := [(3, .int (nI (u + 1))), (2, .int (nI u)), (1, .int (nI x)), (0, .ref (h 0))]) F.1 F.2.1 dX1_clear_15 rfl hl (by decide) rfl (fun ls hl => ?_)
        exact L3 (n + 1) (u + 1) x (by omega) (by omega) (by omega) (by rw [hg0 u (u + 1) (Nat.le_refl _)]; exact hx) _ _ _ I (lv_sub hl [0, 1, 2, 3] rfl)
  refine lv_iconst (v := nI 0) F.1 F.2.1 dX1_clear_0 (by decide) ?_
  refine lv_istore_n (lv' := [(1, .int (nI 0)), (0, .ref (h 0))]) F.1 F.2.1 dX1_clear_1 rfl hl (by decide) rfl (fun ls hl => ?_)
  refine lv_iconst (v := nI 0) F.1 F.2.1 dX1_clear_2 (by decide) ?_
  refine lv_istore_n (lv' := [(2, .int (nI 0)), (1, .int (nI 0)), (0, .ref (h 0))]) F.1 F.2.1 dX1_clear_3 rfl hl (by decide) rfl (fun ls hl => ?_)
  exact L (n + 1) 0 0 (by omega) (by omega) rfl _ _ _ I (lv_sub hl [0, 1, 2] rfl)
end
section
/-! DisjointPaths: reach, distance, firstCut -/
set_option maxHeartbeats 8000000 in
set_option maxRecDepth 100000 in
theorem met_reach (l : Launch) (D : va_G) (h : Nat → Nat) (ca : Nat → ClassId) (n sr tg : Nat) (a r : Nat → Nat) (cf : Nat → Option Nat) (q : Nat → Nat) (st : Nat → Option Nat) (u d : Nat) (hn : n ≤ 8) (hu : u < n) (ha : a u < 2 ^ 31) (hb : ∀ v k, v < n → st v = some k → k < 2 ^ 31) (hd : d < 2 ^ 31) : WMv l yX1_reach (ws_ yX1_reach cX1_reach 4 none) ({ frames := 1, cells := 0, slots := 0, locals := 22 } : Room) D (XW h ca (n, sr, tg, a, r, cf, q, st)) (XW h ca) (XT ca) [.ref (h 0), .int (nI u), .int (nI d)] (fun u' => ∃ st2 : Nat → Option Nat, (∀ v, v < n → st2 v = if mb (a u) v ∧ st v = none then some d else st v) ∧ u' = (n, sr, tg, a, r, cf, q, st2)) := by
  refine wm_v (by decide) (Nat.le_of_ble_eq_true rfl) ?_
  intro p e R s m args below meth c ls A Q hR F ret I hl
  have hl : lv_has ls 4 [(0, .ref (h 0)), (1, .int (nI u)), (2, .int (nI d))] := hl
  have L : ∀ (k : Nat), ∀ (i : Nat) (st2 : Nat → Option Nat), n - i < k → i ≤ n → (∀ v, v < n → st2 v = if v < i ∧ mb (a u) v ∧ st v = none then some d else st v) → ∀ (H : Heap) (locs : List Loc) (ls : Array Slot), WI D (XW h ca (n, sr, tg, a, r, cf, q, st2)) (XT ca) A s s.heap H locs → lv_has ls 4 [(3, .int (nI i)), (0, .ref (h 0)), (1, .int (nI u)), (2, .int (nI d))] → W p l e R s m args below meth c H locs 0 0 Q (F0 m 2 ls []) := by
    intro k
    induction k with
    | zero =>
      intro i st2 hk hi hinv
      exact absurd hk (Nat.not_lt_zero _)
    | succ k ih =>
      intro i st2 hk hi hinv H locs ls I hl
      refine lv_iload_n F.1 F.2.1 dX1_reach_2 rfl (lv_at hl 0 rfl) ?_
      refine lv_aload_n F.1 F.2.1 dX1_reach_3 rfl (lv_at hl 1 rfl) ?_
      refine xg_n F I dX1_reach_4 ?_
      refine nv_icmp_ge (tgt := 41) F.1 F.2.1 dX1_reach_7 (by decide) ⟨by omega, by omega⟩ (fun c1 => ?_) (fun c1 => ?_)
      · have hinv2 : ∀ v, v < n → st2 v = if mb (a u) v ∧ st v = none then some d else st v := fun v hv => by
          rw [hinv v hv]
          by_cases e : mb (a u) v ∧ st v = none
          · rw [if_pos ⟨by omega, e⟩, if_pos e]
          · rw [if_neg (fun z => e z.2), if_neg e]
        exact ret _ _ _ ls _ ⟨st2, hinv2, rfl⟩ I dX1_reach_41
      · have hsti : st2 i = st i := by rw [hinv i c1, if_neg (fun z => by omega)]
        refine lv_aload_n F.1 F.2.1 dX1_reach_10 rfl (lv_at hl 1 rfl) ?_
        refine lv_iload_n F.1 F.2.1 dX1_reach_11 rfl (lv_at hl 2 rfl) ?_
        refine lv_iload_n F.1 F.2.1 dX1_reach_12 rfl (lv_at hl 0 rfl) ?_
        refine xk_linked F I hl dX1_reach_13 ⟨by rw [hR]; decide, by rw [hR]; decide⟩ (Nat.le_of_ble_eq_true rfl) ⟨Nat.zero_le _, Nat.zero_le _⟩ (by omega) (by omega) ha (fun H locs I => ?_)
        refine nb_if_eq (tgt := 35) F.1 F.2.1 dX1_reach_16 (by decide) (fun c2 => ?_) (fun c2 => ?_)
        · refine nv_iinc (lv' := [(3, .int (nI (i + 1))), (0, .ref (h 0)), (1, .int (nI u)), (2, .int (nI d))]) F.1 F.2.1 dX1_reach_35 hl (k := 0) rfl (by decide) rfl (fun ls hl => ?_)
          refine lv_goto (tgt := 2) F.1 F.2.1 dX1_reach_38 (by decide) ?_
          exact ih (i + 1) st2 (by omega) (by omega) (fun v hv => by
            rw [hinv v hv]
            by_cases e : v < i ∧ mb (a u) v ∧ st v = none
            · rw [if_pos e, if_pos ⟨by omega, e.2⟩]
            · rw [if_neg e, if_neg]
              intro z
              by_cases e2 : v = i
              · subst e2; have := z.2.1; rw [mb, c2] at this; cases this
              · exact e ⟨by omega, z.2⟩) _ _ _ I (lv_sub hl [0, 1, 2, 3] rfl)
        · refine lv_aload_n F.1 F.2.1 dX1_reach_19 rfl (lv_at hl 1 rfl) ?_
          refine xg_steps F I dX1_reach_20 ?_
          refine lv_iload_n F.1 F.2.1 dX1_reach_23 rfl (lv_at hl 0 rfl) ?_
          refine xa_steps F I dX1_reach_24 (by omega) ?_
          refine no_if_ge (tgt := 35) F.1 F.2.1 dX1_reach_25 (by decide) (fun z hz => hb i z c1 (by rw [← hsti]; exact hz)) (fun z c3 => ?_) (fun c3 => ?_)
          · refine nv_iinc (lv' := [(3, .int (nI (i + 1))), (0, .ref (h 0)), (1, .int (nI u)), (2, .int (nI d))]) F.1 F.2.1 dX1_reach_35 hl (k := 0) rfl (by decide) rfl (fun ls hl => ?_)
            refine lv_goto (tgt := 2) F.1 F.2.1 dX1_reach_38 (by decide) ?_
            exact ih (i + 1) st2 (by omega) (by omega) (fun v hv => by
              rw [hinv v hv]
              by_cases e : v < i ∧ mb (a u) v ∧ st v = none
              · rw [if_pos e, if_pos ⟨by omega, e.2⟩]
              · rw [if_neg e, if_neg]
                intro z
                by_cases e2 : v = i
                · subst e2; rw [← hsti, c3] at z; exact absurd z.2.2 (fun w => by cases w)
                · exact e ⟨by omega, z.2⟩) _ _ _ I (lv_sub hl [0, 1, 2, 3] rfl)
          · refine lv_aload_n F.1 F.2.1 dX1_reach_28 rfl (lv_at hl 1 rfl) ?_
            refine xg_steps F I dX1_reach_29 ?_
            refine lv_iload_n F.1 F.2.1 dX1_reach_32 rfl (lv_at hl 0 rfl) ?_
            refine lv_iload_n F.1 F.2.1 dX1_reach_33 rfl (lv_at hl 3 rfl) ?_
            refine xs_steps (x := some d) F I dX1_reach_34 (by omega) (fun H locs I => ?_)
            refine nv_iinc (lv' := [(3, .int (nI (i + 1))), (0, .ref (h 0)), (1, .int (nI u)), (2, .int (nI d))]) F.1 F.2.1 dX1_reach_35 hl (k := 0) rfl (by decide) rfl (fun ls hl => ?_)
            refine lv_goto (tgt := 2) F.1 F.2.1 dX1_reach_38 (by decide) ?_
            exact ih (i + 1) _ (by omega) (by omega) (fun v hv => by
              by_cases e2 : v = i
              · subst e2
                rw [va_up_self, if_pos ⟨by omega, c2, by rw [← hsti]; exact c3⟩]
              · rw [va_up_ne _ _ e2, hinv v hv]
                by_cases e : v < i ∧ mb (a u) v ∧ st v = none
                · rw [if_pos e, if_pos ⟨by omega, e.2⟩]
                · rw [if_neg e, if_neg (fun z => e ⟨by omega, z.2⟩)]) _ _ _ I (lv_sub hl [0, 1, 2, 3] rfl)
  refine lv_iconst (v := nI 0) F.1 F.2.1 dX1_reach_0 (by decide) ?_
  refine lv_istore_n (lv' := [(3, .int (nI 0)), (0, .ref (h 0)), (1, .int (nI u)), (2, .int (nI d))]) F.1 F.2.1 dX1_reach_1 rfl hl (by decide) rfl (fun ls hl => ?_)
  exact L (n + 1) 0 st (by omega) (by omega) (fun v hv => by rw [if_neg (fun z => by omega)]) _ _ _ I (lv_sub hl [0, 1, 2, 3] rfl)
section XA
variable {p : Program} {l : Launch} {e : Env} {R : Room} {s : State} {m : MethodId} {args : Array Value} {below : List Frame} {meth : Method} {c : Code} {H : Heap} {locs : List Loc} {cells slots : Nat} {Q : State → Prop} {pc : Nat} {ls : Array Slot} {rest : List Value} {cc : ByteArray} {nL : Nat} {D : va_G} {A : Nat → Prop} {H0 : Heap} {h : Nat → Nat} {ca : Nat → ClassId} {lv : List (Nat × Value)} 
theorem xk_reach {n sr tg : Nat} {a r : Nat → Nat} {cf : Nat → Option Nat} {q : Nat → Nat} {st : Nat → Option Nat} {u d : Nat} (F : CallFix p m c cc nL s args lw_all RX1) (I : WI D (XW h ca (n, sr, tg, a, r, cf, q, st)) (XT ca) A s H0 H locs) (hl : lv_has ls nL lv) (hdg : decode cc pc = .ok (.invokevirtual 73, 3)) (hR : 2 ≤ R.frames ∧ 45 ≤ R.locals) (hroom : (rest.map fun v => v.category).sum ≤ 8) (hf : cells ≤ R.cells ∧ slots ≤ R.slots) (hn : n ≤ 8) (hu : u < n) (ha : a u < 2 ^ 31) (hb : ∀ v k, v < n → st v = some k → k < 2 ^ 31) (hd : d < 2 ^ 31) (kk : ∀ (st2 : Nat → Option Nat), (∀ v, v < n → st2 v = if mb (a u) v ∧ st v = none then some d else st v) → ∀ (H1 : Heap) (locs1 : List Loc), WI D (XW h ca (n, sr, tg, a, r, cf, q, st2)) (XT ca) A s H0 H1 locs1 → W p l e R s m args below meth c H1 locs1 cells slots Q (F0 m (pc + 3) ls (rest))) : W p l e R s m args below meth c H locs cells slots Q (F0 m pc ls (.int (nI d) :: .int (nI u) :: .ref (h 0) :: rest)) :=
  wc_v F I (met_reach l D h ca n sr tg a r cf q st u d hn hu ha hb hd) (cwV 2 F.2.2.2.2 (lw_V q151 q153 qs11 q23 q154) rfl rfl rfl (by decide +kernel) hR) (x_recv I) hl rfl rfl hroom hdg hf (fun u H1 locs1 hp I => by
    obtain ⟨st2, h2, rfl⟩ := hp; exact kk st2 h2 H1 locs1 I)

end XA
set_option maxHeartbeats 8000000 in
set_option maxRecDepth 100000 in
theorem met_distance (l : Launch) (D : va_G) (h : Nat → Nat) (ca : Nat → ClassId) (n sr tg : Nat) (a r : Nat → Nat) (cf : Nat → Option Nat) (q : Nat → Nat) (st : Nat → Option Nat) (hn : n ≤ 8) (hs : sr < n) (ht : tg < n) (hst : sr ≠ tg) (hG : Gok n a) : WMi l yX1_distance (ws_ yX1_distance cX1_distance 3 (some .int)) ({ frames := 2, cells := 0, slots := 0, locals := 45 } : Room) D (XW h ca (n, sr, tg, a, r, cf, q, st)) (XW h ca) (XT ca) [.ref (h 0)] (fun r' u' => ∃ (o : Option Nat) (st2 : Nat → Option Nat), dst n a sr tg o ∧ r' = oD o ∧ u' = (n, sr, tg, a, r, cf, q, st2)) := by
  refine wm_i (by decide) (Nat.le_of_ble_eq_true rfl) ?_
  intro p e R s m args below meth c ls A Q hR F ret I hl
  have hl : lv_has ls 3 [(0, .ref (h 0))] := hl
  have K : ∀ (d : Nat) (st2 : Nat → Option Nat), d ≤ n → Ds n a sr d st2 → (n ≤ d ∨ st2 tg ≠ none) → ∀ (H : Heap) (locs : List Loc) (ls : Array Slot), WI D (XW h ca (n, sr, tg, a, r, cf, q, st2)) (XT ca) A s s.heap H locs → lv_has ls 3 [(0, .ref (h 0))] → W p l e R s m args below meth c H locs 0 0 Q (F0 m 95 ls []) := by
    intro d st2 hdn hD hor H locs ls I hl
    refine lv_aload_n F.1 F.2.1 dX1_distance_95 rfl (lv_at hl 0 rfl) ?_
    refine xg_steps F I dX1_distance_96 ?_
    refine lv_aload_n F.1 F.2.1 dX1_distance_99 rfl (lv_at hl 0 rfl) ?_
    refine xg_t F I dX1_distance_100 ?_
    refine xa_steps F I dX1_distance_103 (by omega) ?_
    refine no_if_ge (tgt := 112) F.1 F.2.1 dX1_distance_104 (by decide) (fun z hz => Nat.lt_of_le_of_lt (hD.val ht hz) (by omega)) (fun z c1 => ?_) (fun c1 => ?_)
    · refine lv_aload_n F.1 F.2.1 dX1_distance_112 rfl (lv_at hl 0 rfl) ?_
      refine xg_steps F I dX1_distance_113 ?_
      refine lv_aload_n F.1 F.2.1 dX1_distance_116 rfl (lv_at hl 0 rfl) ?_
      refine xg_t F I dX1_distance_117 ?_
      refine xa_steps F I dX1_distance_120 (by omega) ?_
      exact ret _ _ _ _ ls _ ⟨some z, st2, hD.found hn hs hG ht c1, by rw [c1]; rfl, rfl⟩ I dX1_distance_121
    · have hnd : n ≤ d := by
        rcases hor with z | z
        · exact z
        · exact absurd c1 z
      refine lv_bipush (v := -4) F.1 F.2.1 dX1_distance_107 (by decide) ?_
      refine lv_goto (tgt := 121) F.1 F.2.1 dX1_distance_109 (by decide) ?_
      exact ret _ _ _ _ ls _ ⟨none, st2, hD.none hnd ht c1, rfl, rfl⟩ I dX1_distance_121
  have L2 : ∀ (k : Nat), ∀ (d : Nat) (st2 : Nat → Option Nat), n - d < k → d ≤ n → Ds n a sr d st2 → ∀ (H : Heap) (locs : List Loc) (ls : Array Slot), WI D (XW h ca (n, sr, tg, a, r, cf, q, st2)) (XT ca) A s s.heap H locs → lv_has ls 3 [(1, .int (nI d)), (0, .ref (h 0))] → W p l e R s m args below meth c H locs 0 0 Q (F0 m 35 ls []) := by
    intro k
    induction k with
    | zero =>
      intro d st2 hk hd hD
      exact absurd hk (Nat.not_lt_zero _)
    | succ k ih =>
      intro d st2 hk hd hD H locs ls I hl
      have ihO := ih
      have L3 : ∀ (k : Nat), ∀ (i : Nat) (st2 : Nat → Option Nat), n - i < k → d < n → i ≤ n → Di n a sr d i st2 → ∀ (H : Heap) (locs : List Loc) (ls : Array Slot), WI D (XW h ca (n, sr, tg, a, r, cf, q, st2)) (XT ca) A s s.heap H locs → lv_has ls 3 [(2, .int (nI i)), (1, .int (nI d)), (0, .ref (h 0))] → W p l e R s m args below meth c H locs 0 0 Q (F0 m 57 ls []) := by
        intro k
        induction k with
        | zero =>
          intro i st2 hk hd hi hD
          exact absurd hk (Nat.not_lt_zero _)
        | succ k ih =>
          intro i st2 hk hd hi hD H locs ls I hl
          refine lv_iload_n F.1 F.2.1 dX1_distance_57 rfl (lv_at hl 0 rfl) ?_
          refine lv_aload_n F.1 F.2.1 dX1_distance_58 rfl (lv_at hl 2 rfl) ?_
          refine xg_n F I dX1_distance_59 ?_
          refine nv_icmp_ge (tgt := 89) F.1 F.2.1 dX1_distance_62 (by decide) ⟨by omega, by omega⟩ (fun c1 => ?_) (fun c1 => ?_)
          · have e : i = n := by omega
            rw [e] at hD
            refine nv_iinc (lv' := [(1, .int (nI (d + 1))), (2, .int (nI i)), (0, .ref (h 0))]) F.1 F.2.1 dX1_distance_89 hl (k := 1) rfl (by decide) rfl (fun ls hl => ?_)
            refine lv_goto (tgt := 35) F.1 F.2.1 dX1_distance_92 (by decide) ?_
            exact ihO (d + 1) st2 (by omega) (by omega) hD.close _ _ _ I (lv_sub hl [0, 2] rfl)
          · refine lv_aload_n F.1 F.2.1 dX1_distance_65 rfl (lv_at hl 2 rfl) ?_
            refine xg_steps F I dX1_distance_66 ?_
            refine lv_iload_n F.1 F.2.1 dX1_distance_69 rfl (lv_at hl 0 rfl) ?_
            refine xa_steps F I dX1_distance_70 (by omega) ?_
            refine lv_iload_n F.1 F.2.1 dX1_distance_71 rfl (lv_at hl 1 rfl) ?_
            refine lv_icmp_ne (tgt := 83) F.1 F.2.1 dX1_distance_72 (by decide) (fun c2 => ?_) (fun c2 => ?_)
            · refine nv_iinc (lv' := [(2, .int (nI (i + 1))), (1, .int (nI d)), (0, .ref (h 0))]) F.1 F.2.1 dX1_distance_83 hl (k := 0) rfl (by decide) rfl (fun ls hl => ?_)
              refine lv_goto (tgt := 57) F.1 F.2.1 dX1_distance_86 (by decide) ?_
              exact ih (i + 1) st2 (by omega) hd (by omega) (hD.skip c1 (fun z => c2 ((oI_eq (fun z hz => Nat.lt_of_le_of_lt (hD.val c1 hz) (by omega)) (by omega)).mpr z))) _ _ _ I (lv_sub hl [0, 1, 2] rfl)
            · have c3 := (oI_eq (fun z hz => Nat.lt_of_le_of_lt (hD.val c1 hz) (by omega)) (by omega)).mp c2
              refine lv_aload_n F.1 F.2.1 dX1_distance_75 rfl (lv_at hl 2 rfl) ?_
              refine lv_iload_n F.1 F.2.1 dX1_distance_76 rfl (lv_at hl 0 rfl) ?_
              refine lv_iload_n F.1 F.2.1 dX1_distance_77 rfl (lv_at hl 1 rfl) ?_
              refine lv_iconst (v := nI 1) F.1 F.2.1 dX1_distance_78 (by decide) ?_
              refine nv_iadd F.1 F.2.1 dX1_distance_79 ?_
              refine xk_reach F I hl dX1_distance_80 ⟨by rw [hR]; decide, by rw [hR]; decide⟩ (Nat.le_of_ble_eq_true rfl) ⟨Nat.zero_le _, Nat.zero_le _⟩ hn c1 (hG.b31 hn c1) (fun v k hv hz => Nat.lt_of_le_of_lt (hD.val hv hz) (by omega)) (by omega) (fun st3 h3 H locs I => ?_)
              refine nv_iinc (lv' := [(2, .int (nI (i + 1))), (1, .int (nI d)), (0, .ref (h 0))]) F.1 F.2.1 dX1_distance_83 hl (k := 0) rfl (by decide) rfl (fun ls hl => ?_)
              refine lv_goto (tgt := 57) F.1 F.2.1 dX1_distance_86 (by decide) ?_
              exact ih (i + 1) st3 (by omega) hd (by omega) (hD.step c1 c3 h3) _ _ _ I (lv_sub hl [0, 1, 2] rfl)
      refine lv_iload_n F.1 F.2.1 dX1_distance_35 rfl (lv_at hl 0 rfl) ?_
      refine lv_aload_n F.1 F.2.1 dX1_distance_36 rfl (lv_at hl 1 rfl) ?_
      refine xg_n F I dX1_distance_37 ?_
      refine nv_icmp_ge (tgt := 95) F.1 F.2.1 dX1_distance_40 (by decide) ⟨by omega, by omega⟩ (fun c1 => ?_) (fun c1 => ?_)
      · exact K d st2 hd hD (Or.inl c1) _ _ _ I (lv_sub hl [1] rfl)
      · refine lv_aload_n F.1 F.2.1 dX1_distance_43 rfl (lv_at hl 1 rfl) ?_
        refine xg_steps F I dX1_distance_44 ?_
        refine lv_aload_n F.1 F.2.1 dX1_distance_47 rfl (lv_at hl 1 rfl) ?_
        refine xg_t F I dX1_distance_48 ?_
        refine xa_steps F I dX1_distance_51 (by omega) ?_
        refine no_if_ge (tgt := 95) F.1 F.2.1 dX1_distance_52 (by decide) (fun z hz => Nat.lt_of_le_of_lt (hD.val ht hz) (by omega)) (fun z c2 => ?_) (fun c2 => ?_)
        · exact K d st2 hd hD (Or.inr (by rw [c2]; exact fun w => by cases w)) _ _ _ I (lv_sub hl [1] rfl)
        · refine lv_iconst (v := nI 0) F.1 F.2.1 dX1_distance_55 (by decide) ?_
          refine lv_istore_n (lv' := [(2, .int (nI 0)), (1, .int (nI d)), (0, .ref (h 0))]) F.1 F.2.1 dX1_distance_56 rfl hl (by decide) rfl (fun ls hl => ?_)
          exact L3 (n + 1) 0 st2 (by omega) c1 (by omega) hD.opn _ _ _ I (lv_sub hl [0, 1, 2] rfl)
  have L1 : ∀ (k : Nat), ∀ (i : Nat) (st2 : Nat → Option Nat), n - i < k → i ≤ n → (∀ v, v < i → st2 v = none) → ∀ (H : Heap) (locs : List Loc) (ls : Array Slot), WI D (XW h ca (n, sr, tg, a, r, cf, q, st2)) (XT ca) A s s.heap H locs → lv_has ls 3 [(1, .int (nI i)), (0, .ref (h 0))] → W p l e R s m args below meth c H locs 0 0 Q (F0 m 2 ls []) := by
    intro k
    induction k with
    | zero =>
      intro i st2 hk hi hinv
      exact absurd hk (Nat.not_lt_zero _)
    | succ k ih =>
      intro i st2 hk hi hinv H locs ls I hl
      refine lv_iload_n F.1 F.2.1 dX1_distance_2 rfl (lv_at hl 0 rfl) ?_
      refine lv_aload_n F.1 F.2.1 dX1_distance_3 rfl (lv_at hl 1 rfl) ?_
      refine xg_n F I dX1_distance_4 ?_
      refine nv_icmp_ge (tgt := 23) F.1 F.2.1 dX1_distance_7 (by decide) ⟨by omega, by omega⟩ (fun c1 => ?_) (fun c1 => ?_)
      · refine lv_aload_n F.1 F.2.1 dX1_distance_23 rfl (lv_at hl 1 rfl) ?_
        refine xg_steps F I dX1_distance_24 ?_
        refine lv_aload_n F.1 F.2.1 dX1_distance_27 rfl (lv_at hl 1 rfl) ?_
        refine xg_s F I dX1_distance_28 ?_
        refine lv_iconst (v := nI 0) F.1 F.2.1 dX1_distance_31 (by decide) ?_
        refine xs_steps (x := some 0) F I dX1_distance_32 (by omega) (fun H locs I => ?_)
        refine lv_iconst (v := nI 0) F.1 F.2.1 dX1_distance_33 (by decide) ?_
        refine lv_istore_n (lv' := [(1, .int (nI 0)), (0, .ref (h 0))]) F.1 F.2.1 dX1_distance_34 rfl hl (by decide) rfl (fun ls hl => ?_)
        exact L2 (n + 1) 0 _ (by omega) (by omega) (Ds.start (fun v hv => hinv v (by omega))) _ _ _ I (lv_sub hl [0, 1] rfl)
      · refine lv_aload_n F.1 F.2.1 dX1_distance_10 rfl (lv_at hl 1 rfl) ?_
        refine xg_steps F I dX1_distance_11 ?_
        refine lv_iload_n F.1 F.2.1 dX1_distance_14 rfl (lv_at hl 0 rfl) ?_
        refine lv_iconst (v := -1) F.1 F.2.1 dX1_distance_15 (by decide) ?_
        refine xs_steps (x := none) F I dX1_distance_16 (by omega) (fun H locs I => ?_)
        refine nv_iinc (lv' := [(1, .int (nI (i + 1))), (0, .ref (h 0))]) F.1 F.2.1 dX1_distance_17 hl (k := 0) rfl (by decide) rfl (fun ls hl => ?_)
        refine lv_goto (tgt := 2) F.1 F.2.1 dX1_distance_20 (by decide) ?_
        exact ih (i + 1) _ (by omega) (by omega) (fun j hj => by
          by_cases e : j = i
          · subst e; rw [va_up_self]
          · rw [va_up_ne _ _ e]; exact hinv j (by omega)) _ _ _ I (lv_sub hl [0, 1] rfl)
  refine lv_iconst (v := nI 0) F.1 F.2.1 dX1_distance_0 (by decide) ?_
  refine lv_istore_n (lv' := [(1, .int (nI 0)), (0, .ref (h 0))]) F.1 F.2.1 dX1_distance_1 rfl hl (by decide) rfl (fun ls hl => ?_)
  exact L1 (n + 1) 0 st (by omega) (by omega) (fun j hj => by omega) _ _ _ I (lv_sub hl [0, 1] rfl)
set_option maxHeartbeats 8000000 in
set_option maxRecDepth 100000 in
theorem met_firstCut (l : Launch) (D : va_G) (h : Nat → Nat) (ca : Nat → ClassId) (n sr tg : Nat) (a r : Nat → Nat) (cf : Nat → Option Nat) (q : Nat → Nat) (st : Nat → Option Nat) (hn : n ≤ 8) (hs : sr < n) (ht : tg < n) (hst : sr ≠ tg) (hG : Gok n a) : WMi l yX1_firstCut (ws_ yX1_firstCut cX1_firstCut 6 (some .int)) ({ frames := 4, cells := 0, slots := 0, locals := 94 } : Room) D (XW h ca (n, sr, tg, a, r, cf, q, st)) (XW h ca) (XT ca) [.ref (h 0)] (fun r' u' => ∃ (r2 : Nat → Nat) (cf2 : Nat → Option Nat) (q2 : Nat → Nat), ((mb (a sr) tg ∧ r' = -4) ∨ (¬ mb (a sr) tg ∧ ∃ C, IsLC n sr tg a 0 C ∧ r' = nI C)) ∧ u' = (n, sr, tg, a, r2, cf2, q2, st)) := by
  refine wm_i (by decide) (Nat.le_of_ble_eq_true rfl) ?_
  intro p e R s m args below meth c ls A Q hR F ret I hl
  have hl : lv_has ls 6 [(0, .ref (h 0))] := hl
  refine lv_aload_n F.1 F.2.1 dX1_firstCut_0 rfl (lv_at hl 0 rfl) ?_
  refine lv_aload_n F.1 F.2.1 dX1_firstCut_1 rfl (lv_at hl 0 rfl) ?_
  refine xg_s F I dX1_firstCut_2 ?_
  refine lv_aload_n F.1 F.2.1 dX1_firstCut_5 rfl (lv_at hl 0 rfl) ?_
  refine xg_t F I dX1_firstCut_6 ?_
  refine xk_linked F I hl dX1_firstCut_9 ⟨by rw [hR]; decide, by rw [hR]; decide⟩ (Nat.le_of_ble_eq_true rfl) ⟨Nat.zero_le _, Nat.zero_le _⟩ (by omega) (by omega) (hG.b31 hn hs) (fun H locs I => ?_)
  refine nb_if_eq (tgt := 18) F.1 F.2.1 dX1_firstCut_12 (by decide) (fun c1 => ?_) (fun c1 => ?_)
  · have hd : ¬ mb (a sr) tg := by rw [mb, c1]; decide
    obtain ⟨C, hC⟩ := IsLC.ex (wi := 0) ⟨_, fun v z => absurd z mb_0, cut_all n sr tg a 0⟩
    have L : ∀ (k : Nat), ∀ (i sh fi left : Nat) (r2 : Nat → Nat) (cf2 : Nat → Option Nat) (q2 : Nat → Nat), i < k → i ≤ n → FC n sr tg C i sh fi left → ∀ (H : Heap) (locs : List Loc) (ls : Array Slot), WI D (XW h ca (n, sr, tg, a, r2, cf2, q2, st)) (XT ca) A s s.heap H locs → lv_has ls 6 [(4, .int (pI i)), (3, .int (nI fi)), (2, .int (nI sh)), (1, .int (nI left)), (0, .ref (h 0))] → W p l e R s m args below meth c H locs 0 0 Q (F0 m 37 ls []) := by
      intro k
      induction k with
      | zero =>
        intro i sh fi left r2 cf2 q2 hk hi hF
        exact absurd hk (Nat.not_lt_zero _)
      | succ k ih =>
        intro i sh fi left r2 cf2 q2 hk hi hF H locs ls I hl
        obtain ⟨b1, b2, b3, b4⟩ := hF.small hn hC
        have b5 := pc_le C
        have b6 := hF.2.2
        rcases i with _ | i
        · refine lv_iload F.1 F.2.1 dX1_firstCut_37 (lv_at hl 0 rfl) ?_
          refine lv_if_lt (tgt := 105) F.1 F.2.1 dX1_firstCut_39 (by decide) (fun c2 => ?_) (fun c2 => ?_)
          · refine lv_iload_n F.1 F.2.1 dX1_firstCut_105 rfl (lv_at hl 2 rfl) ?_
            exact ret _ _ _ _ ls _ ⟨r2, cf2, q2, Or.inr ⟨hd, C, hC, by rw [hF.done]⟩, rfl⟩ I dX1_firstCut_106
          · exact absurd (by rw [pI_0]; decide) c2
        · have hl : lv_has ls 6 [(4, .int (nI i)), (3, .int (nI fi)), (2, .int (nI sh)), (1, .int (nI left)), (0, .ref (h 0))] := by rw [pI_s] at hl; exact hl
          refine lv_iload F.1 F.2.1 dX1_firstCut_37 (lv_at hl 0 rfl) ?_
          refine lv_if_lt (tgt := 105) F.1 F.2.1 dX1_firstCut_39 (by decide) (fun c2 => ?_) (fun c2 => ?_)
          · exact absurd c2 (nI_pos (by omega))
          · refine lv_iload F.1 F.2.1 dX1_firstCut_42 (lv_at hl 0 rfl) ?_
            refine lv_aload_n F.1 F.2.1 dX1_firstCut_44 rfl (lv_at hl 4 rfl) ?_
            refine xg_s F I dX1_firstCut_45 ?_
            refine nv_icmp_eq (tgt := 99) F.1 F.2.1 dX1_firstCut_48 (by decide) ⟨by omega, by omega⟩ (fun c3 => ?_) (fun c3 => ?_)
            · refine nv_pdec (lv' := [(4, .int (pI i)), (3, .int (nI fi)), (2, .int (nI sh)), (1, .int (nI left)), (0, .ref (h 0))]) F.1 F.2.1 dX1_firstCut_99 hl (k := 0) rfl (by decide) rfl (fun ls hl => ?_)
              refine lv_goto (tgt := 37) F.1 F.2.1 dX1_firstCut_102 (by decide) ?_
              exact ih i sh fi left _ _ _ (by omega) (by omega) (hF.skip hC (Or.inl c3)) _ _ _ I (lv_sub hl [0, 1, 2, 3, 4] rfl)
            · refine lv_iload F.1 F.2.1 dX1_firstCut_51 (lv_at hl 0 rfl) ?_
              refine lv_aload_n F.1 F.2.1 dX1_firstCut_53 rfl (lv_at hl 4 rfl) ?_
              refine xg_t F I dX1_firstCut_54 ?_
              refine nv_icmp_eq (tgt := 99) F.1 F.2.1 dX1_firstCut_57 (by decide) ⟨by omega, by omega⟩ (fun c4 => ?_) (fun c4 => ?_)
              · refine nv_pdec (lv' := [(4, .int (pI i)), (3, .int (nI fi)), (2, .int (nI sh)), (1, .int (nI left)), (0, .ref (h 0))]) F.1 F.2.1 dX1_firstCut_99 hl (k := 0) rfl (by decide) rfl (fun ls hl => ?_)
                refine lv_goto (tgt := 37) F.1 F.2.1 dX1_firstCut_102 (by decide) ?_
                exact ih i sh fi left _ _ _ (by omega) (by omega) (hF.skip hC (Or.inr c4)) _ _ _ I (lv_sub hl [0, 1, 2, 3, 4] rfl)
              · have b7 : fi ||| 2 ^ i < 2 ^ 31 := Nat.or_lt_two_pow (by omega) (Nat.pow_lt_pow_right (by decide) (by omega))
                refine lv_aload_n F.1 F.2.1 dX1_firstCut_60 rfl (lv_at hl 4 rfl) ?_
                refine lv_iload_n F.1 F.2.1 dX1_firstCut_61 rfl (lv_at hl 2 rfl) ?_
                refine lv_iload_n F.1 F.2.1 dX1_firstCut_62 rfl (lv_at hl 1 rfl) ?_
                refine lv_iconst (v := nI 1) F.1 F.2.1 dX1_firstCut_63 (by decide) ?_
                refine lv_iload F.1 F.2.1 dX1_firstCut_64 (lv_at hl 0 rfl) ?_
                refine nv_one F.1 F.2.1 dX1_firstCut_66 (by omega) ?_
                refine nv_ior F.1 F.2.1 dX1_firstCut_67 ?_
                refine xk_flow F I hl dX1_firstCut_68 ⟨by rw [hR]; decide, by rw [hR]; decide⟩ (Nat.le_of_ble_eq_true rfl) ⟨Nat.zero_le _, Nat.zero_le _⟩ hn hs ht hst hG (by omega) b7 b3 b4 (fun r3 cf3 q3 H locs I => ?_)
                have b8 := fl_le (n := n) (s := sr) (t := tg) (a := a) (sh := sh) (fi := fi ||| 2 ^ i)
                have htell := hF.tell hn hd hC (by omega) c3 c4
                refine lv_istore (lv' := [(5, .int (nI (fl n sr tg a sh (fi ||| 2 ^ i)))), (4, .int (nI i)), (3, .int (nI fi)), (2, .int (nI sh)), (1, .int (nI left)), (0, .ref (h 0))]) F.1 F.2.1 dX1_firstCut_71 hl (by decide) rfl (fun ls hl => ?_)
                refine lv_iload F.1 F.2.1 dX1_firstCut_73 (lv_at hl 0 rfl) ?_
                refine lv_iload_n F.1 F.2.1 dX1_firstCut_75 rfl (lv_at hl 4 rfl) ?_
                refine nv_icmp_ne (tgt := 89) F.1 F.2.1 dX1_firstCut_76 (by decide) ⟨by omega, by omega⟩ (fun c5 => ?_) (fun c5 => ?_)
                · have hm : mb C i := Classical.byContradiction fun z => c5 (htell.mpr z)
                  have hp := hF.pos hn (by omega) hm
                  obtain ⟨lf, elf⟩ : ∃ z, left = z + 1 := ⟨left - 1, by omega⟩
                  subst elf
                  refine lv_iload_n F.1 F.2.1 dX1_firstCut_89 rfl (lv_at hl 3 rfl) ?_
                  refine lv_iconst (v := nI 1) F.1 F.2.1 dX1_firstCut_90 (by decide) ?_
                  refine lv_iload F.1 F.2.1 dX1_firstCut_91 (lv_at hl 1 rfl) ?_
                  refine nv_one F.1 F.2.1 dX1_firstCut_93 (by omega) ?_
                  refine nv_ior F.1 F.2.1 dX1_firstCut_94 ?_
                  refine lv_istore_n (lv' := [(2, .int (nI (sh ||| (2 ^ i)))), (5, .int (nI (fl n sr tg a sh (fi ||| 2 ^ i)))), (4, .int (nI i)), (3, .int (nI fi)), (1, .int (nI (lf + 1))), (0, .ref (h 0))]) F.1 F.2.1 dX1_firstCut_95 rfl hl (by decide) rfl (fun ls hl => ?_)
                  refine nv_idec (lv' := [(1, .int (nI lf)), (2, .int (nI (sh ||| (2 ^ i)))), (5, .int (nI (fl n sr tg a sh (fi ||| 2 ^ i)))), (4, .int (nI i)), (3, .int (nI fi)), (0, .ref (h 0))]) F.1 F.2.1 dX1_firstCut_96 hl (k := 4) rfl (by decide) rfl (fun ls hl => ?_)
                  refine nv_pdec (lv' := [(4, .int (pI i)), (1, .int (nI lf)), (2, .int (nI (sh ||| (2 ^ i)))), (5, .int (nI (fl n sr tg a sh (fi ||| 2 ^ i)))), (3, .int (nI fi)), (0, .ref (h 0))]) F.1 F.2.1 dX1_firstCut_99 hl (k := 3) rfl (by decide) rfl (fun ls hl => ?_)
                  refine lv_goto (tgt := 37) F.1 F.2.1 dX1_firstCut_102 (by decide) ?_
                  exact ih i (sh ||| 2 ^ i) fi lf _ _ _ (by omega) (by omega) (hF.shut hn (by omega) hm) _ _ _ I (lv_sub hl [0, 4, 2, 1, 5] rfl)
                · refine lv_iload_n F.1 F.2.1 dX1_firstCut_79 rfl (lv_at hl 2 rfl) ?_
                  refine lv_iconst (v := nI 1) F.1 F.2.1 dX1_firstCut_80 (by decide) ?_
                  refine lv_iload F.1 F.2.1 dX1_firstCut_81 (lv_at hl 1 rfl) ?_
                  refine nv_one F.1 F.2.1 dX1_firstCut_83 (by omega) ?_
                  refine nv_ior F.1 F.2.1 dX1_firstCut_84 ?_
                  refine lv_istore_n (lv' := [(3, .int (nI (fi ||| (2 ^ i)))), (5, .int (nI (fl n sr tg a sh (fi ||| 2 ^ i)))), (4, .int (nI i)), (2, .int (nI sh)), (1, .int (nI left)), (0, .ref (h 0))]) F.1 F.2.1 dX1_firstCut_85 rfl hl (by decide) rfl (fun ls hl => ?_)
                  refine lv_goto (tgt := 99) F.1 F.2.1 dX1_firstCut_86 (by decide) ?_
                  refine nv_pdec (lv' := [(4, .int (pI i)), (3, .int (nI (fi ||| (2 ^ i)))), (5, .int (nI (fl n sr tg a sh (fi ||| 2 ^ i)))), (2, .int (nI sh)), (1, .int (nI left)), (0, .ref (h 0))]) F.1 F.2.1 dX1_firstCut_99 hl (k := 2) rfl (by decide) rfl (fun ls hl => ?_)
                  refine lv_goto (tgt := 37) F.1 F.2.1 dX1_firstCut_102 (by decide) ?_
                  exact ih i sh (fi ||| 2 ^ i) left _ _ _ (by omega) (by omega) (hF.firm (by omega) c3 c4 (htell.mp c5)) _ _ _ I (lv_sub hl [0, 1, 3, 4, 5] rfl)
    refine lv_aload_n F.1 F.2.1 dX1_firstCut_18 rfl (lv_at hl 0 rfl) ?_
    refine lv_iconst (v := nI 0) F.1 F.2.1 dX1_firstCut_19 (by decide) ?_
    refine lv_iconst (v := nI 0) F.1 F.2.1 dX1_firstCut_20 (by decide) ?_
    refine xk_flow F I hl dX1_firstCut_21 ⟨by rw [hR]; decide, by rw [hR]; decide⟩ (Nat.le_of_ble_eq_true rfl) ⟨Nat.zero_le _, Nat.zero_le _⟩ hn hs ht hst hG (by decide) (by decide) mb_0 mb_0 (fun r2 cf2 q2 H locs I => ?_)
    refine lv_istore_n (lv' := [(1, .int (nI (fl n sr tg a 0 0))), (0, .ref (h 0))]) F.1 F.2.1 dX1_firstCut_24 rfl hl (by decide) rfl (fun ls hl => ?_)
    refine lv_iconst (v := nI 0) F.1 F.2.1 dX1_firstCut_25 (by decide) ?_
    refine lv_istore_n (lv' := [(2, .int (nI 0)), (1, .int (nI (fl n sr tg a 0 0))), (0, .ref (h 0))]) F.1 F.2.1 dX1_firstCut_26 rfl hl (by decide) rfl (fun ls hl => ?_)
    refine lv_iconst (v := nI 0) F.1 F.2.1 dX1_firstCut_27 (by decide) ?_
    refine lv_istore_n (lv' := [(3, .int (nI 0)), (2, .int (nI 0)), (1, .int (nI (fl n sr tg a 0 0))), (0, .ref (h 0))]) F.1 F.2.1 dX1_firstCut_28 rfl hl (by decide) rfl (fun ls hl => ?_)
    refine lv_aload_n F.1 F.2.1 dX1_firstCut_29 rfl (lv_at hl 3 rfl) ?_
    refine xg_n F I dX1_firstCut_30 ?_
    refine lv_iconst (v := nI 1) F.1 F.2.1 dX1_firstCut_33 (by decide) ?_
    refine lv_isub F.1 F.2.1 dX1_firstCut_34 ?_
    show W p l e R s m args below meth c H locs 0 0 Q (F0 m 35 ls [.int (pI n)])
    refine lv_istore (lv' := [(4, .int (pI n)), (3, .int (nI 0)), (2, .int (nI 0)), (1, .int (nI (fl n sr tg a 0 0))), (0, .ref (h 0))]) F.1 F.2.1 dX1_firstCut_35 hl (by decide) rfl (fun ls hl => ?_)
    exact L (n + 1) n 0 0 _ r2 cf2 q2 (by omega) (by omega) (FC.start hn hs hd hC) _ _ _ I (lv_sub hl [0, 1, 2, 3, 4] rfl)
  · refine lv_bipush (v := -4) F.1 F.2.1 dX1_firstCut_15 (by decide) ?_
    exact ret _ _ _ _ ls _ ⟨r, cf, q, Or.inl ⟨c1, rfl⟩, rfl⟩ I dX1_firstCut_17
end
section
/-! what the reference computes -/
theorem inn_eq {n s t : Nat} : dif (dif (2 ^ n - 1) (2 ^ s)) (2 ^ t) = inn n s t := mb_iff fun v => by
  rw [mb_dif, mb_dif, mb_1, mb_1, mb_inn]
  unfold mb
  rw [Nat.testBit_two_pow_sub_one, decide_eq_true_iff]
  constructor
  · rintro ⟨⟨q1, q2⟩, q3⟩; exact ⟨q1, q2, q3⟩
  · rintro ⟨q1, q2, q3⟩; exact ⟨⟨q1, q2⟩, q3⟩
/-- one pass of 'leads' over the vertices, and the passes -/
def lp (a : Nat → Nat) (S R : Nat) : Nat → Nat
  | 0 => R
  | k + 1 => if (lp a S R k).testBit k then lp a S R k ||| (a k &&& S) else lp a S R k
def lr (n : Nat) (a : Nat → Nat) (s S : Nat) : Nat → Nat
  | 0 => a s &&& S
  | i + 1 => lp a S (lr n a s S i) n
section LEADS
variable {n s t : Nat} {a : Nat → Nat} {S R : Nat}
theorem lp_mono {v : Nat} (h : mb R v) : ∀ k, mb (lp a S R k) v
  | 0 => h
  | k + 1 => by
    have ih := lp_mono h k
    unfold lp
    split
    · exact mb_or.mpr (Or.inl ih)
    · exact ih
theorem lp_up {v : Nat} {k : Nat} (h : mb (lp a S R k) v) : ∀ e, mb (lp a S R (k + e)) v
  | 0 => h
  | e + 1 => by
    have ih := lp_up h e
    show mb (lp a S R (k + e + 1)) v
    unfold lp
    split
    · exact mb_or.mpr (Or.inl ih)
    · exact ih
theorem lp_min {Z : Nat → Prop} (hc : ∀ x y, mb S x → Z x → mb S y → mb (a x) y → Z y) (hR : ∀ v, mb R v → mb S v ∧ Z v) : ∀ k v, mb (lp a S R k) v → mb S v ∧ Z v
  | 0, v, h => hR v h
  | k + 1, v, h => by
    have ih := lp_min hc hR k
    unfold lp at h
    split at h
    · rename_i hk
      rw [mb_or, mb_and] at h
      rcases h with q | ⟨q1, q2⟩
      · exact ih v q
      · obtain ⟨z1, z2⟩ := ih k hk
        exact ⟨q2, hc k v z1 z2 q2 q1⟩
    · exact ih v h
theorem lp_closed {v w k : Nat} (hv : v < k) (h : mb R v) (h1 : mb (a v) w) (h2 : mb S w) : mb (lp a S R k) w := by
  have e : mb (lp a S R (v + 1)) w := by
    have hm : mb (lp a S R v) v := lp_mono h v
    unfold lp
    rw [if_pos hm]
    exact mb_or.mpr (Or.inr (mb_and.mpr ⟨h1, h2⟩))
  have := lp_up e (k - (v + 1))
  rw [show v + 1 + (k - (v + 1)) = k by omega] at this
  exact this
theorem lp_lt (hG : Gok n a) (hR : ∀ v, mb R v → v < n) : ∀ k, k ≤ n → ∀ v, mb (lp a S R k) v → v < n
  | 0, _, v, h => hR v h
  | k + 1, hk, v, h => by
    unfold lp at h
    split at h
    · rw [mb_or, mb_and] at h
      rcases h with q | q
      · exact lp_lt hG hR k (by omega) v q
      · exact (hG k (by omega) v q.1).1
    · exact lp_lt hG hR k (by omega) v h
theorem lr_lt (hG : Gok n a) (hs : s < n) : ∀ i v, mb (lr n a s S i) v → v < n
  | 0, v, h => (hG s hs v (mb_and.mp h).1).1
  | i + 1, v, h => lp_lt hG (lr_lt hG hs i) n (Nat.le_refl n) v h
theorem lr_min {Z : Nat → Prop} (h0 : ∀ v, mb S v → mb (a s) v → Z v) (hc : ∀ x y, mb S x → Z x → mb S y → mb (a x) y → Z y) : ∀ i v, mb (lr n a s S i) v → mb S v ∧ Z v
  | 0, v, h => by
    have h := mb_and.mp h
    exact ⟨h.2, h0 v h.2 h.1⟩
  | i + 1, v, h => lp_min hc (lr_min h0 hc i) n v h
theorem lr_stop {i : Nat} (h : lr n a s S (i + 1) = lr n a s S i) : ∀ e, lr n a s S (i + e) = lr n a s S i
  | 0 => rfl
  | e + 1 => by
    have ih := lr_stop h e
    show lp a S (lr n a s S (i + e)) n = _
    rw [ih]
    exact h
theorem lr_grow (hn : n ≤ 8) (hG : Gok n a) (hs : s < n) : ∀ i, (∃ e, e ≤ i ∧ lr n a s S (e + 1) = lr n a s S e) ∨ i + 1 ≤ pc (lr n a s S (i + 1)) := by
  have key : ∀ i, lr n a s S (i + 1) = lr n a s S i ∨ pc (lr n a s S i) + 1 ≤ pc (lr n a s S (i + 1)) := by
    intro i
    by_cases h : lr n a s S (i + 1) = lr n a s S i
    · exact Or.inl h
    · refine Or.inr ?_
      have h1 : ∃ v, mb (lr n a s S (i + 1)) v ∧ ¬ mb (lr n a s S i) v := by
        refine Classical.byContradiction fun hx => h (mb_iff fun v => ⟨fun q => ?_, fun q => lp_mono q n⟩)
        exact Classical.byContradiction fun z => hx ⟨v, q, z⟩
      obtain ⟨v, v1, v2⟩ := h1
      have hv := lr_lt hG hs _ v v1
      rw [← pc_set (by omega) v2]
      refine pc_mono fun w hw => ?_
      rw [mb_set] at hw
      rcases hw with q | q
      · exact lp_mono q n
      · subst q; exact v1
  intro i
  induction i with
  | zero =>
    rcases key 0 with q | q
    · exact Or.inl ⟨0, Nat.le_refl _, q⟩
    · exact Or.inr (by omega)
  | succ i ih =>
    rcases ih with ⟨e, he, h⟩ | ih
    · exact Or.inl ⟨e, by omega, h⟩
    · rcases key (i + 1) with q | q
      · exact Or.inl ⟨i + 1, Nat.le_refl _, q⟩
      · exact Or.inr (by omega)
/-- eight passes are enough -/
theorem lr_lds (hn : n ≤ 8) (hG : Gok n a) (hs : s < n) (hS : S < 256) : (lr n a s S 8 &&& a t ≠ 0) ↔ Lds a s t S := by
  have hcl : ∀ x y, mb (lr n a s S 8) x → mb S y → mb (a x) y → mb (lr n a s S 8) y := by
    intro x y hx hy hxy
    have hxn := lr_lt hG hs _ x hx
    rcases lr_grow (S := S) hn hG hs 7 with ⟨e, he, h⟩ | h
    · have h3 := lr_stop h (8 - e)
      rw [show e + (8 - e) = 8 by omega] at h3
      rw [h3] at hx ⊢
      rw [← h]
      exact lp_closed hxn hx hxy hy
    · have h : 8 ≤ pc (lr n a s S 8) := h
      have h4 := pc_le (lr n a s S 8)
      exact pc_full (by omega) y (mb_lt (k := 8) hS hy)
  have h0 : ∀ v, mb (lr n a s S 0) v → ∀ i, mb (lr n a s S i) v := by
    intro v hv i
    induction i with
    | zero => exact hv
    | succ i ih => exact lp_mono ih n
  constructor
  · intro h Z z0 zc
    obtain ⟨x, hx⟩ := mb_some h
    rw [mb_and] at hx
    obtain ⟨q1, q2⟩ := lr_min z0 zc 8 x hx.1
    exact ⟨x, q1, q2, hx.2⟩
  · intro h
    obtain ⟨x, -, hx, hxt⟩ := h (fun v => mb (lr n a s S 8) v) (fun v hv hm => h0 v (mb_and.mpr ⟨hm, hv⟩) 8) (fun x y _ hx hy hxy => hcl x y hx hy hxy)
    intro z
    have := mb_and.mpr ⟨hx, hxt⟩
    rw [z] at this
    exact mb_0 this
end LEADS
theorem mb_subset {x y : Nat} : x &&& y = x ↔ ∀ v, mb x v → mb y v := by
  constructor
  · intro h v hv
    rw [← h] at hv
    exact (mb_and.mp hv).2
  · intro h
    exact mb_iff fun v => by
      rw [mb_and]
      exact ⟨fun q => q.1, fun q => ⟨q, h v q⟩⟩
/-- the best number of parts so far -/
def pt (wh : Nat → Bool) (ms : Nat → Nat) (S : Nat) : Nat → Nat
  | 0 => 0
  | k + 1 => if 1 ≤ k ∧ k &&& S = k ∧ wh k = true ∧ pt wh ms S k < 1 + ms (dif S k) then 1 + ms (dif S k) else pt wh ms S k
section PARTS
variable {a : Nat → Nat} {s t S : Nat} {wh : Nat → Bool} {ms : Nat → Nat}
theorem pt_ge : ∀ {k j : Nat}, j < k → 1 ≤ j → j &&& S = j → wh j = true → 1 + ms (dif S j) ≤ pt wh ms S k
  | 0, j, h, _, _, _ => by omega
  | k + 1, j, h, h1, h2, h3 => by
    unfold pt
    by_cases e : j = k
    · subst e
      split
      · exact Nat.le_refl _
      · rename_i q
        refine Nat.le_of_not_lt fun z => q ⟨h1, h2, h3, z⟩
    · have ih := pt_ge (k := k) (j := j) (by omega) h1 h2 h3
      split
      · omega
      · exact ih
theorem pt_is : ∀ k, pt wh ms S k = 0 ∨ ∃ j, j < k ∧ 1 ≤ j ∧ j &&& S = j ∧ wh j = true ∧ pt wh ms S k = 1 + ms (dif S j)
  | 0 => Or.inl rfl
  | k + 1 => by
    unfold pt
    split
    · rename_i q
      exact Or.inr ⟨k, by omega, q.1, q.2.1, q.2.2.1, rfl⟩
    · rcases pt_is k with h | ⟨j, h1, h2, h3, h4, h5⟩
      · exact Or.inl h
      · exact Or.inr ⟨j, by omega, h2, h3, h4, h5⟩
theorem dif_less {j : Nat} (h1 : 1 ≤ j) (h2 : j &&& S = j) : dif S j < S := by
  refine Nat.lt_of_le_of_ne (dif_le S j) fun e => ?_
  obtain ⟨v, hv⟩ := mb_some (x := j) (by omega)
  have hvS := mb_subset.mp h2 v hv
  rw [← e] at hvS
  exact (mb_dif.mp hvS).2 hv
theorem pt_mx (hw : ∀ k, k ≤ S → k &&& S = k → (wh k = true ↔ Lds a s t k)) (hm : ∀ X, X < S → X &&& S = X → Mx a s t X (ms X)) : Mx a s t S (pt wh ms S (S + 1)) := by
  have hsub : ∀ j, dif S j &&& S = dif S j := fun j => mb_subset.mpr fun v hv => (mb_dif.mp hv).1
  constructor
  · rcases pt_is (wh := wh) (ms := ms) (S := S) (S + 1) with h | ⟨j, h1, h2, h3, h4, h5⟩
    · rw [h]
      exact trivial
    · rw [h5, Nat.add_comm]
      exact ⟨j, mb_subset.mp h3, (hw j (by omega) h3).mp h4, (hm _ (dif_less h2 h3) (hsub j)).1⟩
  · intro q hq
    cases q with
    | zero => exact Nat.zero_le _
    | succ q =>
      obtain ⟨P, p1, p2, p3⟩ := hq
      have hP : P &&& S = P := mb_subset.mpr p1
      have hP1 : 1 ≤ P := by
        obtain ⟨x, hx⟩ := p2.ne
        rcases Nat.eq_zero_or_pos P with z | z
        · subst z; exact absurd hx mb_0
        · exact z
      have hPS : P ≤ S := mb_le p1
      have h1 := pt_ge (wh := wh) (ms := ms) (S := S) (k := S + 1) (j := P) (by omega) hP1 hP ((hw P hPS hP).mpr p2)
      have h2 := (hm _ (dif_less hP1 hP) (hsub P)).2 q p3
      omega
theorem Mx.le {X p : Nat} (hX : X < 256) (h : Mx a s t X p) : p ≤ 8 := by
  have h1 := h.1.cut (C := X) hX (fun q => by
    obtain ⟨x, hx⟩ := q.ne
    have := mb_dif.mp hx
    exact this.2 this.1)
  have := pc_le X
  omega
end PARTS
/-- the least cut so far: of the sets below k that hold wi -/
def LI (n s t : Nat) (a : Nat → Nat) (wi k : Nat) (o : Option Nat) (z : Nat) : Prop := match o with
  | none => z = 9 ∧ ∀ D, D < k → (∀ v, mb wi v → mb D v) → Cut n s t a 0 0 D → mb (a s) t
  | some C => z = pc C ∧ C < k ∧ ¬ mb (a s) t ∧ (∀ v, mb wi v → mb C v) ∧ Cut n s t a 0 0 C ∧ ∀ D, D < k → (∀ v, mb wi v → mb D v) → Cut n s t a 0 0 D → pc C ≤ pc D ∧ (pc D = pc C → C ≤ D)
section LEAST
variable {n s t : Nat} {a : Nat → Nat} {wi k : Nat} {o : Option Nat} {z : Nat}
theorem LI.size (h : LI n s t a wi k o z) : z ≤ 9 := by
  cases o with
  | none => exact Nat.le_of_eq h.1
  | some C =>
    have := pc_le C
    have := h.1
    omega
theorem LI.skip (h : LI n s t a wi k o z) (hk : (∀ v, mb wi v → mb k v) → ¬ mb (a s) t → Cut n s t a 0 0 k → z ≤ pc k) : LI n s t a wi (k + 1) o z := by
  cases o with
  | none =>
    refine ⟨h.1, fun D hD h1 h2 => ?_⟩
    by_cases e : D = k
    · subst e
      refine Classical.byContradiction fun q => ?_
      have := hk h1 q h2
      have := pc_le D
      have := h.1
      omega
    · exact h.2 D (by omega) h1 h2
  | some C =>
    obtain ⟨g1, g2, g3, g4, g5, g6⟩ := h
    refine ⟨g1, by omega, g3, g4, g5, fun D hD h1 h2 => ?_⟩
    by_cases e : D = k
    · subst e
      have := hk h1 g3 h2
      exact ⟨by omega, fun _ => by omega⟩
    · exact g6 D (by omega) h1 h2
theorem LI.take (h : LI n s t a wi k o z) (h1 : ∀ v, mb wi v → mb k v) (h2 : ¬ mb (a s) t) (h3 : Cut n s t a 0 0 k) (h4 : pc k < z) : LI n s t a wi (k + 1) (some k) (pc k) := by
  refine ⟨rfl, by omega, h2, h1, h3, fun D hD q1 q2 => ?_⟩
  by_cases e : D = k
  · subst e; exact ⟨Nat.le_refl _, fun _ => Nat.le_refl _⟩
  · cases o with
    | none => exact absurd (h.2 D (by omega) q1 q2) h2
    | some C =>
      obtain ⟨g1, g2, g3, g4, g5, g6⟩ := h
      have := g6 D (by omega) q1 q2
      exact ⟨by omega, fun _ => by omega⟩
/-- what leastCut answers -/
def LCo (n s t : Nat) (a : Nat → Nat) (wi : Nat) (o : Option Nat) : Prop := match o with
  | none => ∀ D, (∀ v, mb wi v → mb D v) → Cut n s t a 0 0 D → mb (a s) t
  | some C => ¬ mb (a s) t ∧ IsLC n s t a wi C
theorem cut_lt {D : Nat} (h : Cut n s t a 0 0 D) : D < 2 ^ n := mb_pow fun v hv => (h.1 v hv).1
theorem LI.done (h : LI n s t a wi (2 ^ n) o z) : LCo n s t a wi o := by
  cases o with
  | none => exact fun D h1 h2 => h.2 D (cut_lt h2) h1 h2
  | some C =>
    obtain ⟨g1, g2, g3, g4, g5, g6⟩ := h
    exact ⟨g3, g4, g5, fun D h1 h2 => g6 D (cut_lt h2) h1 h2⟩
theorem LI.small (h : LI n s t a wi k o z) (hk : k ≤ 2 ^ n) (hn : n ≤ 8) {C : Nat} (e : o = some C) : C < 256 := by
  subst e
  have h1 : 2 ^ n ≤ 2 ^ 8 := Nat.pow_le_pow_right (by decide) hn
  have := h.2.1
  omega
theorem IsLC.size (hn : n ≤ 8) (hs : s < n) {C : Nat} (h : IsLC n s t a 0 C) (hd : ¬ mb (a s) t) : pc C = fl n s t a 0 0 := by
  have hdr : dr a s t = 0 := if_neg hd
  obtain ⟨D, hD, hk⟩ := fl_cut (t := t) (sh := 0) (a := a) hn hs
  have h1 := (h.2.2 D (fun v q => absurd q mb_0) hD).1
  have h2 := (fl_spec n s t a 0 0).2.2 C h.2.1
  omega
theorem IsLC.with (hn : n ≤ 8) (hs : s < n) {C v : Nat} (hv : v < n) (hvs : v ≠ s) (hvt : v ≠ t) (h : IsLC n s t a (2 ^ v) C) (hd : ¬ mb (a s) t) : pc C = fl n s t a (2 ^ v) 0 + 1 := by
  have hdr : dr a s t = 0 := if_neg hd
  have hvC : mb C v := h.1 v (mb_1.mpr rfl)
  obtain ⟨D, hD, hk⟩ := fl_cut (t := t) (sh := 2 ^ v) (a := a) hn hs
  have h1 := cut_part (sh := 2 ^ v) (fi := 0) h.2.1 (fun w q => by rw [mb_1] at q; subst q; exact hvC) (fun w q => absurd q mb_0)
  have h2 := (fl_spec n s t a (2 ^ v) 0).2.2 _ h1
  have h3 := pc_split C (2 ^ v)
  have h4 : pc (C &&& 2 ^ v) = 1 := by
    rw [← pc_one (v := v) (by omega)]
    exact pc_eq fun w _ => by
      rw [mb_and, mb_1]
      exact ⟨fun q => q.2, fun q => ⟨by subst q; exact hvC, q⟩⟩
  have h5 := cut_join hD (fun w q => by rw [mb_1] at q; subst q; exact ⟨hv, hvs, hvt⟩)
  have h6 := (h.2.2 _ (fun w q => mb_or.mpr (Or.inr q)) h5).1
  have h7 : pc (D ||| 2 ^ v) = pc D + 1 := pc_set (by omega) (fun q => (hD.1 v q).2.2.2.1 (mb_1.mpr rfl))
  omega
theorem LCo.with (hn : n ≤ 8) (hs : s < n) {v : Nat} (hv : v < n) (hvs : v ≠ s) (hvt : v ≠ t) (hd : ¬ mb (a s) t) : ¬ LCo n s t a (2 ^ v) none := by
  intro h
  have h1 := cut_all n s t a 0
  refine hd (h _ (fun w q => ?_) h1)
  rw [mb_1] at q
  subst q
  rw [mb_dif, mb_inn]
  exact ⟨⟨hv, hvs, hvt⟩, mb_0⟩
end LEAST
end
section
/-! DisjointPathsModel: the small methods, leads, parts, paths, cuts -/
set_option maxHeartbeats 8000000 in
set_option maxRecDepth 100000 in
theorem mmt_vertices (l : Launch) (D : va_G) (h : Nat → Nat) (ca : Nat → ClassId) (n sr tg : Nat) (a : Nat → Nat) (wh : Nat → Bool) (ms : Nat → Nat) : WMi l yX2_vertices (ws_ yX2_vertices cX2_vertices 1 (some .int)) ({ frames := 0, cells := 0, slots := 0, locals := 0 } : Room) D (MW h ca (n, sr, tg, a, wh, ms)) (MW h ca) (MT ca) [.ref (h 0)] (fun r' u' => r' = nI n ∧ u' = (n, sr, tg, a, wh, ms)) := by
  refine wm_i (by decide) (Nat.le_of_ble_eq_true rfl) ?_
  intro p e R s m args below meth c ls A Q hR F ret I hl
  have hl : lv_has ls 1 [(0, .ref (h 0))] := hl
  refine lv_aload_n F.1 F.2.1 dX2_vertices_0 rfl (lv_at hl 0 rfl) ?_
  refine mg_n F I dX2_vertices_1 ?_
  exact ret _ _ _ _ ls _ ⟨rfl, rfl⟩ I dX2_vertices_4
set_option maxHeartbeats 8000000 in
set_option maxRecDepth 100000 in
theorem mmt_isVertex (l : Launch) (D : va_G) (h : Nat → Nat) (ca : Nat → ClassId) (n sr tg : Nat) (a : Nat → Nat) (wh : Nat → Bool) (ms : Nat → Nat) (x : Int32) : WMi l yX2_isVertex (ws_ yX2_isVertex cX2_isVertex 2 (some .boolean)) ({ frames := 0, cells := 0, slots := 0, locals := 0 } : Room) D (MW h ca (n, sr, tg, a, wh, ms)) (MW h ca) (MT ca) [.ref (h 0), .int x] (fun r' u' => r' = nI (!xbad n x).toNat ∧ u' = (n, sr, tg, a, wh, ms)) := by
  refine wm_z (by decide) (Nat.le_of_ble_eq_true rfl) ?_
  intro p e R s m args below meth c ls A Q hR F ret I hl
  have hl : lv_has ls 2 [(0, .ref (h 0)), (1, .int x)] := hl
  refine lv_iload_n F.1 F.2.1 dX2_isVertex_0 rfl (lv_at hl 1 rfl) ?_
  refine lv_if_lt (tgt := 16) F.1 F.2.1 dX2_isVertex_1 (by decide) (fun c1 => ?_) (fun c1 => ?_)
  · refine lv_iconst (v := nI 0) F.1 F.2.1 dX2_isVertex_16 (by decide) ?_
    have e : xbad n x = true := decide_eq_true (Or.inl c1)
    exact ret false _ _ _ ls _ ⟨by rw [e]; rfl, rfl⟩ I dX2_isVertex_17
  · refine lv_iload_n F.1 F.2.1 dX2_isVertex_4 rfl (lv_at hl 1 rfl) ?_
    refine lv_aload_n F.1 F.2.1 dX2_isVertex_5 rfl (lv_at hl 0 rfl) ?_
    refine mg_n F I dX2_isVertex_6 ?_
    refine lv_icmp_ge (tgt := 16) F.1 F.2.1 dX2_isVertex_9 (by decide) (fun c2 => ?_) (fun c2 => ?_)
    · refine lv_iconst (v := nI 0) F.1 F.2.1 dX2_isVertex_16 (by decide) ?_
      have e : xbad n x = true := decide_eq_true (Or.inr c2)
      exact ret false _ _ _ ls _ ⟨by rw [e]; rfl, rfl⟩ I dX2_isVertex_17
    · refine lv_iconst (v := nI 1) F.1 F.2.1 dX2_isVertex_12 (by decide) ?_
      refine lv_goto (tgt := 17) F.1 F.2.1 dX2_isVertex_13 (by decide) ?_
      have e : xbad n x = false := decide_eq_false (by
        rintro (q | q)
        · exact c1 q
        · exact c2 q)
      exact ret true _ _ _ ls _ ⟨by rw [e]; rfl, rfl⟩ I dX2_isVertex_17
section XA
variable {p : Program} {l : Launch} {e : Env} {R : Room} {s : State} {m : MethodId} {args : Array Value} {below : List Frame} {meth : Method} {c : Code} {H : Heap} {locs : List Loc} {cells slots : Nat} {Q : State → Prop} {pc : Nat} {ls : Array Slot} {rest : List Value} {cc : ByteArray} {nL : Nat} {D : va_G} {A : Nat → Prop} {H0 : Heap} {h : Nat → Nat} {ca : Nat → ClassId} {lv : List (Nat × Value)} 
theorem mk_isVertex {n sr tg : Nat} {a : Nat → Nat} {wh : Nat → Bool} {ms : Nat → Nat} {x : Int32} (F : CallFix p m c cc nL s args lw_all RX2) (I : WI D (MW h ca (n, sr, tg, a, wh, ms)) (MT ca) A s H0 H locs) (hl : lv_has ls nL lv) (hdg : decode cc pc = .ok (.invokevirtual 27, 3)) (hR : 1 ≤ R.frames ∧ 21 ≤ R.locals) (hroom : (rest.map fun v => v.category).sum ≤ 8) (hf : cells ≤ R.cells ∧ slots ≤ R.slots) (kk : ∀ (H1 : Heap) (locs1 : List Loc), WI D (MW h ca (n, sr, tg, a, wh, ms)) (MT ca) A s H0 H1 locs1 → W p l e R s m args below meth c H1 locs1 cells slots Q (F0 m (pc + 3) ls (.int (nI (!xbad n x).toNat) :: rest))) : W p l e R s m args below meth c H locs cells slots Q (F0 m pc ls (.int x :: .ref (h 0) :: rest)) :=
  wc_i F I (mmt_isVertex l D h ca n sr tg a wh ms x) (cwV 1 F.2.2.2.2 (lw_V q200 q202 qs12 q24 q203) rfl rfl rfl (by decide +kernel) hR) (m_recv I) hl rfl rfl hroom hdg hf (fun r u H1 locs1 hp I => by
    obtain ⟨rfl, rfl⟩ := hp; exact kk H1 locs1 I)

end XA
set_option maxHeartbeats 8000000 in
set_option maxRecDepth 100000 in
theorem mmt_has (l : Launch) (D : va_G) (h : Nat → Nat) (ca : Nat → ClassId) (n sr tg : Nat) (a : Nat → Nat) (wh : Nat → Bool) (ms : Nat → Nat) (S v : Nat) (hS : S < 2 ^ 31) (hv : v < 32) : WMi l yX2_has (ws_ yX2_has cX2_has 3 (some .boolean)) ({ frames := 0, cells := 0, slots := 0, locals := 0 } : Room) D (MW h ca (n, sr, tg, a, wh, ms)) (MW h ca) (MT ca) [.ref (h 0), .int (nI S), .int (nI v)] (fun r' u' => r' = nI (S.testBit v).toNat ∧ u' = (n, sr, tg, a, wh, ms)) := by
  refine wm_z (by decide) (Nat.le_of_ble_eq_true rfl) ?_
  intro p e R s m args below meth c ls A Q hR F ret I hl
  have hl : lv_has ls 3 [(0, .ref (h 0)), (1, .int (nI S)), (2, .int (nI v))] := hl
  refine lv_iload_n F.1 F.2.1 dX2_has_0 rfl (lv_at hl 1 rfl) ?_
  refine lv_iload_n F.1 F.2.1 dX2_has_1 rfl (lv_at hl 2 rfl) ?_
  refine nv_bit F.1 F.2.1 dX2_has_2 dX2_has_3 dX2_has_4 hS hv ?_
  refine lv_iconst (v := nI 1) F.1 F.2.1 dX2_has_5 (by decide) ?_
  refine nb_icmp_ne (tgt := 13) F.1 F.2.1 dX2_has_6 (by decide) (fun c1 => ?_) (fun c1 => ?_)
  · refine lv_iconst (v := nI 0) F.1 F.2.1 dX2_has_13 (by decide) ?_
    exact ret false _ _ _ ls _ ⟨by rw [c1], rfl⟩ I dX2_has_14
  · refine lv_iconst (v := nI 1) F.1 F.2.1 dX2_has_9 (by decide) ?_
    refine lv_goto (tgt := 14) F.1 F.2.1 dX2_has_10 (by decide) ?_
    exact ret true _ _ _ ls _ ⟨by rw [c1], rfl⟩ I dX2_has_14
section XA
variable {p : Program} {l : Launch} {e : Env} {R : Room} {s : State} {m : MethodId} {args : Array Value} {below : List Frame} {meth : Method} {c : Code} {H : Heap} {locs : List Loc} {cells slots : Nat} {Q : State → Prop} {pc : Nat} {ls : Array Slot} {rest : List Value} {cc : ByteArray} {nL : Nat} {D : va_G} {A : Nat → Prop} {H0 : Heap} {h : Nat → Nat} {ca : Nat → ClassId} {lv : List (Nat × Value)} 
theorem mk_has {n sr tg : Nat} {a : Nat → Nat} {wh : Nat → Bool} {ms : Nat → Nat} {S v : Nat} (F : CallFix p m c cc nL s args lw_all RX2) (I : WI D (MW h ca (n, sr, tg, a, wh, ms)) (MT ca) A s H0 H locs) (hl : lv_has ls nL lv) (hdg : decode cc pc = .ok (.invokevirtual 31, 3)) (hR : 1 ≤ R.frames ∧ 22 ≤ R.locals) (hroom : (rest.map fun v => v.category).sum ≤ 8) (hf : cells ≤ R.cells ∧ slots ≤ R.slots) (hS : S < 2 ^ 31) (hv : v < 32) (kk : ∀ (H1 : Heap) (locs1 : List Loc), WI D (MW h ca (n, sr, tg, a, wh, ms)) (MT ca) A s H0 H1 locs1 → W p l e R s m args below meth c H1 locs1 cells slots Q (F0 m (pc + 3) ls (.int (nI (S.testBit v).toNat) :: rest))) : W p l e R s m args below meth c H locs cells slots Q (F0 m pc ls (.int (nI v) :: .int (nI S) :: .ref (h 0) :: rest)) :=
  wc_i F I (mmt_has l D h ca n sr tg a wh ms S v hS hv) (cwV 2 F.2.2.2.2 (lw_V q204 q206 qs13 q24 q207) rfl rfl rfl (by decide +kernel) hR) (m_recv I) hl rfl rfl hroom hdg hf (fun r u H1 locs1 hp I => by
    obtain ⟨rfl, rfl⟩ := hp; exact kk H1 locs1 I)

end XA
set_option maxHeartbeats 8000000 in
set_option maxRecDepth 100000 in
theorem mmt_put (l : Launch) (D : va_G) (h : Nat → Nat) (ca : Nat → ClassId) (n sr tg : Nat) (a : Nat → Nat) (wh : Nat → Bool) (ms : Nat → Nat) (u v : Nat) (b : Bool) (hu : u < 8) (hv : v < 8) (hne : u ≠ v) (hau : a u < 2 ^ 31) (hav : a v < 2 ^ 31) : WMv l yX2_put (ws_ yX2_put cX2_put 4 none) ({ frames := 0, cells := 0, slots := 0, locals := 0 } : Room) D (MW h ca (n, sr, tg, a, wh, ms)) (MW h ca) (MT ca) [.ref (h 0), .int (nI u), .int (nI v), .int (nI b.toNat)] (fun u' => u' = (n, sr, tg, if b then lnk a u v else ulk a u v, wh, ms)) := by
  refine wm_v (by decide) (Nat.le_of_ble_eq_true rfl) ?_
  intro p e R s m args below meth c ls A Q hR F ret I hl
  have hl : lv_has ls 4 [(0, .ref (h 0)), (1, .int (nI u)), (2, .int (nI v)), (3, .int (nI b.toNat))] := hl
  refine lv_aload_n F.1 F.2.1 dX2_put_0 rfl (lv_at hl 0 rfl) ?_
  refine mg_near F I dX2_put_1 ?_
  refine lv_iload_n F.1 F.2.1 dX2_put_4 rfl (lv_at hl 1 rfl) ?_
  refine lv_iload_n F.1 F.2.1 dX2_put_5 rfl (lv_at hl 3 rfl) ?_
  refine nb_if_eq (tgt := 22) F.1 F.2.1 dX2_put_6 (by decide) (fun c1 => ?_) (fun c1 => ?_)
  · refine lv_aload_n F.1 F.2.1 dX2_put_22 rfl (lv_at hl 0 rfl) ?_
    refine mg_near F I dX2_put_23 ?_
    refine lv_iload_n F.1 F.2.1 dX2_put_26 rfl (lv_at hl 1 rfl) ?_
    refine ma_near F I dX2_put_27 hu ?_
    refine lv_iconst (v := nI 1) F.1 F.2.1 dX2_put_28 (by decide) ?_
    refine lv_iload_n F.1 F.2.1 dX2_put_29 rfl (lv_at hl 2 rfl) ?_
    refine nv_one F.1 F.2.1 dX2_put_30 (by omega) ?_
    refine nv_dif F.1 F.2.1 dX2_put_31 dX2_put_32 dX2_put_33 hau ?_
    refine ms_near (x := dif (a u) (2 ^ v)) F I dX2_put_34 hu (fun H locs I => ?_)
    refine lv_aload_n F.1 F.2.1 dX2_put_35 rfl (lv_at hl 0 rfl) ?_
    refine mg_near F I dX2_put_36 ?_
    refine lv_iload_n F.1 F.2.1 dX2_put_39 rfl (lv_at hl 2 rfl) ?_
    refine lv_iload_n F.1 F.2.1 dX2_put_40 rfl (lv_at hl 3 rfl) ?_
    refine nb_if_eq (tgt := 57) F.1 F.2.1 dX2_put_41 (by decide) (fun c2 => ?_) (fun c2 => ?_)
    · refine lv_aload_n F.1 F.2.1 dX2_put_57 rfl (lv_at hl 0 rfl) ?_
      refine mg_near F I dX2_put_58 ?_
      refine lv_iload_n F.1 F.2.1 dX2_put_61 rfl (lv_at hl 2 rfl) ?_
      refine ma_near F I dX2_put_62 hv ?_
      refine lv_iconst (v := nI 1) F.1 F.2.1 dX2_put_63 (by decide) ?_
      refine lv_iload_n F.1 F.2.1 dX2_put_64 rfl (lv_at hl 1 rfl) ?_
      refine nv_one F.1 F.2.1 dX2_put_65 (by omega) ?_
      refine nv_dif F.1 F.2.1 dX2_put_66 dX2_put_67 dX2_put_68 (by rw [va_up_ne _ _ (Ne.symm hne)]; exact hav) ?_
      refine ms_near (x := dif ((va_up a u (dif (a u) (2 ^ v))) v) (2 ^ u)) F I dX2_put_69 hv (fun H locs I => ?_)
      exact ret _ _ _ ls _ (by rw [c1]; rfl) I dX2_put_70
    · rw [c1] at c2
      cases c2
  · refine lv_aload_n F.1 F.2.1 dX2_put_9 rfl (lv_at hl 0 rfl) ?_
    refine mg_near F I dX2_put_10 ?_
    refine lv_iload_n F.1 F.2.1 dX2_put_13 rfl (lv_at hl 1 rfl) ?_
    refine ma_near F I dX2_put_14 hu ?_
    refine lv_iconst (v := nI 1) F.1 F.2.1 dX2_put_15 (by decide) ?_
    refine lv_iload_n F.1 F.2.1 dX2_put_16 rfl (lv_at hl 2 rfl) ?_
    refine nv_one F.1 F.2.1 dX2_put_17 (by omega) ?_
    refine nv_ior F.1 F.2.1 dX2_put_18 ?_
    refine lv_goto (tgt := 34) F.1 F.2.1 dX2_put_19 (by decide) ?_
    refine ms_near (x := (a u) ||| (2 ^ v)) F I dX2_put_34 hu (fun H locs I => ?_)
    refine lv_aload_n F.1 F.2.1 dX2_put_35 rfl (lv_at hl 0 rfl) ?_
    refine mg_near F I dX2_put_36 ?_
    refine lv_iload_n F.1 F.2.1 dX2_put_39 rfl (lv_at hl 2 rfl) ?_
    refine lv_iload_n F.1 F.2.1 dX2_put_40 rfl (lv_at hl 3 rfl) ?_
    refine nb_if_eq (tgt := 57) F.1 F.2.1 dX2_put_41 (by decide) (fun c2 => ?_) (fun c2 => ?_)
    · rw [c1] at c2
      cases c2
    · refine lv_aload_n F.1 F.2.1 dX2_put_44 rfl (lv_at hl 0 rfl) ?_
      refine mg_near F I dX2_put_45 ?_
      refine lv_iload_n F.1 F.2.1 dX2_put_48 rfl (lv_at hl 2 rfl) ?_
      refine ma_near F I dX2_put_49 hv ?_
      refine lv_iconst (v := nI 1) F.1 F.2.1 dX2_put_50 (by decide) ?_
      refine lv_iload_n F.1 F.2.1 dX2_put_51 rfl (lv_at hl 1 rfl) ?_
      refine nv_one F.1 F.2.1 dX2_put_52 (by omega) ?_
      refine nv_ior F.1 F.2.1 dX2_put_53 ?_
      refine lv_goto (tgt := 69) F.1 F.2.1 dX2_put_54 (by decide) ?_
      refine ms_near (x := ((va_up a u ((a u) ||| (2 ^ v))) v) ||| (2 ^ u)) F I dX2_put_69 hv (fun H locs I => ?_)
      exact ret _ _ _ ls _ (by rw [c1]; rfl) I dX2_put_70
section XA
variable {p : Program} {l : Launch} {e : Env} {R : Room} {s : State} {m : MethodId} {args : Array Value} {below : List Frame} {meth : Method} {c : Code} {H : Heap} {locs : List Loc} {cells slots : Nat} {Q : State → Prop} {pc : Nat} {ls : Array Slot} {rest : List Value} {cc : ByteArray} {nL : Nat} {D : va_G} {A : Nat → Prop} {H0 : Heap} {h : Nat → Nat} {ca : Nat → ClassId} {lv : List (Nat × Value)} 
theorem mk_put {n sr tg : Nat} {a : Nat → Nat} {wh : Nat → Bool} {ms : Nat → Nat} {u v : Nat} {b : Bool} (F : CallFix p m c cc nL s args lw_all RX2) (I : WI D (MW h ca (n, sr, tg, a, wh, ms)) (MT ca) A s H0 H locs) (hl : lv_has ls nL lv) (hdg : decode cc pc = .ok (.invokevirtual 35, 3)) (hR : 1 ≤ R.frames ∧ 23 ≤ R.locals) (hroom : (rest.map fun v => v.category).sum ≤ 8) (hf : cells ≤ R.cells ∧ slots ≤ R.slots) (hu : u < 8) (hv : v < 8) (hne : u ≠ v) (hau : a u < 2 ^ 31) (hav : a v < 2 ^ 31) (kk : ∀ (H1 : Heap) (locs1 : List Loc), WI D (MW h ca (n, sr, tg, if b then lnk a u v else ulk a u v, wh, ms)) (MT ca) A s H0 H1 locs1 → W p l e R s m args below meth c H1 locs1 cells slots Q (F0 m (pc + 3) ls (rest))) : W p l e R s m args below meth c H locs cells slots Q (F0 m pc ls (.int (nI b.toNat) :: .int (nI v) :: .int (nI u) :: .ref (h 0) :: rest)) :=
  wc_v F I (mmt_put l D h ca n sr tg a wh ms u v b hu hv hne hau hav) (cwV 3 F.2.2.2.2 (lw_V q208 q210 qs14 q24 q211) rfl rfl rfl (by decide +kernel) hR) (m_recv I) hl rfl rfl hroom hdg hf (fun u H1 locs1 hp I => by
    subst hp; exact kk H1 locs1 I)

end XA
set_option maxHeartbeats 8000000 in
set_option maxRecDepth 100000 in
theorem mmt_edge_bad (l : Launch) (D : va_G) (h : Nat → Nat) (ca : Nat → ClassId) (n sr tg : Nat) (a : Nat → Nat) (wh : Nat → Bool) (ms : Nat → Nat) (x y o : Int32) (hbp : xbp n x y = true) : WMi l yX2_edge (ws_ yX2_edge cX2_edge 5 (some .int)) ({ frames := 1, cells := 0, slots := 0, locals := 23 } : Room) D (MW h ca (n, sr, tg, a, wh, ms)) (MW h ca) (MT ca) [.ref (h 0), .int x, .int y, .int o] (fun r' u' => r' = (-1) ∧ u' = (n, sr, tg, a, wh, ms)) := by
  refine wm_i (by decide) (Nat.le_of_ble_eq_true rfl) ?_
  intro p e R s m args below meth c ls A Q hR F ret I hl
  have hl : lv_has ls 5 [(0, .ref (h 0)), (1, .int x), (2, .int y), (3, .int o)] := hl
  refine lv_aload_n F.1 F.2.1 dX2_edge_0 rfl (lv_at hl 0 rfl) ?_
  refine lv_iload_n F.1 F.2.1 dX2_edge_1 rfl (lv_at hl 1 rfl) ?_
  refine mk_isVertex F I hl dX2_edge_2 ⟨by rw [hR]; decide, by rw [hR]; decide⟩ (Nat.le_of_ble_eq_true rfl) ⟨Nat.zero_le _, Nat.zero_le _⟩ (fun H locs I => ?_)
  refine nb_if_eq (tgt := 21) F.1 F.2.1 dX2_edge_5 (by decide) (fun c1 => ?_) (fun c1 => ?_)
  · refine lv_iconst (v := -1) F.1 F.2.1 dX2_edge_21 (by decide) ?_
    exact ret _ _ _ _ ls _ ⟨rfl, rfl⟩ I dX2_edge_22
  · refine lv_aload_n F.1 F.2.1 dX2_edge_8 rfl (lv_at hl 0 rfl) ?_
    refine lv_iload_n F.1 F.2.1 dX2_edge_9 rfl (lv_at hl 2 rfl) ?_
    refine mk_isVertex F I hl dX2_edge_10 ⟨by rw [hR]; decide, by rw [hR]; decide⟩ (Nat.le_of_ble_eq_true rfl) ⟨Nat.zero_le _, Nat.zero_le _⟩ (fun H locs I => ?_)
    refine nb_if_eq (tgt := 21) F.1 F.2.1 dX2_edge_13 (by decide) (fun c2 => ?_) (fun c2 => ?_)
    · refine lv_iconst (v := -1) F.1 F.2.1 dX2_edge_21 (by decide) ?_
      exact ret _ _ _ _ ls _ ⟨rfl, rfl⟩ I dX2_edge_22
    · refine lv_iload_n F.1 F.2.1 dX2_edge_16 rfl (lv_at hl 1 rfl) ?_
      refine lv_iload_n F.1 F.2.1 dX2_edge_17 rfl (lv_at hl 2 rfl) ?_
      refine lv_icmp_ne (tgt := 23) F.1 F.2.1 dX2_edge_18 (by decide) (fun c3 => ?_) (fun c3 => ?_)
      · unfold xbp at hbp
        rw [Bool.not_eq_true'] at c1 c2
        rw [c1, c2, decide_eq_false c3] at hbp
        cases hbp
      · refine lv_iconst (v := -1) F.1 F.2.1 dX2_edge_21 (by decide) ?_
        exact ret _ _ _ _ ls _ ⟨rfl, rfl⟩ I dX2_edge_22
set_option maxHeartbeats 8000000 in
set_option maxRecDepth 100000 in
theorem mmt_ends_bad (l : Launch) (D : va_G) (h : Nat → Nat) (ca : Nat → ClassId) (n sr tg : Nat) (a : Nat → Nat) (wh : Nat → Bool) (ms : Nat → Nat) (x y : Int32) (hbp : xbp n x y = true) : WMi l yX2_ends (ws_ yX2_ends cX2_ends 3 (some .int)) ({ frames := 1, cells := 0, slots := 0, locals := 21 } : Room) D (MW h ca (n, sr, tg, a, wh, ms)) (MW h ca) (MT ca) [.ref (h 0), .int x, .int y] (fun r' u' => r' = (-1) ∧ u' = (n, sr, tg, a, wh, ms)) := by
  refine wm_i (by decide) (Nat.le_of_ble_eq_true rfl) ?_
  intro p e R s m args below meth c ls A Q hR F ret I hl
  have hl : lv_has ls 3 [(0, .ref (h 0)), (1, .int x), (2, .int y)] := hl
  refine lv_aload_n F.1 F.2.1 dX2_ends_0 rfl (lv_at hl 0 rfl) ?_
  refine lv_iload_n F.1 F.2.1 dX2_ends_1 rfl (lv_at hl 1 rfl) ?_
  refine mk_isVertex F I hl dX2_ends_2 ⟨by rw [hR]; decide, by rw [hR]; decide⟩ (Nat.le_of_ble_eq_true rfl) ⟨Nat.zero_le _, Nat.zero_le _⟩ (fun H locs I => ?_)
  refine nb_if_eq (tgt := 21) F.1 F.2.1 dX2_ends_5 (by decide) (fun c1 => ?_) (fun c1 => ?_)
  · refine lv_iconst (v := -1) F.1 F.2.1 dX2_ends_21 (by decide) ?_
    exact ret _ _ _ _ ls _ ⟨rfl, rfl⟩ I dX2_ends_22
  · refine lv_aload_n F.1 F.2.1 dX2_ends_8 rfl (lv_at hl 0 rfl) ?_
    refine lv_iload_n F.1 F.2.1 dX2_ends_9 rfl (lv_at hl 2 rfl) ?_
    refine mk_isVertex F I hl dX2_ends_10 ⟨by rw [hR]; decide, by rw [hR]; decide⟩ (Nat.le_of_ble_eq_true rfl) ⟨Nat.zero_le _, Nat.zero_le _⟩ (fun H locs I => ?_)
    refine nb_if_eq (tgt := 21) F.1 F.2.1 dX2_ends_13 (by decide) (fun c2 => ?_) (fun c2 => ?_)
    · refine lv_iconst (v := -1) F.1 F.2.1 dX2_ends_21 (by decide) ?_
      exact ret _ _ _ _ ls _ ⟨rfl, rfl⟩ I dX2_ends_22
    · refine lv_iload_n F.1 F.2.1 dX2_ends_16 rfl (lv_at hl 1 rfl) ?_
      refine lv_iload_n F.1 F.2.1 dX2_ends_17 rfl (lv_at hl 2 rfl) ?_
      refine lv_icmp_ne (tgt := 23) F.1 F.2.1 dX2_ends_18 (by decide) (fun c3 => ?_) (fun c3 => ?_)
      · unfold xbp at hbp
        rw [Bool.not_eq_true'] at c1 c2
        rw [c1, c2, decide_eq_false c3] at hbp
        cases hbp
      · refine lv_iconst (v := -1) F.1 F.2.1 dX2_ends_21 (by decide) ?_
        exact ret _ _ _ _ ls _ ⟨rfl, rfl⟩ I dX2_ends_22
set_option maxHeartbeats 8000000 in
set_option maxRecDepth 100000 in
theorem mmt_joined_bad (l : Launch) (D : va_G) (h : Nat → Nat) (ca : Nat → ClassId) (n sr tg : Nat) (a : Nat → Nat) (wh : Nat → Bool) (ms : Nat → Nat) (x y : Int32) (hbp : (xbad n x || xbad n y) = true) : WMi l yX2_joined (ws_ yX2_joined cX2_joined 3 (some .boolean)) ({ frames := 1, cells := 0, slots := 0, locals := 22 } : Room) D (MW h ca (n, sr, tg, a, wh, ms)) (MW h ca) (MT ca) [.ref (h 0), .int x, .int y] (fun r' u' => r' = nI 0 ∧ u' = (n, sr, tg, a, wh, ms)) := by
  refine wm_z (by decide) (Nat.le_of_ble_eq_true rfl) ?_
  intro p e R s m args below meth c ls A Q hR F ret I hl
  have hl : lv_has ls 3 [(0, .ref (h 0)), (1, .int x), (2, .int y)] := hl
  refine lv_aload_n F.1 F.2.1 dX2_joined_0 rfl (lv_at hl 0 rfl) ?_
  refine lv_iload_n F.1 F.2.1 dX2_joined_1 rfl (lv_at hl 1 rfl) ?_
  refine mk_isVertex F I hl dX2_joined_2 ⟨by rw [hR]; decide, by rw [hR]; decide⟩ (Nat.le_of_ble_eq_true rfl) ⟨Nat.zero_le _, Nat.zero_le _⟩ (fun H locs I => ?_)
  refine nb_if_eq (tgt := 34) F.1 F.2.1 dX2_joined_5 (by decide) (fun c1 => ?_) (fun c1 => ?_)
  · refine lv_iconst (v := nI 0) F.1 F.2.1 dX2_joined_34 (by decide) ?_
    exact ret false _ _ _ ls _ ⟨rfl, rfl⟩ I dX2_joined_35
  · refine lv_aload_n F.1 F.2.1 dX2_joined_8 rfl (lv_at hl 0 rfl) ?_
    refine lv_iload_n F.1 F.2.1 dX2_joined_9 rfl (lv_at hl 2 rfl) ?_
    refine mk_isVertex F I hl dX2_joined_10 ⟨by rw [hR]; decide, by rw [hR]; decide⟩ (Nat.le_of_ble_eq_true rfl) ⟨Nat.zero_le _, Nat.zero_le _⟩ (fun H locs I => ?_)
    refine nb_if_eq (tgt := 34) F.1 F.2.1 dX2_joined_13 (by decide) (fun c2 => ?_) (fun c2 => ?_)
    · refine lv_iconst (v := nI 0) F.1 F.2.1 dX2_joined_34 (by decide) ?_
      exact ret false _ _ _ ls _ ⟨rfl, rfl⟩ I dX2_joined_35
    · rw [Bool.not_eq_true'] at c1 c2
      rw [c1, c2] at hbp
      cases hbp
set_option maxHeartbeats 8000000 in
set_option maxRecDepth 100000 in
theorem mmt_joined (l : Launch) (D : va_G) (h : Nat → Nat) (ca : Nat → ClassId) (n sr tg : Nat) (a : Nat → Nat) (wh : Nat → Bool) (ms : Nat → Nat) (j k : Nat) (hn : n ≤ 8) (hj : j < n) (hk : k < n) (haj : a j < 2 ^ 31) : WMi l yX2_joined (ws_ yX2_joined cX2_joined 3 (some .boolean)) ({ frames := 1, cells := 0, slots := 0, locals := 22 } : Room) D (MW h ca (n, sr, tg, a, wh, ms)) (MW h ca) (MT ca) [.ref (h 0), .int (nI j), .int (nI k)] (fun r' u' => r' = nI ((a j).testBit k).toNat ∧ u' = (n, sr, tg, a, wh, ms)) := by
  refine wm_z (by decide) (Nat.le_of_ble_eq_true rfl) ?_
  intro p e R s m args below meth c ls A Q hR F ret I hl
  have hl : lv_has ls 3 [(0, .ref (h 0)), (1, .int (nI j)), (2, .int (nI k))] := hl
  refine lv_aload_n F.1 F.2.1 dX2_joined_0 rfl (lv_at hl 0 rfl) ?_
  refine lv_iload_n F.1 F.2.1 dX2_joined_1 rfl (lv_at hl 1 rfl) ?_
  refine mk_isVertex F I hl dX2_joined_2 ⟨by rw [hR]; decide, by rw [hR]; decide⟩ (Nat.le_of_ble_eq_true rfl) ⟨Nat.zero_le _, Nat.zero_le _⟩ (fun H locs I => ?_)
  refine nb_if_eq (tgt := 34) F.1 F.2.1 dX2_joined_5 (by decide) (fun c1 => ?_) (fun c1 => ?_)
  · rw [xbad_ok hn hj] at c1
    cases c1
  · refine lv_aload_n F.1 F.2.1 dX2_joined_8 rfl (lv_at hl 0 rfl) ?_
    refine lv_iload_n F.1 F.2.1 dX2_joined_9 rfl (lv_at hl 2 rfl) ?_
    refine mk_isVertex F I hl dX2_joined_10 ⟨by rw [hR]; decide, by rw [hR]; decide⟩ (Nat.le_of_ble_eq_true rfl) ⟨Nat.zero_le _, Nat.zero_le _⟩ (fun H locs I => ?_)
    refine nb_if_eq (tgt := 34) F.1 F.2.1 dX2_joined_13 (by decide) (fun c2 => ?_) (fun c2 => ?_)
    · rw [xbad_ok hn hk] at c2
      cases c2
    · refine lv_aload_n F.1 F.2.1 dX2_joined_16 rfl (lv_at hl 0 rfl) ?_
      refine lv_aload_n F.1 F.2.1 dX2_joined_17 rfl (lv_at hl 0 rfl) ?_
      refine mg_near F I dX2_joined_18 ?_
      refine lv_iload_n F.1 F.2.1 dX2_joined_21 rfl (lv_at hl 1 rfl) ?_
      refine ma_near F I dX2_joined_22 (by omega) ?_
      refine lv_iload_n F.1 F.2.1 dX2_joined_23 rfl (lv_at hl 2 rfl) ?_
      refine mk_has F I hl dX2_joined_24 ⟨by rw [hR]; decide, by rw [hR]; decide⟩ (Nat.le_of_ble_eq_true rfl) ⟨Nat.zero_le _, Nat.zero_le _⟩ haj (by omega) (fun H locs I => ?_)
      refine nb_if_eq (tgt := 34) F.1 F.2.1 dX2_joined_27 (by decide) (fun c3 => ?_) (fun c3 => ?_)
      · refine lv_iconst (v := nI 0) F.1 F.2.1 dX2_joined_34 (by decide) ?_
        exact ret false _ _ _ ls _ ⟨by rw [c3], rfl⟩ I dX2_joined_35
      · refine lv_iconst (v := nI 1) F.1 F.2.1 dX2_joined_30 (by decide) ?_
        refine lv_goto (tgt := 35) F.1 F.2.1 dX2_joined_31 (by decide) ?_
        exact ret true _ _ _ ls _ ⟨by rw [c3], rfl⟩ I dX2_joined_35
set_option maxHeartbeats 8000000 in
set_option maxRecDepth 100000 in
theorem mmt_ends (l : Launch) (D : va_G) (h : Nat → Nat) (ca : Nat → ClassId) (n sr tg : Nat) (a : Nat → Nat) (wh : Nat → Bool) (ms : Nat → Nat) (j k : Nat) (hn : n ≤ 8) (hj : j < n) (hk : k < n) (hne : j ≠ k) : WMi l yX2_ends (ws_ yX2_ends cX2_ends 3 (some .int)) ({ frames := 1, cells := 0, slots := 0, locals := 21 } : Room) D (MW h ca (n, sr, tg, a, wh, ms)) (MW h ca) (MT ca) [.ref (h 0), .int (nI j), .int (nI k)] (fun r' u' => r' = nI 0 ∧ u' = (n, j, k, a, wh, ms)) := by
  refine wm_i (by decide) (Nat.le_of_ble_eq_true rfl) ?_
  intro p e R s m args below meth c ls A Q hR F ret I hl
  have hl : lv_has ls 3 [(0, .ref (h 0)), (1, .int (nI j)), (2, .int (nI k))] := hl
  refine lv_aload_n F.1 F.2.1 dX2_ends_0 rfl (lv_at hl 0 rfl) ?_
  refine lv_iload_n F.1 F.2.1 dX2_ends_1 rfl (lv_at hl 1 rfl) ?_
  refine mk_isVertex F I hl dX2_ends_2 ⟨by rw [hR]; decide, by rw [hR]; decide⟩ (Nat.le_of_ble_eq_true rfl) ⟨Nat.zero_le _, Nat.zero_le _⟩ (fun H locs I => ?_)
  refine nb_if_eq (tgt := 21) F.1 F.2.1 dX2_ends_5 (by decide) (fun c1 => ?_) (fun c1 => ?_)
  · rw [xbad_ok hn hj] at c1
    cases c1
  · refine lv_aload_n F.1 F.2.1 dX2_ends_8 rfl (lv_at hl 0 rfl) ?_
    refine lv_iload_n F.1 F.2.1 dX2_ends_9 rfl (lv_at hl 2 rfl) ?_
    refine mk_isVertex F I hl dX2_ends_10 ⟨by rw [hR]; decide, by rw [hR]; decide⟩ (Nat.le_of_ble_eq_true rfl) ⟨Nat.zero_le _, Nat.zero_le _⟩ (fun H locs I => ?_)
    refine nb_if_eq (tgt := 21) F.1 F.2.1 dX2_ends_13 (by decide) (fun c2 => ?_) (fun c2 => ?_)
    · rw [xbad_ok hn hk] at c2
      cases c2
    · refine lv_iload_n F.1 F.2.1 dX2_ends_16 rfl (lv_at hl 1 rfl) ?_
      refine lv_iload_n F.1 F.2.1 dX2_ends_17 rfl (lv_at hl 2 rfl) ?_
      refine nv_icmp_ne (tgt := 23) F.1 F.2.1 dX2_ends_18 (by decide) ⟨by omega, by omega⟩ (fun c3 => ?_) (fun c3 => ?_)
      · refine lv_aload_n F.1 F.2.1 dX2_ends_23 rfl (lv_at hl 0 rfl) ?_
        refine lv_iload_n F.1 F.2.1 dX2_ends_24 rfl (lv_at hl 1 rfl) ?_
        refine mp_s F I dX2_ends_25 (fun H locs I => ?_)
        refine lv_aload_n F.1 F.2.1 dX2_ends_28 rfl (lv_at hl 0 rfl) ?_
        refine lv_iload_n F.1 F.2.1 dX2_ends_29 rfl (lv_at hl 2 rfl) ?_
        refine mp_t F I dX2_ends_30 (fun H locs I => ?_)
        refine lv_iconst (v := nI 0) F.1 F.2.1 dX2_ends_33 (by decide) ?_
        exact ret _ _ _ _ ls _ ⟨rfl, rfl⟩ I dX2_ends_34
      · exact absurd c3 hne
set_option maxHeartbeats 8000000 in
set_option maxRecDepth 100000 in
theorem mmt_edge (l : Launch) (D : va_G) (h : Nat → Nat) (ca : Nat → ClassId) (n sr tg : Nat) (a : Nat → Nat) (wh : Nat → Bool) (ms : Nat → Nat) (j k : Nat) (o : Int32) (hn : n ≤ 8) (hj : j < n) (hk : k < n) (hne : j ≠ k) (haj : a j < 2 ^ 31) (hak : a k < 2 ^ 31) : WMi l yX2_edge (ws_ yX2_edge cX2_edge 5 (some .int)) ({ frames := 1, cells := 0, slots := 0, locals := 23 } : Room) D (MW h ca (n, sr, tg, a, wh, ms)) (MW h ca) (MT ca) [.ref (h 0), .int (nI j), .int (nI k), .int o] (fun r' u' => r' = nI ((a j).testBit k).toNat ∧ u' = (n, sr, tg, if o = 0 then ulk a j k else lnk a j k, wh, ms)) := by
  refine wm_i (by decide) (Nat.le_of_ble_eq_true rfl) ?_
  intro p e R s m args below meth c ls A Q hR F ret I hl
  have hl : lv_has ls 5 [(0, .ref (h 0)), (1, .int (nI j)), (2, .int (nI k)), (3, .int o)] := hl
  refine lv_aload_n F.1 F.2.1 dX2_edge_0 rfl (lv_at hl 0 rfl) ?_
  refine lv_iload_n F.1 F.2.1 dX2_edge_1 rfl (lv_at hl 1 rfl) ?_
  refine mk_isVertex F I hl dX2_edge_2 ⟨by rw [hR]; decide, by rw [hR]; decide⟩ (Nat.le_of_ble_eq_true rfl) ⟨Nat.zero_le _, Nat.zero_le _⟩ (fun H locs I => ?_)
  refine nb_if_eq (tgt := 21) F.1 F.2.1 dX2_edge_5 (by decide) (fun c1 => ?_) (fun c1 => ?_)
  · rw [xbad_ok hn hj] at c1
    cases c1
  · refine lv_aload_n F.1 F.2.1 dX2_edge_8 rfl (lv_at hl 0 rfl) ?_
    refine lv_iload_n F.1 F.2.1 dX2_edge_9 rfl (lv_at hl 2 rfl) ?_
    refine mk_isVertex F I hl dX2_edge_10 ⟨by rw [hR]; decide, by rw [hR]; decide⟩ (Nat.le_of_ble_eq_true rfl) ⟨Nat.zero_le _, Nat.zero_le _⟩ (fun H locs I => ?_)
    refine nb_if_eq (tgt := 21) F.1 F.2.1 dX2_edge_13 (by decide) (fun c2 => ?_) (fun c2 => ?_)
    · rw [xbad_ok hn hk] at c2
      cases c2
    · refine lv_iload_n F.1 F.2.1 dX2_edge_16 rfl (lv_at hl 1 rfl) ?_
      refine lv_iload_n F.1 F.2.1 dX2_edge_17 rfl (lv_at hl 2 rfl) ?_
      refine nv_icmp_ne (tgt := 23) F.1 F.2.1 dX2_edge_18 (by decide) ⟨by omega, by omega⟩ (fun c3 => ?_) (fun c3 => ?_)
      · refine lv_aload_n F.1 F.2.1 dX2_edge_23 rfl (lv_at hl 0 rfl) ?_
        refine lv_aload_n F.1 F.2.1 dX2_edge_24 rfl (lv_at hl 0 rfl) ?_
        refine mg_near F I dX2_edge_25 ?_
        refine lv_iload_n F.1 F.2.1 dX2_edge_28 rfl (lv_at hl 1 rfl) ?_
        refine ma_near F I dX2_edge_29 (by omega) ?_
        refine lv_iload_n F.1 F.2.1 dX2_edge_30 rfl (lv_at hl 2 rfl) ?_
        refine mk_has F I hl dX2_edge_31 ⟨by rw [hR]; decide, by rw [hR]; decide⟩ (Nat.le_of_ble_eq_true rfl) ⟨Nat.zero_le _, Nat.zero_le _⟩ haj (by omega) (fun H locs I => ?_)
        refine nb_if_eq (tgt := 41) F.1 F.2.1 dX2_edge_34 (by decide) (fun c4 => ?_) (fun c4 => ?_)
        · refine lv_iconst (v := nI 0) F.1 F.2.1 dX2_edge_41 (by decide) ?_
          refine lv_istore (lv' := [(4, .int (nI 0)), (0, .ref (h 0)), (1, .int (nI j)), (2, .int (nI k)), (3, .int o)]) F.1 F.2.1 dX2_edge_42 hl (by decide) rfl (fun ls hl => ?_)
          refine lv_aload_n F.1 F.2.1 dX2_edge_44 rfl (lv_at hl 1 rfl) ?_
          refine lv_iload_n F.1 F.2.1 dX2_edge_45 rfl (lv_at hl 2 rfl) ?_
          refine lv_iload_n F.1 F.2.1 dX2_edge_46 rfl (lv_at hl 3 rfl) ?_
          refine lv_iload_n F.1 F.2.1 dX2_edge_47 rfl (lv_at hl 4 rfl) ?_
          refine lv_if_eq (tgt := 55) F.1 F.2.1 dX2_edge_48 (by decide) (fun c5 => ?_) (fun c5 => ?_)
          · refine lv_iconst (v := nI 0) F.1 F.2.1 dX2_edge_55 (by decide) ?_
            refine mk_put F I hl dX2_edge_56 ⟨by rw [hR]; decide, by rw [hR]; decide⟩ (Nat.le_of_ble_eq_true rfl) ⟨Nat.zero_le _, Nat.zero_le _⟩ (b := false) (by omega) (by omega) hne haj hak (fun H locs I => ?_)
            refine lv_iload F.1 F.2.1 dX2_edge_59 (lv_at hl 0 rfl) ?_
            exact ret _ _ _ _ ls _ ⟨by rw [c4]; rfl, by rw [if_pos c5]; rfl⟩ I dX2_edge_61
          · refine lv_iconst (v := nI 1) F.1 F.2.1 dX2_edge_51 (by decide) ?_
            refine lv_goto (tgt := 56) F.1 F.2.1 dX2_edge_52 (by decide) ?_
            refine mk_put F I hl dX2_edge_56 ⟨by rw [hR]; decide, by rw [hR]; decide⟩ (Nat.le_of_ble_eq_true rfl) ⟨Nat.zero_le _, Nat.zero_le _⟩ (b := true) (by omega) (by omega) hne haj hak (fun H locs I => ?_)
            refine lv_iload F.1 F.2.1 dX2_edge_59 (lv_at hl 0 rfl) ?_
            exact ret _ _ _ _ ls _ ⟨by rw [c4]; rfl, by rw [if_neg c5]; rfl⟩ I dX2_edge_61
        · refine lv_iconst (v := nI 1) F.1 F.2.1 dX2_edge_37 (by decide) ?_
          refine lv_goto (tgt := 42) F.1 F.2.1 dX2_edge_38 (by decide) ?_
          refine lv_istore (lv' := [(4, .int (nI 1)), (0, .ref (h 0)), (1, .int (nI j)), (2, .int (nI k)), (3, .int o)]) F.1 F.2.1 dX2_edge_42 hl (by decide) rfl (fun ls hl => ?_)
          refine lv_aload_n F.1 F.2.1 dX2_edge_44 rfl (lv_at hl 1 rfl) ?_
          refine lv_iload_n F.1 F.2.1 dX2_edge_45 rfl (lv_at hl 2 rfl) ?_
          refine lv_iload_n F.1 F.2.1 dX2_edge_46 rfl (lv_at hl 3 rfl) ?_
          refine lv_iload_n F.1 F.2.1 dX2_edge_47 rfl (lv_at hl 4 rfl) ?_
          refine lv_if_eq (tgt := 55) F.1 F.2.1 dX2_edge_48 (by decide) (fun c5 => ?_) (fun c5 => ?_)
          · refine lv_iconst (v := nI 0) F.1 F.2.1 dX2_edge_55 (by decide) ?_
            refine mk_put F I hl dX2_edge_56 ⟨by rw [hR]; decide, by rw [hR]; decide⟩ (Nat.le_of_ble_eq_true rfl) ⟨Nat.zero_le _, Nat.zero_le _⟩ (b := false) (by omega) (by omega) hne haj hak (fun H locs I => ?_)
            refine lv_iload F.1 F.2.1 dX2_edge_59 (lv_at hl 0 rfl) ?_
            exact ret _ _ _ _ ls _ ⟨by rw [c4]; rfl, by rw [if_pos c5]; rfl⟩ I dX2_edge_61
          · refine lv_iconst (v := nI 1) F.1 F.2.1 dX2_edge_51 (by decide) ?_
            refine lv_goto (tgt := 56) F.1 F.2.1 dX2_edge_52 (by decide) ?_
            refine mk_put F I hl dX2_edge_56 ⟨by rw [hR]; decide, by rw [hR]; decide⟩ (Nat.le_of_ble_eq_true rfl) ⟨Nat.zero_le _, Nat.zero_le _⟩ (b := true) (by omega) (by omega) hne haj hak (fun H locs I => ?_)
            refine lv_iload F.1 F.2.1 dX2_edge_59 (lv_at hl 0 rfl) ?_
            exact ret _ _ _ _ ls _ ⟨by rw [c4]; rfl, by rw [if_neg c5]; rfl⟩ I dX2_edge_61
      · exact absurd c3 hne
set_option maxHeartbeats 8000000 in
set_option maxRecDepth 100000 in
theorem mmt_inner (l : Launch) (D : va_G) (h : Nat → Nat) (ca : Nat → ClassId) (n sr tg : Nat) (a : Nat → Nat) (wh : Nat → Bool) (ms : Nat → Nat) (hn : n ≤ 8) (hs : sr < n) (ht : tg < n) : WMi l yX2_inner (ws_ yX2_inner cX2_inner 1 (some .int)) ({ frames := 0, cells := 0, slots := 0, locals := 0 } : Room) D (MW h ca (n, sr, tg, a, wh, ms)) (MW h ca) (MT ca) [.ref (h 0)] (fun r' u' => r' = nI (inn n sr tg) ∧ u' = (n, sr, tg, a, wh, ms)) := by
  refine wm_i (by decide) (Nat.le_of_ble_eq_true rfl) ?_
  intro p e R s m args below meth c ls A Q hR F ret I hl
  have hl : lv_has ls 1 [(0, .ref (h 0))] := hl
  have h2 : 2 ^ n < 2 ^ 31 := Nat.pow_lt_pow_right (by decide) (by omega)
  have h1 : 1 ≤ 2 ^ n := Nat.one_le_two_pow
  refine lv_iconst (v := nI 1) F.1 F.2.1 dX2_inner_0 (by decide) ?_
  refine lv_aload_n F.1 F.2.1 dX2_inner_1 rfl (lv_at hl 0 rfl) ?_
  refine mg_n F I dX2_inner_2 ?_
  refine nv_one F.1 F.2.1 dX2_inner_5 (by omega) ?_
  refine lv_iconst (v := nI 1) F.1 F.2.1 dX2_inner_6 (by decide) ?_
  refine nv_isub F.1 F.2.1 dX2_inner_7 (by omega) ?_
  refine lv_iconst (v := nI 1) F.1 F.2.1 dX2_inner_8 (by decide) ?_
  refine lv_aload_n F.1 F.2.1 dX2_inner_9 rfl (lv_at hl 0 rfl) ?_
  refine mg_s F I dX2_inner_10 ?_
  refine nv_one F.1 F.2.1 dX2_inner_13 (by omega) ?_
  refine nv_dif F.1 F.2.1 dX2_inner_14 dX2_inner_15 dX2_inner_16 (by omega) ?_
  refine lv_iconst (v := nI 1) F.1 F.2.1 dX2_inner_17 (by decide) ?_
  refine lv_aload_n F.1 F.2.1 dX2_inner_18 rfl (lv_at hl 0 rfl) ?_
  refine mg_t F I dX2_inner_19 ?_
  refine nv_one F.1 F.2.1 dX2_inner_22 (by omega) ?_
  refine nv_dif F.1 F.2.1 dX2_inner_23 dX2_inner_24 dX2_inner_25 (Nat.lt_of_le_of_lt (dif_le _ _) (by omega)) ?_
  exact ret _ _ _ _ ls _ ⟨by rw [inn_eq], rfl⟩ I dX2_inner_26
section XA
variable {p : Program} {l : Launch} {e : Env} {R : Room} {s : State} {m : MethodId} {args : Array Value} {below : List Frame} {meth : Method} {c : Code} {H : Heap} {locs : List Loc} {cells slots : Nat} {Q : State → Prop} {pc : Nat} {ls : Array Slot} {rest : List Value} {cc : ByteArray} {nL : Nat} {D : va_G} {A : Nat → Prop} {H0 : Heap} {h : Nat → Nat} {ca : Nat → ClassId} {lv : List (Nat × Value)} 
theorem mk_inner {n sr tg : Nat} {a : Nat → Nat} {wh : Nat → Bool} {ms : Nat → Nat} (F : CallFix p m c cc nL s args lw_all RX2) (I : WI D (MW h ca (n, sr, tg, a, wh, ms)) (MT ca) A s H0 H locs) (hl : lv_has ls nL lv) (hdg : decode cc pc = .ok (.invokevirtual 42, 3)) (hR : 1 ≤ R.frames ∧ 20 ≤ R.locals) (hroom : (rest.map fun v => v.category).sum ≤ 8) (hf : cells ≤ R.cells ∧ slots ≤ R.slots) (hn : n ≤ 8) (hs : sr < n) (ht : tg < n) (kk : ∀ (H1 : Heap) (locs1 : List Loc), WI D (MW h ca (n, sr, tg, a, wh, ms)) (MT ca) A s H0 H1 locs1 → W p l e R s m args below meth c H1 locs1 cells slots Q (F0 m (pc + 3) ls (.int (nI (inn n sr tg)) :: rest))) : W p l e R s m args below meth c H locs cells slots Q (F0 m pc ls (.ref (h 0) :: rest)) :=
  wc_i F I (mmt_inner l D h ca n sr tg a wh ms hn hs ht) (cwV 0 F.2.2.2.2 (lw_V q224 q226 qs15 q24 q227) rfl rfl rfl (by decide +kernel) hR) (m_recv I) hl rfl rfl hroom hdg hf (fun r u H1 locs1 hp I => by
    obtain ⟨rfl, rfl⟩ := hp; exact kk H1 locs1 I)

end XA
set_option maxHeartbeats 8000000 in
set_option maxRecDepth 100000 in
theorem mmt_leads (l : Launch) (D : va_G) (h : Nat → Nat) (ca : Nat → ClassId) (n sr tg : Nat) (a : Nat → Nat) (wh : Nat → Bool) (ms : Nat → Nat) (S : Nat) (hn : n ≤ 8) (hs : sr < n) (ht : tg < n) (hG : Gok n a) (hS : S < 256) : WMi l yX2_leads (ws_ yX2_leads cX2_leads 5 (some .boolean)) ({ frames := 1, cells := 0, slots := 0, locals := 22 } : Room) D (MW h ca (n, sr, tg, a, wh, ms)) (MW h ca) (MT ca) [.ref (h 0), .int (nI S)] (fun r' u' => ∃ b : Bool, (b = true ↔ Lds a sr tg S) ∧ r' = nI b.toNat ∧ u' = (n, sr, tg, a, wh, ms)) := by
  refine wm_z (by decide) (Nat.le_of_ble_eq_true rfl) ?_
  intro p e R s m args below meth c ls A Q hR F ret I hl
  have hl : lv_has ls 5 [(0, .ref (h 0)), (1, .int (nI S))] := hl
  have hb : ∀ i v, mb (lr n a sr S i) v → v < n := fun i v h => lr_lt hG hs i v h
  have L : ∀ (k : Nat), ∀ (i : Nat), 8 - i < k → i ≤ 8 → ∀ (H : Heap) (locs : List Loc) (ls : Array Slot), WI D (MW h ca (n, sr, tg, a, wh, ms)) (MT ca) A s s.heap H locs → lv_has ls 5 [(3, .int (nI i)), (2, .int (nI (lr n a sr S i))), (0, .ref (h 0)), (1, .int (nI S))] → W p l e R s m args below meth c H locs 0 0 Q (F0 m 14 ls []) := by
    intro k
    induction k with
    | zero =>
      intro i hk hi
      exact absurd hk (Nat.not_lt_zero _)
    | succ k ih =>
      intro i hk hi H locs ls I hl
      have ihO := ih
      have L3 : ∀ (k : Nat), ∀ (v : Nat), n - v < k → i < 8 → v ≤ n → ∀ (H : Heap) (locs : List Loc) (ls : Array Slot), WI D (MW h ca (n, sr, tg, a, wh, ms)) (MT ca) A s s.heap H locs → lv_has ls 5 [(4, .int (nI v)), (3, .int (nI i)), (2, .int (nI (lp a S (lr n a sr S i) v))), (0, .ref (h 0)), (1, .int (nI S))] → W p l e R s m args below meth c H locs 0 0 Q (F0 m 23 ls []) := by
        intro k
        induction k with
        | zero =>
          intro v hk hi hv
          exact absurd hk (Nat.not_lt_zero _)
        | succ k ih =>
          intro v hk hi hv H locs ls I hl
          refine lv_iload F.1 F.2.1 dX2_leads_23 (lv_at hl 0 rfl) ?_
          refine lv_aload_n F.1 F.2.1 dX2_leads_25 rfl (lv_at hl 3 rfl) ?_
          refine mg_n F I dX2_leads_26 ?_
          refine nv_icmp_ge (tgt := 64) F.1 F.2.1 dX2_leads_29 (by decide) ⟨by omega, by omega⟩ (fun c1 => ?_) (fun c1 => ?_)
          · have e : v = n := by omega
            rw [e] at hl
            refine nv_iinc (lv' := [(3, .int (nI (i + 1))), (4, .int (nI n)), (2, .int (nI (lp a S (lr n a sr S i) n))), (0, .ref (h 0)), (1, .int (nI S))]) F.1 F.2.1 dX2_leads_64 hl (k := 1) rfl (by decide) rfl (fun ls hl => ?_)
            refine lv_goto (tgt := 14) F.1 F.2.1 dX2_leads_67 (by decide) ?_
            exact ihO (i + 1) (by omega) (by omega) _ _ _ I (lv_sub hl [0, 2, 3, 4] rfl)
          · have hlt : lp a S (lr n a sr S i) v < 2 ^ 31 := Nat.lt_of_lt_of_le (mb_pow (k := n) (lp_lt hG (hb i) v (by omega))) (Nat.pow_le_pow_right (by decide) (by omega))
            refine lv_aload_n F.1 F.2.1 dX2_leads_32 rfl (lv_at hl 3 rfl) ?_
            refine lv_iload_n F.1 F.2.1 dX2_leads_33 rfl (lv_at hl 2 rfl) ?_
            refine lv_iload F.1 F.2.1 dX2_leads_34 (lv_at hl 0 rfl) ?_
            refine mk_has F I hl dX2_leads_36 ⟨by rw [hR]; decide, by rw [hR]; decide⟩ (Nat.le_of_ble_eq_true rfl) ⟨Nat.zero_le _, Nat.zero_le _⟩ hlt (by omega) (fun H locs I => ?_)
            refine nb_if_eq (tgt := 56) F.1 F.2.1 dX2_leads_39 (by decide) (fun c2 => ?_) (fun c2 => ?_)
            · refine lv_iload_n F.1 F.2.1 dX2_leads_56 rfl (lv_at hl 2 rfl) ?_
              refine lv_istore_n (lv' := [(2, .int (nI (lp a S (lr n a sr S i) v))), (4, .int (nI v)), (3, .int (nI i)), (0, .ref (h 0)), (1, .int (nI S))]) F.1 F.2.1 dX2_leads_57 rfl hl (by decide) rfl (fun ls hl => ?_)
              refine nv_iinc (lv' := [(4, .int (nI (v + 1))), (2, .int (nI (lp a S (lr n a sr S i) v))), (3, .int (nI i)), (0, .ref (h 0)), (1, .int (nI S))]) F.1 F.2.1 dX2_leads_58 hl (k := 1) rfl (by decide) rfl (fun ls hl => ?_)
              refine lv_goto (tgt := 23) F.1 F.2.1 dX2_leads_61 (by decide) ?_
              have e : lp a S (lr n a sr S i) v = lp a S (lr n a sr S i) (v + 1) := by
                conv => rhs; unfold lp
                rw [if_neg (by rw [c2]; decide)]
              rw [e] at hl
              exact ih (v + 1) (by omega) hi (by omega) _ _ _ I (lv_sub hl [0, 2, 1, 3, 4] rfl)
            · refine lv_iload_n F.1 F.2.1 dX2_leads_42 rfl (lv_at hl 2 rfl) ?_
              refine lv_aload_n F.1 F.2.1 dX2_leads_43 rfl (lv_at hl 3 rfl) ?_
              refine mg_near F I dX2_leads_44 ?_
              refine lv_iload F.1 F.2.1 dX2_leads_47 (lv_at hl 0 rfl) ?_
              refine ma_near F I dX2_leads_49 (by omega) ?_
              refine lv_iload_n F.1 F.2.1 dX2_leads_50 rfl (lv_at hl 4 rfl) ?_
              refine nv_iand F.1 F.2.1 dX2_leads_51 ?_
              refine nv_ior F.1 F.2.1 dX2_leads_52 ?_
              refine lv_goto (tgt := 57) F.1 F.2.1 dX2_leads_53 (by decide) ?_
              refine lv_istore_n (lv' := [(2, .int (nI ((lp a S (lr n a sr S i) v) ||| ((a v) &&& S)))), (4, .int (nI v)), (3, .int (nI i)), (0, .ref (h 0)), (1, .int (nI S))]) F.1 F.2.1 dX2_leads_57 rfl hl (by decide) rfl (fun ls hl => ?_)
              refine nv_iinc (lv' := [(4, .int (nI (v + 1))), (2, .int (nI ((lp a S (lr n a sr S i) v) ||| ((a v) &&& S)))), (3, .int (nI i)), (0, .ref (h 0)), (1, .int (nI S))]) F.1 F.2.1 dX2_leads_58 hl (k := 1) rfl (by decide) rfl (fun ls hl => ?_)
              refine lv_goto (tgt := 23) F.1 F.2.1 dX2_leads_61 (by decide) ?_
              have e : lp a S (lr n a sr S i) v ||| (a v &&& S) = lp a S (lr n a sr S i) (v + 1) := by
                conv => rhs; unfold lp
                rw [if_pos c2]
              rw [e] at hl
              exact ih (v + 1) (by omega) hi (by omega) _ _ _ I (lv_sub hl [0, 2, 1, 3, 4] rfl)
      refine lv_iload_n F.1 F.2.1 dX2_leads_14 rfl (lv_at hl 0 rfl) ?_
      refine lv_bipush (v := nI 8) F.1 F.2.1 dX2_leads_15 (by decide) ?_
      refine nv_icmp_ge (tgt := 70) F.1 F.2.1 dX2_leads_17 (by decide) ⟨by omega, by omega⟩ (fun c1 => ?_) (fun c1 => ?_)
      · have e : i = 8 := by omega
        subst e
        have hlt : lr n a sr S 8 &&& a tg < 2 ^ 31 := Nat.lt_of_le_of_lt Nat.and_le_right (hG.b31 hn ht)
        refine lv_iload_n F.1 F.2.1 dX2_leads_70 rfl (lv_at hl 1 rfl) ?_
        refine lv_aload_n F.1 F.2.1 dX2_leads_71 rfl (lv_at hl 2 rfl) ?_
        refine mg_near F I dX2_leads_72 ?_
        refine lv_aload_n F.1 F.2.1 dX2_leads_75 rfl (lv_at hl 2 rfl) ?_
        refine mg_t F I dX2_leads_76 ?_
        refine ma_near F I dX2_leads_79 (by omega) ?_
        refine nv_iand F.1 F.2.1 dX2_leads_80 ?_
        refine nv_if_eq (tgt := 88) F.1 F.2.1 dX2_leads_81 (by decide) hlt (fun c2 => ?_) (fun c2 => ?_)
        · refine lv_iconst (v := nI 0) F.1 F.2.1 dX2_leads_88 (by decide) ?_
          exact ret false _ _ _ ls _ ⟨false, ⟨fun z => absurd z (by decide), fun z => absurd c2 ((lr_lds hn hG hs hS).mpr z)⟩, rfl, rfl⟩ I dX2_leads_89
        · refine lv_iconst (v := nI 1) F.1 F.2.1 dX2_leads_84 (by decide) ?_
          refine lv_goto (tgt := 89) F.1 F.2.1 dX2_leads_85 (by decide) ?_
          exact ret true _ _ _ ls _ ⟨true, ⟨fun _ => (lr_lds hn hG hs hS).mp c2, fun _ => rfl⟩, rfl, rfl⟩ I dX2_leads_89
      · refine lv_iconst (v := nI 0) F.1 F.2.1 dX2_leads_20 (by decide) ?_
        refine lv_istore (lv' := [(4, .int (nI 0)), (3, .int (nI i)), (2, .int (nI (lr n a sr S i))), (0, .ref (h 0)), (1, .int (nI S))]) F.1 F.2.1 dX2_leads_21 hl (by decide) rfl (fun ls hl => ?_)
        exact L3 (n + 1) 0 (by omega) c1 (by omega) _ _ _ I (lv_sub hl [0, 1, 2, 3, 4] rfl)
  refine lv_aload_n F.1 F.2.1 dX2_leads_0 rfl (lv_at hl 0 rfl) ?_
  refine mg_near F I dX2_leads_1 ?_
  refine lv_aload_n F.1 F.2.1 dX2_leads_4 rfl (lv_at hl 0 rfl) ?_
  refine mg_s F I dX2_leads_5 ?_
  refine ma_near F I dX2_leads_8 (by omega) ?_
  refine lv_iload_n F.1 F.2.1 dX2_leads_9 rfl (lv_at hl 1 rfl) ?_
  refine nv_iand F.1 F.2.1 dX2_leads_10 ?_
  refine lv_istore_n (lv' := [(2, .int (nI ((a sr) &&& S))), (0, .ref (h 0)), (1, .int (nI S))]) F.1 F.2.1 dX2_leads_11 rfl hl (by decide) rfl (fun ls hl => ?_)
  refine lv_iconst (v := nI 0) F.1 F.2.1 dX2_leads_12 (by decide) ?_
  refine lv_istore_n (lv' := [(3, .int (nI 0)), (2, .int (nI ((a sr) &&& S))), (0, .ref (h 0)), (1, .int (nI S))]) F.1 F.2.1 dX2_leads_13 rfl hl (by decide) rfl (fun ls hl => ?_)
  exact L 9 0 (by omega) (by omega) _ _ _ I (lv_sub hl [0, 1, 2, 3] rfl)
section XA
variable {p : Program} {l : Launch} {e : Env} {R : Room} {s : State} {m : MethodId} {args : Array Value} {below : List Frame} {meth : Method} {c : Code} {H : Heap} {locs : List Loc} {cells slots : Nat} {Q : State → Prop} {pc : Nat} {ls : Array Slot} {rest : List Value} {cc : ByteArray} {nL : Nat} {D : va_G} {A : Nat → Prop} {H0 : Heap} {h : Nat → Nat} {ca : Nat → ClassId} {lv : List (Nat × Value)} 
theorem mk_leads {n sr tg : Nat} {a : Nat → Nat} {wh : Nat → Bool} {ms : Nat → Nat} {S : Nat} (F : CallFix p m c cc nL s args lw_all RX2) (I : WI D (MW h ca (n, sr, tg, a, wh, ms)) (MT ca) A s H0 H locs) (hl : lv_has ls nL lv) (hdg : decode cc pc = .ok (.invokevirtual 46, 3)) (hR : 2 ≤ R.frames ∧ 46 ≤ R.locals) (hroom : (rest.map fun v => v.category).sum ≤ 8) (hf : cells ≤ R.cells ∧ slots ≤ R.slots) (hn : n ≤ 8) (hs : sr < n) (ht : tg < n) (hG : Gok n a) (hS : S < 256) (kk : ∀ (b : Bool), (b = true ↔ Lds a sr tg S) → ∀ (H1 : Heap) (locs1 : List Loc), WI D (MW h ca (n, sr, tg, a, wh, ms)) (MT ca) A s H0 H1 locs1 → W p l e R s m args below meth c H1 locs1 cells slots Q (F0 m (pc + 3) ls (.int (nI b.toNat) :: rest))) : W p l e R s m args below meth c H locs cells slots Q (F0 m pc ls (.int (nI S) :: .ref (h 0) :: rest)) :=
  wc_i F I (mmt_leads l D h ca n sr tg a wh ms S hn hs ht hG hS) (cwV 1 F.2.2.2.2 (lw_V q228 q230 qs16 q24 q231) rfl rfl rfl (by decide +kernel) hR) (m_recv I) hl rfl rfl hroom hdg hf (fun r u H1 locs1 hp I => by
    obtain ⟨b, h1, rfl, rfl⟩ := hp; exact kk b h1 H1 locs1 I)

end XA
set_option maxHeartbeats 8000000 in
set_option maxRecDepth 100000 in
theorem mmt_parts (l : Launch) (D : va_G) (h : Nat → Nat) (ca : Nat → ClassId) (n sr tg : Nat) (a : Nat → Nat) (wh : Nat → Bool) (ms : Nat → Nat) (S : Nat) (hS : S < 256) (hb : ∀ X, X < S → X &&& S = X → ms X < 2 ^ 30) : WMi l yX2_parts (ws_ yX2_parts cX2_parts 4 (some .int)) ({ frames := 0, cells := 0, slots := 0, locals := 0 } : Room) D (MW h ca (n, sr, tg, a, wh, ms)) (MW h ca) (MT ca) [.ref (h 0), .int (nI S)] (fun r' u' => r' = nI (pt wh ms S (S + 1)) ∧ u' = (n, sr, tg, a, wh, ms)) := by
  refine wm_i (by decide) (Nat.le_of_ble_eq_true rfl) ?_
  intro p e R s m args below meth c ls A Q hR F ret I hl
  have hl : lv_has ls 4 [(0, .ref (h 0)), (1, .int (nI S))] := hl
  have hpt : ∀ k, k ≤ S + 1 → pt wh ms S k < 2 ^ 31 := by
    intro k hk
    rcases pt_is (wh := wh) (ms := ms) (S := S) k with h1 | ⟨j, h1, h2, h3, h4, h5⟩
    · rw [h1]; decide
    · have := hb _ (dif_less h2 h3) (mb_subset.mpr fun v hv => (mb_dif.mp hv).1)
      omega
  have L : ∀ (k : Nat), ∀ (j : Nat), S + 1 - j < k → 1 ≤ j → j ≤ S + 1 → ∀ (H : Heap) (locs : List Loc) (ls : Array Slot), WI D (MW h ca (n, sr, tg, a, wh, ms)) (MT ca) A s s.heap H locs → lv_has ls 4 [(3, .int (nI j)), (2, .int (nI (pt wh ms S j))), (0, .ref (h 0)), (1, .int (nI S))] → W p l e R s m args below meth c H locs 0 0 Q (F0 m 4 ls []) := by
    intro k
    induction k with
    | zero =>
      intro j hk hj1 hj
      exact absurd hk (Nat.not_lt_zero _)
    | succ k ih =>
      intro j hk hj1 hj H locs ls I hl
      refine lv_iload_n F.1 F.2.1 dX2_parts_4 rfl (lv_at hl 0 rfl) ?_
      refine lv_iload_n F.1 F.2.1 dX2_parts_5 rfl (lv_at hl 3 rfl) ?_
      refine nv_icmp_gt (tgt := 60) F.1 F.2.1 dX2_parts_6 (by decide) ⟨by omega, by omega⟩ (fun c1 => ?_) (fun c1 => ?_)
      · have e : j = S + 1 := by omega
        subst e
        refine lv_iload_n F.1 F.2.1 dX2_parts_60 rfl (lv_at hl 1 rfl) ?_
        exact ret _ _ _ _ ls _ ⟨rfl, rfl⟩ I dX2_parts_61
      · refine lv_iload_n F.1 F.2.1 dX2_parts_9 rfl (lv_at hl 0 rfl) ?_
        refine lv_iload_n F.1 F.2.1 dX2_parts_10 rfl (lv_at hl 3 rfl) ?_
        refine nv_iand F.1 F.2.1 dX2_parts_11 ?_
        refine lv_iload_n F.1 F.2.1 dX2_parts_12 rfl (lv_at hl 0 rfl) ?_
        refine nv_icmp_ne (tgt := 54) F.1 F.2.1 dX2_parts_13 (by decide) ⟨by have : j &&& S ≤ j := Nat.and_le_left; omega, by omega⟩ (fun c2 => ?_) (fun c2 => ?_)
        · refine nv_iinc (lv' := [(3, .int (nI (j + 1))), (2, .int (nI (pt wh ms S j))), (0, .ref (h 0)), (1, .int (nI S))]) F.1 F.2.1 dX2_parts_54 hl (k := 0) rfl (by decide) rfl (fun ls hl => ?_)
          refine lv_goto (tgt := 4) F.1 F.2.1 dX2_parts_57 (by decide) ?_
          have e : pt wh ms S j = pt wh ms S (j + 1) := by
            conv => rhs; unfold pt
            rw [if_neg (fun z => c2 z.2.1)]
          rw [e] at hl
          exact ih (j + 1) (by omega) (by omega) (by omega) _ _ _ I (lv_sub hl [0, 1, 2, 3] rfl)
        · refine lv_aload_n F.1 F.2.1 dX2_parts_16 rfl (lv_at hl 2 rfl) ?_
          refine mg_whole F I dX2_parts_17 ?_
          refine lv_iload_n F.1 F.2.1 dX2_parts_20 rfl (lv_at hl 0 rfl) ?_
          refine ma_whole F I dX2_parts_21 (by omega) ?_
          refine nb_if_eq (tgt := 54) F.1 F.2.1 dX2_parts_22 (by decide) (fun c3 => ?_) (fun c3 => ?_)
          · refine nv_iinc (lv' := [(3, .int (nI (j + 1))), (2, .int (nI (pt wh ms S j))), (0, .ref (h 0)), (1, .int (nI S))]) F.1 F.2.1 dX2_parts_54 hl (k := 0) rfl (by decide) rfl (fun ls hl => ?_)
            refine lv_goto (tgt := 4) F.1 F.2.1 dX2_parts_57 (by decide) ?_
            have e : pt wh ms S j = pt wh ms S (j + 1) := by
              conv => rhs; unfold pt
              rw [if_neg (fun z => by rw [c3] at z; exact absurd z.2.2.1 (by decide))]
            rw [e] at hl
            exact ih (j + 1) (by omega) (by omega) (by omega) _ _ _ I (lv_sub hl [0, 1, 2, 3] rfl)
          · have hlt := dif_less hj1 c2
            have hms := hb _ hlt (mb_subset.mpr fun v hv => (mb_dif.mp hv).1)
            have hp := hpt j (by omega)
            refine lv_iconst (v := nI 1) F.1 F.2.1 dX2_parts_25 (by decide) ?_
            refine lv_aload_n F.1 F.2.1 dX2_parts_26 rfl (lv_at hl 2 rfl) ?_
            refine mg_most F I dX2_parts_27 ?_
            refine lv_iload_n F.1 F.2.1 dX2_parts_30 rfl (lv_at hl 3 rfl) ?_
            refine lv_iload_n F.1 F.2.1 dX2_parts_31 rfl (lv_at hl 0 rfl) ?_
            refine nv_dif F.1 F.2.1 dX2_parts_32 dX2_parts_33 dX2_parts_34 (by omega) ?_
            refine ma_most F I dX2_parts_35 (by omega) ?_
            refine nv_iadd F.1 F.2.1 dX2_parts_36 ?_
            refine lv_iload_n F.1 F.2.1 dX2_parts_37 rfl (lv_at hl 1 rfl) ?_
            refine nv_icmp_le (tgt := 54) F.1 F.2.1 dX2_parts_38 (by decide) ⟨by omega, by omega⟩ (fun c4 => ?_) (fun c4 => ?_)
            · refine nv_iinc (lv' := [(3, .int (nI (j + 1))), (2, .int (nI (pt wh ms S j))), (0, .ref (h 0)), (1, .int (nI S))]) F.1 F.2.1 dX2_parts_54 hl (k := 0) rfl (by decide) rfl (fun ls hl => ?_)
              refine lv_goto (tgt := 4) F.1 F.2.1 dX2_parts_57 (by decide) ?_
              have e : pt wh ms S j = pt wh ms S (j + 1) := by
                conv => rhs; unfold pt
                rw [if_neg (fun z => absurd z.2.2.2 (by omega))]
              rw [e] at hl
              exact ih (j + 1) (by omega) (by omega) (by omega) _ _ _ I (lv_sub hl [0, 1, 2, 3] rfl)
            · refine lv_iconst (v := nI 1) F.1 F.2.1 dX2_parts_41 (by decide) ?_
              refine lv_aload_n F.1 F.2.1 dX2_parts_42 rfl (lv_at hl 2 rfl) ?_
              refine mg_most F I dX2_parts_43 ?_
              refine lv_iload_n F.1 F.2.1 dX2_parts_46 rfl (lv_at hl 3 rfl) ?_
              refine lv_iload_n F.1 F.2.1 dX2_parts_47 rfl (lv_at hl 0 rfl) ?_
              refine nv_dif F.1 F.2.1 dX2_parts_48 dX2_parts_49 dX2_parts_50 (by omega) ?_
              refine ma_most F I dX2_parts_51 (by omega) ?_
              refine nv_iadd F.1 F.2.1 dX2_parts_52 ?_
              refine lv_istore_n (lv' := [(2, .int (nI (1 + (ms (dif S j))))), (3, .int (nI j)), (0, .ref (h 0)), (1, .int (nI S))]) F.1 F.2.1 dX2_parts_53 rfl hl (by decide) rfl (fun ls hl => ?_)
              refine nv_iinc (lv' := [(3, .int (nI (j + 1))), (2, .int (nI (1 + (ms (dif S j))))), (0, .ref (h 0)), (1, .int (nI S))]) F.1 F.2.1 dX2_parts_54 hl (k := 1) rfl (by decide) rfl (fun ls hl => ?_)
              refine lv_goto (tgt := 4) F.1 F.2.1 dX2_parts_57 (by decide) ?_
              have e : 1 + ms (dif S j) = pt wh ms S (j + 1) := by
                conv => rhs; unfold pt
                rw [if_pos ⟨hj1, c2, c3, c4⟩]
              rw [e] at hl
              exact ih (j + 1) (by omega) (by omega) (by omega) _ _ _ I (lv_sub hl [0, 1, 2, 3] rfl)
  refine lv_iconst (v := nI 0) F.1 F.2.1 dX2_parts_0 (by decide) ?_
  refine lv_istore_n (lv' := [(2, .int (nI 0)), (0, .ref (h 0)), (1, .int (nI S))]) F.1 F.2.1 dX2_parts_1 rfl hl (by decide) rfl (fun ls hl => ?_)
  refine lv_iconst (v := nI 1) F.1 F.2.1 dX2_parts_2 (by decide) ?_
  refine lv_istore_n (lv' := [(3, .int (nI 1)), (2, .int (nI 0)), (0, .ref (h 0)), (1, .int (nI S))]) F.1 F.2.1 dX2_parts_3 rfl hl (by decide) rfl (fun ls hl => ?_)
  have e : pt wh ms S 1 = 0 := by
    unfold pt
    rw [if_neg (fun z => absurd z.1 (by decide))]
    rfl
  have hl : lv_has ls 4 [(3, .int (nI 1)), (2, .int (nI (pt wh ms S 1))), (0, .ref (h 0)), (1, .int (nI S))] := by rw [e]; exact (lv_sub hl [0, 1, 2, 3] rfl)
  exact L (S + 1) 1 (by omega) (by omega) (by omega) _ _ _ I hl
section XA
variable {p : Program} {l : Launch} {e : Env} {R : Room} {s : State} {m : MethodId} {args : Array Value} {below : List Frame} {meth : Method} {c : Code} {H : Heap} {locs : List Loc} {cells slots : Nat} {Q : State → Prop} {pc : Nat} {ls : Array Slot} {rest : List Value} {cc : ByteArray} {nL : Nat} {D : va_G} {A : Nat → Prop} {H0 : Heap} {h : Nat → Nat} {ca : Nat → ClassId} {lv : List (Nat × Value)} 
theorem mk_parts {n sr tg : Nat} {a : Nat → Nat} {wh : Nat → Bool} {ms : Nat → Nat} {S : Nat} (F : CallFix p m c cc nL s args lw_all RX2) (I : WI D (MW h ca (n, sr, tg, a, wh, ms)) (MT ca) A s H0 H locs) (hl : lv_has ls nL lv) (hdg : decode cc pc = .ok (.invokevirtual 49, 3)) (hR : 1 ≤ R.frames ∧ 23 ≤ R.locals) (hroom : (rest.map fun v => v.category).sum ≤ 8) (hf : cells ≤ R.cells ∧ slots ≤ R.slots) (hS : S < 256) (hb : ∀ X, X < S → X &&& S = X → ms X < 2 ^ 30) (kk : ∀ (H1 : Heap) (locs1 : List Loc), WI D (MW h ca (n, sr, tg, a, wh, ms)) (MT ca) A s H0 H1 locs1 → W p l e R s m args below meth c H1 locs1 cells slots Q (F0 m (pc + 3) ls (.int (nI (pt wh ms S (S + 1))) :: rest))) : W p l e R s m args below meth c H locs cells slots Q (F0 m pc ls (.int (nI S) :: .ref (h 0) :: rest)) :=
  wc_i F I (mmt_parts l D h ca n sr tg a wh ms S hS hb) (cwV 1 F.2.2.2.2 (lw_V q232 q234 qs17 q24 q235) rfl rfl rfl (by decide +kernel) hR) (m_recv I) hl rfl rfl hroom hdg hf (fun r u H1 locs1 hp I => by
    obtain ⟨rfl, rfl⟩ := hp; exact kk H1 locs1 I)

end XA
set_option maxHeartbeats 8000000 in
set_option maxRecDepth 100000 in
theorem mmt_paths (l : Launch) (D : va_G) (h : Nat → Nat) (ca : Nat → ClassId) (n sr tg : Nat) (a : Nat → Nat) (wh : Nat → Bool) (ms : Nat → Nat) (hn : n ≤ 8) (hs : sr < n) (ht : tg < n) (hst : sr ≠ tg) (hG : Gok n a) : WMi l yX2_paths (ws_ yX2_paths cX2_paths 4 (some .int)) ({ frames := 2, cells := 0, slots := 0, locals := 46 } : Room) D (MW h ca (n, sr, tg, a, wh, ms)) (MW h ca) (MT ca) [.ref (h 0)] (fun r' u' => ∃ (wh2 : Nat → Bool) (ms2 : Nat → Nat), r' = nI (fl n sr tg a 0 0) ∧ u' = (n, sr, tg, a, wh2, ms2)) := by
  refine wm_i (by decide) (Nat.le_of_ble_eq_true rfl) ?_
  intro p e R s m args below meth c ls A Q hR F ret I hl
  have hl : lv_has ls 4 [(0, .ref (h 0))] := hl
  have hin : inn n sr tg < 256 := Nat.lt_of_lt_of_le (inn_lt n sr tg) (Nat.pow_le_pow_right (by decide) hn)
  have L : ∀ (k : Nat), ∀ (j : Nat) (wh2 : Nat → Bool) (ms2 : Nat → Nat), inn n sr tg + 1 - j < k → j ≤ inn n sr tg + 1 → (∀ X, X < j → X &&& inn n sr tg = X → (wh2 X = true ↔ Lds a sr tg X) ∧ Mx a sr tg X (ms2 X)) → ∀ (H : Heap) (locs : List Loc) (ls : Array Slot), WI D (MW h ca (n, sr, tg, a, wh2, ms2)) (MT ca) A s s.heap H locs → lv_has ls 4 [(3, .int (nI j)), (2, .int (nI (dr a sr tg))), (1, .int (nI (inn n sr tg))), (0, .ref (h 0))] → W p l e R s m args below meth c H locs 0 0 Q (F0 m 33 ls []) := by
    intro k
    induction k with
    | zero =>
      intro j wh2 ms2 hk hj hinv
      exact absurd hk (Nat.not_lt_zero _)
    | succ k ih =>
      intro j wh2 ms2 hk hj hinv H locs ls I hl
      refine lv_iload_n F.1 F.2.1 dX2_paths_33 rfl (lv_at hl 0 rfl) ?_
      refine lv_iload_n F.1 F.2.1 dX2_paths_34 rfl (lv_at hl 2 rfl) ?_
      refine nv_icmp_gt (tgt := 73) F.1 F.2.1 dX2_paths_35 (by decide) ⟨by omega, by omega⟩ (fun c1 => ?_) (fun c1 => ?_)
      · obtain ⟨p, hp1, hp2⟩ := menger hn hs ht hst hG
        have hall := (hinv (inn n sr tg) (by omega) (Nat.and_self _)).2
        have hpe := hp1.one hall
        refine lv_iload_n F.1 F.2.1 dX2_paths_73 rfl (lv_at hl 1 rfl) ?_
        refine lv_aload_n F.1 F.2.1 dX2_paths_74 rfl (lv_at hl 3 rfl) ?_
        refine mg_most F I dX2_paths_75 ?_
        refine lv_iload_n F.1 F.2.1 dX2_paths_78 rfl (lv_at hl 2 rfl) ?_
        refine ma_most F I dX2_paths_79 (by omega) ?_
        refine nv_iadd F.1 F.2.1 dX2_paths_80 ?_
        exact ret _ _ _ _ ls _ ⟨wh2, ms2, by rw [hp2, hpe], rfl⟩ I dX2_paths_81
      · refine lv_iload_n F.1 F.2.1 dX2_paths_38 rfl (lv_at hl 0 rfl) ?_
        refine lv_iload_n F.1 F.2.1 dX2_paths_39 rfl (lv_at hl 2 rfl) ?_
        refine nv_iand F.1 F.2.1 dX2_paths_40 ?_
        refine lv_iload_n F.1 F.2.1 dX2_paths_41 rfl (lv_at hl 0 rfl) ?_
        refine nv_icmp_ne (tgt := 67) F.1 F.2.1 dX2_paths_42 (by decide) ⟨by have : j &&& inn n sr tg ≤ j := Nat.and_le_left; omega, by omega⟩ (fun c2 => ?_) (fun c2 => ?_)
        · refine nv_iinc (lv' := [(3, .int (nI (j + 1))), (2, .int (nI (dr a sr tg))), (1, .int (nI (inn n sr tg))), (0, .ref (h 0))]) F.1 F.2.1 dX2_paths_67 hl (k := 0) rfl (by decide) rfl (fun ls hl => ?_)
          refine lv_goto (tgt := 33) F.1 F.2.1 dX2_paths_70 (by decide) ?_
          exact ih (j + 1) wh2 ms2 (by omega) (by omega) (fun X hX hs2 => hinv X (by
            by_cases e : X = j
            · subst e; exact absurd hs2 c2
            · omega) hs2) _ _ _ I (lv_sub hl [0, 1, 2, 3] rfl)
        · refine lv_aload_n F.1 F.2.1 dX2_paths_45 rfl (lv_at hl 3 rfl) ?_
          refine mg_whole F I dX2_paths_46 ?_
          refine lv_iload_n F.1 F.2.1 dX2_paths_49 rfl (lv_at hl 0 rfl) ?_
          refine lv_aload_n F.1 F.2.1 dX2_paths_50 rfl (lv_at hl 3 rfl) ?_
          refine lv_iload_n F.1 F.2.1 dX2_paths_51 rfl (lv_at hl 0 rfl) ?_
          refine mk_leads F I hl dX2_paths_52 ⟨by rw [hR]; decide, by rw [hR]; decide⟩ (Nat.le_of_ble_eq_true rfl) ⟨Nat.zero_le _, Nat.zero_le _⟩ hn hs ht hG (by omega) (fun b hb H locs I => ?_)
          refine ms_whole (x := b) F I dX2_paths_55 (by omega) (fun H locs I => ?_)
          refine lv_aload_n F.1 F.2.1 dX2_paths_56 rfl (lv_at hl 3 rfl) ?_
          refine mg_most F I dX2_paths_57 ?_
          refine lv_iload_n F.1 F.2.1 dX2_paths_60 rfl (lv_at hl 0 rfl) ?_
          refine lv_aload_n F.1 F.2.1 dX2_paths_61 rfl (lv_at hl 3 rfl) ?_
          refine lv_iload_n F.1 F.2.1 dX2_paths_62 rfl (lv_at hl 0 rfl) ?_
          have hsub : ∀ X, X &&& j = X → X &&& inn n sr tg = X := fun X hX => mb_subset.mpr fun v hv => mb_subset.mp c2 v (mb_subset.mp hX v hv)
          refine mk_parts F I hl dX2_paths_63 ⟨by rw [hR]; decide, by rw [hR]; decide⟩ (Nat.le_of_ble_eq_true rfl) ⟨Nat.zero_le _, Nat.zero_le _⟩ (by omega) (fun X hX hs2 => Nat.lt_of_le_of_lt ((hinv X hX (hsub X hs2)).2.le (by omega)) (by decide)) (fun H locs I => ?_)
          have hmx : Mx a sr tg j (pt (va_up wh2 j b) ms2 j (j + 1)) := pt_mx (fun X hX hs2 => by
            by_cases e : X = j
            · subst e; rw [va_up_self]; exact hb
            · rw [va_up_ne _ _ e]; exact (hinv X (by omega) (hsub X hs2)).1) (fun X hX hs2 => (hinv X hX (hsub X hs2)).2)
          refine ms_most (x := pt (va_up wh2 j b) ms2 j (j + 1)) F I dX2_paths_66 (by omega) (fun H locs I => ?_)
          refine nv_iinc (lv' := [(3, .int (nI (j + 1))), (2, .int (nI (dr a sr tg))), (1, .int (nI (inn n sr tg))), (0, .ref (h 0))]) F.1 F.2.1 dX2_paths_67 hl (k := 0) rfl (by decide) rfl (fun ls hl => ?_)
          refine lv_goto (tgt := 33) F.1 F.2.1 dX2_paths_70 (by decide) ?_
          exact ih (j + 1) _ _ (by omega) (by omega) (fun X hX hs2 => by
            by_cases e : X = j
            · subst e; rw [va_up_self, va_up_self]; exact ⟨hb, hmx⟩
            · rw [va_up_ne _ _ e, va_up_ne _ _ e]; exact hinv X (by omega) hs2) _ _ _ I (lv_sub hl [0, 1, 2, 3] rfl)
  refine lv_aload_n F.1 F.2.1 dX2_paths_0 rfl (lv_at hl 0 rfl) ?_
  refine mk_inner F I hl dX2_paths_1 ⟨by rw [hR]; decide, by rw [hR]; decide⟩ (Nat.le_of_ble_eq_true rfl) ⟨Nat.zero_le _, Nat.zero_le _⟩ hn hs ht (fun H locs I => ?_)
  refine lv_istore_n (lv' := [(1, .int (nI (inn n sr tg))), (0, .ref (h 0))]) F.1 F.2.1 dX2_paths_4 rfl hl (by decide) rfl (fun ls hl => ?_)
  refine lv_aload_n F.1 F.2.1 dX2_paths_5 rfl (lv_at hl 1 rfl) ?_
  refine lv_aload_n F.1 F.2.1 dX2_paths_6 rfl (lv_at hl 1 rfl) ?_
  refine mg_near F I dX2_paths_7 ?_
  refine lv_aload_n F.1 F.2.1 dX2_paths_10 rfl (lv_at hl 1 rfl) ?_
  refine mg_s F I dX2_paths_11 ?_
  refine ma_near F I dX2_paths_14 (by omega) ?_
  refine lv_aload_n F.1 F.2.1 dX2_paths_15 rfl (lv_at hl 1 rfl) ?_
  refine mg_t F I dX2_paths_16 ?_
  refine mk_has F I hl dX2_paths_19 ⟨by rw [hR]; decide, by rw [hR]; decide⟩ (Nat.le_of_ble_eq_true rfl) ⟨Nat.zero_le _, Nat.zero_le _⟩ (hG.b31 hn hs) (by omega) (fun H locs I => ?_)
  refine nb_if_eq (tgt := 29) F.1 F.2.1 dX2_paths_22 (by decide) (fun c0 => ?_) (fun c0 => ?_)
  · refine lv_iconst (v := nI 0) F.1 F.2.1 dX2_paths_29 (by decide) ?_
    refine lv_istore_n (lv' := [(2, .int (nI 0)), (1, .int (nI (inn n sr tg))), (0, .ref (h 0))]) F.1 F.2.1 dX2_paths_30 rfl hl (by decide) rfl (fun ls hl => ?_)
    refine lv_iconst (v := nI 0) F.1 F.2.1 dX2_paths_31 (by decide) ?_
    refine lv_istore_n (lv' := [(3, .int (nI 0)), (2, .int (nI 0)), (1, .int (nI (inn n sr tg))), (0, .ref (h 0))]) F.1 F.2.1 dX2_paths_32 rfl hl (by decide) rfl (fun ls hl => ?_)
    have e : dr a sr tg = 0 := by unfold dr; rw [c0]; rfl
    exact L (inn n sr tg + 2) 0 wh ms (by omega) (by omega) (fun X hX => by omega) _ _ _ I (by rw [e]; exact (lv_sub hl [0, 1, 2, 3] rfl))
  · refine lv_iconst (v := nI 1) F.1 F.2.1 dX2_paths_25 (by decide) ?_
    refine lv_goto (tgt := 30) F.1 F.2.1 dX2_paths_26 (by decide) ?_
    refine lv_istore_n (lv' := [(2, .int (nI 1)), (1, .int (nI (inn n sr tg))), (0, .ref (h 0))]) F.1 F.2.1 dX2_paths_30 rfl hl (by decide) rfl (fun ls hl => ?_)
    refine lv_iconst (v := nI 0) F.1 F.2.1 dX2_paths_31 (by decide) ?_
    refine lv_istore_n (lv' := [(3, .int (nI 0)), (2, .int (nI 1)), (1, .int (nI (inn n sr tg))), (0, .ref (h 0))]) F.1 F.2.1 dX2_paths_32 rfl hl (by decide) rfl (fun ls hl => ?_)
    have e : dr a sr tg = 1 := by unfold dr; rw [c0]; rfl
    exact L (inn n sr tg + 2) 0 wh ms (by omega) (by omega) (fun X hX => by omega) _ _ _ I (by rw [e]; exact (lv_sub hl [0, 1, 2, 3] rfl))
section XA
variable {p : Program} {l : Launch} {e : Env} {R : Room} {s : State} {m : MethodId} {args : Array Value} {below : List Frame} {meth : Method} {c : Code} {H : Heap} {locs : List Loc} {cells slots : Nat} {Q : State → Prop} {pc : Nat} {ls : Array Slot} {rest : List Value} {cc : ByteArray} {nL : Nat} {D : va_G} {A : Nat → Prop} {H0 : Heap} {h : Nat → Nat} {ca : Nat → ClassId} {lv : List (Nat × Value)} 
theorem mk_paths {n sr tg : Nat} {a : Nat → Nat} {wh : Nat → Bool} {ms : Nat → Nat} (F : CallFix p m c cc nL s args lw_all RX2) (I : WI D (MW h ca (n, sr, tg, a, wh, ms)) (MT ca) A s H0 H locs) (hl : lv_has ls nL lv) (hdg : decode cc pc = .ok (.invokevirtual 62, 3)) (hR : 3 ≤ R.frames ∧ 69 ≤ R.locals) (hroom : (rest.map fun v => v.category).sum ≤ 8) (hf : cells ≤ R.cells ∧ slots ≤ R.slots) (hn : n ≤ 8) (hs : sr < n) (ht : tg < n) (hst : sr ≠ tg) (hG : Gok n a) (kk : ∀ (wh2 : Nat → Bool) (ms2 : Nat → Nat) (H1 : Heap) (locs1 : List Loc), WI D (MW h ca (n, sr, tg, a, wh2, ms2)) (MT ca) A s H0 H1 locs1 → W p l e R s m args below meth c H1 locs1 cells slots Q (F0 m (pc + 3) ls (.int (nI (fl n sr tg a 0 0)) :: rest))) : W p l e R s m args below meth c H locs cells slots Q (F0 m pc ls (.ref (h 0) :: rest)) :=
  wc_i F I (mmt_paths l D h ca n sr tg a wh ms hn hs ht hst hG) (cwV 0 F.2.2.2.2 (lw_V q264 q221 q222 q24 q223) rfl rfl rfl (by decide +kernel) hR) (m_recv I) hl rfl rfl hroom hdg hf (fun r u H1 locs1 hp I => by
    obtain ⟨wh2, ms2, rfl, rfl⟩ := hp; exact kk wh2 ms2 H1 locs1 I)

end XA
end
section
/-! where the two answer alike -/
theorem oD_m4 {o : Option Nat} (h : ∀ C, o = some C → C < 2 ^ 31) : oD o = -4 ↔ o = none := by
  cases o with
  | none => exact ⟨fun _ => rfl, fun _ => rfl⟩
  | some C =>
    constructor
    · intro q
      have h1 : (nI C).toInt = (-4 : Int32).toInt := by rw [← q]; rfl
      rw [nI_toInt (h C rfl)] at h1
      have h2 : (-4 : Int32).toInt = -4 := by decide
      omega
    · intro q; cases q
theorem bN_eq {b c : Bool} : b.toNat = c.toNat ↔ b = c := by
  cases b <;> cases c <;> decide
theorem isCut_iff {n s t : Nat} {a : Nat → Nat} {S : Nat} : Cut n s t a 0 0 S ↔ (∀ v, mb S v → mb (inn n s t) v) ∧ ¬ Lds a s t (dif (inn n s t) S) := by
  unfold Cut
  rw [dif_0]
  constructor
  · rintro ⟨h1, h2⟩
    exact ⟨fun v hv => mb_inn.mpr ⟨(h1 v hv).1, (h1 v hv).2.1, (h1 v hv).2.2.1⟩, h2⟩
  · rintro ⟨h1, h2⟩
    refine ⟨fun v hv => ?_, h2⟩
    obtain ⟨q1, q2, q3⟩ := mb_inn.mp (h1 v hv)
    exact ⟨q1, q2, q3, mb_0, mb_0⟩
/-- a vertex whose edges are taken away, against the same vertex shut -/
theorem fl_iso {n s t : Nat} {a b : Nat → Nat} {v : Nat} (hn : n ≤ 8) (hs : s < n) (hvs : v ≠ s) (hvt : v ≠ t) (h : ∀ x y, mb (b x) y ↔ mb (a x) y ∧ x ≠ v ∧ y ≠ v) : fl n s t b 0 0 = fl n s t a (2 ^ v) 0 := by
  have hdr : dr b s t = dr a s t := by
    unfold dr
    by_cases q : mb (a s) t
    · rw [if_pos ((h s t).mpr ⟨q, Ne.symm hvs, Ne.symm hvt⟩), if_pos q]
    · rw [if_neg (fun z => q ((h s t).mp z).1), if_neg q]
  -- what leads without v
  have hl1 : ∀ X, Lds b s t X → Lds a s t (dif X (2 ^ v)) := by
    intro X hL Z z1 z2
    obtain ⟨x, x1, x2, x3⟩ := hL (fun w => w ≠ v ∧ Z w) (fun w hw hm => by
      obtain ⟨q1, q2, q3⟩ := (h s w).mp hm
      exact ⟨q3, z1 w (mb_dif.mpr ⟨hw, fun z => q3 (mb_1.mp z)⟩) q1⟩) (fun x y hx hz hy hm => by
      obtain ⟨q1, q2, q3⟩ := (h x y).mp hm
      exact ⟨q3, z2 x y (mb_dif.mpr ⟨hx, fun z => q2 (mb_1.mp z)⟩) hz.2 (mb_dif.mpr ⟨hy, fun z => q3 (mb_1.mp z)⟩) q1⟩)
    obtain ⟨q1, q2, q3⟩ := (h t x).mp x3
    exact ⟨x, mb_dif.mpr ⟨x1, fun z => q3 (mb_1.mp z)⟩, x2.2, q1⟩
  have hl2 : ∀ X, ¬ mb X v → Lds a s t X → Lds b s t X := by
    intro X hX hL
    have hne : ∀ w, mb X w → w ≠ v := fun w hw e => hX (e ▸ hw)
    exact hL.sub (fun w hw hm => (h s w).mpr ⟨hm, Ne.symm hvs, hne w hw⟩) (fun w hw hm => (h t w).mpr ⟨hm, Ne.symm hvt, hne w hw⟩) (fun x y hx hy hm => (h x y).mpr ⟨hm, hne x hx, hne y hy⟩)
  apply Nat.le_antisymm
  · obtain ⟨C, hC, hk⟩ := fl_cut (t := t) (sh := 2 ^ v) (a := a) hn hs
    have h1 : Cut n s t b 0 0 C := by
      refine ⟨fun w hw => ?_, fun hL => hC.2 ((hl1 _ hL).mono fun w hw => ?_)⟩
      · obtain ⟨q1, q2, q3, -, -⟩ := hC.1 w hw
        exact ⟨q1, q2, q3, mb_0, mb_0⟩
      · rw [mb_dif, mb_dif, mb_dif] at hw
        rw [mb_dif, mb_dif]
        exact ⟨⟨hw.1.1.1, hw.2⟩, hw.1.2⟩
    have h2 := (fl_spec n s t b 0 0).2.2 C h1
    omega
  · obtain ⟨C, hC, hk⟩ := fl_cut (t := t) (sh := 0) (a := b) hn hs
    have h1 : Cut n s t a (2 ^ v) 0 (dif C (2 ^ v)) := by
      refine ⟨fun w hw => ?_, fun hL => hC.2 ((hl2 _ (fun q => ?_) hL).mono fun w hw => ?_)⟩
      · rw [mb_dif] at hw
        obtain ⟨q1, q2, q3, -, -⟩ := hC.1 w hw.1
        exact ⟨q1, q2, q3, hw.2, mb_0⟩
      · rw [mb_dif, mb_dif] at q
        exact q.1.2 (mb_1.mpr rfl)
      · rw [mb_dif, mb_dif, mb_dif] at hw
        rw [mb_dif, mb_dif]
        exact ⟨⟨hw.1.1, mb_0⟩, fun z => hw.2 ⟨z, hw.1.2⟩⟩
    have h2 := (fl_spec n s t a (2 ^ v) 0).2.2 _ h1
    have h3 : pc (dif C (2 ^ v)) ≤ pc C := pc_mono fun w hw => (mb_dif.mp hw).1
    omega
theorem prs_cong {P Q : Nat → Nat → Bool} {n : Nat} (h : ∀ u v, u < v → v < n → P u v = Q u v) : prs P n = prs Q n := by
  unfold prs
  refine fb_sm_cong fun u hu => fb_sm_cong fun v hv => ?_
  by_cases huv : u < v
  · rw [h u v huv hv]
  · rw [decide_eq_false huv]
    rfl
/-- an edge taken away tells if fewer, put in if more -/
theorem tight_eq {n s t : Nat} {a : Nat → Nat} (hn : n ≤ 8) (hs : s < n) (hG : Gok n a) : prs (fun u v => (a u).testBit v && decide (fl n s t (tog a u v) 0 0 < fl n s t a 0 0)) n = prs (fun u v => ((a u).testBit v == true) && decide (fl n s t (tog a u v) 0 0 ≠ fl n s t a 0 0)) n := by
  refine prs_cong fun u v huv hv => ?_
  cases hb : (a u).testBit v with
  | false => rfl
  | true =>
    have e : tog a u v = ulk a u v := by unfold tog; rw [hb]; rfl
    have h1 : fl n s t (ulk a u v) 0 0 ≤ fl n s t a 0 0 := fl_mono hn hs fun x y q => ((mb_ulk (by omega)).mp q).1
    rw [e]
    show decide (fl n s t (ulk a u v) 0 0 < fl n s t a 0 0) = decide (fl n s t (ulk a u v) 0 0 ≠ fl n s t a 0 0)
    exact decide_eq_decide.mpr ⟨fun q => by omega, fun q => by omega⟩
theorem helpful_eq {n s t : Nat} {a : Nat → Nat} (hn : n ≤ 8) (hs : s < n) (hG : Gok n a) : prs (fun u v => !(a u).testBit v && decide (fl n s t a 0 0 < fl n s t (tog a u v) 0 0)) n = prs (fun u v => ((a u).testBit v == false) && decide (fl n s t (tog a u v) 0 0 ≠ fl n s t a 0 0)) n := by
  refine prs_cong fun u v huv hv => ?_
  cases hb : (a u).testBit v with
  | true => rfl
  | false =>
    have e : tog a u v = lnk a u v := by unfold tog; rw [hb]; rfl
    have h1 : fl n s t a 0 0 ≤ fl n s t (lnk a u v) 0 0 := fl_mono hn hs fun x y q => (mb_lnk (by omega)).mpr (Or.inl q)
    rw [e]
    show decide (fl n s t a 0 0 < fl n s t (lnk a u v) 0 0) = decide (fl n s t (lnk a u v) 0 0 ≠ fl n s t a 0 0)
    exact decide_eq_decide.mpr ⟨fun q => by omega, fun q => by omega⟩
/-- each edge has two ends -/
theorem two_ends {n : Nat} {a : Nat → Nat} (hn : n ≤ 8) (hG : Gok n a) : fb_sm (fun v => pc (a v)) n = 2 * prs (fun u v => (a u).testBit v) n := by
  have e1 : fb_sm (fun u => pc (a u)) n = fb_sm (fun u => fb_sm (fun v => if (a u).testBit v then 1 else 0) n) n := by
    refine fb_sm_cong fun u hu => ?_
    unfold pc
    rw [← sm_ct, show (8 : Nat) = n + (8 - n) by omega, fb_sm_split, sm_zero (g := fun k => if (a u).testBit (n + k) then 1 else 0) (fun k _ => by
      rw [if_neg]
      intro q
      have := (hG u hu (n + k) q).1
      omega), Nat.add_zero]
  have e2 : fb_sm (fun u => fb_sm (fun v => if (a u).testBit v then 1 else 0) n) n = fb_sm (fun u => fb_sm (fun v => (if decide (u < v) && (a u).testBit v then 1 else 0) + (if decide (v < u) && (a v).testBit u then 1 else 0)) n) n := by
    refine fb_sm_cong fun u hu => fb_sm_cong fun v hv => ?_
    rcases Nat.lt_trichotomy u v with q | q | q
    · rw [decide_eq_true q, decide_eq_false (by omega : ¬ v < u)]
      simp
    · subst q
      rw [decide_eq_false (Nat.lt_irrefl u), nmb (fun z => (hG u hu u z).2.1 rfl)]
      rfl
    · rw [decide_eq_true q, decide_eq_false (by omega : ¬ u < v)]
      have hsym : (a u).testBit v = (a v).testBit u := by
        cases h1 : (a u).testBit v with
        | true => exact ((hG u hu v h1).2.2).symm
        | false =>
          cases h2 : (a v).testBit u with
          | false => rfl
          | true =>
            have := (hG v hv u h2).2.2
            rw [mb, h1] at this
            cases this
      rw [hsym]
      simp
  have e3 : fb_sm (fun u => fb_sm (fun v => (if decide (u < v) && (a u).testBit v then 1 else 0) + (if decide (v < u) && (a v).testBit u then 1 else 0)) n) n = prs (fun u v => (a u).testBit v) n + prs (fun u v => (a u).testBit v) n := by
    have e4 : prs (fun u v => (a u).testBit v) n = fb_sm (fun u => fb_sm (fun v => if decide (v < u) && (a v).testBit u then 1 else 0) n) n := by
      unfold prs
      exact sm_swap _ n n
    conv => rhs; rhs; rw [e4]
    unfold prs
    rw [← fb_sm_add]
    exact fb_sm_cong fun u _ => fb_sm_add _ _ n
  omega
end
section
/-! DisjointPathsModel: cuts and questions -/
abbrev popc (x : Nat) : Nat := pc x
set_option maxHeartbeats 8000000 in
set_option maxRecDepth 100000 in
theorem mmt_sizeOf (l : Launch) (D : va_G) (h : Nat → Nat) (ca : Nat → ClassId) (n sr tg : Nat) (a : Nat → Nat) (wh : Nat → Bool) (ms : Nat → Nat) (S : Nat) (hS : S < 2 ^ 31) : WMi l yX2_sizeOf (ws_ yX2_sizeOf cX2_sizeOf 4 (some .int)) ({ frames := 0, cells := 0, slots := 0, locals := 0 } : Room) D (MW h ca (n, sr, tg, a, wh, ms)) (MW h ca) (MT ca) [.ref (h 0), .int (nI S)] (fun r' u' => r' = nI (pc S) ∧ u' = (n, sr, tg, a, wh, ms)) := by
  refine wm_i (by decide) (Nat.le_of_ble_eq_true rfl) ?_
  intro p e R s m args below meth c ls A Q hR F ret I hl
  have hl : lv_has ls 4 [(0, .ref (h 0)), (1, .int (nI S))] := hl
  have L : ∀ (k : Nat), ∀ (i x : Nat), 8 - i < k → i ≤ 8 → x = 0 + fb_sm (fun v => if S.testBit v then 1 else 0) i → ∀ (H : Heap) (locs : List Loc) (ls : Array Slot), WI D (MW h ca (n, sr, tg, a, wh, ms)) (MT ca) A s s.heap H locs → lv_has ls 4 [(3, .int (nI i)), (2, .int (nI x)), (0, .ref (h 0)), (1, .int (nI S))] → W p l e R s m args below meth c H locs 0 0 Q (F0 m 4 ls []) := by
    intro k
    induction k with
    | zero =>
      intro i x hk hi hx
      exact absurd hk (Nat.not_lt_zero _)
    | succ k ih =>
      intro i x hk hi hx H locs ls I hl
      refine lv_iload_n F.1 F.2.1 dX2_sizeOf_4 rfl (lv_at hl 0 rfl) ?_
      refine lv_bipush (v := nI 8) F.1 F.2.1 dX2_sizeOf_5 (by decide) ?_
      refine nv_icmp_ge (tgt := 24) F.1 F.2.1 dX2_sizeOf_7 (by decide) ⟨by omega, by omega⟩ (fun c1 => ?_) (fun c1 => ?_)
      · have e : i = 8 := by omega
        rw [e, sm_ct] at hx
        refine lv_iload_n F.1 F.2.1 dX2_sizeOf_24 rfl (lv_at hl 1 rfl) ?_
        exact ret _ _ _ _ ls _ ⟨by rw [hx, Nat.zero_add]; rfl, rfl⟩ I dX2_sizeOf_25
      · refine lv_iload_n F.1 F.2.1 dX2_sizeOf_10 rfl (lv_at hl 1 rfl) ?_
        refine lv_iload_n F.1 F.2.1 dX2_sizeOf_11 rfl (lv_at hl 3 rfl) ?_
        refine lv_iload_n F.1 F.2.1 dX2_sizeOf_12 rfl (lv_at hl 0 rfl) ?_
        refine nv_bit F.1 F.2.1 dX2_sizeOf_13 dX2_sizeOf_14 dX2_sizeOf_15 hS (by omega) ?_
        refine nv_iadd F.1 F.2.1 dX2_sizeOf_16 ?_
        refine lv_istore_n (lv' := [(2, .int (nI (x + ((S.testBit i).toNat)))), (3, .int (nI i)), (0, .ref (h 0)), (1, .int (nI S))]) F.1 F.2.1 dX2_sizeOf_17 rfl hl (by decide) rfl (fun ls hl => ?_)
        refine nv_iinc (lv' := [(3, .int (nI (i + 1))), (2, .int (nI (x + ((S.testBit i).toNat)))), (0, .ref (h 0)), (1, .int (nI S))]) F.1 F.2.1 dX2_sizeOf_18 hl (k := 1) rfl (by decide) rfl (fun ls hl => ?_)
        refine lv_goto (tgt := 4) F.1 F.2.1 dX2_sizeOf_21 (by decide) ?_
        exact ih (i + 1) _ (by omega) (by omega) (cnt_yes hx (by cases S.testBit i <;> rfl)) _ _ _ I (lv_sub hl [0, 1, 2, 3] rfl)
  refine lv_iconst (v := nI 0) F.1 F.2.1 dX2_sizeOf_0 (by decide) ?_
  refine lv_istore_n (lv' := [(2, .int (nI 0)), (0, .ref (h 0)), (1, .int (nI S))]) F.1 F.2.1 dX2_sizeOf_1 rfl hl (by decide) rfl (fun ls hl => ?_)
  refine lv_iconst (v := nI 0) F.1 F.2.1 dX2_sizeOf_2 (by decide) ?_
  refine lv_istore_n (lv' := [(3, .int (nI 0)), (2, .int (nI 0)), (0, .ref (h 0)), (1, .int (nI S))]) F.1 F.2.1 dX2_sizeOf_3 rfl hl (by decide) rfl (fun ls hl => ?_)
  exact L 9 0 0 (by omega) (by omega) rfl _ _ _ I (lv_sub hl [0, 1, 2, 3] rfl)
section XA
variable {p : Program} {l : Launch} {e : Env} {R : Room} {s : State} {m : MethodId} {args : Array Value} {below : List Frame} {meth : Method} {c : Code} {H : Heap} {locs : List Loc} {cells slots : Nat} {Q : State → Prop} {pc : Nat} {ls : Array Slot} {rest : List Value} {cc : ByteArray} {nL : Nat} {D : va_G} {A : Nat → Prop} {H0 : Heap} {h : Nat → Nat} {ca : Nat → ClassId} {lv : List (Nat × Value)} 
theorem mk_sizeOf {n sr tg : Nat} {a : Nat → Nat} {wh : Nat → Bool} {ms : Nat → Nat} {S : Nat} (F : CallFix p m c cc nL s args lw_all RX2) (I : WI D (MW h ca (n, sr, tg, a, wh, ms)) (MT ca) A s H0 H locs) (hl : lv_has ls nL lv) (hdg : decode cc pc = .ok (.invokevirtual 56, 3)) (hR : 1 ≤ R.frames ∧ 23 ≤ R.locals) (hroom : (rest.map fun v => v.category).sum ≤ 8) (hf : cells ≤ R.cells ∧ slots ≤ R.slots) (hS : S < 2 ^ 31) (kk : ∀ (H1 : Heap) (locs1 : List Loc), WI D (MW h ca (n, sr, tg, a, wh, ms)) (MT ca) A s H0 H1 locs1 → W p l e R s m args below meth c H1 locs1 cells slots Q (F0 m (pc + 3) ls (.int (nI (popc S)) :: rest))) : W p l e R s m args below meth c H locs cells slots Q (F0 m pc ls (.int (nI S) :: .ref (h 0) :: rest)) :=
  wc_i F I (mmt_sizeOf l D h ca n sr tg a wh ms S hS) (cwV 1 F.2.2.2.2 (lw_V q248 q250 qs20 q24 q251) rfl rfl rfl (by decide +kernel) hR) (m_recv I) hl rfl rfl hroom hdg hf (fun r u H1 locs1 hp I => by
    obtain ⟨rfl, rfl⟩ := hp; exact kk H1 locs1 I)

end XA
set_option maxHeartbeats 8000000 in
set_option maxRecDepth 100000 in
theorem mmt_isCut (l : Launch) (D : va_G) (h : Nat → Nat) (ca : Nat → ClassId) (n sr tg : Nat) (a : Nat → Nat) (wh : Nat → Bool) (ms : Nat → Nat) (S : Nat) (hn : n ≤ 8) (hs : sr < n) (ht : tg < n) (hG : Gok n a) (hS : S < 256) : WMi l yX2_isCut (ws_ yX2_isCut cX2_isCut 2 (some .boolean)) ({ frames := 2, cells := 0, slots := 0, locals := 46 } : Room) D (MW h ca (n, sr, tg, a, wh, ms)) (MW h ca) (MT ca) [.ref (h 0), .int (nI S)] (fun r' u' => ∃ b : Bool, (b = true ↔ (¬ mb (a sr) tg ∧ Cut n sr tg a 0 0 S)) ∧ r' = nI b.toNat ∧ u' = (n, sr, tg, a, wh, ms)) := by
  refine wm_z (by decide) (Nat.le_of_ble_eq_true rfl) ?_
  intro p e R s m args below meth c ls A Q hR F ret I hl
  have hl : lv_has ls 2 [(0, .ref (h 0)), (1, .int (nI S))] := hl
  have hin : inn n sr tg < 256 := Nat.lt_of_lt_of_le (inn_lt n sr tg) (Nat.pow_le_pow_right (by decide) hn)
  refine lv_aload_n F.1 F.2.1 dX2_isCut_0 rfl (lv_at hl 0 rfl) ?_
  refine lv_aload_n F.1 F.2.1 dX2_isCut_1 rfl (lv_at hl 0 rfl) ?_
  refine mg_near F I dX2_isCut_2 ?_
  refine lv_aload_n F.1 F.2.1 dX2_isCut_5 rfl (lv_at hl 0 rfl) ?_
  refine mg_s F I dX2_isCut_6 ?_
  refine ma_near F I dX2_isCut_9 (by omega) ?_
  refine lv_aload_n F.1 F.2.1 dX2_isCut_10 rfl (lv_at hl 0 rfl) ?_
  refine mg_t F I dX2_isCut_11 ?_
  refine mk_has F I hl dX2_isCut_14 ⟨by rw [hR]; decide, by rw [hR]; decide⟩ (Nat.le_of_ble_eq_true rfl) ⟨Nat.zero_le _, Nat.zero_le _⟩ (hG.b31 hn hs) (by omega) (fun H locs I => ?_)
  refine nb_if_ne (tgt := 49) F.1 F.2.1 dX2_isCut_17 (by decide) (fun c1 => ?_) (fun c1 => ?_)
  · refine lv_iconst (v := nI 0) F.1 F.2.1 dX2_isCut_49 (by decide) ?_
    exact ret false _ _ _ ls _ ⟨false, ⟨fun z => absurd z (by decide), fun z => absurd c1 z.1⟩, rfl, rfl⟩ I dX2_isCut_50
  · refine lv_iload_n F.1 F.2.1 dX2_isCut_20 rfl (lv_at hl 1 rfl) ?_
    refine lv_aload_n F.1 F.2.1 dX2_isCut_21 rfl (lv_at hl 0 rfl) ?_
    refine mk_inner F I hl dX2_isCut_22 ⟨by rw [hR]; decide, by rw [hR]; decide⟩ (Nat.le_of_ble_eq_true rfl) ⟨Nat.zero_le _, Nat.zero_le _⟩ hn hs ht (fun H locs I => ?_)
    refine nv_iand F.1 F.2.1 dX2_isCut_25 ?_
    refine lv_iload_n F.1 F.2.1 dX2_isCut_26 rfl (lv_at hl 1 rfl) ?_
    refine nv_icmp_ne (tgt := 49) F.1 F.2.1 dX2_isCut_27 (by decide) ⟨by have : S &&& inn n sr tg ≤ S := Nat.and_le_left; omega, by omega⟩ (fun c2 => ?_) (fun c2 => ?_)
    · refine lv_iconst (v := nI 0) F.1 F.2.1 dX2_isCut_49 (by decide) ?_
      exact ret false _ _ _ ls _ ⟨false, ⟨fun z => absurd z (by decide), fun z => absurd (mb_subset.mpr (isCut_iff.mp z.2).1) c2⟩, rfl, rfl⟩ I dX2_isCut_50
    · refine lv_aload_n F.1 F.2.1 dX2_isCut_30 rfl (lv_at hl 0 rfl) ?_
      refine lv_aload_n F.1 F.2.1 dX2_isCut_31 rfl (lv_at hl 0 rfl) ?_
      refine mk_inner F I hl dX2_isCut_32 ⟨by rw [hR]; decide, by rw [hR]; decide⟩ (Nat.le_of_ble_eq_true rfl) ⟨Nat.zero_le _, Nat.zero_le _⟩ hn hs ht (fun H locs I => ?_)
      refine lv_iload_n F.1 F.2.1 dX2_isCut_35 rfl (lv_at hl 1 rfl) ?_
      refine nv_dif F.1 F.2.1 dX2_isCut_36 dX2_isCut_37 dX2_isCut_38 (by omega) ?_
      refine mk_leads F I hl dX2_isCut_39 ⟨by rw [hR]; decide, by rw [hR]; decide⟩ (Nat.le_of_ble_eq_true rfl) ⟨Nat.zero_le _, Nat.zero_le _⟩ hn hs ht hG (dif_lt (k := 8) hin) (fun b hb H locs I => ?_)
      refine nb_if_ne (tgt := 49) F.1 F.2.1 dX2_isCut_42 (by decide) (fun c3 => ?_) (fun c3 => ?_)
      · refine lv_iconst (v := nI 0) F.1 F.2.1 dX2_isCut_49 (by decide) ?_
        exact ret false _ _ _ ls _ ⟨false, ⟨fun z => absurd z (by decide), fun z => absurd (hb.mp c3) (isCut_iff.mp z.2).2⟩, rfl, rfl⟩ I dX2_isCut_50
      · refine lv_iconst (v := nI 1) F.1 F.2.1 dX2_isCut_45 (by decide) ?_
        refine lv_goto (tgt := 50) F.1 F.2.1 dX2_isCut_46 (by decide) ?_
        exact ret true _ _ _ ls _ ⟨true, ⟨fun _ => ⟨by rw [mb, c1]; decide, isCut_iff.mpr ⟨mb_subset.mp c2, fun z => by rw [hb.mpr z] at c3; cases c3⟩⟩, fun _ => rfl⟩, rfl, rfl⟩ I dX2_isCut_50
section XA
variable {p : Program} {l : Launch} {e : Env} {R : Room} {s : State} {m : MethodId} {args : Array Value} {below : List Frame} {meth : Method} {c : Code} {H : Heap} {locs : List Loc} {cells slots : Nat} {Q : State → Prop} {pc : Nat} {ls : Array Slot} {rest : List Value} {cc : ByteArray} {nL : Nat} {D : va_G} {A : Nat → Prop} {H0 : Heap} {h : Nat → Nat} {ca : Nat → ClassId} {lv : List (Nat × Value)} 
theorem mk_isCut {n sr tg : Nat} {a : Nat → Nat} {wh : Nat → Bool} {ms : Nat → Nat} {S : Nat} (F : CallFix p m c cc nL s args lw_all RX2) (I : WI D (MW h ca (n, sr, tg, a, wh, ms)) (MT ca) A s H0 H locs) (hl : lv_has ls nL lv) (hdg : decode cc pc = .ok (.invokevirtual 53, 3)) (hR : 3 ≤ R.frames ∧ 67 ≤ R.locals) (hroom : (rest.map fun v => v.category).sum ≤ 8) (hf : cells ≤ R.cells ∧ slots ≤ R.slots) (hn : n ≤ 8) (hs : sr < n) (ht : tg < n) (hG : Gok n a) (hS : S < 256) (kk : ∀ (b : Bool), (b = true ↔ (¬ mb (a sr) tg ∧ Cut n sr tg a 0 0 S)) → ∀ (H1 : Heap) (locs1 : List Loc), WI D (MW h ca (n, sr, tg, a, wh, ms)) (MT ca) A s H0 H1 locs1 → W p l e R s m args below meth c H1 locs1 cells slots Q (F0 m (pc + 3) ls (.int (nI b.toNat) :: rest))) : W p l e R s m args below meth c H locs cells slots Q (F0 m pc ls (.int (nI S) :: .ref (h 0) :: rest)) :=
  wc_i F I (mmt_isCut l D h ca n sr tg a wh ms S hn hs ht hG hS) (cwV 1 F.2.2.2.2 (lw_V q244 q246 qs19 q24 q247) rfl rfl rfl (by decide +kernel) hR) (m_recv I) hl rfl rfl hroom hdg hf (fun r u H1 locs1 hp I => by
    obtain ⟨b, h1, rfl, rfl⟩ := hp; exact kk b h1 H1 locs1 I)

end XA
set_option maxHeartbeats 8000000 in
set_option maxRecDepth 100000 in
theorem mmt_leastCut (l : Launch) (D : va_G) (h : Nat → Nat) (ca : Nat → ClassId) (n sr tg : Nat) (a : Nat → Nat) (wh : Nat → Bool) (ms : Nat → Nat) (wi : Nat) (hn : n ≤ 8) (hs : sr < n) (ht : tg < n) (hG : Gok n a) (hwi : wi < 256) : WMi l yX2_leastCut (ws_ yX2_leastCut cX2_leastCut 5 (some .int)) ({ frames := 3, cells := 0, slots := 0, locals := 67 } : Room) D (MW h ca (n, sr, tg, a, wh, ms)) (MW h ca) (MT ca) [.ref (h 0), .int (nI wi)] (fun r' u' => ∃ o : Option Nat, LCo n sr tg a wi o ∧ (∀ C, o = some C → C < 256) ∧ r' = oD o ∧ u' = (n, sr, tg, a, wh, ms)) := by
  refine wm_i (by decide) (Nat.le_of_ble_eq_true rfl) ?_
  intro p e R s m args below meth c ls A Q hR F ret I hl
  have hl : lv_has ls 5 [(0, .ref (h 0)), (1, .int (nI wi))] := hl
  have h28 : 2 ^ n ≤ 2 ^ 8 := Nat.pow_le_pow_right (by decide) hn
  have L : ∀ (k : Nat), ∀ (j z : Nat) (o : Option Nat), 2 ^ n - j < k → j ≤ 2 ^ n → LI n sr tg a wi j o z → ∀ (H : Heap) (locs : List Loc) (ls : Array Slot), WI D (MW h ca (n, sr, tg, a, wh, ms)) (MT ca) A s s.heap H locs → lv_has ls 5 [(4, .int (nI j)), (3, .int (nI z)), (2, .int (oD o)), (0, .ref (h 0)), (1, .int (nI wi))] → W p l e R s m args below meth c H locs 0 0 Q (F0 m 9 ls []) := by
    intro k
    induction k with
    | zero =>
      intro j z o hk hj hL
      exact absurd hk (Nat.not_lt_zero _)
    | succ k ih =>
      intro j z o hk hj hL H locs ls I hl
      have hz := hL.size
      refine lv_iload F.1 F.2.1 dX2_leastCut_9 (lv_at hl 0 rfl) ?_
      refine lv_iconst (v := nI 1) F.1 F.2.1 dX2_leastCut_11 (by decide) ?_
      refine lv_aload_n F.1 F.2.1 dX2_leastCut_12 rfl (lv_at hl 3 rfl) ?_
      refine mg_n F I dX2_leastCut_13 ?_
      refine nv_one F.1 F.2.1 dX2_leastCut_16 (by omega) ?_
      refine nv_icmp_ge (tgt := 63) F.1 F.2.1 dX2_leastCut_17 (by decide) ⟨by omega, by omega⟩ (fun c1 => ?_) (fun c1 => ?_)
      · have e : j = 2 ^ n := by omega
        rw [e] at hL
        refine lv_iload_n F.1 F.2.1 dX2_leastCut_63 rfl (lv_at hl 2 rfl) ?_
        exact ret _ _ _ _ ls _ ⟨o, hL.done, fun C e => hL.small (Nat.le_refl _) hn e, rfl, rfl⟩ I dX2_leastCut_64
      · refine lv_iload F.1 F.2.1 dX2_leastCut_20 (lv_at hl 0 rfl) ?_
        refine lv_iload_n F.1 F.2.1 dX2_leastCut_22 rfl (lv_at hl 4 rfl) ?_
        refine nv_iand F.1 F.2.1 dX2_leastCut_23 ?_
        refine lv_iload_n F.1 F.2.1 dX2_leastCut_24 rfl (lv_at hl 4 rfl) ?_
        refine nv_icmp_ne (tgt := 57) F.1 F.2.1 dX2_leastCut_25 (by decide) ⟨by have : j &&& wi ≤ j := Nat.and_le_left; omega, by omega⟩ (fun c2 => ?_) (fun c2 => ?_)
        · refine nv_iinc (lv' := [(4, .int (nI (j + 1))), (3, .int (nI z)), (2, .int (oD o)), (0, .ref (h 0)), (1, .int (nI wi))]) F.1 F.2.1 dX2_leastCut_57 hl (k := 0) rfl (by decide) rfl (fun ls hl => ?_)
          refine lv_goto (tgt := 9) F.1 F.2.1 dX2_leastCut_60 (by decide) ?_
          exact ih (j + 1) z o (by omega) (by omega) (hL.skip (fun q => absurd (by rw [Nat.and_comm]; exact mb_subset.mpr q) c2)) _ _ _ I (lv_sub hl [0, 1, 2, 3, 4] rfl)
        · have hw : ∀ v, mb wi v → mb j v := mb_subset.mp (by rw [Nat.and_comm]; exact c2)
          refine lv_aload_n F.1 F.2.1 dX2_leastCut_28 rfl (lv_at hl 3 rfl) ?_
          refine lv_iload F.1 F.2.1 dX2_leastCut_29 (lv_at hl 0 rfl) ?_
          refine mk_isCut F I hl dX2_leastCut_31 ⟨by rw [hR]; decide, by rw [hR]; decide⟩ (Nat.le_of_ble_eq_true rfl) ⟨Nat.zero_le _, Nat.zero_le _⟩ hn hs ht hG (by omega) (fun b hb H locs I => ?_)
          refine nb_if_eq (tgt := 57) F.1 F.2.1 dX2_leastCut_34 (by decide) (fun c3 => ?_) (fun c3 => ?_)
          · refine nv_iinc (lv' := [(4, .int (nI (j + 1))), (3, .int (nI z)), (2, .int (oD o)), (0, .ref (h 0)), (1, .int (nI wi))]) F.1 F.2.1 dX2_leastCut_57 hl (k := 0) rfl (by decide) rfl (fun ls hl => ?_)
            refine lv_goto (tgt := 9) F.1 F.2.1 dX2_leastCut_60 (by decide) ?_
            exact ih (j + 1) z o (by omega) (by omega) (hL.skip (fun _ q1 q2 => by rw [hb.mpr ⟨q1, q2⟩] at c3; cases c3)) _ _ _ I (lv_sub hl [0, 1, 2, 3, 4] rfl)
          · refine lv_aload_n F.1 F.2.1 dX2_leastCut_37 rfl (lv_at hl 3 rfl) ?_
            refine lv_iload F.1 F.2.1 dX2_leastCut_38 (lv_at hl 0 rfl) ?_
            refine mk_sizeOf F I hl dX2_leastCut_40 ⟨by rw [hR]; decide, by rw [hR]; decide⟩ (Nat.le_of_ble_eq_true rfl) ⟨Nat.zero_le _, Nat.zero_le _⟩ (by omega) (fun H locs I => ?_)
            have hpj : popc j ≤ 8 := pc_le j
            refine lv_iload_n F.1 F.2.1 dX2_leastCut_43 rfl (lv_at hl 1 rfl) ?_
            refine nv_icmp_ge (tgt := 57) F.1 F.2.1 dX2_leastCut_44 (by decide) ⟨by omega, by omega⟩ (fun c4 => ?_) (fun c4 => ?_)
            · refine nv_iinc (lv' := [(4, .int (nI (j + 1))), (3, .int (nI z)), (2, .int (oD o)), (0, .ref (h 0)), (1, .int (nI wi))]) F.1 F.2.1 dX2_leastCut_57 hl (k := 0) rfl (by decide) rfl (fun ls hl => ?_)
              refine lv_goto (tgt := 9) F.1 F.2.1 dX2_leastCut_60 (by decide) ?_
              exact ih (j + 1) z o (by omega) (by omega) (hL.skip (fun _ _ _ => c4)) _ _ _ I (lv_sub hl [0, 1, 2, 3, 4] rfl)
            · refine lv_iload F.1 F.2.1 dX2_leastCut_47 (lv_at hl 0 rfl) ?_
              refine lv_istore_n (lv' := [(2, .int (nI j)), (4, .int (nI j)), (3, .int (nI z)), (0, .ref (h 0)), (1, .int (nI wi))]) F.1 F.2.1 dX2_leastCut_49 rfl hl (by decide) rfl (fun ls hl => ?_)
              refine lv_aload_n F.1 F.2.1 dX2_leastCut_50 rfl (lv_at hl 3 rfl) ?_
              refine lv_iload F.1 F.2.1 dX2_leastCut_51 (lv_at hl 1 rfl) ?_
              refine mk_sizeOf F I hl dX2_leastCut_53 ⟨by rw [hR]; decide, by rw [hR]; decide⟩ (Nat.le_of_ble_eq_true rfl) ⟨Nat.zero_le _, Nat.zero_le _⟩ (by omega) (fun H locs I => ?_)
              refine lv_istore_n (lv' := [(3, .int (nI (pc j))), (2, .int (nI j)), (4, .int (nI j)), (0, .ref (h 0)), (1, .int (nI wi))]) F.1 F.2.1 dX2_leastCut_56 rfl hl (by decide) rfl (fun ls hl => ?_)
              refine nv_iinc (lv' := [(4, .int (nI (j + 1))), (3, .int (nI (pc j))), (2, .int (nI j)), (0, .ref (h 0)), (1, .int (nI wi))]) F.1 F.2.1 dX2_leastCut_57 hl (k := 2) rfl (by decide) rfl (fun ls hl => ?_)
              refine lv_goto (tgt := 9) F.1 F.2.1 dX2_leastCut_60 (by decide) ?_
              exact ih (j + 1) (pc j) (some j) (by omega) (by omega) (hL.take hw (hb.mp c3).1 (hb.mp c3).2 c4) _ _ _ I (lv_sub hl [0, 1, 2, 3, 4] rfl)
  refine lv_bipush (v := -4) F.1 F.2.1 dX2_leastCut_0 (by decide) ?_
  refine lv_istore_n (lv' := [(2, .int (-4)), (0, .ref (h 0)), (1, .int (nI wi))]) F.1 F.2.1 dX2_leastCut_2 rfl hl (by decide) rfl (fun ls hl => ?_)
  refine lv_bipush (v := nI 9) F.1 F.2.1 dX2_leastCut_3 (by decide) ?_
  refine lv_istore_n (lv' := [(3, .int (nI 9)), (2, .int (-4)), (0, .ref (h 0)), (1, .int (nI wi))]) F.1 F.2.1 dX2_leastCut_5 rfl hl (by decide) rfl (fun ls hl => ?_)
  refine lv_iconst (v := nI 0) F.1 F.2.1 dX2_leastCut_6 (by decide) ?_
  refine lv_istore (lv' := [(4, .int (nI 0)), (3, .int (nI 9)), (2, .int (-4)), (0, .ref (h 0)), (1, .int (nI wi))]) F.1 F.2.1 dX2_leastCut_7 hl (by decide) rfl (fun ls hl => ?_)
  exact L (2 ^ n + 1) 0 9 none (Nat.lt_succ_of_le (Nat.sub_le _ _)) (Nat.zero_le _) ⟨rfl, fun D hD => by omega⟩ _ _ _ I (lv_sub hl [0, 1, 2, 3, 4] rfl)
section XA
variable {p : Program} {l : Launch} {e : Env} {R : Room} {s : State} {m : MethodId} {args : Array Value} {below : List Frame} {meth : Method} {c : Code} {H : Heap} {locs : List Loc} {cells slots : Nat} {Q : State → Prop} {pc : Nat} {ls : Array Slot} {rest : List Value} {cc : ByteArray} {nL : Nat} {D : va_G} {A : Nat → Prop} {H0 : Heap} {h : Nat → Nat} {ca : Nat → ClassId} {lv : List (Nat × Value)} 
theorem mk_leastCut {n sr tg : Nat} {a : Nat → Nat} {wh : Nat → Bool} {ms : Nat → Nat} {wi : Nat} (F : CallFix p m c cc nL s args lw_all RX2) (I : WI D (MW h ca (n, sr, tg, a, wh, ms)) (MT ca) A s H0 H locs) (hl : lv_has ls nL lv) (hdg : decode cc pc = .ok (.invokevirtual 59, 3)) (hR : 4 ≤ R.frames ∧ 91 ≤ R.locals) (hroom : (rest.map fun v => v.category).sum ≤ 8) (hf : cells ≤ R.cells ∧ slots ≤ R.slots) (hn : n ≤ 8) (hs : sr < n) (ht : tg < n) (hG : Gok n a) (hwi : wi < 256) (kk : ∀ (o : Option Nat), LCo n sr tg a wi o → (∀ C, o = some C → C < 256) → ∀ (H1 : Heap) (locs1 : List Loc), WI D (MW h ca (n, sr, tg, a, wh, ms)) (MT ca) A s H0 H1 locs1 → W p l e R s m args below meth c H1 locs1 cells slots Q (F0 m (pc + 3) ls (.int (oD o) :: rest))) : W p l e R s m args below meth c H locs cells slots Q (F0 m pc ls (.int (nI wi) :: .ref (h 0) :: rest)) :=
  wc_i F I (mmt_leastCut l D h ca n sr tg a wh ms wi hn hs ht hG hwi) (cwV 1 F.2.2.2.2 (lw_V q240 q242 qs18 q24 q243) rfl rfl rfl (by decide +kernel) hR) (m_recv I) hl rfl rfl hroom hdg hf (fun r u H1 locs1 hp I => by
    obtain ⟨o, h1, h2, rfl, rfl⟩ := hp; exact kk o h1 h2 H1 locs1 I)

end XA
set_option maxHeartbeats 8000000 in
set_option maxRecDepth 100000 in
theorem mmt_cutSize (l : Launch) (D : va_G) (h : Nat → Nat) (ca : Nat → ClassId) (n sr tg : Nat) (a : Nat → Nat) (wh : Nat → Bool) (ms : Nat → Nat) (hn : n ≤ 8) (hs : sr < n) (ht : tg < n) (hst : sr ≠ tg) (hG : Gok n a) : WMi l yX2_cutSize (ws_ yX2_cutSize cX2_cutSize 2 (some .int)) ({ frames := 4, cells := 0, slots := 0, locals := 91 } : Room) D (MW h ca (n, sr, tg, a, wh, ms)) (MW h ca) (MT ca) [.ref (h 0)] (fun r' u' => r' = (if (a sr).testBit tg then -4 else nI (fl n sr tg a 0 0)) ∧ u' = (n, sr, tg, a, wh, ms)) := by
  refine wm_i (by decide) (Nat.le_of_ble_eq_true rfl) ?_
  intro p e R s m args below meth c ls A Q hR F ret I hl
  have hl : lv_has ls 2 [(0, .ref (h 0))] := hl
  refine lv_aload_n F.1 F.2.1 dX2_cutSize_0 rfl (lv_at hl 0 rfl) ?_
  refine lv_iconst (v := nI 0) F.1 F.2.1 dX2_cutSize_1 (by decide) ?_
  refine mk_leastCut F I hl dX2_cutSize_2 ⟨by rw [hR]; decide, by rw [hR]; decide⟩ (Nat.le_of_ble_eq_true rfl) ⟨Nat.zero_le _, Nat.zero_le _⟩ hn hs ht hG (by decide) (fun o ho hsm H locs I => ?_)
  have hm4 := oD_m4 (o := o) (fun C e => Nat.lt_trans (hsm C e) (by decide))
  refine lv_istore_n (lv' := [(1, .int (oD o)), (0, .ref (h 0))]) F.1 F.2.1 dX2_cutSize_5 rfl hl (by decide) rfl (fun ls hl => ?_)
  refine lv_iload_n F.1 F.2.1 dX2_cutSize_6 rfl (lv_at hl 0 rfl) ?_
  refine lv_bipush (v := -4) F.1 F.2.1 dX2_cutSize_7 (by decide) ?_
  refine lv_icmp_ne (tgt := 17) F.1 F.2.1 dX2_cutSize_9 (by decide) (fun c1 => ?_) (fun c1 => ?_)
  · cases o with
    | none => exact absurd rfl c1
    | some C =>
      have hl : lv_has ls 2 [(1, .int (nI C)), (0, .ref (h 0))] := hl
      refine lv_aload_n F.1 F.2.1 dX2_cutSize_17 rfl (lv_at hl 1 rfl) ?_
      refine lv_iload_n F.1 F.2.1 dX2_cutSize_18 rfl (lv_at hl 0 rfl) ?_
      refine mk_sizeOf F I hl dX2_cutSize_19 ⟨by rw [hR]; decide, by rw [hR]; decide⟩ (Nat.le_of_ble_eq_true rfl) ⟨Nat.zero_le _, Nat.zero_le _⟩ (Nat.lt_trans (hsm C rfl) (by decide)) (fun H locs I => ?_)
      exact ret _ _ _ _ ls _ ⟨by rw [if_neg ho.1]; exact congrArg nI (ho.2.size hn hs ho.1), rfl⟩ I dX2_cutSize_22
  · have e := hm4.mp c1
    subst e
    have hd : mb (a sr) tg := ho _ (fun v z => absurd z mb_0) (cut_all n sr tg a 0)
    refine lv_bipush (v := -4) F.1 F.2.1 dX2_cutSize_12 (by decide) ?_
    refine lv_goto (tgt := 22) F.1 F.2.1 dX2_cutSize_14 (by decide) ?_
    exact ret _ _ _ _ ls _ ⟨by rw [if_pos hd], rfl⟩ I dX2_cutSize_22
set_option maxHeartbeats 8000000 in
set_option maxRecDepth 100000 in
theorem mmt_firstCut (l : Launch) (D : va_G) (h : Nat → Nat) (ca : Nat → ClassId) (n sr tg : Nat) (a : Nat → Nat) (wh : Nat → Bool) (ms : Nat → Nat) (hn : n ≤ 8) (hs : sr < n) (ht : tg < n) (hst : sr ≠ tg) (hG : Gok n a) : WMi l yX2_firstCut (ws_ yX2_firstCut cX2_firstCut 1 (some .int)) ({ frames := 4, cells := 0, slots := 0, locals := 91 } : Room) D (MW h ca (n, sr, tg, a, wh, ms)) (MW h ca) (MT ca) [.ref (h 0)] (fun r' u' => ((mb (a sr) tg ∧ r' = -4) ∨ (¬ mb (a sr) tg ∧ ∃ C, IsLC n sr tg a 0 C ∧ r' = nI C)) ∧ u' = (n, sr, tg, a, wh, ms)) := by
  refine wm_i (by decide) (Nat.le_of_ble_eq_true rfl) ?_
  intro p e R s m args below meth c ls A Q hR F ret I hl
  have hl : lv_has ls 1 [(0, .ref (h 0))] := hl
  refine lv_aload_n F.1 F.2.1 dX2_firstCut_0 rfl (lv_at hl 0 rfl) ?_
  refine lv_iconst (v := nI 0) F.1 F.2.1 dX2_firstCut_1 (by decide) ?_
  refine mk_leastCut F I hl dX2_firstCut_2 ⟨by rw [hR]; decide, by rw [hR]; decide⟩ (Nat.le_of_ble_eq_true rfl) ⟨Nat.zero_le _, Nat.zero_le _⟩ hn hs ht hG (by decide) (fun o ho hsm H locs I => ?_)
  have hres : (mb (a sr) tg ∧ oD o = -4) ∨ (¬ mb (a sr) tg ∧ ∃ C, IsLC n sr tg a 0 C ∧ oD o = nI C) := by
    cases o with
    | none => exact Or.inl ⟨ho _ (fun v z => absurd z mb_0) (cut_all n sr tg a 0), rfl⟩
    | some C => exact Or.inr ⟨ho.1, C, ho.2, rfl⟩
  exact ret _ _ _ _ ls _ ⟨hres, rfl⟩ I dX2_firstCut_5
set_option maxHeartbeats 8000000 in
set_option maxRecDepth 100000 in
theorem mmt_cutWith_bad (l : Launch) (D : va_G) (h : Nat → Nat) (ca : Nat → ClassId) (n sr tg : Nat) (a : Nat → Nat) (wh : Nat → Bool) (ms : Nat → Nat) (x : Int32) (hb : xbad n x = true) : WMi l yX2_cutWith (ws_ yX2_cutWith cX2_cutWith 3 (some .int)) ({ frames := 4, cells := 0, slots := 0, locals := 91 } : Room) D (MW h ca (n, sr, tg, a, wh, ms)) (MW h ca) (MT ca) [.ref (h 0), .int x] (fun r' u' => r' = (-1) ∧ u' = (n, sr, tg, a, wh, ms)) := by
  refine wm_i (by decide) (Nat.le_of_ble_eq_true rfl) ?_
  intro p e R s m args below meth c ls A Q hR F ret I hl
  have hl : lv_has ls 3 [(0, .ref (h 0)), (1, .int x)] := hl
  refine lv_aload_n F.1 F.2.1 dX2_cutWith_0 rfl (lv_at hl 0 rfl) ?_
  refine lv_iload_n F.1 F.2.1 dX2_cutWith_1 rfl (lv_at hl 1 rfl) ?_
  refine mk_isVertex F I hl dX2_cutWith_2 ⟨by rw [hR]; decide, by rw [hR]; decide⟩ (Nat.le_of_ble_eq_true rfl) ⟨Nat.zero_le _, Nat.zero_le _⟩ (fun H locs I => ?_)
  refine nb_if_ne (tgt := 10) F.1 F.2.1 dX2_cutWith_5 (by decide) (fun c1 => ?_) (fun c1 => ?_)
  · rw [hb] at c1
    cases c1
  · refine lv_iconst (v := -1) F.1 F.2.1 dX2_cutWith_8 (by decide) ?_
    exact ret _ _ _ _ ls _ ⟨rfl, rfl⟩ I dX2_cutWith_9
set_option maxHeartbeats 8000000 in
set_option maxRecDepth 100000 in
theorem mmt_loss_bad (l : Launch) (D : va_G) (h : Nat → Nat) (ca : Nat → ClassId) (n sr tg : Nat) (a : Nat → Nat) (wh : Nat → Bool) (ms : Nat → Nat) (x : Int32) (hb : xbad n x = true) : WMi l yX2_loss (ws_ yX2_loss cX2_loss 6 (some .int)) ({ frames := 3, cells := 0, slots := 0, locals := 69 } : Room) D (MW h ca (n, sr, tg, a, wh, ms)) (MW h ca) (MT ca) [.ref (h 0), .int x] (fun r' u' => r' = (-1) ∧ u' = (n, sr, tg, a, wh, ms)) := by
  refine wm_i (by decide) (Nat.le_of_ble_eq_true rfl) ?_
  intro p e R s m args below meth c ls A Q hR F ret I hl
  have hl : lv_has ls 6 [(0, .ref (h 0)), (1, .int x)] := hl
  refine lv_aload_n F.1 F.2.1 dX2_loss_0 rfl (lv_at hl 0 rfl) ?_
  refine lv_iload_n F.1 F.2.1 dX2_loss_1 rfl (lv_at hl 1 rfl) ?_
  refine mk_isVertex F I hl dX2_loss_2 ⟨by rw [hR]; decide, by rw [hR]; decide⟩ (Nat.le_of_ble_eq_true rfl) ⟨Nat.zero_le _, Nat.zero_le _⟩ (fun H locs I => ?_)
  refine nb_if_ne (tgt := 10) F.1 F.2.1 dX2_loss_5 (by decide) (fun c1 => ?_) (fun c1 => ?_)
  · rw [hb] at c1
    cases c1
  · refine lv_iconst (v := -1) F.1 F.2.1 dX2_loss_8 (by decide) ?_
    exact ret _ _ _ _ ls _ ⟨rfl, rfl⟩ I dX2_loss_9
set_option maxHeartbeats 8000000 in
set_option maxRecDepth 100000 in
theorem mmt_cutWith (l : Launch) (D : va_G) (h : Nat → Nat) (ca : Nat → ClassId) (n sr tg : Nat) (a : Nat → Nat) (wh : Nat → Bool) (ms : Nat → Nat) (v : Nat) (hn : n ≤ 8) (hs : sr < n) (ht : tg < n) (hst : sr ≠ tg) (hG : Gok n a) (hv : v < n) : WMi l yX2_cutWith (ws_ yX2_cutWith cX2_cutWith 3 (some .int)) ({ frames := 4, cells := 0, slots := 0, locals := 91 } : Room) D (MW h ca (n, sr, tg, a, wh, ms)) (MW h ca) (MT ca) [.ref (h 0), .int (nI v)] (fun r' u' => r' = (if v = sr ∨ v = tg ∨ mb (a sr) tg then -4 else nI (fl n sr tg a (2 ^ v) 0 + 1)) ∧ u' = (n, sr, tg, a, wh, ms)) := by
  refine wm_i (by decide) (Nat.le_of_ble_eq_true rfl) ?_
  intro p e R s m args below meth c ls A Q hR F ret I hl
  have hl : lv_has ls 3 [(0, .ref (h 0)), (1, .int (nI v))] := hl
  refine lv_aload_n F.1 F.2.1 dX2_cutWith_0 rfl (lv_at hl 0 rfl) ?_
  refine lv_iload_n F.1 F.2.1 dX2_cutWith_1 rfl (lv_at hl 1 rfl) ?_
  refine mk_isVertex F I hl dX2_cutWith_2 ⟨by rw [hR]; decide, by rw [hR]; decide⟩ (Nat.le_of_ble_eq_true rfl) ⟨Nat.zero_le _, Nat.zero_le _⟩ (fun H locs I => ?_)
  refine nb_if_ne (tgt := 10) F.1 F.2.1 dX2_cutWith_5 (by decide) (fun c1 => ?_) (fun c1 => ?_)
  · have hv8 : 2 ^ v < 2 ^ 8 := Nat.pow_lt_pow_right (by decide) (by omega)
    refine lv_aload_n F.1 F.2.1 dX2_cutWith_10 rfl (lv_at hl 0 rfl) ?_
    refine lv_iconst (v := nI 1) F.1 F.2.1 dX2_cutWith_11 (by decide) ?_
    refine lv_iload_n F.1 F.2.1 dX2_cutWith_12 rfl (lv_at hl 1 rfl) ?_
    refine nv_one F.1 F.2.1 dX2_cutWith_13 (by omega) ?_
    refine mk_leastCut F I hl dX2_cutWith_14 ⟨by rw [hR]; decide, by rw [hR]; decide⟩ (Nat.le_of_ble_eq_true rfl) ⟨Nat.zero_le _, Nat.zero_le _⟩ hn hs ht hG hv8 (fun o ho hsm H locs I => ?_)
    have hm4 := oD_m4 (o := o) (fun C e => Nat.lt_trans (hsm C e) (by decide))
    refine lv_istore_n (lv' := [(2, .int (oD o)), (0, .ref (h 0)), (1, .int (nI v))]) F.1 F.2.1 dX2_cutWith_17 rfl hl (by decide) rfl (fun ls hl => ?_)
    refine lv_iload_n F.1 F.2.1 dX2_cutWith_18 rfl (lv_at hl 0 rfl) ?_
    refine lv_bipush (v := -4) F.1 F.2.1 dX2_cutWith_19 (by decide) ?_
    refine lv_icmp_ne (tgt := 29) F.1 F.2.1 dX2_cutWith_21 (by decide) (fun c2 => ?_) (fun c2 => ?_)
    · cases o with
      | none => exact absurd rfl c2
      | some C =>
        have hl : lv_has ls 3 [(2, .int (nI C)), (0, .ref (h 0)), (1, .int (nI v))] := hl
        have hvC := ho.2.2.1.1 v (ho.2.1 v (mb_1.mpr rfl))
        have hno : ¬ (v = sr ∨ v = tg ∨ mb (a sr) tg) := by
          rintro (z | z | z)
          · exact hvC.2.1 z
          · exact hvC.2.2.1 z
          · exact ho.1 z
        refine lv_aload_n F.1 F.2.1 dX2_cutWith_29 rfl (lv_at hl 1 rfl) ?_
        refine lv_iload_n F.1 F.2.1 dX2_cutWith_30 rfl (lv_at hl 0 rfl) ?_
        refine mk_sizeOf F I hl dX2_cutWith_31 ⟨by rw [hR]; decide, by rw [hR]; decide⟩ (Nat.le_of_ble_eq_true rfl) ⟨Nat.zero_le _, Nat.zero_le _⟩ (Nat.lt_trans (hsm C rfl) (by decide)) (fun H locs I => ?_)
        exact ret _ _ _ _ ls _ ⟨by rw [if_neg hno]; exact congrArg nI (ho.2.with hn hs hv hvC.2.1 hvC.2.2.1 ho.1), rfl⟩ I dX2_cutWith_34
    · have e := hm4.mp c2
      subst e
      have hyes : v = sr ∨ v = tg ∨ mb (a sr) tg := by
        refine Classical.byContradiction fun z => ?_
        exact LCo.with hn hs hv (fun q => z (Or.inl q)) (fun q => z (Or.inr (Or.inl q))) (fun q => z (Or.inr (Or.inr q))) ho
      refine lv_bipush (v := -4) F.1 F.2.1 dX2_cutWith_24 (by decide) ?_
      refine lv_goto (tgt := 34) F.1 F.2.1 dX2_cutWith_26 (by decide) ?_
      exact ret _ _ _ _ ls _ ⟨by rw [if_pos hyes], rfl⟩ I dX2_cutWith_34
  · rw [xbad_ok hn hv] at c1
    cases c1
theorem fl_iso2 {n s t : Nat} {a b : Nat → Nat} {v : Nat} (hn : n ≤ 8) (hs : s < n) (ht : t < n) (hvs : ¬ v = s) (hvt : ¬ v = t) (hGa : Gok n a) (hGb : Gok n b) (h : ∀ x y, x < n → (mb (b x) y ↔ mb (a x) y ∧ x ≠ v ∧ y ≠ v)) : fl n s t b 0 0 = fl n s t a (2 ^ v) 0 := by
  have key : ∀ (c d : Nat → Nat) (sh : Nat), (∀ x, x < n → c x = d x) → fl n s t c sh 0 = fl n s t d sh 0 := by
    intro c d sh e
    have hL : ∀ X, (∀ x, mb X x → x < n) → (Lds c s t X ↔ Lds d s t X) := by
      intro X hX
      constructor
      · exact fun q => q.sub (fun v _ z => by rw [← e s hs]; exact z) (fun v _ z => by rw [← e t ht]; exact z) (fun x y hx _ z => by rw [← e x (hX x hx)]; exact z)
      · exact fun q => q.sub (fun v _ z => by rw [e s hs]; exact z) (fun v _ z => by rw [e t ht]; exact z) (fun x y hx _ z => by rw [e x (hX x hx)]; exact z)
    have hin : ∀ C x, mb (dif (dif (inn n s t) sh) C) x → x < n := fun C x hx => by
      rw [mb_dif, mb_dif, mb_inn] at hx
      exact hx.1.1.1
    have hdr : dr c s t = dr d s t := by
      unfold dr
      rw [e s hs]
    refine fl_eq ?_
    have sp := fl_spec n s t d sh 0
    refine ⟨sp.1, fun q => ?_, fun C hC => ?_⟩
    · obtain ⟨C, hC, hk⟩ := sp.2.1 q
      exact ⟨C, ⟨hC.1, fun z => hC.2 ((hL _ (hin C)).mp z)⟩, by rw [hdr]; exact hk⟩
    · rw [hdr]
      exact sp.2.2 C ⟨hC.1, fun z => hC.2 ((hL _ (hin C)).mpr z)⟩
  have h1 := key b (fun x => if x < n then b x else 0) 0 (fun x hx => by simp [hx])
  have h2 := key a (fun x => if x < n then a x else 0) (2 ^ v) (fun x hx => by simp [hx])
  rw [h1, h2]
  refine fl_iso hn hs hvs hvt fun x y => ?_
  by_cases hx : x < n
  · simp only [if_pos hx]
    exact h x y hx
  · simp only [if_neg hx]
    exact ⟨fun q => absurd q mb_0, fun q => absurd q.1 mb_0⟩
set_option maxHeartbeats 8000000 in
set_option maxRecDepth 100000 in
theorem mmt_loss (l : Launch) (D : va_G) (h : Nat → Nat) (ca : Nat → ClassId) (n sr tg : Nat) (a : Nat → Nat) (wh : Nat → Bool) (ms : Nat → Nat) (v : Nat) (hn : n ≤ 8) (hs : sr < n) (ht : tg < n) (hst : sr ≠ tg) (hG : Gok n a) (hv : v < n) : WMi l yX2_loss (ws_ yX2_loss cX2_loss 6 (some .int)) ({ frames := 3, cells := 0, slots := 0, locals := 69 } : Room) D (MW h ca (n, sr, tg, a, wh, ms)) (MW h ca) (MT ca) [.ref (h 0), .int (nI v)] (fun r' u' => ∃ (wh2 : Nat → Bool) (ms2 : Nat → Nat), r' = (if v = sr ∨ v = tg then nI 0 else nI (fl n sr tg a 0 0) - nI (fl n sr tg a (2 ^ v) 0)) ∧ u' = (n, sr, tg, a, wh2, ms2)) := by
  refine wm_i (by decide) (Nat.le_of_ble_eq_true rfl) ?_
  intro p e R s m args below meth c ls A Q hR F ret I hl
  have hl : lv_has ls 6 [(0, .ref (h 0)), (1, .int (nI v))] := hl
  refine lv_aload_n F.1 F.2.1 dX2_loss_0 rfl (lv_at hl 0 rfl) ?_
  refine lv_iload_n F.1 F.2.1 dX2_loss_1 rfl (lv_at hl 1 rfl) ?_
  refine mk_isVertex F I hl dX2_loss_2 ⟨by rw [hR]; decide, by rw [hR]; decide⟩ (Nat.le_of_ble_eq_true rfl) ⟨Nat.zero_le _, Nat.zero_le _⟩ (fun H locs I => ?_)
  refine nb_if_ne (tgt := 10) F.1 F.2.1 dX2_loss_5 (by decide) (fun c1 => ?_) (fun c1 => ?_)
  · refine lv_iload_n F.1 F.2.1 dX2_loss_10 rfl (lv_at hl 1 rfl) ?_
    refine lv_aload_n F.1 F.2.1 dX2_loss_11 rfl (lv_at hl 0 rfl) ?_
    refine mg_s F I dX2_loss_12 ?_
    refine nv_icmp_eq (tgt := 26) F.1 F.2.1 dX2_loss_15 (by decide) ⟨by omega, by omega⟩ (fun c2 => ?_) (fun c2 => ?_)
    · refine lv_iconst (v := nI 0) F.1 F.2.1 dX2_loss_26 (by decide) ?_
      exact ret _ _ _ _ ls _ ⟨wh, ms, by rw [if_pos (Or.inl c2)], rfl⟩ I dX2_loss_27
    · refine lv_iload_n F.1 F.2.1 dX2_loss_18 rfl (lv_at hl 1 rfl) ?_
      refine lv_aload_n F.1 F.2.1 dX2_loss_19 rfl (lv_at hl 0 rfl) ?_
      refine mg_t F I dX2_loss_20 ?_
      refine nv_icmp_ne (tgt := 28) F.1 F.2.1 dX2_loss_23 (by decide) ⟨by omega, by omega⟩ (fun c3 => ?_) (fun c3 => ?_)
      · have e5 : ¬ (v = sr ∨ v = tg) := by
          rintro (q | q)
          · exact c2 q
          · exact c3 q
        have hGs : ∀ (i : Nat) (a1 : Nat → Nat), (∀ x y, mb (a1 x) y ↔ mb (a x) y ∧ ¬ (x = v ∧ y < i) ∧ ¬ (y = v ∧ x < i)) → Gok n a1 := fun i a1 h u hu w hw => by
          obtain ⟨q1, q2, q3⟩ := (h u w).mp hw
          obtain ⟨g1, g2, g3⟩ := hG u hu w q1
          exact ⟨g1, g2, (h w u).mpr ⟨g3, fun z => q3 ⟨z.1, z.2⟩, fun z => q2 ⟨z.1, z.2⟩⟩⟩
        have hGr : ∀ (i : Nat) (a1 : Nat → Nat), (∀ x y, mb (a1 x) y ↔ mb (a x) y ∧ ((x = v → y < i) ∧ (y = v → x < i ∨ n ≤ x))) → Gok n a1 := fun i a1 h u hu w hw => by
          obtain ⟨q1, q2, q3⟩ := (h u w).mp hw
          obtain ⟨g1, g2, g3⟩ := hG u hu w q1
          refine ⟨g1, g2, (h w u).mpr ⟨g3, fun z => ?_, fun z => Or.inl (q2 z)⟩⟩
          rcases q3 z with e | e
          · exact e
          · omega
        have L2 : ∀ (k : Nat), ∀ (i : Nat) (a1 : Nat → Nat) (wh2 : Nat → Bool) (ms2 : Nat → Nat), n - i < k → i ≤ n → (∀ x y, mb (a1 x) y ↔ mb (a x) y ∧ ((x = v → y < i) ∧ (y = v → x < i ∨ n ≤ x))) → ∀ (H : Heap) (locs : List Loc) (ls : Array Slot), WI D (MW h ca (n, sr, tg, a1, wh2, ms2)) (MT ca) A s s.heap H locs → lv_has ls 6 [(5, .int (nI i)), (4, .int (nI (fl n sr tg a (2 ^ v) 0))), (3, .int (nI (a v))), (2, .int (nI (fl n sr tg a 0 0))), (0, .ref (h 0)), (1, .int (nI v))] → W p l e R s m args below meth c H locs 0 0 Q (F0 m 81 ls []) := by
          intro k
          induction k with
          | zero =>
            intro i a1 wh2 ms2 hk hi hinv
            exact absurd hk (Nat.not_lt_zero _)
          | succ k ih =>
            intro i a1 wh2 ms2 hk hi hinv H locs ls I hl
            have hG1 := hGr i a1 hinv
            refine lv_iload F.1 F.2.1 dX2_loss_81 (lv_at hl 0 rfl) ?_
            refine lv_aload_n F.1 F.2.1 dX2_loss_83 rfl (lv_at hl 4 rfl) ?_
            refine mg_n F I dX2_loss_84 ?_
            refine nv_icmp_ge (tgt := 116) F.1 F.2.1 dX2_loss_87 (by decide) ⟨by omega, by omega⟩ (fun c4 => ?_) (fun c4 => ?_)
            · have ea : a1 = a := by
                funext x
                apply mb_iff
                intro y
                rw [hinv]
                refine ⟨fun q => q.1, fun q => ⟨q, fun e => ?_, fun e => ?_⟩⟩
                · subst e
                  have := (hG x hv y q).1
                  omega
                · by_cases hx : x < n
                  · exact Or.inl (by omega)
                  · exact Or.inr (by omega)
              rw [ea] at I
              refine lv_iload_n F.1 F.2.1 dX2_loss_116 rfl (lv_at hl 3 rfl) ?_
              refine lv_iload F.1 F.2.1 dX2_loss_117 (lv_at hl 1 rfl) ?_
              refine lv_isub F.1 F.2.1 dX2_loss_119 ?_
              exact ret _ _ _ _ ls _ ⟨wh2, ms2, by rw [if_neg e5], rfl⟩ I dX2_loss_120
            · refine lv_iload F.1 F.2.1 dX2_loss_90 (lv_at hl 0 rfl) ?_
              refine lv_iload_n F.1 F.2.1 dX2_loss_92 rfl (lv_at hl 5 rfl) ?_
              refine nv_icmp_eq (tgt := 110) F.1 F.2.1 dX2_loss_93 (by decide) ⟨by omega, by omega⟩ (fun c5 => ?_) (fun c5 => ?_)
              · refine nv_iinc (lv' := [(5, .int (nI (i + 1))), (4, .int (nI (fl n sr tg a (2 ^ v) 0))), (3, .int (nI (a v))), (2, .int (nI (fl n sr tg a 0 0))), (0, .ref (h 0)), (1, .int (nI v))]) F.1 F.2.1 dX2_loss_110 hl (k := 0) rfl (by decide) rfl (fun ls hl => ?_)
                refine lv_goto (tgt := 81) F.1 F.2.1 dX2_loss_113 (by decide) ?_
                exact ih (i + 1) a1 wh2 ms2 (by omega) (by omega) (fun x y => by
                  rw [hinv]
                  constructor
                  · rintro ⟨g1, g2, g3⟩
                    exact ⟨g1, fun e => by have := g2 e; omega, fun e => by have := g3 e; omega⟩
                  · rintro ⟨g1, g2, g3⟩
                    have hne : ¬ (x = v ∧ y = v) := fun e => by
                      rw [e.1, e.2] at g1
                      exact (hG v hv v g1).2.1 rfl
                    refine ⟨g1, fun e => ?_, fun e => ?_⟩
                    · have := g2 e; omega
                    · have := g3 e; omega) _ _ _ I (lv_sub hl [0, 1, 2, 3, 4, 5] rfl)
              · refine lv_aload_n F.1 F.2.1 dX2_loss_96 rfl (lv_at hl 4 rfl) ?_
                refine lv_iload F.1 F.2.1 dX2_loss_97 (lv_at hl 0 rfl) ?_
                refine lv_iload_n F.1 F.2.1 dX2_loss_99 rfl (lv_at hl 5 rfl) ?_
                refine lv_aload_n F.1 F.2.1 dX2_loss_100 rfl (lv_at hl 4 rfl) ?_
                refine lv_iload_n F.1 F.2.1 dX2_loss_101 rfl (lv_at hl 2 rfl) ?_
                refine lv_iload F.1 F.2.1 dX2_loss_102 (lv_at hl 0 rfl) ?_
                refine mk_has F I hl dX2_loss_104 ⟨by rw [hR]; decide, by rw [hR]; decide⟩ (Nat.le_of_ble_eq_true rfl) ⟨Nat.zero_le _, Nat.zero_le _⟩ (hG.b31 hn hv) (by omega) (fun H locs I => ?_)
                refine mk_put F I hl dX2_loss_107 ⟨by rw [hR]; decide, by rw [hR]; decide⟩ (Nat.le_of_ble_eq_true rfl) ⟨Nat.zero_le _, Nat.zero_le _⟩ (by omega) (by omega) c5 (hG1.b31 hn (by omega)) (hG1.b31 hn hv) (fun H locs I => ?_)
                refine nv_iinc (lv' := [(5, .int (nI (i + 1))), (4, .int (nI (fl n sr tg a (2 ^ v) 0))), (3, .int (nI (a v))), (2, .int (nI (fl n sr tg a 0 0))), (0, .ref (h 0)), (1, .int (nI v))]) F.1 F.2.1 dX2_loss_110 hl (k := 0) rfl (by decide) rfl (fun ls hl => ?_)
                refine lv_goto (tgt := 81) F.1 F.2.1 dX2_loss_113 (by decide) ?_
                exact ih (i + 1) _ wh2 ms2 (by omega) (by omega) (fun x y => by
                  by_cases hm : mb (a v) i
                  · have hm2 := (hG v hv i hm).2.2
                    rw [if_pos hm, mb_lnk c5, hinv]
                    constructor
                    · rintro (⟨g1, g2, g3⟩ | ⟨rfl, rfl⟩ | ⟨rfl, rfl⟩)
                      · exact ⟨g1, fun e => by have := g2 e; omega, fun e => by have := g3 e; omega⟩
                      · exact ⟨hm2, fun e => absurd e c5, fun _ => Or.inl (by omega)⟩
                      · exact ⟨hm, fun _ => by omega, fun e => absurd e c5⟩
                    · rintro ⟨g1, g2, g3⟩
                      by_cases e1 : x = i ∧ y = v
                      · exact Or.inr (Or.inl e1)
                      · by_cases e2 : x = v ∧ y = i
                        · exact Or.inr (Or.inr e2)
                        · exact Or.inl ⟨g1, fun e => by have := g2 e; omega, fun e => by have := g3 e; omega⟩
                  · have hm2 : ¬ mb (a i) v := fun z => hm (hG i (by omega) v z).2.2
                    rw [if_neg hm, mb_ulk c5, hinv]
                    constructor
                    · rintro ⟨⟨g1, g2, g3⟩, g4, g5⟩
                      exact ⟨g1, fun e => by have := g2 e; omega, fun e => by have := g3 e; omega⟩
                    · rintro ⟨g1, g2, g3⟩
                      have n1 : ¬ (x = i ∧ y = v) := fun e => hm2 (by rw [← e.1, ← e.2]; exact g1)
                      have n2 : ¬ (x = v ∧ y = i) := fun e => hm (by rw [← e.1, ← e.2]; exact g1)
                      exact ⟨⟨g1, fun e => by have := g2 e; omega, fun e => by have := g3 e; omega⟩, n1, n2⟩) _ _ _ I (lv_sub hl [0, 1, 2, 3, 4, 5] rfl)
        have L1 : ∀ (k : Nat), ∀ (i : Nat) (a1 : Nat → Nat) (wh2 : Nat → Bool) (ms2 : Nat → Nat), n - i < k → i ≤ n → (∀ x y, mb (a1 x) y ↔ mb (a x) y ∧ ¬ (x = v ∧ y < i) ∧ ¬ (y = v ∧ x < i)) → ∀ (H : Heap) (locs : List Loc) (ls : Array Slot), WI D (MW h ca (n, sr, tg, a1, wh2, ms2)) (MT ca) A s s.heap H locs → lv_has ls 6 [(4, .int (nI i)), (3, .int (nI (a v))), (2, .int (nI (fl n sr tg a 0 0))), (0, .ref (h 0)), (1, .int (nI v))] → W p l e R s m args below meth c H locs 0 0 Q (F0 m 43 ls []) := by
          intro k
          induction k with
          | zero =>
            intro i a1 wh2 ms2 hk hi hinv
            exact absurd hk (Nat.not_lt_zero _)
          | succ k ih =>
            intro i a1 wh2 ms2 hk hi hinv H locs ls I hl
            have hG1 := hGs i a1 hinv
            refine lv_iload F.1 F.2.1 dX2_loss_43 (lv_at hl 0 rfl) ?_
            refine lv_aload_n F.1 F.2.1 dX2_loss_45 rfl (lv_at hl 3 rfl) ?_
            refine mg_n F I dX2_loss_46 ?_
            refine nv_icmp_ge (tgt := 72) F.1 F.2.1 dX2_loss_49 (by decide) ⟨by omega, by omega⟩ (fun c4 => ?_) (fun c4 => ?_)
            · have e : i = n := by omega
              rw [e] at hinv
              have hiso : ∀ x y, x < n → (mb (a1 x) y ↔ mb (a x) y ∧ x ≠ v ∧ y ≠ v) := fun x y hx => by
                rw [hinv]
                constructor
                · rintro ⟨g1, g2, g3⟩
                  exact ⟨g1, fun z => g2 ⟨z, (hG x hx y g1).1⟩, fun z => g3 ⟨z, hx⟩⟩
                · rintro ⟨g1, g2, g3⟩
                  exact ⟨g1, fun z => g2 z.1, fun z => g3 z.1⟩
              have hfl : fl n sr tg a1 0 0 = fl n sr tg a (2 ^ v) 0 := fl_iso2 hn hs ht c2 c3 hG hG1 hiso
              refine lv_aload_n F.1 F.2.1 dX2_loss_72 rfl (lv_at hl 3 rfl) ?_
              refine mk_paths F I hl dX2_loss_73 ⟨by rw [hR]; decide, by rw [hR]; decide⟩ (Nat.le_of_ble_eq_true rfl) ⟨Nat.zero_le _, Nat.zero_le _⟩ hn hs ht hst hG1 (fun wh3 ms3 H locs I => ?_)
              rw [hfl]
              refine lv_istore (lv' := [(4, .int (nI (fl n sr tg a (2 ^ v) 0))), (3, .int (nI (a v))), (2, .int (nI (fl n sr tg a 0 0))), (0, .ref (h 0)), (1, .int (nI v))]) F.1 F.2.1 dX2_loss_76 hl (by decide) rfl (fun ls hl => ?_)
              refine lv_iconst (v := nI 0) F.1 F.2.1 dX2_loss_78 (by decide) ?_
              refine lv_istore (lv' := [(5, .int (nI 0)), (4, .int (nI (fl n sr tg a (2 ^ v) 0))), (3, .int (nI (a v))), (2, .int (nI (fl n sr tg a 0 0))), (0, .ref (h 0)), (1, .int (nI v))]) F.1 F.2.1 dX2_loss_79 hl (by decide) rfl (fun ls hl => ?_)
              exact L2 (n + 1) 0 a1 wh3 ms3 (by omega) (by omega) (fun x y => by
                rw [hinv]
                constructor
                · rintro ⟨g1, g2, g3⟩
                  refine ⟨g1, fun e => ?_, fun e => Or.inr ?_⟩
                  · subst e
                    exact absurd ⟨rfl, (hG x hv y g1).1⟩ g2
                  · exact Nat.le_of_not_lt fun z => g3 ⟨e, z⟩
                · rintro ⟨g1, g2, g3⟩
                  refine ⟨g1, fun z => ?_, fun z => ?_⟩
                  · have := g2 z.1; omega
                  · have := g3 z.1; omega) _ _ _ I (lv_sub hl [0, 1, 2, 3, 4, 5] rfl)
            · refine lv_iload F.1 F.2.1 dX2_loss_52 (lv_at hl 0 rfl) ?_
              refine lv_iload_n F.1 F.2.1 dX2_loss_54 rfl (lv_at hl 4 rfl) ?_
              refine nv_icmp_eq (tgt := 66) F.1 F.2.1 dX2_loss_55 (by decide) ⟨by omega, by omega⟩ (fun c5 => ?_) (fun c5 => ?_)
              · refine nv_iinc (lv' := [(4, .int (nI (i + 1))), (3, .int (nI (a v))), (2, .int (nI (fl n sr tg a 0 0))), (0, .ref (h 0)), (1, .int (nI v))]) F.1 F.2.1 dX2_loss_66 hl (k := 0) rfl (by decide) rfl (fun ls hl => ?_)
                refine lv_goto (tgt := 43) F.1 F.2.1 dX2_loss_69 (by decide) ?_
                exact ih (i + 1) a1 wh2 ms2 (by omega) (by omega) (fun x y => by
                  rw [hinv]
                  constructor
                  · rintro ⟨g1, g2, g3⟩
                    have hne : ¬ (x = v ∧ y = v) := fun e => by
                      rw [e.1, e.2] at g1
                      exact (hG v hv v g1).2.1 rfl
                    exact ⟨g1, fun z => g2 ⟨z.1, by omega⟩, fun z => g3 ⟨z.1, by omega⟩⟩
                  · rintro ⟨g1, g2, g3⟩
                    exact ⟨g1, fun z => g2 ⟨z.1, by omega⟩, fun z => g3 ⟨z.1, by omega⟩⟩) _ _ _ I (lv_sub hl [0, 1, 2, 3, 4] rfl)
              · refine lv_aload_n F.1 F.2.1 dX2_loss_58 rfl (lv_at hl 3 rfl) ?_
                refine lv_iload F.1 F.2.1 dX2_loss_59 (lv_at hl 0 rfl) ?_
                refine lv_iload_n F.1 F.2.1 dX2_loss_61 rfl (lv_at hl 4 rfl) ?_
                refine lv_iconst (v := nI 0) F.1 F.2.1 dX2_loss_62 (by decide) ?_
                refine mk_put F I hl dX2_loss_63 ⟨by rw [hR]; decide, by rw [hR]; decide⟩ (Nat.le_of_ble_eq_true rfl) ⟨Nat.zero_le _, Nat.zero_le _⟩ (b := false) (by omega) (by omega) c5 (hG1.b31 hn (by omega)) (hG1.b31 hn hv) (fun H locs I => ?_)
                refine nv_iinc (lv' := [(4, .int (nI (i + 1))), (3, .int (nI (a v))), (2, .int (nI (fl n sr tg a 0 0))), (0, .ref (h 0)), (1, .int (nI v))]) F.1 F.2.1 dX2_loss_66 hl (k := 0) rfl (by decide) rfl (fun ls hl => ?_)
                refine lv_goto (tgt := 43) F.1 F.2.1 dX2_loss_69 (by decide) ?_
                exact ih (i + 1) (ulk a1 i v) wh2 ms2 (by omega) (by omega) (fun x y => by
                  rw [mb_ulk c5, hinv]
                  constructor
                  · rintro ⟨⟨g1, g2, g3⟩, g4, g5⟩
                    exact ⟨g1, fun z => by omega, fun z => by omega⟩
                  · rintro ⟨g1, g2, g3⟩
                    exact ⟨⟨g1, fun z => g2 ⟨z.1, by omega⟩, fun z => g3 ⟨z.1, by omega⟩⟩, fun z => g3 ⟨z.2, by omega⟩, fun z => g2 ⟨z.1, by omega⟩⟩) _ _ _ I (lv_sub hl [0, 1, 2, 3, 4] rfl)
        refine lv_aload_n F.1 F.2.1 dX2_loss_28 rfl (lv_at hl 0 rfl) ?_
        refine mk_paths F I hl dX2_loss_29 ⟨by rw [hR]; decide, by rw [hR]; decide⟩ (Nat.le_of_ble_eq_true rfl) ⟨Nat.zero_le _, Nat.zero_le _⟩ hn hs ht hst hG (fun wh2 ms2 H locs I => ?_)
        refine lv_istore_n (lv' := [(2, .int (nI (fl n sr tg a 0 0))), (0, .ref (h 0)), (1, .int (nI v))]) F.1 F.2.1 dX2_loss_32 rfl hl (by decide) rfl (fun ls hl => ?_)
        refine lv_aload_n F.1 F.2.1 dX2_loss_33 rfl (lv_at hl 1 rfl) ?_
        refine mg_near F I dX2_loss_34 ?_
        refine lv_iload_n F.1 F.2.1 dX2_loss_37 rfl (lv_at hl 2 rfl) ?_
        refine ma_near F I dX2_loss_38 (by omega) ?_
        refine lv_istore_n (lv' := [(3, .int (nI (a v))), (2, .int (nI (fl n sr tg a 0 0))), (0, .ref (h 0)), (1, .int (nI v))]) F.1 F.2.1 dX2_loss_39 rfl hl (by decide) rfl (fun ls hl => ?_)
        refine lv_iconst (v := nI 0) F.1 F.2.1 dX2_loss_40 (by decide) ?_
        refine lv_istore (lv' := [(4, .int (nI 0)), (3, .int (nI (a v))), (2, .int (nI (fl n sr tg a 0 0))), (0, .ref (h 0)), (1, .int (nI v))]) F.1 F.2.1 dX2_loss_41 hl (by decide) rfl (fun ls hl => ?_)
        exact L1 (n + 1) 0 a wh2 ms2 (by omega) (by omega) (fun x y => ⟨fun q => ⟨q, fun z => by omega, fun z => by omega⟩, fun q => q.1⟩) _ _ _ I (lv_sub hl [0, 1, 2, 3, 4] rfl)
      · refine lv_iconst (v := nI 0) F.1 F.2.1 dX2_loss_26 (by decide) ?_
        exact ret _ _ _ _ ls _ ⟨wh, ms, by rw [if_pos (Or.inr c3)], rfl⟩ I dX2_loss_27
  · rw [xbad_ok hn hv] at c1
    cases c1
end
section
/-! DisjointPathsModel: telling, distance, strength, clear -/
set_option maxHeartbeats 8000000 in
set_option maxRecDepth 100000 in
theorem mmt_telling (l : Launch) (D : va_G) (h : Nat → Nat) (ca : Nat → ClassId) (n sr tg : Nat) (a : Nat → Nat) (wh : Nat → Bool) (ms : Nat → Nat) (eg : Bool) (hn : n ≤ 8) (hs : sr < n) (ht : tg < n) (hst : sr ≠ tg) (hG : Gok n a) : WMi l yX2_telling (ws_ yX2_telling cX2_telling 6 (some .int)) ({ frames := 3, cells := 0, slots := 0, locals := 69 } : Room) D (MW h ca (n, sr, tg, a, wh, ms)) (MW h ca) (MT ca) [.ref (h 0), .int (nI eg.toNat)] (fun r' u' => ∃ (wh2 : Nat → Bool) (ms2 : Nat → Nat), r' = nI (prs (fun u v => ((a u).testBit v == eg) && decide (fl n sr tg (tog a u v) 0 0 ≠ fl n sr tg a 0 0)) n) ∧ u' = (n, sr, tg, a, wh2, ms2)) := by
  refine wm_i (by decide) (Nat.le_of_ble_eq_true rfl) ?_
  intro p e R s m args below meth c ls A Q hR F ret I hl
  have hl : lv_has ls 6 [(0, .ref (h 0)), (1, .int (nI eg.toNat))] := hl
  obtain ⟨g, hg⟩ : ∃ g : Nat → Nat → Nat, g = prg (fun u v => ((a u).testBit v == eg) && decide (fl n sr tg (tog a u v) 0 0 ≠ fl n sr tg a 0 0)) := ⟨_, rfl⟩
  have hall : prs (fun u v => ((a u).testBit v == eg) && decide (fl n sr tg (tog a u v) 0 0 ≠ fl n sr tg a 0 0)) n = fb_sm (fun u => fb_sm (g u) n) n := by rw [hg]; exact prs_eq _ n
  have hg0 : ∀ u k, k ≤ u + 1 → fb_sm (g u) k = 0 := fun u k hk => by rw [hg]; exact prg_0 _ u k hk
  have hb1 := fl_le (n := n) (s := sr) (t := tg) (a := a) (sh := 0) (fi := 0)
  have L : ∀ (k : Nat), ∀ (u x : Nat) (wh2 : Nat → Bool) (ms2 : Nat → Nat), n - u < k → u ≤ n → x = fb_sm (fun u => fb_sm (g u) n) u → ∀ (H : Heap) (locs : List Loc) (ls : Array Slot), WI D (MW h ca (n, sr, tg, a, wh2, ms2)) (MT ca) A s s.heap H locs → lv_has ls 6 [(4, .int (nI u)), (3, .int (nI x)), (2, .int (nI (fl n sr tg a 0 0))), (1, .int (nI eg.toNat)), (0, .ref (h 0))] → W p l e R s m args below meth c H locs 0 0 Q (F0 m 10 ls []) := by
    intro k
    induction k with
    | zero =>
      intro u x wh2 ms2 hk hu hx
      exact absurd hk (Nat.not_lt_zero _)
    | succ k ih =>
      intro u x wh2 ms2 hk hu hx H locs ls I hl
      have ihO := ih
      have L3 : ∀ (k : Nat), ∀ (v x : Nat) (wh2 : Nat → Bool) (ms2 : Nat → Nat), n - v < k → u + 1 ≤ v → v ≤ n → x = fb_sm (fun u => fb_sm (g u) n) u + fb_sm (g u) v → ∀ (H : Heap) (locs : List Loc) (ls : Array Slot), WI D (MW h ca (n, sr, tg, a, wh2, ms2)) (MT ca) A s s.heap H locs → lv_has ls 6 [(5, .int (nI v)), (4, .int (nI u)), (3, .int (nI x)), (2, .int (nI (fl n sr tg a 0 0))), (1, .int (nI eg.toNat)), (0, .ref (h 0))] → W p l e R s m args below meth c H locs 0 0 Q (F0 m 25 ls []) := by
        intro k
        induction k with
        | zero =>
          intro v x wh2 ms2 hk huv hvn hx
          exact absurd hk (Nat.not_lt_zero _)
        | succ k ih =>
          intro v x wh2 ms2 hk huv hvn hx H locs ls I hl
          refine lv_iload F.1 F.2.1 dX2_telling_25 (lv_at hl 0 rfl) ?_
          refine lv_aload_n F.1 F.2.1 dX2_telling_27 rfl (lv_at hl 5 rfl) ?_
          refine mg_n F I dX2_telling_28 ?_
          refine nv_icmp_ge (tgt := 99) F.1 F.2.1 dX2_telling_31 (by decide) ⟨by omega, by omega⟩ (fun c1 => ?_) (fun c1 => ?_)
          · have e : v = n := by omega
            rw [e] at hx
            refine nv_iinc (lv' := [(4, .int (nI (u + 1))), (5, .int (nI v)), (3, .int (nI x)), (2, .int (nI (fl n sr tg a 0 0))), (1, .int (nI eg.toNat)), (0, .ref (h 0))]) F.1 F.2.1 dX2_telling_99 hl (k := 1) rfl (by decide) rfl (fun ls hl => ?_)
            refine lv_goto (tgt := 10) F.1 F.2.1 dX2_telling_102 (by decide) ?_
            exact ihO (u + 1) x wh2 ms2 (by omega) (by omega) (by rw [fb_sm_succ]; exact hx) _ _ _ I (lv_sub hl [0, 2, 3, 4, 5] rfl)
          · have hne : u ≠ v := by omega
            have hu8 : u < n := by omega
            refine lv_aload_n F.1 F.2.1 dX2_telling_34 rfl (lv_at hl 5 rfl) ?_
            refine lv_aload_n F.1 F.2.1 dX2_telling_35 rfl (lv_at hl 5 rfl) ?_
            refine mg_near F I dX2_telling_36 ?_
            refine lv_iload F.1 F.2.1 dX2_telling_39 (lv_at hl 1 rfl) ?_
            refine ma_near F I dX2_telling_41 (by omega) ?_
            refine lv_iload F.1 F.2.1 dX2_telling_42 (lv_at hl 0 rfl) ?_
            refine mk_has F I hl dX2_telling_44 ⟨by rw [hR]; decide, by rw [hR]; decide⟩ (Nat.le_of_ble_eq_true rfl) ⟨Nat.zero_le _, Nat.zero_le _⟩ (hG.b31 hn hu8) (by omega) (fun H locs I => ?_)
            refine lv_iload_n F.1 F.2.1 dX2_telling_47 rfl (lv_at hl 4 rfl) ?_
            refine nv_icmp_ne (tgt := 93) F.1 F.2.1 dX2_telling_48 (by decide) ⟨bN_lt _, bN_lt _⟩ (fun c2 => ?_) (fun c2 => ?_)
            · refine nv_iinc (lv' := [(5, .int (nI (v + 1))), (4, .int (nI u)), (3, .int (nI x)), (2, .int (nI (fl n sr tg a 0 0))), (1, .int (nI eg.toNat)), (0, .ref (h 0))]) F.1 F.2.1 dX2_telling_93 hl (k := 0) rfl (by decide) rfl (fun ls hl => ?_)
              refine lv_goto (tgt := 25) F.1 F.2.1 dX2_telling_96 (by decide) ?_
              exact ih (v + 1) x wh2 ms2 (by omega) (by omega) (by omega) (cnt_no hx (by
                rw [hg]
                exact prg_no (show (((a u).testBit v == eg) && decide (fl n sr tg (tog a u v) 0 0 ≠ fl n sr tg a 0 0)) = false by
                  rw [show ((a u).testBit v == eg) = false from beq_eq_false_iff_ne.mpr (fun z => c2 (bN_eq.mpr z))]
                  rfl))) _ _ _ I (lv_sub hl [0, 1, 2, 3, 4, 5] rfl)
            · have hbe : (a u).testBit v = eg := bN_eq.mp c2
              refine lv_aload_n F.1 F.2.1 dX2_telling_51 rfl (lv_at hl 5 rfl) ?_
              refine lv_iload F.1 F.2.1 dX2_telling_52 (lv_at hl 1 rfl) ?_
              refine lv_iload F.1 F.2.1 dX2_telling_54 (lv_at hl 0 rfl) ?_
              refine lv_iload_n F.1 F.2.1 dX2_telling_56 rfl (lv_at hl 4 rfl) ?_
              refine nb_if_ne (tgt := 64) F.1 F.2.1 dX2_telling_57 (by decide) (fun c3 => ?_) (fun c3 => ?_)
              · rw [c3] at hbe
                have htog : tog a u v = ulk a u v := by unfold tog; rw [hbe]; rfl
                have hm : mb (a u) v := hbe
                have hm2 : mb (a v) u := (hG u hu8 v hm).2.2
                have hG2 := Gok_ulk hG hne
                have hback := lnk_ulk hne hm hm2
                refine lv_iconst (v := nI 0) F.1 F.2.1 dX2_telling_64 (by decide) ?_
                refine mk_put F I hl dX2_telling_65 ⟨by rw [hR]; decide, by rw [hR]; decide⟩ (Nat.le_of_ble_eq_true rfl) ⟨Nat.zero_le _, Nat.zero_le _⟩ (b := false) (by omega) (by omega) hne (hG.b31 hn hu8) (hG.b31 hn (by omega)) (fun H locs I => ?_)
                have I : WI D (MW h ca (n, sr, tg, ulk a u v, wh2, ms2)) (MT ca) A s s.heap H locs := I
                refine lv_aload_n F.1 F.2.1 dX2_telling_68 rfl (lv_at hl 5 rfl) ?_
                refine mk_paths F I hl dX2_telling_69 ⟨by rw [hR]; decide, by rw [hR]; decide⟩ (Nat.le_of_ble_eq_true rfl) ⟨Nat.zero_le _, Nat.zero_le _⟩ hn hs ht hst hG2 (fun wh3 ms3 H locs I => ?_)
                have hb2 := fl_le (n := n) (s := sr) (t := tg) (a := ulk a u v) (sh := 0) (fi := 0)
                refine lv_iload_n F.1 F.2.1 dX2_telling_72 rfl (lv_at hl 3 rfl) ?_
                refine nv_icmp_eq (tgt := 82) F.1 F.2.1 dX2_telling_73 (by decide) ⟨by omega, by omega⟩ (fun c4 => ?_) (fun c4 => ?_)
                · refine lv_iload_n F.1 F.2.1 dX2_telling_82 rfl (lv_at hl 2 rfl) ?_
                  refine lv_istore_n (lv' := [(3, .int (nI x)), (5, .int (nI v)), (4, .int (nI u)), (2, .int (nI (fl n sr tg a 0 0))), (1, .int (nI eg.toNat)), (0, .ref (h 0))]) F.1 F.2.1 dX2_telling_83 rfl hl (by decide) rfl (fun ls hl => ?_)
                  refine lv_aload_n F.1 F.2.1 dX2_telling_84 rfl (lv_at hl 5 rfl) ?_
                  refine lv_iload F.1 F.2.1 dX2_telling_85 (lv_at hl 2 rfl) ?_
                  refine lv_iload F.1 F.2.1 dX2_telling_87 (lv_at hl 1 rfl) ?_
                  refine lv_iload_n F.1 F.2.1 dX2_telling_89 rfl (lv_at hl 4 rfl) ?_
                  have hl : lv_has ls 6 [(3, .int (nI x)), (5, .int (nI v)), (4, .int (nI u)), (2, .int (nI (fl n sr tg a 0 0))), (1, .int (nI true.toNat)), (0, .ref (h 0))] := by rw [c3] at hl; exact hl
                  rw [c3]
                  refine mk_put F I hl dX2_telling_90 ⟨by rw [hR]; decide, by rw [hR]; decide⟩ (Nat.le_of_ble_eq_true rfl) ⟨Nat.zero_le _, Nat.zero_le _⟩ (b := true) (by omega) (by omega) hne (hG2.b31 hn hu8) (hG2.b31 hn (by omega)) (fun H locs I => ?_)
                  have I : WI D (MW h ca (n, sr, tg, lnk (ulk a u v) u v, wh3, ms3)) (MT ca) A s s.heap H locs := I
                  rw [hback] at I
                  refine nv_iinc (lv' := [(5, .int (nI (v + 1))), (3, .int (nI x)), (4, .int (nI u)), (2, .int (nI (fl n sr tg a 0 0))), (1, .int (nI true.toNat)), (0, .ref (h 0))]) F.1 F.2.1 dX2_telling_93 hl (k := 1) rfl (by decide) rfl (fun ls hl => ?_)
                  refine lv_goto (tgt := 25) F.1 F.2.1 dX2_telling_96 (by decide) ?_
                  have hl : lv_has ls 6 [(5, .int (nI (v + 1))), (3, .int (nI x)), (4, .int (nI u)), (2, .int (nI (fl n sr tg a 0 0))), (1, .int (nI eg.toNat)), (0, .ref (h 0))] := by rw [c3]; exact hl
                  exact ih (v + 1) x wh3 ms3 (by omega) (by omega) (by omega) (cnt_no hx (by
                    rw [hg]
                    exact prg_no (show (((a u).testBit v == eg) && decide (fl n sr tg (tog a u v) 0 0 ≠ fl n sr tg a 0 0)) = false by rw [htog, hbe, c3, decide_eq_false (fun z => z c4)]; rfl))) _ _ _ I (lv_sub hl [0, 2, 1, 3, 4, 5] rfl)
                · refine lv_iload_n F.1 F.2.1 dX2_telling_76 rfl (lv_at hl 2 rfl) ?_
                  refine lv_iconst (v := nI 1) F.1 F.2.1 dX2_telling_77 (by decide) ?_
                  refine nv_iadd F.1 F.2.1 dX2_telling_78 ?_
                  refine lv_goto (tgt := 83) F.1 F.2.1 dX2_telling_79 (by decide) ?_
                  refine lv_istore_n (lv' := [(3, .int (nI (x + 1))), (5, .int (nI v)), (4, .int (nI u)), (2, .int (nI (fl n sr tg a 0 0))), (1, .int (nI eg.toNat)), (0, .ref (h 0))]) F.1 F.2.1 dX2_telling_83 rfl hl (by decide) rfl (fun ls hl => ?_)
                  refine lv_aload_n F.1 F.2.1 dX2_telling_84 rfl (lv_at hl 5 rfl) ?_
                  refine lv_iload F.1 F.2.1 dX2_telling_85 (lv_at hl 2 rfl) ?_
                  refine lv_iload F.1 F.2.1 dX2_telling_87 (lv_at hl 1 rfl) ?_
                  refine lv_iload_n F.1 F.2.1 dX2_telling_89 rfl (lv_at hl 4 rfl) ?_
                  have hl : lv_has ls 6 [(3, .int (nI (x + 1))), (5, .int (nI v)), (4, .int (nI u)), (2, .int (nI (fl n sr tg a 0 0))), (1, .int (nI true.toNat)), (0, .ref (h 0))] := by rw [c3] at hl; exact hl
                  rw [c3]
                  refine mk_put F I hl dX2_telling_90 ⟨by rw [hR]; decide, by rw [hR]; decide⟩ (Nat.le_of_ble_eq_true rfl) ⟨Nat.zero_le _, Nat.zero_le _⟩ (b := true) (by omega) (by omega) hne (hG2.b31 hn hu8) (hG2.b31 hn (by omega)) (fun H locs I => ?_)
                  have I : WI D (MW h ca (n, sr, tg, lnk (ulk a u v) u v, wh3, ms3)) (MT ca) A s s.heap H locs := I
                  rw [hback] at I
                  refine nv_iinc (lv' := [(5, .int (nI (v + 1))), (3, .int (nI (x + 1))), (4, .int (nI u)), (2, .int (nI (fl n sr tg a 0 0))), (1, .int (nI true.toNat)), (0, .ref (h 0))]) F.1 F.2.1 dX2_telling_93 hl (k := 1) rfl (by decide) rfl (fun ls hl => ?_)
                  refine lv_goto (tgt := 25) F.1 F.2.1 dX2_telling_96 (by decide) ?_
                  have hl : lv_has ls 6 [(5, .int (nI (v + 1))), (3, .int (nI (x + 1))), (4, .int (nI u)), (2, .int (nI (fl n sr tg a 0 0))), (1, .int (nI eg.toNat)), (0, .ref (h 0))] := by rw [c3]; exact hl
                  exact ih (v + 1) _ wh3 ms3 (by omega) (by omega) (by omega) (cnt_yes hx (by
                    rw [hg]
                    exact prg_yes (by omega) (show (((a u).testBit v == eg) && decide (fl n sr tg (tog a u v) 0 0 ≠ fl n sr tg a 0 0)) = true by rw [htog, hbe, c3, decide_eq_true c4]; rfl))) _ _ _ I (lv_sub hl [0, 2, 1, 3, 4, 5] rfl)
              · rw [c3] at hbe
                have htog : tog a u v = lnk a u v := by unfold tog; rw [hbe]; rfl
                have hm : ¬ mb (a u) v := by rw [mb, hbe]; decide
                have hm2 : ¬ mb (a v) u := fun z => hm (hG v (by omega) u z).2.2
                have hG2 := Gok_lnk hG hu8 (by omega) hne
                have hback := ulk_lnk hne hm hm2
                refine lv_iconst (v := nI 1) F.1 F.2.1 dX2_telling_60 (by decide) ?_
                refine lv_goto (tgt := 65) F.1 F.2.1 dX2_telling_61 (by decide) ?_
                refine mk_put F I hl dX2_telling_65 ⟨by rw [hR]; decide, by rw [hR]; decide⟩ (Nat.le_of_ble_eq_true rfl) ⟨Nat.zero_le _, Nat.zero_le _⟩ (b := true) (by omega) (by omega) hne (hG.b31 hn hu8) (hG.b31 hn (by omega)) (fun H locs I => ?_)
                have I : WI D (MW h ca (n, sr, tg, lnk a u v, wh2, ms2)) (MT ca) A s s.heap H locs := I
                refine lv_aload_n F.1 F.2.1 dX2_telling_68 rfl (lv_at hl 5 rfl) ?_
                refine mk_paths F I hl dX2_telling_69 ⟨by rw [hR]; decide, by rw [hR]; decide⟩ (Nat.le_of_ble_eq_true rfl) ⟨Nat.zero_le _, Nat.zero_le _⟩ hn hs ht hst hG2 (fun wh3 ms3 H locs I => ?_)
                have hb2 := fl_le (n := n) (s := sr) (t := tg) (a := lnk a u v) (sh := 0) (fi := 0)
                refine lv_iload_n F.1 F.2.1 dX2_telling_72 rfl (lv_at hl 3 rfl) ?_
                refine nv_icmp_eq (tgt := 82) F.1 F.2.1 dX2_telling_73 (by decide) ⟨by omega, by omega⟩ (fun c4 => ?_) (fun c4 => ?_)
                · refine lv_iload_n F.1 F.2.1 dX2_telling_82 rfl (lv_at hl 2 rfl) ?_
                  refine lv_istore_n (lv' := [(3, .int (nI x)), (5, .int (nI v)), (4, .int (nI u)), (2, .int (nI (fl n sr tg a 0 0))), (1, .int (nI eg.toNat)), (0, .ref (h 0))]) F.1 F.2.1 dX2_telling_83 rfl hl (by decide) rfl (fun ls hl => ?_)
                  refine lv_aload_n F.1 F.2.1 dX2_telling_84 rfl (lv_at hl 5 rfl) ?_
                  refine lv_iload F.1 F.2.1 dX2_telling_85 (lv_at hl 2 rfl) ?_
                  refine lv_iload F.1 F.2.1 dX2_telling_87 (lv_at hl 1 rfl) ?_
                  refine lv_iload_n F.1 F.2.1 dX2_telling_89 rfl (lv_at hl 4 rfl) ?_
                  have hl : lv_has ls 6 [(3, .int (nI x)), (5, .int (nI v)), (4, .int (nI u)), (2, .int (nI (fl n sr tg a 0 0))), (1, .int (nI false.toNat)), (0, .ref (h 0))] := by rw [c3] at hl; exact hl
                  rw [c3]
                  refine mk_put F I hl dX2_telling_90 ⟨by rw [hR]; decide, by rw [hR]; decide⟩ (Nat.le_of_ble_eq_true rfl) ⟨Nat.zero_le _, Nat.zero_le _⟩ (b := false) (by omega) (by omega) hne (hG2.b31 hn hu8) (hG2.b31 hn (by omega)) (fun H locs I => ?_)
                  have I : WI D (MW h ca (n, sr, tg, ulk (lnk a u v) u v, wh3, ms3)) (MT ca) A s s.heap H locs := I
                  rw [hback] at I
                  refine nv_iinc (lv' := [(5, .int (nI (v + 1))), (3, .int (nI x)), (4, .int (nI u)), (2, .int (nI (fl n sr tg a 0 0))), (1, .int (nI false.toNat)), (0, .ref (h 0))]) F.1 F.2.1 dX2_telling_93 hl (k := 1) rfl (by decide) rfl (fun ls hl => ?_)
                  refine lv_goto (tgt := 25) F.1 F.2.1 dX2_telling_96 (by decide) ?_
                  have hl : lv_has ls 6 [(5, .int (nI (v + 1))), (3, .int (nI x)), (4, .int (nI u)), (2, .int (nI (fl n sr tg a 0 0))), (1, .int (nI eg.toNat)), (0, .ref (h 0))] := by rw [c3]; exact hl
                  exact ih (v + 1) x wh3 ms3 (by omega) (by omega) (by omega) (cnt_no hx (by
                    rw [hg]
                    exact prg_no (show (((a u).testBit v == eg) && decide (fl n sr tg (tog a u v) 0 0 ≠ fl n sr tg a 0 0)) = false by rw [htog, hbe, c3, decide_eq_false (fun z => z c4)]; rfl))) _ _ _ I (lv_sub hl [0, 2, 1, 3, 4, 5] rfl)
                · refine lv_iload_n F.1 F.2.1 dX2_telling_76 rfl (lv_at hl 2 rfl) ?_
                  refine lv_iconst (v := nI 1) F.1 F.2.1 dX2_telling_77 (by decide) ?_
                  refine nv_iadd F.1 F.2.1 dX2_telling_78 ?_
                  refine lv_goto (tgt := 83) F.1 F.2.1 dX2_telling_79 (by decide) ?_
                  refine lv_istore_n (lv' := [(3, .int (nI (x + 1))), (5, .int (nI v)), (4, .int (nI u)), (2, .int (nI (fl n sr tg a 0 0))), (1, .int (nI eg.toNat)), (0, .ref (h 0))]) F.1 F.2.1 dX2_telling_83 rfl hl (by decide) rfl (fun ls hl => ?_)
                  refine lv_aload_n F.1 F.2.1 dX2_telling_84 rfl (lv_at hl 5 rfl) ?_
                  refine lv_iload F.1 F.2.1 dX2_telling_85 (lv_at hl 2 rfl) ?_
                  refine lv_iload F.1 F.2.1 dX2_telling_87 (lv_at hl 1 rfl) ?_
                  refine lv_iload_n F.1 F.2.1 dX2_telling_89 rfl (lv_at hl 4 rfl) ?_
                  have hl : lv_has ls 6 [(3, .int (nI (x + 1))), (5, .int (nI v)), (4, .int (nI u)), (2, .int (nI (fl n sr tg a 0 0))), (1, .int (nI false.toNat)), (0, .ref (h 0))] := by rw [c3] at hl; exact hl
                  rw [c3]
                  refine mk_put F I hl dX2_telling_90 ⟨by rw [hR]; decide, by rw [hR]; decide⟩ (Nat.le_of_ble_eq_true rfl) ⟨Nat.zero_le _, Nat.zero_le _⟩ (b := false) (by omega) (by omega) hne (hG2.b31 hn hu8) (hG2.b31 hn (by omega)) (fun H locs I => ?_)
                  have I : WI D (MW h ca (n, sr, tg, ulk (lnk a u v) u v, wh3, ms3)) (MT ca) A s s.heap H locs := I
                  rw [hback] at I
                  refine nv_iinc (lv' := [(5, .int (nI (v + 1))), (3, .int (nI (x + 1))), (4, .int (nI u)), (2, .int (nI (fl n sr tg a 0 0))), (1, .int (nI false.toNat)), (0, .ref (h 0))]) F.1 F.2.1 dX2_telling_93 hl (k := 1) rfl (by decide) rfl (fun ls hl => ?_)
                  refine lv_goto (tgt := 25) F.1 F.2.1 dX2_telling_96 (by decide) ?_
                  have hl : lv_has ls 6 [(5, .int (nI (v + 1))), (3, .int (nI (x + 1))), (4, .int (nI u)), (2, .int (nI (fl n sr tg a 0 0))), (1, .int (nI eg.toNat)), (0, .ref (h 0))] := by rw [c3]; exact hl
                  exact ih (v + 1) _ wh3 ms3 (by omega) (by omega) (by omega) (cnt_yes hx (by
                    rw [hg]
                    exact prg_yes (by omega) (show (((a u).testBit v == eg) && decide (fl n sr tg (tog a u v) 0 0 ≠ fl n sr tg a 0 0)) = true by rw [htog, hbe, c3, decide_eq_true c4]; rfl))) _ _ _ I (lv_sub hl [0, 2, 1, 3, 4, 5] rfl)
      refine lv_iload F.1 F.2.1 dX2_telling_10 (lv_at hl 0 rfl) ?_
      refine lv_aload_n F.1 F.2.1 dX2_telling_12 rfl (lv_at hl 4 rfl) ?_
      refine mg_n F I dX2_telling_13 ?_
      refine nv_icmp_ge (tgt := 105) F.1 F.2.1 dX2_telling_16 (by decide) ⟨by omega, by omega⟩ (fun c1 => ?_) (fun c1 => ?_)
      · have e : u = n := by omega
        rw [e] at hx
        refine lv_iload_n F.1 F.2.1 dX2_telling_105 rfl (lv_at hl 1 rfl) ?_
        exact ret _ _ _ _ ls _ ⟨wh2, ms2, by rw [hall, hx], rfl⟩ I dX2_telling_106
      · refine lv_iload F.1 F.2.1 dX2_telling_19 (lv_at hl 0 rfl) ?_
        refine lv_iconst (v := nI 1) F.1 F.2.1 dX2_telling_21 (by decide) ?_
        refine nv_iadd F.1 F.2.1 dX2_telling_22 ?_
        refine lv_istore (lv' := [(5, .int (nI (u + 1))), (4, .int (nI u)), (3, .int (nI x)), (2, .int (nI (fl n sr tg a 0 0))), (1, .int (nI eg.toNat)), (0, .ref (h 0))]) F.1 F.2.1 dX2_telling_23 hl (by decide) rfl (fun ls hl => ?_)
        exact L3 (n + 1) (u + 1) x wh2 ms2 (by omega) (by omega) (by omega) (by rw [hg0 u (u + 1) (Nat.le_refl _)]; exact hx) _ _ _ I (lv_sub hl [0, 1, 2, 3, 4, 5] rfl)
  refine lv_aload_n F.1 F.2.1 dX2_telling_0 rfl (lv_at hl 0 rfl) ?_
  refine mk_paths F I hl dX2_telling_1 ⟨by rw [hR]; decide, by rw [hR]; decide⟩ (Nat.le_of_ble_eq_true rfl) ⟨Nat.zero_le _, Nat.zero_le _⟩ hn hs ht hst hG (fun wh2 ms2 H locs I => ?_)
  refine lv_istore_n (lv' := [(2, .int (nI (fl n sr tg a 0 0))), (0, .ref (h 0)), (1, .int (nI eg.toNat))]) F.1 F.2.1 dX2_telling_4 rfl hl (by decide) rfl (fun ls hl => ?_)
  refine lv_iconst (v := nI 0) F.1 F.2.1 dX2_telling_5 (by decide) ?_
  refine lv_istore_n (lv' := [(3, .int (nI 0)), (2, .int (nI (fl n sr tg a 0 0))), (0, .ref (h 0)), (1, .int (nI eg.toNat))]) F.1 F.2.1 dX2_telling_6 rfl hl (by decide) rfl (fun ls hl => ?_)
  refine lv_iconst (v := nI 0) F.1 F.2.1 dX2_telling_7 (by decide) ?_
  refine lv_istore (lv' := [(4, .int (nI 0)), (3, .int (nI 0)), (2, .int (nI (fl n sr tg a 0 0))), (0, .ref (h 0)), (1, .int (nI eg.toNat))]) F.1 F.2.1 dX2_telling_8 hl (by decide) rfl (fun ls hl => ?_)
  exact L (n + 1) 0 0 wh2 ms2 (by omega) (by omega) rfl _ _ _ I (lv_sub hl [0, 1, 2, 4, 3] rfl)
section XA
variable {p : Program} {l : Launch} {e : Env} {R : Room} {s : State} {m : MethodId} {args : Array Value} {below : List Frame} {meth : Method} {c : Code} {H : Heap} {locs : List Loc} {cells slots : Nat} {Q : State → Prop} {pc : Nat} {ls : Array Slot} {rest : List Value} {cc : ByteArray} {nL : Nat} {D : va_G} {A : Nat → Prop} {H0 : Heap} {h : Nat → Nat} {ca : Nat → ClassId} {lv : List (Nat × Value)} 
theorem mk_telling {n sr tg : Nat} {a : Nat → Nat} {wh : Nat → Bool} {ms : Nat → Nat} {eg : Bool} (F : CallFix p m c cc nL s args lw_all RX2) (I : WI D (MW h ca (n, sr, tg, a, wh, ms)) (MT ca) A s H0 H locs) (hl : lv_has ls nL lv) (hdg : decode cc pc = .ok (.invokevirtual 65, 3)) (hR : 4 ≤ R.frames ∧ 94 ≤ R.locals) (hroom : (rest.map fun v => v.category).sum ≤ 8) (hf : cells ≤ R.cells ∧ slots ≤ R.slots) (hn : n ≤ 8) (hs : sr < n) (ht : tg < n) (hst : sr ≠ tg) (hG : Gok n a) (kk : ∀ (wh2 : Nat → Bool) (ms2 : Nat → Nat) (H1 : Heap) (locs1 : List Loc), WI D (MW h ca (n, sr, tg, a, wh2, ms2)) (MT ca) A s H0 H1 locs1 → W p l e R s m args below meth c H1 locs1 cells slots Q (F0 m (pc + 3) ls (.int (nI (prs (fun u v => ((a u).testBit v == eg) && decide (fl n sr tg (tog a u v) 0 0 ≠ fl n sr tg a 0 0)) n)) :: rest))) : W p l e R s m args below meth c H locs cells slots Q (F0 m pc ls (.int (nI eg.toNat) :: .ref (h 0) :: rest)) :=
  wc_i F I (mmt_telling l D h ca n sr tg a wh ms eg hn hs ht hst hG) (cwV 1 F.2.2.2.2 (lw_V q269 q271 qs21 q24 q272) rfl rfl rfl (by decide +kernel) hR) (m_recv I) hl rfl rfl hroom hdg hf (fun r u H1 locs1 hp I => by
    obtain ⟨wh2, ms2, rfl, rfl⟩ := hp; exact kk wh2 ms2 H1 locs1 I)

end XA
set_option maxHeartbeats 8000000 in
set_option maxRecDepth 100000 in
theorem mmt_tightEdges (l : Launch) (D : va_G) (h : Nat → Nat) (ca : Nat → ClassId) (n sr tg : Nat) (a : Nat → Nat) (wh : Nat → Bool) (ms : Nat → Nat) (hn : n ≤ 8) (hs : sr < n) (ht : tg < n) (hst : sr ≠ tg) (hG : Gok n a) : WMi l yX2_tightEdges (ws_ yX2_tightEdges cX2_tightEdges 1 (some .int)) ({ frames := 4, cells := 0, slots := 0, locals := 94 } : Room) D (MW h ca (n, sr, tg, a, wh, ms)) (MW h ca) (MT ca) [.ref (h 0)] (fun r' u' => ∃ (wh2 : Nat → Bool) (ms2 : Nat → Nat), r' = nI (prs (fun u v => (a u).testBit v && decide (fl n sr tg (tog a u v) 0 0 < fl n sr tg a 0 0)) n) ∧ u' = (n, sr, tg, a, wh2, ms2)) := by
  refine wm_i (by decide) (Nat.le_of_ble_eq_true rfl) ?_
  intro p e R s m args below meth c ls A Q hR F ret I hl
  have hl : lv_has ls 1 [(0, .ref (h 0))] := hl
  refine lv_aload_n F.1 F.2.1 dX2_tightEdges_0 rfl (lv_at hl 0 rfl) ?_
  refine lv_iconst (v := nI 1) F.1 F.2.1 dX2_tightEdges_1 (by decide) ?_
  refine mk_telling F I hl dX2_tightEdges_2 ⟨by rw [hR]; decide, by rw [hR]; decide⟩ (Nat.le_of_ble_eq_true rfl) ⟨Nat.zero_le _, Nat.zero_le _⟩ (eg := true) hn hs ht hst hG (fun wh2 ms2 H locs I => ?_)
  exact ret _ _ _ _ ls _ ⟨wh2, ms2, by rw [tight_eq hn hs hG], rfl⟩ I dX2_tightEdges_5
set_option maxHeartbeats 8000000 in
set_option maxRecDepth 100000 in
theorem mmt_helpfulEdges (l : Launch) (D : va_G) (h : Nat → Nat) (ca : Nat → ClassId) (n sr tg : Nat) (a : Nat → Nat) (wh : Nat → Bool) (ms : Nat → Nat) (hn : n ≤ 8) (hs : sr < n) (ht : tg < n) (hst : sr ≠ tg) (hG : Gok n a) : WMi l yX2_helpfulEdges (ws_ yX2_helpfulEdges cX2_helpfulEdges 1 (some .int)) ({ frames := 4, cells := 0, slots := 0, locals := 94 } : Room) D (MW h ca (n, sr, tg, a, wh, ms)) (MW h ca) (MT ca) [.ref (h 0)] (fun r' u' => ∃ (wh2 : Nat → Bool) (ms2 : Nat → Nat), r' = nI (prs (fun u v => !(a u).testBit v && decide (fl n sr tg a 0 0 < fl n sr tg (tog a u v) 0 0)) n) ∧ u' = (n, sr, tg, a, wh2, ms2)) := by
  refine wm_i (by decide) (Nat.le_of_ble_eq_true rfl) ?_
  intro p e R s m args below meth c ls A Q hR F ret I hl
  have hl : lv_has ls 1 [(0, .ref (h 0))] := hl
  refine lv_aload_n F.1 F.2.1 dX2_helpfulEdges_0 rfl (lv_at hl 0 rfl) ?_
  refine lv_iconst (v := nI 0) F.1 F.2.1 dX2_helpfulEdges_1 (by decide) ?_
  refine mk_telling F I hl dX2_helpfulEdges_2 ⟨by rw [hR]; decide, by rw [hR]; decide⟩ (Nat.le_of_ble_eq_true rfl) ⟨Nat.zero_le _, Nat.zero_le _⟩ (eg := false) hn hs ht hst hG (fun wh2 ms2 H locs I => ?_)
  exact ret _ _ _ _ ls _ ⟨wh2, ms2, by rw [helpful_eq hn hs hG], rfl⟩ I dX2_helpfulEdges_5
set_option maxHeartbeats 8000000 in
set_option maxRecDepth 100000 in
theorem mmt_strength (l : Launch) (D : va_G) (h : Nat → Nat) (ca : Nat → ClassId) (n sr tg : Nat) (a : Nat → Nat) (wh : Nat → Bool) (ms : Nat → Nat) (hn : n ≤ 8) (hs : sr < n) (ht : tg < n) (hst : sr ≠ tg) (hG : Gok n a) : WMi l yX2_strength (ws_ yX2_strength cX2_strength 7 (some .int)) ({ frames := 3, cells := 0, slots := 0, locals := 69 } : Room) D (MW h ca (n, sr, tg, a, wh, ms)) (MW h ca) (MT ca) [.ref (h 0)] (fun r' u' => ∃ (wh2 : Nat → Bool) (ms2 : Nat → Nat), r' = nI (sO n a n) ∧ u' = (n, sr, tg, a, wh2, ms2)) := by
  refine wm_i (by decide) (Nat.le_of_ble_eq_true rfl) ?_
  intro p e R s m args below meth c ls A Q hR F ret I hl
  have hl : lv_has ls 7 [(0, .ref (h 0))] := hl
  have L : ∀ (k : Nat), ∀ (u x s2 t2 : Nat) (wh2 : Nat → Bool) (ms2 : Nat → Nat), n - u < k → u ≤ n → x = sO n a u → ∀ (H : Heap) (locs : List Loc) (ls : Array Slot), WI D (MW h ca (n, s2, t2, a, wh2, ms2)) (MT ca) A s s.heap H locs → lv_has ls 7 [(4, .int (nI u)), (3, .int (nI x)), (2, .int (nI tg)), (1, .int (nI sr)), (0, .ref (h 0))] → W p l e R s m args below meth c H locs 0 0 Q (F0 m 20 ls []) := by
    intro k
    induction k with
    | zero =>
      intro u x s2 t2 wh2 ms2 hk hu hx
      exact absurd hk (Nat.not_lt_zero _)
    | succ k ih =>
      intro u x s2 t2 wh2 ms2 hk hu hx H locs ls I hl
      have ihO := ih
      have hsO := sO_le n a u
      have L3 : ∀ (k : Nat), ∀ (v x s2 t2 : Nat) (wh2 : Nat → Bool) (ms2 : Nat → Nat), n - v < k → u + 1 ≤ v → v ≤ n → x = sI n a u (sO n a u) v → ∀ (H : Heap) (locs : List Loc) (ls : Array Slot), WI D (MW h ca (n, s2, t2, a, wh2, ms2)) (MT ca) A s s.heap H locs → lv_has ls 7 [(5, .int (nI v)), (4, .int (nI u)), (3, .int (nI x)), (2, .int (nI tg)), (1, .int (nI sr)), (0, .ref (h 0))] → W p l e R s m args below meth c H locs 0 0 Q (F0 m 35 ls []) := by
        intro k
        induction k with
        | zero =>
          intro v x s2 t2 wh2 ms2 hk huv hvn hx
          exact absurd hk (Nat.not_lt_zero _)
        | succ k ih =>
          intro v x s2 t2 wh2 ms2 hk huv hvn hx H locs ls I hl
          have hsI := sI_le n a u (sO n a u) v
          refine lv_iload F.1 F.2.1 dX2_strength_35 (lv_at hl 0 rfl) ?_
          refine lv_aload_n F.1 F.2.1 dX2_strength_37 rfl (lv_at hl 5 rfl) ?_
          refine mg_n F I dX2_strength_38 ?_
          refine nv_icmp_ge (tgt := 97) F.1 F.2.1 dX2_strength_41 (by decide) ⟨by omega, by omega⟩ (fun c1 => ?_) (fun c1 => ?_)
          · have e : v = n := by omega
            rw [e] at hx
            refine nv_iinc (lv' := [(4, .int (nI (u + 1))), (5, .int (nI v)), (3, .int (nI x)), (2, .int (nI tg)), (1, .int (nI sr)), (0, .ref (h 0))]) F.1 F.2.1 dX2_strength_97 hl (k := 1) rfl (by decide) rfl (fun ls hl => ?_)
            refine lv_goto (tgt := 20) F.1 F.2.1 dX2_strength_100 (by decide) ?_
            exact ihO (u + 1) x s2 t2 wh2 ms2 (by omega) (by omega) hx _ _ _ I (lv_sub hl [0, 2, 3, 4, 5] rfl)
          · refine lv_aload_n F.1 F.2.1 dX2_strength_44 rfl (lv_at hl 5 rfl) ?_
            refine lv_aload_n F.1 F.2.1 dX2_strength_45 rfl (lv_at hl 5 rfl) ?_
            refine mg_near F I dX2_strength_46 ?_
            refine lv_iload F.1 F.2.1 dX2_strength_49 (lv_at hl 1 rfl) ?_
            refine ma_near F I dX2_strength_51 (by omega) ?_
            refine lv_iload F.1 F.2.1 dX2_strength_52 (lv_at hl 0 rfl) ?_
            refine mk_has F I hl dX2_strength_54 ⟨by rw [hR]; decide, by rw [hR]; decide⟩ (Nat.le_of_ble_eq_true rfl) ⟨Nat.zero_le _, Nat.zero_le _⟩ (hG.b31 hn (by omega)) (by omega) (fun H locs I => ?_)
            refine nb_if_ne (tgt := 91) F.1 F.2.1 dX2_strength_57 (by decide) (fun c2 => ?_) (fun c2 => ?_)
            · refine nv_iinc (lv' := [(5, .int (nI (v + 1))), (4, .int (nI u)), (3, .int (nI x)), (2, .int (nI tg)), (1, .int (nI sr)), (0, .ref (h 0))]) F.1 F.2.1 dX2_strength_91 hl (k := 0) rfl (by decide) rfl (fun ls hl => ?_)
              refine lv_goto (tgt := 35) F.1 F.2.1 dX2_strength_94 (by decide) ?_
              exact ih (v + 1) x s2 t2 wh2 ms2 (by omega) (by omega) (by omega) (by unfold sI; rw [if_neg (fun z => z.2 c2)]; exact hx) _ _ _ I (lv_sub hl [0, 1, 2, 3, 4, 5] rfl)
            · refine lv_aload_n F.1 F.2.1 dX2_strength_60 rfl (lv_at hl 5 rfl) ?_
              refine lv_iload F.1 F.2.1 dX2_strength_61 (lv_at hl 1 rfl) ?_
              refine mp_s F I dX2_strength_63 (fun H locs I => ?_)
              refine lv_aload_n F.1 F.2.1 dX2_strength_66 rfl (lv_at hl 5 rfl) ?_
              refine lv_iload F.1 F.2.1 dX2_strength_67 (lv_at hl 0 rfl) ?_
              refine mp_t F I dX2_strength_69 (fun H locs I => ?_)
              refine lv_aload_n F.1 F.2.1 dX2_strength_72 rfl (lv_at hl 5 rfl) ?_
              refine mk_paths F I hl dX2_strength_73 ⟨by rw [hR]; decide, by rw [hR]; decide⟩ (Nat.le_of_ble_eq_true rfl) ⟨Nat.zero_le _, Nat.zero_le _⟩ hn (by omega) (by omega) (by omega) hG (fun wh3 ms3 H locs I => ?_)
              have hb2 := fl_le (n := n) (s := u) (t := v) (a := a) (sh := 0) (fi := 0)
              have hcond : u < v ∧ ¬ mb (a u) v := ⟨by omega, by rw [mb, c2]; decide⟩
              refine lv_istore (lv' := [(6, .int (nI (fl n u v a 0 0))), (5, .int (nI v)), (4, .int (nI u)), (3, .int (nI x)), (2, .int (nI tg)), (1, .int (nI sr)), (0, .ref (h 0))]) F.1 F.2.1 dX2_strength_76 hl (by decide) rfl (fun ls hl => ?_)
              refine lv_iload F.1 F.2.1 dX2_strength_78 (lv_at hl 0 rfl) ?_
              refine lv_iload_n F.1 F.2.1 dX2_strength_80 rfl (lv_at hl 3 rfl) ?_
              refine nv_icmp_ge (tgt := 89) F.1 F.2.1 dX2_strength_81 (by decide) ⟨by omega, by omega⟩ (fun c3 => ?_) (fun c3 => ?_)
              · refine lv_iload_n F.1 F.2.1 dX2_strength_89 rfl (lv_at hl 3 rfl) ?_
                refine lv_istore_n (lv' := [(3, .int (nI x)), (6, .int (nI (fl n u v a 0 0))), (5, .int (nI v)), (4, .int (nI u)), (2, .int (nI tg)), (1, .int (nI sr)), (0, .ref (h 0))]) F.1 F.2.1 dX2_strength_90 rfl hl (by decide) rfl (fun ls hl => ?_)
                refine nv_iinc (lv' := [(5, .int (nI (v + 1))), (3, .int (nI x)), (6, .int (nI (fl n u v a 0 0))), (4, .int (nI u)), (2, .int (nI tg)), (1, .int (nI sr)), (0, .ref (h 0))]) F.1 F.2.1 dX2_strength_91 hl (k := 2) rfl (by decide) rfl (fun ls hl => ?_)
                refine lv_goto (tgt := 35) F.1 F.2.1 dX2_strength_94 (by decide) ?_
                exact ih (v + 1) x u v wh3 ms3 (by omega) (by omega) (by omega) (by unfold sI; rw [if_pos hcond, if_neg (by omega)]; exact hx) _ _ _ I (lv_sub hl [0, 3, 1, 4, 5, 6] rfl)
              · refine lv_iload F.1 F.2.1 dX2_strength_84 (lv_at hl 0 rfl) ?_
                refine lv_goto (tgt := 90) F.1 F.2.1 dX2_strength_86 (by decide) ?_
                refine lv_istore_n (lv' := [(3, .int (nI (fl n u v a 0 0))), (6, .int (nI (fl n u v a 0 0))), (5, .int (nI v)), (4, .int (nI u)), (2, .int (nI tg)), (1, .int (nI sr)), (0, .ref (h 0))]) F.1 F.2.1 dX2_strength_90 rfl hl (by decide) rfl (fun ls hl => ?_)
                refine nv_iinc (lv' := [(5, .int (nI (v + 1))), (3, .int (nI (fl n u v a 0 0))), (6, .int (nI (fl n u v a 0 0))), (4, .int (nI u)), (2, .int (nI tg)), (1, .int (nI sr)), (0, .ref (h 0))]) F.1 F.2.1 dX2_strength_91 hl (k := 2) rfl (by decide) rfl (fun ls hl => ?_)
                refine lv_goto (tgt := 35) F.1 F.2.1 dX2_strength_94 (by decide) ?_
                exact ih (v + 1) _ u v wh3 ms3 (by omega) (by omega) (by omega) (by unfold sI; rw [if_pos hcond, if_pos (by omega)]) _ _ _ I (lv_sub hl [0, 3, 1, 4, 5, 6] rfl)
      refine lv_iload F.1 F.2.1 dX2_strength_20 (lv_at hl 0 rfl) ?_
      refine lv_aload_n F.1 F.2.1 dX2_strength_22 rfl (lv_at hl 4 rfl) ?_
      refine mg_n F I dX2_strength_23 ?_
      refine nv_icmp_ge (tgt := 103) F.1 F.2.1 dX2_strength_26 (by decide) ⟨by omega, by omega⟩ (fun c1 => ?_) (fun c1 => ?_)
      · have e : u = n := by omega
        rw [e] at hx
        refine lv_aload_n F.1 F.2.1 dX2_strength_103 rfl (lv_at hl 4 rfl) ?_
        refine lv_iload_n F.1 F.2.1 dX2_strength_104 rfl (lv_at hl 3 rfl) ?_
        refine mp_s F I dX2_strength_105 (fun H locs I => ?_)
        refine lv_aload_n F.1 F.2.1 dX2_strength_108 rfl (lv_at hl 4 rfl) ?_
        refine lv_iload_n F.1 F.2.1 dX2_strength_109 rfl (lv_at hl 2 rfl) ?_
        refine mp_t F I dX2_strength_110 (fun H locs I => ?_)
        refine lv_iload_n F.1 F.2.1 dX2_strength_113 rfl (lv_at hl 1 rfl) ?_
        exact ret _ _ _ _ ls _ ⟨wh2, ms2, by rw [hx], rfl⟩ I dX2_strength_114
      · refine lv_iload F.1 F.2.1 dX2_strength_29 (lv_at hl 0 rfl) ?_
        refine lv_iconst (v := nI 1) F.1 F.2.1 dX2_strength_31 (by decide) ?_
        refine nv_iadd F.1 F.2.1 dX2_strength_32 ?_
        refine lv_istore (lv' := [(5, .int (nI (u + 1))), (4, .int (nI u)), (3, .int (nI x)), (2, .int (nI tg)), (1, .int (nI sr)), (0, .ref (h 0))]) F.1 F.2.1 dX2_strength_33 hl (by decide) rfl (fun ls hl => ?_)
        exact L3 (n + 1) (u + 1) x s2 t2 wh2 ms2 (by omega) (by omega) (by omega) (by rw [sI_0 n a u _ (u + 1) (Nat.le_refl _)]; exact hx) _ _ _ I (lv_sub hl [0, 1, 2, 3, 4, 5] rfl)
  refine lv_aload_n F.1 F.2.1 dX2_strength_0 rfl (lv_at hl 0 rfl) ?_
  refine mg_s F I dX2_strength_1 ?_
  refine lv_istore_n (lv' := [(1, .int (nI sr)), (0, .ref (h 0))]) F.1 F.2.1 dX2_strength_4 rfl hl (by decide) rfl (fun ls hl => ?_)
  refine lv_aload_n F.1 F.2.1 dX2_strength_5 rfl (lv_at hl 1 rfl) ?_
  refine mg_t F I dX2_strength_6 ?_
  refine lv_istore_n (lv' := [(2, .int (nI tg)), (1, .int (nI sr)), (0, .ref (h 0))]) F.1 F.2.1 dX2_strength_9 rfl hl (by decide) rfl (fun ls hl => ?_)
  refine lv_aload_n F.1 F.2.1 dX2_strength_10 rfl (lv_at hl 2 rfl) ?_
  refine mg_n F I dX2_strength_11 ?_
  refine lv_iconst (v := nI 1) F.1 F.2.1 dX2_strength_14 (by decide) ?_
  refine nv_isub F.1 F.2.1 dX2_strength_15 (by omega) ?_
  refine lv_istore_n (lv' := [(3, .int (nI (n - 1))), (2, .int (nI tg)), (1, .int (nI sr)), (0, .ref (h 0))]) F.1 F.2.1 dX2_strength_16 rfl hl (by decide) rfl (fun ls hl => ?_)
  refine lv_iconst (v := nI 0) F.1 F.2.1 dX2_strength_17 (by decide) ?_
  refine lv_istore (lv' := [(4, .int (nI 0)), (3, .int (nI (n - 1))), (2, .int (nI tg)), (1, .int (nI sr)), (0, .ref (h 0))]) F.1 F.2.1 dX2_strength_18 hl (by decide) rfl (fun ls hl => ?_)
  exact L (n + 1) 0 _ sr tg wh ms (by omega) (by omega) rfl _ _ _ I (lv_sub hl [0, 1, 2, 3, 4] rfl)
set_option maxHeartbeats 8000000 in
set_option maxRecDepth 100000 in
theorem mmt_clear (l : Launch) (D : va_G) (h : Nat → Nat) (ca : Nat → ClassId) (n sr tg : Nat) (a : Nat → Nat) (wh : Nat → Bool) (ms : Nat → Nat) (hn : n ≤ 8) (hG : Gok n a) : WMi l yX2_clear (ws_ yX2_clear cX2_clear 3 (some .int)) ({ frames := 1, cells := 0, slots := 0, locals := 23 } : Room) D (MW h ca (n, sr, tg, a, wh, ms)) (MW h ca) (MT ca) [.ref (h 0)] (fun r' u' => r' = nI (prs (fun u v => (a u).testBit v) n) ∧ u' = (n, sr, tg, zr n a, wh, ms)) := by
  refine wm_i (by decide) (Nat.le_of_ble_eq_true rfl) ?_
  intro p e R s m args below meth c ls A Q hR F ret I hl
  have hl : lv_has ls 3 [(0, .ref (h 0))] := hl
  have L : ∀ (k : Nat), ∀ (i x : Nat), n - i < k → i ≤ n → x = 0 + fb_sm (fun v => pc (a v)) i → ∀ (H : Heap) (locs : List Loc) (ls : Array Slot), WI D (MW h ca (n, sr, tg, zr i a, wh, ms)) (MT ca) A s s.heap H locs → lv_has ls 3 [(2, .int (nI i)), (1, .int (nI x)), (0, .ref (h 0))] → W p l e R s m args below meth c H locs 0 0 Q (F0 m 4 ls []) := by
    intro k
    induction k with
    | zero =>
      intro i x hk hi hx
      exact absurd hk (Nat.not_lt_zero _)
    | succ k ih =>
      intro i x hk hi hx H locs ls I hl
      refine lv_iload_n F.1 F.2.1 dX2_clear_4 rfl (lv_at hl 0 rfl) ?_
      refine lv_aload_n F.1 F.2.1 dX2_clear_5 rfl (lv_at hl 2 rfl) ?_
      refine mg_n F I dX2_clear_6 ?_
      refine nv_icmp_ge (tgt := 38) F.1 F.2.1 dX2_clear_9 (by decide) ⟨by omega, by omega⟩ (fun c1 => ?_) (fun c1 => ?_)
      · have e : i = n := by omega
        rw [e] at I hx
        have h2 := two_ends hn hG
        have h3 : fb_sm (fun v => pc (a v)) n ≤ n * 8 := fb_sm_bound fun k _ => pc_le _
        have h4 : n * 8 ≤ 64 := by omega
        refine lv_iload_n F.1 F.2.1 dX2_clear_38 rfl (lv_at hl 1 rfl) ?_
        refine lv_iconst (v := nI 2) F.1 F.2.1 dX2_clear_39 (by decide) ?_
        refine lv_idiv F.1 F.2.1 dX2_clear_40 (by decide) ?_
        rw [pk_div (by omega) (by decide) (by decide)]
        exact ret _ _ _ _ ls _ ⟨by rw [show x / 2 = prs (fun u v => (a u).testBit v) n by omega], rfl⟩ I dX2_clear_41
      · have hzi : zr i a i = a i := if_neg (Nat.lt_irrefl i)
        refine lv_iload_n F.1 F.2.1 dX2_clear_12 rfl (lv_at hl 1 rfl) ?_
        refine lv_aload_n F.1 F.2.1 dX2_clear_13 rfl (lv_at hl 2 rfl) ?_
        refine lv_aload_n F.1 F.2.1 dX2_clear_14 rfl (lv_at hl 2 rfl) ?_
        refine mg_near F I dX2_clear_15 ?_
        refine lv_iload_n F.1 F.2.1 dX2_clear_18 rfl (lv_at hl 0 rfl) ?_
        refine ma_near F I dX2_clear_19 (by omega) ?_
        rw [hzi]
        refine mk_sizeOf F I hl dX2_clear_20 ⟨by rw [hR]; decide, by rw [hR]; decide⟩ (Nat.le_of_ble_eq_true rfl) ⟨Nat.zero_le _, Nat.zero_le _⟩ (hG.b31 hn c1) (fun H locs I => ?_)
        refine nv_iadd F.1 F.2.1 dX2_clear_23 ?_
        refine lv_istore_n (lv' := [(1, .int (nI (x + (pc (a i))))), (2, .int (nI i)), (0, .ref (h 0))]) F.1 F.2.1 dX2_clear_24 rfl hl (by decide) rfl (fun ls hl => ?_)
        refine lv_aload_n F.1 F.2.1 dX2_clear_25 rfl (lv_at hl 2 rfl) ?_
        refine mg_near F I dX2_clear_26 ?_
        refine lv_iload_n F.1 F.2.1 dX2_clear_29 rfl (lv_at hl 1 rfl) ?_
        refine lv_iconst (v := nI 0) F.1 F.2.1 dX2_clear_30 (by decide) ?_
        refine ms_near (x := 0) F I dX2_clear_31 (by omega) (fun H locs I => ?_)
        refine nv_iinc (lv' := [(2, .int (nI (i + 1))), (1, .int (nI (x + (pc (a i))))), (0, .ref (h 0))]) F.1 F.2.1 dX2_clear_32 hl (k := 1) rfl (by decide) rfl (fun ls hl => ?_)
        refine lv_goto (tgt := 4) F.1 F.2.1 dX2_clear_35 (by decide) ?_
        rw [zr_up] at I
        exact ih (i + 1) _ (by omega) (by omega) (cnt_yes hx rfl) _ _ _ I (lv_sub hl [0, 1, 2] rfl)
  have I : WI D (MW h ca (n, sr, tg, zr 0 a, wh, ms)) (MT ca) A s s.heap s.heap [] := by rw [zr_0]; exact I
  refine lv_iconst (v := nI 0) F.1 F.2.1 dX2_clear_0 (by decide) ?_
  refine lv_istore_n (lv' := [(1, .int (nI 0)), (0, .ref (h 0))]) F.1 F.2.1 dX2_clear_1 rfl hl (by decide) rfl (fun ls hl => ?_)
  refine lv_iconst (v := nI 0) F.1 F.2.1 dX2_clear_2 (by decide) ?_
  refine lv_istore_n (lv' := [(2, .int (nI 0)), (1, .int (nI 0)), (0, .ref (h 0))]) F.1 F.2.1 dX2_clear_3 rfl hl (by decide) rfl (fun ls hl => ?_)
  exact L (n + 1) 0 0 (by omega) (by omega) rfl _ _ _ I (lv_sub hl [0, 1, 2] rfl)
set_option maxHeartbeats 8000000 in
set_option maxRecDepth 100000 in
theorem mmt_distance (l : Launch) (D : va_G) (h : Nat → Nat) (ca : Nat → ClassId) (n sr tg : Nat) (a : Nat → Nat) (wh : Nat → Bool) (ms : Nat → Nat) (hn : n ≤ 8) (hs : sr < n) (ht : tg < n) (hst : sr ≠ tg) (hG : Gok n a) : WMi l yX2_distance (ws_ yX2_distance cX2_distance 5 (some .int)) ({ frames := 1, cells := 0, slots := 0, locals := 22 } : Room) D (MW h ca (n, sr, tg, a, wh, ms)) (MW h ca) (MT ca) [.ref (h 0)] (fun r' u' => ∃ o : Option Nat, dst n a sr tg o ∧ r' = oD o ∧ u' = (n, sr, tg, a, wh, ms)) := by
  refine wm_i (by decide) (Nat.le_of_ble_eq_true rfl) ?_
  intro p e R s m args below meth c ls A Q hR F ret I hl
  have hl : lv_has ls 5 [(0, .ref (h 0))] := hl
  have hb : ∀ d, bl n a sr d < 2 ^ 31 := fun d => Nat.lt_of_lt_of_le (mb_pow (k := n) (fun v h => bl_lt hs hG h)) (Nat.pow_le_pow_right (by decide) (by omega))
  have L : ∀ (k : Nat), ∀ (d : Nat), n - d < k → d + 1 ≤ n → (∀ j, j ≤ d → ¬ mb (bl n a sr j) tg) → ∀ (H : Heap) (locs : List Loc) (ls : Array Slot), WI D (MW h ca (n, sr, tg, a, wh, ms)) (MT ca) A s s.heap H locs → lv_has ls 5 [(2, .int (nI (d + 1))), (1, .int (nI (bl n a sr d))), (0, .ref (h 0))] → W p l e R s m args below meth c H locs 0 0 Q (F0 m 9 ls []) := by
    intro k
    induction k with
    | zero =>
      intro d hk hd hinv
      exact absurd hk (Nat.not_lt_zero _)
    | succ k ih =>
      intro d hk hd hinv H locs ls I hl
      have ihO := ih
      have L3 : ∀ (k : Nat), ∀ (v : Nat), n - v < k → d + 1 < n → v ≤ n → ∀ (H : Heap) (locs : List Loc) (ls : Array Slot), WI D (MW h ca (n, sr, tg, a, wh, ms)) (MT ca) A s s.heap H locs → lv_has ls 5 [(4, .int (nI v)), (3, .int (nI (orA a (bl n a sr d) (bl n a sr d) v))), (2, .int (nI (d + 1))), (1, .int (nI (bl n a sr d))), (0, .ref (h 0))] → W p l e R s m args below meth c H locs 0 0 Q (F0 m 22 ls []) := by
        intro k
        induction k with
        | zero =>
          intro v hk hdn hv
          exact absurd hk (Nat.not_lt_zero _)
        | succ k ih =>
          intro v hk hdn hv H locs ls I hl
          refine lv_iload F.1 F.2.1 dX2_distance_22 (lv_at hl 0 rfl) ?_
          refine lv_aload_n F.1 F.2.1 dX2_distance_24 rfl (lv_at hl 4 rfl) ?_
          refine mg_n F I dX2_distance_25 ?_
          refine nv_icmp_ge (tgt := 61) F.1 F.2.1 dX2_distance_28 (by decide) ⟨by omega, by omega⟩ (fun c1 => ?_) (fun c1 => ?_)
          · have e : v = n := by omega
            rw [e] at hl
            have hl : lv_has ls 5 [(4, .int (nI n)), (3, .int (nI (bl n a sr (d + 1)))), (2, .int (nI (d + 1))), (1, .int (nI (bl n a sr d))), (0, .ref (h 0))] := hl
            refine lv_iload_n F.1 F.2.1 dX2_distance_61 rfl (lv_at hl 1 rfl) ?_
            refine lv_istore_n (lv' := [(1, .int (nI (bl n a sr (d + 1)))), (4, .int (nI n)), (3, .int (nI (bl n a sr (d + 1)))), (2, .int (nI (d + 1))), (0, .ref (h 0))]) F.1 F.2.1 dX2_distance_62 rfl hl (by decide) rfl (fun ls hl => ?_)
            refine lv_aload_n F.1 F.2.1 dX2_distance_63 rfl (lv_at hl 4 rfl) ?_
            refine lv_iload_n F.1 F.2.1 dX2_distance_64 rfl (lv_at hl 0 rfl) ?_
            refine lv_aload_n F.1 F.2.1 dX2_distance_65 rfl (lv_at hl 4 rfl) ?_
            refine mg_t F I dX2_distance_66 ?_
            refine mk_has F I hl dX2_distance_69 ⟨by rw [hR]; decide, by rw [hR]; decide⟩ (Nat.le_of_ble_eq_true rfl) ⟨Nat.zero_le _, Nat.zero_le _⟩ (hb _) (by omega) (fun H locs I => ?_)
            refine nb_if_eq (tgt := 77) F.1 F.2.1 dX2_distance_72 (by decide) (fun c2 => ?_) (fun c2 => ?_)
            · refine nv_iinc (lv' := [(2, .int (nI (d + 1 + 1))), (1, .int (nI (bl n a sr (d + 1)))), (4, .int (nI n)), (3, .int (nI (bl n a sr (d + 1)))), (0, .ref (h 0))]) F.1 F.2.1 dX2_distance_77 hl (k := 3) rfl (by decide) rfl (fun ls hl => ?_)
              refine lv_goto (tgt := 9) F.1 F.2.1 dX2_distance_80 (by decide) ?_
              exact ihO (d + 1) (by omega) (by omega) (fun j hj => by
                by_cases e2 : j = d + 1
                · subst e2; rw [mb, c2]; decide
                · exact hinv j (by omega)) _ _ _ I (lv_sub hl [0, 1, 4] rfl)
            · refine lv_iload_n F.1 F.2.1 dX2_distance_75 rfl (lv_at hl 3 rfl) ?_
              exact ret _ _ _ _ ls _ ⟨some (d + 1), ⟨hdn, c2, fun j hj => hinv j (by omega)⟩, rfl, rfl⟩ I dX2_distance_76
          · have c1n : v < n := c1
            refine lv_aload_n F.1 F.2.1 dX2_distance_31 rfl (lv_at hl 4 rfl) ?_
            refine lv_iload_n F.1 F.2.1 dX2_distance_32 rfl (lv_at hl 3 rfl) ?_
            refine lv_iload F.1 F.2.1 dX2_distance_33 (lv_at hl 0 rfl) ?_
            refine mk_has F I hl dX2_distance_35 ⟨by rw [hR]; decide, by rw [hR]; decide⟩ (Nat.le_of_ble_eq_true rfl) ⟨Nat.zero_le _, Nat.zero_le _⟩ (hb d) (by omega) (fun H locs I => ?_)
            refine nb_if_eq (tgt := 53) F.1 F.2.1 dX2_distance_38 (by decide) (fun c2 => ?_) (fun c2 => ?_)
            · refine lv_iload_n F.1 F.2.1 dX2_distance_53 rfl (lv_at hl 1 rfl) ?_
              refine lv_istore_n (lv' := [(3, .int (nI (orA a (bl n a sr d) (bl n a sr d) v))), (4, .int (nI v)), (2, .int (nI (d + 1))), (1, .int (nI (bl n a sr d))), (0, .ref (h 0))]) F.1 F.2.1 dX2_distance_54 rfl hl (by decide) rfl (fun ls hl => ?_)
              refine nv_iinc (lv' := [(4, .int (nI (v + 1))), (3, .int (nI (orA a (bl n a sr d) (bl n a sr d) v))), (2, .int (nI (d + 1))), (1, .int (nI (bl n a sr d))), (0, .ref (h 0))]) F.1 F.2.1 dX2_distance_55 hl (k := 1) rfl (by decide) rfl (fun ls hl => ?_)
              refine lv_goto (tgt := 22) F.1 F.2.1 dX2_distance_58 (by decide) ?_
              have e : orA a (bl n a sr d) (bl n a sr d) v = orA a (bl n a sr d) (bl n a sr d) (v + 1) := by
                conv => rhs; unfold orA
                rw [if_neg (by rw [c2]; decide)]
              rw [e] at hl
              exact ih (v + 1) (by omega) hdn (by omega) _ _ _ I (lv_sub hl [0, 1, 2, 3, 4] rfl)
            · refine lv_iload_n F.1 F.2.1 dX2_distance_41 rfl (lv_at hl 1 rfl) ?_
              refine lv_aload_n F.1 F.2.1 dX2_distance_42 rfl (lv_at hl 4 rfl) ?_
              refine mg_near F I dX2_distance_43 ?_
              refine lv_iload F.1 F.2.1 dX2_distance_46 (lv_at hl 0 rfl) ?_
              refine ma_near F I dX2_distance_48 (by omega) ?_
              refine nv_ior F.1 F.2.1 dX2_distance_49 ?_
              refine lv_goto (tgt := 54) F.1 F.2.1 dX2_distance_50 (by decide) ?_
              refine lv_istore_n (lv' := [(3, .int (nI ((orA a (bl n a sr d) (bl n a sr d) v) ||| (a v)))), (4, .int (nI v)), (2, .int (nI (d + 1))), (1, .int (nI (bl n a sr d))), (0, .ref (h 0))]) F.1 F.2.1 dX2_distance_54 rfl hl (by decide) rfl (fun ls hl => ?_)
              refine nv_iinc (lv' := [(4, .int (nI (v + 1))), (3, .int (nI ((orA a (bl n a sr d) (bl n a sr d) v) ||| (a v)))), (2, .int (nI (d + 1))), (1, .int (nI (bl n a sr d))), (0, .ref (h 0))]) F.1 F.2.1 dX2_distance_55 hl (k := 1) rfl (by decide) rfl (fun ls hl => ?_)
              refine lv_goto (tgt := 22) F.1 F.2.1 dX2_distance_58 (by decide) ?_
              have e : orA a (bl n a sr d) (bl n a sr d) v ||| a v = orA a (bl n a sr d) (bl n a sr d) (v + 1) := by
                conv => rhs; unfold orA
                rw [if_pos c2]
              rw [e] at hl
              exact ih (v + 1) (by omega) hdn (by omega) _ _ _ I (lv_sub hl [0, 1, 2, 3, 4] rfl)
      refine lv_iload_n F.1 F.2.1 dX2_distance_9 rfl (lv_at hl 0 rfl) ?_
      refine lv_aload_n F.1 F.2.1 dX2_distance_10 rfl (lv_at hl 2 rfl) ?_
      refine mg_n F I dX2_distance_11 ?_
      refine nv_icmp_ge (tgt := 83) F.1 F.2.1 dX2_distance_14 (by decide) ⟨by omega, by omega⟩ (fun c1 => ?_) (fun c1 => ?_)
      · refine lv_bipush (v := -4) F.1 F.2.1 dX2_distance_83 (by decide) ?_
        exact ret _ _ _ _ ls _ ⟨none, fun j hj => hinv j (by omega), rfl, rfl⟩ I dX2_distance_85
      · refine lv_iload_n F.1 F.2.1 dX2_distance_17 rfl (lv_at hl 1 rfl) ?_
        refine lv_istore_n (lv' := [(3, .int (nI (bl n a sr d))), (2, .int (nI (d + 1))), (1, .int (nI (bl n a sr d))), (0, .ref (h 0))]) F.1 F.2.1 dX2_distance_18 rfl hl (by decide) rfl (fun ls hl => ?_)
        refine lv_iconst (v := nI 0) F.1 F.2.1 dX2_distance_19 (by decide) ?_
        refine lv_istore (lv' := [(4, .int (nI 0)), (3, .int (nI (bl n a sr d))), (2, .int (nI (d + 1))), (1, .int (nI (bl n a sr d))), (0, .ref (h 0))]) F.1 F.2.1 dX2_distance_20 hl (by decide) rfl (fun ls hl => ?_)
        exact L3 (n + 1) 0 (by omega) c1 (by omega) _ _ _ I (lv_sub hl [0, 1, 2, 3, 4] rfl)
  refine lv_iconst (v := nI 1) F.1 F.2.1 dX2_distance_0 (by decide) ?_
  refine lv_aload_n F.1 F.2.1 dX2_distance_1 rfl (lv_at hl 0 rfl) ?_
  refine mg_s F I dX2_distance_2 ?_
  refine nv_one F.1 F.2.1 dX2_distance_5 (by omega) ?_
  refine lv_istore_n (lv' := [(1, .int (nI (2 ^ sr))), (0, .ref (h 0))]) F.1 F.2.1 dX2_distance_6 rfl hl (by decide) rfl (fun ls hl => ?_)
  refine lv_iconst (v := nI 1) F.1 F.2.1 dX2_distance_7 (by decide) ?_
  refine lv_istore_n (lv' := [(2, .int (nI 1)), (1, .int (nI (2 ^ sr))), (0, .ref (h 0))]) F.1 F.2.1 dX2_distance_8 rfl hl (by decide) rfl (fun ls hl => ?_)
  exact L (n + 1) 0 (by omega) (by omega) (fun j hj => by
    have e : j = 0 := by omega
    subst e
    exact fun z => hst (mb_1.mp z).symm) _ _ _ I (lv_sub hl [0, 1, 2] rfl)
end
section
/-! the constructors, and the law's own cell() -/
/-- the number of vertices that a constructor takes -/
def nv (x : Int32) : Nat := if x < 3 then 3 else if 8 < x then 8 else x.toNatClampNeg
theorem nv_lo {x : Int32} (h : x < 3) : nv x = 3 := if_pos h
theorem nv_hi {x : Int32} (h : ¬ x < 3) (h2 : 8 < x) : nv x = 8 := by
  unfold nv
  rw [if_neg h, if_pos h2]
theorem nv_mid {x : Int32} (h : ¬ x < 3) (h2 : ¬ 8 < x) : x = nI (nv x) ∧ 3 ≤ nv x ∧ nv x ≤ 8 := by
  rw [Int32.lt_iff_toInt_lt] at h h2
  have h3 : (3 : Int32).toInt = 3 := by decide
  have h8 : (8 : Int32).toInt = 8 := by decide
  rw [h3] at h
  rw [h8] at h2
  obtain ⟨j, hj, e⟩ := nI_of (x := x) (by rw [Int32.lt_iff_toInt_lt]; have : (0 : Int32).toInt = 0 := by decide
                                          omega)
  subst e
  rw [nI_toInt hj] at h h2
  have e2 : nv (nI j) = j := by
    unfold nv
    rw [if_neg (by rw [Int32.lt_iff_toInt_lt, nI_toInt hj, h3]; omega), if_neg (by rw [Int32.lt_iff_toInt_lt, nI_toInt hj, h8]; omega), nI_clamp hj]
  rw [e2]
  exact ⟨rfl, by omega, by omega⟩
theorem nv_ok (x : Int32) : 3 ≤ nv x ∧ nv x ≤ 8 := by
  by_cases h : x < 3
  · rw [nv_lo h]; omega
  · by_cases h2 : 8 < x
    · rw [nv_hi h h2]; omega
    · exact (nv_mid h h2).2
abbrev X0 (n : Nat) : XS := (n, 0, n - 1, fun _ => 0, fun _ => 0, fun _ => some 0, fun _ => 0, fun _ => some 0)
abbrev M0 (n : Nat) : MS := (n, 0, n - 1, fun _ => 0, fun _ => false, fun _ => 0)
abbrev oX (h0 : Nat) (f : List Value) : Nat × va_E := (h0, .inr (0, f))
abbrev oM (h0 : Nat) (f : List Value) : Nat × va_E := (h0, .inr (1, f))
theorem fa_nge {x y : Int32} (h : ¬ y ≤ x) : x < y := by
  rw [Int32.lt_iff_toInt_lt]
  rw [Int32.le_iff_toInt_le] at h
  omega
theorem fa_nlt2 {x y : Int32} (h : y ≤ x) : ¬ x < y := by
  rw [Int32.lt_iff_toInt_lt]
  rw [Int32.le_iff_toInt_le] at h
  omega
set_option maxHeartbeats 8000000 in
set_option maxRecDepth 100000 in
theorem met_init (l : Launch) (D : va_G) (h0 sz : Nat) (x : Int32) : Met l yX1_init (ws_ yX1_init cX1_init 3 none) ({ frames := 1, cells := 5, slots := 304, locals := 12 } : Room) (va_Pc [.ref h0, .int x] (fun U => U.heap.size = sz ∧ va_P D vwCl [oX h0 [.int 0, .int 0, .int 0, .null, .null, .null, .null, .null]] U.heap ∧ va_K D vwCl [] U ∧ va_D (fun _ => True) [oX h0 [.int 0, .int 0, .int 0, .null, .null, .null, .null, .null]])) (va_Qv (S := (Nat → Nat) × (Nat → ClassId)) (fun u => u.1 0 = h0) (fun u t => va_P D vwCl (XW u.1 u.2 (X0 (nv x))) t.heap ∧ va_K D vwCl (XT u.2) t ∧ va_D (va_A [oX h0 [.int 0, .int 0, .int 0, .null, .null, .null, .null, .null]] sz) (XW u.1 u.2 (X0 (nv x)))) (va_A [oX h0 [.int 0, .int 0, .int 0, .null, .null, .null, .null, .null]] sz)) 5 304 (va_A [oX h0 [.int 0, .int 0, .int 0, .null, .null, .null, .null, .null]] sz) := by
  refine Met.ofW (cc := cX1_init) (maxL := 3) (ret := none) (by decide) rfl ?_
  intro p e s m args below meth c s₁ B hml hv
  obtain ⟨rfl, hsz, hP, hK, hD0⟩ := hv
  have hx := B.exec
  have hb := B.bytes
  have hr := B.returns
  have hlk := B.notSynchronized
  have hts := atoms_spec (ws := ws_ yX1_init cX1_init 3 none) B.pre
  have hts : ∀ w ∈ lw_all, w.before _ s = true := fun w h => hts w (List.mem_cons_of_mem _ h)
  have hown : s.vm.findClass RX1 = some m.cls := findClass_of_methodNamed B.named
  have hin : meth.name = "<init>" := (name_of_methodNamed B.named B.method).1
  subst hsz
  have hD := hD0.self (sz := s.heap.size)
  generalize hAe : va_A [oX h0 [.int 0, .int 0, .int 0, .null, .null, .null, .null, .null]] s.heap.size = A at hD ⊢
  have hA : ∀ q : Nat, s.heap.size ≤ q → A q := fun q h => by rw [← hAe]; exact Or.inr h
  have hS : va_S A s.heap s.heap [] := va_S.rf
  have hl := lv_entry ([.ref h0, .int x]) (n := 3) (Nat.le_of_ble_eq_true rfl)
  rw [lg_entry_eq]
  generalize (lg_sl ([.ref h0, .int x]) ++ List.replicate (3 - (lg_sl ([.ref h0, .int x])).length) Slot.unset).toArray = ls at hl ⊢
  have hl : lv_has ls 3 [(0, .ref h0), (1, .int x)] := hl
  refine lv_aload_n hx hb dX1_init_0 rfl (lv_at hl 0 rfl) ?_
  refine W.objInit hx hb hown (hts _ q30) (hts _ q31) (hts _ q32) rfl (by rw [hml]; exact hl.1) rfl dX1_init_1 (Nat.le_of_ble_eq_true rfl) (Nat.le_of_ble_eq_true rfl) ?_
  refine W.eq (g2 := F0 m 4 ls []) rfl ?_
  refine lv_aload_n hx hb dX1_init_4 rfl (lv_at hl 0 rfl) ?_
  refine lv_bipush (v := nI 8) hx hb dX1_init_5 (by decide) ?_
  refine va_newa (atype := .int) (D := D) (cl := vwCl) (ty := .int) (N' := 8) (a0 := (8, .inl (fun _ => nI 0))) hx hb (hts _ q58) rfl hK hP hD hS hA (fun _ => rfl) (by decide) (by decide) (by decide) (Nat.le_of_ble_eq_true rfl) (Nat.le_of_ble_eq_true rfl) dX1_init_7 (fun g1 k1 H hK hP hD hS => ?_)
  refine W.widen (k := 1) (n := 8) (Nat.le_of_ble_eq_true rfl) (Nat.le_of_ble_eq_true rfl) ?_
  refine va_putF (D := D) (ci := 0) (v := .ref g1) (ty := .array .int) (C := RX1) (T := TX1) (N := 8) hx hb hts in_X1 tyX1 tyX1_ok nmX1 hown hK hP hD hS 0 rfl rfl 3 (by decide) (hts _ q36) (fun _ h9 => h9) rfl hin rfl (by decide +kernel) rfl rfl (Nat.le_of_ble_eq_true rfl) dX1_init_9 (fun H locs hP hD hS => ?_)
  have hP : va_P D vwCl [oX h0 [.int 0, .int 0, .int 0, .ref g1, .null, .null, .null, .null], (g1, .inl (k1, 8, .inl (fun _ => nI 0)))] H := hP
  have hD : va_D A [oX h0 [.int 0, .int 0, .int 0, .ref g1, .null, .null, .null, .null], (g1, .inl (k1, 8, .inl (fun _ => nI 0)))] := hD
  have hK : va_K D vwCl [(k1, .int)] s := hK
  refine lv_aload_n hx hb dX1_init_12 rfl (lv_at hl 0 rfl) ?_
  refine lv_sipush (v := nI 256) hx hb dX1_init_13 (by decide) ?_
  refine va_newa (atype := .int) (D := D) (cl := vwCl) (ty := .int) (N' := 256) (a0 := (256, .inl (fun _ => nI 0))) hx hb (hts _ q58) rfl hK hP hD hS hA (fun _ => rfl) (by decide) (by decide) (by decide) (Nat.le_of_ble_eq_true rfl) (Nat.le_of_ble_eq_true rfl) dX1_init_16 (fun g2 k2 H hK hP hD hS => ?_)
  refine W.widen (k := 2) (n := 264) (Nat.le_of_ble_eq_true rfl) (Nat.le_of_ble_eq_true rfl) ?_
  refine va_putF (D := D) (ci := 0) (v := .ref g2) (ty := .array .int) (C := RX1) (T := TX1) (N := 8) hx hb hts in_X1 tyX1 tyX1_ok nmX1 hown hK hP hD hS 0 rfl rfl 4 (by decide) (hts _ q37) (fun _ h9 => h9) rfl hin rfl (by decide +kernel) rfl rfl (Nat.le_of_ble_eq_true rfl) dX1_init_18 (fun H locs hP hD hS => ?_)
  have hP : va_P D vwCl [oX h0 [.int 0, .int 0, .int 0, .ref g1, .ref g2, .null, .null, .null], (g1, .inl (k1, 8, .inl (fun _ => nI 0))), (g2, .inl (k2, 256, .inl (fun _ => nI 0)))] H := hP
  have hD : va_D A [oX h0 [.int 0, .int 0, .int 0, .ref g1, .ref g2, .null, .null, .null], (g1, .inl (k1, 8, .inl (fun _ => nI 0))), (g2, .inl (k2, 256, .inl (fun _ => nI 0)))] := hD
  have hK : va_K D vwCl [(k1, .int), (k2, .int)] s := hK
  refine lv_aload_n hx hb dX1_init_21 rfl (lv_at hl 0 rfl) ?_
  refine lv_bipush (v := nI 16) hx hb dX1_init_22 (by decide) ?_
  refine va_newa (atype := .int) (D := D) (cl := vwCl) (ty := .int) (N' := 16) (a0 := (16, .inl (fun _ => oI (some 0)))) hx hb (hts _ q58) rfl hK hP hD hS hA (fun _ => rfl) (by decide) (by decide) (by decide) (Nat.le_of_ble_eq_true rfl) (Nat.le_of_ble_eq_true rfl) dX1_init_24 (fun g3 k3 H hK hP hD hS => ?_)
  refine W.widen (k := 3) (n := 280) (Nat.le_of_ble_eq_true rfl) (Nat.le_of_ble_eq_true rfl) ?_
  refine va_putF (D := D) (ci := 0) (v := .ref g3) (ty := .array .int) (C := RX1) (T := TX1) (N := 8) hx hb hts in_X1 tyX1 tyX1_ok nmX1 hown hK hP hD hS 0 rfl rfl 5 (by decide) (hts _ q38) (fun _ h9 => h9) rfl hin rfl (by decide +kernel) rfl rfl (Nat.le_of_ble_eq_true rfl) dX1_init_26 (fun H locs hP hD hS => ?_)
  have hP : va_P D vwCl [oX h0 [.int 0, .int 0, .int 0, .ref g1, .ref g2, .ref g3, .null, .null], (g1, .inl (k1, 8, .inl (fun _ => nI 0))), (g2, .inl (k2, 256, .inl (fun _ => nI 0))), (g3, .inl (k3, 16, .inl (fun _ => oI (some 0))))] H := hP
  have hD : va_D A [oX h0 [.int 0, .int 0, .int 0, .ref g1, .ref g2, .ref g3, .null, .null], (g1, .inl (k1, 8, .inl (fun _ => nI 0))), (g2, .inl (k2, 256, .inl (fun _ => nI 0))), (g3, .inl (k3, 16, .inl (fun _ => oI (some 0))))] := hD
  have hK : va_K D vwCl [(k1, .int), (k2, .int), (k3, .int)] s := hK
  refine lv_aload_n hx hb dX1_init_29 rfl (lv_at hl 0 rfl) ?_
  refine lv_bipush (v := nI 16) hx hb dX1_init_30 (by decide) ?_
  refine va_newa (atype := .int) (D := D) (cl := vwCl) (ty := .int) (N' := 16) (a0 := (16, .inl (fun _ => nI 0))) hx hb (hts _ q58) rfl hK hP hD hS hA (fun _ => rfl) (by decide) (by decide) (by decide) (Nat.le_of_ble_eq_true rfl) (Nat.le_of_ble_eq_true rfl) dX1_init_32 (fun g4 k4 H hK hP hD hS => ?_)
  refine W.widen (k := 4) (n := 296) (Nat.le_of_ble_eq_true rfl) (Nat.le_of_ble_eq_true rfl) ?_
  refine va_putF (D := D) (ci := 0) (v := .ref g4) (ty := .array .int) (C := RX1) (T := TX1) (N := 8) hx hb hts in_X1 tyX1 tyX1_ok nmX1 hown hK hP hD hS 0 rfl rfl 6 (by decide) (hts _ q39) (fun _ h9 => h9) rfl hin rfl (by decide +kernel) rfl rfl (Nat.le_of_ble_eq_true rfl) dX1_init_34 (fun H locs hP hD hS => ?_)
  have hP : va_P D vwCl [oX h0 [.int 0, .int 0, .int 0, .ref g1, .ref g2, .ref g3, .ref g4, .null], (g1, .inl (k1, 8, .inl (fun _ => nI 0))), (g2, .inl (k2, 256, .inl (fun _ => nI 0))), (g3, .inl (k3, 16, .inl (fun _ => oI (some 0)))), (g4, .inl (k4, 16, .inl (fun _ => nI 0)))] H := hP
  have hD : va_D A [oX h0 [.int 0, .int 0, .int 0, .ref g1, .ref g2, .ref g3, .ref g4, .null], (g1, .inl (k1, 8, .inl (fun _ => nI 0))), (g2, .inl (k2, 256, .inl (fun _ => nI 0))), (g3, .inl (k3, 16, .inl (fun _ => oI (some 0)))), (g4, .inl (k4, 16, .inl (fun _ => nI 0)))] := hD
  have hK : va_K D vwCl [(k1, .int), (k2, .int), (k3, .int), (k4, .int)] s := hK
  refine lv_aload_n hx hb dX1_init_37 rfl (lv_at hl 0 rfl) ?_
  refine lv_bipush (v := nI 8) hx hb dX1_init_38 (by decide) ?_
  refine va_newa (atype := .int) (D := D) (cl := vwCl) (ty := .int) (N' := 8) (a0 := (8, .inl (fun _ => oI (some 0)))) hx hb (hts _ q58) rfl hK hP hD hS hA (fun _ => rfl) (by decide) (by decide) (by decide) (Nat.le_of_ble_eq_true rfl) (Nat.le_of_ble_eq_true rfl) dX1_init_40 (fun g5 k5 H hK hP hD hS => ?_)
  refine W.widen (k := 5) (n := 304) (Nat.le_of_ble_eq_true rfl) (Nat.le_of_ble_eq_true rfl) ?_
  refine va_putF (D := D) (ci := 0) (v := .ref g5) (ty := .array .int) (C := RX1) (T := TX1) (N := 8) hx hb hts in_X1 tyX1 tyX1_ok nmX1 hown hK hP hD hS 0 rfl rfl 7 (by decide) (hts _ q40) (fun _ h9 => h9) rfl hin rfl (by decide +kernel) rfl rfl (Nat.le_of_ble_eq_true rfl) dX1_init_42 (fun H locs hP hD hS => ?_)
  have hP : va_P D vwCl [oX h0 [.int 0, .int 0, .int 0, .ref g1, .ref g2, .ref g3, .ref g4, .ref g5], (g1, .inl (k1, 8, .inl (fun _ => nI 0))), (g2, .inl (k2, 256, .inl (fun _ => nI 0))), (g3, .inl (k3, 16, .inl (fun _ => oI (some 0)))), (g4, .inl (k4, 16, .inl (fun _ => nI 0))), (g5, .inl (k5, 8, .inl (fun _ => oI (some 0))))] H := hP
  have hD : va_D A [oX h0 [.int 0, .int 0, .int 0, .ref g1, .ref g2, .ref g3, .ref g4, .ref g5], (g1, .inl (k1, 8, .inl (fun _ => nI 0))), (g2, .inl (k2, 256, .inl (fun _ => nI 0))), (g3, .inl (k3, 16, .inl (fun _ => oI (some 0)))), (g4, .inl (k4, 16, .inl (fun _ => nI 0))), (g5, .inl (k5, 8, .inl (fun _ => oI (some 0))))] := hD
  have hK : va_K D vwCl [(k1, .int), (k2, .int), (k3, .int), (k4, .int), (k5, .int)] s := hK
  have hnv := nv_ok x
  have K : ∀ (ls : Array Slot), lv_has ls 3 [(2, .int (nI (nv x))), (0, .ref h0), (1, .int x)] → W p l e (headSpec (ws_ yX1_init cX1_init 3 none) ({ frames := 1, cells := 5, slots := 304, locals := 12 } : Room)).room s m [.ref h0, .int x].toArray below meth c H locs 5 304 (MQ below (va_Qv (S := (Nat → Nat) × (Nat → ClassId)) (fun u => u.1 0 = h0) (fun u t => va_P D vwCl (XW u.1 u.2 (X0 (nv x))) t.heap ∧ va_K D vwCl (XT u.2) t ∧ va_D A (XW u.1 u.2 (X0 (nv x)))) A) [.ref h0, .int x].toArray s 5 304 A) (F0 m 63 ls []) := by
    intro ls hl
    refine lv_aload_n hx hb dX1_init_63 rfl (lv_at hl 1 rfl) ?_
    refine lv_iload_n hx hb dX1_init_64 rfl (lv_at hl 0 rfl) ?_
    refine va_putF (D := D) (ci := 0) (v := .int (nI (nv x))) (ty := .int) (C := RX1) (T := TX1) (N := 8) hx hb hts in_X1 tyX1 tyX1_ok nmX1 hown hK hP hD hS 0 rfl rfl 0 (by decide) (hts _ q33) (fun _ h9 => h9) rfl hin rfl (by decide +kernel) rfl rfl (Nat.le_of_ble_eq_true rfl) dX1_init_65 (fun H locs hP hD hS => ?_)
    have hP : va_P D vwCl [oX h0 [.int (nI (nv x)), .int 0, .int 0, .ref g1, .ref g2, .ref g3, .ref g4, .ref g5], (g1, .inl (k1, 8, .inl (fun _ => nI 0))), (g2, .inl (k2, 256, .inl (fun _ => nI 0))), (g3, .inl (k3, 16, .inl (fun _ => oI (some 0)))), (g4, .inl (k4, 16, .inl (fun _ => nI 0))), (g5, .inl (k5, 8, .inl (fun _ => oI (some 0))))] H := hP
    have hD : va_D A [oX h0 [.int (nI (nv x)), .int 0, .int 0, .ref g1, .ref g2, .ref g3, .ref g4, .ref g5], (g1, .inl (k1, 8, .inl (fun _ => nI 0))), (g2, .inl (k2, 256, .inl (fun _ => nI 0))), (g3, .inl (k3, 16, .inl (fun _ => oI (some 0)))), (g4, .inl (k4, 16, .inl (fun _ => nI 0))), (g5, .inl (k5, 8, .inl (fun _ => oI (some 0))))] := hD
    refine lv_aload_n hx hb dX1_init_68 rfl (lv_at hl 1 rfl) ?_
    refine lv_iload_n hx hb dX1_init_69 rfl (lv_at hl 0 rfl) ?_
    refine lv_iconst (v := nI 1) hx hb dX1_init_70 (by decide) ?_
    refine nv_isub hx hb dX1_init_71 (by omega) ?_
    refine va_put (D := D) (ci := 0) (v := .int (nI (nv x - 1))) (ty := .int) (C := RX1) (T := TX1) (N := 8) hx hb hts in_X1 tyX1 tyX1_ok nmX1 hown hK hP hD hS 0 rfl rfl 2 (by decide) (hts _ q35) (fun _ h9 => h9) rfl (by decide +kernel) rfl rfl (Nat.le_of_ble_eq_true rfl) dX1_init_72 (fun H locs hP hD hS => ?_)
    have hP : va_P D vwCl [oX h0 [.int (nI (nv x)), .int (nI 0), .int (nI (nv x - 1)), .ref g1, .ref g2, .ref g3, .ref g4, .ref g5], (g1, .inl (k1, 8, .inl (fun _ => nI 0))), (g2, .inl (k2, 256, .inl (fun _ => nI 0))), (g3, .inl (k3, 16, .inl (fun _ => oI (some 0)))), (g4, .inl (k4, 16, .inl (fun _ => nI 0))), (g5, .inl (k5, 8, .inl (fun _ => oI (some 0))))] H := hP
    have hD : va_D A [oX h0 [.int (nI (nv x)), .int (nI 0), .int (nI (nv x - 1)), .ref g1, .ref g2, .ref g3, .ref g4, .ref g5], (g1, .inl (k1, 8, .inl (fun _ => nI 0))), (g2, .inl (k2, 256, .inl (fun _ => nI 0))), (g3, .inl (k3, 16, .inl (fun _ => oI (some 0)))), (g4, .inl (k4, 16, .inl (fun _ => nI 0))), (g5, .inl (k5, 8, .inl (fun _ => oI (some 0))))] := hD
    exact W.vret hx hb hr (fun t ht hW => ⟨⟨((fun i => [h0, g1, g2, g3, g4, g5].getD i 0), (fun i => [k1, k1, k2, k3, k4, k5].getD i 0)), rfl, rfl, by rw [ht]; exact hP, va_K.moved hW.alike hK, hD⟩, hS.F ht⟩) hS.2.2 dX1_init_75
  refine lv_iload_n hx hb dX1_init_45 rfl (lv_at hl 1 rfl) ?_
  refine lv_istore_n (lv' := [(2, .int x), (0, .ref h0), (1, .int x)]) hx hb dX1_init_46 rfl hl (by decide) rfl (fun ls hl => ?_)
  refine lv_iload_n hx hb dX1_init_47 rfl (lv_at hl 0 rfl) ?_
  refine lv_iconst (v := nI 3) hx hb dX1_init_48 (by decide) ?_
  refine lv_icmp_ge (tgt := 54) hx hb dX1_init_49 (by decide) (fun c1 => ?_) (fun c1 => ?_)
  · refine lv_iload_n hx hb dX1_init_54 rfl (lv_at hl 0 rfl) ?_
    refine lv_bipush (v := nI 8) hx hb dX1_init_55 (by decide) ?_
    refine lv_icmp_le (tgt := 63) hx hb dX1_init_57 (by decide) (fun c2 => ?_) (fun c2 => ?_)
    · have e := nv_mid (x := x) (fa_nlt2 c1) (fa_nlt2 c2)
      refine K ls (by rw [← e.1]; exact (lv_sub hl [0, 1, 2] rfl))
    · have e : nv x = 8 := nv_hi (fa_nlt2 c1) (fa_nge c2)
      refine lv_bipush (v := nI 8) hx hb dX1_init_60 (by decide) ?_
      refine lv_istore_n (lv' := [(2, .int (nI 8)), (0, .ref h0), (1, .int x)]) hx hb dX1_init_62 rfl hl (by decide) rfl (fun ls hl => ?_)
      refine K ls (by rw [e]; exact (lv_sub hl [0, 1, 2] rfl))
  · have e : nv x = 3 := nv_lo (fa_nge c1)
    refine lv_iconst (v := nI 3) hx hb dX1_init_52 (by decide) ?_
    refine lv_istore_n (lv' := [(2, .int (nI 3)), (0, .ref h0), (1, .int x)]) hx hb dX1_init_53 rfl hl (by decide) rfl (fun ls hl => ?_)
    refine lv_iload_n hx hb dX1_init_54 rfl (lv_at hl 0 rfl) ?_
    refine lv_bipush (v := nI 8) hx hb dX1_init_55 (by decide) ?_
    refine nv_icmp_le (tgt := 63) hx hb dX1_init_57 (by decide) ⟨by omega, by omega⟩ (fun c2 => ?_) (fun c2 => ?_)
    · refine K ls (by rw [e]; exact (lv_sub hl [0, 1, 2] rfl))
    · exact absurd c2 (by decide)
set_option maxHeartbeats 8000000 in
set_option maxRecDepth 100000 in
theorem mmt_init (l : Launch) (D : va_G) (h0 sz : Nat) (x : Int32) : Met l yX2_init (ws_ yX2_init cX2_init 2 none) ({ frames := 1, cells := 3, slots := 520, locals := 12 } : Room) (va_Pc [.ref h0, .int x] (fun U => U.heap.size = sz ∧ va_P D vwCl [oM h0 [.int 0, .int 0, .int 0, .null, .null, .null]] U.heap ∧ va_K D vwCl [] U ∧ va_D (fun _ => True) [oM h0 [.int 0, .int 0, .int 0, .null, .null, .null]])) (va_Qv (S := (Nat → Nat) × (Nat → ClassId)) (fun u => u.1 0 = h0) (fun u t => va_P D vwCl (MW u.1 u.2 (M0 (nv x))) t.heap ∧ va_K D vwCl (MT u.2) t ∧ va_D (va_A [oM h0 [.int 0, .int 0, .int 0, .null, .null, .null]] sz) (MW u.1 u.2 (M0 (nv x)))) (va_A [oM h0 [.int 0, .int 0, .int 0, .null, .null, .null]] sz)) 3 520 (va_A [oM h0 [.int 0, .int 0, .int 0, .null, .null, .null]] sz) := by
  refine Met.ofW (cc := cX2_init) (maxL := 2) (ret := none) (by decide) rfl ?_
  intro p e s m args below meth c s₁ B hml hv
  obtain ⟨rfl, hsz, hP, hK, hD0⟩ := hv
  have hx := B.exec
  have hb := B.bytes
  have hr := B.returns
  have hlk := B.notSynchronized
  have hts := atoms_spec (ws := ws_ yX2_init cX2_init 2 none) B.pre
  have hts : ∀ w ∈ lw_all, w.before _ s = true := fun w h => hts w (List.mem_cons_of_mem _ h)
  have hown : s.vm.findClass RX2 = some m.cls := findClass_of_methodNamed B.named
  have hin : meth.name = "<init>" := (name_of_methodNamed B.named B.method).1
  subst hsz
  have hD := hD0.self (sz := s.heap.size)
  generalize hAe : va_A [oM h0 [.int 0, .int 0, .int 0, .null, .null, .null]] s.heap.size = A at hD ⊢
  have hA : ∀ q : Nat, s.heap.size ≤ q → A q := fun q h => by rw [← hAe]; exact Or.inr h
  have hS : va_S A s.heap s.heap [] := va_S.rf
  have hl := lv_entry ([.ref h0, .int x]) (n := 2) (Nat.le_of_ble_eq_true rfl)
  rw [lg_entry_eq]
  generalize (lg_sl ([.ref h0, .int x]) ++ List.replicate (2 - (lg_sl ([.ref h0, .int x])).length) Slot.unset).toArray = ls at hl ⊢
  have hl : lv_has ls 2 [(0, .ref h0), (1, .int x)] := hl
  refine lv_aload_n hx hb dX2_init_0 rfl (lv_at hl 0 rfl) ?_
  refine W.objInit hx hb hown (hts _ q171) (hts _ q31) (hts _ q32) rfl (by rw [hml]; exact hl.1) rfl dX2_init_1 (Nat.le_of_ble_eq_true rfl) (Nat.le_of_ble_eq_true rfl) ?_
  refine W.eq (g2 := F0 m 4 ls []) rfl ?_
  refine lv_aload_n hx hb dX2_init_4 rfl (lv_at hl 0 rfl) ?_
  refine lv_bipush (v := nI 8) hx hb dX2_init_5 (by decide) ?_
  refine va_newa (atype := .int) (D := D) (cl := vwCl) (ty := .int) (N' := 8) (a0 := (8, .inl (fun _ => nI 0))) hx hb (hts _ q58) rfl hK hP hD hS hA (fun _ => rfl) (by decide) (by decide) (by decide) (Nat.le_of_ble_eq_true rfl) (Nat.le_of_ble_eq_true rfl) dX2_init_7 (fun g1 k1 H hK hP hD hS => ?_)
  refine W.widen (k := 1) (n := 8) (Nat.le_of_ble_eq_true rfl) (Nat.le_of_ble_eq_true rfl) ?_
  refine va_putF (D := D) (ci := 1) (v := .ref g1) (ty := .array .int) (C := RX2) (T := TX2) (N := 6) hx hb hts in_X2 tyX2 tyX2_ok nmX2 hown hK hP hD hS 0 rfl rfl 3 (by decide) (hts _ q175) (fun _ h9 => h9) rfl hin rfl (by decide +kernel) rfl rfl (Nat.le_of_ble_eq_true rfl) dX2_init_9 (fun H locs hP hD hS => ?_)
  have hP : va_P D vwCl [oM h0 [.int 0, .int 0, .int 0, .ref g1, .null, .null], (g1, .inl (k1, 8, .inl (fun _ => nI 0)))] H := hP
  have hD : va_D A [oM h0 [.int 0, .int 0, .int 0, .ref g1, .null, .null], (g1, .inl (k1, 8, .inl (fun _ => nI 0)))] := hD
  have hK : va_K D vwCl [(k1, .int)] s := hK
  refine lv_aload_n hx hb dX2_init_12 rfl (lv_at hl 0 rfl) ?_
  refine lv_sipush (v := nI 256) hx hb dX2_init_13 (by decide) ?_
  refine va_newa (atype := .boolean) (D := D) (cl := vwCl) (ty := .boolean) (N' := 256) (a0 := (256, .inl (fun _ => bI false))) hx hb (hts _ q191) rfl hK hP hD hS hA (fun _ => rfl) (by decide) (by decide) (by decide) (Nat.le_of_ble_eq_true rfl) (Nat.le_of_ble_eq_true rfl) dX2_init_16 (fun g2 k2 H hK hP hD hS => ?_)
  refine W.widen (k := 2) (n := 264) (Nat.le_of_ble_eq_true rfl) (Nat.le_of_ble_eq_true rfl) ?_
  refine va_putF (D := D) (ci := 1) (v := .ref g2) (ty := .array .boolean) (C := RX2) (T := TX2) (N := 6) hx hb hts in_X2 tyX2 tyX2_ok nmX2 hown hK hP hD hS 0 rfl rfl 4 (by decide) (hts _ q176) (fun _ h9 => h9) rfl hin rfl (by decide +kernel) rfl rfl (Nat.le_of_ble_eq_true rfl) dX2_init_18 (fun H locs hP hD hS => ?_)
  have hP : va_P D vwCl [oM h0 [.int 0, .int 0, .int 0, .ref g1, .ref g2, .null], (g1, .inl (k1, 8, .inl (fun _ => nI 0))), (g2, .inl (k2, 256, .inl (fun _ => bI false)))] H := hP
  have hD : va_D A [oM h0 [.int 0, .int 0, .int 0, .ref g1, .ref g2, .null], (g1, .inl (k1, 8, .inl (fun _ => nI 0))), (g2, .inl (k2, 256, .inl (fun _ => bI false)))] := hD
  have hK : va_K D vwCl [(k1, .int), (k2, .boolean)] s := hK
  refine lv_aload_n hx hb dX2_init_21 rfl (lv_at hl 0 rfl) ?_
  refine lv_sipush (v := nI 256) hx hb dX2_init_22 (by decide) ?_
  refine va_newa (atype := .int) (D := D) (cl := vwCl) (ty := .int) (N' := 256) (a0 := (256, .inl (fun _ => nI 0))) hx hb (hts _ q58) rfl hK hP hD hS hA (fun _ => rfl) (by decide) (by decide) (by decide) (Nat.le_of_ble_eq_true rfl) (Nat.le_of_ble_eq_true rfl) dX2_init_25 (fun g3 k3 H hK hP hD hS => ?_)
  refine W.widen (k := 3) (n := 520) (Nat.le_of_ble_eq_true rfl) (Nat.le_of_ble_eq_true rfl) ?_
  refine va_putF (D := D) (ci := 1) (v := .ref g3) (ty := .array .int) (C := RX2) (T := TX2) (N := 6) hx hb hts in_X2 tyX2 tyX2_ok nmX2 hown hK hP hD hS 0 rfl rfl 5 (by decide) (hts _ q177) (fun _ h9 => h9) rfl hin rfl (by decide +kernel) rfl rfl (Nat.le_of_ble_eq_true rfl) dX2_init_27 (fun H locs hP hD hS => ?_)
  have hP : va_P D vwCl [oM h0 [.int 0, .int 0, .int 0, .ref g1, .ref g2, .ref g3], (g1, .inl (k1, 8, .inl (fun _ => nI 0))), (g2, .inl (k2, 256, .inl (fun _ => bI false))), (g3, .inl (k3, 256, .inl (fun _ => nI 0)))] H := hP
  have hD : va_D A [oM h0 [.int 0, .int 0, .int 0, .ref g1, .ref g2, .ref g3], (g1, .inl (k1, 8, .inl (fun _ => nI 0))), (g2, .inl (k2, 256, .inl (fun _ => bI false))), (g3, .inl (k3, 256, .inl (fun _ => nI 0)))] := hD
  have hK : va_K D vwCl [(k1, .int), (k2, .boolean), (k3, .int)] s := hK
  have hnv := nv_ok x
  have K : W p l e (headSpec (ws_ yX2_init cX2_init 2 none) ({ frames := 1, cells := 3, slots := 520, locals := 12 } : Room)).room s m [.ref h0, .int x].toArray below meth c H locs 3 520 (MQ below (va_Qv (S := (Nat → Nat) × (Nat → ClassId)) (fun u => u.1 0 = h0) (fun u t => va_P D vwCl (MW u.1 u.2 (M0 (nv x))) t.heap ∧ va_K D vwCl (MT u.2) t ∧ va_D A (MW u.1 u.2 (M0 (nv x)))) A) [.ref h0, .int x].toArray s 3 520 A) (F0 m 52 ls [.int (nI (nv x)), .ref h0]) := by
    refine va_put (D := D) (ci := 1) (v := .int (nI (nv x))) (ty := .int) (C := RX2) (T := TX2) (N := 6) hx hb hts in_X2 tyX2 tyX2_ok nmX2 hown hK hP hD hS 0 rfl rfl 0 (by decide) (hts _ q172) (fun _ h9 => h9) rfl (by decide +kernel) rfl rfl (Nat.le_of_ble_eq_true rfl) dX2_init_52 (fun H locs hP hD hS => ?_)
    have hP : va_P D vwCl [oM h0 [.int (nI (nv x)), .int 0, .int 0, .ref g1, .ref g2, .ref g3], (g1, .inl (k1, 8, .inl (fun _ => nI 0))), (g2, .inl (k2, 256, .inl (fun _ => bI false))), (g3, .inl (k3, 256, .inl (fun _ => nI 0)))] H := hP
    have hD : va_D A [oM h0 [.int (nI (nv x)), .int 0, .int 0, .ref g1, .ref g2, .ref g3], (g1, .inl (k1, 8, .inl (fun _ => nI 0))), (g2, .inl (k2, 256, .inl (fun _ => bI false))), (g3, .inl (k3, 256, .inl (fun _ => nI 0)))] := hD
    refine lv_aload_n hx hb dX2_init_55 rfl (lv_at hl 0 rfl) ?_
    refine lv_aload_n hx hb dX2_init_56 rfl (lv_at hl 0 rfl) ?_
    refine va_get (D := D) (ci := 1) (v := .int (nI (nv x))) (C := RX2) (T := TX2) (N := 6) hx hb hts in_X2 hown hK hP 0 rfl rfl 0 (by decide) (hts _ q172) (fun _ h9 => h9) rfl dX2_init_57 ?_
    refine lv_iconst (v := nI 1) hx hb dX2_init_60 (by decide) ?_
    refine nv_isub hx hb dX2_init_61 (by omega) ?_
    refine va_put (D := D) (ci := 1) (v := .int (nI (nv x - 1))) (ty := .int) (C := RX2) (T := TX2) (N := 6) hx hb hts in_X2 tyX2 tyX2_ok nmX2 hown hK hP hD hS 0 rfl rfl 2 (by decide) (hts _ q174) (fun _ h9 => h9) rfl (by decide +kernel) rfl rfl (Nat.le_of_ble_eq_true rfl) dX2_init_62 (fun H locs hP hD hS => ?_)
    have hP : va_P D vwCl [oM h0 [.int (nI (nv x)), .int (nI 0), .int (nI (nv x - 1)), .ref g1, .ref g2, .ref g3], (g1, .inl (k1, 8, .inl (fun _ => nI 0))), (g2, .inl (k2, 256, .inl (fun _ => bI false))), (g3, .inl (k3, 256, .inl (fun _ => nI 0)))] H := hP
    have hD : va_D A [oM h0 [.int (nI (nv x)), .int (nI 0), .int (nI (nv x - 1)), .ref g1, .ref g2, .ref g3], (g1, .inl (k1, 8, .inl (fun _ => nI 0))), (g2, .inl (k2, 256, .inl (fun _ => bI false))), (g3, .inl (k3, 256, .inl (fun _ => nI 0)))] := hD
    exact W.vret hx hb hr (fun t ht hW => ⟨⟨((fun i => [h0, g1, g2, g3].getD i 0), (fun i => [k1, k1, k2, k3].getD i 0)), rfl, rfl, by rw [ht]; exact hP, va_K.moved hW.alike hK, hD⟩, hS.F ht⟩) hS.2.2 dX2_init_65
  refine lv_aload_n hx hb dX2_init_30 rfl (lv_at hl 0 rfl) ?_
  refine lv_iload_n hx hb dX2_init_31 rfl (lv_at hl 1 rfl) ?_
  refine lv_iconst (v := nI 3) hx hb dX2_init_32 (by decide) ?_
  refine lv_icmp_ge (tgt := 40) hx hb dX2_init_33 (by decide) (fun c1 => ?_) (fun c1 => ?_)
  · refine lv_iload_n hx hb dX2_init_40 rfl (lv_at hl 1 rfl) ?_
    refine lv_bipush (v := nI 8) hx hb dX2_init_41 (by decide) ?_
    refine lv_icmp_le (tgt := 51) hx hb dX2_init_43 (by decide) (fun c2 => ?_) (fun c2 => ?_)
    · have e := nv_mid (x := x) (fa_nlt2 c1) (fa_nlt2 c2)
      rw [← e.1] at K
      refine lv_iload_n hx hb dX2_init_51 rfl (lv_at hl 1 rfl) ?_
      exact K
    · have e : nv x = 8 := nv_hi (fa_nlt2 c1) (fa_nge c2)
      refine lv_bipush (v := nI 8) hx hb dX2_init_46 (by decide) ?_
      refine lv_goto (tgt := 52) hx hb dX2_init_48 (by decide) ?_
      rw [e] at K ⊢
      exact K
  · have e : nv x = 3 := nv_lo (fa_nge c1)
    refine lv_iconst (v := nI 3) hx hb dX2_init_36 (by decide) ?_
    refine lv_goto (tgt := 52) hx hb dX2_init_37 (by decide) ?_
    rw [e] at K ⊢
    exact K
set_option maxHeartbeats 8000000 in
theorem met_cell (l : Launch) (b L : Nat) (xs : Nat → Int32) (hL : L ≤ 257) : Met l yX0_cell (ws_ yX0_cell cX0_cell 2 (some .int)) ({ frames := 0, cells := 0, slots := 0, locals := 0 } : Room) (va_Pc [.ref b, .int (nI 0)] (fun U => va_X b L xs U U.heap ∧ b < U.heap.size)) (va_Qi (S := Unit) (fun r _ => r = if 0 < L then xs 0 else nI 0) (fun _ _ => True) (fun _ => False)) 0 0 (fun _ => False) := by
  refine Met.ofW (cc := cX0_cell) (maxL := 2) (ret := (some .int)) (by decide) rfl ?_
  intro p e s m args below meth c s₁ B hml hv
  obtain ⟨rfl, hX, hbl⟩ := hv
  have hx := B.exec
  have hb := B.bytes
  have hr := B.returns
  have hlk := B.notSynchronized
  have hS : va_S (fun _ => False) s.heap s.heap [] := va_S.rf
  have hl := lv_entry ([.ref b, .int (nI 0)]) (n := 2) (Nat.le_of_ble_eq_true rfl)
  rw [lg_entry_eq]
  generalize (lg_sl ([.ref b, .int (nI 0)]) ++ List.replicate (2 - (lg_sl ([.ref b, .int (nI 0)])).length) Slot.unset).toArray = ls at hl ⊢
  have hl : lv_has ls 2 [(0, .ref b), (1, .int (nI 0))] := hl
  refine lv_iload_n hx hb dX0_cell_0 rfl (lv_at hl 1 rfl) ?_
  refine lv_aload_n hx hb dX0_cell_1 rfl (lv_at hl 0 rfl) ?_
  refine va_slen hx hb hX hbl (fun h => h) hS dX0_cell_2 ?_
  refine nv_icmp_ge (x := 0) (y := L) (tgt := 12) hx hb dX0_cell_3 (by decide) ⟨by decide, by omega⟩ (fun c1 => ?_) (fun c1 => ?_)
  · refine lv_iconst (v := nI 0) hx hb dX0_cell_12 (by decide) ?_
    exact W.iret hx hb hr (fun t ht hW => ⟨⟨nI 0, (), rfl, by rw [if_neg (by omega)], trivial⟩, hS.F ht⟩) hS.2.2 dX0_cell_13
  · refine lv_aload_n hx hb dX0_cell_6 rfl (lv_at hl 0 rfl) ?_
    refine lv_iload_n hx hb dX0_cell_7 rfl (lv_at hl 1 rfl) ?_
    refine va_sld hx hb hX hbl (fun h => h) hS (vp_in_nI c1 (by omega)) dX0_cell_8 ?_
    refine lv_goto (tgt := 13) hx hb dX0_cell_9 (by decide) ?_
    exact W.iret hx hb hr (fun t ht hW => ⟨⟨_, (), rfl, by rw [if_pos c1]; rfl, trivial⟩, hS.F ht⟩) hS.2.2 dX0_cell_13
end
section
/-! the two objects side by side: both answer alike, and stay alike -/
/-- one graph, one pair of ends in both -/
def Inv (ux : XS) (um : MS) : Prop := ∃ (n sr tg : Nat) (a r : Nat → Nat) (cf : Nat → Option Nat) (q : Nat → Nat) (st : Nat → Option Nat) (wh : Nat → Bool) (ms : Nat → Nat), ux = (n, sr, tg, a, r, cf, q, st) ∧ um = (n, sr, tg, a, wh, ms) ∧ n ≤ 8 ∧ sr < n ∧ tg < n ∧ sr ≠ tg ∧ Gok n a
/-- a method of the one and of the other, with the same arguments -/
def Pair (l : Launch) (D : va_G) (gx : Nat → Nat) (cx : Nat → ClassId) (ux : XS) (gm : Nat → Nat) (cm : Nat → ClassId) (um : MS) (yx : MethodName) (wx : List Cond) (rx : Room) (ym : MethodName) (wm : List Cond) (rm : Room) (av : List Value) : Prop := ∃ (px : Int32 → XS → Prop) (pm : Int32 → MS → Prop), WMi l yx wx rx D (XW gx cx ux) (XW gx cx) (XT cx) (.ref (gx 0) :: av) px ∧ WMi l ym wm rm D (MW gm cm um) (MW gm cm) (MT cm) (.ref (gm 0) :: av) pm ∧ ∀ r u r' u', px r u → pm r' u' → r = r' ∧ Inv u u'
theorem Inv.mk {n sr tg : Nat} {a r : Nat → Nat} {cf : Nat → Option Nat} {q : Nat → Nat} {st : Nat → Option Nat} {wh : Nat → Bool} {ms : Nat → Nat} (hn : n ≤ 8) (hs : sr < n) (ht : tg < n) (hst : sr ≠ tg) (hG : Gok n a) : Inv (n, sr, tg, a, r, cf, q, st) (n, sr, tg, a, wh, ms) := ⟨n, sr, tg, a, r, cf, q, st, wh, ms, rfl, rfl, hn, hs, ht, hst, hG⟩
theorem pr_vertices {l : Launch} {D : va_G} {gx : Nat → Nat} {cx : Nat → ClassId} {gm : Nat → Nat} {cm : Nat → ClassId} {ux : XS} {um : MS} (Iv : Inv ux um) : Pair l D gx cx ux gm cm um yX1_vertices (ws_ yX1_vertices cX1_vertices 1 (some .int)) ({ frames := 0, cells := 0, slots := 0, locals := 0 } : Room) yX2_vertices (ws_ yX2_vertices cX2_vertices 1 (some .int)) ({ frames := 0, cells := 0, slots := 0, locals := 0 } : Room) [] := by
  obtain ⟨n, sr, tg, a, r, cf, q, st, wh, ms, rfl, rfl, hn, hs, ht, hst, hG⟩ := Iv
  refine ⟨_, _, met_vertices l D gx cx n sr tg a r cf q st, mmt_vertices l D gm cm n sr tg a wh ms, ?_⟩
  rintro r1 u1 r2 u2 ⟨rfl, rfl⟩ ⟨rfl, rfl⟩
  exact ⟨rfl, Inv.mk hn hs ht hst hG⟩
theorem pr_paths {l : Launch} {D : va_G} {gx : Nat → Nat} {cx : Nat → ClassId} {gm : Nat → Nat} {cm : Nat → ClassId} {ux : XS} {um : MS} (Iv : Inv ux um) : Pair l D gx cx ux gm cm um yX1_paths (ws_ yX1_paths cX1_paths 1 (some .int)) ({ frames := 4, cells := 0, slots := 0, locals := 94 } : Room) yX2_paths (ws_ yX2_paths cX2_paths 4 (some .int)) ({ frames := 2, cells := 0, slots := 0, locals := 46 } : Room) [] := by
  obtain ⟨n, sr, tg, a, r, cf, q, st, wh, ms, rfl, rfl, hn, hs, ht, hst, hG⟩ := Iv
  refine ⟨_, _, met_paths l D gx cx n sr tg a r cf q st hn hs ht hst hG, mmt_paths l D gm cm n sr tg a wh ms hn hs ht hst hG, ?_⟩
  rintro r1 u1 r2 u2 ⟨x1, x2, x3, rfl, rfl⟩ ⟨y1, y2, rfl, rfl⟩
  exact ⟨rfl, Inv.mk hn hs ht hst hG⟩
theorem pr_cutSize {l : Launch} {D : va_G} {gx : Nat → Nat} {cx : Nat → ClassId} {gm : Nat → Nat} {cm : Nat → ClassId} {ux : XS} {um : MS} (Iv : Inv ux um) : Pair l D gx cx ux gm cm um yX1_cutSize (ws_ yX1_cutSize cX1_cutSize 1 (some .int)) ({ frames := 4, cells := 0, slots := 0, locals := 94 } : Room) yX2_cutSize (ws_ yX2_cutSize cX2_cutSize 2 (some .int)) ({ frames := 4, cells := 0, slots := 0, locals := 91 } : Room) [] := by
  obtain ⟨n, sr, tg, a, r, cf, q, st, wh, ms, rfl, rfl, hn, hs, ht, hst, hG⟩ := Iv
  refine ⟨_, _, met_cutSize l D gx cx n sr tg a r cf q st hn hs ht hst hG, mmt_cutSize l D gm cm n sr tg a wh ms hn hs ht hst hG, ?_⟩
  rintro r1 u1 r2 u2 ⟨x1, x2, x3, rfl, rfl⟩ ⟨rfl, rfl⟩
  exact ⟨rfl, Inv.mk hn hs ht hst hG⟩
theorem pr_firstCut {l : Launch} {D : va_G} {gx : Nat → Nat} {cx : Nat → ClassId} {gm : Nat → Nat} {cm : Nat → ClassId} {ux : XS} {um : MS} (Iv : Inv ux um) : Pair l D gx cx ux gm cm um yX1_firstCut (ws_ yX1_firstCut cX1_firstCut 6 (some .int)) ({ frames := 4, cells := 0, slots := 0, locals := 94 } : Room) yX2_firstCut (ws_ yX2_firstCut cX2_firstCut 1 (some .int)) ({ frames := 4, cells := 0, slots := 0, locals := 91 } : Room) [] := by
  obtain ⟨n, sr, tg, a, r, cf, q, st, wh, ms, rfl, rfl, hn, hs, ht, hst, hG⟩ := Iv
  refine ⟨_, _, met_firstCut l D gx cx n sr tg a r cf q st hn hs ht hst hG, mmt_firstCut l D gm cm n sr tg a wh ms hn hs ht hst hG, ?_⟩
  rintro r1 u1 r2 u2 ⟨x1, x2, x3, h1, rfl⟩ ⟨h2, rfl⟩
  refine ⟨?_, Inv.mk hn hs ht hst hG⟩
  rcases h1 with ⟨q1, e1⟩ | ⟨q1, C1, i1, e1⟩ <;> rcases h2 with ⟨q2, e2⟩ | ⟨q2, C2, i2, e2⟩
  · rw [e1, e2]
  · exact absurd q1 q2
  · exact absurd q2 q1
  · rw [e1, e2, i1.one i2]
theorem pr_tightEdges {l : Launch} {D : va_G} {gx : Nat → Nat} {cx : Nat → ClassId} {gm : Nat → Nat} {cm : Nat → ClassId} {ux : XS} {um : MS} (Iv : Inv ux um) : Pair l D gx cx ux gm cm um yX1_tightEdges (ws_ yX1_tightEdges cX1_tightEdges 6 (some .int)) ({ frames := 5, cells := 0, slots := 0, locals := 118 } : Room) yX2_tightEdges (ws_ yX2_tightEdges cX2_tightEdges 1 (some .int)) ({ frames := 4, cells := 0, slots := 0, locals := 94 } : Room) [] := by
  obtain ⟨n, sr, tg, a, r, cf, q, st, wh, ms, rfl, rfl, hn, hs, ht, hst, hG⟩ := Iv
  refine ⟨_, _, met_tightEdges l D gx cx n sr tg a r cf q st hn hs ht hst hG, mmt_tightEdges l D gm cm n sr tg a wh ms hn hs ht hst hG, ?_⟩
  rintro r1 u1 r2 u2 ⟨x1, x2, x3, rfl, rfl⟩ ⟨y1, y2, rfl, rfl⟩
  exact ⟨rfl, Inv.mk hn hs ht hst hG⟩
theorem pr_helpfulEdges {l : Launch} {D : va_G} {gx : Nat → Nat} {cx : Nat → ClassId} {gm : Nat → Nat} {cm : Nat → ClassId} {ux : XS} {um : MS} (Iv : Inv ux um) : Pair l D gx cx ux gm cm um yX1_helpfulEdges (ws_ yX1_helpfulEdges cX1_helpfulEdges 6 (some .int)) ({ frames := 5, cells := 0, slots := 0, locals := 118 } : Room) yX2_helpfulEdges (ws_ yX2_helpfulEdges cX2_helpfulEdges 1 (some .int)) ({ frames := 4, cells := 0, slots := 0, locals := 94 } : Room) [] := by
  obtain ⟨n, sr, tg, a, r, cf, q, st, wh, ms, rfl, rfl, hn, hs, ht, hst, hG⟩ := Iv
  refine ⟨_, _, met_helpfulEdges l D gx cx n sr tg a r cf q st hn hs ht hst hG, mmt_helpfulEdges l D gm cm n sr tg a wh ms hn hs ht hst hG, ?_⟩
  rintro r1 u1 r2 u2 ⟨x1, x2, x3, rfl, rfl⟩ ⟨y1, y2, rfl, rfl⟩
  exact ⟨rfl, Inv.mk hn hs ht hst hG⟩
theorem pr_distance {l : Launch} {D : va_G} {gx : Nat → Nat} {cx : Nat → ClassId} {gm : Nat → Nat} {cm : Nat → ClassId} {ux : XS} {um : MS} (Iv : Inv ux um) : Pair l D gx cx ux gm cm um yX1_distance (ws_ yX1_distance cX1_distance 3 (some .int)) ({ frames := 2, cells := 0, slots := 0, locals := 45 } : Room) yX2_distance (ws_ yX2_distance cX2_distance 5 (some .int)) ({ frames := 1, cells := 0, slots := 0, locals := 22 } : Room) [] := by
  obtain ⟨n, sr, tg, a, r, cf, q, st, wh, ms, rfl, rfl, hn, hs, ht, hst, hG⟩ := Iv
  refine ⟨_, _, met_distance l D gx cx n sr tg a r cf q st hn hs ht hst hG, mmt_distance l D gm cm n sr tg a wh ms hn hs ht hst hG, ?_⟩
  rintro r1 u1 r2 u2 ⟨o1, x1, d1, e1, rfl⟩ ⟨o2, d2, e2, rfl⟩
  exact ⟨by rw [e1, e2, d1.one d2], Inv.mk hn hs ht hst hG⟩
theorem pr_strength {l : Launch} {D : va_G} {gx : Nat → Nat} {cx : Nat → ClassId} {gm : Nat → Nat} {cm : Nat → ClassId} {ux : XS} {um : MS} (Iv : Inv ux um) : Pair l D gx cx ux gm cm um yX1_strength (ws_ yX1_strength cX1_strength 7 (some .int)) ({ frames := 4, cells := 0, slots := 0, locals := 94 } : Room) yX2_strength (ws_ yX2_strength cX2_strength 7 (some .int)) ({ frames := 3, cells := 0, slots := 0, locals := 69 } : Room) [] := by
  obtain ⟨n, sr, tg, a, r, cf, q, st, wh, ms, rfl, rfl, hn, hs, ht, hst, hG⟩ := Iv
  refine ⟨_, _, met_strength l D gx cx n sr tg a r cf q st hn hs ht hst hG, mmt_strength l D gm cm n sr tg a wh ms hn hs ht hst hG, ?_⟩
  rintro r1 u1 r2 u2 ⟨x1, x2, x3, rfl, rfl⟩ ⟨y1, y2, rfl, rfl⟩
  exact ⟨rfl, Inv.mk hn hs ht hst hG⟩
theorem pr_clear {l : Launch} {D : va_G} {gx : Nat → Nat} {cx : Nat → ClassId} {gm : Nat → Nat} {cm : Nat → ClassId} {ux : XS} {um : MS} (Iv : Inv ux um) : Pair l D gx cx ux gm cm um yX1_clear (ws_ yX1_clear cX1_clear 4 (some .int)) ({ frames := 0, cells := 0, slots := 0, locals := 0 } : Room) yX2_clear (ws_ yX2_clear cX2_clear 3 (some .int)) ({ frames := 1, cells := 0, slots := 0, locals := 23 } : Room) [] := by
  obtain ⟨n, sr, tg, a, r, cf, q, st, wh, ms, rfl, rfl, hn, hs, ht, hst, hG⟩ := Iv
  refine ⟨_, _, met_clear l D gx cx n sr tg a r cf q st hn hG, mmt_clear l D gm cm n sr tg a wh ms hn hG, ?_⟩
  rintro r1 u1 r2 u2 ⟨rfl, rfl⟩ ⟨rfl, rfl⟩
  exact ⟨rfl, Inv.mk hn hs ht hst (Gok_zr n a)⟩
theorem pr_cutWith {l : Launch} {D : va_G} {gx : Nat → Nat} {cx : Nat → ClassId} {gm : Nat → Nat} {cm : Nat → ClassId} {ux : XS} {um : MS} (Iv : Inv ux um) (z : Int32) : Pair l D gx cx ux gm cm um yX1_cutWith (ws_ yX1_cutWith cX1_cutWith 2 (some .int)) ({ frames := 4, cells := 0, slots := 0, locals := 94 } : Room) yX2_cutWith (ws_ yX2_cutWith cX2_cutWith 3 (some .int)) ({ frames := 4, cells := 0, slots := 0, locals := 91 } : Room) [.int z] := by
  obtain ⟨n, sr, tg, a, r, cf, q, st, wh, ms, rfl, rfl, hn, hs, ht, hst, hG⟩ := Iv
  cases hb : xbad n z with
  | true =>
    refine ⟨_, _, met_cutWith_bad l D gx cx n sr tg a r cf q st z hb, mmt_cutWith_bad l D gm cm n sr tg a wh ms z hb, ?_⟩
    rintro r1 u1 r2 u2 ⟨rfl, rfl⟩ ⟨rfl, rfl⟩
    exact ⟨rfl, Inv.mk hn hs ht hst hG⟩
  | false =>
    obtain ⟨v, hv, rfl⟩ := xbad_f hn hb
    refine ⟨_, _, met_cutWith l D gx cx n sr tg a r cf q st v hn hs ht hst hG hv, mmt_cutWith l D gm cm n sr tg a wh ms v hn hs ht hst hG hv, ?_⟩
    rintro r1 u1 r2 u2 ⟨x1, x2, x3, rfl, rfl⟩ ⟨rfl, rfl⟩
    exact ⟨rfl, Inv.mk hn hs ht hst hG⟩
theorem pr_loss {l : Launch} {D : va_G} {gx : Nat → Nat} {cx : Nat → ClassId} {gm : Nat → Nat} {cm : Nat → ClassId} {ux : XS} {um : MS} (Iv : Inv ux um) (z : Int32) : Pair l D gx cx ux gm cm um yX1_loss (ws_ yX1_loss cX1_loss 4 (some .int)) ({ frames := 4, cells := 0, slots := 0, locals := 94 } : Room) yX2_loss (ws_ yX2_loss cX2_loss 6 (some .int)) ({ frames := 3, cells := 0, slots := 0, locals := 69 } : Room) [.int z] := by
  obtain ⟨n, sr, tg, a, r, cf, q, st, wh, ms, rfl, rfl, hn, hs, ht, hst, hG⟩ := Iv
  cases hb : xbad n z with
  | true =>
    refine ⟨_, _, met_loss_bad l D gx cx n sr tg a r cf q st z hb, mmt_loss_bad l D gm cm n sr tg a wh ms z hb, ?_⟩
    rintro r1 u1 r2 u2 ⟨rfl, rfl⟩ ⟨rfl, rfl⟩
    exact ⟨rfl, Inv.mk hn hs ht hst hG⟩
  | false =>
    obtain ⟨v, hv, rfl⟩ := xbad_f hn hb
    refine ⟨_, _, met_loss l D gx cx n sr tg a r cf q st v hn hs ht hst hG hv, mmt_loss l D gm cm n sr tg a wh ms v hn hs ht hst hG hv, ?_⟩
    rintro r1 u1 r2 u2 ⟨x1, x2, x3, rfl, rfl⟩ ⟨y1, y2, rfl, rfl⟩
    exact ⟨rfl, Inv.mk hn hs ht hst hG⟩
theorem pr_joined {l : Launch} {D : va_G} {gx : Nat → Nat} {cx : Nat → ClassId} {gm : Nat → Nat} {cm : Nat → ClassId} {ux : XS} {um : MS} (Iv : Inv ux um) (z w : Int32) : Pair l D gx cx ux gm cm um yX1_joined (ws_ yX1_joined cX1_joined 3 (some .boolean)) ({ frames := 2, cells := 0, slots := 0, locals := 43 } : Room) yX2_joined (ws_ yX2_joined cX2_joined 3 (some .boolean)) ({ frames := 1, cells := 0, slots := 0, locals := 22 } : Room) [.int z, .int w] := by
  obtain ⟨n, sr, tg, a, r, cf, q, st, wh, ms, rfl, rfl, hn, hs, ht, hst, hG⟩ := Iv
  cases hb : xbad n z || xbad n w with
  | true =>
    have hbp : xbp n z w = true := by unfold xbp; rw [hb]; rfl
    refine ⟨_, _, met_joined_bad l D gx cx n sr tg a r cf q st z w hbp, mmt_joined_bad l D gm cm n sr tg a wh ms z w hb, ?_⟩
    rintro r1 u1 r2 u2 ⟨rfl, rfl⟩ ⟨rfl, rfl⟩
    exact ⟨rfl, Inv.mk hn hs ht hst hG⟩
  | false =>
    obtain ⟨b1, b2⟩ := Bool.or_eq_false_iff.mp hb
    obtain ⟨j, hj, rfl⟩ := xbad_f hn b1
    obtain ⟨k, hk, rfl⟩ := xbad_f hn b2
    by_cases hjk : j = k
    · subst hjk
      have hbp : xbp n (nI j) (nI j) = true := by unfold xbp; rw [b1]; simp
      refine ⟨_, _, met_joined_bad l D gx cx n sr tg a r cf q st (nI j) (nI j) hbp, mmt_joined l D gm cm n sr tg a wh ms j j hn hj hj (hG.b31 hn hj), ?_⟩
      rintro r1 u1 r2 u2 ⟨rfl, rfl⟩ ⟨rfl, rfl⟩
      refine ⟨?_, Inv.mk hn hs ht hst hG⟩
      rw [nmb (fun z => (hG j hj j z).2.1 rfl)]
      rfl
    · refine ⟨_, _, met_joined l D gx cx n sr tg a r cf q st j k hn hj hk hjk (hG.b31 hn hj) (hG.b31 hn hk), mmt_joined l D gm cm n sr tg a wh ms j k hn hj hk (hG.b31 hn hj), ?_⟩
      rintro r1 u1 r2 u2 ⟨rfl, rfl⟩ ⟨rfl, rfl⟩
      exact ⟨rfl, Inv.mk hn hs ht hst hG⟩
theorem pr_ends {l : Launch} {D : va_G} {gx : Nat → Nat} {cx : Nat → ClassId} {gm : Nat → Nat} {cm : Nat → ClassId} {ux : XS} {um : MS} (Iv : Inv ux um) (z w : Int32) : Pair l D gx cx ux gm cm um yX1_ends (ws_ yX1_ends cX1_ends 3 (some .int)) ({ frames := 2, cells := 0, slots := 0, locals := 43 } : Room) yX2_ends (ws_ yX2_ends cX2_ends 3 (some .int)) ({ frames := 1, cells := 0, slots := 0, locals := 21 } : Room) [.int z, .int w] := by
  obtain ⟨n, sr, tg, a, r, cf, q, st, wh, ms, rfl, rfl, hn, hs, ht, hst, hG⟩ := Iv
  cases hb : xbp n z w with
  | true =>
    refine ⟨_, _, met_ends_bad l D gx cx n sr tg a r cf q st z w hb, mmt_ends_bad l D gm cm n sr tg a wh ms z w hb, ?_⟩
    rintro r1 u1 r2 u2 ⟨rfl, rfl⟩ ⟨rfl, rfl⟩
    exact ⟨rfl, Inv.mk hn hs ht hst hG⟩
  | false =>
    obtain ⟨j, k, hj, hk, hjk, rfl, rfl⟩ := xbp_f hn hb
    refine ⟨_, _, met_ends l D gx cx n sr tg a r cf q st j k hn hj hk hjk, mmt_ends l D gm cm n sr tg a wh ms j k hn hj hk hjk, ?_⟩
    rintro r1 u1 r2 u2 ⟨rfl, rfl⟩ ⟨rfl, rfl⟩
    exact ⟨rfl, Inv.mk hn hj hk hjk hG⟩
theorem pr_edge {l : Launch} {D : va_G} {gx : Nat → Nat} {cx : Nat → ClassId} {gm : Nat → Nat} {cm : Nat → ClassId} {ux : XS} {um : MS} (Iv : Inv ux um) (z w o : Int32) : Pair l D gx cx ux gm cm um yX1_edge (ws_ yX1_edge cX1_edge 5 (some .int)) ({ frames := 2, cells := 0, slots := 0, locals := 43 } : Room) yX2_edge (ws_ yX2_edge cX2_edge 5 (some .int)) ({ frames := 1, cells := 0, slots := 0, locals := 23 } : Room) [.int z, .int w, .int o] := by
  obtain ⟨n, sr, tg, a, r, cf, q, st, wh, ms, rfl, rfl, hn, hs, ht, hst, hG⟩ := Iv
  cases hb : xbp n z w with
  | true =>
    refine ⟨_, _, met_edge_bad l D gx cx n sr tg a r cf q st z w o hb, mmt_edge_bad l D gm cm n sr tg a wh ms z w o hb, ?_⟩
    rintro r1 u1 r2 u2 ⟨rfl, rfl⟩ ⟨rfl, rfl⟩
    exact ⟨rfl, Inv.mk hn hs ht hst hG⟩
  | false =>
    obtain ⟨j, k, hj, hk, hjk, rfl, rfl⟩ := xbp_f hn hb
    refine ⟨_, _, met_edge l D gx cx n sr tg a r cf q st j k o hn hj hk hjk (hG.b31 hn hj) (hG.b31 hn hk), mmt_edge l D gm cm n sr tg a wh ms j k o hn hj hk hjk (hG.b31 hn hj) (hG.b31 hn hk), ?_⟩
    rintro r1 u1 r2 u2 ⟨rfl, rfl⟩ ⟨rfl, rfl⟩
    refine ⟨rfl, Inv.mk hn hs ht hst ?_⟩
    by_cases ho : o = 0
    · rw [if_pos ho]; exact Gok_ulk hG hjk
    · rw [if_neg ho]; exact Gok_lnk hG hj hk hjk
end
section
/-! THE CLAIM OUT OF ONE WALK OF THE LAW'S BODY. Your part is whole_start (and what it stands on); all else here is the same for every law, but numbers. -/
def R_law : String := "DisjointPathsLaw"
def lw_P (b : Addr) (xs : List Int32) (args : Array Value) (s : State) : Prop := args = #[.ref b] ∧ s.IntsAt b xs ∧ xs.length ≤ 257 ∧ (Jvm.Cond.and given_1 narrow_1).before args s = true
def lw_Q (_ : Array Value) (s : State) (o : Outcome) (t : State) : Prop := o = .returned (some (.int 1)) ∧ Framed s o t [] 600000 7290000
def lw_Z (below : List Frame) (a : Array Value) (s : State) : State → Prop := fun t => ∃ o, t.status = .running ∧ Ended t below o ∧ lw_Q a s o t
/-- the law's own end, with 1 on the stack, nothing written that was there before, its room as the claim has it -/
theorem lw_ret {p : Program} {l : Launch} {e : Env} {s : State} {m : MethodId} {below : List Frame} {meth : Method} {c : Code} {b : Nat} (hx : p.tables.exec = Jvm.exec) (hb : c.code = code) (hr : meth.sig.returnType = ret) (hlocks : meth.locks = false) {pc : Nat} {H : Heap} {ls : Array Slot} (hdg : decode code pc = .ok (.ireturn, 1)) : W p l e room_1 s m #[Value.ref b] below meth c H [] 600000 7290000 (lw_Z below #[Value.ref b] s) (F0 m pc ls [.int 1]) := by
  intro T hT X
  obtain ⟨fs, hret, hrun, hended, hW, hframe⟩ := X.leave (v := some (.int 1)) (hlocks := hlocks) (fun h => by rw [hr] at h; cases h)
  have hmeth' : T.vm.method? m = some meth := X.method'
  refine ⟨T.setFrames fs, ?_, .returned (some (.int 1)), hrun, hended, rfl, ⟨_, rfl⟩, hW, hframe⟩
  jvm_step X.here [X.here.top, hx, hb, hdg, hmeth', hr, ret, narrow_b1]
  (try refine ⟨rfl, ?_⟩); (try refine ⟨rfl, ?_⟩)
  first | (intro acts; rw [hret _ acts rfl rfl rfl]) | rw [hret _ _ rfl rfl rfl]
  exact Steps.refl _
/-- what holds at the law's entry: the machine, the code, the tables' words (any of lw_tbl by 'hts w (by decide +kernel)'), the script of L ints xs at the cell b, what the Statement gives of the start (any of its parts by flat_of_before) -/
def lw_At (p : Program) (s : State) (m : MethodId) (meth : Method) (c : Code) (b L : Nat) (xs : Nat → Int32) : Prop :=
  p.tables.exec = Jvm.exec ∧ c.code = code ∧ meth.sig.returnType = ret ∧ c.maxLocals = 4 ∧ s.vm.findClass R_law = some m.cls ∧ (∀ w ∈ lw_tbl, w.before #[Value.ref b] s = true) ∧ va_X b L xs s s.heap ∧ b < s.heap.size ∧ meth.locks = false ∧ (Jvm.Cond.and given_1 narrow_1).before #[Value.ref b] s = true
end
section
/-! the law: its loop, its start -/
def JI (D : va_G) (gx : Nat → Nat) (cx : Nat → ClassId) (ux : XS) (gm : Nat → Nat) (cm : Nat → ClassId) (um : MS) (A : Nat → Prop) (s : State) (H0 H : Heap) (locs : List Loc) : Prop := WI D (XW gx cx ux ++ MW gm cm um) (XT cx ++ MT cm) A s H0 H locs
section LW
variable {p : Program} {l : Launch} {e : Env} {R : Room} {s : State} {m : MethodId} {args : Array Value} {below : List Frame} {meth : Method} {c : Code} {H : Heap} {locs : List Loc} {cells slots : Nat} {Q : State → Prop} {pc : Nat} {ls : Array Slot} {rest : List Value} {cc : ByteArray} {nL : Nat} {own : String} {D : va_G} {A : Nat → Prop} {H0 : Heap} {gx gm : Nat → Nat} {cx cm : Nat → ClassId} {ux : XS} {um : MS}
/-- a call on the one object, the other stays -/
theorem lc_x {y : MethodName} {wd : List Cond} {rm : Room} {av : List Value} {post : Int32 → XS → Prop} {index maxL n : Nat} {bytes : ByteArray} {rt : Option FieldType} {st0 : List Value} {lv : List (Nat × Value)}
    (F : CallFix p m c cc nL s args lw_all own) (I : JI D gx cx ux gm cm um A s H0 H locs) (hM : WMi l y wd rm D (XW gx cx ux) (XW gx cx) (XT cx) (.ref (gx 0) :: av) post) (cw : CallW R s args own RX1 index y bytes maxL rt wd rm 0 0 n)
    (hl : lv_has ls nL lv) (hn : av.length = n) (hst : st0 = av.reverse ++ .ref (gx 0) :: rest) (hroom : (rest.map fun v => v.category).sum ≤ 8) (hdg : decode cc pc = .ok (.invokevirtual index, 3)) (hf : cells ≤ R.cells ∧ slots ≤ R.slots)
    (kk : ∀ (r : Int32) (u : XS) (H1 : Heap) (locs1 : List Loc), post r u → JI D gx cx u gm cm um A s H0 H1 locs1 → W p l e R s m args below meth c H1 locs1 cells slots Q (F0 m (pc + 3) ls (.int r :: rest))) : W p l e R s m args below meth c H locs cells slots Q (F0 m pc ls st0) := by
  subst hst
  obtain ⟨hK, hP, hD, hS, hA⟩ := I
  have hPc := hP.sub (ws' := XW gx cx ux) [0, 1, 2, 3, 4, 5] rfl
  have hDc := hD.sub (ws' := XW gx cx ux) [0, 1, 2, 3, 4, 5] (by decide) rfl
  have hKc := hK.sub (tys' := XT cx) [0, 1, 2, 3, 4] rfl
  have hFc := va_free (wc := XW gx cx ux) hD hS hA [0, 1, 2, 3, 4, 5] rfl
  refine va_calli (va_runV (As := av) (rest := rest) F (hM H.size) cw ⟨WPc.blind, va_recv hKc hPc (ci := 0) (q0 := 0) rfl rfl, fun U hU hW => ⟨rfl, by rw [hU], by rw [hU]; exact hPc, va_K.moved hW.alike hKc, hDc.weaken (fun _ _ _ _ => trivial)⟩⟩ rfl hn hl.1 rfl (lv_room hroom) hdg hf) hS (fun q _ h => hFc q h) hFc (fun r u t H1 locs1 ht hvm hw hB hz1 hk1 hS => ?_)
  obtain ⟨hP1, hK1, hD1⟩ := hB
  rw [ht] at hP1
  obtain ⟨hP, hD⟩ := va_join (wr := MW gm cm um) (w1 := XW gx cx u) hP hD [0, 1, 2, 3, 4, 5] [6, 7, 8, 9] rfl rfl (by decide) (by decide) hk1 hFc hP1 hD1
  exact kk r u H1 locs1 hw ⟨hK, hP.sub [4, 5, 6, 7, 8, 9, 0, 1, 2, 3] rfl, hD.sub [4, 5, 6, 7, 8, 9, 0, 1, 2, 3] (by decide) rfl, hS, hA⟩
/-- a call on the one object, the other stays -/
theorem lc_m {y : MethodName} {wd : List Cond} {rm : Room} {av : List Value} {post : Int32 → MS → Prop} {index maxL n : Nat} {bytes : ByteArray} {rt : Option FieldType} {st0 : List Value} {lv : List (Nat × Value)}
    (F : CallFix p m c cc nL s args lw_all own) (I : JI D gx cx ux gm cm um A s H0 H locs) (hM : WMi l y wd rm D (MW gm cm um) (MW gm cm) (MT cm) (.ref (gm 0) :: av) post) (cw : CallW R s args own RX2 index y bytes maxL rt wd rm 0 0 n)
    (hl : lv_has ls nL lv) (hn : av.length = n) (hst : st0 = av.reverse ++ .ref (gm 0) :: rest) (hroom : (rest.map fun v => v.category).sum ≤ 8) (hdg : decode cc pc = .ok (.invokevirtual index, 3)) (hf : cells ≤ R.cells ∧ slots ≤ R.slots)
    (kk : ∀ (r : Int32) (u : MS) (H1 : Heap) (locs1 : List Loc), post r u → JI D gx cx ux gm cm u A s H0 H1 locs1 → W p l e R s m args below meth c H1 locs1 cells slots Q (F0 m (pc + 3) ls (.int r :: rest))) : W p l e R s m args below meth c H locs cells slots Q (F0 m pc ls st0) := by
  subst hst
  obtain ⟨hK, hP, hD, hS, hA⟩ := I
  have hPc := hP.sub (ws' := MW gm cm um) [6, 7, 8, 9] rfl
  have hDc := hD.sub (ws' := MW gm cm um) [6, 7, 8, 9] (by decide) rfl
  have hKc := hK.sub (tys' := MT cm) [5, 6, 7] rfl
  have hFc := va_free (wc := MW gm cm um) hD hS hA [6, 7, 8, 9] rfl
  refine va_calli (va_runV (As := av) (rest := rest) F (hM H.size) cw ⟨WPc.blind, va_recv hKc hPc (ci := 1) (q0 := 0) rfl rfl, fun U hU hW => ⟨rfl, by rw [hU], by rw [hU]; exact hPc, va_K.moved hW.alike hKc, hDc.weaken (fun _ _ _ _ => trivial)⟩⟩ rfl hn hl.1 rfl (lv_room hroom) hdg hf) hS (fun q _ h => hFc q h) hFc (fun r u t H1 locs1 ht hvm hw hB hz1 hk1 hS => ?_)
  obtain ⟨hP1, hK1, hD1⟩ := hB
  rw [ht] at hP1
  obtain ⟨hP, hD⟩ := va_join (wr := XW gx cx ux) (w1 := MW gm cm u) hP hD [6, 7, 8, 9] [0, 1, 2, 3, 4, 5] rfl rfl (by decide) (by decide) hk1 hFc hP1 hD1
  exact kk r u H1 locs1 hw ⟨hK, hP.sub [0, 1, 2, 3, 4, 5, 6, 7, 8, 9] rfl, hD.sub [0, 1, 2, 3, 4, 5, 6, 7, 8, 9] (by decide) rfl, hS, hA⟩
end LW
theorem law_le {i L : Nat} (hi : i ≤ 300) (hL : L ≤ 257) (h : ¬ nI L - nI 4 < nI i) : i + 4 ≤ L := by
  rw [Int32.lt_iff_toInt_lt, nI_toInt (by omega)] at h
  have e : (nI L - nI 4).toInt = (L : Int) - 4 := by
    rw [Int32.toInt_sub, nI_toInt (by omega), nI_toInt (by omega)]
    rw [Int.bmod_eq_of_le] <;> omega
  omega
set_option maxHeartbeats 8000000 in
set_option maxRecDepth 100000 in
/-- the law's loop at its head: i ints are read -/
theorem law_loop {p : Program} {l : Launch} {e : Env} {s : State} {m : MethodId} {below : List Frame} {meth : Method} {c : Code} {b L : Nat} {xs : Nat → Int32} (hL : L ≤ 257) (C0 : lw_At p s m meth c b L xs) {D : va_G} {gx gm : Nat → Nat} {cx cm : Nat → ClassId} :
    ∀ (k i : Nat), i ≤ L + 1 → L + 2 ≤ i + k → ∀ (ux : XS) (um : MS), Inv ux um → ∀ (H : Heap) (locs : List Loc), JI D gx cx ux gm cm um (fun q : Nat => s.heap.size ≤ q) s s.heap H locs → ∀ (ls : Array Slot), lv_has ls 4 [(0, .ref b), (1, .ref (gx 0)), (2, .ref (gm 0)), (3, .int (nI i))] → W p l e room_1 s m #[Value.ref b] below meth c H locs 600000 7290000 (lw_Z below #[Value.ref b] s) (F0 m 28 ls []) := by
  obtain ⟨hx, hb, hr, hml, hown, hts0, hX, hbl, hlocks, hgv⟩ := id C0
  have hts : ∀ w ∈ lw_all, w.before #[Value.ref b] s = true := fun w h => hts0 w (lw_all_tbl h)
  have F : CallFix p m c cL_law 4 s #[Value.ref b] lw_all RX0 := ⟨hx, hb, hml, hown, hts⟩
  have hbA : ¬ (fun q : Nat => s.heap.size ≤ q) b := Nat.not_le.mpr hbl
  intro k
  induction k with
  | zero =>
    intro i h1 h2
    exact absurd h2 (by omega)
  | succ k ih =>
    intro i hi hk ux um Iv H locs I ls hl
    refine lv_iload_n hx hb dL_law_28 rfl (lv_at hl 3 rfl) ?_
    refine lv_aload_n hx hb dL_law_29 rfl (lv_at hl 0 rfl) ?_
    refine va_slen hx hb hX hbl hbA I.2.2.2.1 dL_law_30 ?_
    refine lv_iconst (v := nI 4) hx hb dL_law_31 (by decide) ?_
    refine lv_isub hx hb dL_law_32 ?_
    refine lv_icmp_gt (tgt := 390) hx hb dL_law_33 (by decide) (fun c1 => ?_) (fun c1 => ?_)
    · refine lv_iconst (v := 1) hx hb dL_law_390 (by decide) ?_
      refine va_forget (fun q hq => I.2.2.2.1.2.2 q hq) ?_
      exact lw_ret hx hb hr hlocks dL_law_391
    · have hi4 : i + 4 ≤ L := law_le (by omega) hL c1
      refine lv_aload_n hx hb dL_law_36 rfl (lv_at hl 0 rfl) ?_
      refine lv_iload_n hx hb dL_law_37 rfl (lv_at hl 3 rfl) ?_
      refine va_sld hx hb hX hbl hbA I.2.2.2.1 (vp_in_nI (by omega) (by omega)) dL_law_38 ?_
      refine lv_bipush (v := 15) hx hb dL_law_39 (by decide) ?_
      refine lv_iand hx hb dL_law_41 ?_
      have next : ∀ (ux : XS) (um : MS), Inv ux um → ∀ (H : Heap) (locs : List Loc), JI D gx cx ux gm cm um (fun q : Nat => s.heap.size ≤ q) s s.heap H locs → W p l e room_1 s m #[Value.ref b] below meth c H locs 600000 7290000 (lw_Z below #[Value.ref b] s) (F0 m 384 ls []) := by
        intro ux um Iv H locs I
        refine lv_iinc (v := nI (i + 4)) (lv' := [(3, .int (nI (i + 4))), (0, .ref b), (1, .ref (gx 0)), (2, .ref (gm 0))]) hx hb dL_law_384 hl (k := 3) rfl (by rw [← nI_add]; rfl) (by decide) rfl (fun ls hl => ?_)
        refine lv_goto (tgt := 28) hx hb dL_law_387 (by decide) ?_
        exact ih (i + 4) (by omega) (by omega) ux um Iv H locs I ls (lv_sub hl [1, 2, 3, 0] rfl)
      obtain ⟨j, hj, ej⟩ := pk_andE (xs (nI i).toNatClampNeg) (m := 15) 4 (by decide)
      rw [ej]
      have hj : j < 16 := hj
      rcases (show j = 0 ∨ j = 1 ∨ j = 2 ∨ j = 3 ∨ j = 4 ∨ j = 5 ∨ j = 6 ∨ j = 7 ∨ j = 8 ∨ j = 9 ∨ j = 10 ∨ j = 11 ∨ j = 12 ∨ j = 13 ∨ j = 14 ∨ j = 15 by omega) with rfl | rfl | rfl | rfl | rfl | rfl | rfl | rfl | rfl | rfl | rfl | rfl | rfl | rfl | rfl | rfl
      · refine lv_tableIn (off := 70) (tgt := 112) hx hb dL_law_42 (by decide) (by decide) (by decide) (by decide) ?_
        obtain ⟨px, pm, hX1, hM1, hag⟩ := pr_vertices (l := l) (D := D) (gx := gx) (cx := cx) (gm := gm) (cm := cm) Iv
        refine lv_aload_n hx hb dL_law_112 rfl (lv_at hl 1 rfl) ?_
        refine lc_x F I hX1 (cwV 0 hts (lw_V q59 q60 q61 q23 q62) rfl rfl rfl (by decide +kernel) ⟨Nat.le_of_ble_eq_true rfl, Nat.le_of_ble_eq_true rfl⟩) hl rfl rfl (Nat.le_of_ble_eq_true rfl) dL_law_113 ⟨Nat.le_refl 600000, Nat.le_refl 7290000⟩ (fun rx ux1 H locs px1 I => ?_)
        refine lv_aload_n hx hb dL_law_116 rfl (lv_at hl 2 rfl) ?_
        refine lc_m F I hM1 (cwV 0 hts (lw_V q192 q193 q194 q24 q195) rfl rfl rfl (by decide +kernel) ⟨Nat.le_of_ble_eq_true rfl, Nat.le_of_ble_eq_true rfl⟩) hl rfl rfl (Nat.le_of_ble_eq_true rfl) dL_law_117 ⟨Nat.le_refl 600000, Nat.le_refl 7290000⟩ (fun rm um1 H locs pm1 I => ?_)
        obtain ⟨e12, Iv2⟩ := hag _ _ _ _ px1 pm1
        exact lv_icmp_eq (tgt := 384) hx hb dL_law_120 (by decide) (fun _ => next _ _ Iv2 _ _ I) (fun c9 => absurd e12 c9)
      · refine lv_tableIn (off := 83) (tgt := 125) hx hb dL_law_42 (by decide) (by decide) (by decide) (by decide) ?_
        obtain ⟨px, pm, hX1, hM1, hag⟩ := pr_edge (l := l) (D := D) (gx := gx) (cx := cx) (gm := gm) (cm := cm) Iv (xs (nI (i + 1)).toNatClampNeg) (xs (nI (i + 2)).toNatClampNeg) (xs (nI (i + 3)).toNatClampNeg)
        refine lv_aload_n hx hb dL_law_125 rfl (lv_at hl 1 rfl) ?_
        refine lv_aload_n hx hb dL_law_126 rfl (lv_at hl 0 rfl) ?_
        refine lv_iload_n hx hb dL_law_127 rfl (lv_at hl 3 rfl) ?_
        refine lv_iconst (v := nI 1) hx hb dL_law_128 (by decide) ?_
        refine nv_iadd hx hb dL_law_129 ?_
        refine va_sld hx hb hX hbl hbA I.2.2.2.1 (vp_in_nI (by omega) (by omega)) dL_law_130 ?_
        refine lv_aload_n hx hb dL_law_131 rfl (lv_at hl 0 rfl) ?_
        refine lv_iload_n hx hb dL_law_132 rfl (lv_at hl 3 rfl) ?_
        refine lv_iconst (v := nI 2) hx hb dL_law_133 (by decide) ?_
        refine nv_iadd hx hb dL_law_134 ?_
        refine va_sld hx hb hX hbl hbA I.2.2.2.1 (vp_in_nI (by omega) (by omega)) dL_law_135 ?_
        refine lv_aload_n hx hb dL_law_136 rfl (lv_at hl 0 rfl) ?_
        refine lv_iload_n hx hb dL_law_137 rfl (lv_at hl 3 rfl) ?_
        refine lv_iconst (v := nI 3) hx hb dL_law_138 (by decide) ?_
        refine nv_iadd hx hb dL_law_139 ?_
        refine va_sld hx hb hX hbl hbA I.2.2.2.1 (vp_in_nI (by omega) (by omega)) dL_law_140 ?_
        refine lc_x F I hX1 (cwV 3 hts (lw_V q63 q64 q65 q23 q66) rfl rfl rfl (by decide +kernel) ⟨Nat.le_of_ble_eq_true rfl, Nat.le_of_ble_eq_true rfl⟩) hl rfl rfl (Nat.le_of_ble_eq_true rfl) dL_law_141 ⟨Nat.le_refl 600000, Nat.le_refl 7290000⟩ (fun rx ux1 H locs px1 I => ?_)
        refine lv_aload_n hx hb dL_law_144 rfl (lv_at hl 2 rfl) ?_
        refine lv_aload_n hx hb dL_law_145 rfl (lv_at hl 0 rfl) ?_
        refine lv_iload_n hx hb dL_law_146 rfl (lv_at hl 3 rfl) ?_
        refine lv_iconst (v := nI 1) hx hb dL_law_147 (by decide) ?_
        refine nv_iadd hx hb dL_law_148 ?_
        refine va_sld hx hb hX hbl hbA I.2.2.2.1 (vp_in_nI (by omega) (by omega)) dL_law_149 ?_
        refine lv_aload_n hx hb dL_law_150 rfl (lv_at hl 0 rfl) ?_
        refine lv_iload_n hx hb dL_law_151 rfl (lv_at hl 3 rfl) ?_
        refine lv_iconst (v := nI 2) hx hb dL_law_152 (by decide) ?_
        refine nv_iadd hx hb dL_law_153 ?_
        refine va_sld hx hb hX hbl hbA I.2.2.2.1 (vp_in_nI (by omega) (by omega)) dL_law_154 ?_
        refine lv_aload_n hx hb dL_law_155 rfl (lv_at hl 0 rfl) ?_
        refine lv_iload_n hx hb dL_law_156 rfl (lv_at hl 3 rfl) ?_
        refine lv_iconst (v := nI 3) hx hb dL_law_157 (by decide) ?_
        refine nv_iadd hx hb dL_law_158 ?_
        refine va_sld hx hb hX hbl hbA I.2.2.2.1 (vp_in_nI (by omega) (by omega)) dL_law_159 ?_
        refine lc_m F I hM1 (cwV 3 hts (lw_V q196 q197 q198 q24 q199) rfl rfl rfl (by decide +kernel) ⟨Nat.le_of_ble_eq_true rfl, Nat.le_of_ble_eq_true rfl⟩) hl rfl rfl (Nat.le_of_ble_eq_true rfl) dL_law_160 ⟨Nat.le_refl 600000, Nat.le_refl 7290000⟩ (fun rm um1 H locs pm1 I => ?_)
        obtain ⟨e12, Iv2⟩ := hag _ _ _ _ px1 pm1
        exact lv_icmp_eq (tgt := 384) hx hb dL_law_163 (by decide) (fun _ => next _ _ Iv2 _ _ I) (fun c9 => absurd e12 c9)
      · refine lv_tableIn (off := 126) (tgt := 168) hx hb dL_law_42 (by decide) (by decide) (by decide) (by decide) ?_
        obtain ⟨px, pm, hX1, hM1, hag⟩ := pr_joined (l := l) (D := D) (gx := gx) (cx := cx) (gm := gm) (cm := cm) Iv (xs (nI (i + 1)).toNatClampNeg) (xs (nI (i + 2)).toNatClampNeg)
        refine lv_aload_n hx hb dL_law_168 rfl (lv_at hl 1 rfl) ?_
        refine lv_aload_n hx hb dL_law_169 rfl (lv_at hl 0 rfl) ?_
        refine lv_iload_n hx hb dL_law_170 rfl (lv_at hl 3 rfl) ?_
        refine lv_iconst (v := nI 1) hx hb dL_law_171 (by decide) ?_
        refine nv_iadd hx hb dL_law_172 ?_
        refine va_sld hx hb hX hbl hbA I.2.2.2.1 (vp_in_nI (by omega) (by omega)) dL_law_173 ?_
        refine lv_aload_n hx hb dL_law_174 rfl (lv_at hl 0 rfl) ?_
        refine lv_iload_n hx hb dL_law_175 rfl (lv_at hl 3 rfl) ?_
        refine lv_iconst (v := nI 2) hx hb dL_law_176 (by decide) ?_
        refine nv_iadd hx hb dL_law_177 ?_
        refine va_sld hx hb hX hbl hbA I.2.2.2.1 (vp_in_nI (by omega) (by omega)) dL_law_178 ?_
        refine lc_x F I hX1 (cwV 2 hts (lw_V q87 q88 q89 q23 q90) rfl rfl rfl (by decide +kernel) ⟨Nat.le_of_ble_eq_true rfl, Nat.le_of_ble_eq_true rfl⟩) hl rfl rfl (Nat.le_of_ble_eq_true rfl) dL_law_179 ⟨Nat.le_refl 600000, Nat.le_refl 7290000⟩ (fun rx ux1 H locs px1 I => ?_)
        refine lv_aload_n hx hb dL_law_182 rfl (lv_at hl 2 rfl) ?_
        refine lv_aload_n hx hb dL_law_183 rfl (lv_at hl 0 rfl) ?_
        refine lv_iload_n hx hb dL_law_184 rfl (lv_at hl 3 rfl) ?_
        refine lv_iconst (v := nI 1) hx hb dL_law_185 (by decide) ?_
        refine nv_iadd hx hb dL_law_186 ?_
        refine va_sld hx hb hX hbl hbA I.2.2.2.1 (vp_in_nI (by omega) (by omega)) dL_law_187 ?_
        refine lv_aload_n hx hb dL_law_188 rfl (lv_at hl 0 rfl) ?_
        refine lv_iload_n hx hb dL_law_189 rfl (lv_at hl 3 rfl) ?_
        refine lv_iconst (v := nI 2) hx hb dL_law_190 (by decide) ?_
        refine nv_iadd hx hb dL_law_191 ?_
        refine va_sld hx hb hX hbl hbA I.2.2.2.1 (vp_in_nI (by omega) (by omega)) dL_law_192 ?_
        refine lc_m F I hM1 (cwV 2 hts (lw_V q212 q213 q214 q24 q215) rfl rfl rfl (by decide +kernel) ⟨Nat.le_of_ble_eq_true rfl, Nat.le_of_ble_eq_true rfl⟩) hl rfl rfl (Nat.le_of_ble_eq_true rfl) dL_law_193 ⟨Nat.le_refl 600000, Nat.le_refl 7290000⟩ (fun rm um1 H locs pm1 I => ?_)
        obtain ⟨e12, Iv2⟩ := hag _ _ _ _ px1 pm1
        exact lv_icmp_eq (tgt := 384) hx hb dL_law_196 (by decide) (fun _ => next _ _ Iv2 _ _ I) (fun c9 => absurd e12 c9)
      · refine lv_tableIn (off := 159) (tgt := 201) hx hb dL_law_42 (by decide) (by decide) (by decide) (by decide) ?_
        obtain ⟨px, pm, hX1, hM1, hag⟩ := pr_ends (l := l) (D := D) (gx := gx) (cx := cx) (gm := gm) (cm := cm) Iv (xs (nI (i + 1)).toNatClampNeg) (xs (nI (i + 2)).toNatClampNeg)
        refine lv_aload_n hx hb dL_law_201 rfl (lv_at hl 1 rfl) ?_
        refine lv_aload_n hx hb dL_law_202 rfl (lv_at hl 0 rfl) ?_
        refine lv_iload_n hx hb dL_law_203 rfl (lv_at hl 3 rfl) ?_
        refine lv_iconst (v := nI 1) hx hb dL_law_204 (by decide) ?_
        refine nv_iadd hx hb dL_law_205 ?_
        refine va_sld hx hb hX hbl hbA I.2.2.2.1 (vp_in_nI (by omega) (by omega)) dL_law_206 ?_
        refine lv_aload_n hx hb dL_law_207 rfl (lv_at hl 0 rfl) ?_
        refine lv_iload_n hx hb dL_law_208 rfl (lv_at hl 3 rfl) ?_
        refine lv_iconst (v := nI 2) hx hb dL_law_209 (by decide) ?_
        refine nv_iadd hx hb dL_law_210 ?_
        refine va_sld hx hb hX hbl hbA I.2.2.2.1 (vp_in_nI (by omega) (by omega)) dL_law_211 ?_
        refine lc_x F I hX1 (cwV 2 hts (lw_V q91 q92 q93 q23 q94) rfl rfl rfl (by decide +kernel) ⟨Nat.le_of_ble_eq_true rfl, Nat.le_of_ble_eq_true rfl⟩) hl rfl rfl (Nat.le_of_ble_eq_true rfl) dL_law_212 ⟨Nat.le_refl 600000, Nat.le_refl 7290000⟩ (fun rx ux1 H locs px1 I => ?_)
        refine lv_aload_n hx hb dL_law_215 rfl (lv_at hl 2 rfl) ?_
        refine lv_aload_n hx hb dL_law_216 rfl (lv_at hl 0 rfl) ?_
        refine lv_iload_n hx hb dL_law_217 rfl (lv_at hl 3 rfl) ?_
        refine lv_iconst (v := nI 1) hx hb dL_law_218 (by decide) ?_
        refine nv_iadd hx hb dL_law_219 ?_
        refine va_sld hx hb hX hbl hbA I.2.2.2.1 (vp_in_nI (by omega) (by omega)) dL_law_220 ?_
        refine lv_aload_n hx hb dL_law_221 rfl (lv_at hl 0 rfl) ?_
        refine lv_iload_n hx hb dL_law_222 rfl (lv_at hl 3 rfl) ?_
        refine lv_iconst (v := nI 2) hx hb dL_law_223 (by decide) ?_
        refine nv_iadd hx hb dL_law_224 ?_
        refine va_sld hx hb hX hbl hbA I.2.2.2.1 (vp_in_nI (by omega) (by omega)) dL_law_225 ?_
        refine lc_m F I hM1 (cwV 2 hts (lw_V q216 q217 q218 q24 q219) rfl rfl rfl (by decide +kernel) ⟨Nat.le_of_ble_eq_true rfl, Nat.le_of_ble_eq_true rfl⟩) hl rfl rfl (Nat.le_of_ble_eq_true rfl) dL_law_226 ⟨Nat.le_refl 600000, Nat.le_refl 7290000⟩ (fun rm um1 H locs pm1 I => ?_)
        obtain ⟨e12, Iv2⟩ := hag _ _ _ _ px1 pm1
        exact lv_icmp_eq (tgt := 384) hx hb dL_law_229 (by decide) (fun _ => next _ _ Iv2 _ _ I) (fun c9 => absurd e12 c9)
      · refine lv_tableIn (off := 192) (tgt := 234) hx hb dL_law_42 (by decide) (by decide) (by decide) (by decide) ?_
        obtain ⟨px, pm, hX1, hM1, hag⟩ := pr_paths (l := l) (D := D) (gx := gx) (cx := cx) (gm := gm) (cm := cm) Iv
        refine lv_aload_n hx hb dL_law_234 rfl (lv_at hl 1 rfl) ?_
        refine lc_x F I hX1 (cwV 0 hts (lw_V q95 q96 q97 q23 q98) rfl rfl rfl (by decide +kernel) ⟨Nat.le_of_ble_eq_true rfl, Nat.le_of_ble_eq_true rfl⟩) hl rfl rfl (Nat.le_of_ble_eq_true rfl) dL_law_235 ⟨Nat.le_refl 600000, Nat.le_refl 7290000⟩ (fun rx ux1 H locs px1 I => ?_)
        refine lv_aload_n hx hb dL_law_238 rfl (lv_at hl 2 rfl) ?_
        refine lc_m F I hM1 (cwV 0 hts (lw_V q220 q221 q222 q24 q223) rfl rfl rfl (by decide +kernel) ⟨Nat.le_of_ble_eq_true rfl, Nat.le_of_ble_eq_true rfl⟩) hl rfl rfl (Nat.le_of_ble_eq_true rfl) dL_law_239 ⟨Nat.le_refl 600000, Nat.le_refl 7290000⟩ (fun rm um1 H locs pm1 I => ?_)
        obtain ⟨e12, Iv2⟩ := hag _ _ _ _ px1 pm1
        exact lv_icmp_eq (tgt := 384) hx hb dL_law_242 (by decide) (fun _ => next _ _ Iv2 _ _ I) (fun c9 => absurd e12 c9)
      · refine lv_tableIn (off := 205) (tgt := 247) hx hb dL_law_42 (by decide) (by decide) (by decide) (by decide) ?_
        obtain ⟨px, pm, hX1, hM1, hag⟩ := pr_cutSize (l := l) (D := D) (gx := gx) (cx := cx) (gm := gm) (cm := cm) Iv
        refine lv_aload_n hx hb dL_law_247 rfl (lv_at hl 1 rfl) ?_
        refine lc_x F I hX1 (cwV 0 hts (lw_V q119 q120 q121 q23 q122) rfl rfl rfl (by decide +kernel) ⟨Nat.le_of_ble_eq_true rfl, Nat.le_of_ble_eq_true rfl⟩) hl rfl rfl (Nat.le_of_ble_eq_true rfl) dL_law_248 ⟨Nat.le_refl 600000, Nat.le_refl 7290000⟩ (fun rx ux1 H locs px1 I => ?_)
        refine lv_aload_n hx hb dL_law_251 rfl (lv_at hl 2 rfl) ?_
        refine lc_m F I hM1 (cwV 0 hts (lw_V q236 q237 q238 q24 q239) rfl rfl rfl (by decide +kernel) ⟨Nat.le_of_ble_eq_true rfl, Nat.le_of_ble_eq_true rfl⟩) hl rfl rfl (Nat.le_of_ble_eq_true rfl) dL_law_252 ⟨Nat.le_refl 600000, Nat.le_refl 7290000⟩ (fun rm um1 H locs pm1 I => ?_)
        obtain ⟨e12, Iv2⟩ := hag _ _ _ _ px1 pm1
        exact lv_icmp_eq (tgt := 384) hx hb dL_law_255 (by decide) (fun _ => next _ _ Iv2 _ _ I) (fun c9 => absurd e12 c9)
      · refine lv_tableIn (off := 218) (tgt := 260) hx hb dL_law_42 (by decide) (by decide) (by decide) (by decide) ?_
        obtain ⟨px, pm, hX1, hM1, hag⟩ := pr_firstCut (l := l) (D := D) (gx := gx) (cx := cx) (gm := gm) (cm := cm) Iv
        refine lv_aload_n hx hb dL_law_260 rfl (lv_at hl 1 rfl) ?_
        refine lc_x F I hX1 (cwV 0 hts (lw_V q123 q124 q125 q23 q126) rfl rfl rfl (by decide +kernel) ⟨Nat.le_of_ble_eq_true rfl, Nat.le_of_ble_eq_true rfl⟩) hl rfl rfl (Nat.le_of_ble_eq_true rfl) dL_law_261 ⟨Nat.le_refl 600000, Nat.le_refl 7290000⟩ (fun rx ux1 H locs px1 I => ?_)
        refine lv_aload_n hx hb dL_law_264 rfl (lv_at hl 2 rfl) ?_
        refine lc_m F I hM1 (cwV 0 hts (lw_V q252 q253 q254 q24 q255) rfl rfl rfl (by decide +kernel) ⟨Nat.le_of_ble_eq_true rfl, Nat.le_of_ble_eq_true rfl⟩) hl rfl rfl (Nat.le_of_ble_eq_true rfl) dL_law_265 ⟨Nat.le_refl 600000, Nat.le_refl 7290000⟩ (fun rm um1 H locs pm1 I => ?_)
        obtain ⟨e12, Iv2⟩ := hag _ _ _ _ px1 pm1
        exact lv_icmp_eq (tgt := 384) hx hb dL_law_268 (by decide) (fun _ => next _ _ Iv2 _ _ I) (fun c9 => absurd e12 c9)
      · refine lv_tableIn (off := 231) (tgt := 273) hx hb dL_law_42 (by decide) (by decide) (by decide) (by decide) ?_
        obtain ⟨px, pm, hX1, hM1, hag⟩ := pr_cutWith (l := l) (D := D) (gx := gx) (cx := cx) (gm := gm) (cm := cm) Iv (xs (nI (i + 1)).toNatClampNeg)
        refine lv_aload_n hx hb dL_law_273 rfl (lv_at hl 1 rfl) ?_
        refine lv_aload_n hx hb dL_law_274 rfl (lv_at hl 0 rfl) ?_
        refine lv_iload_n hx hb dL_law_275 rfl (lv_at hl 3 rfl) ?_
        refine lv_iconst (v := nI 1) hx hb dL_law_276 (by decide) ?_
        refine nv_iadd hx hb dL_law_277 ?_
        refine va_sld hx hb hX hbl hbA I.2.2.2.1 (vp_in_nI (by omega) (by omega)) dL_law_278 ?_
        refine lc_x F I hX1 (cwV 1 hts (lw_V q127 q128 q129 q23 q130) rfl rfl rfl (by decide +kernel) ⟨Nat.le_of_ble_eq_true rfl, Nat.le_of_ble_eq_true rfl⟩) hl rfl rfl (Nat.le_of_ble_eq_true rfl) dL_law_279 ⟨Nat.le_refl 600000, Nat.le_refl 7290000⟩ (fun rx ux1 H locs px1 I => ?_)
        refine lv_aload_n hx hb dL_law_282 rfl (lv_at hl 2 rfl) ?_
        refine lv_aload_n hx hb dL_law_283 rfl (lv_at hl 0 rfl) ?_
        refine lv_iload_n hx hb dL_law_284 rfl (lv_at hl 3 rfl) ?_
        refine lv_iconst (v := nI 1) hx hb dL_law_285 (by decide) ?_
        refine nv_iadd hx hb dL_law_286 ?_
        refine va_sld hx hb hX hbl hbA I.2.2.2.1 (vp_in_nI (by omega) (by omega)) dL_law_287 ?_
        refine lc_m F I hM1 (cwV 1 hts (lw_V q256 q257 q258 q24 q259) rfl rfl rfl (by decide +kernel) ⟨Nat.le_of_ble_eq_true rfl, Nat.le_of_ble_eq_true rfl⟩) hl rfl rfl (Nat.le_of_ble_eq_true rfl) dL_law_288 ⟨Nat.le_refl 600000, Nat.le_refl 7290000⟩ (fun rm um1 H locs pm1 I => ?_)
        obtain ⟨e12, Iv2⟩ := hag _ _ _ _ px1 pm1
        exact lv_icmp_eq (tgt := 384) hx hb dL_law_291 (by decide) (fun _ => next _ _ Iv2 _ _ I) (fun c9 => absurd e12 c9)
      · refine lv_tableIn (off := 254) (tgt := 296) hx hb dL_law_42 (by decide) (by decide) (by decide) (by decide) ?_
        obtain ⟨px, pm, hX1, hM1, hag⟩ := pr_loss (l := l) (D := D) (gx := gx) (cx := cx) (gm := gm) (cm := cm) Iv (xs (nI (i + 1)).toNatClampNeg)
        refine lv_aload_n hx hb dL_law_296 rfl (lv_at hl 1 rfl) ?_
        refine lv_aload_n hx hb dL_law_297 rfl (lv_at hl 0 rfl) ?_
        refine lv_iload_n hx hb dL_law_298 rfl (lv_at hl 3 rfl) ?_
        refine lv_iconst (v := nI 1) hx hb dL_law_299 (by decide) ?_
        refine nv_iadd hx hb dL_law_300 ?_
        refine va_sld hx hb hX hbl hbA I.2.2.2.1 (vp_in_nI (by omega) (by omega)) dL_law_301 ?_
        refine lc_x F I hX1 (cwV 1 hts (lw_V q131 q132 q133 q23 q134) rfl rfl rfl (by decide +kernel) ⟨Nat.le_of_ble_eq_true rfl, Nat.le_of_ble_eq_true rfl⟩) hl rfl rfl (Nat.le_of_ble_eq_true rfl) dL_law_302 ⟨Nat.le_refl 600000, Nat.le_refl 7290000⟩ (fun rx ux1 H locs px1 I => ?_)
        refine lv_aload_n hx hb dL_law_305 rfl (lv_at hl 2 rfl) ?_
        refine lv_aload_n hx hb dL_law_306 rfl (lv_at hl 0 rfl) ?_
        refine lv_iload_n hx hb dL_law_307 rfl (lv_at hl 3 rfl) ?_
        refine lv_iconst (v := nI 1) hx hb dL_law_308 (by decide) ?_
        refine nv_iadd hx hb dL_law_309 ?_
        refine va_sld hx hb hX hbl hbA I.2.2.2.1 (vp_in_nI (by omega) (by omega)) dL_law_310 ?_
        refine lc_m F I hM1 (cwV 1 hts (lw_V q260 q261 q262 q24 q263) rfl rfl rfl (by decide +kernel) ⟨Nat.le_of_ble_eq_true rfl, Nat.le_of_ble_eq_true rfl⟩) hl rfl rfl (Nat.le_of_ble_eq_true rfl) dL_law_311 ⟨Nat.le_refl 600000, Nat.le_refl 7290000⟩ (fun rm um1 H locs pm1 I => ?_)
        obtain ⟨e12, Iv2⟩ := hag _ _ _ _ px1 pm1
        exact lv_icmp_eq (tgt := 384) hx hb dL_law_314 (by decide) (fun _ => next _ _ Iv2 _ _ I) (fun c9 => absurd e12 c9)
      · refine lv_tableIn (off := 277) (tgt := 319) hx hb dL_law_42 (by decide) (by decide) (by decide) (by decide) ?_
        obtain ⟨px, pm, hX1, hM1, hag⟩ := pr_tightEdges (l := l) (D := D) (gx := gx) (cx := cx) (gm := gm) (cm := cm) Iv
        refine lv_aload_n hx hb dL_law_319 rfl (lv_at hl 1 rfl) ?_
        refine lc_x F I hX1 (cwV 0 hts (lw_V q135 q136 q137 q23 q138) rfl rfl rfl (by decide +kernel) ⟨Nat.le_of_ble_eq_true rfl, Nat.le_of_ble_eq_true rfl⟩) hl rfl rfl (Nat.le_of_ble_eq_true rfl) dL_law_320 ⟨Nat.le_refl 600000, Nat.le_refl 7290000⟩ (fun rx ux1 H locs px1 I => ?_)
        refine lv_aload_n hx hb dL_law_323 rfl (lv_at hl 2 rfl) ?_
        refine lc_m F I hM1 (cwV 0 hts (lw_V q265 q266 q267 q24 q268) rfl rfl rfl (by decide +kernel) ⟨Nat.le_of_ble_eq_true rfl, Nat.le_of_ble_eq_true rfl⟩) hl rfl rfl (Nat.le_of_ble_eq_true rfl) dL_law_324 ⟨Nat.le_refl 600000, Nat.le_refl 7290000⟩ (fun rm um1 H locs pm1 I => ?_)
        obtain ⟨e12, Iv2⟩ := hag _ _ _ _ px1 pm1
        exact lv_icmp_eq (tgt := 384) hx hb dL_law_327 (by decide) (fun _ => next _ _ Iv2 _ _ I) (fun c9 => absurd e12 c9)
      · refine lv_tableIn (off := 290) (tgt := 332) hx hb dL_law_42 (by decide) (by decide) (by decide) (by decide) ?_
        obtain ⟨px, pm, hX1, hM1, hag⟩ := pr_helpfulEdges (l := l) (D := D) (gx := gx) (cx := cx) (gm := gm) (cm := cm) Iv
        refine lv_aload_n hx hb dL_law_332 rfl (lv_at hl 1 rfl) ?_
        refine lc_x F I hX1 (cwV 0 hts (lw_V q143 q144 q145 q23 q146) rfl rfl rfl (by decide +kernel) ⟨Nat.le_of_ble_eq_true rfl, Nat.le_of_ble_eq_true rfl⟩) hl rfl rfl (Nat.le_of_ble_eq_true rfl) dL_law_333 ⟨Nat.le_refl 600000, Nat.le_refl 7290000⟩ (fun rx ux1 H locs px1 I => ?_)
        refine lv_aload_n hx hb dL_law_336 rfl (lv_at hl 2 rfl) ?_
        refine lc_m F I hM1 (cwV 0 hts (lw_V q273 q274 q275 q24 q276) rfl rfl rfl (by decide +kernel) ⟨Nat.le_of_ble_eq_true rfl, Nat.le_of_ble_eq_true rfl⟩) hl rfl rfl (Nat.le_of_ble_eq_true rfl) dL_law_337 ⟨Nat.le_refl 600000, Nat.le_refl 7290000⟩ (fun rm um1 H locs pm1 I => ?_)
        obtain ⟨e12, Iv2⟩ := hag _ _ _ _ px1 pm1
        exact lv_icmp_eq (tgt := 384) hx hb dL_law_340 (by decide) (fun _ => next _ _ Iv2 _ _ I) (fun c9 => absurd e12 c9)
      · refine lv_tableIn (off := 303) (tgt := 345) hx hb dL_law_42 (by decide) (by decide) (by decide) (by decide) ?_
        obtain ⟨px, pm, hX1, hM1, hag⟩ := pr_distance (l := l) (D := D) (gx := gx) (cx := cx) (gm := gm) (cm := cm) Iv
        refine lv_aload_n hx hb dL_law_345 rfl (lv_at hl 1 rfl) ?_
        refine lc_x F I hX1 (cwV 0 hts (lw_V q147 q148 q149 q23 q150) rfl rfl rfl (by decide +kernel) ⟨Nat.le_of_ble_eq_true rfl, Nat.le_of_ble_eq_true rfl⟩) hl rfl rfl (Nat.le_of_ble_eq_true rfl) dL_law_346 ⟨Nat.le_refl 600000, Nat.le_refl 7290000⟩ (fun rx ux1 H locs px1 I => ?_)
        refine lv_aload_n hx hb dL_law_349 rfl (lv_at hl 2 rfl) ?_
        refine lc_m F I hM1 (cwV 0 hts (lw_V q277 q278 q279 q24 q280) rfl rfl rfl (by decide +kernel) ⟨Nat.le_of_ble_eq_true rfl, Nat.le_of_ble_eq_true rfl⟩) hl rfl rfl (Nat.le_of_ble_eq_true rfl) dL_law_350 ⟨Nat.le_refl 600000, Nat.le_refl 7290000⟩ (fun rm um1 H locs pm1 I => ?_)
        obtain ⟨e12, Iv2⟩ := hag _ _ _ _ px1 pm1
        exact lv_icmp_eq (tgt := 384) hx hb dL_law_353 (by decide) (fun _ => next _ _ Iv2 _ _ I) (fun c9 => absurd e12 c9)
      · refine lv_tableIn (off := 316) (tgt := 358) hx hb dL_law_42 (by decide) (by decide) (by decide) (by decide) ?_
        obtain ⟨px, pm, hX1, hM1, hag⟩ := pr_strength (l := l) (D := D) (gx := gx) (cx := cx) (gm := gm) (cm := cm) Iv
        refine lv_aload_n hx hb dL_law_358 rfl (lv_at hl 1 rfl) ?_
        refine lc_x F I hX1 (cwV 0 hts (lw_V q155 q156 q157 q23 q158) rfl rfl rfl (by decide +kernel) ⟨Nat.le_of_ble_eq_true rfl, Nat.le_of_ble_eq_true rfl⟩) hl rfl rfl (Nat.le_of_ble_eq_true rfl) dL_law_359 ⟨Nat.le_refl 600000, Nat.le_refl 7290000⟩ (fun rx ux1 H locs px1 I => ?_)
        refine lv_aload_n hx hb dL_law_362 rfl (lv_at hl 2 rfl) ?_
        refine lc_m F I hM1 (cwV 0 hts (lw_V q281 q282 q283 q24 q284) rfl rfl rfl (by decide +kernel) ⟨Nat.le_of_ble_eq_true rfl, Nat.le_of_ble_eq_true rfl⟩) hl rfl rfl (Nat.le_of_ble_eq_true rfl) dL_law_363 ⟨Nat.le_refl 600000, Nat.le_refl 7290000⟩ (fun rm um1 H locs pm1 I => ?_)
        obtain ⟨e12, Iv2⟩ := hag _ _ _ _ px1 pm1
        exact lv_icmp_eq (tgt := 384) hx hb dL_law_366 (by decide) (fun _ => next _ _ Iv2 _ _ I) (fun c9 => absurd e12 c9)
      · refine lv_tableIn (off := 329) (tgt := 371) hx hb dL_law_42 (by decide) (by decide) (by decide) (by decide) ?_
        obtain ⟨px, pm, hX1, hM1, hag⟩ := pr_clear (l := l) (D := D) (gx := gx) (cx := cx) (gm := gm) (cm := cm) Iv
        refine lv_aload_n hx hb dL_law_371 rfl (lv_at hl 1 rfl) ?_
        refine lc_x F I hX1 (cwV 0 hts (lw_V q159 q160 q161 q23 q162) rfl rfl rfl (by decide +kernel) ⟨Nat.le_of_ble_eq_true rfl, Nat.le_of_ble_eq_true rfl⟩) hl rfl rfl (Nat.le_of_ble_eq_true rfl) dL_law_372 ⟨Nat.le_refl 600000, Nat.le_refl 7290000⟩ (fun rx ux1 H locs px1 I => ?_)
        refine lv_aload_n hx hb dL_law_375 rfl (lv_at hl 2 rfl) ?_
        refine lc_m F I hM1 (cwV 0 hts (lw_V q285 q286 q287 q24 q288) rfl rfl rfl (by decide +kernel) ⟨Nat.le_of_ble_eq_true rfl, Nat.le_of_ble_eq_true rfl⟩) hl rfl rfl (Nat.le_of_ble_eq_true rfl) dL_law_376 ⟨Nat.le_refl 600000, Nat.le_refl 7290000⟩ (fun rm um1 H locs pm1 I => ?_)
        obtain ⟨e12, Iv2⟩ := hag _ _ _ _ px1 pm1
        exact lv_icmp_eq (tgt := 384) hx hb dL_law_379 (by decide) (fun _ => next _ _ Iv2 _ _ I) (fun c9 => absurd e12 c9)
      · exact lv_tableOut (tgt := 384) hx hb dL_law_42 (by decide) (by decide) (next ux um Iv H locs I)
      · exact lv_tableOut (tgt := 384) hx hb dL_law_42 (by decide) (by decide) (next ux um Iv H locs I)
theorem cell_blind {b L : Nat} {xs : Nat → Int32} : FrameBlind (va_Pc [.ref b, .int (nI 0)] (fun U => va_X b L xs U U.heap ∧ b < U.heap.size)) := fun a U g mk q => by
  obtain ⟨q0, q1, q2⟩ := q
  exact ⟨q0, va_X.moved (u := U) (U := U.calling g mk a) (Vm.Alike.refl U.vm) q1, q2⟩
theorem Inv_0 (x0 : Int32) : Inv (X0 (nv x0)) (M0 (nv x0)) := by
  have h := nv_ok x0
  exact Inv.mk h.2 (by omega) (by omega) (by omega) (fun u _ v q => absurd q mb_0)
set_option maxHeartbeats 8000000 in
set_option maxRecDepth 100000 in
/-- THE LAW, from its entry -/
theorem whole_start {p : Program} {e : Env} {s : State} {m : MethodId} {below : List Frame} {meth : Method} {c : Code} (l : Launch) {b L : Nat} {xs : Nat → Int32} (hL : L ≤ 257) (C0 : lw_At p s m meth c b L xs) : W p l e room_1 s m #[Value.ref b] below meth c s.heap [] 0 0 (lw_Z below #[Value.ref b] s) (entryFrame m ([Value.ref b] : List Value).toArray 4) := by
  obtain ⟨hx, hb, hr, hml, hown, hts0, hX, hbl, hlocks, hgv⟩ := id C0
  have hts : ∀ w ∈ lw_all, w.before #[Value.ref b] s = true := fun w h => hts0 w (lw_all_tbl h)
  have F : CallFix p m c cL_law 4 s #[Value.ref b] lw_all RX0 := ⟨hx, hb, hml, hown, hts⟩
  have hA : ∀ q : Nat, s.heap.size ≤ q → (fun q : Nat => s.heap.size ≤ q) q := fun _ h => h
  have hbA : ¬ (fun q : Nat => s.heap.size ≤ q) b := Nat.not_le.mpr hbl
  obtain ⟨c0, iS0, hKn0⟩ := u_known (C := RX1) (T := TX1) (N := 8) (n := 8) hts in_X1 (hts _ q26)
  obtain ⟨c1, iS1, hKn1⟩ := u_known (C := RX2) (T := TX2) (N := 6) (n := 6) hts in_X2 (hts _ q167)
  obtain ⟨D, hKc⟩ : ∃ D : va_G, ∀ (k : Nat) (q : vw_C), vwCl[k]? = some q → u_Kn s q.1 q.2.1 q.2.2 (D.1 k) (D.2 k) := by
    refine ⟨(fun k => if k = 0 then c0 else c1, fun k => if k = 0 then iS0 else iS1), ?_⟩
    intro k q hq
    match k, hq with
    | 0, hq => cases hq; exact hKn0
    | 1, hq => cases hq; exact hKn1
    | k + 2, hq => simp [vwCl] at hq
  have hS : va_S (fun q : Nat => s.heap.size ≤ q) s.heap s.heap [] := va_S.rf
  have hK : va_K D vwCl [] s := ⟨hKc, fun k q h => by simp at h⟩
  have hP : va_P D vwCl [] s.heap := fun k q h => by simp at h
  have hD : va_D (fun q : Nat => s.heap.size ≤ q) [] := ⟨fun i j p q h => by simp at h, fun k q h => by simp at h⟩
  have hl := lv_entry ([.ref b]) (n := 4) (Nat.le_of_ble_eq_true rfl)
  rw [lg_entry_eq]
  generalize (lg_sl ([.ref b]) ++ List.replicate (4 - (lg_sl ([.ref b])).length) Slot.unset).toArray = ls at hl ⊢
  have hl : lv_has ls 4 [(0, .ref b)] := hl
  refine va_new (D := D) (cl := vwCl) (ci := 0) (fs := [.int 0, .int 0, .int 0, .null, .null, .null, .null, .null]) (C := RX1) (T := TX1) (N := 8) hx hb hts in_X1 tyX1 tyX1_ok hown (hts _ q25) (hts _ q26) (hts _ q23) hK hP hD hS hA rfl (fun j hj => by rcases (show j = 0 ∨ j = 1 ∨ j = 2 ∨ j = 3 ∨ j = 4 ∨ j = 5 ∨ j = 6 ∨ j = 7 by omega) with rfl | rfl | rfl | rfl | rfl | rfl | rfl | rfl <;> rfl) (Nat.le_of_ble_eq_true rfl) (Nat.le_of_ble_eq_true rfl) dL_law_0 (fun ox H hP hD hS => ?_)
  have hP : va_P D vwCl ([(ox, .inr (0, [.int 0, .int 0, .int 0, .null, .null, .null, .null, .null]))]) H := hP
  have hD : va_D (fun q : Nat => s.heap.size ≤ q) ([(ox, .inr (0, [.int 0, .int 0, .int 0, .null, .null, .null, .null, .null]))]) := hD
  refine W.widen (k := 1) (n := 8) (Nat.le_of_ble_eq_true rfl) (Nat.le_of_ble_eq_true rfl) ?_
  refine lv_dup hx hb dL_law_3 rfl ?_
  refine lv_aload_n hx hb dL_law_4 rfl (lv_at hl 0 rfl) ?_
  refine lv_iconst (v := nI 0) hx hb dL_law_5 (by decide) ?_
  refine va_calli (va_runS (As := [.ref b, .int (nI 0)]) (rest := [.ref ox, .ref ox]) F (met_cell l b L xs hL) (va_cwS 2 hts (lw_S q163 q164 q22 q165) rfl rfl rfl (by decide +kernel) ⟨Nat.le_of_ble_eq_true rfl, Nat.le_of_ble_eq_true rfl⟩) ⟨cell_blind, fun U hU hW => ⟨rfl, by rw [hU]; exact va_X.moved hW.alike (hX.kept (hS.2.1 b hbl hbA)), by rw [hU]; exact Nat.lt_of_lt_of_le hbl hS.1⟩⟩ rfl rfl hl.1 rfl (lv_room (Nat.le_of_ble_eq_true rfl)) dL_law_6 ⟨Nat.le_of_ble_eq_true rfl, Nat.le_of_ble_eq_true rfl⟩) hS (fun q _ h => False.elim h) (fun q h => False.elim h) (fun xx u t H1 locs ht hvm hw hB hz1 hk1 hS => ?_)
  have exx : xx = if 0 < L then xs 0 else nI 0 := hw
  have hP := hP.kept (fun k x hk => hk1 x.1 ((hP k x hk).lt) id)
  generalize H1 = H at hP hS ⊢
  have hPc := hP.sub (ws' := [(ox, .inr (0, [.int 0, .int 0, .int 0, .null, .null, .null, .null, .null]))]) [0] rfl
  have hDc := hD.sub (ws' := [(ox, .inr (0, [.int 0, .int 0, .int 0, .null, .null, .null, .null, .null]))]) [0] (by decide) rfl
  have hKc := hK.sub (tys' := []) [] rfl
  have hFc := va_free (wc := [(ox, .inr (0, [.int 0, .int 0, .int 0, .null, .null, .null, .null, .null]))]) hD hS hA [0] rfl
  refine va_callv (va_runI (As := [.int xx]) (rest := [.ref ox]) F (met_init l D ox H.size xx) (cwI 1 hts (lw_meth q29) rfl rfl rfl (hts _ q23) (hts _ q27) (hts _ q28) rfl (by decide +kernel) ⟨Nat.le_of_ble_eq_true rfl, Nat.le_of_ble_eq_true rfl⟩) ⟨fun a U g mk q => by obtain ⟨q0, q1, qP, qK, qD⟩ := q; exact ⟨q0, q1, qP, va_K.moved (u := U) (U := U.calling g mk a) (Vm.Alike.refl U.vm) qK, qD⟩, fun U hU hW => ⟨rfl, by rw [hU], by rw [hU]; exact hPc, va_K.moved hW.alike hKc, hDc.weaken (fun _ _ _ _ => trivial)⟩⟩ rfl rfl hl.1 rfl (lv_room (Nat.le_of_ble_eq_true rfl)) dL_law_9 ⟨Nat.le_of_ble_eq_true rfl, Nat.le_of_ble_eq_true rfl⟩) hS (fun q _ h => hFc q h) hFc (fun u t H1 locs ht hvm hw hB hz1 hk1 hS => ?_)
  obtain ⟨gx, cx⟩ := u
  have hw : gx 0 = ox := hw
  obtain ⟨hP1, hK1, hD1⟩ := hB
  rw [ht] at hP1
  have hK1 := va_K.moved hvm.symm hK1
  obtain ⟨hP, hD⟩ := va_join (wr := []) (w1 := XW gx cx (X0 (nv xx))) hP hD [0] [] rfl rfl (by decide) (by decide) hk1 hFc hP1 hD1
  have hK := (hK.sub (tys' := []) [] rfl).app hK1
  generalize H1 = H at hP hS ⊢
  refine W.widen (k := 6) (n := 312) (Nat.le_of_ble_eq_true rfl) (Nat.le_of_ble_eq_true rfl) ?_
  have hP : va_P D vwCl (XW gx cx (X0 (nv xx))) H := hP
  have hD : va_D (fun q : Nat => s.heap.size ≤ q) (XW gx cx (X0 (nv xx))) := hD
  have hK : va_K D vwCl (XT cx) s := hK
  rw [← hw]
  refine lv_astore_n (lv' := [(1, .ref (gx 0)), (0, .ref b)]) hx hb dL_law_12 rfl hl (by decide) rfl (fun ls hl => ?_)
  clear hw hFc hPc hDc
  refine va_new (D := D) (cl := vwCl) (ci := 1) (fs := [.int 0, .int 0, .int 0, .null, .null, .null]) (C := RX2) (T := TX2) (N := 6) hx hb hts in_X2 tyX2 tyX2_ok hown (hts _ q166) (hts _ q167) (hts _ q24) hK hP hD hS hA rfl (fun j hj => by rcases (show j = 0 ∨ j = 1 ∨ j = 2 ∨ j = 3 ∨ j = 4 ∨ j = 5 by omega) with rfl | rfl | rfl | rfl | rfl | rfl <;> rfl) (Nat.le_of_ble_eq_true rfl) (Nat.le_of_ble_eq_true rfl) dL_law_13 (fun om H hP hD hS => ?_)
  have hP : va_P D vwCl (XW gx cx (X0 (nv xx)) ++ [(om, .inr (1, [.int 0, .int 0, .int 0, .null, .null, .null]))]) H := hP
  have hD : va_D (fun q : Nat => s.heap.size ≤ q) (XW gx cx (X0 (nv xx)) ++ [(om, .inr (1, [.int 0, .int 0, .int 0, .null, .null, .null]))]) := hD
  refine W.widen (k := 7) (n := 318) (Nat.le_of_ble_eq_true rfl) (Nat.le_of_ble_eq_true rfl) ?_
  refine lv_dup hx hb dL_law_16 rfl ?_
  refine lv_aload_n hx hb dL_law_17 rfl (lv_at hl 1 rfl) ?_
  refine lv_iconst (v := nI 0) hx hb dL_law_18 (by decide) ?_
  refine va_calli (va_runS (As := [.ref b, .int (nI 0)]) (rest := [.ref om, .ref om]) F (met_cell l b L xs hL) (va_cwS 2 hts (lw_S q163 q164 q22 q165) rfl rfl rfl (by decide +kernel) ⟨Nat.le_of_ble_eq_true rfl, Nat.le_of_ble_eq_true rfl⟩) ⟨cell_blind, fun U hU hW => ⟨rfl, by rw [hU]; exact va_X.moved hW.alike (hX.kept (hS.2.1 b hbl hbA)), by rw [hU]; exact Nat.lt_of_lt_of_le hbl hS.1⟩⟩ rfl rfl hl.1 rfl (lv_room (Nat.le_of_ble_eq_true rfl)) dL_law_19 ⟨Nat.le_of_ble_eq_true rfl, Nat.le_of_ble_eq_true rfl⟩) hS (fun q _ h => False.elim h) (fun q h => False.elim h) (fun xm u t H1 locs ht hvm hw hB hz1 hk1 hS => ?_)
  have exm : xm = if 0 < L then xs 0 else nI 0 := hw
  have hP := hP.kept (fun k x hk => hk1 x.1 ((hP k x hk).lt) id)
  generalize H1 = H at hP hS ⊢
  have hPc := hP.sub (ws' := [(om, .inr (1, [.int 0, .int 0, .int 0, .null, .null, .null]))]) [6] rfl
  have hDc := hD.sub (ws' := [(om, .inr (1, [.int 0, .int 0, .int 0, .null, .null, .null]))]) [6] (by decide) rfl
  have hKc := hK.sub (tys' := []) [] rfl
  have hFc := va_free (wc := [(om, .inr (1, [.int 0, .int 0, .int 0, .null, .null, .null]))]) hD hS hA [6] rfl
  refine va_callv (va_runI (As := [.int xm]) (rest := [.ref om]) F (mmt_init l D om H.size xm) (cwI 1 hts (lw_meth q170) rfl rfl rfl (hts _ q24) (hts _ q168) (hts _ q169) rfl (by decide +kernel) ⟨Nat.le_of_ble_eq_true rfl, Nat.le_of_ble_eq_true rfl⟩) ⟨fun a U g mk q => by obtain ⟨q0, q1, qP, qK, qD⟩ := q; exact ⟨q0, q1, qP, va_K.moved (u := U) (U := U.calling g mk a) (Vm.Alike.refl U.vm) qK, qD⟩, fun U hU hW => ⟨rfl, by rw [hU], by rw [hU]; exact hPc, va_K.moved hW.alike hKc, hDc.weaken (fun _ _ _ _ => trivial)⟩⟩ rfl rfl hl.1 rfl (lv_room (Nat.le_of_ble_eq_true rfl)) dL_law_22 ⟨Nat.le_of_ble_eq_true rfl, Nat.le_of_ble_eq_true rfl⟩) hS (fun q _ h => hFc q h) hFc (fun u t H1 locs ht hvm hw hB hz1 hk1 hS => ?_)
  obtain ⟨gm, cm⟩ := u
  have hw : gm 0 = om := hw
  obtain ⟨hP1, hK1, hD1⟩ := hB
  rw [ht] at hP1
  have hK1 := va_K.moved hvm.symm hK1
  obtain ⟨hP, hD⟩ := va_join (wr := XW gx cx (X0 (nv xx))) (w1 := MW gm cm (M0 (nv xm))) hP hD [6] [0, 1, 2, 3, 4, 5] rfl rfl (by decide) (by decide) hk1 hFc hP1 hD1
  have hK := (hK.sub (tys' := XT cx) [0, 1, 2, 3, 4] rfl).app hK1
  generalize H1 = H at hP hS ⊢
  refine W.widen (k := 10) (n := 838) (Nat.le_of_ble_eq_true rfl) (Nat.le_of_ble_eq_true rfl) ?_
  rw [← hw]
  refine lv_astore_n (lv' := [(2, .ref (gm 0)), (1, .ref (gx 0)), (0, .ref b)]) hx hb dL_law_25 rfl hl (by decide) rfl (fun ls hl => ?_)
  refine lv_iconst (v := nI 1) hx hb dL_law_26 (by decide) ?_
  refine lv_istore_n (lv' := [(3, .int (nI 1)), (2, .ref (gm 0)), (1, .ref (gx 0)), (0, .ref b)]) hx hb dL_law_27 rfl hl (by decide) rfl (fun ls hl => ?_)
  refine W.widen (k := 600000) (n := 7290000) (Nat.le_of_ble_eq_true rfl) (Nat.le_of_ble_eq_true rfl) ?_
  have exm : xm = xx := exm.trans exx.symm
  subst exm
  exact law_loop hL C0 (L + 1) 1 (by omega) (by omega) _ _ (Inv_0 xm) _ _ ⟨hK, hP, hD, hS, hA⟩ ls (lv_sub hl [3, 2, 1, 0] rfl)
end
section
set_option maxHeartbeats 4000000 in
theorem lw_walk (l : Launch) (b : Addr) (xs : List Int32) : MetFree l x (headSpec (Jvm.Cond.code x code maxLocals ret :: tables_1) room_1) (lw_P b xs) (fun _ _ _ _ _ => True) lw_Q := by
  refine MetFree.of_bodyS (code := code) (maxLocals := maxLocals) (ret := ret) (by decide) ?_ ?_
  · intro args s m h hn
    obtain ⟨meth, c, h1, h2, h3, h4, h5, h6, -, -⟩ := Cond.code_spec hn (atoms_spec (ws := Jvm.Cond.code x code maxLocals ret :: tables_1) h _ List.mem_cons_self)
    exact ⟨meth, c, h1, h2, h3, h4, h5, h6⟩
  · intro p e s m args below meth c s₁ B hml0 hP _
    obtain ⟨rfl, hx, hbd, hgv⟩ := hP
    obtain ⟨scr, harrAt, hlist, hof, hsmall⟩ := hx
    obtain ⟨hcb, hkn, -, -⟩ := State.arrayAt?_spec harrAt
    have hown : s.vm.findClass R_law = some m.cls := findClass_of_methodNamed B.named
    have hts0 : ∀ c ∈ (Jvm.Cond.code x code maxLocals ret :: tables_1), c.before #[Value.ref b] s = true := atoms_spec (ws := Jvm.Cond.code x code maxLocals ret :: tables_1) B.pre
    have hts : ∀ w ∈ lw_tbl, w.before #[Value.ref b] s = true := k2_hts_sels lw_privs (fun w hw => hts0 w (List.mem_cons_of_mem _ hw)) lw_privs_ok
    have hml : c.maxLocals = 4 := B.maxLocals_eq (hts0 _ List.mem_cons_self)
    have X₀ : Stand p l e room_1 s m #[Value.ref b] below meth c s₁ [] 0 0 := Stand.of_body B
    have hh0 : s₁.heap = s.heap := by rw [B.state]; rfl
    have hsz : scr.slots.size = xs.length := by rw [← Array.length_toList, hlist, List.length_map]
    have hval : ∀ j : Nat, j < xs.length → scr.slots[j]? = some (.int (xs.getD j 0)) := fun j hj => by
      rw [← Array.getElem?_toList, hlist]
      simp [hj]
    have hbl : b < s.heap.size := (Array.getElem?_eq_some_iff.mp hcb).1
    have hX : va_X b xs.length (fun j => xs.getD j 0) s s.heap := ⟨scr, hcb, hof, hkn, hsz, hval⟩
    have K : W p l e room_1 s m #[Value.ref b] below meth c s₁.heap [] 0 0 (lw_Z below #[Value.ref b] s) (entryFrame m ([Value.ref b] : List Value).toArray 4) := by
      rw [hh0]
      exact whole_start l hbd ⟨B.exec, B.bytes, B.returns, hml, hown, hts, hX, hbl, B.notSynchronized, hgv⟩
    obtain ⟨t, a1, o, b1, b2, b3⟩ := K s₁ rfl X₀
    exact ⟨t, o, a1, b1, b2, b3⟩
theorem lw_pre_spec {args : Array Value} {s : State} (h : (Jvm.Cond.and given_1 narrow_1).before args s = true) (hr : rest_1_c.before args s = true) : ∃ (b : Addr) (xs : List Int32), lw_P b xs args s := by
  have hs := flat_of_before _ h
  have hq := flat_of_before _ hr
  have hc : (Cond.count 1).before args s = true := hs _ (by decide +kernel)
  have harr : (Cond.arrayOf (.arg 0) .int).before args s = true := hs _ (by decide +kernel)
  have hle : (Cond.le (.length (.arg 0)) (.int 257)).before args s = true := hs _ (by decide +kernel)
  have hlen : (Cond.isInt (.length (.arg 0))).before args s = true := hq _ (by decide +kernel)
  have hall : (Cond.all (.arg 0) (.isInt (.elem (.arg 0) (.index 0)))).before args s = true := hq _ (by decide +kernel)
  obtain ⟨b, xs, hb, hx⟩ := State.ints_of_pre rfl harr hlen hall
  have hsm : xs.length < 2 ^ 31 := hx.choose_spec.2.2.2
  have hev : (Term.length (.arg 0)).eval args s none [] s = some (.int xs.length.toInt32) := hx.length_eval hb
  have hv := Cond.le_ints hev (show (Term.int 257).eval args s none [] s = some (.int 257) from rfl)
  have hd : xs.length.toInt32 ≤ 257 := by
    simpa [Cond.before, Cond.holds, hv] using hle
  have hN : xs.length ≤ 257 := (Int32.ofNat_le_ofNat hsm (by decide)).mp (show Int32.ofNat xs.length ≤ Int32.ofNat 257 from hd)
  exact ⟨b, xs, Cond.one_arg hc (show args[0]? = some (.ref b) from hb), hx, hN, h⟩
theorem lw_comes (l : Launch) : Comes l x (Jvm.Cond.code x code maxLocals ret :: tables_1) room_1 (fun tb e args s => Calls_1 tb e args s ∧ rest_1 tb e args s ∧ Pre_1 tb e args s)
    (fun _ _ args s o t => lw_Q args s o t) := by
  intro p e ha hc hk s m args below hf hfit hheap happ hpre
  obtain ⟨b, xs, hP⟩ := lw_pre_spec hpre.2.2 hpre.2.1
  obtain ⟨k, o, h1, h2, h3, hQ⟩ := lw_walk l b xs p e ha hc hk s m args below hf ((Spec.applies_iff_loose hf).mp happ).1 hP trivial
  exact ⟨k, o, h1, h2, h3, hQ⟩
theorem lw_frame {s t : State} {o : Outcome} {args : Array Value} (h : Framed s o t [] 600000 7290000) :
    Framed s o t (fieldLocs frame_1_writes args s ++ arrayLocs frame_1_arrays args s ++ staticLocs frame_1_statics s) 600000 7290000 := h
theorem lw_limb (L : Cond) (hL : ∀ (args : Array Value) (s t : State), L.after args s (.returned (some (.int 1))) t = true) :
    ArmFor flags0 classFile x code maxLocals ret World_1 tables_1 room_1 Calls_1 rest_1 Pre_1
      (fun tb e a s o t => postC L tb e a s o t ∧ Framed s o t (fieldLocs frame_1_writes a s ++ arrayLocs frame_1_arrays a s ++ staticLocs frame_1_statics s) 600000 7290000) := by
  intro l _ _ _ p e ha hc hk s m args below hf hfit hheap happ hpre
  obtain ⟨k, o, h1, h2, h3, rfl, hF⟩ := lw_comes l p e ha hc hk s m args below hf hfit hheap happ hpre
  exact ⟨k, _, h1, h2, h3, hL args s _, lw_frame hF⟩
theorem i_vc : Claimed_1_1 ∧ Claimed_1_2 := ⟨lw_limb limb_1_1 (fun args s t => by simp [limb_1_1, Cond.after, Cond.holds, Cond.value]), lw_limb limb_1_2 (fun args s t => Cond.after_iff.mpr (by
  first | (rw [show limb_1_2 = Cond.eq .result (.int 1) from rfl, Cond.eq_ints (x := 1) (y := 1) rfl rfl]; simp; done) | (simp [limb_1_2, Cond.value, Term.eval]; done)))⟩
end
