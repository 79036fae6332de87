section
/-- a private method of a class that the tables say can be made, by its rows of tables_1 -/
def lw_okq (q : MethodName × Nat) : Prop := (q.1.cls ≠ "java/lang/invoke/MethodHandle" ∧ q.1.cls ≠ "java/lang/invoke/VarHandle") ∧ Cond.instantiable q.1.cls q.2 ∈ tables_1 ∧ Cond.privateMethod q.1 ∈ tables_1 ∧ Cond.instanceMethod q.1 ∈ tables_1
set_option maxRecDepth 100000
theorem lw_t1 {w : Cond} (h : w ∈ tables_1_1) : w ∈ tables_1 := List.mem_append_left _ h
theorem lw_t2 {w : Cond} (h : w ∈ tables_1_2) : w ∈ tables_1 := List.mem_append_right _ h
theorem lw_p0 : lw_okq (⟨"YenKPaths", "isVertex", "(I)Z"⟩, 17) := ⟨⟨by decide +kernel, by decide +kernel⟩, lw_t1 (List.mem_of_getElem? (i := 4) rfl), lw_t1 (List.mem_of_getElem? (i := 70) rfl), lw_t1 (List.mem_of_getElem? (i := 71) rfl)⟩
theorem lw_p1 : lw_okq (⟨"YenKPaths", "findPaths", "()V"⟩, 17) := ⟨⟨by decide +kernel, by decide +kernel⟩, lw_t1 (List.mem_of_getElem? (i := 4) rfl), lw_t1 (List.mem_of_getElem? (i := 86) rfl), lw_t1 (List.mem_of_getElem? (i := 87) rfl)⟩
theorem lw_p2 : lw_okq (⟨"YenKPaths", "goOn", "(III)Z"⟩, 17) := ⟨⟨by decide +kernel, by decide +kernel⟩, lw_t1 (List.mem_of_getElem? (i := 4) rfl), lw_t1 (List.mem_of_getElem? (i := 90) rfl), lw_t1 (List.mem_of_getElem? (i := 91) rfl)⟩
theorem lw_p3 : lw_okq (⟨"YenKPaths", "measure", "(I)V"⟩, 17) := ⟨⟨by decide +kernel, by decide +kernel⟩, lw_t1 (List.mem_of_getElem? (i := 4) rfl), lw_t1 (List.mem_of_getElem? (i := 94) rfl), lw_t1 (List.mem_of_getElem? (i := 95) rfl)⟩
theorem lw_p4 : lw_okq (⟨"YenKPaths", "nearer", "(I)I"⟩, 17) := ⟨⟨by decide +kernel, by decide +kernel⟩, lw_t1 (List.mem_of_getElem? (i := 4) rfl), lw_t1 (List.mem_of_getElem? (i := 99) rfl), lw_t1 (List.mem_of_getElem? (i := 100) rfl)⟩
theorem lw_p5 : lw_okq (⟨"YenKPaths", "codeOfWay", "()I"⟩, 17) := ⟨⟨by decide +kernel, by decide +kernel⟩, lw_t1 (List.mem_of_getElem? (i := 4) rfl), lw_t1 (List.mem_of_getElem? (i := 103) rfl), lw_t1 (List.mem_of_getElem? (i := 104) rfl)⟩
theorem lw_p6 : lw_okq (⟨"YenKPaths", "keep", "(III)V"⟩, 17) := ⟨⟨by decide +kernel, by decide +kernel⟩, lw_t1 (List.mem_of_getElem? (i := 4) rfl), lw_t1 (List.mem_of_getElem? (i := 107) rfl), lw_t1 (List.mem_of_getElem? (i := 108) rfl)⟩
theorem lw_p7 : lw_okq (⟨"YenKPaths", "branchOff", "(I)V"⟩, 17) := ⟨⟨by decide +kernel, by decide +kernel⟩, lw_t1 (List.mem_of_getElem? (i := 4) rfl), lw_t1 (List.mem_of_getElem? (i := 111) rfl), lw_t1 (List.mem_of_getElem? (i := 112) rfl)⟩
theorem lw_p8 : lw_okq (⟨"YenKPaths", "vertexIn", "(II)I"⟩, 17) := ⟨⟨by decide +kernel, by decide +kernel⟩, lw_t1 (List.mem_of_getElem? (i := 4) rfl), lw_t1 (List.mem_of_getElem? (i := 115) rfl), lw_t1 (List.mem_of_getElem? (i := 116) rfl)⟩
theorem lw_p9 : lw_okq (⟨"YenKPaths", "takenAfter", "(II)I"⟩, 17) := ⟨⟨by decide +kernel, by decide +kernel⟩, lw_t1 (List.mem_of_getElem? (i := 4) rfl), lw_t1 (List.mem_of_getElem? (i := 119) rfl), lw_t1 (List.mem_of_getElem? (i := 120) rfl)⟩
theorem lw_p10 : lw_okq (⟨"YenKPaths", "propose", "(III)V"⟩, 17) := ⟨⟨by decide +kernel, by decide +kernel⟩, lw_t1 (List.mem_of_getElem? (i := 4) rfl), lw_t1 (List.mem_of_getElem? (i := 123) rfl), lw_t1 (List.mem_of_getElem? (i := 124) rfl)⟩
theorem lw_p11 : lw_okq (⟨"YenKPaths", "bestCandidate", "()I"⟩, 17) := ⟨⟨by decide +kernel, by decide +kernel⟩, lw_t1 (List.mem_of_getElem? (i := 4) rfl), lw_t1 (List.mem_of_getElem? (i := 127) rfl), lw_t1 (List.mem_of_getElem? (i := 128) rfl)⟩
theorem lw_p12 : lw_okq (⟨"YenKPathsModel", "isVertex", "(I)Z"⟩, 12) := ⟨⟨by decide +kernel, by decide +kernel⟩, lw_t1 (List.mem_of_getElem? (i := 155) rfl), lw_t1 (List.mem_of_getElem? (i := 202) rfl), lw_t1 (List.mem_of_getElem? (i := 203) rfl)⟩
theorem lw_p13 : lw_okq (⟨"YenKPathsModel", "search", "(II)V"⟩, 12) := ⟨⟨by decide +kernel, by decide +kernel⟩, lw_t1 (List.mem_of_getElem? (i := 155) rfl), lw_t1 (List.mem_of_getElem? (i := 218) rfl), lw_t1 (List.mem_of_getElem? (i := 219) rfl)⟩
theorem lw_p14 : lw_okq (⟨"YenKPathsModel", "turn", "(II)V"⟩, 12) := ⟨⟨by decide +kernel, by decide +kernel⟩, lw_t1 (List.mem_of_getElem? (i := 155) rfl), lw_t1 (List.mem_of_getElem? (i := 222) rfl), lw_t1 (List.mem_of_getElem? (i := 223) rfl)⟩
theorem lw_p15 : lw_okq (⟨"YenKPathsModel", "found", "(II)V"⟩, 12) := ⟨⟨by decide +kernel, by decide +kernel⟩, lw_t1 (List.mem_of_getElem? (i := 155) rfl), lw_t1 (List.mem_of_getElem? (i := 226) rfl), lw_t1 (List.mem_of_getElem? (i := 227) rfl)⟩
def lw_privs_1 : List (MethodName × Nat) := [(⟨"YenKPaths", "isVertex", "(I)Z"⟩, 17), (⟨"YenKPaths", "findPaths", "()V"⟩, 17), (⟨"YenKPaths", "goOn", "(III)Z"⟩, 17), (⟨"YenKPaths", "measure", "(I)V"⟩, 17), (⟨"YenKPaths", "nearer", "(I)I"⟩, 17), (⟨"YenKPaths", "codeOfWay", "()I"⟩, 17), (⟨"YenKPaths", "keep", "(III)V"⟩, 17), (⟨"YenKPaths", "branchOff", "(I)V"⟩, 17), (⟨"YenKPaths", "vertexIn", "(II)I"⟩, 17), (⟨"YenKPaths", "takenAfter", "(II)I"⟩, 17), (⟨"YenKPaths", "propose", "(III)V"⟩, 17), (⟨"YenKPaths", "bestCandidate", "()I"⟩, 17), (⟨"YenKPathsModel", "isVertex", "(I)Z"⟩, 12), (⟨"YenKPathsModel", "search", "(II)V"⟩, 12), (⟨"YenKPathsModel", "turn", "(II)V"⟩, 12), (⟨"YenKPathsModel", "found", "(II)V"⟩, 12)]
theorem lw_r1 : ∀ q ∈ lw_privs_1, lw_okq q := List.forall_mem_cons.mpr ⟨lw_p0, List.forall_mem_cons.mpr ⟨lw_p1, List.forall_mem_cons.mpr ⟨lw_p2, List.forall_mem_cons.mpr ⟨lw_p3, List.forall_mem_cons.mpr ⟨lw_p4, List.forall_mem_cons.mpr ⟨lw_p5, List.forall_mem_cons.mpr ⟨lw_p6, List.forall_mem_cons.mpr ⟨lw_p7, List.forall_mem_cons.mpr ⟨lw_p8, List.forall_mem_cons.mpr ⟨lw_p9, List.forall_mem_cons.mpr ⟨lw_p10, List.forall_mem_cons.mpr ⟨lw_p11, List.forall_mem_cons.mpr ⟨lw_p12, List.forall_mem_cons.mpr ⟨lw_p13, List.forall_mem_cons.mpr ⟨lw_p14, List.forall_mem_cons.mpr ⟨lw_p15, fun _ h => absurd h List.not_mem_nil⟩⟩⟩⟩⟩⟩⟩⟩⟩⟩⟩⟩⟩⟩⟩⟩
theorem lw_p16 : lw_okq (⟨"YenKPathsModel", "lengthOfPath", "()I"⟩, 12) := ⟨⟨by decide +kernel, by decide +kernel⟩, lw_t1 (List.mem_of_getElem? (i := 155) rfl), lw_t1 (List.mem_of_getElem? (i := 230) rfl), lw_t1 (List.mem_of_getElem? (i := 231) rfl)⟩
theorem lw_p17 : lw_okq (⟨"YenKPathsModel", "pathPasses", "(II)Z"⟩, 12) := ⟨⟨by decide +kernel, by decide +kernel⟩, lw_t1 (List.mem_of_getElem? (i := 155) rfl), lw_t1 (List.mem_of_getElem? (i := 234) rfl), lw_t1 (List.mem_of_getElem? (i := 235) rfl)⟩
theorem lw_p18 : lw_okq (⟨"YenKPathsModel", "keep", "()V"⟩, 12) := ⟨⟨by decide +kernel, by decide +kernel⟩, lw_t1 (List.mem_of_getElem? (i := 155) rfl), lw_t1 (List.mem_of_getElem? (i := 238) rfl), lw_t1 (List.mem_of_getElem? (i := 239) rfl)⟩
theorem lw_p19 : lw_okq (⟨"YenKPathsModel", "comesBefore", "(II)Z"⟩, 12) := ⟨⟨by decide +kernel, by decide +kernel⟩, lw_t1 (List.mem_of_getElem? (i := 155) rfl), lw_t2 (List.mem_of_getElem? (i := 2) rfl), lw_t2 (List.mem_of_getElem? (i := 3) rfl)⟩
theorem lw_p20 : lw_okq (⟨"YenKPathsModel", "shift", "(I)V"⟩, 12) := ⟨⟨by decide +kernel, by decide +kernel⟩, lw_t1 (List.mem_of_getElem? (i := 155) rfl), lw_t2 (List.mem_of_getElem? (i := 6) rfl), lw_t2 (List.mem_of_getElem? (i := 7) rfl)⟩
theorem lw_p21 : lw_okq (⟨"YenKPathsModel", "onPath", "(I)Z"⟩, 12) := ⟨⟨by decide +kernel, by decide +kernel⟩, lw_t1 (List.mem_of_getElem? (i := 155) rfl), lw_t2 (List.mem_of_getElem? (i := 10) rfl), lw_t2 (List.mem_of_getElem? (i := 11) rfl)⟩
theorem lw_p22 : lw_okq (⟨"YenKPathsModel", "keptPasses", "(III)Z"⟩, 12) := ⟨⟨by decide +kernel, by decide +kernel⟩, lw_t1 (List.mem_of_getElem? (i := 155) rfl), lw_t2 (List.mem_of_getElem? (i := 30) rfl), lw_t2 (List.mem_of_getElem? (i := 31) rfl)⟩
def lw_privs_2 : List (MethodName × Nat) := [(⟨"YenKPathsModel", "lengthOfPath", "()I"⟩, 12), (⟨"YenKPathsModel", "pathPasses", "(II)Z"⟩, 12), (⟨"YenKPathsModel", "keep", "()V"⟩, 12), (⟨"YenKPathsModel", "comesBefore", "(II)Z"⟩, 12), (⟨"YenKPathsModel", "shift", "(I)V"⟩, 12), (⟨"YenKPathsModel", "onPath", "(I)Z"⟩, 12), (⟨"YenKPathsModel", "keptPasses", "(III)Z"⟩, 12)]
theorem lw_r2 : ∀ q ∈ lw_privs_2, lw_okq q := List.forall_mem_cons.mpr ⟨lw_p16, List.forall_mem_cons.mpr ⟨lw_p17, List.forall_mem_cons.mpr ⟨lw_p18, List.forall_mem_cons.mpr ⟨lw_p19, List.forall_mem_cons.mpr ⟨lw_p20, List.forall_mem_cons.mpr ⟨lw_p21, List.forall_mem_cons.mpr ⟨lw_p22, fun _ h => absurd h List.not_mem_nil⟩⟩⟩⟩⟩⟩⟩
def lw_privs : List (MethodName × Nat) := lw_privs_1 ++ (lw_privs_2)
def lw_tbl : List Cond := k2_sels lw_privs ++ tables_1
theorem lw_privs_ok : ∀ q ∈ lw_privs, lw_okq q := by
  show ∀ q ∈ lw_privs_1 ++ (lw_privs_2), lw_okq q
  exact List.forall_mem_append.mpr ⟨lw_r1, lw_r2⟩
-- ===== ONE list of words for every method: the tables' words that hold all through a run =====
def lw_all : List Cond := lw_tbl.filter goodWord
/-- a word of the tables by its place: claim/WORDS.tsv -/
theorem lw_w {w : Cond} (i : Nat) (h : lw_tbl[i]? = some w) (g : goodWord w = true) : w ∈ lw_all := List.mem_filter.mpr ⟨List.mem_of_getElem? h, g⟩
theorem lw_all_tbl {w : Cond} (h : w ∈ lw_all) : w ∈ lw_tbl := (List.mem_filter.mp h).1
theorem lw_self : GoodIn lw_all lw_all := fun w h => ⟨h, good_of_word (List.mem_filter.mp h).2⟩
/-- a class's field words, by their places -/
theorem lw_in (ws : List Cond) (ps : List Nat) (hp : ws = ps.filterMap (fun i => lw_tbl[i]?)) (hg : ws.all goodWord = true) : ∀ w ∈ ws, w ∈ lw_all := by
  intro w h
  have h1 := List.all_eq_true.mp hg w h
  rw [hp] at h
  obtain ⟨i, -, hi⟩ := List.mem_filterMap.mp h
  exact lw_w i hi h1
/-- the words of a contract for the method y with code b, L locals, answer r -/
abbrev ws_ (y : MethodName) (b : ByteArray) (L : Nat) (r : Option FieldType) : List Cond := Cond.code y b L r :: lw_all
theorem lw_meth {y : MethodName} {b : ByteArray} {L : Nat} {r : Option FieldType} (h : Cond.code y b L r ∈ lw_all) : GoodIn lw_all (ws_ y b L r) := by
  intro w hw
  rcases List.mem_cons.mp hw with e | e
  · rw [e]
    exact lw_self _ h
  · exact lw_self _ e
theorem lw_app {a c : List Cond} (ha : ∀ w ∈ a, w ∈ lw_all) (hc : GoodIn lw_all c) : GoodIn lw_all (a ++ c) := by
  intro w hw
  rcases List.mem_append.mp hw with e | e
  · exact lw_self w (ha w e)
  · exact hc w e
/-- what a call through an object asks: cwV n hts (lw_V ..) -/
theorem lw_V {own : String} {idx : Nat} {C : String} {y : MethodName} {b : ByteArray} {L : Nat} {r : Option FieldType} (h1 : Cond.methodLink own idx y ∈ lw_all) (h2 : Cond.instanceMethod y ∈ lw_all) (h3 : Cond.selects C y y ∈ lw_all) (h4 : Cond.initialized C ∈ lw_all) (h5 : Cond.code y b L r ∈ lw_all) : GoodIn lw_all (wsV own idx C y (ws_ y b L r)) := by
  refine lw_app ?_ (lw_meth h5)
  intro w hw
  simp only [List.mem_cons, List.not_mem_nil, or_false] at hw
  rcases hw with e | e | e | e
  · rw [e]; exact h1
  · rw [e]; exact h2
  · rw [e]; exact h3
  · rw [e]; exact h4
/-- what a static call asks: va_cwS n hts (lw_S ..) -/
theorem lw_S {own : String} {idx : Nat} {y : MethodName} {b : ByteArray} {L : Nat} {r : Option FieldType} (h1 : Cond.methodLink own idx y ∈ lw_all) (h2 : Cond.static y ∈ lw_all) (h3 : Cond.initialized y.cls ∈ lw_all) (h4 : Cond.code y b L r ∈ lw_all) : GoodIn lw_all (va_wsS own idx y (ws_ y b L r)) := by
  refine lw_app ?_ (lw_meth h4)
  intro w hw
  simp only [List.mem_cons, List.not_mem_nil, or_false] at hw
  rcases hw with e | e | e
  · rw [e]; exact h1
  · rw [e]; exact h2
  · rw [e]; exact h3
/-- the words of a contract for a method WITH HANDLERS (hh: its table) -/
abbrev wsW_ (y : MethodName) (b : ByteArray) (L : Nat) (r : Option FieldType) (hh : List (Nat × Nat × Nat × Nat)) : List Cond := Cond.codeWith y b L r hh :: lw_all
theorem lw_methW {y : MethodName} {b : ByteArray} {L : Nat} {r : Option FieldType} {hh : List (Nat × Nat × Nat × Nat)} (h : Cond.codeWith y b L r hh ∈ lw_all) : GoodIn lw_all (wsW_ y b L r hh) := by
  intro w hw
  rcases List.mem_cons.mp hw with e | e
  · rw [e]
    exact lw_self _ h
  · exact lw_self _ e
/-- any list of words by their places (lw_in), good -/
theorem lw_good {ws : List Cond} (h : ∀ w ∈ ws, w ∈ lw_all) : GoodIn lw_all ws := fun w hw => lw_self w (h w hw)
/-- what a call of a method with handlers asks: vx_cwVW n hts (lw_VW ..), vx_cwSW n hts (lw_SW ..) -/
theorem lw_VW {own : String} {idx : Nat} {C : String} {y : MethodName} {b : ByteArray} {L : Nat} {r : Option FieldType} {hh : List (Nat × Nat × Nat × Nat)} (h1 : Cond.methodLink own idx y ∈ lw_all) (h2 : Cond.instanceMethod y ∈ lw_all) (h3 : Cond.selects C y y ∈ lw_all) (h4 : Cond.initialized C ∈ lw_all) (h5 : Cond.codeWith y b L r hh ∈ lw_all) : GoodIn lw_all (wsV own idx C y (wsW_ y b L r hh)) := by
  refine lw_app ?_ (lw_methW h5)
  intro w hw
  simp only [List.mem_cons, List.not_mem_nil, or_false] at hw
  rcases hw with e | e | e | e
  · rw [e]; exact h1
  · rw [e]; exact h2
  · rw [e]; exact h3
  · rw [e]; exact h4
theorem lw_SW {own : String} {idx : Nat} {y : MethodName} {b : ByteArray} {L : Nat} {r : Option FieldType} {hh : List (Nat × Nat × Nat × Nat)} (h1 : Cond.methodLink own idx y ∈ lw_all) (h2 : Cond.static y ∈ lw_all) (h3 : Cond.initialized y.cls ∈ lw_all) (h4 : Cond.codeWith y b L r hh ∈ lw_all) : GoodIn lw_all (va_wsS own idx y (wsW_ y b L r hh)) := by
  refine lw_app ?_ (lw_methW h4)
  intro w hw
  simp only [List.mem_cons, List.not_mem_nil, or_false] at hw
  rcases hw with e | e | e
  · rw [e]; exact h1
  · rw [e]; exact h2
  · rw [e]; exact h3
/-- a word by its place in its run of the tables -/
theorem lw_at {r : List Cond} (hr : ∀ w ∈ r, w ∈ lw_tbl) {w : Cond} (i : Nat) (h : r[i]? = some w) : w ∈ lw_tbl := hr w (List.mem_of_getElem? h)
theorem lw_g {w : Cond} (h : w ∈ lw_tbl) (g : goodWord w = true) : w ∈ lw_all := List.mem_filter.mpr ⟨h, g⟩
theorem lw_ms : ∀ w ∈ k2_sels lw_privs, w ∈ lw_tbl := fun w h => show w ∈ k2_sels lw_privs ++ tables_1 from List.mem_append_left _ h
theorem lw_m1 : ∀ w ∈ tables_1_1, w ∈ lw_tbl := fun w h => show w ∈ k2_sels lw_privs ++ tables_1 from List.mem_append_right (k2_sels lw_privs) (show w ∈ tables_1 from List.mem_append_left _ h)
theorem lw_m2 : ∀ w ∈ tables_1_2, w ∈ lw_tbl := fun w h => show w ∈ k2_sels lw_privs ++ tables_1 from List.mem_append_right (k2_sels lw_privs) (show w ∈ tables_1 from List.mem_append_right _ h)
theorem qs0 : (Cond.selects "YenKPaths" ⟨"YenKPaths", "isVertex", "(I)Z"⟩ ⟨"YenKPaths", "isVertex", "(I)Z"⟩) ∈ lw_all := lw_g (lw_at lw_ms 0 rfl) rfl
theorem qs1 : (Cond.selects "YenKPaths" ⟨"YenKPaths", "findPaths", "()V"⟩ ⟨"YenKPaths", "findPaths", "()V"⟩) ∈ lw_all := lw_g (lw_at lw_ms 1 rfl) rfl
theorem qs2 : (Cond.selects "YenKPaths" ⟨"YenKPaths", "goOn", "(III)Z"⟩ ⟨"YenKPaths", "goOn", "(III)Z"⟩) ∈ lw_all := lw_g (lw_at lw_ms 2 rfl) rfl
theorem qs3 : (Cond.selects "YenKPaths" ⟨"YenKPaths", "measure", "(I)V"⟩ ⟨"YenKPaths", "measure", "(I)V"⟩) ∈ lw_all := lw_g (lw_at lw_ms 3 rfl) rfl
theorem qs4 : (Cond.selects "YenKPaths" ⟨"YenKPaths", "nearer", "(I)I"⟩ ⟨"YenKPaths", "nearer", "(I)I"⟩) ∈ lw_all := lw_g (lw_at lw_ms 4 rfl) rfl
theorem qs5 : (Cond.selects "YenKPaths" ⟨"YenKPaths", "codeOfWay", "()I"⟩ ⟨"YenKPaths", "codeOfWay", "()I"⟩) ∈ lw_all := lw_g (lw_at lw_ms 5 rfl) rfl
theorem qs6 : (Cond.selects "YenKPaths" ⟨"YenKPaths", "keep", "(III)V"⟩ ⟨"YenKPaths", "keep", "(III)V"⟩) ∈ lw_all := lw_g (lw_at lw_ms 6 rfl) rfl
theorem qs7 : (Cond.selects "YenKPaths" ⟨"YenKPaths", "branchOff", "(I)V"⟩ ⟨"YenKPaths", "branchOff", "(I)V"⟩) ∈ lw_all := lw_g (lw_at lw_ms 7 rfl) rfl
theorem qs8 : (Cond.selects "YenKPaths" ⟨"YenKPaths", "vertexIn", "(II)I"⟩ ⟨"YenKPaths", "vertexIn", "(II)I"⟩) ∈ lw_all := lw_g (lw_at lw_ms 8 rfl) rfl
theorem qs9 : (Cond.selects "YenKPaths" ⟨"YenKPaths", "takenAfter", "(II)I"⟩ ⟨"YenKPaths", "takenAfter", "(II)I"⟩) ∈ lw_all := lw_g (lw_at lw_ms 9 rfl) rfl
theorem qs10 : (Cond.selects "YenKPaths" ⟨"YenKPaths", "propose", "(III)V"⟩ ⟨"YenKPaths", "propose", "(III)V"⟩) ∈ lw_all := lw_g (lw_at lw_ms 10 rfl) rfl
theorem qs11 : (Cond.selects "YenKPaths" ⟨"YenKPaths", "bestCandidate", "()I"⟩ ⟨"YenKPaths", "bestCandidate", "()I"⟩) ∈ lw_all := lw_g (lw_at lw_ms 11 rfl) rfl
theorem qs12 : (Cond.selects "YenKPathsModel" ⟨"YenKPathsModel", "isVertex", "(I)Z"⟩ ⟨"YenKPathsModel", "isVertex", "(I)Z"⟩) ∈ lw_all := lw_g (lw_at lw_ms 12 rfl) rfl
theorem qs13 : (Cond.selects "YenKPathsModel" ⟨"YenKPathsModel", "search", "(II)V"⟩ ⟨"YenKPathsModel", "search", "(II)V"⟩) ∈ lw_all := lw_g (lw_at lw_ms 13 rfl) rfl
theorem qs14 : (Cond.selects "YenKPathsModel" ⟨"YenKPathsModel", "turn", "(II)V"⟩ ⟨"YenKPathsModel", "turn", "(II)V"⟩) ∈ lw_all := lw_g (lw_at lw_ms 14 rfl) rfl
theorem qs15 : (Cond.selects "YenKPathsModel" ⟨"YenKPathsModel", "found", "(II)V"⟩ ⟨"YenKPathsModel", "found", "(II)V"⟩) ∈ lw_all := lw_g (lw_at lw_ms 15 rfl) rfl
theorem qs16 : (Cond.selects "YenKPathsModel" ⟨"YenKPathsModel", "lengthOfPath", "()I"⟩ ⟨"YenKPathsModel", "lengthOfPath", "()I"⟩) ∈ lw_all := lw_g (lw_at lw_ms 16 rfl) rfl
theorem qs17 : (Cond.selects "YenKPathsModel" ⟨"YenKPathsModel", "pathPasses", "(II)Z"⟩ ⟨"YenKPathsModel", "pathPasses", "(II)Z"⟩) ∈ lw_all := lw_g (lw_at lw_ms 17 rfl) rfl
theorem qs18 : (Cond.selects "YenKPathsModel" ⟨"YenKPathsModel", "keep", "()V"⟩ ⟨"YenKPathsModel", "keep", "()V"⟩) ∈ lw_all := lw_g (lw_at lw_ms 18 rfl) rfl
theorem qs19 : (Cond.selects "YenKPathsModel" ⟨"YenKPathsModel", "comesBefore", "(II)Z"⟩ ⟨"YenKPathsModel", "comesBefore", "(II)Z"⟩) ∈ lw_all := lw_g (lw_at lw_ms 19 rfl) rfl
theorem qs20 : (Cond.selects "YenKPathsModel" ⟨"YenKPathsModel", "shift", "(I)V"⟩ ⟨"YenKPathsModel", "shift", "(I)V"⟩) ∈ lw_all := lw_g (lw_at lw_ms 20 rfl) rfl
theorem qs21 : (Cond.selects "YenKPathsModel" ⟨"YenKPathsModel", "onPath", "(I)Z"⟩ ⟨"YenKPathsModel", "onPath", "(I)Z"⟩) ∈ lw_all := lw_g (lw_at lw_ms 21 rfl) rfl
theorem qs22 : (Cond.selects "YenKPathsModel" ⟨"YenKPathsModel", "keptPasses", "(III)Z"⟩ ⟨"YenKPathsModel", "keptPasses", "(III)Z"⟩) ∈ lw_all := lw_g (lw_at lw_ms 22 rfl) rfl
end
section
/-! YenKPaths -/
set_option maxRecDepth 100000
def RX0 : String := "YenKPaths"
def TX0 : u_T := fun k => match k with
  | 0 => ("YenKPaths", "weights", "[B", true)
  | 1 => ("YenKPaths", "source", "I", false)
  | 2 => ("YenKPaths", "target", "I", false)
  | 3 => ("YenKPaths", "ready", "Z", false)
  | 4 => ("YenKPaths", "pathCount", "I", false)
  | 5 => ("YenKPaths", "pathCode", "[I", true)
  | 6 => ("YenKPaths", "pathLength", "[I", true)
  | 7 => ("YenKPaths", "pathSize", "[I", true)
  | 8 => ("YenKPaths", "candidateCount", "I", false)
  | 9 => ("YenKPaths", "candidateCode", "[I", true)
  | 10 => ("YenKPaths", "candidateLength", "[I", true)
  | 11 => ("YenKPaths", "candidateSize", "[I", true)
  | 12 => ("YenKPaths", "distance", "[I", true)
  | 13 => ("YenKPaths", "closedArc", "I", false)
  | 14 => ("YenKPaths", "way", "[B", true)
  | 15 => ("YenKPaths", "wayEnd", "I", false)
  | _ => ("YenKPaths", "wayLength", "I", false)
def tyX0 : Nat → FieldType := fun k => match k with
  | 0 => .array .byte
  | 1 => .int
  | 2 => .int
  | 3 => .boolean
  | 4 => .int
  | 5 => .array .int
  | 6 => .array .int
  | 7 => .array .int
  | 8 => .int
  | 9 => .array .int
  | 10 => .array .int
  | 11 => .array .int
  | 12 => .array .int
  | 13 => .int
  | 14 => .array .byte
  | 15 => .int
  | _ => .int
abbrev wsX00 : List Cond := u_ws RX0 TX0 17
set_option maxRecDepth 100000 in
theorem nmX0 : ∀ a, a < 17 → ∀ b, b < 17 → a ≠ b → (TX0 a).2.1 ≠ (TX0 b).2.1 := by decide +kernel
set_option maxRecDepth 100000 in
theorem tyX0_ok : ∀ k, k < 17 → parseFieldDescriptor (TX0 k).2.2.1 = some (tyX0 k) := by decide +kernel
abbrev cX0_init : ByteArray := prog_1_method_1_code
def yX0_init : MethodName := ⟨RX0, "<init>", "()V"⟩
abbrev cX0_arc : ByteArray := prog_1_method_2_code
def yX0_arc : MethodName := ⟨RX0, "arc", "(III)Z"⟩
abbrev cX0_isVertex : ByteArray := prog_1_method_5_code
def yX0_isVertex : MethodName := ⟨RX0, "isVertex", "(I)Z"⟩
abbrev cX0_ends : ByteArray := prog_1_method_3_code
def yX0_ends : MethodName := ⟨RX0, "ends", "(II)Z"⟩
abbrev cX0_weight : ByteArray := prog_1_method_4_code
def yX0_weight : MethodName := ⟨RX0, "weight", "(II)I"⟩
abbrev cX0_paths : ByteArray := prog_1_method_6_code
def yX0_paths : MethodName := ⟨RX0, "paths", "()I"⟩
abbrev cX0_findPaths : ByteArray := prog_1_method_18_code
def yX0_findPaths : MethodName := ⟨RX0, "findPaths", "()V"⟩
abbrev cX0_goOn : ByteArray := prog_1_method_15_code
def yX0_goOn : MethodName := ⟨RX0, "goOn", "(III)Z"⟩
abbrev cX0_measure : ByteArray := prog_1_method_14_code
def yX0_measure : MethodName := ⟨RX0, "measure", "(I)V"⟩
abbrev cX0_nearer : ByteArray := prog_1_method_16_code
def yX0_nearer : MethodName := ⟨RX0, "nearer", "(I)I"⟩
abbrev cX0_codeOfWay : ByteArray := prog_1_method_17_code
def yX0_codeOfWay : MethodName := ⟨RX0, "codeOfWay", "()I"⟩
abbrev cX0_keep : ByteArray := prog_1_method_19_code
def yX0_keep : MethodName := ⟨RX0, "keep", "(III)V"⟩
abbrev cX0_branchOff : ByteArray := prog_1_method_20_code
def yX0_branchOff : MethodName := ⟨RX0, "branchOff", "(I)V"⟩
abbrev cX0_vertexIn : ByteArray := prog_1_method_13_code
def yX0_vertexIn : MethodName := ⟨RX0, "vertexIn", "(II)I"⟩
abbrev cX0_takenAfter : ByteArray := prog_1_method_21_code
def yX0_takenAfter : MethodName := ⟨RX0, "takenAfter", "(II)I"⟩
abbrev cX0_propose : ByteArray := prog_1_method_22_code
def yX0_propose : MethodName := ⟨RX0, "propose", "(III)V"⟩
abbrev cX0_bestCandidate : ByteArray := prog_1_method_23_code
def yX0_bestCandidate : MethodName := ⟨RX0, "bestCandidate", "()I"⟩
abbrev cX0_length : ByteArray := prog_1_method_7_code
def yX0_length : MethodName := ⟨RX0, "length", "(I)I"⟩
abbrev cX0_size : ByteArray := prog_1_method_8_code
def yX0_size : MethodName := ⟨RX0, "size", "(I)I"⟩
abbrev cX0_vertex : ByteArray := prog_1_method_9_code
def yX0_vertex : MethodName := ⟨RX0, "vertex", "(II)I"⟩
abbrev cX0_passing : ByteArray := prog_1_method_10_code
def yX0_passing : MethodName := ⟨RX0, "passing", "(II)I"⟩
abbrev cX0_avoiding : ByteArray := prog_1_method_11_code
def yX0_avoiding : MethodName := ⟨RX0, "avoiding", "(II)I"⟩
abbrev cX0_unavoidable : ByteArray := prog_1_method_12_code
def yX0_unavoidable : MethodName := ⟨RX0, "unavoidable", "()I"⟩
theorem q24 : (Jvm.Cond.initialized "YenKPaths") ∈ lw_all := lw_g (lw_at lw_m1 1 rfl) rfl
theorem q27 : (Jvm.Cond.instantiable "YenKPaths" (17 : Nat)) ∈ lw_all := lw_g (lw_at lw_m1 4 rfl) rfl
theorem q29 : (Jvm.Cond.instanceMethod ({ cls := "YenKPaths", name := "<init>", desc := "()V" } : Jvm.MethodName)) ∈ lw_all := lw_g (lw_at lw_m1 6 rfl) rfl
theorem q30 : (Jvm.Cond.code ({ cls := "YenKPaths", name := "<init>", desc := "()V" } : Jvm.MethodName) prog_1_method_1_code (1 : Nat) (Option.none : Option Jvm.ClassFile.FieldType)) ∈ lw_all := lw_g (lw_at lw_m1 7 rfl) rfl
theorem q31 : (Jvm.Cond.methodLink "YenKPaths" (1 : Nat) ({ cls := "java/lang/Object", name := "<init>", desc := "()V" } : Jvm.MethodName)) ∈ lw_all := lw_g (lw_at lw_m1 8 rfl) rfl
theorem q34 : (Jvm.Cond.fieldLink "YenKPaths" (7 : Nat) "YenKPaths" "weights" "[B") ∈ lw_all := lw_g (lw_at lw_m1 11 rfl) rfl
theorem q35 : (Jvm.Cond.fieldLink "YenKPaths" (53 : Nat) "YenKPaths" "source" "I") ∈ lw_all := lw_g (lw_at lw_m1 12 rfl) rfl
theorem q36 : (Jvm.Cond.fieldLink "YenKPaths" (38 : Nat) "YenKPaths" "target" "I") ∈ lw_all := lw_g (lw_at lw_m1 13 rfl) rfl
theorem q37 : (Jvm.Cond.fieldLink "YenKPaths" (49 : Nat) "YenKPaths" "ready" "Z") ∈ lw_all := lw_g (lw_at lw_m1 14 rfl) rfl
theorem q38 : (Jvm.Cond.fieldLink "YenKPaths" (59 : Nat) "YenKPaths" "pathCount" "I") ∈ lw_all := lw_g (lw_at lw_m1 15 rfl) rfl
theorem q39 : (Jvm.Cond.fieldLink "YenKPaths" (13 : Nat) "YenKPaths" "pathCode" "[I") ∈ lw_all := lw_g (lw_at lw_m1 16 rfl) rfl
theorem q40 : (Jvm.Cond.fieldLink "YenKPaths" (17 : Nat) "YenKPaths" "pathLength" "[I") ∈ lw_all := lw_g (lw_at lw_m1 17 rfl) rfl
theorem q41 : (Jvm.Cond.fieldLink "YenKPaths" (20 : Nat) "YenKPaths" "pathSize" "[I") ∈ lw_all := lw_g (lw_at lw_m1 18 rfl) rfl
theorem q42 : (Jvm.Cond.fieldLink "YenKPaths" (85 : Nat) "YenKPaths" "candidateCount" "I") ∈ lw_all := lw_g (lw_at lw_m1 19 rfl) rfl
theorem q43 : (Jvm.Cond.fieldLink "YenKPaths" (23 : Nat) "YenKPaths" "candidateCode" "[I") ∈ lw_all := lw_g (lw_at lw_m1 20 rfl) rfl
theorem q44 : (Jvm.Cond.fieldLink "YenKPaths" (26 : Nat) "YenKPaths" "candidateLength" "[I") ∈ lw_all := lw_g (lw_at lw_m1 21 rfl) rfl
theorem q45 : (Jvm.Cond.fieldLink "YenKPaths" (29 : Nat) "YenKPaths" "candidateSize" "[I") ∈ lw_all := lw_g (lw_at lw_m1 22 rfl) rfl
theorem q46 : (Jvm.Cond.fieldLink "YenKPaths" (32 : Nat) "YenKPaths" "distance" "[I") ∈ lw_all := lw_g (lw_at lw_m1 23 rfl) rfl
theorem q47 : (Jvm.Cond.fieldLink "YenKPaths" (42 : Nat) "YenKPaths" "closedArc" "I") ∈ lw_all := lw_g (lw_at lw_m1 24 rfl) rfl
theorem q48 : (Jvm.Cond.fieldLink "YenKPaths" (35 : Nat) "YenKPaths" "way" "[B") ∈ lw_all := lw_g (lw_at lw_m1 25 rfl) rfl
theorem q49 : (Jvm.Cond.fieldLink "YenKPaths" (66 : Nat) "YenKPaths" "wayEnd" "I") ∈ lw_all := lw_g (lw_at lw_m1 26 rfl) rfl
theorem q50 : (Jvm.Cond.fieldLink "YenKPaths" (73 : Nat) "YenKPaths" "wayLength" "I") ∈ lw_all := lw_g (lw_at lw_m1 27 rfl) rfl
theorem q51 : (Jvm.Cond.laysFinal "YenKPaths" "YenKPaths" "weights" "[B") ∈ lw_all := lw_g (lw_at lw_m1 28 rfl) rfl
theorem q52 : (Jvm.Cond.soleField "YenKPaths" "weights") ∈ lw_all := lw_g (lw_at lw_m1 29 rfl) rfl
theorem q53 : (Jvm.Cond.lays "YenKPaths" "YenKPaths" "source" "I") ∈ lw_all := lw_g (lw_at lw_m1 30 rfl) rfl
theorem q54 : (Jvm.Cond.soleField "YenKPaths" "source") ∈ lw_all := lw_g (lw_at lw_m1 31 rfl) rfl
theorem q55 : (Jvm.Cond.lays "YenKPaths" "YenKPaths" "target" "I") ∈ lw_all := lw_g (lw_at lw_m1 32 rfl) rfl
theorem q56 : (Jvm.Cond.soleField "YenKPaths" "target") ∈ lw_all := lw_g (lw_at lw_m1 33 rfl) rfl
theorem q57 : (Jvm.Cond.lays "YenKPaths" "YenKPaths" "ready" "Z") ∈ lw_all := lw_g (lw_at lw_m1 34 rfl) rfl
theorem q58 : (Jvm.Cond.soleField "YenKPaths" "ready") ∈ lw_all := lw_g (lw_at lw_m1 35 rfl) rfl
theorem q59 : (Jvm.Cond.lays "YenKPaths" "YenKPaths" "pathCount" "I") ∈ lw_all := lw_g (lw_at lw_m1 36 rfl) rfl
theorem q60 : (Jvm.Cond.soleField "YenKPaths" "pathCount") ∈ lw_all := lw_g (lw_at lw_m1 37 rfl) rfl
theorem q61 : (Jvm.Cond.laysFinal "YenKPaths" "YenKPaths" "pathCode" "[I") ∈ lw_all := lw_g (lw_at lw_m1 38 rfl) rfl
theorem q62 : (Jvm.Cond.soleField "YenKPaths" "pathCode") ∈ lw_all := lw_g (lw_at lw_m1 39 rfl) rfl
theorem q63 : (Jvm.Cond.laysFinal "YenKPaths" "YenKPaths" "pathLength" "[I") ∈ lw_all := lw_g (lw_at lw_m1 40 rfl) rfl
theorem q64 : (Jvm.Cond.soleField "YenKPaths" "pathLength") ∈ lw_all := lw_g (lw_at lw_m1 41 rfl) rfl
theorem q65 : (Jvm.Cond.laysFinal "YenKPaths" "YenKPaths" "pathSize" "[I") ∈ lw_all := lw_g (lw_at lw_m1 42 rfl) rfl
theorem q66 : (Jvm.Cond.soleField "YenKPaths" "pathSize") ∈ lw_all := lw_g (lw_at lw_m1 43 rfl) rfl
theorem q67 : (Jvm.Cond.lays "YenKPaths" "YenKPaths" "candidateCount" "I") ∈ lw_all := lw_g (lw_at lw_m1 44 rfl) rfl
theorem q68 : (Jvm.Cond.soleField "YenKPaths" "candidateCount") ∈ lw_all := lw_g (lw_at lw_m1 45 rfl) rfl
theorem q69 : (Jvm.Cond.laysFinal "YenKPaths" "YenKPaths" "candidateCode" "[I") ∈ lw_all := lw_g (lw_at lw_m1 46 rfl) rfl
theorem q70 : (Jvm.Cond.soleField "YenKPaths" "candidateCode") ∈ lw_all := lw_g (lw_at lw_m1 47 rfl) rfl
theorem q71 : (Jvm.Cond.laysFinal "YenKPaths" "YenKPaths" "candidateLength" "[I") ∈ lw_all := lw_g (lw_at lw_m1 48 rfl) rfl
theorem q72 : (Jvm.Cond.soleField "YenKPaths" "candidateLength") ∈ lw_all := lw_g (lw_at lw_m1 49 rfl) rfl
theorem q73 : (Jvm.Cond.laysFinal "YenKPaths" "YenKPaths" "candidateSize" "[I") ∈ lw_all := lw_g (lw_at lw_m1 50 rfl) rfl
theorem q74 : (Jvm.Cond.soleField "YenKPaths" "candidateSize") ∈ lw_all := lw_g (lw_at lw_m1 51 rfl) rfl
theorem q75 : (Jvm.Cond.laysFinal "YenKPaths" "YenKPaths" "distance" "[I") ∈ lw_all := lw_g (lw_at lw_m1 52 rfl) rfl
theorem q76 : (Jvm.Cond.soleField "YenKPaths" "distance") ∈ lw_all := lw_g (lw_at lw_m1 53 rfl) rfl
theorem q77 : (Jvm.Cond.lays "YenKPaths" "YenKPaths" "closedArc" "I") ∈ lw_all := lw_g (lw_at lw_m1 54 rfl) rfl
theorem q78 : (Jvm.Cond.soleField "YenKPaths" "closedArc") ∈ lw_all := lw_g (lw_at lw_m1 55 rfl) rfl
theorem q79 : (Jvm.Cond.laysFinal "YenKPaths" "YenKPaths" "way" "[B") ∈ lw_all := lw_g (lw_at lw_m1 56 rfl) rfl
theorem q80 : (Jvm.Cond.soleField "YenKPaths" "way") ∈ lw_all := lw_g (lw_at lw_m1 57 rfl) rfl
theorem q81 : (Jvm.Cond.lays "YenKPaths" "YenKPaths" "wayEnd" "I") ∈ lw_all := lw_g (lw_at lw_m1 58 rfl) rfl
theorem q82 : (Jvm.Cond.soleField "YenKPaths" "wayEnd") ∈ lw_all := lw_g (lw_at lw_m1 59 rfl) rfl
theorem q83 : (Jvm.Cond.lays "YenKPaths" "YenKPaths" "wayLength" "I") ∈ lw_all := lw_g (lw_at lw_m1 60 rfl) rfl
theorem q84 : (Jvm.Cond.soleField "YenKPaths" "wayLength") ∈ lw_all := lw_g (lw_at lw_m1 61 rfl) rfl
theorem q85 : (Jvm.Cond.superclass "YenKPaths" "java/lang/Object") ∈ lw_all := lw_g (lw_at lw_m1 62 rfl) rfl
theorem q89 : (Jvm.Cond.instanceMethod ({ cls := "YenKPaths", name := "arc", desc := "(III)Z" } : Jvm.MethodName)) ∈ lw_all := lw_g (lw_at lw_m1 66 rfl) rfl
theorem q90 : (Jvm.Cond.selects "YenKPaths" ({ cls := "YenKPaths", name := "arc", desc := "(III)Z" } : Jvm.MethodName) ({ cls := "YenKPaths", name := "arc", desc := "(III)Z" } : Jvm.MethodName)) ∈ lw_all := lw_g (lw_at lw_m1 67 rfl) rfl
theorem q91 : (Jvm.Cond.code ({ cls := "YenKPaths", name := "arc", desc := "(III)Z" } : Jvm.MethodName) prog_1_method_2_code (4 : Nat) (Option.some Jvm.ClassFile.FieldType.boolean)) ∈ lw_all := lw_g (lw_at lw_m1 68 rfl) rfl
theorem q92 : (Jvm.Cond.methodLink "YenKPaths" (45 : Nat) ({ cls := "YenKPaths", name := "isVertex", desc := "(I)Z" } : Jvm.MethodName)) ∈ lw_all := lw_g (lw_at lw_m1 69 rfl) rfl
theorem q93 : (Jvm.Cond.privateMethod ({ cls := "YenKPaths", name := "isVertex", desc := "(I)Z" } : Jvm.MethodName)) ∈ lw_tbl := lw_at lw_m1 70 rfl
theorem q94 : (Jvm.Cond.instanceMethod ({ cls := "YenKPaths", name := "isVertex", desc := "(I)Z" } : Jvm.MethodName)) ∈ lw_all := lw_g (lw_at lw_m1 71 rfl) rfl
theorem q95 : (Jvm.Cond.code ({ cls := "YenKPaths", name := "isVertex", desc := "(I)Z" } : Jvm.MethodName) prog_1_method_5_code (2 : Nat) (Option.some Jvm.ClassFile.FieldType.boolean)) ∈ lw_all := lw_g (lw_at lw_m1 72 rfl) rfl
theorem q97 : (Jvm.Cond.instanceMethod ({ cls := "YenKPaths", name := "ends", desc := "(II)Z" } : Jvm.MethodName)) ∈ lw_all := lw_g (lw_at lw_m1 74 rfl) rfl
theorem q98 : (Jvm.Cond.selects "YenKPaths" ({ cls := "YenKPaths", name := "ends", desc := "(II)Z" } : Jvm.MethodName) ({ cls := "YenKPaths", name := "ends", desc := "(II)Z" } : Jvm.MethodName)) ∈ lw_all := lw_g (lw_at lw_m1 75 rfl) rfl
theorem q99 : (Jvm.Cond.code ({ cls := "YenKPaths", name := "ends", desc := "(II)Z" } : Jvm.MethodName) prog_1_method_3_code (3 : Nat) (Option.some Jvm.ClassFile.FieldType.boolean)) ∈ lw_all := lw_g (lw_at lw_m1 76 rfl) rfl
theorem q101 : (Jvm.Cond.instanceMethod ({ cls := "YenKPaths", name := "weight", desc := "(II)I" } : Jvm.MethodName)) ∈ lw_all := lw_g (lw_at lw_m1 78 rfl) rfl
theorem q102 : (Jvm.Cond.selects "YenKPaths" ({ cls := "YenKPaths", name := "weight", desc := "(II)I" } : Jvm.MethodName) ({ cls := "YenKPaths", name := "weight", desc := "(II)I" } : Jvm.MethodName)) ∈ lw_all := lw_g (lw_at lw_m1 79 rfl) rfl
theorem q103 : (Jvm.Cond.code ({ cls := "YenKPaths", name := "weight", desc := "(II)I" } : Jvm.MethodName) prog_1_method_4_code (3 : Nat) (Option.some Jvm.ClassFile.FieldType.int)) ∈ lw_all := lw_g (lw_at lw_m1 80 rfl) rfl
theorem q105 : (Jvm.Cond.instanceMethod ({ cls := "YenKPaths", name := "paths", desc := "()I" } : Jvm.MethodName)) ∈ lw_all := lw_g (lw_at lw_m1 82 rfl) rfl
theorem q106 : (Jvm.Cond.selects "YenKPaths" ({ cls := "YenKPaths", name := "paths", desc := "()I" } : Jvm.MethodName) ({ cls := "YenKPaths", name := "paths", desc := "()I" } : Jvm.MethodName)) ∈ lw_all := lw_g (lw_at lw_m1 83 rfl) rfl
theorem q107 : (Jvm.Cond.code ({ cls := "YenKPaths", name := "paths", desc := "()I" } : Jvm.MethodName) prog_1_method_6_code (1 : Nat) (Option.some Jvm.ClassFile.FieldType.int)) ∈ lw_all := lw_g (lw_at lw_m1 84 rfl) rfl
theorem q108 : (Jvm.Cond.methodLink "YenKPaths" (56 : Nat) ({ cls := "YenKPaths", name := "findPaths", desc := "()V" } : Jvm.MethodName)) ∈ lw_all := lw_g (lw_at lw_m1 85 rfl) rfl
theorem q109 : (Jvm.Cond.privateMethod ({ cls := "YenKPaths", name := "findPaths", desc := "()V" } : Jvm.MethodName)) ∈ lw_tbl := lw_at lw_m1 86 rfl
theorem q110 : (Jvm.Cond.instanceMethod ({ cls := "YenKPaths", name := "findPaths", desc := "()V" } : Jvm.MethodName)) ∈ lw_all := lw_g (lw_at lw_m1 87 rfl) rfl
theorem q111 : (Jvm.Cond.code ({ cls := "YenKPaths", name := "findPaths", desc := "()V" } : Jvm.MethodName) prog_1_method_18_code (3 : Nat) (Option.none : Option Jvm.ClassFile.FieldType)) ∈ lw_all := lw_g (lw_at lw_m1 88 rfl) rfl
theorem q112 : (Jvm.Cond.methodLink "YenKPaths" (69 : Nat) ({ cls := "YenKPaths", name := "goOn", desc := "(III)Z" } : Jvm.MethodName)) ∈ lw_all := lw_g (lw_at lw_m1 89 rfl) rfl
theorem q113 : (Jvm.Cond.privateMethod ({ cls := "YenKPaths", name := "goOn", desc := "(III)Z" } : Jvm.MethodName)) ∈ lw_tbl := lw_at lw_m1 90 rfl
theorem q114 : (Jvm.Cond.instanceMethod ({ cls := "YenKPaths", name := "goOn", desc := "(III)Z" } : Jvm.MethodName)) ∈ lw_all := lw_g (lw_at lw_m1 91 rfl) rfl
theorem q115 : (Jvm.Cond.code ({ cls := "YenKPaths", name := "goOn", desc := "(III)Z" } : Jvm.MethodName) prog_1_method_15_code (8 : Nat) (Option.some Jvm.ClassFile.FieldType.boolean)) ∈ lw_all := lw_g (lw_at lw_m1 92 rfl) rfl
theorem q116 : (Jvm.Cond.methodLink "YenKPaths" (77 : Nat) ({ cls := "YenKPaths", name := "measure", desc := "(I)V" } : Jvm.MethodName)) ∈ lw_all := lw_g (lw_at lw_m1 93 rfl) rfl
theorem q117 : (Jvm.Cond.privateMethod ({ cls := "YenKPaths", name := "measure", desc := "(I)V" } : Jvm.MethodName)) ∈ lw_tbl := lw_at lw_m1 94 rfl
theorem q118 : (Jvm.Cond.instanceMethod ({ cls := "YenKPaths", name := "measure", desc := "(I)V" } : Jvm.MethodName)) ∈ lw_all := lw_g (lw_at lw_m1 95 rfl) rfl
theorem q119 : (Jvm.Cond.code ({ cls := "YenKPaths", name := "measure", desc := "(I)V" } : Jvm.MethodName) prog_1_method_14_code (6 : Nat) (Option.none : Option Jvm.ClassFile.FieldType)) ∈ lw_all := lw_g (lw_at lw_m1 96 rfl) rfl
theorem q120 : (Jvm.Cond.constant "YenKPaths" (76 : Nat) (1000000 : Int32)) ∈ lw_all := lw_g (lw_at lw_m1 97 rfl) rfl
theorem q121 : (Jvm.Cond.methodLink "YenKPaths" (81 : Nat) ({ cls := "YenKPaths", name := "nearer", desc := "(I)I" } : Jvm.MethodName)) ∈ lw_all := lw_g (lw_at lw_m1 98 rfl) rfl
theorem q122 : (Jvm.Cond.privateMethod ({ cls := "YenKPaths", name := "nearer", desc := "(I)I" } : Jvm.MethodName)) ∈ lw_tbl := lw_at lw_m1 99 rfl
theorem q123 : (Jvm.Cond.instanceMethod ({ cls := "YenKPaths", name := "nearer", desc := "(I)I" } : Jvm.MethodName)) ∈ lw_all := lw_g (lw_at lw_m1 100 rfl) rfl
theorem q124 : (Jvm.Cond.code ({ cls := "YenKPaths", name := "nearer", desc := "(I)I" } : Jvm.MethodName) prog_1_method_16_code (4 : Nat) (Option.some Jvm.ClassFile.FieldType.int)) ∈ lw_all := lw_g (lw_at lw_m1 101 rfl) rfl
theorem q125 : (Jvm.Cond.methodLink "YenKPaths" (88 : Nat) ({ cls := "YenKPaths", name := "codeOfWay", desc := "()I" } : Jvm.MethodName)) ∈ lw_all := lw_g (lw_at lw_m1 102 rfl) rfl
theorem q126 : (Jvm.Cond.privateMethod ({ cls := "YenKPaths", name := "codeOfWay", desc := "()I" } : Jvm.MethodName)) ∈ lw_tbl := lw_at lw_m1 103 rfl
theorem q127 : (Jvm.Cond.instanceMethod ({ cls := "YenKPaths", name := "codeOfWay", desc := "()I" } : Jvm.MethodName)) ∈ lw_all := lw_g (lw_at lw_m1 104 rfl) rfl
theorem q128 : (Jvm.Cond.code ({ cls := "YenKPaths", name := "codeOfWay", desc := "()I" } : Jvm.MethodName) prog_1_method_17_code (3 : Nat) (Option.some Jvm.ClassFile.FieldType.int)) ∈ lw_all := lw_g (lw_at lw_m1 105 rfl) rfl
theorem q129 : (Jvm.Cond.methodLink "YenKPaths" (92 : Nat) ({ cls := "YenKPaths", name := "keep", desc := "(III)V" } : Jvm.MethodName)) ∈ lw_all := lw_g (lw_at lw_m1 106 rfl) rfl
theorem q130 : (Jvm.Cond.privateMethod ({ cls := "YenKPaths", name := "keep", desc := "(III)V" } : Jvm.MethodName)) ∈ lw_tbl := lw_at lw_m1 107 rfl
theorem q131 : (Jvm.Cond.instanceMethod ({ cls := "YenKPaths", name := "keep", desc := "(III)V" } : Jvm.MethodName)) ∈ lw_all := lw_g (lw_at lw_m1 108 rfl) rfl
theorem q132 : (Jvm.Cond.code ({ cls := "YenKPaths", name := "keep", desc := "(III)V" } : Jvm.MethodName) prog_1_method_19_code (4 : Nat) (Option.none : Option Jvm.ClassFile.FieldType)) ∈ lw_all := lw_g (lw_at lw_m1 109 rfl) rfl
theorem q133 : (Jvm.Cond.methodLink "YenKPaths" (96 : Nat) ({ cls := "YenKPaths", name := "branchOff", desc := "(I)V" } : Jvm.MethodName)) ∈ lw_all := lw_g (lw_at lw_m1 110 rfl) rfl
theorem q134 : (Jvm.Cond.privateMethod ({ cls := "YenKPaths", name := "branchOff", desc := "(I)V" } : Jvm.MethodName)) ∈ lw_tbl := lw_at lw_m1 111 rfl
theorem q135 : (Jvm.Cond.instanceMethod ({ cls := "YenKPaths", name := "branchOff", desc := "(I)V" } : Jvm.MethodName)) ∈ lw_all := lw_g (lw_at lw_m1 112 rfl) rfl
theorem q136 : (Jvm.Cond.code ({ cls := "YenKPaths", name := "branchOff", desc := "(I)V" } : Jvm.MethodName) prog_1_method_20_code (8 : Nat) (Option.none : Option Jvm.ClassFile.FieldType)) ∈ lw_all := lw_g (lw_at lw_m1 113 rfl) rfl
theorem q137 : (Jvm.Cond.methodLink "YenKPaths" (62 : Nat) ({ cls := "YenKPaths", name := "vertexIn", desc := "(II)I" } : Jvm.MethodName)) ∈ lw_all := lw_g (lw_at lw_m1 114 rfl) rfl
theorem q138 : (Jvm.Cond.privateMethod ({ cls := "YenKPaths", name := "vertexIn", desc := "(II)I" } : Jvm.MethodName)) ∈ lw_tbl := lw_at lw_m1 115 rfl
theorem q139 : (Jvm.Cond.instanceMethod ({ cls := "YenKPaths", name := "vertexIn", desc := "(II)I" } : Jvm.MethodName)) ∈ lw_all := lw_g (lw_at lw_m1 116 rfl) rfl
theorem q140 : (Jvm.Cond.code ({ cls := "YenKPaths", name := "vertexIn", desc := "(II)I" } : Jvm.MethodName) prog_1_method_13_code (3 : Nat) (Option.some Jvm.ClassFile.FieldType.int)) ∈ lw_all := lw_g (lw_at lw_m1 117 rfl) rfl
theorem q141 : (Jvm.Cond.methodLink "YenKPaths" (102 : Nat) ({ cls := "YenKPaths", name := "takenAfter", desc := "(II)I" } : Jvm.MethodName)) ∈ lw_all := lw_g (lw_at lw_m1 118 rfl) rfl
theorem q142 : (Jvm.Cond.privateMethod ({ cls := "YenKPaths", name := "takenAfter", desc := "(II)I" } : Jvm.MethodName)) ∈ lw_tbl := lw_at lw_m1 119 rfl
theorem q143 : (Jvm.Cond.instanceMethod ({ cls := "YenKPaths", name := "takenAfter", desc := "(II)I" } : Jvm.MethodName)) ∈ lw_all := lw_g (lw_at lw_m1 120 rfl) rfl
theorem q144 : (Jvm.Cond.code ({ cls := "YenKPaths", name := "takenAfter", desc := "(II)I" } : Jvm.MethodName) prog_1_method_21_code (6 : Nat) (Option.some Jvm.ClassFile.FieldType.int)) ∈ lw_all := lw_g (lw_at lw_m1 121 rfl) rfl
theorem q145 : (Jvm.Cond.methodLink "YenKPaths" (105 : Nat) ({ cls := "YenKPaths", name := "propose", desc := "(III)V" } : Jvm.MethodName)) ∈ lw_all := lw_g (lw_at lw_m1 122 rfl) rfl
theorem q146 : (Jvm.Cond.privateMethod ({ cls := "YenKPaths", name := "propose", desc := "(III)V" } : Jvm.MethodName)) ∈ lw_tbl := lw_at lw_m1 123 rfl
theorem q147 : (Jvm.Cond.instanceMethod ({ cls := "YenKPaths", name := "propose", desc := "(III)V" } : Jvm.MethodName)) ∈ lw_all := lw_g (lw_at lw_m1 124 rfl) rfl
theorem q148 : (Jvm.Cond.code ({ cls := "YenKPaths", name := "propose", desc := "(III)V" } : Jvm.MethodName) prog_1_method_22_code (5 : Nat) (Option.none : Option Jvm.ClassFile.FieldType)) ∈ lw_all := lw_g (lw_at lw_m1 125 rfl) rfl
theorem q149 : (Jvm.Cond.methodLink "YenKPaths" (99 : Nat) ({ cls := "YenKPaths", name := "bestCandidate", desc := "()I" } : Jvm.MethodName)) ∈ lw_all := lw_g (lw_at lw_m1 126 rfl) rfl
theorem q150 : (Jvm.Cond.privateMethod ({ cls := "YenKPaths", name := "bestCandidate", desc := "()I" } : Jvm.MethodName)) ∈ lw_tbl := lw_at lw_m1 127 rfl
theorem q151 : (Jvm.Cond.instanceMethod ({ cls := "YenKPaths", name := "bestCandidate", desc := "()I" } : Jvm.MethodName)) ∈ lw_all := lw_g (lw_at lw_m1 128 rfl) rfl
theorem q152 : (Jvm.Cond.code ({ cls := "YenKPaths", name := "bestCandidate", desc := "()I" } : Jvm.MethodName) prog_1_method_23_code (4 : Nat) (Option.some Jvm.ClassFile.FieldType.int)) ∈ lw_all := lw_g (lw_at lw_m1 129 rfl) rfl
theorem q154 : (Jvm.Cond.instanceMethod ({ cls := "YenKPaths", name := "length", desc := "(I)I" } : Jvm.MethodName)) ∈ lw_all := lw_g (lw_at lw_m1 131 rfl) rfl
theorem q155 : (Jvm.Cond.selects "YenKPaths" ({ cls := "YenKPaths", name := "length", desc := "(I)I" } : Jvm.MethodName) ({ cls := "YenKPaths", name := "length", desc := "(I)I" } : Jvm.MethodName)) ∈ lw_all := lw_g (lw_at lw_m1 132 rfl) rfl
theorem q156 : (Jvm.Cond.code ({ cls := "YenKPaths", name := "length", desc := "(I)I" } : Jvm.MethodName) prog_1_method_7_code (2 : Nat) (Option.some Jvm.ClassFile.FieldType.int)) ∈ lw_all := lw_g (lw_at lw_m1 133 rfl) rfl
theorem q158 : (Jvm.Cond.instanceMethod ({ cls := "YenKPaths", name := "size", desc := "(I)I" } : Jvm.MethodName)) ∈ lw_all := lw_g (lw_at lw_m1 135 rfl) rfl
theorem q159 : (Jvm.Cond.selects "YenKPaths" ({ cls := "YenKPaths", name := "size", desc := "(I)I" } : Jvm.MethodName) ({ cls := "YenKPaths", name := "size", desc := "(I)I" } : Jvm.MethodName)) ∈ lw_all := lw_g (lw_at lw_m1 136 rfl) rfl
theorem q160 : (Jvm.Cond.code ({ cls := "YenKPaths", name := "size", desc := "(I)I" } : Jvm.MethodName) prog_1_method_8_code (2 : Nat) (Option.some Jvm.ClassFile.FieldType.int)) ∈ lw_all := lw_g (lw_at lw_m1 137 rfl) rfl
theorem q162 : (Jvm.Cond.instanceMethod ({ cls := "YenKPaths", name := "vertex", desc := "(II)I" } : Jvm.MethodName)) ∈ lw_all := lw_g (lw_at lw_m1 139 rfl) rfl
theorem q163 : (Jvm.Cond.selects "YenKPaths" ({ cls := "YenKPaths", name := "vertex", desc := "(II)I" } : Jvm.MethodName) ({ cls := "YenKPaths", name := "vertex", desc := "(II)I" } : Jvm.MethodName)) ∈ lw_all := lw_g (lw_at lw_m1 140 rfl) rfl
theorem q164 : (Jvm.Cond.code ({ cls := "YenKPaths", name := "vertex", desc := "(II)I" } : Jvm.MethodName) prog_1_method_9_code (3 : Nat) (Option.some Jvm.ClassFile.FieldType.int)) ∈ lw_all := lw_g (lw_at lw_m1 141 rfl) rfl
theorem q166 : (Jvm.Cond.instanceMethod ({ cls := "YenKPaths", name := "passing", desc := "(II)I" } : Jvm.MethodName)) ∈ lw_all := lw_g (lw_at lw_m1 143 rfl) rfl
theorem q167 : (Jvm.Cond.selects "YenKPaths" ({ cls := "YenKPaths", name := "passing", desc := "(II)I" } : Jvm.MethodName) ({ cls := "YenKPaths", name := "passing", desc := "(II)I" } : Jvm.MethodName)) ∈ lw_all := lw_g (lw_at lw_m1 144 rfl) rfl
theorem q168 : (Jvm.Cond.code ({ cls := "YenKPaths", name := "passing", desc := "(II)I" } : Jvm.MethodName) prog_1_method_10_code (6 : Nat) (Option.some Jvm.ClassFile.FieldType.int)) ∈ lw_all := lw_g (lw_at lw_m1 145 rfl) rfl
theorem q170 : (Jvm.Cond.instanceMethod ({ cls := "YenKPaths", name := "avoiding", desc := "(II)I" } : Jvm.MethodName)) ∈ lw_all := lw_g (lw_at lw_m1 147 rfl) rfl
theorem q171 : (Jvm.Cond.selects "YenKPaths" ({ cls := "YenKPaths", name := "avoiding", desc := "(II)I" } : Jvm.MethodName) ({ cls := "YenKPaths", name := "avoiding", desc := "(II)I" } : Jvm.MethodName)) ∈ lw_all := lw_g (lw_at lw_m1 148 rfl) rfl
theorem q172 : (Jvm.Cond.code ({ cls := "YenKPaths", name := "avoiding", desc := "(II)I" } : Jvm.MethodName) prog_1_method_11_code (4 : Nat) (Option.some Jvm.ClassFile.FieldType.int)) ∈ lw_all := lw_g (lw_at lw_m1 149 rfl) rfl
theorem q174 : (Jvm.Cond.instanceMethod ({ cls := "YenKPaths", name := "unavoidable", desc := "()I" } : Jvm.MethodName)) ∈ lw_all := lw_g (lw_at lw_m1 151 rfl) rfl
theorem q175 : (Jvm.Cond.selects "YenKPaths" ({ cls := "YenKPaths", name := "unavoidable", desc := "()I" } : Jvm.MethodName) ({ cls := "YenKPaths", name := "unavoidable", desc := "()I" } : Jvm.MethodName)) ∈ lw_all := lw_g (lw_at lw_m1 152 rfl) rfl
theorem q176 : (Jvm.Cond.code ({ cls := "YenKPaths", name := "unavoidable", desc := "()I" } : Jvm.MethodName) prog_1_method_12_code (3 : Nat) (Option.some Jvm.ClassFile.FieldType.int)) ∈ lw_all := lw_g (lw_at lw_m1 153 rfl) rfl
theorem in_X0 : ∀ w ∈ wsX00, w ∈ lw_all := lw_in wsX00 [51, 53, 55, 57, 59, 61, 63, 65, 67, 69, 71, 73, 75, 77, 79, 81, 83] (by decide +kernel) (by decide +kernel)
end
section
set_option maxRecDepth 100000
theorem dX0_init_0 : decode cX0_init 0 = .ok (.aload_n 0, 1) := by decide +kernel
theorem dX0_init_1 : decode cX0_init 1 = .ok (.invokespecial 1, 3) := by decide +kernel
theorem dX0_init_4 : decode cX0_init 4 = .ok (.aload_n 0, 1) := by decide +kernel
theorem dX0_init_5 : decode cX0_init 5 = .ok (.bipush 49, 2) := by decide +kernel
theorem dX0_init_7 : decode cX0_init 7 = .ok (.newarray .byte, 2) := by decide +kernel
theorem dX0_init_9 : decode cX0_init 9 = .ok (.putfield 7, 3) := by decide +kernel
theorem dX0_init_12 : decode cX0_init 12 = .ok (.aload_n 0, 1) := by decide +kernel
theorem dX0_init_13 : decode cX0_init 13 = .ok (.bipush 12, 2) := by decide +kernel
theorem dX0_init_15 : decode cX0_init 15 = .ok (.newarray .int, 2) := by decide +kernel
theorem dX0_init_17 : decode cX0_init 17 = .ok (.putfield 13, 3) := by decide +kernel
theorem dX0_init_20 : decode cX0_init 20 = .ok (.aload_n 0, 1) := by decide +kernel
theorem dX0_init_21 : decode cX0_init 21 = .ok (.bipush 12, 2) := by decide +kernel
theorem dX0_init_23 : decode cX0_init 23 = .ok (.newarray .int, 2) := by decide +kernel
theorem dX0_init_25 : decode cX0_init 25 = .ok (.putfield 17, 3) := by decide +kernel
theorem dX0_init_28 : decode cX0_init 28 = .ok (.aload_n 0, 1) := by decide +kernel
theorem dX0_init_29 : decode cX0_init 29 = .ok (.bipush 12, 2) := by decide +kernel
theorem dX0_init_31 : decode cX0_init 31 = .ok (.newarray .int, 2) := by decide +kernel
theorem dX0_init_33 : decode cX0_init 33 = .ok (.putfield 20, 3) := by decide +kernel
theorem dX0_init_36 : decode cX0_init 36 = .ok (.aload_n 0, 1) := by decide +kernel
theorem dX0_init_37 : decode cX0_init 37 = .ok (.bipush 72, 2) := by decide +kernel
theorem dX0_init_39 : decode cX0_init 39 = .ok (.newarray .int, 2) := by decide +kernel
theorem dX0_init_41 : decode cX0_init 41 = .ok (.putfield 23, 3) := by decide +kernel
theorem dX0_init_44 : decode cX0_init 44 = .ok (.aload_n 0, 1) := by decide +kernel
theorem dX0_init_45 : decode cX0_init 45 = .ok (.bipush 72, 2) := by decide +kernel
theorem dX0_init_47 : decode cX0_init 47 = .ok (.newarray .int, 2) := by decide +kernel
theorem dX0_init_49 : decode cX0_init 49 = .ok (.putfield 26, 3) := by decide +kernel
theorem dX0_init_52 : decode cX0_init 52 = .ok (.aload_n 0, 1) := by decide +kernel
theorem dX0_init_53 : decode cX0_init 53 = .ok (.bipush 72, 2) := by decide +kernel
theorem dX0_init_55 : decode cX0_init 55 = .ok (.newarray .int, 2) := by decide +kernel
theorem dX0_init_57 : decode cX0_init 57 = .ok (.putfield 29, 3) := by decide +kernel
theorem dX0_init_60 : decode cX0_init 60 = .ok (.aload_n 0, 1) := by decide +kernel
theorem dX0_init_61 : decode cX0_init 61 = .ok (.bipush 7, 2) := by decide +kernel
theorem dX0_init_63 : decode cX0_init 63 = .ok (.newarray .int, 2) := by decide +kernel
theorem dX0_init_65 : decode cX0_init 65 = .ok (.putfield 32, 3) := by decide +kernel
theorem dX0_init_68 : decode cX0_init 68 = .ok (.aload_n 0, 1) := by decide +kernel
theorem dX0_init_69 : decode cX0_init 69 = .ok (.bipush 7, 2) := by decide +kernel
theorem dX0_init_71 : decode cX0_init 71 = .ok (.newarray .byte, 2) := by decide +kernel
theorem dX0_init_73 : decode cX0_init 73 = .ok (.putfield 35, 3) := by decide +kernel
theorem dX0_init_76 : decode cX0_init 76 = .ok (.aload_n 0, 1) := by decide +kernel
theorem dX0_init_77 : decode cX0_init 77 = .ok (.bipush 6, 2) := by decide +kernel
theorem dX0_init_79 : decode cX0_init 79 = .ok (.putfield 38, 3) := by decide +kernel
theorem dX0_init_82 : decode cX0_init 82 = .ok (.aload_n 0, 1) := by decide +kernel
theorem dX0_init_83 : decode cX0_init 83 = .ok (.iconst (-1), 1) := by decide +kernel
theorem dX0_init_84 : decode cX0_init 84 = .ok (.putfield 42, 3) := by decide +kernel
theorem dX0_init_87 : decode cX0_init 87 = .ok (.return_, 1) := by decide +kernel
theorem dX0_arc_0 : decode cX0_arc 0 = .ok (.aload_n 0, 1) := by decide +kernel
theorem dX0_arc_1 : decode cX0_arc 1 = .ok (.iload_n 1, 1) := by decide +kernel
theorem dX0_arc_2 : decode cX0_arc 2 = .ok (.invokevirtual 45, 3) := by decide +kernel
theorem dX0_arc_5 : decode cX0_arc 5 = .ok (.ifCond .eq 26, 3) := by decide +kernel
theorem dX0_arc_8 : decode cX0_arc 8 = .ok (.aload_n 0, 1) := by decide +kernel
theorem dX0_arc_9 : decode cX0_arc 9 = .ok (.iload_n 2, 1) := by decide +kernel
theorem dX0_arc_10 : decode cX0_arc 10 = .ok (.invokevirtual 45, 3) := by decide +kernel
theorem dX0_arc_13 : decode cX0_arc 13 = .ok (.ifCond .eq 18, 3) := by decide +kernel
theorem dX0_arc_16 : decode cX0_arc 16 = .ok (.iload_n 1, 1) := by decide +kernel
theorem dX0_arc_17 : decode cX0_arc 17 = .ok (.iload_n 2, 1) := by decide +kernel
theorem dX0_arc_18 : decode cX0_arc 18 = .ok (.if_icmp .eq 13, 3) := by decide +kernel
theorem dX0_arc_21 : decode cX0_arc 21 = .ok (.iload_n 3, 1) := by decide +kernel
theorem dX0_arc_22 : decode cX0_arc 22 = .ok (.ifCond .lt 9, 3) := by decide +kernel
theorem dX0_arc_25 : decode cX0_arc 25 = .ok (.iload_n 3, 1) := by decide +kernel
theorem dX0_arc_26 : decode cX0_arc 26 = .ok (.bipush 50, 2) := by decide +kernel
theorem dX0_arc_28 : decode cX0_arc 28 = .ok (.if_icmp .le 5, 3) := by decide +kernel
theorem dX0_arc_31 : decode cX0_arc 31 = .ok (.iconst 0, 1) := by decide +kernel
theorem dX0_arc_32 : decode cX0_arc 32 = .ok (.ireturn, 1) := by decide +kernel
theorem dX0_arc_33 : decode cX0_arc 33 = .ok (.aload_n 0, 1) := by decide +kernel
theorem dX0_arc_34 : decode cX0_arc 34 = .ok (.getfield 7, 3) := by decide +kernel
theorem dX0_arc_37 : decode cX0_arc 37 = .ok (.bipush 7, 2) := by decide +kernel
theorem dX0_arc_39 : decode cX0_arc 39 = .ok (.iload_n 1, 1) := by decide +kernel
theorem dX0_arc_40 : decode cX0_arc 40 = .ok (.imul, 1) := by decide +kernel
theorem dX0_arc_41 : decode cX0_arc 41 = .ok (.iload_n 2, 1) := by decide +kernel
theorem dX0_arc_42 : decode cX0_arc 42 = .ok (.iadd, 1) := by decide +kernel
theorem dX0_arc_43 : decode cX0_arc 43 = .ok (.iload_n 3, 1) := by decide +kernel
theorem dX0_arc_44 : decode cX0_arc 44 = .ok (.i2b, 1) := by decide +kernel
theorem dX0_arc_45 : decode cX0_arc 45 = .ok (.bastore, 1) := by decide +kernel
theorem dX0_arc_46 : decode cX0_arc 46 = .ok (.aload_n 0, 1) := by decide +kernel
theorem dX0_arc_47 : decode cX0_arc 47 = .ok (.iconst 0, 1) := by decide +kernel
theorem dX0_arc_48 : decode cX0_arc 48 = .ok (.putfield 49, 3) := by decide +kernel
theorem dX0_arc_51 : decode cX0_arc 51 = .ok (.iconst 1, 1) := by decide +kernel
theorem dX0_arc_52 : decode cX0_arc 52 = .ok (.ireturn, 1) := by decide +kernel
theorem dX0_isVertex_0 : decode cX0_isVertex 0 = .ok (.iload_n 1, 1) := by decide +kernel
theorem dX0_isVertex_1 : decode cX0_isVertex 1 = .ok (.ifCond .lt 13, 3) := by decide +kernel
theorem dX0_isVertex_4 : decode cX0_isVertex 4 = .ok (.iload_n 1, 1) := by decide +kernel
theorem dX0_isVertex_5 : decode cX0_isVertex 5 = .ok (.bipush 6, 2) := by decide +kernel
theorem dX0_isVertex_7 : decode cX0_isVertex 7 = .ok (.if_icmp .gt 7, 3) := by decide +kernel
theorem dX0_isVertex_10 : decode cX0_isVertex 10 = .ok (.iconst 1, 1) := by decide +kernel
theorem dX0_isVertex_11 : decode cX0_isVertex 11 = .ok (.goto 4, 3) := by decide +kernel
theorem dX0_isVertex_14 : decode cX0_isVertex 14 = .ok (.iconst 0, 1) := by decide +kernel
theorem dX0_isVertex_15 : decode cX0_isVertex 15 = .ok (.ireturn, 1) := by decide +kernel
theorem dX0_ends_0 : decode cX0_ends 0 = .ok (.aload_n 0, 1) := by decide +kernel
theorem dX0_ends_1 : decode cX0_ends 1 = .ok (.iload_n 1, 1) := by decide +kernel
theorem dX0_ends_2 : decode cX0_ends 2 = .ok (.invokevirtual 45, 3) := by decide +kernel
theorem dX0_ends_5 : decode cX0_ends 5 = .ok (.ifCond .eq 16, 3) := by decide +kernel
theorem dX0_ends_8 : decode cX0_ends 8 = .ok (.aload_n 0, 1) := by decide +kernel
theorem dX0_ends_9 : decode cX0_ends 9 = .ok (.iload_n 2, 1) := by decide +kernel
theorem dX0_ends_10 : decode cX0_ends 10 = .ok (.invokevirtual 45, 3) := by decide +kernel
theorem dX0_ends_13 : decode cX0_ends 13 = .ok (.ifCond .eq 8, 3) := by decide +kernel
theorem dX0_ends_16 : decode cX0_ends 16 = .ok (.iload_n 1, 1) := by decide +kernel
theorem dX0_ends_17 : decode cX0_ends 17 = .ok (.iload_n 2, 1) := by decide +kernel
theorem dX0_ends_18 : decode cX0_ends 18 = .ok (.if_icmp .ne 5, 3) := by decide +kernel
theorem dX0_ends_21 : decode cX0_ends 21 = .ok (.iconst 0, 1) := by decide +kernel
theorem dX0_ends_22 : decode cX0_ends 22 = .ok (.ireturn, 1) := by decide +kernel
theorem dX0_ends_23 : decode cX0_ends 23 = .ok (.aload_n 0, 1) := by decide +kernel
theorem dX0_ends_24 : decode cX0_ends 24 = .ok (.iload_n 1, 1) := by decide +kernel
theorem dX0_ends_25 : decode cX0_ends 25 = .ok (.putfield 53, 3) := by decide +kernel
theorem dX0_ends_28 : decode cX0_ends 28 = .ok (.aload_n 0, 1) := by decide +kernel
theorem dX0_ends_29 : decode cX0_ends 29 = .ok (.iload_n 2, 1) := by decide +kernel
theorem dX0_ends_30 : decode cX0_ends 30 = .ok (.putfield 38, 3) := by decide +kernel
theorem dX0_ends_33 : decode cX0_ends 33 = .ok (.aload_n 0, 1) := by decide +kernel
theorem dX0_ends_34 : decode cX0_ends 34 = .ok (.iconst 0, 1) := by decide +kernel
theorem dX0_ends_35 : decode cX0_ends 35 = .ok (.putfield 49, 3) := by decide +kernel
theorem dX0_ends_38 : decode cX0_ends 38 = .ok (.iconst 1, 1) := by decide +kernel
theorem dX0_ends_39 : decode cX0_ends 39 = .ok (.ireturn, 1) := by decide +kernel
theorem dX0_weight_0 : decode cX0_weight 0 = .ok (.aload_n 0, 1) := by decide +kernel
theorem dX0_weight_1 : decode cX0_weight 1 = .ok (.iload_n 1, 1) := by decide +kernel
theorem dX0_weight_2 : decode cX0_weight 2 = .ok (.invokevirtual 45, 3) := by decide +kernel
theorem dX0_weight_5 : decode cX0_weight 5 = .ok (.ifCond .eq 25, 3) := by decide +kernel
theorem dX0_weight_8 : decode cX0_weight 8 = .ok (.aload_n 0, 1) := by decide +kernel
theorem dX0_weight_9 : decode cX0_weight 9 = .ok (.iload_n 2, 1) := by decide +kernel
theorem dX0_weight_10 : decode cX0_weight 10 = .ok (.invokevirtual 45, 3) := by decide +kernel
theorem dX0_weight_13 : decode cX0_weight 13 = .ok (.ifCond .eq 17, 3) := by decide +kernel
theorem dX0_weight_16 : decode cX0_weight 16 = .ok (.aload_n 0, 1) := by decide +kernel
theorem dX0_weight_17 : decode cX0_weight 17 = .ok (.getfield 7, 3) := by decide +kernel
theorem dX0_weight_20 : decode cX0_weight 20 = .ok (.bipush 7, 2) := by decide +kernel
theorem dX0_weight_22 : decode cX0_weight 22 = .ok (.iload_n 1, 1) := by decide +kernel
theorem dX0_weight_23 : decode cX0_weight 23 = .ok (.imul, 1) := by decide +kernel
theorem dX0_weight_24 : decode cX0_weight 24 = .ok (.iload_n 2, 1) := by decide +kernel
theorem dX0_weight_25 : decode cX0_weight 25 = .ok (.iadd, 1) := by decide +kernel
theorem dX0_weight_26 : decode cX0_weight 26 = .ok (.baload, 1) := by decide +kernel
theorem dX0_weight_27 : decode cX0_weight 27 = .ok (.goto 4, 3) := by decide +kernel
theorem dX0_weight_30 : decode cX0_weight 30 = .ok (.iconst (-1), 1) := by decide +kernel
theorem dX0_weight_31 : decode cX0_weight 31 = .ok (.ireturn, 1) := by decide +kernel
theorem dX0_paths_0 : decode cX0_paths 0 = .ok (.aload_n 0, 1) := by decide +kernel
theorem dX0_paths_1 : decode cX0_paths 1 = .ok (.invokevirtual 56, 3) := by decide +kernel
theorem dX0_paths_4 : decode cX0_paths 4 = .ok (.aload_n 0, 1) := by decide +kernel
theorem dX0_paths_5 : decode cX0_paths 5 = .ok (.getfield 59, 3) := by decide +kernel
theorem dX0_paths_8 : decode cX0_paths 8 = .ok (.ireturn, 1) := by decide +kernel
theorem dX0_findPaths_0 : decode cX0_findPaths 0 = .ok (.aload_n 0, 1) := by decide +kernel
theorem dX0_findPaths_1 : decode cX0_findPaths 1 = .ok (.getfield 49, 3) := by decide +kernel
theorem dX0_findPaths_4 : decode cX0_findPaths 4 = .ok (.ifCond .eq 4, 3) := by decide +kernel
theorem dX0_findPaths_7 : decode cX0_findPaths 7 = .ok (.return_, 1) := by decide +kernel
theorem dX0_findPaths_8 : decode cX0_findPaths 8 = .ok (.aload_n 0, 1) := by decide +kernel
theorem dX0_findPaths_9 : decode cX0_findPaths 9 = .ok (.iconst 1, 1) := by decide +kernel
theorem dX0_findPaths_10 : decode cX0_findPaths 10 = .ok (.putfield 49, 3) := by decide +kernel
theorem dX0_findPaths_13 : decode cX0_findPaths 13 = .ok (.aload_n 0, 1) := by decide +kernel
theorem dX0_findPaths_14 : decode cX0_findPaths 14 = .ok (.iconst 0, 1) := by decide +kernel
theorem dX0_findPaths_15 : decode cX0_findPaths 15 = .ok (.putfield 59, 3) := by decide +kernel
theorem dX0_findPaths_18 : decode cX0_findPaths 18 = .ok (.aload_n 0, 1) := by decide +kernel
theorem dX0_findPaths_19 : decode cX0_findPaths 19 = .ok (.iconst 0, 1) := by decide +kernel
theorem dX0_findPaths_20 : decode cX0_findPaths 20 = .ok (.putfield 85, 3) := by decide +kernel
theorem dX0_findPaths_23 : decode cX0_findPaths 23 = .ok (.aload_n 0, 1) := by decide +kernel
theorem dX0_findPaths_24 : decode cX0_findPaths 24 = .ok (.iconst 0, 1) := by decide +kernel
theorem dX0_findPaths_25 : decode cX0_findPaths 25 = .ok (.putfield 66, 3) := by decide +kernel
theorem dX0_findPaths_28 : decode cX0_findPaths 28 = .ok (.aload_n 0, 1) := by decide +kernel
theorem dX0_findPaths_29 : decode cX0_findPaths 29 = .ok (.aload_n 0, 1) := by decide +kernel
theorem dX0_findPaths_30 : decode cX0_findPaths 30 = .ok (.getfield 53, 3) := by decide +kernel
theorem dX0_findPaths_33 : decode cX0_findPaths 33 = .ok (.iconst 0, 1) := by decide +kernel
theorem dX0_findPaths_34 : decode cX0_findPaths 34 = .ok (.iconst 0, 1) := by decide +kernel
theorem dX0_findPaths_35 : decode cX0_findPaths 35 = .ok (.invokevirtual 69, 3) := by decide +kernel
theorem dX0_findPaths_38 : decode cX0_findPaths 38 = .ok (.ifCond .ne 4, 3) := by decide +kernel
theorem dX0_findPaths_41 : decode cX0_findPaths 41 = .ok (.return_, 1) := by decide +kernel
theorem dX0_findPaths_42 : decode cX0_findPaths 42 = .ok (.aload_n 0, 1) := by decide +kernel
theorem dX0_findPaths_43 : decode cX0_findPaths 43 = .ok (.invokevirtual 88, 3) := by decide +kernel
theorem dX0_findPaths_46 : decode cX0_findPaths 46 = .ok (.istore_n 1, 1) := by decide +kernel
theorem dX0_findPaths_47 : decode cX0_findPaths 47 = .ok (.aload_n 0, 1) := by decide +kernel
theorem dX0_findPaths_48 : decode cX0_findPaths 48 = .ok (.iload_n 1, 1) := by decide +kernel
theorem dX0_findPaths_49 : decode cX0_findPaths 49 = .ok (.aload_n 0, 1) := by decide +kernel
theorem dX0_findPaths_50 : decode cX0_findPaths 50 = .ok (.getfield 73, 3) := by decide +kernel
theorem dX0_findPaths_53 : decode cX0_findPaths 53 = .ok (.aload_n 0, 1) := by decide +kernel
theorem dX0_findPaths_54 : decode cX0_findPaths 54 = .ok (.getfield 66, 3) := by decide +kernel
theorem dX0_findPaths_57 : decode cX0_findPaths 57 = .ok (.invokevirtual 92, 3) := by decide +kernel
theorem dX0_findPaths_60 : decode cX0_findPaths 60 = .ok (.aload_n 0, 1) := by decide +kernel
theorem dX0_findPaths_61 : decode cX0_findPaths 61 = .ok (.getfield 59, 3) := by decide +kernel
theorem dX0_findPaths_64 : decode cX0_findPaths 64 = .ok (.bipush 12, 2) := by decide +kernel
theorem dX0_findPaths_66 : decode cX0_findPaths 66 = .ok (.if_icmp .ge 103, 3) := by decide +kernel
theorem dX0_findPaths_69 : decode cX0_findPaths 69 = .ok (.aload_n 0, 1) := by decide +kernel
theorem dX0_findPaths_70 : decode cX0_findPaths 70 = .ok (.aload_n 0, 1) := by decide +kernel
theorem dX0_findPaths_71 : decode cX0_findPaths 71 = .ok (.getfield 59, 3) := by decide +kernel
theorem dX0_findPaths_74 : decode cX0_findPaths 74 = .ok (.iconst 1, 1) := by decide +kernel
theorem dX0_findPaths_75 : decode cX0_findPaths 75 = .ok (.isub, 1) := by decide +kernel
theorem dX0_findPaths_76 : decode cX0_findPaths 76 = .ok (.invokevirtual 96, 3) := by decide +kernel
theorem dX0_findPaths_79 : decode cX0_findPaths 79 = .ok (.aload_n 0, 1) := by decide +kernel
theorem dX0_findPaths_80 : decode cX0_findPaths 80 = .ok (.invokevirtual 99, 3) := by decide +kernel
theorem dX0_findPaths_83 : decode cX0_findPaths 83 = .ok (.istore_n 2, 1) := by decide +kernel
theorem dX0_findPaths_84 : decode cX0_findPaths 84 = .ok (.iload_n 2, 1) := by decide +kernel
theorem dX0_findPaths_85 : decode cX0_findPaths 85 = .ok (.ifCond .ge 4, 3) := by decide +kernel
theorem dX0_findPaths_88 : decode cX0_findPaths 88 = .ok (.return_, 1) := by decide +kernel
theorem dX0_findPaths_89 : decode cX0_findPaths 89 = .ok (.aload_n 0, 1) := by decide +kernel
theorem dX0_findPaths_90 : decode cX0_findPaths 90 = .ok (.aload_n 0, 1) := by decide +kernel
theorem dX0_findPaths_91 : decode cX0_findPaths 91 = .ok (.getfield 23, 3) := by decide +kernel
theorem dX0_findPaths_94 : decode cX0_findPaths 94 = .ok (.iload_n 2, 1) := by decide +kernel
theorem dX0_findPaths_95 : decode cX0_findPaths 95 = .ok (.iaload, 1) := by decide +kernel
theorem dX0_findPaths_96 : decode cX0_findPaths 96 = .ok (.aload_n 0, 1) := by decide +kernel
theorem dX0_findPaths_97 : decode cX0_findPaths 97 = .ok (.getfield 26, 3) := by decide +kernel
theorem dX0_findPaths_100 : decode cX0_findPaths 100 = .ok (.iload_n 2, 1) := by decide +kernel
theorem dX0_findPaths_101 : decode cX0_findPaths 101 = .ok (.iaload, 1) := by decide +kernel
theorem dX0_findPaths_102 : decode cX0_findPaths 102 = .ok (.aload_n 0, 1) := by decide +kernel
theorem dX0_findPaths_103 : decode cX0_findPaths 103 = .ok (.getfield 29, 3) := by decide +kernel
theorem dX0_findPaths_106 : decode cX0_findPaths 106 = .ok (.iload_n 2, 1) := by decide +kernel
theorem dX0_findPaths_107 : decode cX0_findPaths 107 = .ok (.iaload, 1) := by decide +kernel
theorem dX0_findPaths_108 : decode cX0_findPaths 108 = .ok (.invokevirtual 92, 3) := by decide +kernel
theorem dX0_findPaths_111 : decode cX0_findPaths 111 = .ok (.aload_n 0, 1) := by decide +kernel
theorem dX0_findPaths_112 : decode cX0_findPaths 112 = .ok (.dup, 1) := by decide +kernel
theorem dX0_findPaths_113 : decode cX0_findPaths 113 = .ok (.getfield 85, 3) := by decide +kernel
theorem dX0_findPaths_116 : decode cX0_findPaths 116 = .ok (.iconst 1, 1) := by decide +kernel
theorem dX0_findPaths_117 : decode cX0_findPaths 117 = .ok (.isub, 1) := by decide +kernel
theorem dX0_findPaths_118 : decode cX0_findPaths 118 = .ok (.putfield 85, 3) := by decide +kernel
theorem dX0_findPaths_121 : decode cX0_findPaths 121 = .ok (.aload_n 0, 1) := by decide +kernel
theorem dX0_findPaths_122 : decode cX0_findPaths 122 = .ok (.getfield 23, 3) := by decide +kernel
theorem dX0_findPaths_125 : decode cX0_findPaths 125 = .ok (.iload_n 2, 1) := by decide +kernel
theorem dX0_findPaths_126 : decode cX0_findPaths 126 = .ok (.aload_n 0, 1) := by decide +kernel
theorem dX0_findPaths_127 : decode cX0_findPaths 127 = .ok (.getfield 23, 3) := by decide +kernel
theorem dX0_findPaths_130 : decode cX0_findPaths 130 = .ok (.aload_n 0, 1) := by decide +kernel
theorem dX0_findPaths_131 : decode cX0_findPaths 131 = .ok (.getfield 85, 3) := by decide +kernel
theorem dX0_findPaths_134 : decode cX0_findPaths 134 = .ok (.iaload, 1) := by decide +kernel
theorem dX0_findPaths_135 : decode cX0_findPaths 135 = .ok (.iastore, 1) := by decide +kernel
theorem dX0_findPaths_136 : decode cX0_findPaths 136 = .ok (.aload_n 0, 1) := by decide +kernel
theorem dX0_findPaths_137 : decode cX0_findPaths 137 = .ok (.getfield 26, 3) := by decide +kernel
theorem dX0_findPaths_140 : decode cX0_findPaths 140 = .ok (.iload_n 2, 1) := by decide +kernel
theorem dX0_findPaths_141 : decode cX0_findPaths 141 = .ok (.aload_n 0, 1) := by decide +kernel
theorem dX0_findPaths_142 : decode cX0_findPaths 142 = .ok (.getfield 26, 3) := by decide +kernel
theorem dX0_findPaths_145 : decode cX0_findPaths 145 = .ok (.aload_n 0, 1) := by decide +kernel
theorem dX0_findPaths_146 : decode cX0_findPaths 146 = .ok (.getfield 85, 3) := by decide +kernel
theorem dX0_findPaths_149 : decode cX0_findPaths 149 = .ok (.iaload, 1) := by decide +kernel
theorem dX0_findPaths_150 : decode cX0_findPaths 150 = .ok (.iastore, 1) := by decide +kernel
theorem dX0_findPaths_151 : decode cX0_findPaths 151 = .ok (.aload_n 0, 1) := by decide +kernel
theorem dX0_findPaths_152 : decode cX0_findPaths 152 = .ok (.getfield 29, 3) := by decide +kernel
theorem dX0_findPaths_155 : decode cX0_findPaths 155 = .ok (.iload_n 2, 1) := by decide +kernel
theorem dX0_findPaths_156 : decode cX0_findPaths 156 = .ok (.aload_n 0, 1) := by decide +kernel
theorem dX0_findPaths_157 : decode cX0_findPaths 157 = .ok (.getfield 29, 3) := by decide +kernel
theorem dX0_findPaths_160 : decode cX0_findPaths 160 = .ok (.aload_n 0, 1) := by decide +kernel
theorem dX0_findPaths_161 : decode cX0_findPaths 161 = .ok (.getfield 85, 3) := by decide +kernel
theorem dX0_findPaths_164 : decode cX0_findPaths 164 = .ok (.iaload, 1) := by decide +kernel
theorem dX0_findPaths_165 : decode cX0_findPaths 165 = .ok (.iastore, 1) := by decide +kernel
theorem dX0_findPaths_166 : decode cX0_findPaths 166 = .ok (.goto (-106), 3) := by decide +kernel
theorem dX0_findPaths_169 : decode cX0_findPaths 169 = .ok (.return_, 1) := by decide +kernel
theorem dX0_goOn_0 : decode cX0_goOn 0 = .ok (.aload_n 0, 1) := by decide +kernel
theorem dX0_goOn_1 : decode cX0_goOn 1 = .ok (.iload_n 2, 1) := by decide +kernel
theorem dX0_goOn_2 : decode cX0_goOn 2 = .ok (.iconst 1, 1) := by decide +kernel
theorem dX0_goOn_3 : decode cX0_goOn 3 = .ok (.iload_n 1, 1) := by decide +kernel
theorem dX0_goOn_4 : decode cX0_goOn 4 = .ok (.ishl, 1) := by decide +kernel
theorem dX0_goOn_5 : decode cX0_goOn 5 = .ok (.ior, 1) := by decide +kernel
theorem dX0_goOn_6 : decode cX0_goOn 6 = .ok (.invokevirtual 77, 3) := by decide +kernel
theorem dX0_goOn_9 : decode cX0_goOn 9 = .ok (.iconst (-1), 1) := by decide +kernel
theorem dX0_goOn_10 : decode cX0_goOn 10 = .ok (.istore 4, 2) := by decide +kernel
theorem dX0_goOn_12 : decode cX0_goOn 12 = .ok (.ldc 76, 2) := by decide +kernel
theorem dX0_goOn_14 : decode cX0_goOn 14 = .ok (.istore 5, 2) := by decide +kernel
theorem dX0_goOn_16 : decode cX0_goOn 16 = .ok (.iconst 0, 1) := by decide +kernel
theorem dX0_goOn_17 : decode cX0_goOn 17 = .ok (.istore 6, 2) := by decide +kernel
theorem dX0_goOn_19 : decode cX0_goOn 19 = .ok (.iload 6, 2) := by decide +kernel
theorem dX0_goOn_21 : decode cX0_goOn 21 = .ok (.bipush 7, 2) := by decide +kernel
theorem dX0_goOn_23 : decode cX0_goOn 23 = .ok (.if_icmp .ge 93, 3) := by decide +kernel
theorem dX0_goOn_26 : decode cX0_goOn 26 = .ok (.bipush 7, 2) := by decide +kernel
theorem dX0_goOn_28 : decode cX0_goOn 28 = .ok (.iload_n 1, 1) := by decide +kernel
theorem dX0_goOn_29 : decode cX0_goOn 29 = .ok (.imul, 1) := by decide +kernel
theorem dX0_goOn_30 : decode cX0_goOn 30 = .ok (.iload 6, 2) := by decide +kernel
theorem dX0_goOn_32 : decode cX0_goOn 32 = .ok (.iadd, 1) := by decide +kernel
theorem dX0_goOn_33 : decode cX0_goOn 33 = .ok (.istore 7, 2) := by decide +kernel
theorem dX0_goOn_35 : decode cX0_goOn 35 = .ok (.aload_n 0, 1) := by decide +kernel
theorem dX0_goOn_36 : decode cX0_goOn 36 = .ok (.getfield 7, 3) := by decide +kernel
theorem dX0_goOn_39 : decode cX0_goOn 39 = .ok (.iload 7, 2) := by decide +kernel
theorem dX0_goOn_41 : decode cX0_goOn 41 = .ok (.baload, 1) := by decide +kernel
theorem dX0_goOn_42 : decode cX0_goOn 42 = .ok (.ifCond .eq 68, 3) := by decide +kernel
theorem dX0_goOn_45 : decode cX0_goOn 45 = .ok (.iload 7, 2) := by decide +kernel
theorem dX0_goOn_47 : decode cX0_goOn 47 = .ok (.aload_n 0, 1) := by decide +kernel
theorem dX0_goOn_48 : decode cX0_goOn 48 = .ok (.getfield 42, 3) := by decide +kernel
theorem dX0_goOn_51 : decode cX0_goOn 51 = .ok (.if_icmp .eq 59, 3) := by decide +kernel
theorem dX0_goOn_54 : decode cX0_goOn 54 = .ok (.iload_n 3, 1) := by decide +kernel
theorem dX0_goOn_55 : decode cX0_goOn 55 = .ok (.iload 6, 2) := by decide +kernel
theorem dX0_goOn_57 : decode cX0_goOn 57 = .ok (.ishr, 1) := by decide +kernel
theorem dX0_goOn_58 : decode cX0_goOn 58 = .ok (.iconst 1, 1) := by decide +kernel
theorem dX0_goOn_59 : decode cX0_goOn 59 = .ok (.iand, 1) := by decide +kernel
theorem dX0_goOn_60 : decode cX0_goOn 60 = .ok (.ifCond .eq 6, 3) := by decide +kernel
theorem dX0_goOn_63 : decode cX0_goOn 63 = .ok (.goto 47, 3) := by decide +kernel
theorem dX0_goOn_66 : decode cX0_goOn 66 = .ok (.aload_n 0, 1) := by decide +kernel
theorem dX0_goOn_67 : decode cX0_goOn 67 = .ok (.getfield 32, 3) := by decide +kernel
theorem dX0_goOn_70 : decode cX0_goOn 70 = .ok (.iload 6, 2) := by decide +kernel
theorem dX0_goOn_72 : decode cX0_goOn 72 = .ok (.iaload, 1) := by decide +kernel
theorem dX0_goOn_73 : decode cX0_goOn 73 = .ok (.aload_n 0, 1) := by decide +kernel
theorem dX0_goOn_74 : decode cX0_goOn 74 = .ok (.getfield 7, 3) := by decide +kernel
theorem dX0_goOn_77 : decode cX0_goOn 77 = .ok (.iload 7, 2) := by decide +kernel
theorem dX0_goOn_79 : decode cX0_goOn 79 = .ok (.baload, 1) := by decide +kernel
theorem dX0_goOn_80 : decode cX0_goOn 80 = .ok (.iadd, 1) := by decide +kernel
theorem dX0_goOn_81 : decode cX0_goOn 81 = .ok (.iload 5, 2) := by decide +kernel
theorem dX0_goOn_83 : decode cX0_goOn 83 = .ok (.if_icmp .lt 6, 3) := by decide +kernel
theorem dX0_goOn_86 : decode cX0_goOn 86 = .ok (.goto 24, 3) := by decide +kernel
theorem dX0_goOn_89 : decode cX0_goOn 89 = .ok (.aload_n 0, 1) := by decide +kernel
theorem dX0_goOn_90 : decode cX0_goOn 90 = .ok (.getfield 32, 3) := by decide +kernel
theorem dX0_goOn_93 : decode cX0_goOn 93 = .ok (.iload 6, 2) := by decide +kernel
theorem dX0_goOn_95 : decode cX0_goOn 95 = .ok (.iaload, 1) := by decide +kernel
theorem dX0_goOn_96 : decode cX0_goOn 96 = .ok (.aload_n 0, 1) := by decide +kernel
theorem dX0_goOn_97 : decode cX0_goOn 97 = .ok (.getfield 7, 3) := by decide +kernel
theorem dX0_goOn_100 : decode cX0_goOn 100 = .ok (.iload 7, 2) := by decide +kernel
theorem dX0_goOn_102 : decode cX0_goOn 102 = .ok (.baload, 1) := by decide +kernel
theorem dX0_goOn_103 : decode cX0_goOn 103 = .ok (.iadd, 1) := by decide +kernel
theorem dX0_goOn_104 : decode cX0_goOn 104 = .ok (.istore 5, 2) := by decide +kernel
theorem dX0_goOn_106 : decode cX0_goOn 106 = .ok (.iload 6, 2) := by decide +kernel
theorem dX0_goOn_108 : decode cX0_goOn 108 = .ok (.istore 4, 2) := by decide +kernel
theorem dX0_goOn_110 : decode cX0_goOn 110 = .ok (.iinc 6 1, 3) := by decide +kernel
theorem dX0_goOn_113 : decode cX0_goOn 113 = .ok (.goto (-94), 3) := by decide +kernel
theorem dX0_goOn_116 : decode cX0_goOn 116 = .ok (.iload 4, 2) := by decide +kernel
theorem dX0_goOn_118 : decode cX0_goOn 118 = .ok (.ifCond .ge 5, 3) := by decide +kernel
theorem dX0_goOn_121 : decode cX0_goOn 121 = .ok (.iconst 0, 1) := by decide +kernel
theorem dX0_goOn_122 : decode cX0_goOn 122 = .ok (.ireturn, 1) := by decide +kernel
theorem dX0_goOn_123 : decode cX0_goOn 123 = .ok (.aload_n 0, 1) := by decide +kernel
theorem dX0_goOn_124 : decode cX0_goOn 124 = .ok (.iload 5, 2) := by decide +kernel
theorem dX0_goOn_126 : decode cX0_goOn 126 = .ok (.putfield 73, 3) := by decide +kernel
theorem dX0_goOn_129 : decode cX0_goOn 129 = .ok (.aload_n 0, 1) := by decide +kernel
theorem dX0_goOn_130 : decode cX0_goOn 130 = .ok (.getfield 35, 3) := by decide +kernel
theorem dX0_goOn_133 : decode cX0_goOn 133 = .ok (.aload_n 0, 1) := by decide +kernel
theorem dX0_goOn_134 : decode cX0_goOn 134 = .ok (.getfield 66, 3) := by decide +kernel
theorem dX0_goOn_137 : decode cX0_goOn 137 = .ok (.iload_n 1, 1) := by decide +kernel
theorem dX0_goOn_138 : decode cX0_goOn 138 = .ok (.i2b, 1) := by decide +kernel
theorem dX0_goOn_139 : decode cX0_goOn 139 = .ok (.bastore, 1) := by decide +kernel
theorem dX0_goOn_140 : decode cX0_goOn 140 = .ok (.aload_n 0, 1) := by decide +kernel
theorem dX0_goOn_141 : decode cX0_goOn 141 = .ok (.dup, 1) := by decide +kernel
theorem dX0_goOn_142 : decode cX0_goOn 142 = .ok (.getfield 66, 3) := by decide +kernel
theorem dX0_goOn_145 : decode cX0_goOn 145 = .ok (.iconst 1, 1) := by decide +kernel
theorem dX0_goOn_146 : decode cX0_goOn 146 = .ok (.iadd, 1) := by decide +kernel
theorem dX0_goOn_147 : decode cX0_goOn 147 = .ok (.putfield 66, 3) := by decide +kernel
theorem dX0_goOn_150 : decode cX0_goOn 150 = .ok (.iload 4, 2) := by decide +kernel
theorem dX0_goOn_152 : decode cX0_goOn 152 = .ok (.aload_n 0, 1) := by decide +kernel
theorem dX0_goOn_153 : decode cX0_goOn 153 = .ok (.getfield 38, 3) := by decide +kernel
theorem dX0_goOn_156 : decode cX0_goOn 156 = .ok (.if_icmp .eq 45, 3) := by decide +kernel
theorem dX0_goOn_159 : decode cX0_goOn 159 = .ok (.aload_n 0, 1) := by decide +kernel
theorem dX0_goOn_160 : decode cX0_goOn 160 = .ok (.getfield 66, 3) := by decide +kernel
theorem dX0_goOn_163 : decode cX0_goOn 163 = .ok (.bipush 6, 2) := by decide +kernel
theorem dX0_goOn_165 : decode cX0_goOn 165 = .ok (.if_icmp .ge 36, 3) := by decide +kernel
theorem dX0_goOn_168 : decode cX0_goOn 168 = .ok (.aload_n 0, 1) := by decide +kernel
theorem dX0_goOn_169 : decode cX0_goOn 169 = .ok (.getfield 35, 3) := by decide +kernel
theorem dX0_goOn_172 : decode cX0_goOn 172 = .ok (.aload_n 0, 1) := by decide +kernel
theorem dX0_goOn_173 : decode cX0_goOn 173 = .ok (.getfield 66, 3) := by decide +kernel
theorem dX0_goOn_176 : decode cX0_goOn 176 = .ok (.iload 4, 2) := by decide +kernel
theorem dX0_goOn_178 : decode cX0_goOn 178 = .ok (.i2b, 1) := by decide +kernel
theorem dX0_goOn_179 : decode cX0_goOn 179 = .ok (.bastore, 1) := by decide +kernel
theorem dX0_goOn_180 : decode cX0_goOn 180 = .ok (.aload_n 0, 1) := by decide +kernel
theorem dX0_goOn_181 : decode cX0_goOn 181 = .ok (.dup, 1) := by decide +kernel
theorem dX0_goOn_182 : decode cX0_goOn 182 = .ok (.getfield 66, 3) := by decide +kernel
theorem dX0_goOn_185 : decode cX0_goOn 185 = .ok (.iconst 1, 1) := by decide +kernel
theorem dX0_goOn_186 : decode cX0_goOn 186 = .ok (.iadd, 1) := by decide +kernel
theorem dX0_goOn_187 : decode cX0_goOn 187 = .ok (.putfield 66, 3) := by decide +kernel
theorem dX0_goOn_190 : decode cX0_goOn 190 = .ok (.aload_n 0, 1) := by decide +kernel
theorem dX0_goOn_191 : decode cX0_goOn 191 = .ok (.iload 4, 2) := by decide +kernel
theorem dX0_goOn_193 : decode cX0_goOn 193 = .ok (.invokevirtual 81, 3) := by decide +kernel
theorem dX0_goOn_196 : decode cX0_goOn 196 = .ok (.istore 4, 2) := by decide +kernel
theorem dX0_goOn_198 : decode cX0_goOn 198 = .ok (.goto (-48), 3) := by decide +kernel
theorem dX0_goOn_201 : decode cX0_goOn 201 = .ok (.aload_n 0, 1) := by decide +kernel
theorem dX0_goOn_202 : decode cX0_goOn 202 = .ok (.getfield 35, 3) := by decide +kernel
theorem dX0_goOn_205 : decode cX0_goOn 205 = .ok (.aload_n 0, 1) := by decide +kernel
theorem dX0_goOn_206 : decode cX0_goOn 206 = .ok (.getfield 66, 3) := by decide +kernel
theorem dX0_goOn_209 : decode cX0_goOn 209 = .ok (.aload_n 0, 1) := by decide +kernel
theorem dX0_goOn_210 : decode cX0_goOn 210 = .ok (.getfield 38, 3) := by decide +kernel
end
section
set_option maxRecDepth 100000
theorem dX0_goOn_213 : decode cX0_goOn 213 = .ok (.i2b, 1) := by decide +kernel
theorem dX0_goOn_214 : decode cX0_goOn 214 = .ok (.bastore, 1) := by decide +kernel
theorem dX0_goOn_215 : decode cX0_goOn 215 = .ok (.aload_n 0, 1) := by decide +kernel
theorem dX0_goOn_216 : decode cX0_goOn 216 = .ok (.dup, 1) := by decide +kernel
theorem dX0_goOn_217 : decode cX0_goOn 217 = .ok (.getfield 66, 3) := by decide +kernel
theorem dX0_goOn_220 : decode cX0_goOn 220 = .ok (.iconst 1, 1) := by decide +kernel
theorem dX0_goOn_221 : decode cX0_goOn 221 = .ok (.iadd, 1) := by decide +kernel
theorem dX0_goOn_222 : decode cX0_goOn 222 = .ok (.putfield 66, 3) := by decide +kernel
theorem dX0_goOn_225 : decode cX0_goOn 225 = .ok (.iconst 1, 1) := by decide +kernel
theorem dX0_goOn_226 : decode cX0_goOn 226 = .ok (.ireturn, 1) := by decide +kernel
theorem dX0_measure_0 : decode cX0_measure 0 = .ok (.iconst 0, 1) := by decide +kernel
theorem dX0_measure_1 : decode cX0_measure 1 = .ok (.istore_n 2, 1) := by decide +kernel
theorem dX0_measure_2 : decode cX0_measure 2 = .ok (.iload_n 2, 1) := by decide +kernel
theorem dX0_measure_3 : decode cX0_measure 3 = .ok (.bipush 7, 2) := by decide +kernel
theorem dX0_measure_5 : decode cX0_measure 5 = .ok (.if_icmp .ge 17, 3) := by decide +kernel
theorem dX0_measure_8 : decode cX0_measure 8 = .ok (.aload_n 0, 1) := by decide +kernel
theorem dX0_measure_9 : decode cX0_measure 9 = .ok (.getfield 32, 3) := by decide +kernel
theorem dX0_measure_12 : decode cX0_measure 12 = .ok (.iload_n 2, 1) := by decide +kernel
theorem dX0_measure_13 : decode cX0_measure 13 = .ok (.ldc 76, 2) := by decide +kernel
theorem dX0_measure_15 : decode cX0_measure 15 = .ok (.iastore, 1) := by decide +kernel
theorem dX0_measure_16 : decode cX0_measure 16 = .ok (.iinc 2 1, 3) := by decide +kernel
theorem dX0_measure_19 : decode cX0_measure 19 = .ok (.goto (-17), 3) := by decide +kernel
theorem dX0_measure_22 : decode cX0_measure 22 = .ok (.iload_n 1, 1) := by decide +kernel
theorem dX0_measure_23 : decode cX0_measure 23 = .ok (.aload_n 0, 1) := by decide +kernel
theorem dX0_measure_24 : decode cX0_measure 24 = .ok (.getfield 38, 3) := by decide +kernel
theorem dX0_measure_27 : decode cX0_measure 27 = .ok (.ishr, 1) := by decide +kernel
theorem dX0_measure_28 : decode cX0_measure 28 = .ok (.iconst 1, 1) := by decide +kernel
theorem dX0_measure_29 : decode cX0_measure 29 = .ok (.iand, 1) := by decide +kernel
theorem dX0_measure_30 : decode cX0_measure 30 = .ok (.ifCond .ne 13, 3) := by decide +kernel
theorem dX0_measure_33 : decode cX0_measure 33 = .ok (.aload_n 0, 1) := by decide +kernel
theorem dX0_measure_34 : decode cX0_measure 34 = .ok (.getfield 32, 3) := by decide +kernel
theorem dX0_measure_37 : decode cX0_measure 37 = .ok (.aload_n 0, 1) := by decide +kernel
theorem dX0_measure_38 : decode cX0_measure 38 = .ok (.getfield 38, 3) := by decide +kernel
theorem dX0_measure_41 : decode cX0_measure 41 = .ok (.iconst 0, 1) := by decide +kernel
theorem dX0_measure_42 : decode cX0_measure 42 = .ok (.iastore, 1) := by decide +kernel
theorem dX0_measure_43 : decode cX0_measure 43 = .ok (.iconst 0, 1) := by decide +kernel
theorem dX0_measure_44 : decode cX0_measure 44 = .ok (.istore_n 2, 1) := by decide +kernel
theorem dX0_measure_45 : decode cX0_measure 45 = .ok (.iload_n 2, 1) := by decide +kernel
theorem dX0_measure_46 : decode cX0_measure 46 = .ok (.bipush 6, 2) := by decide +kernel
theorem dX0_measure_48 : decode cX0_measure 48 = .ok (.if_icmp .ge 97, 3) := by decide +kernel
theorem dX0_measure_51 : decode cX0_measure 51 = .ok (.iconst 0, 1) := by decide +kernel
theorem dX0_measure_52 : decode cX0_measure 52 = .ok (.istore_n 3, 1) := by decide +kernel
theorem dX0_measure_53 : decode cX0_measure 53 = .ok (.iload_n 3, 1) := by decide +kernel
theorem dX0_measure_54 : decode cX0_measure 54 = .ok (.bipush 49, 2) := by decide +kernel
theorem dX0_measure_56 : decode cX0_measure 56 = .ok (.if_icmp .ge 83, 3) := by decide +kernel
theorem dX0_measure_59 : decode cX0_measure 59 = .ok (.iload_n 3, 1) := by decide +kernel
theorem dX0_measure_60 : decode cX0_measure 60 = .ok (.bipush 7, 2) := by decide +kernel
theorem dX0_measure_62 : decode cX0_measure 62 = .ok (.idiv, 1) := by decide +kernel
theorem dX0_measure_63 : decode cX0_measure 63 = .ok (.istore 4, 2) := by decide +kernel
theorem dX0_measure_65 : decode cX0_measure 65 = .ok (.aload_n 0, 1) := by decide +kernel
theorem dX0_measure_66 : decode cX0_measure 66 = .ok (.getfield 7, 3) := by decide +kernel
theorem dX0_measure_69 : decode cX0_measure 69 = .ok (.iload_n 3, 1) := by decide +kernel
theorem dX0_measure_70 : decode cX0_measure 70 = .ok (.baload, 1) := by decide +kernel
theorem dX0_measure_71 : decode cX0_measure 71 = .ok (.ifCond .eq 62, 3) := by decide +kernel
theorem dX0_measure_74 : decode cX0_measure 74 = .ok (.iload_n 3, 1) := by decide +kernel
theorem dX0_measure_75 : decode cX0_measure 75 = .ok (.aload_n 0, 1) := by decide +kernel
theorem dX0_measure_76 : decode cX0_measure 76 = .ok (.getfield 42, 3) := by decide +kernel
theorem dX0_measure_79 : decode cX0_measure 79 = .ok (.if_icmp .eq 54, 3) := by decide +kernel
theorem dX0_measure_82 : decode cX0_measure 82 = .ok (.iload_n 1, 1) := by decide +kernel
theorem dX0_measure_83 : decode cX0_measure 83 = .ok (.iload 4, 2) := by decide +kernel
theorem dX0_measure_85 : decode cX0_measure 85 = .ok (.ishr, 1) := by decide +kernel
theorem dX0_measure_86 : decode cX0_measure 86 = .ok (.iconst 1, 1) := by decide +kernel
theorem dX0_measure_87 : decode cX0_measure 87 = .ok (.iand, 1) := by decide +kernel
theorem dX0_measure_88 : decode cX0_measure 88 = .ok (.ifCond .eq 6, 3) := by decide +kernel
theorem dX0_measure_91 : decode cX0_measure 91 = .ok (.goto 42, 3) := by decide +kernel
theorem dX0_measure_94 : decode cX0_measure 94 = .ok (.aload_n 0, 1) := by decide +kernel
theorem dX0_measure_95 : decode cX0_measure 95 = .ok (.getfield 32, 3) := by decide +kernel
theorem dX0_measure_98 : decode cX0_measure 98 = .ok (.iload_n 3, 1) := by decide +kernel
theorem dX0_measure_99 : decode cX0_measure 99 = .ok (.bipush 7, 2) := by decide +kernel
theorem dX0_measure_101 : decode cX0_measure 101 = .ok (.irem, 1) := by decide +kernel
theorem dX0_measure_102 : decode cX0_measure 102 = .ok (.iaload, 1) := by decide +kernel
theorem dX0_measure_103 : decode cX0_measure 103 = .ok (.aload_n 0, 1) := by decide +kernel
theorem dX0_measure_104 : decode cX0_measure 104 = .ok (.getfield 7, 3) := by decide +kernel
theorem dX0_measure_107 : decode cX0_measure 107 = .ok (.iload_n 3, 1) := by decide +kernel
theorem dX0_measure_108 : decode cX0_measure 108 = .ok (.baload, 1) := by decide +kernel
theorem dX0_measure_109 : decode cX0_measure 109 = .ok (.iadd, 1) := by decide +kernel
theorem dX0_measure_110 : decode cX0_measure 110 = .ok (.istore 5, 2) := by decide +kernel
theorem dX0_measure_112 : decode cX0_measure 112 = .ok (.iload 5, 2) := by decide +kernel
theorem dX0_measure_114 : decode cX0_measure 114 = .ok (.aload_n 0, 1) := by decide +kernel
theorem dX0_measure_115 : decode cX0_measure 115 = .ok (.getfield 32, 3) := by decide +kernel
theorem dX0_measure_118 : decode cX0_measure 118 = .ok (.iload 4, 2) := by decide +kernel
theorem dX0_measure_120 : decode cX0_measure 120 = .ok (.iaload, 1) := by decide +kernel
theorem dX0_measure_121 : decode cX0_measure 121 = .ok (.if_icmp .ge 12, 3) := by decide +kernel
theorem dX0_measure_124 : decode cX0_measure 124 = .ok (.aload_n 0, 1) := by decide +kernel
theorem dX0_measure_125 : decode cX0_measure 125 = .ok (.getfield 32, 3) := by decide +kernel
theorem dX0_measure_128 : decode cX0_measure 128 = .ok (.iload 4, 2) := by decide +kernel
theorem dX0_measure_130 : decode cX0_measure 130 = .ok (.iload 5, 2) := by decide +kernel
theorem dX0_measure_132 : decode cX0_measure 132 = .ok (.iastore, 1) := by decide +kernel
theorem dX0_measure_133 : decode cX0_measure 133 = .ok (.iinc 3 1, 3) := by decide +kernel
theorem dX0_measure_136 : decode cX0_measure 136 = .ok (.goto (-83), 3) := by decide +kernel
theorem dX0_measure_139 : decode cX0_measure 139 = .ok (.iinc 2 1, 3) := by decide +kernel
theorem dX0_measure_142 : decode cX0_measure 142 = .ok (.goto (-97), 3) := by decide +kernel
theorem dX0_measure_145 : decode cX0_measure 145 = .ok (.return_, 1) := by decide +kernel
theorem dX0_nearer_0 : decode cX0_nearer 0 = .ok (.iconst 0, 1) := by decide +kernel
theorem dX0_nearer_1 : decode cX0_nearer 1 = .ok (.istore_n 2, 1) := by decide +kernel
theorem dX0_nearer_2 : decode cX0_nearer 2 = .ok (.iload_n 2, 1) := by decide +kernel
theorem dX0_nearer_3 : decode cX0_nearer 3 = .ok (.bipush 7, 2) := by decide +kernel
theorem dX0_nearer_5 : decode cX0_nearer 5 = .ok (.if_icmp .ge 71, 3) := by decide +kernel
theorem dX0_nearer_8 : decode cX0_nearer 8 = .ok (.bipush 7, 2) := by decide +kernel
theorem dX0_nearer_10 : decode cX0_nearer 10 = .ok (.iload_n 1, 1) := by decide +kernel
theorem dX0_nearer_11 : decode cX0_nearer 11 = .ok (.imul, 1) := by decide +kernel
theorem dX0_nearer_12 : decode cX0_nearer 12 = .ok (.iload_n 2, 1) := by decide +kernel
theorem dX0_nearer_13 : decode cX0_nearer 13 = .ok (.iadd, 1) := by decide +kernel
theorem dX0_nearer_14 : decode cX0_nearer 14 = .ok (.istore_n 3, 1) := by decide +kernel
theorem dX0_nearer_15 : decode cX0_nearer 15 = .ok (.aload_n 0, 1) := by decide +kernel
theorem dX0_nearer_16 : decode cX0_nearer 16 = .ok (.getfield 7, 3) := by decide +kernel
theorem dX0_nearer_19 : decode cX0_nearer 19 = .ok (.iload_n 3, 1) := by decide +kernel
theorem dX0_nearer_20 : decode cX0_nearer 20 = .ok (.baload, 1) := by decide +kernel
theorem dX0_nearer_21 : decode cX0_nearer 21 = .ok (.ifCond .eq 49, 3) := by decide +kernel
theorem dX0_nearer_24 : decode cX0_nearer 24 = .ok (.iload_n 3, 1) := by decide +kernel
theorem dX0_nearer_25 : decode cX0_nearer 25 = .ok (.aload_n 0, 1) := by decide +kernel
theorem dX0_nearer_26 : decode cX0_nearer 26 = .ok (.getfield 42, 3) := by decide +kernel
theorem dX0_nearer_29 : decode cX0_nearer 29 = .ok (.if_icmp .eq 41, 3) := by decide +kernel
theorem dX0_nearer_32 : decode cX0_nearer 32 = .ok (.aload_n 0, 1) := by decide +kernel
theorem dX0_nearer_33 : decode cX0_nearer 33 = .ok (.getfield 32, 3) := by decide +kernel
theorem dX0_nearer_36 : decode cX0_nearer 36 = .ok (.iload_n 2, 1) := by decide +kernel
theorem dX0_nearer_37 : decode cX0_nearer 37 = .ok (.iaload, 1) := by decide +kernel
theorem dX0_nearer_38 : decode cX0_nearer 38 = .ok (.ldc 76, 2) := by decide +kernel
theorem dX0_nearer_40 : decode cX0_nearer 40 = .ok (.if_icmp .lt 6, 3) := by decide +kernel
theorem dX0_nearer_43 : decode cX0_nearer 43 = .ok (.goto 27, 3) := by decide +kernel
theorem dX0_nearer_46 : decode cX0_nearer 46 = .ok (.aload_n 0, 1) := by decide +kernel
theorem dX0_nearer_47 : decode cX0_nearer 47 = .ok (.getfield 32, 3) := by decide +kernel
theorem dX0_nearer_50 : decode cX0_nearer 50 = .ok (.iload_n 2, 1) := by decide +kernel
theorem dX0_nearer_51 : decode cX0_nearer 51 = .ok (.iaload, 1) := by decide +kernel
theorem dX0_nearer_52 : decode cX0_nearer 52 = .ok (.aload_n 0, 1) := by decide +kernel
theorem dX0_nearer_53 : decode cX0_nearer 53 = .ok (.getfield 7, 3) := by decide +kernel
theorem dX0_nearer_56 : decode cX0_nearer 56 = .ok (.iload_n 3, 1) := by decide +kernel
theorem dX0_nearer_57 : decode cX0_nearer 57 = .ok (.baload, 1) := by decide +kernel
theorem dX0_nearer_58 : decode cX0_nearer 58 = .ok (.iadd, 1) := by decide +kernel
theorem dX0_nearer_59 : decode cX0_nearer 59 = .ok (.aload_n 0, 1) := by decide +kernel
theorem dX0_nearer_60 : decode cX0_nearer 60 = .ok (.getfield 32, 3) := by decide +kernel
theorem dX0_nearer_63 : decode cX0_nearer 63 = .ok (.iload_n 1, 1) := by decide +kernel
theorem dX0_nearer_64 : decode cX0_nearer 64 = .ok (.iaload, 1) := by decide +kernel
theorem dX0_nearer_65 : decode cX0_nearer 65 = .ok (.if_icmp .ne 5, 3) := by decide +kernel
theorem dX0_nearer_68 : decode cX0_nearer 68 = .ok (.iload_n 2, 1) := by decide +kernel
theorem dX0_nearer_69 : decode cX0_nearer 69 = .ok (.ireturn, 1) := by decide +kernel
theorem dX0_nearer_70 : decode cX0_nearer 70 = .ok (.iinc 2 1, 3) := by decide +kernel
theorem dX0_nearer_73 : decode cX0_nearer 73 = .ok (.goto (-71), 3) := by decide +kernel
theorem dX0_nearer_76 : decode cX0_nearer 76 = .ok (.aload_n 0, 1) := by decide +kernel
theorem dX0_nearer_77 : decode cX0_nearer 77 = .ok (.getfield 38, 3) := by decide +kernel
theorem dX0_nearer_80 : decode cX0_nearer 80 = .ok (.ireturn, 1) := by decide +kernel
theorem dX0_codeOfWay_0 : decode cX0_codeOfWay 0 = .ok (.iconst 0, 1) := by decide +kernel
theorem dX0_codeOfWay_1 : decode cX0_codeOfWay 1 = .ok (.istore_n 1, 1) := by decide +kernel
theorem dX0_codeOfWay_2 : decode cX0_codeOfWay 2 = .ok (.iconst 0, 1) := by decide +kernel
theorem dX0_codeOfWay_3 : decode cX0_codeOfWay 3 = .ok (.istore_n 2, 1) := by decide +kernel
theorem dX0_codeOfWay_4 : decode cX0_codeOfWay 4 = .ok (.iload_n 2, 1) := by decide +kernel
theorem dX0_codeOfWay_5 : decode cX0_codeOfWay 5 = .ok (.bipush 7, 2) := by decide +kernel
theorem dX0_codeOfWay_7 : decode cX0_codeOfWay 7 = .ok (.if_icmp .ge 32, 3) := by decide +kernel
theorem dX0_codeOfWay_10 : decode cX0_codeOfWay 10 = .ok (.iload_n 1, 1) := by decide +kernel
theorem dX0_codeOfWay_11 : decode cX0_codeOfWay 11 = .ok (.iconst 3, 1) := by decide +kernel
theorem dX0_codeOfWay_12 : decode cX0_codeOfWay 12 = .ok (.ishl, 1) := by decide +kernel
theorem dX0_codeOfWay_13 : decode cX0_codeOfWay 13 = .ok (.iload_n 2, 1) := by decide +kernel
theorem dX0_codeOfWay_14 : decode cX0_codeOfWay 14 = .ok (.aload_n 0, 1) := by decide +kernel
theorem dX0_codeOfWay_15 : decode cX0_codeOfWay 15 = .ok (.getfield 66, 3) := by decide +kernel
theorem dX0_codeOfWay_18 : decode cX0_codeOfWay 18 = .ok (.if_icmp .ge 12, 3) := by decide +kernel
theorem dX0_codeOfWay_21 : decode cX0_codeOfWay 21 = .ok (.aload_n 0, 1) := by decide +kernel
theorem dX0_codeOfWay_22 : decode cX0_codeOfWay 22 = .ok (.getfield 35, 3) := by decide +kernel
theorem dX0_codeOfWay_25 : decode cX0_codeOfWay 25 = .ok (.iload_n 2, 1) := by decide +kernel
theorem dX0_codeOfWay_26 : decode cX0_codeOfWay 26 = .ok (.baload, 1) := by decide +kernel
theorem dX0_codeOfWay_27 : decode cX0_codeOfWay 27 = .ok (.goto 4, 3) := by decide +kernel
theorem dX0_codeOfWay_30 : decode cX0_codeOfWay 30 = .ok (.iconst 0, 1) := by decide +kernel
theorem dX0_codeOfWay_31 : decode cX0_codeOfWay 31 = .ok (.ior, 1) := by decide +kernel
theorem dX0_codeOfWay_32 : decode cX0_codeOfWay 32 = .ok (.istore_n 1, 1) := by decide +kernel
theorem dX0_codeOfWay_33 : decode cX0_codeOfWay 33 = .ok (.iinc 2 1, 3) := by decide +kernel
theorem dX0_codeOfWay_36 : decode cX0_codeOfWay 36 = .ok (.goto (-32), 3) := by decide +kernel
theorem dX0_codeOfWay_39 : decode cX0_codeOfWay 39 = .ok (.iload_n 1, 1) := by decide +kernel
theorem dX0_codeOfWay_40 : decode cX0_codeOfWay 40 = .ok (.ireturn, 1) := by decide +kernel
theorem dX0_keep_0 : decode cX0_keep 0 = .ok (.aload_n 0, 1) := by decide +kernel
theorem dX0_keep_1 : decode cX0_keep 1 = .ok (.getfield 13, 3) := by decide +kernel
theorem dX0_keep_4 : decode cX0_keep 4 = .ok (.aload_n 0, 1) := by decide +kernel
theorem dX0_keep_5 : decode cX0_keep 5 = .ok (.getfield 59, 3) := by decide +kernel
theorem dX0_keep_8 : decode cX0_keep 8 = .ok (.iload_n 1, 1) := by decide +kernel
theorem dX0_keep_9 : decode cX0_keep 9 = .ok (.iastore, 1) := by decide +kernel
theorem dX0_keep_10 : decode cX0_keep 10 = .ok (.aload_n 0, 1) := by decide +kernel
theorem dX0_keep_11 : decode cX0_keep 11 = .ok (.getfield 17, 3) := by decide +kernel
theorem dX0_keep_14 : decode cX0_keep 14 = .ok (.aload_n 0, 1) := by decide +kernel
theorem dX0_keep_15 : decode cX0_keep 15 = .ok (.getfield 59, 3) := by decide +kernel
theorem dX0_keep_18 : decode cX0_keep 18 = .ok (.iload_n 2, 1) := by decide +kernel
theorem dX0_keep_19 : decode cX0_keep 19 = .ok (.iastore, 1) := by decide +kernel
theorem dX0_keep_20 : decode cX0_keep 20 = .ok (.aload_n 0, 1) := by decide +kernel
theorem dX0_keep_21 : decode cX0_keep 21 = .ok (.getfield 20, 3) := by decide +kernel
theorem dX0_keep_24 : decode cX0_keep 24 = .ok (.aload_n 0, 1) := by decide +kernel
theorem dX0_keep_25 : decode cX0_keep 25 = .ok (.getfield 59, 3) := by decide +kernel
theorem dX0_keep_28 : decode cX0_keep 28 = .ok (.iload_n 3, 1) := by decide +kernel
theorem dX0_keep_29 : decode cX0_keep 29 = .ok (.iastore, 1) := by decide +kernel
theorem dX0_keep_30 : decode cX0_keep 30 = .ok (.aload_n 0, 1) := by decide +kernel
theorem dX0_keep_31 : decode cX0_keep 31 = .ok (.dup, 1) := by decide +kernel
theorem dX0_keep_32 : decode cX0_keep 32 = .ok (.getfield 59, 3) := by decide +kernel
theorem dX0_keep_35 : decode cX0_keep 35 = .ok (.iconst 1, 1) := by decide +kernel
theorem dX0_keep_36 : decode cX0_keep 36 = .ok (.iadd, 1) := by decide +kernel
theorem dX0_keep_37 : decode cX0_keep 37 = .ok (.putfield 59, 3) := by decide +kernel
theorem dX0_keep_40 : decode cX0_keep 40 = .ok (.return_, 1) := by decide +kernel
theorem dX0_branchOff_0 : decode cX0_branchOff 0 = .ok (.iconst 0, 1) := by decide +kernel
theorem dX0_branchOff_1 : decode cX0_branchOff 1 = .ok (.istore_n 2, 1) := by decide +kernel
theorem dX0_branchOff_2 : decode cX0_branchOff 2 = .ok (.iconst 0, 1) := by decide +kernel
theorem dX0_branchOff_3 : decode cX0_branchOff 3 = .ok (.istore_n 3, 1) := by decide +kernel
theorem dX0_branchOff_4 : decode cX0_branchOff 4 = .ok (.iconst 0, 1) := by decide +kernel
theorem dX0_branchOff_5 : decode cX0_branchOff 5 = .ok (.istore 4, 2) := by decide +kernel
theorem dX0_branchOff_7 : decode cX0_branchOff 7 = .ok (.iload 4, 2) := by decide +kernel
theorem dX0_branchOff_9 : decode cX0_branchOff 9 = .ok (.iconst 1, 1) := by decide +kernel
theorem dX0_branchOff_10 : decode cX0_branchOff 10 = .ok (.iadd, 1) := by decide +kernel
theorem dX0_branchOff_11 : decode cX0_branchOff 11 = .ok (.aload_n 0, 1) := by decide +kernel
theorem dX0_branchOff_12 : decode cX0_branchOff 12 = .ok (.getfield 20, 3) := by decide +kernel
theorem dX0_branchOff_15 : decode cX0_branchOff 15 = .ok (.iload_n 1, 1) := by decide +kernel
theorem dX0_branchOff_16 : decode cX0_branchOff 16 = .ok (.iaload, 1) := by decide +kernel
theorem dX0_branchOff_17 : decode cX0_branchOff 17 = .ok (.if_icmp .ge 148, 3) := by decide +kernel
theorem dX0_branchOff_20 : decode cX0_branchOff 20 = .ok (.aload_n 0, 1) := by decide +kernel
theorem dX0_branchOff_21 : decode cX0_branchOff 21 = .ok (.aload_n 0, 1) := by decide +kernel
theorem dX0_branchOff_22 : decode cX0_branchOff 22 = .ok (.getfield 13, 3) := by decide +kernel
theorem dX0_branchOff_25 : decode cX0_branchOff 25 = .ok (.iload_n 1, 1) := by decide +kernel
theorem dX0_branchOff_26 : decode cX0_branchOff 26 = .ok (.iaload, 1) := by decide +kernel
theorem dX0_branchOff_27 : decode cX0_branchOff 27 = .ok (.iload 4, 2) := by decide +kernel
theorem dX0_branchOff_29 : decode cX0_branchOff 29 = .ok (.invokevirtual 62, 3) := by decide +kernel
theorem dX0_branchOff_32 : decode cX0_branchOff 32 = .ok (.istore 5, 2) := by decide +kernel
theorem dX0_branchOff_34 : decode cX0_branchOff 34 = .ok (.aload_n 0, 1) := by decide +kernel
theorem dX0_branchOff_35 : decode cX0_branchOff 35 = .ok (.aload_n 0, 1) := by decide +kernel
theorem dX0_branchOff_36 : decode cX0_branchOff 36 = .ok (.getfield 13, 3) := by decide +kernel
theorem dX0_branchOff_39 : decode cX0_branchOff 39 = .ok (.iload_n 1, 1) := by decide +kernel
theorem dX0_branchOff_40 : decode cX0_branchOff 40 = .ok (.iaload, 1) := by decide +kernel
theorem dX0_branchOff_41 : decode cX0_branchOff 41 = .ok (.iload 4, 2) := by decide +kernel
theorem dX0_branchOff_43 : decode cX0_branchOff 43 = .ok (.invokevirtual 102, 3) := by decide +kernel
theorem dX0_branchOff_46 : decode cX0_branchOff 46 = .ok (.istore 6, 2) := by decide +kernel
theorem dX0_branchOff_48 : decode cX0_branchOff 48 = .ok (.aload_n 0, 1) := by decide +kernel
theorem dX0_branchOff_49 : decode cX0_branchOff 49 = .ok (.iload 4, 2) := by decide +kernel
theorem dX0_branchOff_51 : decode cX0_branchOff 51 = .ok (.putfield 66, 3) := by decide +kernel
theorem dX0_branchOff_54 : decode cX0_branchOff 54 = .ok (.iconst 0, 1) := by decide +kernel
theorem dX0_branchOff_55 : decode cX0_branchOff 55 = .ok (.istore 7, 2) := by decide +kernel
theorem dX0_branchOff_57 : decode cX0_branchOff 57 = .ok (.iload 7, 2) := by decide +kernel
theorem dX0_branchOff_59 : decode cX0_branchOff 59 = .ok (.iload 4, 2) := by decide +kernel
theorem dX0_branchOff_61 : decode cX0_branchOff 61 = .ok (.if_icmp .ge 29, 3) := by decide +kernel
theorem dX0_branchOff_64 : decode cX0_branchOff 64 = .ok (.aload_n 0, 1) := by decide +kernel
theorem dX0_branchOff_65 : decode cX0_branchOff 65 = .ok (.getfield 35, 3) := by decide +kernel
theorem dX0_branchOff_68 : decode cX0_branchOff 68 = .ok (.iload 7, 2) := by decide +kernel
theorem dX0_branchOff_70 : decode cX0_branchOff 70 = .ok (.aload_n 0, 1) := by decide +kernel
theorem dX0_branchOff_71 : decode cX0_branchOff 71 = .ok (.aload_n 0, 1) := by decide +kernel
theorem dX0_branchOff_72 : decode cX0_branchOff 72 = .ok (.getfield 13, 3) := by decide +kernel
theorem dX0_branchOff_75 : decode cX0_branchOff 75 = .ok (.iload_n 1, 1) := by decide +kernel
theorem dX0_branchOff_76 : decode cX0_branchOff 76 = .ok (.iaload, 1) := by decide +kernel
theorem dX0_branchOff_77 : decode cX0_branchOff 77 = .ok (.iload 7, 2) := by decide +kernel
theorem dX0_branchOff_79 : decode cX0_branchOff 79 = .ok (.invokevirtual 62, 3) := by decide +kernel
theorem dX0_branchOff_82 : decode cX0_branchOff 82 = .ok (.i2b, 1) := by decide +kernel
theorem dX0_branchOff_83 : decode cX0_branchOff 83 = .ok (.bastore, 1) := by decide +kernel
theorem dX0_branchOff_84 : decode cX0_branchOff 84 = .ok (.iinc 7 1, 3) := by decide +kernel
theorem dX0_branchOff_87 : decode cX0_branchOff 87 = .ok (.goto (-30), 3) := by decide +kernel
theorem dX0_branchOff_90 : decode cX0_branchOff 90 = .ok (.aload_n 0, 1) := by decide +kernel
theorem dX0_branchOff_91 : decode cX0_branchOff 91 = .ok (.iload 5, 2) := by decide +kernel
theorem dX0_branchOff_93 : decode cX0_branchOff 93 = .ok (.iload_n 3, 1) := by decide +kernel
theorem dX0_branchOff_94 : decode cX0_branchOff 94 = .ok (.iload 6, 2) := by decide +kernel
theorem dX0_branchOff_96 : decode cX0_branchOff 96 = .ok (.invokevirtual 69, 3) := by decide +kernel
theorem dX0_branchOff_99 : decode cX0_branchOff 99 = .ok (.ifCond .eq 25, 3) := by decide +kernel
theorem dX0_branchOff_102 : decode cX0_branchOff 102 = .ok (.aload_n 0, 1) := by decide +kernel
theorem dX0_branchOff_103 : decode cX0_branchOff 103 = .ok (.invokevirtual 88, 3) := by decide +kernel
theorem dX0_branchOff_106 : decode cX0_branchOff 106 = .ok (.istore 7, 2) := by decide +kernel
theorem dX0_branchOff_108 : decode cX0_branchOff 108 = .ok (.aload_n 0, 1) := by decide +kernel
theorem dX0_branchOff_109 : decode cX0_branchOff 109 = .ok (.iload 7, 2) := by decide +kernel
theorem dX0_branchOff_111 : decode cX0_branchOff 111 = .ok (.iload_n 2, 1) := by decide +kernel
theorem dX0_branchOff_112 : decode cX0_branchOff 112 = .ok (.aload_n 0, 1) := by decide +kernel
theorem dX0_branchOff_113 : decode cX0_branchOff 113 = .ok (.getfield 73, 3) := by decide +kernel
theorem dX0_branchOff_116 : decode cX0_branchOff 116 = .ok (.iadd, 1) := by decide +kernel
theorem dX0_branchOff_117 : decode cX0_branchOff 117 = .ok (.aload_n 0, 1) := by decide +kernel
theorem dX0_branchOff_118 : decode cX0_branchOff 118 = .ok (.getfield 66, 3) := by decide +kernel
theorem dX0_branchOff_121 : decode cX0_branchOff 121 = .ok (.invokevirtual 105, 3) := by decide +kernel
theorem dX0_branchOff_124 : decode cX0_branchOff 124 = .ok (.iload_n 3, 1) := by decide +kernel
theorem dX0_branchOff_125 : decode cX0_branchOff 125 = .ok (.iconst 1, 1) := by decide +kernel
theorem dX0_branchOff_126 : decode cX0_branchOff 126 = .ok (.iload 5, 2) := by decide +kernel
theorem dX0_branchOff_128 : decode cX0_branchOff 128 = .ok (.ishl, 1) := by decide +kernel
theorem dX0_branchOff_129 : decode cX0_branchOff 129 = .ok (.ior, 1) := by decide +kernel
theorem dX0_branchOff_130 : decode cX0_branchOff 130 = .ok (.istore_n 3, 1) := by decide +kernel
theorem dX0_branchOff_131 : decode cX0_branchOff 131 = .ok (.iload_n 2, 1) := by decide +kernel
theorem dX0_branchOff_132 : decode cX0_branchOff 132 = .ok (.aload_n 0, 1) := by decide +kernel
theorem dX0_branchOff_133 : decode cX0_branchOff 133 = .ok (.getfield 7, 3) := by decide +kernel
theorem dX0_branchOff_136 : decode cX0_branchOff 136 = .ok (.bipush 7, 2) := by decide +kernel
theorem dX0_branchOff_138 : decode cX0_branchOff 138 = .ok (.iload 5, 2) := by decide +kernel
theorem dX0_branchOff_140 : decode cX0_branchOff 140 = .ok (.imul, 1) := by decide +kernel
theorem dX0_branchOff_141 : decode cX0_branchOff 141 = .ok (.aload_n 0, 1) := by decide +kernel
theorem dX0_branchOff_142 : decode cX0_branchOff 142 = .ok (.aload_n 0, 1) := by decide +kernel
theorem dX0_branchOff_143 : decode cX0_branchOff 143 = .ok (.getfield 13, 3) := by decide +kernel
theorem dX0_branchOff_146 : decode cX0_branchOff 146 = .ok (.iload_n 1, 1) := by decide +kernel
theorem dX0_branchOff_147 : decode cX0_branchOff 147 = .ok (.iaload, 1) := by decide +kernel
theorem dX0_branchOff_148 : decode cX0_branchOff 148 = .ok (.iload 4, 2) := by decide +kernel
theorem dX0_branchOff_150 : decode cX0_branchOff 150 = .ok (.iconst 1, 1) := by decide +kernel
theorem dX0_branchOff_151 : decode cX0_branchOff 151 = .ok (.iadd, 1) := by decide +kernel
theorem dX0_branchOff_152 : decode cX0_branchOff 152 = .ok (.invokevirtual 62, 3) := by decide +kernel
theorem dX0_branchOff_155 : decode cX0_branchOff 155 = .ok (.iadd, 1) := by decide +kernel
theorem dX0_branchOff_156 : decode cX0_branchOff 156 = .ok (.baload, 1) := by decide +kernel
theorem dX0_branchOff_157 : decode cX0_branchOff 157 = .ok (.iadd, 1) := by decide +kernel
theorem dX0_branchOff_158 : decode cX0_branchOff 158 = .ok (.istore_n 2, 1) := by decide +kernel
theorem dX0_branchOff_159 : decode cX0_branchOff 159 = .ok (.iinc 4 1, 3) := by decide +kernel
theorem dX0_branchOff_162 : decode cX0_branchOff 162 = .ok (.goto (-155), 3) := by decide +kernel
theorem dX0_branchOff_165 : decode cX0_branchOff 165 = .ok (.return_, 1) := by decide +kernel
theorem dX0_vertexIn_0 : decode cX0_vertexIn 0 = .ok (.iload_n 1, 1) := by decide +kernel
theorem dX0_vertexIn_1 : decode cX0_vertexIn 1 = .ok (.iconst 3, 1) := by decide +kernel
theorem dX0_vertexIn_2 : decode cX0_vertexIn 2 = .ok (.bipush 6, 2) := by decide +kernel
theorem dX0_vertexIn_4 : decode cX0_vertexIn 4 = .ok (.iload_n 2, 1) := by decide +kernel
theorem dX0_vertexIn_5 : decode cX0_vertexIn 5 = .ok (.isub, 1) := by decide +kernel
theorem dX0_vertexIn_6 : decode cX0_vertexIn 6 = .ok (.imul, 1) := by decide +kernel
theorem dX0_vertexIn_7 : decode cX0_vertexIn 7 = .ok (.ishr, 1) := by decide +kernel
theorem dX0_vertexIn_8 : decode cX0_vertexIn 8 = .ok (.bipush 7, 2) := by decide +kernel
theorem dX0_vertexIn_10 : decode cX0_vertexIn 10 = .ok (.iand, 1) := by decide +kernel
theorem dX0_vertexIn_11 : decode cX0_vertexIn 11 = .ok (.ireturn, 1) := by decide +kernel
theorem dX0_takenAfter_0 : decode cX0_takenAfter 0 = .ok (.iconst 0, 1) := by decide +kernel
theorem dX0_takenAfter_1 : decode cX0_takenAfter 1 = .ok (.istore_n 3, 1) := by decide +kernel
theorem dX0_takenAfter_2 : decode cX0_takenAfter 2 = .ok (.iconst 3, 1) := by decide +kernel
theorem dX0_takenAfter_3 : decode cX0_takenAfter 3 = .ok (.bipush 6, 2) := by decide +kernel
theorem dX0_takenAfter_5 : decode cX0_takenAfter 5 = .ok (.iload_n 2, 1) := by decide +kernel
theorem dX0_takenAfter_6 : decode cX0_takenAfter 6 = .ok (.isub, 1) := by decide +kernel
theorem dX0_takenAfter_7 : decode cX0_takenAfter 7 = .ok (.imul, 1) := by decide +kernel
theorem dX0_takenAfter_8 : decode cX0_takenAfter 8 = .ok (.istore 4, 2) := by decide +kernel
theorem dX0_takenAfter_10 : decode cX0_takenAfter 10 = .ok (.iconst 0, 1) := by decide +kernel
theorem dX0_takenAfter_11 : decode cX0_takenAfter 11 = .ok (.istore 5, 2) := by decide +kernel
theorem dX0_takenAfter_13 : decode cX0_takenAfter 13 = .ok (.iload 5, 2) := by decide +kernel
theorem dX0_takenAfter_15 : decode cX0_takenAfter 15 = .ok (.aload_n 0, 1) := by decide +kernel
theorem dX0_takenAfter_16 : decode cX0_takenAfter 16 = .ok (.getfield 59, 3) := by decide +kernel
theorem dX0_takenAfter_19 : decode cX0_takenAfter 19 = .ok (.if_icmp .ge 58, 3) := by decide +kernel
theorem dX0_takenAfter_22 : decode cX0_takenAfter 22 = .ok (.aload_n 0, 1) := by decide +kernel
theorem dX0_takenAfter_23 : decode cX0_takenAfter 23 = .ok (.getfield 13, 3) := by decide +kernel
theorem dX0_takenAfter_26 : decode cX0_takenAfter 26 = .ok (.iload 5, 2) := by decide +kernel
theorem dX0_takenAfter_28 : decode cX0_takenAfter 28 = .ok (.iaload, 1) := by decide +kernel
theorem dX0_takenAfter_29 : decode cX0_takenAfter 29 = .ok (.iload 4, 2) := by decide +kernel
theorem dX0_takenAfter_31 : decode cX0_takenAfter 31 = .ok (.ishr, 1) := by decide +kernel
theorem dX0_takenAfter_32 : decode cX0_takenAfter 32 = .ok (.iload_n 1, 1) := by decide +kernel
theorem dX0_takenAfter_33 : decode cX0_takenAfter 33 = .ok (.iload 4, 2) := by decide +kernel
theorem dX0_takenAfter_35 : decode cX0_takenAfter 35 = .ok (.ishr, 1) := by decide +kernel
theorem dX0_takenAfter_36 : decode cX0_takenAfter 36 = .ok (.if_icmp .ne 35, 3) := by decide +kernel
theorem dX0_takenAfter_39 : decode cX0_takenAfter 39 = .ok (.iload_n 2, 1) := by decide +kernel
theorem dX0_takenAfter_40 : decode cX0_takenAfter 40 = .ok (.iconst 1, 1) := by decide +kernel
theorem dX0_takenAfter_41 : decode cX0_takenAfter 41 = .ok (.iadd, 1) := by decide +kernel
theorem dX0_takenAfter_42 : decode cX0_takenAfter 42 = .ok (.aload_n 0, 1) := by decide +kernel
theorem dX0_takenAfter_43 : decode cX0_takenAfter 43 = .ok (.getfield 20, 3) := by decide +kernel
theorem dX0_takenAfter_46 : decode cX0_takenAfter 46 = .ok (.iload 5, 2) := by decide +kernel
theorem dX0_takenAfter_48 : decode cX0_takenAfter 48 = .ok (.iaload, 1) := by decide +kernel
theorem dX0_takenAfter_49 : decode cX0_takenAfter 49 = .ok (.if_icmp .ge 22, 3) := by decide +kernel
theorem dX0_takenAfter_52 : decode cX0_takenAfter 52 = .ok (.iload_n 3, 1) := by decide +kernel
theorem dX0_takenAfter_53 : decode cX0_takenAfter 53 = .ok (.iconst 1, 1) := by decide +kernel
theorem dX0_takenAfter_54 : decode cX0_takenAfter 54 = .ok (.aload_n 0, 1) := by decide +kernel
theorem dX0_takenAfter_55 : decode cX0_takenAfter 55 = .ok (.aload_n 0, 1) := by decide +kernel
theorem dX0_takenAfter_56 : decode cX0_takenAfter 56 = .ok (.getfield 13, 3) := by decide +kernel
theorem dX0_takenAfter_59 : decode cX0_takenAfter 59 = .ok (.iload 5, 2) := by decide +kernel
theorem dX0_takenAfter_61 : decode cX0_takenAfter 61 = .ok (.iaload, 1) := by decide +kernel
theorem dX0_takenAfter_62 : decode cX0_takenAfter 62 = .ok (.iload_n 2, 1) := by decide +kernel
theorem dX0_takenAfter_63 : decode cX0_takenAfter 63 = .ok (.iconst 1, 1) := by decide +kernel
theorem dX0_takenAfter_64 : decode cX0_takenAfter 64 = .ok (.iadd, 1) := by decide +kernel
theorem dX0_takenAfter_65 : decode cX0_takenAfter 65 = .ok (.invokevirtual 62, 3) := by decide +kernel
theorem dX0_takenAfter_68 : decode cX0_takenAfter 68 = .ok (.ishl, 1) := by decide +kernel
theorem dX0_takenAfter_69 : decode cX0_takenAfter 69 = .ok (.ior, 1) := by decide +kernel
theorem dX0_takenAfter_70 : decode cX0_takenAfter 70 = .ok (.istore_n 3, 1) := by decide +kernel
theorem dX0_takenAfter_71 : decode cX0_takenAfter 71 = .ok (.iinc 5 1, 3) := by decide +kernel
theorem dX0_takenAfter_74 : decode cX0_takenAfter 74 = .ok (.goto (-61), 3) := by decide +kernel
theorem dX0_takenAfter_77 : decode cX0_takenAfter 77 = .ok (.iload_n 3, 1) := by decide +kernel
theorem dX0_takenAfter_78 : decode cX0_takenAfter 78 = .ok (.ireturn, 1) := by decide +kernel
end
section
set_option maxRecDepth 100000
theorem dX0_propose_0 : decode cX0_propose 0 = .ok (.iconst 0, 1) := by decide +kernel
theorem dX0_propose_1 : decode cX0_propose 1 = .ok (.istore 4, 2) := by decide +kernel
theorem dX0_propose_3 : decode cX0_propose 3 = .ok (.iload 4, 2) := by decide +kernel
theorem dX0_propose_5 : decode cX0_propose 5 = .ok (.aload_n 0, 1) := by decide +kernel
theorem dX0_propose_6 : decode cX0_propose 6 = .ok (.getfield 85, 3) := by decide +kernel
theorem dX0_propose_9 : decode cX0_propose 9 = .ok (.if_icmp .ge 21, 3) := by decide +kernel
theorem dX0_propose_12 : decode cX0_propose 12 = .ok (.aload_n 0, 1) := by decide +kernel
theorem dX0_propose_13 : decode cX0_propose 13 = .ok (.getfield 23, 3) := by decide +kernel
theorem dX0_propose_16 : decode cX0_propose 16 = .ok (.iload 4, 2) := by decide +kernel
theorem dX0_propose_18 : decode cX0_propose 18 = .ok (.iaload, 1) := by decide +kernel
theorem dX0_propose_19 : decode cX0_propose 19 = .ok (.iload_n 1, 1) := by decide +kernel
theorem dX0_propose_20 : decode cX0_propose 20 = .ok (.if_icmp .ne 4, 3) := by decide +kernel
theorem dX0_propose_23 : decode cX0_propose 23 = .ok (.return_, 1) := by decide +kernel
theorem dX0_propose_24 : decode cX0_propose 24 = .ok (.iinc 4 1, 3) := by decide +kernel
theorem dX0_propose_27 : decode cX0_propose 27 = .ok (.goto (-24), 3) := by decide +kernel
theorem dX0_propose_30 : decode cX0_propose 30 = .ok (.aload_n 0, 1) := by decide +kernel
theorem dX0_propose_31 : decode cX0_propose 31 = .ok (.getfield 23, 3) := by decide +kernel
theorem dX0_propose_34 : decode cX0_propose 34 = .ok (.aload_n 0, 1) := by decide +kernel
theorem dX0_propose_35 : decode cX0_propose 35 = .ok (.getfield 85, 3) := by decide +kernel
theorem dX0_propose_38 : decode cX0_propose 38 = .ok (.iload_n 1, 1) := by decide +kernel
theorem dX0_propose_39 : decode cX0_propose 39 = .ok (.iastore, 1) := by decide +kernel
theorem dX0_propose_40 : decode cX0_propose 40 = .ok (.aload_n 0, 1) := by decide +kernel
theorem dX0_propose_41 : decode cX0_propose 41 = .ok (.getfield 26, 3) := by decide +kernel
theorem dX0_propose_44 : decode cX0_propose 44 = .ok (.aload_n 0, 1) := by decide +kernel
theorem dX0_propose_45 : decode cX0_propose 45 = .ok (.getfield 85, 3) := by decide +kernel
theorem dX0_propose_48 : decode cX0_propose 48 = .ok (.iload_n 2, 1) := by decide +kernel
theorem dX0_propose_49 : decode cX0_propose 49 = .ok (.iastore, 1) := by decide +kernel
theorem dX0_propose_50 : decode cX0_propose 50 = .ok (.aload_n 0, 1) := by decide +kernel
theorem dX0_propose_51 : decode cX0_propose 51 = .ok (.getfield 29, 3) := by decide +kernel
theorem dX0_propose_54 : decode cX0_propose 54 = .ok (.aload_n 0, 1) := by decide +kernel
theorem dX0_propose_55 : decode cX0_propose 55 = .ok (.getfield 85, 3) := by decide +kernel
theorem dX0_propose_58 : decode cX0_propose 58 = .ok (.iload_n 3, 1) := by decide +kernel
theorem dX0_propose_59 : decode cX0_propose 59 = .ok (.iastore, 1) := by decide +kernel
theorem dX0_propose_60 : decode cX0_propose 60 = .ok (.aload_n 0, 1) := by decide +kernel
theorem dX0_propose_61 : decode cX0_propose 61 = .ok (.dup, 1) := by decide +kernel
theorem dX0_propose_62 : decode cX0_propose 62 = .ok (.getfield 85, 3) := by decide +kernel
theorem dX0_propose_65 : decode cX0_propose 65 = .ok (.iconst 1, 1) := by decide +kernel
theorem dX0_propose_66 : decode cX0_propose 66 = .ok (.iadd, 1) := by decide +kernel
theorem dX0_propose_67 : decode cX0_propose 67 = .ok (.putfield 85, 3) := by decide +kernel
theorem dX0_propose_70 : decode cX0_propose 70 = .ok (.return_, 1) := by decide +kernel
theorem dX0_bestCandidate_0 : decode cX0_bestCandidate 0 = .ok (.iconst (-1), 1) := by decide +kernel
theorem dX0_bestCandidate_1 : decode cX0_bestCandidate 1 = .ok (.istore_n 1, 1) := by decide +kernel
theorem dX0_bestCandidate_2 : decode cX0_bestCandidate 2 = .ok (.iconst 0, 1) := by decide +kernel
theorem dX0_bestCandidate_3 : decode cX0_bestCandidate 3 = .ok (.istore_n 2, 1) := by decide +kernel
theorem dX0_bestCandidate_4 : decode cX0_bestCandidate 4 = .ok (.iload_n 2, 1) := by decide +kernel
theorem dX0_bestCandidate_5 : decode cX0_bestCandidate 5 = .ok (.aload_n 0, 1) := by decide +kernel
theorem dX0_bestCandidate_6 : decode cX0_bestCandidate 6 = .ok (.getfield 85, 3) := by decide +kernel
theorem dX0_bestCandidate_9 : decode cX0_bestCandidate 9 = .ok (.if_icmp .ge 70, 3) := by decide +kernel
theorem dX0_bestCandidate_12 : decode cX0_bestCandidate 12 = .ok (.iload_n 1, 1) := by decide +kernel
theorem dX0_bestCandidate_13 : decode cX0_bestCandidate 13 = .ok (.ifCond .lt 48, 3) := by decide +kernel
theorem dX0_bestCandidate_16 : decode cX0_bestCandidate 16 = .ok (.aload_n 0, 1) := by decide +kernel
theorem dX0_bestCandidate_17 : decode cX0_bestCandidate 17 = .ok (.getfield 26, 3) := by decide +kernel
theorem dX0_bestCandidate_20 : decode cX0_bestCandidate 20 = .ok (.iload_n 2, 1) := by decide +kernel
theorem dX0_bestCandidate_21 : decode cX0_bestCandidate 21 = .ok (.iaload, 1) := by decide +kernel
theorem dX0_bestCandidate_22 : decode cX0_bestCandidate 22 = .ok (.aload_n 0, 1) := by decide +kernel
theorem dX0_bestCandidate_23 : decode cX0_bestCandidate 23 = .ok (.getfield 26, 3) := by decide +kernel
theorem dX0_bestCandidate_26 : decode cX0_bestCandidate 26 = .ok (.iload_n 1, 1) := by decide +kernel
theorem dX0_bestCandidate_27 : decode cX0_bestCandidate 27 = .ok (.iaload, 1) := by decide +kernel
theorem dX0_bestCandidate_28 : decode cX0_bestCandidate 28 = .ok (.if_icmp .lt 33, 3) := by decide +kernel
theorem dX0_bestCandidate_31 : decode cX0_bestCandidate 31 = .ok (.aload_n 0, 1) := by decide +kernel
theorem dX0_bestCandidate_32 : decode cX0_bestCandidate 32 = .ok (.getfield 26, 3) := by decide +kernel
theorem dX0_bestCandidate_35 : decode cX0_bestCandidate 35 = .ok (.iload_n 2, 1) := by decide +kernel
theorem dX0_bestCandidate_36 : decode cX0_bestCandidate 36 = .ok (.iaload, 1) := by decide +kernel
theorem dX0_bestCandidate_37 : decode cX0_bestCandidate 37 = .ok (.aload_n 0, 1) := by decide +kernel
theorem dX0_bestCandidate_38 : decode cX0_bestCandidate 38 = .ok (.getfield 26, 3) := by decide +kernel
theorem dX0_bestCandidate_41 : decode cX0_bestCandidate 41 = .ok (.iload_n 1, 1) := by decide +kernel
theorem dX0_bestCandidate_42 : decode cX0_bestCandidate 42 = .ok (.iaload, 1) := by decide +kernel
theorem dX0_bestCandidate_43 : decode cX0_bestCandidate 43 = .ok (.if_icmp .ne 22, 3) := by decide +kernel
theorem dX0_bestCandidate_46 : decode cX0_bestCandidate 46 = .ok (.aload_n 0, 1) := by decide +kernel
theorem dX0_bestCandidate_47 : decode cX0_bestCandidate 47 = .ok (.getfield 23, 3) := by decide +kernel
theorem dX0_bestCandidate_50 : decode cX0_bestCandidate 50 = .ok (.iload_n 2, 1) := by decide +kernel
theorem dX0_bestCandidate_51 : decode cX0_bestCandidate 51 = .ok (.iaload, 1) := by decide +kernel
theorem dX0_bestCandidate_52 : decode cX0_bestCandidate 52 = .ok (.aload_n 0, 1) := by decide +kernel
theorem dX0_bestCandidate_53 : decode cX0_bestCandidate 53 = .ok (.getfield 23, 3) := by decide +kernel
theorem dX0_bestCandidate_56 : decode cX0_bestCandidate 56 = .ok (.iload_n 1, 1) := by decide +kernel
theorem dX0_bestCandidate_57 : decode cX0_bestCandidate 57 = .ok (.iaload, 1) := by decide +kernel
theorem dX0_bestCandidate_58 : decode cX0_bestCandidate 58 = .ok (.if_icmp .ge 7, 3) := by decide +kernel
theorem dX0_bestCandidate_61 : decode cX0_bestCandidate 61 = .ok (.iconst 1, 1) := by decide +kernel
theorem dX0_bestCandidate_62 : decode cX0_bestCandidate 62 = .ok (.goto 4, 3) := by decide +kernel
theorem dX0_bestCandidate_65 : decode cX0_bestCandidate 65 = .ok (.iconst 0, 1) := by decide +kernel
theorem dX0_bestCandidate_66 : decode cX0_bestCandidate 66 = .ok (.istore_n 3, 1) := by decide +kernel
theorem dX0_bestCandidate_67 : decode cX0_bestCandidate 67 = .ok (.iload_n 3, 1) := by decide +kernel
theorem dX0_bestCandidate_68 : decode cX0_bestCandidate 68 = .ok (.ifCond .eq 5, 3) := by decide +kernel
theorem dX0_bestCandidate_71 : decode cX0_bestCandidate 71 = .ok (.iload_n 2, 1) := by decide +kernel
theorem dX0_bestCandidate_72 : decode cX0_bestCandidate 72 = .ok (.istore_n 1, 1) := by decide +kernel
theorem dX0_bestCandidate_73 : decode cX0_bestCandidate 73 = .ok (.iinc 2 1, 3) := by decide +kernel
theorem dX0_bestCandidate_76 : decode cX0_bestCandidate 76 = .ok (.goto (-72), 3) := by decide +kernel
theorem dX0_bestCandidate_79 : decode cX0_bestCandidate 79 = .ok (.iload_n 1, 1) := by decide +kernel
theorem dX0_bestCandidate_80 : decode cX0_bestCandidate 80 = .ok (.ireturn, 1) := by decide +kernel
theorem dX0_length_0 : decode cX0_length 0 = .ok (.aload_n 0, 1) := by decide +kernel
theorem dX0_length_1 : decode cX0_length 1 = .ok (.invokevirtual 56, 3) := by decide +kernel
theorem dX0_length_4 : decode cX0_length 4 = .ok (.iload_n 1, 1) := by decide +kernel
theorem dX0_length_5 : decode cX0_length 5 = .ok (.ifCond .lt 11, 3) := by decide +kernel
theorem dX0_length_8 : decode cX0_length 8 = .ok (.iload_n 1, 1) := by decide +kernel
theorem dX0_length_9 : decode cX0_length 9 = .ok (.aload_n 0, 1) := by decide +kernel
theorem dX0_length_10 : decode cX0_length 10 = .ok (.getfield 59, 3) := by decide +kernel
theorem dX0_length_13 : decode cX0_length 13 = .ok (.if_icmp .lt 8, 3) := by decide +kernel
theorem dX0_length_16 : decode cX0_length 16 = .ok (.bipush (-2), 2) := by decide +kernel
theorem dX0_length_18 : decode cX0_length 18 = .ok (.goto 9, 3) := by decide +kernel
theorem dX0_length_21 : decode cX0_length 21 = .ok (.aload_n 0, 1) := by decide +kernel
theorem dX0_length_22 : decode cX0_length 22 = .ok (.getfield 17, 3) := by decide +kernel
theorem dX0_length_25 : decode cX0_length 25 = .ok (.iload_n 1, 1) := by decide +kernel
theorem dX0_length_26 : decode cX0_length 26 = .ok (.iaload, 1) := by decide +kernel
theorem dX0_length_27 : decode cX0_length 27 = .ok (.ireturn, 1) := by decide +kernel
theorem dX0_size_0 : decode cX0_size 0 = .ok (.aload_n 0, 1) := by decide +kernel
theorem dX0_size_1 : decode cX0_size 1 = .ok (.invokevirtual 56, 3) := by decide +kernel
theorem dX0_size_4 : decode cX0_size 4 = .ok (.iload_n 1, 1) := by decide +kernel
theorem dX0_size_5 : decode cX0_size 5 = .ok (.ifCond .lt 11, 3) := by decide +kernel
theorem dX0_size_8 : decode cX0_size 8 = .ok (.iload_n 1, 1) := by decide +kernel
theorem dX0_size_9 : decode cX0_size 9 = .ok (.aload_n 0, 1) := by decide +kernel
theorem dX0_size_10 : decode cX0_size 10 = .ok (.getfield 59, 3) := by decide +kernel
theorem dX0_size_13 : decode cX0_size 13 = .ok (.if_icmp .lt 8, 3) := by decide +kernel
theorem dX0_size_16 : decode cX0_size 16 = .ok (.bipush (-2), 2) := by decide +kernel
theorem dX0_size_18 : decode cX0_size 18 = .ok (.goto 9, 3) := by decide +kernel
theorem dX0_size_21 : decode cX0_size 21 = .ok (.aload_n 0, 1) := by decide +kernel
theorem dX0_size_22 : decode cX0_size 22 = .ok (.getfield 20, 3) := by decide +kernel
theorem dX0_size_25 : decode cX0_size 25 = .ok (.iload_n 1, 1) := by decide +kernel
theorem dX0_size_26 : decode cX0_size 26 = .ok (.iaload, 1) := by decide +kernel
theorem dX0_size_27 : decode cX0_size 27 = .ok (.ireturn, 1) := by decide +kernel
theorem dX0_vertex_0 : decode cX0_vertex 0 = .ok (.aload_n 0, 1) := by decide +kernel
theorem dX0_vertex_1 : decode cX0_vertex 1 = .ok (.invokevirtual 56, 3) := by decide +kernel
theorem dX0_vertex_4 : decode cX0_vertex 4 = .ok (.iload_n 1, 1) := by decide +kernel
theorem dX0_vertex_5 : decode cX0_vertex 5 = .ok (.ifCond .lt 25, 3) := by decide +kernel
theorem dX0_vertex_8 : decode cX0_vertex 8 = .ok (.iload_n 1, 1) := by decide +kernel
theorem dX0_vertex_9 : decode cX0_vertex 9 = .ok (.aload_n 0, 1) := by decide +kernel
theorem dX0_vertex_10 : decode cX0_vertex 10 = .ok (.getfield 59, 3) := by decide +kernel
theorem dX0_vertex_13 : decode cX0_vertex 13 = .ok (.if_icmp .ge 17, 3) := by decide +kernel
theorem dX0_vertex_16 : decode cX0_vertex 16 = .ok (.iload_n 2, 1) := by decide +kernel
theorem dX0_vertex_17 : decode cX0_vertex 17 = .ok (.ifCond .lt 13, 3) := by decide +kernel
theorem dX0_vertex_20 : decode cX0_vertex 20 = .ok (.iload_n 2, 1) := by decide +kernel
theorem dX0_vertex_21 : decode cX0_vertex 21 = .ok (.aload_n 0, 1) := by decide +kernel
theorem dX0_vertex_22 : decode cX0_vertex 22 = .ok (.getfield 20, 3) := by decide +kernel
theorem dX0_vertex_25 : decode cX0_vertex 25 = .ok (.iload_n 1, 1) := by decide +kernel
theorem dX0_vertex_26 : decode cX0_vertex 26 = .ok (.iaload, 1) := by decide +kernel
theorem dX0_vertex_27 : decode cX0_vertex 27 = .ok (.if_icmp .lt 6, 3) := by decide +kernel
theorem dX0_vertex_30 : decode cX0_vertex 30 = .ok (.bipush (-2), 2) := by decide +kernel
theorem dX0_vertex_32 : decode cX0_vertex 32 = .ok (.ireturn, 1) := by decide +kernel
theorem dX0_vertex_33 : decode cX0_vertex 33 = .ok (.aload_n 0, 1) := by decide +kernel
theorem dX0_vertex_34 : decode cX0_vertex 34 = .ok (.aload_n 0, 1) := by decide +kernel
theorem dX0_vertex_35 : decode cX0_vertex 35 = .ok (.getfield 13, 3) := by decide +kernel
theorem dX0_vertex_38 : decode cX0_vertex 38 = .ok (.iload_n 1, 1) := by decide +kernel
theorem dX0_vertex_39 : decode cX0_vertex 39 = .ok (.iaload, 1) := by decide +kernel
theorem dX0_vertex_40 : decode cX0_vertex 40 = .ok (.iload_n 2, 1) := by decide +kernel
theorem dX0_vertex_41 : decode cX0_vertex 41 = .ok (.invokevirtual 62, 3) := by decide +kernel
theorem dX0_vertex_44 : decode cX0_vertex 44 = .ok (.ireturn, 1) := by decide +kernel
theorem dX0_passing_0 : decode cX0_passing 0 = .ok (.aload_n 0, 1) := by decide +kernel
theorem dX0_passing_1 : decode cX0_passing 1 = .ok (.iload_n 1, 1) := by decide +kernel
theorem dX0_passing_2 : decode cX0_passing 2 = .ok (.invokevirtual 45, 3) := by decide +kernel
theorem dX0_passing_5 : decode cX0_passing 5 = .ok (.ifCond .eq 11, 3) := by decide +kernel
theorem dX0_passing_8 : decode cX0_passing 8 = .ok (.aload_n 0, 1) := by decide +kernel
theorem dX0_passing_9 : decode cX0_passing 9 = .ok (.iload_n 2, 1) := by decide +kernel
theorem dX0_passing_10 : decode cX0_passing 10 = .ok (.invokevirtual 45, 3) := by decide +kernel
theorem dX0_passing_13 : decode cX0_passing 13 = .ok (.ifCond .ne 5, 3) := by decide +kernel
theorem dX0_passing_16 : decode cX0_passing 16 = .ok (.iconst (-1), 1) := by decide +kernel
theorem dX0_passing_17 : decode cX0_passing 17 = .ok (.ireturn, 1) := by decide +kernel
theorem dX0_passing_18 : decode cX0_passing 18 = .ok (.aload_n 0, 1) := by decide +kernel
theorem dX0_passing_19 : decode cX0_passing 19 = .ok (.invokevirtual 56, 3) := by decide +kernel
theorem dX0_passing_22 : decode cX0_passing 22 = .ok (.iconst 0, 1) := by decide +kernel
theorem dX0_passing_23 : decode cX0_passing 23 = .ok (.istore_n 3, 1) := by decide +kernel
theorem dX0_passing_24 : decode cX0_passing 24 = .ok (.iconst 0, 1) := by decide +kernel
theorem dX0_passing_25 : decode cX0_passing 25 = .ok (.istore 4, 2) := by decide +kernel
theorem dX0_passing_27 : decode cX0_passing 27 = .ok (.iload 4, 2) := by decide +kernel
theorem dX0_passing_29 : decode cX0_passing 29 = .ok (.aload_n 0, 1) := by decide +kernel
theorem dX0_passing_30 : decode cX0_passing 30 = .ok (.getfield 59, 3) := by decide +kernel
theorem dX0_passing_33 : decode cX0_passing 33 = .ok (.if_icmp .ge 71, 3) := by decide +kernel
theorem dX0_passing_36 : decode cX0_passing 36 = .ok (.iconst 0, 1) := by decide +kernel
theorem dX0_passing_37 : decode cX0_passing 37 = .ok (.istore 5, 2) := by decide +kernel
theorem dX0_passing_39 : decode cX0_passing 39 = .ok (.iload 5, 2) := by decide +kernel
theorem dX0_passing_41 : decode cX0_passing 41 = .ok (.iconst 1, 1) := by decide +kernel
theorem dX0_passing_42 : decode cX0_passing 42 = .ok (.iadd, 1) := by decide +kernel
theorem dX0_passing_43 : decode cX0_passing 43 = .ok (.aload_n 0, 1) := by decide +kernel
theorem dX0_passing_44 : decode cX0_passing 44 = .ok (.getfield 20, 3) := by decide +kernel
theorem dX0_passing_47 : decode cX0_passing 47 = .ok (.iload 4, 2) := by decide +kernel
theorem dX0_passing_49 : decode cX0_passing 49 = .ok (.iaload, 1) := by decide +kernel
theorem dX0_passing_50 : decode cX0_passing 50 = .ok (.if_icmp .ge 48, 3) := by decide +kernel
theorem dX0_passing_53 : decode cX0_passing 53 = .ok (.aload_n 0, 1) := by decide +kernel
theorem dX0_passing_54 : decode cX0_passing 54 = .ok (.aload_n 0, 1) := by decide +kernel
theorem dX0_passing_55 : decode cX0_passing 55 = .ok (.getfield 13, 3) := by decide +kernel
theorem dX0_passing_58 : decode cX0_passing 58 = .ok (.iload 4, 2) := by decide +kernel
theorem dX0_passing_60 : decode cX0_passing 60 = .ok (.iaload, 1) := by decide +kernel
theorem dX0_passing_61 : decode cX0_passing 61 = .ok (.iload 5, 2) := by decide +kernel
theorem dX0_passing_63 : decode cX0_passing 63 = .ok (.invokevirtual 62, 3) := by decide +kernel
theorem dX0_passing_66 : decode cX0_passing 66 = .ok (.iload_n 1, 1) := by decide +kernel
theorem dX0_passing_67 : decode cX0_passing 67 = .ok (.if_icmp .ne 25, 3) := by decide +kernel
theorem dX0_passing_70 : decode cX0_passing 70 = .ok (.aload_n 0, 1) := by decide +kernel
theorem dX0_passing_71 : decode cX0_passing 71 = .ok (.aload_n 0, 1) := by decide +kernel
theorem dX0_passing_72 : decode cX0_passing 72 = .ok (.getfield 13, 3) := by decide +kernel
theorem dX0_passing_75 : decode cX0_passing 75 = .ok (.iload 4, 2) := by decide +kernel
theorem dX0_passing_77 : decode cX0_passing 77 = .ok (.iaload, 1) := by decide +kernel
theorem dX0_passing_78 : decode cX0_passing 78 = .ok (.iload 5, 2) := by decide +kernel
theorem dX0_passing_80 : decode cX0_passing 80 = .ok (.iconst 1, 1) := by decide +kernel
theorem dX0_passing_81 : decode cX0_passing 81 = .ok (.iadd, 1) := by decide +kernel
theorem dX0_passing_82 : decode cX0_passing 82 = .ok (.invokevirtual 62, 3) := by decide +kernel
theorem dX0_passing_85 : decode cX0_passing 85 = .ok (.iload_n 2, 1) := by decide +kernel
theorem dX0_passing_86 : decode cX0_passing 86 = .ok (.if_icmp .ne 6, 3) := by decide +kernel
theorem dX0_passing_89 : decode cX0_passing 89 = .ok (.iinc 3 1, 3) := by decide +kernel
theorem dX0_passing_92 : decode cX0_passing 92 = .ok (.iinc 5 1, 3) := by decide +kernel
theorem dX0_passing_95 : decode cX0_passing 95 = .ok (.goto (-56), 3) := by decide +kernel
theorem dX0_passing_98 : decode cX0_passing 98 = .ok (.iinc 4 1, 3) := by decide +kernel
theorem dX0_passing_101 : decode cX0_passing 101 = .ok (.goto (-74), 3) := by decide +kernel
theorem dX0_passing_104 : decode cX0_passing 104 = .ok (.iload_n 3, 1) := by decide +kernel
theorem dX0_passing_105 : decode cX0_passing 105 = .ok (.ireturn, 1) := by decide +kernel
theorem dX0_avoiding_0 : decode cX0_avoiding 0 = .ok (.aload_n 0, 1) := by decide +kernel
theorem dX0_avoiding_1 : decode cX0_avoiding 1 = .ok (.iload_n 1, 1) := by decide +kernel
theorem dX0_avoiding_2 : decode cX0_avoiding 2 = .ok (.invokevirtual 45, 3) := by decide +kernel
theorem dX0_avoiding_5 : decode cX0_avoiding 5 = .ok (.ifCond .eq 11, 3) := by decide +kernel
theorem dX0_avoiding_8 : decode cX0_avoiding 8 = .ok (.aload_n 0, 1) := by decide +kernel
theorem dX0_avoiding_9 : decode cX0_avoiding 9 = .ok (.iload_n 2, 1) := by decide +kernel
theorem dX0_avoiding_10 : decode cX0_avoiding 10 = .ok (.invokevirtual 45, 3) := by decide +kernel
theorem dX0_avoiding_13 : decode cX0_avoiding 13 = .ok (.ifCond .ne 5, 3) := by decide +kernel
theorem dX0_avoiding_16 : decode cX0_avoiding 16 = .ok (.iconst (-1), 1) := by decide +kernel
theorem dX0_avoiding_17 : decode cX0_avoiding 17 = .ok (.ireturn, 1) := by decide +kernel
theorem dX0_avoiding_18 : decode cX0_avoiding 18 = .ok (.aload_n 0, 1) := by decide +kernel
theorem dX0_avoiding_19 : decode cX0_avoiding 19 = .ok (.bipush 7, 2) := by decide +kernel
theorem dX0_avoiding_21 : decode cX0_avoiding 21 = .ok (.iload_n 1, 1) := by decide +kernel
theorem dX0_avoiding_22 : decode cX0_avoiding 22 = .ok (.imul, 1) := by decide +kernel
theorem dX0_avoiding_23 : decode cX0_avoiding 23 = .ok (.iload_n 2, 1) := by decide +kernel
theorem dX0_avoiding_24 : decode cX0_avoiding 24 = .ok (.iadd, 1) := by decide +kernel
theorem dX0_avoiding_25 : decode cX0_avoiding 25 = .ok (.putfield 42, 3) := by decide +kernel
theorem dX0_avoiding_28 : decode cX0_avoiding 28 = .ok (.aload_n 0, 1) := by decide +kernel
theorem dX0_avoiding_29 : decode cX0_avoiding 29 = .ok (.iconst 0, 1) := by decide +kernel
theorem dX0_avoiding_30 : decode cX0_avoiding 30 = .ok (.putfield 66, 3) := by decide +kernel
theorem dX0_avoiding_33 : decode cX0_avoiding 33 = .ok (.aload_n 0, 1) := by decide +kernel
theorem dX0_avoiding_34 : decode cX0_avoiding 34 = .ok (.aload_n 0, 1) := by decide +kernel
theorem dX0_avoiding_35 : decode cX0_avoiding 35 = .ok (.getfield 53, 3) := by decide +kernel
theorem dX0_avoiding_38 : decode cX0_avoiding 38 = .ok (.iconst 0, 1) := by decide +kernel
theorem dX0_avoiding_39 : decode cX0_avoiding 39 = .ok (.iconst 0, 1) := by decide +kernel
theorem dX0_avoiding_40 : decode cX0_avoiding 40 = .ok (.invokevirtual 69, 3) := by decide +kernel
theorem dX0_avoiding_43 : decode cX0_avoiding 43 = .ok (.istore_n 3, 1) := by decide +kernel
theorem dX0_avoiding_44 : decode cX0_avoiding 44 = .ok (.aload_n 0, 1) := by decide +kernel
theorem dX0_avoiding_45 : decode cX0_avoiding 45 = .ok (.iconst (-1), 1) := by decide +kernel
theorem dX0_avoiding_46 : decode cX0_avoiding 46 = .ok (.putfield 42, 3) := by decide +kernel
theorem dX0_avoiding_49 : decode cX0_avoiding 49 = .ok (.iload_n 3, 1) := by decide +kernel
theorem dX0_avoiding_50 : decode cX0_avoiding 50 = .ok (.ifCond .eq 10, 3) := by decide +kernel
theorem dX0_avoiding_53 : decode cX0_avoiding 53 = .ok (.aload_n 0, 1) := by decide +kernel
theorem dX0_avoiding_54 : decode cX0_avoiding 54 = .ok (.getfield 73, 3) := by decide +kernel
theorem dX0_avoiding_57 : decode cX0_avoiding 57 = .ok (.goto 5, 3) := by decide +kernel
theorem dX0_avoiding_60 : decode cX0_avoiding 60 = .ok (.bipush (-2), 2) := by decide +kernel
theorem dX0_avoiding_62 : decode cX0_avoiding 62 = .ok (.ireturn, 1) := by decide +kernel
theorem dX0_unavoidable_0 : decode cX0_unavoidable 0 = .ok (.iconst 1, 1) := by decide +kernel
theorem dX0_unavoidable_1 : decode cX0_unavoidable 1 = .ok (.aload_n 0, 1) := by decide +kernel
theorem dX0_unavoidable_2 : decode cX0_unavoidable 2 = .ok (.getfield 53, 3) := by decide +kernel
theorem dX0_unavoidable_5 : decode cX0_unavoidable 5 = .ok (.ishl, 1) := by decide +kernel
theorem dX0_unavoidable_6 : decode cX0_unavoidable 6 = .ok (.iconst 1, 1) := by decide +kernel
theorem dX0_unavoidable_7 : decode cX0_unavoidable 7 = .ok (.aload_n 0, 1) := by decide +kernel
theorem dX0_unavoidable_8 : decode cX0_unavoidable 8 = .ok (.getfield 38, 3) := by decide +kernel
theorem dX0_unavoidable_11 : decode cX0_unavoidable 11 = .ok (.ishl, 1) := by decide +kernel
theorem dX0_unavoidable_12 : decode cX0_unavoidable 12 = .ok (.ior, 1) := by decide +kernel
theorem dX0_unavoidable_13 : decode cX0_unavoidable 13 = .ok (.istore_n 1, 1) := by decide +kernel
theorem dX0_unavoidable_14 : decode cX0_unavoidable 14 = .ok (.iconst 0, 1) := by decide +kernel
theorem dX0_unavoidable_15 : decode cX0_unavoidable 15 = .ok (.istore_n 2, 1) := by decide +kernel
theorem dX0_unavoidable_16 : decode cX0_unavoidable 16 = .ok (.iload_n 2, 1) := by decide +kernel
theorem dX0_unavoidable_17 : decode cX0_unavoidable 17 = .ok (.bipush 7, 2) := by decide +kernel
theorem dX0_unavoidable_19 : decode cX0_unavoidable 19 = .ok (.if_icmp .ge 54, 3) := by decide +kernel
theorem dX0_unavoidable_22 : decode cX0_unavoidable 22 = .ok (.iload_n 2, 1) := by decide +kernel
theorem dX0_unavoidable_23 : decode cX0_unavoidable 23 = .ok (.aload_n 0, 1) := by decide +kernel
theorem dX0_unavoidable_24 : decode cX0_unavoidable 24 = .ok (.getfield 53, 3) := by decide +kernel
theorem dX0_unavoidable_27 : decode cX0_unavoidable 27 = .ok (.if_icmp .eq 40, 3) := by decide +kernel
theorem dX0_unavoidable_30 : decode cX0_unavoidable 30 = .ok (.iload_n 2, 1) := by decide +kernel
theorem dX0_unavoidable_31 : decode cX0_unavoidable 31 = .ok (.aload_n 0, 1) := by decide +kernel
theorem dX0_unavoidable_32 : decode cX0_unavoidable 32 = .ok (.getfield 38, 3) := by decide +kernel
theorem dX0_unavoidable_35 : decode cX0_unavoidable 35 = .ok (.if_icmp .ne 6, 3) := by decide +kernel
theorem dX0_unavoidable_38 : decode cX0_unavoidable 38 = .ok (.goto 29, 3) := by decide +kernel
theorem dX0_unavoidable_41 : decode cX0_unavoidable 41 = .ok (.aload_n 0, 1) := by decide +kernel
theorem dX0_unavoidable_42 : decode cX0_unavoidable 42 = .ok (.iconst 0, 1) := by decide +kernel
theorem dX0_unavoidable_43 : decode cX0_unavoidable 43 = .ok (.putfield 66, 3) := by decide +kernel
theorem dX0_unavoidable_46 : decode cX0_unavoidable 46 = .ok (.aload_n 0, 1) := by decide +kernel
theorem dX0_unavoidable_47 : decode cX0_unavoidable 47 = .ok (.aload_n 0, 1) := by decide +kernel
theorem dX0_unavoidable_48 : decode cX0_unavoidable 48 = .ok (.getfield 53, 3) := by decide +kernel
theorem dX0_unavoidable_51 : decode cX0_unavoidable 51 = .ok (.iconst 1, 1) := by decide +kernel
theorem dX0_unavoidable_52 : decode cX0_unavoidable 52 = .ok (.iload_n 2, 1) := by decide +kernel
theorem dX0_unavoidable_53 : decode cX0_unavoidable 53 = .ok (.ishl, 1) := by decide +kernel
theorem dX0_unavoidable_54 : decode cX0_unavoidable 54 = .ok (.iconst 0, 1) := by decide +kernel
theorem dX0_unavoidable_55 : decode cX0_unavoidable 55 = .ok (.invokevirtual 69, 3) := by decide +kernel
theorem dX0_unavoidable_58 : decode cX0_unavoidable 58 = .ok (.ifCond .ne 9, 3) := by decide +kernel
theorem dX0_unavoidable_61 : decode cX0_unavoidable 61 = .ok (.iload_n 1, 1) := by decide +kernel
theorem dX0_unavoidable_62 : decode cX0_unavoidable 62 = .ok (.iconst 1, 1) := by decide +kernel
theorem dX0_unavoidable_63 : decode cX0_unavoidable 63 = .ok (.iload_n 2, 1) := by decide +kernel
theorem dX0_unavoidable_64 : decode cX0_unavoidable 64 = .ok (.ishl, 1) := by decide +kernel
theorem dX0_unavoidable_65 : decode cX0_unavoidable 65 = .ok (.ior, 1) := by decide +kernel
theorem dX0_unavoidable_66 : decode cX0_unavoidable 66 = .ok (.istore_n 1, 1) := by decide +kernel
theorem dX0_unavoidable_67 : decode cX0_unavoidable 67 = .ok (.iinc 2 1, 3) := by decide +kernel
theorem dX0_unavoidable_70 : decode cX0_unavoidable 70 = .ok (.goto (-54), 3) := by decide +kernel
theorem dX0_unavoidable_73 : decode cX0_unavoidable 73 = .ok (.iload_n 1, 1) := by decide +kernel
theorem dX0_unavoidable_74 : decode cX0_unavoidable 74 = .ok (.ireturn, 1) := by decide +kernel
end
section
/-! YenKPathsModel -/
set_option maxRecDepth 100000
def RX1 : String := "YenKPathsModel"
def TX1 : u_T := fun k => match k with
  | 0 => ("YenKPathsModel", "arcs", "[I", false)
  | 1 => ("YenKPathsModel", "source", "I", false)
  | 2 => ("YenKPathsModel", "target", "I", false)
  | 3 => ("YenKPathsModel", "path", "[I", false)
  | 4 => ("YenKPathsModel", "trial", "[I", false)
  | 5 => ("YenKPathsModel", "depth", "I", false)
  | 6 => ("YenKPathsModel", "kept", "I", false)
  | 7 => ("YenKPathsModel", "lengths", "[I", false)
  | 8 => ("YenKPathsModel", "sizes", "[I", false)
  | 9 => ("YenKPathsModel", "lists", "[I", false)
  | 10 => ("YenKPathsModel", "shortestWithout", "I", false)
  | _ => ("YenKPathsModel", "everywhere", "I", false)
def tyX1 : Nat → FieldType := fun k => match k with
  | 0 => .array .int
  | 1 => .int
  | 2 => .int
  | 3 => .array .int
  | 4 => .array .int
  | 5 => .int
  | 6 => .int
  | 7 => .array .int
  | 8 => .array .int
  | 9 => .array .int
  | 10 => .int
  | _ => .int
abbrev wsX10 : List Cond := u_ws RX1 TX1 12
theorem nmX1 : ∀ a, a < 12 → ∀ b, b < 12 → a ≠ b → (TX1 a).2.1 ≠ (TX1 b).2.1 := by decide +kernel
theorem tyX1_ok : ∀ k, k < 12 → parseFieldDescriptor (TX1 k).2.2.1 = some (tyX1 k) := by decide +kernel
abbrev cX1_init : ByteArray := prog_3_method_1_code
def yX1_init : MethodName := ⟨RX1, "<init>", "()V"⟩
abbrev cX1_arc : ByteArray := prog_3_method_3_code
def yX1_arc : MethodName := ⟨RX1, "arc", "(III)Z"⟩
abbrev cX1_isVertex : ByteArray := prog_3_method_2_code
def yX1_isVertex : MethodName := ⟨RX1, "isVertex", "(I)Z"⟩
abbrev cX1_ends : ByteArray := prog_3_method_4_code
def yX1_ends : MethodName := ⟨RX1, "ends", "(II)Z"⟩
abbrev cX1_weight : ByteArray := prog_3_method_5_code
def yX1_weight : MethodName := ⟨RX1, "weight", "(II)I"⟩
abbrev cX1_paths : ByteArray := prog_3_method_15_code
def yX1_paths : MethodName := ⟨RX1, "paths", "()I"⟩
abbrev cX1_search : ByteArray := prog_3_method_14_code
def yX1_search : MethodName := ⟨RX1, "search", "(II)V"⟩
abbrev cX1_turn : ByteArray := prog_3_method_13_code
def yX1_turn : MethodName := ⟨RX1, "turn", "(II)V"⟩
abbrev cX1_found : ByteArray := prog_3_method_12_code
def yX1_found : MethodName := ⟨RX1, "found", "(II)V"⟩
abbrev cX1_lengthOfPath : ByteArray := prog_3_method_7_code
def yX1_lengthOfPath : MethodName := ⟨RX1, "lengthOfPath", "()I"⟩
abbrev cX1_pathPasses : ByteArray := prog_3_method_8_code
def yX1_pathPasses : MethodName := ⟨RX1, "pathPasses", "(II)Z"⟩
abbrev cX1_keep : ByteArray := prog_3_method_11_code
def yX1_keep : MethodName := ⟨RX1, "keep", "()V"⟩
abbrev cX1_comesBefore : ByteArray := prog_3_method_9_code
def yX1_comesBefore : MethodName := ⟨RX1, "comesBefore", "(II)Z"⟩
abbrev cX1_shift : ByteArray := prog_3_method_10_code
def yX1_shift : MethodName := ⟨RX1, "shift", "(I)V"⟩
abbrev cX1_onPath : ByteArray := prog_3_method_6_code
def yX1_onPath : MethodName := ⟨RX1, "onPath", "(I)Z"⟩
abbrev cX1_length : ByteArray := prog_3_method_16_code
def yX1_length : MethodName := ⟨RX1, "length", "(I)I"⟩
abbrev cX1_size : ByteArray := prog_3_method_17_code
def yX1_size : MethodName := ⟨RX1, "size", "(I)I"⟩
abbrev cX1_vertex : ByteArray := prog_3_method_18_code
def yX1_vertex : MethodName := ⟨RX1, "vertex", "(II)I"⟩
abbrev cX1_passing : ByteArray := prog_3_method_20_code
def yX1_passing : MethodName := ⟨RX1, "passing", "(II)I"⟩
abbrev cX1_keptPasses : ByteArray := prog_3_method_19_code
def yX1_keptPasses : MethodName := ⟨RX1, "keptPasses", "(III)Z"⟩
abbrev cX1_avoiding : ByteArray := prog_3_method_21_code
def yX1_avoiding : MethodName := ⟨RX1, "avoiding", "(II)I"⟩
abbrev cX1_unavoidable : ByteArray := prog_3_method_22_code
def yX1_unavoidable : MethodName := ⟨RX1, "unavoidable", "()I"⟩
theorem q25 : (Jvm.Cond.initialized "YenKPathsModel") ∈ lw_all := lw_g (lw_at lw_m1 2 rfl) rfl
theorem q178 : (Jvm.Cond.instantiable "YenKPathsModel" (12 : Nat)) ∈ lw_all := lw_g (lw_at lw_m1 155 rfl) rfl
theorem q180 : (Jvm.Cond.instanceMethod ({ cls := "YenKPathsModel", name := "<init>", desc := "()V" } : Jvm.MethodName)) ∈ lw_all := lw_g (lw_at lw_m1 157 rfl) rfl
theorem q181 : (Jvm.Cond.code ({ cls := "YenKPathsModel", name := "<init>", desc := "()V" } : Jvm.MethodName) prog_3_method_1_code (1 : Nat) (Option.none : Option Jvm.ClassFile.FieldType)) ∈ lw_all := lw_g (lw_at lw_m1 158 rfl) rfl
theorem q182 : (Jvm.Cond.methodLink "YenKPathsModel" (1 : Nat) ({ cls := "java/lang/Object", name := "<init>", desc := "()V" } : Jvm.MethodName)) ∈ lw_all := lw_g (lw_at lw_m1 159 rfl) rfl
theorem q183 : (Jvm.Cond.fieldLink "YenKPathsModel" (7 : Nat) "YenKPathsModel" "arcs" "[I") ∈ lw_all := lw_g (lw_at lw_m1 160 rfl) rfl
theorem q184 : (Jvm.Cond.fieldLink "YenKPathsModel" (13 : Nat) "YenKPathsModel" "source" "I") ∈ lw_all := lw_g (lw_at lw_m1 161 rfl) rfl
theorem q185 : (Jvm.Cond.fieldLink "YenKPathsModel" (17 : Nat) "YenKPathsModel" "target" "I") ∈ lw_all := lw_g (lw_at lw_m1 162 rfl) rfl
theorem q186 : (Jvm.Cond.fieldLink "YenKPathsModel" (20 : Nat) "YenKPathsModel" "path" "[I") ∈ lw_all := lw_g (lw_at lw_m1 163 rfl) rfl
theorem q187 : (Jvm.Cond.fieldLink "YenKPathsModel" (23 : Nat) "YenKPathsModel" "trial" "[I") ∈ lw_all := lw_g (lw_at lw_m1 164 rfl) rfl
theorem q188 : (Jvm.Cond.fieldLink "YenKPathsModel" (39 : Nat) "YenKPathsModel" "depth" "I") ∈ lw_all := lw_g (lw_at lw_m1 165 rfl) rfl
theorem q189 : (Jvm.Cond.fieldLink "YenKPathsModel" (46 : Nat) "YenKPathsModel" "kept" "I") ∈ lw_all := lw_g (lw_at lw_m1 166 rfl) rfl
theorem q190 : (Jvm.Cond.fieldLink "YenKPathsModel" (26 : Nat) "YenKPathsModel" "lengths" "[I") ∈ lw_all := lw_g (lw_at lw_m1 167 rfl) rfl
theorem q191 : (Jvm.Cond.fieldLink "YenKPathsModel" (29 : Nat) "YenKPathsModel" "sizes" "[I") ∈ lw_all := lw_g (lw_at lw_m1 168 rfl) rfl
theorem q192 : (Jvm.Cond.fieldLink "YenKPathsModel" (32 : Nat) "YenKPathsModel" "lists" "[I") ∈ lw_all := lw_g (lw_at lw_m1 169 rfl) rfl
theorem q193 : (Jvm.Cond.fieldLink "YenKPathsModel" (63 : Nat) "YenKPathsModel" "shortestWithout" "I") ∈ lw_all := lw_g (lw_at lw_m1 170 rfl) rfl
theorem q194 : (Jvm.Cond.fieldLink "YenKPathsModel" (57 : Nat) "YenKPathsModel" "everywhere" "I") ∈ lw_all := lw_g (lw_at lw_m1 171 rfl) rfl
theorem q195 : (Jvm.Cond.lays "YenKPathsModel" "YenKPathsModel" "arcs" "[I") ∈ lw_all := lw_g (lw_at lw_m1 172 rfl) rfl
theorem q196 : (Jvm.Cond.soleField "YenKPathsModel" "arcs") ∈ lw_all := lw_g (lw_at lw_m1 173 rfl) rfl
theorem q197 : (Jvm.Cond.lays "YenKPathsModel" "YenKPathsModel" "source" "I") ∈ lw_all := lw_g (lw_at lw_m1 174 rfl) rfl
theorem q198 : (Jvm.Cond.soleField "YenKPathsModel" "source") ∈ lw_all := lw_g (lw_at lw_m1 175 rfl) rfl
theorem q199 : (Jvm.Cond.lays "YenKPathsModel" "YenKPathsModel" "target" "I") ∈ lw_all := lw_g (lw_at lw_m1 176 rfl) rfl
theorem q200 : (Jvm.Cond.soleField "YenKPathsModel" "target") ∈ lw_all := lw_g (lw_at lw_m1 177 rfl) rfl
theorem q201 : (Jvm.Cond.lays "YenKPathsModel" "YenKPathsModel" "path" "[I") ∈ lw_all := lw_g (lw_at lw_m1 178 rfl) rfl
theorem q202 : (Jvm.Cond.soleField "YenKPathsModel" "path") ∈ lw_all := lw_g (lw_at lw_m1 179 rfl) rfl
theorem q203 : (Jvm.Cond.lays "YenKPathsModel" "YenKPathsModel" "trial" "[I") ∈ lw_all := lw_g (lw_at lw_m1 180 rfl) rfl
theorem q204 : (Jvm.Cond.soleField "YenKPathsModel" "trial") ∈ lw_all := lw_g (lw_at lw_m1 181 rfl) rfl
theorem q205 : (Jvm.Cond.lays "YenKPathsModel" "YenKPathsModel" "depth" "I") ∈ lw_all := lw_g (lw_at lw_m1 182 rfl) rfl
theorem q206 : (Jvm.Cond.soleField "YenKPathsModel" "depth") ∈ lw_all := lw_g (lw_at lw_m1 183 rfl) rfl
theorem q207 : (Jvm.Cond.lays "YenKPathsModel" "YenKPathsModel" "kept" "I") ∈ lw_all := lw_g (lw_at lw_m1 184 rfl) rfl
theorem q208 : (Jvm.Cond.soleField "YenKPathsModel" "kept") ∈ lw_all := lw_g (lw_at lw_m1 185 rfl) rfl
theorem q209 : (Jvm.Cond.lays "YenKPathsModel" "YenKPathsModel" "lengths" "[I") ∈ lw_all := lw_g (lw_at lw_m1 186 rfl) rfl
theorem q210 : (Jvm.Cond.soleField "YenKPathsModel" "lengths") ∈ lw_all := lw_g (lw_at lw_m1 187 rfl) rfl
theorem q211 : (Jvm.Cond.lays "YenKPathsModel" "YenKPathsModel" "sizes" "[I") ∈ lw_all := lw_g (lw_at lw_m1 188 rfl) rfl
theorem q212 : (Jvm.Cond.soleField "YenKPathsModel" "sizes") ∈ lw_all := lw_g (lw_at lw_m1 189 rfl) rfl
theorem q213 : (Jvm.Cond.lays "YenKPathsModel" "YenKPathsModel" "lists" "[I") ∈ lw_all := lw_g (lw_at lw_m1 190 rfl) rfl
theorem q214 : (Jvm.Cond.soleField "YenKPathsModel" "lists") ∈ lw_all := lw_g (lw_at lw_m1 191 rfl) rfl
theorem q215 : (Jvm.Cond.lays "YenKPathsModel" "YenKPathsModel" "shortestWithout" "I") ∈ lw_all := lw_g (lw_at lw_m1 192 rfl) rfl
theorem q216 : (Jvm.Cond.soleField "YenKPathsModel" "shortestWithout") ∈ lw_all := lw_g (lw_at lw_m1 193 rfl) rfl
theorem q217 : (Jvm.Cond.lays "YenKPathsModel" "YenKPathsModel" "everywhere" "I") ∈ lw_all := lw_g (lw_at lw_m1 194 rfl) rfl
theorem q218 : (Jvm.Cond.soleField "YenKPathsModel" "everywhere") ∈ lw_all := lw_g (lw_at lw_m1 195 rfl) rfl
theorem q219 : (Jvm.Cond.superclass "YenKPathsModel" "java/lang/Object") ∈ lw_all := lw_g (lw_at lw_m1 196 rfl) rfl
theorem q221 : (Jvm.Cond.instanceMethod ({ cls := "YenKPathsModel", name := "arc", desc := "(III)Z" } : Jvm.MethodName)) ∈ lw_all := lw_g (lw_at lw_m1 198 rfl) rfl
theorem q222 : (Jvm.Cond.selects "YenKPathsModel" ({ cls := "YenKPathsModel", name := "arc", desc := "(III)Z" } : Jvm.MethodName) ({ cls := "YenKPathsModel", name := "arc", desc := "(III)Z" } : Jvm.MethodName)) ∈ lw_all := lw_g (lw_at lw_m1 199 rfl) rfl
theorem q223 : (Jvm.Cond.code ({ cls := "YenKPathsModel", name := "arc", desc := "(III)Z" } : Jvm.MethodName) prog_3_method_3_code (4 : Nat) (Option.some Jvm.ClassFile.FieldType.boolean)) ∈ lw_all := lw_g (lw_at lw_m1 200 rfl) rfl
theorem q224 : (Jvm.Cond.methodLink "YenKPathsModel" (35 : Nat) ({ cls := "YenKPathsModel", name := "isVertex", desc := "(I)Z" } : Jvm.MethodName)) ∈ lw_all := lw_g (lw_at lw_m1 201 rfl) rfl
theorem q225 : (Jvm.Cond.privateMethod ({ cls := "YenKPathsModel", name := "isVertex", desc := "(I)Z" } : Jvm.MethodName)) ∈ lw_tbl := lw_at lw_m1 202 rfl
theorem q226 : (Jvm.Cond.instanceMethod ({ cls := "YenKPathsModel", name := "isVertex", desc := "(I)Z" } : Jvm.MethodName)) ∈ lw_all := lw_g (lw_at lw_m1 203 rfl) rfl
theorem q227 : (Jvm.Cond.code ({ cls := "YenKPathsModel", name := "isVertex", desc := "(I)Z" } : Jvm.MethodName) prog_3_method_2_code (2 : Nat) (Option.some Jvm.ClassFile.FieldType.boolean)) ∈ lw_all := lw_g (lw_at lw_m1 204 rfl) rfl
theorem q229 : (Jvm.Cond.instanceMethod ({ cls := "YenKPathsModel", name := "ends", desc := "(II)Z" } : Jvm.MethodName)) ∈ lw_all := lw_g (lw_at lw_m1 206 rfl) rfl
theorem q230 : (Jvm.Cond.selects "YenKPathsModel" ({ cls := "YenKPathsModel", name := "ends", desc := "(II)Z" } : Jvm.MethodName) ({ cls := "YenKPathsModel", name := "ends", desc := "(II)Z" } : Jvm.MethodName)) ∈ lw_all := lw_g (lw_at lw_m1 207 rfl) rfl
theorem q231 : (Jvm.Cond.code ({ cls := "YenKPathsModel", name := "ends", desc := "(II)Z" } : Jvm.MethodName) prog_3_method_4_code (3 : Nat) (Option.some Jvm.ClassFile.FieldType.boolean)) ∈ lw_all := lw_g (lw_at lw_m1 208 rfl) rfl
theorem q233 : (Jvm.Cond.instanceMethod ({ cls := "YenKPathsModel", name := "weight", desc := "(II)I" } : Jvm.MethodName)) ∈ lw_all := lw_g (lw_at lw_m1 210 rfl) rfl
theorem q234 : (Jvm.Cond.selects "YenKPathsModel" ({ cls := "YenKPathsModel", name := "weight", desc := "(II)I" } : Jvm.MethodName) ({ cls := "YenKPathsModel", name := "weight", desc := "(II)I" } : Jvm.MethodName)) ∈ lw_all := lw_g (lw_at lw_m1 211 rfl) rfl
theorem q235 : (Jvm.Cond.code ({ cls := "YenKPathsModel", name := "weight", desc := "(II)I" } : Jvm.MethodName) prog_3_method_5_code (3 : Nat) (Option.some Jvm.ClassFile.FieldType.int)) ∈ lw_all := lw_g (lw_at lw_m1 212 rfl) rfl
theorem q237 : (Jvm.Cond.instanceMethod ({ cls := "YenKPathsModel", name := "paths", desc := "()I" } : Jvm.MethodName)) ∈ lw_all := lw_g (lw_at lw_m1 214 rfl) rfl
theorem q238 : (Jvm.Cond.selects "YenKPathsModel" ({ cls := "YenKPathsModel", name := "paths", desc := "()I" } : Jvm.MethodName) ({ cls := "YenKPathsModel", name := "paths", desc := "()I" } : Jvm.MethodName)) ∈ lw_all := lw_g (lw_at lw_m1 215 rfl) rfl
theorem q239 : (Jvm.Cond.code ({ cls := "YenKPathsModel", name := "paths", desc := "()I" } : Jvm.MethodName) prog_3_method_15_code (1 : Nat) (Option.some Jvm.ClassFile.FieldType.int)) ∈ lw_all := lw_g (lw_at lw_m1 216 rfl) rfl
theorem q240 : (Jvm.Cond.methodLink "YenKPathsModel" (79 : Nat) ({ cls := "YenKPathsModel", name := "search", desc := "(II)V" } : Jvm.MethodName)) ∈ lw_all := lw_g (lw_at lw_m1 217 rfl) rfl
theorem q241 : (Jvm.Cond.privateMethod ({ cls := "YenKPathsModel", name := "search", desc := "(II)V" } : Jvm.MethodName)) ∈ lw_tbl := lw_at lw_m1 218 rfl
theorem q242 : (Jvm.Cond.instanceMethod ({ cls := "YenKPathsModel", name := "search", desc := "(II)V" } : Jvm.MethodName)) ∈ lw_all := lw_g (lw_at lw_m1 219 rfl) rfl
theorem q243 : (Jvm.Cond.code ({ cls := "YenKPathsModel", name := "search", desc := "(II)V" } : Jvm.MethodName) prog_3_method_14_code (4 : Nat) (Option.none : Option Jvm.ClassFile.FieldType)) ∈ lw_all := lw_g (lw_at lw_m1 220 rfl) rfl
theorem q244 : (Jvm.Cond.methodLink "YenKPathsModel" (76 : Nat) ({ cls := "YenKPathsModel", name := "turn", desc := "(II)V" } : Jvm.MethodName)) ∈ lw_all := lw_g (lw_at lw_m1 221 rfl) rfl
theorem q245 : (Jvm.Cond.privateMethod ({ cls := "YenKPathsModel", name := "turn", desc := "(II)V" } : Jvm.MethodName)) ∈ lw_tbl := lw_at lw_m1 222 rfl
theorem q246 : (Jvm.Cond.instanceMethod ({ cls := "YenKPathsModel", name := "turn", desc := "(II)V" } : Jvm.MethodName)) ∈ lw_all := lw_g (lw_at lw_m1 223 rfl) rfl
theorem q247 : (Jvm.Cond.code ({ cls := "YenKPathsModel", name := "turn", desc := "(II)V" } : Jvm.MethodName) prog_3_method_13_code (5 : Nat) (Option.none : Option Jvm.ClassFile.FieldType)) ∈ lw_all := lw_g (lw_at lw_m1 224 rfl) rfl
theorem q248 : (Jvm.Cond.methodLink "YenKPathsModel" (69 : Nat) ({ cls := "YenKPathsModel", name := "found", desc := "(II)V" } : Jvm.MethodName)) ∈ lw_all := lw_g (lw_at lw_m1 225 rfl) rfl
theorem q249 : (Jvm.Cond.privateMethod ({ cls := "YenKPathsModel", name := "found", desc := "(II)V" } : Jvm.MethodName)) ∈ lw_tbl := lw_at lw_m1 226 rfl
theorem q250 : (Jvm.Cond.instanceMethod ({ cls := "YenKPathsModel", name := "found", desc := "(II)V" } : Jvm.MethodName)) ∈ lw_all := lw_g (lw_at lw_m1 227 rfl) rfl
theorem q251 : (Jvm.Cond.code ({ cls := "YenKPathsModel", name := "found", desc := "(II)V" } : Jvm.MethodName) prog_3_method_12_code (6 : Nat) (Option.none : Option Jvm.ClassFile.FieldType)) ∈ lw_all := lw_g (lw_at lw_m1 228 rfl) rfl
theorem q252 : (Jvm.Cond.methodLink "YenKPathsModel" (42 : Nat) ({ cls := "YenKPathsModel", name := "lengthOfPath", desc := "()I" } : Jvm.MethodName)) ∈ lw_all := lw_g (lw_at lw_m1 229 rfl) rfl
theorem q253 : (Jvm.Cond.privateMethod ({ cls := "YenKPathsModel", name := "lengthOfPath", desc := "()I" } : Jvm.MethodName)) ∈ lw_tbl := lw_at lw_m1 230 rfl
theorem q254 : (Jvm.Cond.instanceMethod ({ cls := "YenKPathsModel", name := "lengthOfPath", desc := "()I" } : Jvm.MethodName)) ∈ lw_all := lw_g (lw_at lw_m1 231 rfl) rfl
theorem q255 : (Jvm.Cond.code ({ cls := "YenKPathsModel", name := "lengthOfPath", desc := "()I" } : Jvm.MethodName) prog_3_method_7_code (3 : Nat) (Option.some Jvm.ClassFile.FieldType.int)) ∈ lw_all := lw_g (lw_at lw_m1 232 rfl) rfl
theorem q256 : (Jvm.Cond.methodLink "YenKPathsModel" (60 : Nat) ({ cls := "YenKPathsModel", name := "pathPasses", desc := "(II)Z" } : Jvm.MethodName)) ∈ lw_all := lw_g (lw_at lw_m1 233 rfl) rfl
theorem q257 : (Jvm.Cond.privateMethod ({ cls := "YenKPathsModel", name := "pathPasses", desc := "(II)Z" } : Jvm.MethodName)) ∈ lw_tbl := lw_at lw_m1 234 rfl
theorem q258 : (Jvm.Cond.instanceMethod ({ cls := "YenKPathsModel", name := "pathPasses", desc := "(II)Z" } : Jvm.MethodName)) ∈ lw_all := lw_g (lw_at lw_m1 235 rfl) rfl
theorem q259 : (Jvm.Cond.code ({ cls := "YenKPathsModel", name := "pathPasses", desc := "(II)Z" } : Jvm.MethodName) prog_3_method_8_code (4 : Nat) (Option.some Jvm.ClassFile.FieldType.boolean)) ∈ lw_all := lw_g (lw_at lw_m1 236 rfl) rfl
theorem q260 : (Jvm.Cond.methodLink "YenKPathsModel" (66 : Nat) ({ cls := "YenKPathsModel", name := "keep", desc := "()V" } : Jvm.MethodName)) ∈ lw_all := lw_g (lw_at lw_m1 237 rfl) rfl
theorem q261 : (Jvm.Cond.privateMethod ({ cls := "YenKPathsModel", name := "keep", desc := "()V" } : Jvm.MethodName)) ∈ lw_tbl := lw_at lw_m1 238 rfl
theorem q262 : (Jvm.Cond.instanceMethod ({ cls := "YenKPathsModel", name := "keep", desc := "()V" } : Jvm.MethodName)) ∈ lw_all := lw_g (lw_at lw_m1 239 rfl) rfl
theorem q263 : (Jvm.Cond.code ({ cls := "YenKPathsModel", name := "keep", desc := "()V" } : Jvm.MethodName) prog_3_method_11_code (4 : Nat) (Option.none : Option Jvm.ClassFile.FieldType)) ∈ lw_all := lw_g (lw_at lw_m2 0 rfl) rfl
theorem q264 : (Jvm.Cond.methodLink "YenKPathsModel" (49 : Nat) ({ cls := "YenKPathsModel", name := "comesBefore", desc := "(II)Z" } : Jvm.MethodName)) ∈ lw_all := lw_g (lw_at lw_m2 1 rfl) rfl
theorem q265 : (Jvm.Cond.privateMethod ({ cls := "YenKPathsModel", name := "comesBefore", desc := "(II)Z" } : Jvm.MethodName)) ∈ lw_tbl := lw_at lw_m2 2 rfl
theorem q266 : (Jvm.Cond.instanceMethod ({ cls := "YenKPathsModel", name := "comesBefore", desc := "(II)Z" } : Jvm.MethodName)) ∈ lw_all := lw_g (lw_at lw_m2 3 rfl) rfl
theorem q267 : (Jvm.Cond.code ({ cls := "YenKPathsModel", name := "comesBefore", desc := "(II)Z" } : Jvm.MethodName) prog_3_method_9_code (4 : Nat) (Option.some Jvm.ClassFile.FieldType.boolean)) ∈ lw_all := lw_g (lw_at lw_m2 4 rfl) rfl
theorem q268 : (Jvm.Cond.methodLink "YenKPathsModel" (53 : Nat) ({ cls := "YenKPathsModel", name := "shift", desc := "(I)V" } : Jvm.MethodName)) ∈ lw_all := lw_g (lw_at lw_m2 5 rfl) rfl
theorem q269 : (Jvm.Cond.privateMethod ({ cls := "YenKPathsModel", name := "shift", desc := "(I)V" } : Jvm.MethodName)) ∈ lw_tbl := lw_at lw_m2 6 rfl
theorem q270 : (Jvm.Cond.instanceMethod ({ cls := "YenKPathsModel", name := "shift", desc := "(I)V" } : Jvm.MethodName)) ∈ lw_all := lw_g (lw_at lw_m2 7 rfl) rfl
theorem q271 : (Jvm.Cond.code ({ cls := "YenKPathsModel", name := "shift", desc := "(I)V" } : Jvm.MethodName) prog_3_method_10_code (3 : Nat) (Option.none : Option Jvm.ClassFile.FieldType)) ∈ lw_all := lw_g (lw_at lw_m2 8 rfl) rfl
theorem q272 : (Jvm.Cond.methodLink "YenKPathsModel" (73 : Nat) ({ cls := "YenKPathsModel", name := "onPath", desc := "(I)Z" } : Jvm.MethodName)) ∈ lw_all := lw_g (lw_at lw_m2 9 rfl) rfl
theorem q273 : (Jvm.Cond.privateMethod ({ cls := "YenKPathsModel", name := "onPath", desc := "(I)Z" } : Jvm.MethodName)) ∈ lw_tbl := lw_at lw_m2 10 rfl
theorem q274 : (Jvm.Cond.instanceMethod ({ cls := "YenKPathsModel", name := "onPath", desc := "(I)Z" } : Jvm.MethodName)) ∈ lw_all := lw_g (lw_at lw_m2 11 rfl) rfl
theorem q275 : (Jvm.Cond.code ({ cls := "YenKPathsModel", name := "onPath", desc := "(I)Z" } : Jvm.MethodName) prog_3_method_6_code (3 : Nat) (Option.some Jvm.ClassFile.FieldType.boolean)) ∈ lw_all := lw_g (lw_at lw_m2 12 rfl) rfl
theorem q277 : (Jvm.Cond.instanceMethod ({ cls := "YenKPathsModel", name := "length", desc := "(I)I" } : Jvm.MethodName)) ∈ lw_all := lw_g (lw_at lw_m2 14 rfl) rfl
theorem q278 : (Jvm.Cond.selects "YenKPathsModel" ({ cls := "YenKPathsModel", name := "length", desc := "(I)I" } : Jvm.MethodName) ({ cls := "YenKPathsModel", name := "length", desc := "(I)I" } : Jvm.MethodName)) ∈ lw_all := lw_g (lw_at lw_m2 15 rfl) rfl
theorem q279 : (Jvm.Cond.code ({ cls := "YenKPathsModel", name := "length", desc := "(I)I" } : Jvm.MethodName) prog_3_method_16_code (2 : Nat) (Option.some Jvm.ClassFile.FieldType.int)) ∈ lw_all := lw_g (lw_at lw_m2 16 rfl) rfl
theorem q281 : (Jvm.Cond.instanceMethod ({ cls := "YenKPathsModel", name := "size", desc := "(I)I" } : Jvm.MethodName)) ∈ lw_all := lw_g (lw_at lw_m2 18 rfl) rfl
theorem q282 : (Jvm.Cond.selects "YenKPathsModel" ({ cls := "YenKPathsModel", name := "size", desc := "(I)I" } : Jvm.MethodName) ({ cls := "YenKPathsModel", name := "size", desc := "(I)I" } : Jvm.MethodName)) ∈ lw_all := lw_g (lw_at lw_m2 19 rfl) rfl
theorem q283 : (Jvm.Cond.code ({ cls := "YenKPathsModel", name := "size", desc := "(I)I" } : Jvm.MethodName) prog_3_method_17_code (2 : Nat) (Option.some Jvm.ClassFile.FieldType.int)) ∈ lw_all := lw_g (lw_at lw_m2 20 rfl) rfl
theorem q285 : (Jvm.Cond.instanceMethod ({ cls := "YenKPathsModel", name := "vertex", desc := "(II)I" } : Jvm.MethodName)) ∈ lw_all := lw_g (lw_at lw_m2 22 rfl) rfl
theorem q286 : (Jvm.Cond.selects "YenKPathsModel" ({ cls := "YenKPathsModel", name := "vertex", desc := "(II)I" } : Jvm.MethodName) ({ cls := "YenKPathsModel", name := "vertex", desc := "(II)I" } : Jvm.MethodName)) ∈ lw_all := lw_g (lw_at lw_m2 23 rfl) rfl
theorem q287 : (Jvm.Cond.code ({ cls := "YenKPathsModel", name := "vertex", desc := "(II)I" } : Jvm.MethodName) prog_3_method_18_code (3 : Nat) (Option.some Jvm.ClassFile.FieldType.int)) ∈ lw_all := lw_g (lw_at lw_m2 24 rfl) rfl
theorem q289 : (Jvm.Cond.instanceMethod ({ cls := "YenKPathsModel", name := "passing", desc := "(II)I" } : Jvm.MethodName)) ∈ lw_all := lw_g (lw_at lw_m2 26 rfl) rfl
theorem q290 : (Jvm.Cond.selects "YenKPathsModel" ({ cls := "YenKPathsModel", name := "passing", desc := "(II)I" } : Jvm.MethodName) ({ cls := "YenKPathsModel", name := "passing", desc := "(II)I" } : Jvm.MethodName)) ∈ lw_all := lw_g (lw_at lw_m2 27 rfl) rfl
theorem q291 : (Jvm.Cond.code ({ cls := "YenKPathsModel", name := "passing", desc := "(II)I" } : Jvm.MethodName) prog_3_method_20_code (5 : Nat) (Option.some Jvm.ClassFile.FieldType.int)) ∈ lw_all := lw_g (lw_at lw_m2 28 rfl) rfl
theorem q292 : (Jvm.Cond.methodLink "YenKPathsModel" (82 : Nat) ({ cls := "YenKPathsModel", name := "keptPasses", desc := "(III)Z" } : Jvm.MethodName)) ∈ lw_all := lw_g (lw_at lw_m2 29 rfl) rfl
theorem q293 : (Jvm.Cond.privateMethod ({ cls := "YenKPathsModel", name := "keptPasses", desc := "(III)Z" } : Jvm.MethodName)) ∈ lw_tbl := lw_at lw_m2 30 rfl
theorem q294 : (Jvm.Cond.instanceMethod ({ cls := "YenKPathsModel", name := "keptPasses", desc := "(III)Z" } : Jvm.MethodName)) ∈ lw_all := lw_g (lw_at lw_m2 31 rfl) rfl
theorem q295 : (Jvm.Cond.code ({ cls := "YenKPathsModel", name := "keptPasses", desc := "(III)Z" } : Jvm.MethodName) prog_3_method_19_code (5 : Nat) (Option.some Jvm.ClassFile.FieldType.boolean)) ∈ lw_all := lw_g (lw_at lw_m2 32 rfl) rfl
theorem q297 : (Jvm.Cond.instanceMethod ({ cls := "YenKPathsModel", name := "avoiding", desc := "(II)I" } : Jvm.MethodName)) ∈ lw_all := lw_g (lw_at lw_m2 34 rfl) rfl
theorem q298 : (Jvm.Cond.selects "YenKPathsModel" ({ cls := "YenKPathsModel", name := "avoiding", desc := "(II)I" } : Jvm.MethodName) ({ cls := "YenKPathsModel", name := "avoiding", desc := "(II)I" } : Jvm.MethodName)) ∈ lw_all := lw_g (lw_at lw_m2 35 rfl) rfl
theorem q299 : (Jvm.Cond.code ({ cls := "YenKPathsModel", name := "avoiding", desc := "(II)I" } : Jvm.MethodName) prog_3_method_21_code (3 : Nat) (Option.some Jvm.ClassFile.FieldType.int)) ∈ lw_all := lw_g (lw_at lw_m2 36 rfl) rfl
theorem q301 : (Jvm.Cond.instanceMethod ({ cls := "YenKPathsModel", name := "unavoidable", desc := "()I" } : Jvm.MethodName)) ∈ lw_all := lw_g (lw_at lw_m2 38 rfl) rfl
theorem q302 : (Jvm.Cond.selects "YenKPathsModel" ({ cls := "YenKPathsModel", name := "unavoidable", desc := "()I" } : Jvm.MethodName) ({ cls := "YenKPathsModel", name := "unavoidable", desc := "()I" } : Jvm.MethodName)) ∈ lw_all := lw_g (lw_at lw_m2 39 rfl) rfl
theorem q303 : (Jvm.Cond.code ({ cls := "YenKPathsModel", name := "unavoidable", desc := "()I" } : Jvm.MethodName) prog_3_method_22_code (1 : Nat) (Option.some Jvm.ClassFile.FieldType.int)) ∈ lw_all := lw_g (lw_at lw_m2 40 rfl) rfl
theorem in_X1 : ∀ w ∈ wsX10, w ∈ lw_all := lw_in wsX10 [195, 197, 199, 201, 203, 205, 207, 209, 211, 213, 215, 217] (by decide +kernel) (by decide +kernel)
end
section
set_option maxRecDepth 100000
theorem dX1_init_0 : decode cX1_init 0 = .ok (.aload_n 0, 1) := by decide +kernel
theorem dX1_init_1 : decode cX1_init 1 = .ok (.invokespecial 1, 3) := by decide +kernel
theorem dX1_init_4 : decode cX1_init 4 = .ok (.aload_n 0, 1) := by decide +kernel
theorem dX1_init_5 : decode cX1_init 5 = .ok (.bipush 49, 2) := by decide +kernel
theorem dX1_init_7 : decode cX1_init 7 = .ok (.newarray .int, 2) := by decide +kernel
theorem dX1_init_9 : decode cX1_init 9 = .ok (.putfield 7, 3) := by decide +kernel
theorem dX1_init_12 : decode cX1_init 12 = .ok (.aload_n 0, 1) := by decide +kernel
theorem dX1_init_13 : decode cX1_init 13 = .ok (.iconst 0, 1) := by decide +kernel
theorem dX1_init_14 : decode cX1_init 14 = .ok (.putfield 13, 3) := by decide +kernel
theorem dX1_init_17 : decode cX1_init 17 = .ok (.aload_n 0, 1) := by decide +kernel
theorem dX1_init_18 : decode cX1_init 18 = .ok (.bipush 6, 2) := by decide +kernel
theorem dX1_init_20 : decode cX1_init 20 = .ok (.putfield 17, 3) := by decide +kernel
theorem dX1_init_23 : decode cX1_init 23 = .ok (.aload_n 0, 1) := by decide +kernel
theorem dX1_init_24 : decode cX1_init 24 = .ok (.bipush 7, 2) := by decide +kernel
theorem dX1_init_26 : decode cX1_init 26 = .ok (.newarray .int, 2) := by decide +kernel
theorem dX1_init_28 : decode cX1_init 28 = .ok (.putfield 20, 3) := by decide +kernel
theorem dX1_init_31 : decode cX1_init 31 = .ok (.aload_n 0, 1) := by decide +kernel
theorem dX1_init_32 : decode cX1_init 32 = .ok (.bipush 8, 2) := by decide +kernel
theorem dX1_init_34 : decode cX1_init 34 = .ok (.newarray .int, 2) := by decide +kernel
theorem dX1_init_36 : decode cX1_init 36 = .ok (.putfield 23, 3) := by decide +kernel
theorem dX1_init_39 : decode cX1_init 39 = .ok (.aload_n 0, 1) := by decide +kernel
theorem dX1_init_40 : decode cX1_init 40 = .ok (.bipush 13, 2) := by decide +kernel
theorem dX1_init_42 : decode cX1_init 42 = .ok (.newarray .int, 2) := by decide +kernel
theorem dX1_init_44 : decode cX1_init 44 = .ok (.putfield 26, 3) := by decide +kernel
theorem dX1_init_47 : decode cX1_init 47 = .ok (.aload_n 0, 1) := by decide +kernel
theorem dX1_init_48 : decode cX1_init 48 = .ok (.bipush 13, 2) := by decide +kernel
theorem dX1_init_50 : decode cX1_init 50 = .ok (.newarray .int, 2) := by decide +kernel
theorem dX1_init_52 : decode cX1_init 52 = .ok (.putfield 29, 3) := by decide +kernel
theorem dX1_init_55 : decode cX1_init 55 = .ok (.aload_n 0, 1) := by decide +kernel
theorem dX1_init_56 : decode cX1_init 56 = .ok (.bipush 91, 2) := by decide +kernel
theorem dX1_init_58 : decode cX1_init 58 = .ok (.newarray .int, 2) := by decide +kernel
theorem dX1_init_60 : decode cX1_init 60 = .ok (.putfield 32, 3) := by decide +kernel
theorem dX1_init_63 : decode cX1_init 63 = .ok (.return_, 1) := by decide +kernel
theorem dX1_arc_0 : decode cX1_arc 0 = .ok (.aload_n 0, 1) := by decide +kernel
theorem dX1_arc_1 : decode cX1_arc 1 = .ok (.iload_n 1, 1) := by decide +kernel
theorem dX1_arc_2 : decode cX1_arc 2 = .ok (.invokevirtual 35, 3) := by decide +kernel
theorem dX1_arc_5 : decode cX1_arc 5 = .ok (.ifCond .eq 26, 3) := by decide +kernel
theorem dX1_arc_8 : decode cX1_arc 8 = .ok (.aload_n 0, 1) := by decide +kernel
theorem dX1_arc_9 : decode cX1_arc 9 = .ok (.iload_n 2, 1) := by decide +kernel
theorem dX1_arc_10 : decode cX1_arc 10 = .ok (.invokevirtual 35, 3) := by decide +kernel
theorem dX1_arc_13 : decode cX1_arc 13 = .ok (.ifCond .eq 18, 3) := by decide +kernel
theorem dX1_arc_16 : decode cX1_arc 16 = .ok (.iload_n 1, 1) := by decide +kernel
theorem dX1_arc_17 : decode cX1_arc 17 = .ok (.iload_n 2, 1) := by decide +kernel
theorem dX1_arc_18 : decode cX1_arc 18 = .ok (.if_icmp .eq 13, 3) := by decide +kernel
theorem dX1_arc_21 : decode cX1_arc 21 = .ok (.iload_n 3, 1) := by decide +kernel
theorem dX1_arc_22 : decode cX1_arc 22 = .ok (.ifCond .lt 9, 3) := by decide +kernel
theorem dX1_arc_25 : decode cX1_arc 25 = .ok (.iload_n 3, 1) := by decide +kernel
theorem dX1_arc_26 : decode cX1_arc 26 = .ok (.bipush 50, 2) := by decide +kernel
theorem dX1_arc_28 : decode cX1_arc 28 = .ok (.if_icmp .le 5, 3) := by decide +kernel
theorem dX1_arc_31 : decode cX1_arc 31 = .ok (.iconst 0, 1) := by decide +kernel
theorem dX1_arc_32 : decode cX1_arc 32 = .ok (.ireturn, 1) := by decide +kernel
theorem dX1_arc_33 : decode cX1_arc 33 = .ok (.aload_n 0, 1) := by decide +kernel
theorem dX1_arc_34 : decode cX1_arc 34 = .ok (.getfield 7, 3) := by decide +kernel
theorem dX1_arc_37 : decode cX1_arc 37 = .ok (.bipush 7, 2) := by decide +kernel
theorem dX1_arc_39 : decode cX1_arc 39 = .ok (.iload_n 1, 1) := by decide +kernel
theorem dX1_arc_40 : decode cX1_arc 40 = .ok (.imul, 1) := by decide +kernel
theorem dX1_arc_41 : decode cX1_arc 41 = .ok (.iload_n 2, 1) := by decide +kernel
theorem dX1_arc_42 : decode cX1_arc 42 = .ok (.iadd, 1) := by decide +kernel
theorem dX1_arc_43 : decode cX1_arc 43 = .ok (.iload_n 3, 1) := by decide +kernel
theorem dX1_arc_44 : decode cX1_arc 44 = .ok (.iastore, 1) := by decide +kernel
theorem dX1_arc_45 : decode cX1_arc 45 = .ok (.iconst 1, 1) := by decide +kernel
theorem dX1_arc_46 : decode cX1_arc 46 = .ok (.ireturn, 1) := by decide +kernel
theorem dX1_isVertex_0 : decode cX1_isVertex 0 = .ok (.iload_n 1, 1) := by decide +kernel
theorem dX1_isVertex_1 : decode cX1_isVertex 1 = .ok (.ifCond .lt 13, 3) := by decide +kernel
theorem dX1_isVertex_4 : decode cX1_isVertex 4 = .ok (.iload_n 1, 1) := by decide +kernel
theorem dX1_isVertex_5 : decode cX1_isVertex 5 = .ok (.bipush 6, 2) := by decide +kernel
theorem dX1_isVertex_7 : decode cX1_isVertex 7 = .ok (.if_icmp .gt 7, 3) := by decide +kernel
theorem dX1_isVertex_10 : decode cX1_isVertex 10 = .ok (.iconst 1, 1) := by decide +kernel
theorem dX1_isVertex_11 : decode cX1_isVertex 11 = .ok (.goto 4, 3) := by decide +kernel
theorem dX1_isVertex_14 : decode cX1_isVertex 14 = .ok (.iconst 0, 1) := by decide +kernel
theorem dX1_isVertex_15 : decode cX1_isVertex 15 = .ok (.ireturn, 1) := by decide +kernel
theorem dX1_ends_0 : decode cX1_ends 0 = .ok (.aload_n 0, 1) := by decide +kernel
theorem dX1_ends_1 : decode cX1_ends 1 = .ok (.iload_n 1, 1) := by decide +kernel
theorem dX1_ends_2 : decode cX1_ends 2 = .ok (.invokevirtual 35, 3) := by decide +kernel
theorem dX1_ends_5 : decode cX1_ends 5 = .ok (.ifCond .eq 16, 3) := by decide +kernel
theorem dX1_ends_8 : decode cX1_ends 8 = .ok (.aload_n 0, 1) := by decide +kernel
theorem dX1_ends_9 : decode cX1_ends 9 = .ok (.iload_n 2, 1) := by decide +kernel
theorem dX1_ends_10 : decode cX1_ends 10 = .ok (.invokevirtual 35, 3) := by decide +kernel
theorem dX1_ends_13 : decode cX1_ends 13 = .ok (.ifCond .eq 8, 3) := by decide +kernel
theorem dX1_ends_16 : decode cX1_ends 16 = .ok (.iload_n 1, 1) := by decide +kernel
theorem dX1_ends_17 : decode cX1_ends 17 = .ok (.iload_n 2, 1) := by decide +kernel
theorem dX1_ends_18 : decode cX1_ends 18 = .ok (.if_icmp .ne 5, 3) := by decide +kernel
theorem dX1_ends_21 : decode cX1_ends 21 = .ok (.iconst 0, 1) := by decide +kernel
theorem dX1_ends_22 : decode cX1_ends 22 = .ok (.ireturn, 1) := by decide +kernel
theorem dX1_ends_23 : decode cX1_ends 23 = .ok (.aload_n 0, 1) := by decide +kernel
theorem dX1_ends_24 : decode cX1_ends 24 = .ok (.iload_n 1, 1) := by decide +kernel
theorem dX1_ends_25 : decode cX1_ends 25 = .ok (.putfield 13, 3) := by decide +kernel
theorem dX1_ends_28 : decode cX1_ends 28 = .ok (.aload_n 0, 1) := by decide +kernel
theorem dX1_ends_29 : decode cX1_ends 29 = .ok (.iload_n 2, 1) := by decide +kernel
theorem dX1_ends_30 : decode cX1_ends 30 = .ok (.putfield 17, 3) := by decide +kernel
theorem dX1_ends_33 : decode cX1_ends 33 = .ok (.iconst 1, 1) := by decide +kernel
theorem dX1_ends_34 : decode cX1_ends 34 = .ok (.ireturn, 1) := by decide +kernel
theorem dX1_weight_0 : decode cX1_weight 0 = .ok (.aload_n 0, 1) := by decide +kernel
theorem dX1_weight_1 : decode cX1_weight 1 = .ok (.iload_n 1, 1) := by decide +kernel
theorem dX1_weight_2 : decode cX1_weight 2 = .ok (.invokevirtual 35, 3) := by decide +kernel
theorem dX1_weight_5 : decode cX1_weight 5 = .ok (.ifCond .eq 25, 3) := by decide +kernel
theorem dX1_weight_8 : decode cX1_weight 8 = .ok (.aload_n 0, 1) := by decide +kernel
theorem dX1_weight_9 : decode cX1_weight 9 = .ok (.iload_n 2, 1) := by decide +kernel
theorem dX1_weight_10 : decode cX1_weight 10 = .ok (.invokevirtual 35, 3) := by decide +kernel
theorem dX1_weight_13 : decode cX1_weight 13 = .ok (.ifCond .eq 17, 3) := by decide +kernel
theorem dX1_weight_16 : decode cX1_weight 16 = .ok (.aload_n 0, 1) := by decide +kernel
theorem dX1_weight_17 : decode cX1_weight 17 = .ok (.getfield 7, 3) := by decide +kernel
theorem dX1_weight_20 : decode cX1_weight 20 = .ok (.bipush 7, 2) := by decide +kernel
theorem dX1_weight_22 : decode cX1_weight 22 = .ok (.iload_n 1, 1) := by decide +kernel
theorem dX1_weight_23 : decode cX1_weight 23 = .ok (.imul, 1) := by decide +kernel
theorem dX1_weight_24 : decode cX1_weight 24 = .ok (.iload_n 2, 1) := by decide +kernel
theorem dX1_weight_25 : decode cX1_weight 25 = .ok (.iadd, 1) := by decide +kernel
theorem dX1_weight_26 : decode cX1_weight 26 = .ok (.iaload, 1) := by decide +kernel
theorem dX1_weight_27 : decode cX1_weight 27 = .ok (.goto 4, 3) := by decide +kernel
theorem dX1_weight_30 : decode cX1_weight 30 = .ok (.iconst (-1), 1) := by decide +kernel
theorem dX1_weight_31 : decode cX1_weight 31 = .ok (.ireturn, 1) := by decide +kernel
theorem dX1_paths_0 : decode cX1_paths 0 = .ok (.aload_n 0, 1) := by decide +kernel
theorem dX1_paths_1 : decode cX1_paths 1 = .ok (.iconst (-1), 1) := by decide +kernel
theorem dX1_paths_2 : decode cX1_paths 2 = .ok (.iconst (-1), 1) := by decide +kernel
theorem dX1_paths_3 : decode cX1_paths 3 = .ok (.invokevirtual 79, 3) := by decide +kernel
theorem dX1_paths_6 : decode cX1_paths 6 = .ok (.aload_n 0, 1) := by decide +kernel
theorem dX1_paths_7 : decode cX1_paths 7 = .ok (.getfield 46, 3) := by decide +kernel
theorem dX1_paths_10 : decode cX1_paths 10 = .ok (.ireturn, 1) := by decide +kernel
theorem dX1_search_0 : decode cX1_search 0 = .ok (.aload_n 0, 1) := by decide +kernel
theorem dX1_search_1 : decode cX1_search 1 = .ok (.iconst 0, 1) := by decide +kernel
theorem dX1_search_2 : decode cX1_search 2 = .ok (.putfield 46, 3) := by decide +kernel
theorem dX1_search_5 : decode cX1_search 5 = .ok (.aload_n 0, 1) := by decide +kernel
theorem dX1_search_6 : decode cX1_search 6 = .ok (.bipush (-2), 2) := by decide +kernel
theorem dX1_search_8 : decode cX1_search 8 = .ok (.putfield 63, 3) := by decide +kernel
theorem dX1_search_11 : decode cX1_search 11 = .ok (.aload_n 0, 1) := by decide +kernel
theorem dX1_search_12 : decode cX1_search 12 = .ok (.bipush 127, 2) := by decide +kernel
theorem dX1_search_14 : decode cX1_search 14 = .ok (.putfield 57, 3) := by decide +kernel
theorem dX1_search_17 : decode cX1_search 17 = .ok (.aload_n 0, 1) := by decide +kernel
theorem dX1_search_18 : decode cX1_search 18 = .ok (.getfield 20, 3) := by decide +kernel
theorem dX1_search_21 : decode cX1_search 21 = .ok (.iconst 0, 1) := by decide +kernel
theorem dX1_search_22 : decode cX1_search 22 = .ok (.aload_n 0, 1) := by decide +kernel
theorem dX1_search_23 : decode cX1_search 23 = .ok (.getfield 13, 3) := by decide +kernel
theorem dX1_search_26 : decode cX1_search 26 = .ok (.iastore, 1) := by decide +kernel
theorem dX1_search_27 : decode cX1_search 27 = .ok (.aload_n 0, 1) := by decide +kernel
theorem dX1_search_28 : decode cX1_search 28 = .ok (.iconst 1, 1) := by decide +kernel
theorem dX1_search_29 : decode cX1_search 29 = .ok (.putfield 39, 3) := by decide +kernel
theorem dX1_search_32 : decode cX1_search 32 = .ok (.aload_n 0, 1) := by decide +kernel
theorem dX1_search_33 : decode cX1_search 33 = .ok (.getfield 23, 3) := by decide +kernel
theorem dX1_search_36 : decode cX1_search 36 = .ok (.iconst 1, 1) := by decide +kernel
theorem dX1_search_37 : decode cX1_search 37 = .ok (.iconst 0, 1) := by decide +kernel
theorem dX1_search_38 : decode cX1_search 38 = .ok (.iastore, 1) := by decide +kernel
theorem dX1_search_39 : decode cX1_search 39 = .ok (.iconst 0, 1) := by decide +kernel
theorem dX1_search_40 : decode cX1_search 40 = .ok (.istore_n 3, 1) := by decide +kernel
theorem dX1_search_41 : decode cX1_search 41 = .ok (.iload_n 3, 1) := by decide +kernel
theorem dX1_search_42 : decode cX1_search 42 = .ok (.sipush 20000, 3) := by decide +kernel
theorem dX1_search_45 : decode cX1_search 45 = .ok (.if_icmp .ge 22, 3) := by decide +kernel
theorem dX1_search_48 : decode cX1_search 48 = .ok (.aload_n 0, 1) := by decide +kernel
theorem dX1_search_49 : decode cX1_search 49 = .ok (.getfield 39, 3) := by decide +kernel
theorem dX1_search_52 : decode cX1_search 52 = .ok (.ifCond .le 15, 3) := by decide +kernel
theorem dX1_search_55 : decode cX1_search 55 = .ok (.aload_n 0, 1) := by decide +kernel
theorem dX1_search_56 : decode cX1_search 56 = .ok (.iload_n 1, 1) := by decide +kernel
theorem dX1_search_57 : decode cX1_search 57 = .ok (.iload_n 2, 1) := by decide +kernel
theorem dX1_search_58 : decode cX1_search 58 = .ok (.invokevirtual 76, 3) := by decide +kernel
theorem dX1_search_61 : decode cX1_search 61 = .ok (.iinc 3 1, 3) := by decide +kernel
theorem dX1_search_64 : decode cX1_search 64 = .ok (.goto (-23), 3) := by decide +kernel
theorem dX1_search_67 : decode cX1_search 67 = .ok (.return_, 1) := by decide +kernel
theorem dX1_turn_0 : decode cX1_turn 0 = .ok (.aload_n 0, 1) := by decide +kernel
theorem dX1_turn_1 : decode cX1_turn 1 = .ok (.getfield 20, 3) := by decide +kernel
theorem dX1_turn_4 : decode cX1_turn 4 = .ok (.aload_n 0, 1) := by decide +kernel
theorem dX1_turn_5 : decode cX1_turn 5 = .ok (.getfield 39, 3) := by decide +kernel
theorem dX1_turn_8 : decode cX1_turn 8 = .ok (.iconst 1, 1) := by decide +kernel
theorem dX1_turn_9 : decode cX1_turn 9 = .ok (.isub, 1) := by decide +kernel
theorem dX1_turn_10 : decode cX1_turn 10 = .ok (.iaload, 1) := by decide +kernel
theorem dX1_turn_11 : decode cX1_turn 11 = .ok (.istore_n 3, 1) := by decide +kernel
theorem dX1_turn_12 : decode cX1_turn 12 = .ok (.aload_n 0, 1) := by decide +kernel
theorem dX1_turn_13 : decode cX1_turn 13 = .ok (.getfield 23, 3) := by decide +kernel
theorem dX1_turn_16 : decode cX1_turn 16 = .ok (.aload_n 0, 1) := by decide +kernel
theorem dX1_turn_17 : decode cX1_turn 17 = .ok (.getfield 39, 3) := by decide +kernel
theorem dX1_turn_20 : decode cX1_turn 20 = .ok (.iaload, 1) := by decide +kernel
theorem dX1_turn_21 : decode cX1_turn 21 = .ok (.istore 4, 2) := by decide +kernel
theorem dX1_turn_23 : decode cX1_turn 23 = .ok (.aload_n 0, 1) := by decide +kernel
theorem dX1_turn_24 : decode cX1_turn 24 = .ok (.getfield 23, 3) := by decide +kernel
theorem dX1_turn_27 : decode cX1_turn 27 = .ok (.aload_n 0, 1) := by decide +kernel
theorem dX1_turn_28 : decode cX1_turn 28 = .ok (.getfield 39, 3) := by decide +kernel
theorem dX1_turn_31 : decode cX1_turn 31 = .ok (.dup2, 1) := by decide +kernel
theorem dX1_turn_32 : decode cX1_turn 32 = .ok (.iaload, 1) := by decide +kernel
theorem dX1_turn_33 : decode cX1_turn 33 = .ok (.iconst 1, 1) := by decide +kernel
theorem dX1_turn_34 : decode cX1_turn 34 = .ok (.iadd, 1) := by decide +kernel
theorem dX1_turn_35 : decode cX1_turn 35 = .ok (.iastore, 1) := by decide +kernel
theorem dX1_turn_36 : decode cX1_turn 36 = .ok (.iload_n 3, 1) := by decide +kernel
theorem dX1_turn_37 : decode cX1_turn 37 = .ok (.aload_n 0, 1) := by decide +kernel
theorem dX1_turn_38 : decode cX1_turn 38 = .ok (.getfield 17, 3) := by decide +kernel
theorem dX1_turn_41 : decode cX1_turn 41 = .ok (.if_icmp .eq 10, 3) := by decide +kernel
theorem dX1_turn_44 : decode cX1_turn 44 = .ok (.iload 4, 2) := by decide +kernel
theorem dX1_turn_46 : decode cX1_turn 46 = .ok (.bipush 6, 2) := by decide +kernel
theorem dX1_turn_48 : decode cX1_turn 48 = .ok (.if_icmp .le 30, 3) := by decide +kernel
theorem dX1_turn_51 : decode cX1_turn 51 = .ok (.iload_n 3, 1) := by decide +kernel
theorem dX1_turn_52 : decode cX1_turn 52 = .ok (.aload_n 0, 1) := by decide +kernel
theorem dX1_turn_53 : decode cX1_turn 53 = .ok (.getfield 17, 3) := by decide +kernel
theorem dX1_turn_56 : decode cX1_turn 56 = .ok (.if_icmp .ne 9, 3) := by decide +kernel
theorem dX1_turn_59 : decode cX1_turn 59 = .ok (.aload_n 0, 1) := by decide +kernel
theorem dX1_turn_60 : decode cX1_turn 60 = .ok (.iload_n 1, 1) := by decide +kernel
theorem dX1_turn_61 : decode cX1_turn 61 = .ok (.iload_n 2, 1) := by decide +kernel
theorem dX1_turn_62 : decode cX1_turn 62 = .ok (.invokevirtual 69, 3) := by decide +kernel
theorem dX1_turn_65 : decode cX1_turn 65 = .ok (.aload_n 0, 1) := by decide +kernel
theorem dX1_turn_66 : decode cX1_turn 66 = .ok (.dup, 1) := by decide +kernel
theorem dX1_turn_67 : decode cX1_turn 67 = .ok (.getfield 39, 3) := by decide +kernel
theorem dX1_turn_70 : decode cX1_turn 70 = .ok (.iconst 1, 1) := by decide +kernel
theorem dX1_turn_71 : decode cX1_turn 71 = .ok (.isub, 1) := by decide +kernel
theorem dX1_turn_72 : decode cX1_turn 72 = .ok (.putfield 39, 3) := by decide +kernel
theorem dX1_turn_75 : decode cX1_turn 75 = .ok (.goto 72, 3) := by decide +kernel
theorem dX1_turn_78 : decode cX1_turn 78 = .ok (.aload_n 0, 1) := by decide +kernel
theorem dX1_turn_79 : decode cX1_turn 79 = .ok (.getfield 7, 3) := by decide +kernel
theorem dX1_turn_82 : decode cX1_turn 82 = .ok (.bipush 7, 2) := by decide +kernel
theorem dX1_turn_84 : decode cX1_turn 84 = .ok (.iload_n 3, 1) := by decide +kernel
theorem dX1_turn_85 : decode cX1_turn 85 = .ok (.imul, 1) := by decide +kernel
theorem dX1_turn_86 : decode cX1_turn 86 = .ok (.iload 4, 2) := by decide +kernel
theorem dX1_turn_88 : decode cX1_turn 88 = .ok (.iadd, 1) := by decide +kernel
theorem dX1_turn_89 : decode cX1_turn 89 = .ok (.iaload, 1) := by decide +kernel
theorem dX1_turn_90 : decode cX1_turn 90 = .ok (.ifCond .le 57, 3) := by decide +kernel
theorem dX1_turn_93 : decode cX1_turn 93 = .ok (.aload_n 0, 1) := by decide +kernel
theorem dX1_turn_94 : decode cX1_turn 94 = .ok (.iload 4, 2) := by decide +kernel
theorem dX1_turn_96 : decode cX1_turn 96 = .ok (.invokevirtual 73, 3) := by decide +kernel
theorem dX1_turn_99 : decode cX1_turn 99 = .ok (.ifCond .ne 48, 3) := by decide +kernel
theorem dX1_turn_102 : decode cX1_turn 102 = .ok (.aload_n 0, 1) := by decide +kernel
theorem dX1_turn_103 : decode cX1_turn 103 = .ok (.getfield 20, 3) := by decide +kernel
theorem dX1_turn_106 : decode cX1_turn 106 = .ok (.aload_n 0, 1) := by decide +kernel
theorem dX1_turn_107 : decode cX1_turn 107 = .ok (.getfield 39, 3) := by decide +kernel
theorem dX1_turn_110 : decode cX1_turn 110 = .ok (.iload 4, 2) := by decide +kernel
theorem dX1_turn_112 : decode cX1_turn 112 = .ok (.iastore, 1) := by decide +kernel
theorem dX1_turn_113 : decode cX1_turn 113 = .ok (.aload_n 0, 1) := by decide +kernel
theorem dX1_turn_114 : decode cX1_turn 114 = .ok (.dup, 1) := by decide +kernel
theorem dX1_turn_115 : decode cX1_turn 115 = .ok (.getfield 39, 3) := by decide +kernel
theorem dX1_turn_118 : decode cX1_turn 118 = .ok (.iconst 1, 1) := by decide +kernel
theorem dX1_turn_119 : decode cX1_turn 119 = .ok (.iadd, 1) := by decide +kernel
theorem dX1_turn_120 : decode cX1_turn 120 = .ok (.putfield 39, 3) := by decide +kernel
theorem dX1_turn_123 : decode cX1_turn 123 = .ok (.aload_n 0, 1) := by decide +kernel
theorem dX1_turn_124 : decode cX1_turn 124 = .ok (.getfield 23, 3) := by decide +kernel
theorem dX1_turn_127 : decode cX1_turn 127 = .ok (.aload_n 0, 1) := by decide +kernel
theorem dX1_turn_128 : decode cX1_turn 128 = .ok (.getfield 39, 3) := by decide +kernel
theorem dX1_turn_131 : decode cX1_turn 131 = .ok (.bipush 7, 2) := by decide +kernel
theorem dX1_turn_133 : decode cX1_turn 133 = .ok (.if_icmp .ge 10, 3) := by decide +kernel
theorem dX1_turn_136 : decode cX1_turn 136 = .ok (.aload_n 0, 1) := by decide +kernel
theorem dX1_turn_137 : decode cX1_turn 137 = .ok (.getfield 39, 3) := by decide +kernel
theorem dX1_turn_140 : decode cX1_turn 140 = .ok (.goto 5, 3) := by decide +kernel
theorem dX1_turn_143 : decode cX1_turn 143 = .ok (.bipush 7, 2) := by decide +kernel
theorem dX1_turn_145 : decode cX1_turn 145 = .ok (.iconst 0, 1) := by decide +kernel
theorem dX1_turn_146 : decode cX1_turn 146 = .ok (.iastore, 1) := by decide +kernel
theorem dX1_turn_147 : decode cX1_turn 147 = .ok (.return_, 1) := by decide +kernel
theorem dX1_found_0 : decode cX1_found 0 = .ok (.aload_n 0, 1) := by decide +kernel
theorem dX1_found_1 : decode cX1_found 1 = .ok (.invokevirtual 42, 3) := by decide +kernel
theorem dX1_found_4 : decode cX1_found 4 = .ok (.istore_n 3, 1) := by decide +kernel
theorem dX1_found_5 : decode cX1_found 5 = .ok (.iconst 0, 1) := by decide +kernel
theorem dX1_found_6 : decode cX1_found 6 = .ok (.istore 4, 2) := by decide +kernel
theorem dX1_found_8 : decode cX1_found 8 = .ok (.iconst 0, 1) := by decide +kernel
theorem dX1_found_9 : decode cX1_found 9 = .ok (.istore 5, 2) := by decide +kernel
theorem dX1_found_11 : decode cX1_found 11 = .ok (.iload 5, 2) := by decide +kernel
theorem dX1_found_13 : decode cX1_found 13 = .ok (.aload_n 0, 1) := by decide +kernel
theorem dX1_found_14 : decode cX1_found 14 = .ok (.getfield 39, 3) := by decide +kernel
theorem dX1_found_17 : decode cX1_found 17 = .ok (.if_icmp .ge 23, 3) := by decide +kernel
theorem dX1_found_20 : decode cX1_found 20 = .ok (.iload 4, 2) := by decide +kernel
theorem dX1_found_22 : decode cX1_found 22 = .ok (.iconst 1, 1) := by decide +kernel
theorem dX1_found_23 : decode cX1_found 23 = .ok (.aload_n 0, 1) := by decide +kernel
theorem dX1_found_24 : decode cX1_found 24 = .ok (.getfield 20, 3) := by decide +kernel
theorem dX1_found_27 : decode cX1_found 27 = .ok (.iload 5, 2) := by decide +kernel
theorem dX1_found_29 : decode cX1_found 29 = .ok (.iaload, 1) := by decide +kernel
theorem dX1_found_30 : decode cX1_found 30 = .ok (.ishl, 1) := by decide +kernel
theorem dX1_found_31 : decode cX1_found 31 = .ok (.ior, 1) := by decide +kernel
theorem dX1_found_32 : decode cX1_found 32 = .ok (.istore 4, 2) := by decide +kernel
theorem dX1_found_34 : decode cX1_found 34 = .ok (.iinc 5 1, 3) := by decide +kernel
theorem dX1_found_37 : decode cX1_found 37 = .ok (.goto (-26), 3) := by decide +kernel
theorem dX1_found_40 : decode cX1_found 40 = .ok (.aload_n 0, 1) := by decide +kernel
theorem dX1_found_41 : decode cX1_found 41 = .ok (.aload_n 0, 1) := by decide +kernel
theorem dX1_found_42 : decode cX1_found 42 = .ok (.getfield 57, 3) := by decide +kernel
theorem dX1_found_45 : decode cX1_found 45 = .ok (.iload 4, 2) := by decide +kernel
theorem dX1_found_47 : decode cX1_found 47 = .ok (.iand, 1) := by decide +kernel
theorem dX1_found_48 : decode cX1_found 48 = .ok (.putfield 57, 3) := by decide +kernel
theorem dX1_found_51 : decode cX1_found 51 = .ok (.aload_n 0, 1) := by decide +kernel
theorem dX1_found_52 : decode cX1_found 52 = .ok (.iload_n 1, 1) := by decide +kernel
theorem dX1_found_53 : decode cX1_found 53 = .ok (.iload_n 2, 1) := by decide +kernel
theorem dX1_found_54 : decode cX1_found 54 = .ok (.invokevirtual 60, 3) := by decide +kernel
theorem dX1_found_57 : decode cX1_found 57 = .ok (.ifCond .ne 25, 3) := by decide +kernel
theorem dX1_found_60 : decode cX1_found 60 = .ok (.aload_n 0, 1) := by decide +kernel
theorem dX1_found_61 : decode cX1_found 61 = .ok (.getfield 63, 3) := by decide +kernel
theorem dX1_found_64 : decode cX1_found 64 = .ok (.bipush (-2), 2) := by decide +kernel
theorem dX1_found_66 : decode cX1_found 66 = .ok (.if_icmp .eq 11, 3) := by decide +kernel
theorem dX1_found_69 : decode cX1_found 69 = .ok (.iload_n 3, 1) := by decide +kernel
theorem dX1_found_70 : decode cX1_found 70 = .ok (.aload_n 0, 1) := by decide +kernel
theorem dX1_found_71 : decode cX1_found 71 = .ok (.getfield 63, 3) := by decide +kernel
theorem dX1_found_74 : decode cX1_found 74 = .ok (.if_icmp .ge 8, 3) := by decide +kernel
theorem dX1_found_77 : decode cX1_found 77 = .ok (.aload_n 0, 1) := by decide +kernel
theorem dX1_found_78 : decode cX1_found 78 = .ok (.iload_n 3, 1) := by decide +kernel
theorem dX1_found_79 : decode cX1_found 79 = .ok (.putfield 63, 3) := by decide +kernel
theorem dX1_found_82 : decode cX1_found 82 = .ok (.aload_n 0, 1) := by decide +kernel
theorem dX1_found_83 : decode cX1_found 83 = .ok (.invokevirtual 66, 3) := by decide +kernel
theorem dX1_found_86 : decode cX1_found 86 = .ok (.return_, 1) := by decide +kernel
theorem dX1_lengthOfPath_0 : decode cX1_lengthOfPath 0 = .ok (.iconst 0, 1) := by decide +kernel
theorem dX1_lengthOfPath_1 : decode cX1_lengthOfPath 1 = .ok (.istore_n 1, 1) := by decide +kernel
theorem dX1_lengthOfPath_2 : decode cX1_lengthOfPath 2 = .ok (.iconst 1, 1) := by decide +kernel
theorem dX1_lengthOfPath_3 : decode cX1_lengthOfPath 3 = .ok (.istore_n 2, 1) := by decide +kernel
theorem dX1_lengthOfPath_4 : decode cX1_lengthOfPath 4 = .ok (.iload_n 2, 1) := by decide +kernel
theorem dX1_lengthOfPath_5 : decode cX1_lengthOfPath 5 = .ok (.aload_n 0, 1) := by decide +kernel
theorem dX1_lengthOfPath_6 : decode cX1_lengthOfPath 6 = .ok (.getfield 39, 3) := by decide +kernel
theorem dX1_lengthOfPath_9 : decode cX1_lengthOfPath 9 = .ok (.if_icmp .ge 35, 3) := by decide +kernel
theorem dX1_lengthOfPath_12 : decode cX1_lengthOfPath 12 = .ok (.iload_n 1, 1) := by decide +kernel
theorem dX1_lengthOfPath_13 : decode cX1_lengthOfPath 13 = .ok (.aload_n 0, 1) := by decide +kernel
theorem dX1_lengthOfPath_14 : decode cX1_lengthOfPath 14 = .ok (.getfield 7, 3) := by decide +kernel
theorem dX1_lengthOfPath_17 : decode cX1_lengthOfPath 17 = .ok (.bipush 7, 2) := by decide +kernel
theorem dX1_lengthOfPath_19 : decode cX1_lengthOfPath 19 = .ok (.aload_n 0, 1) := by decide +kernel
theorem dX1_lengthOfPath_20 : decode cX1_lengthOfPath 20 = .ok (.getfield 20, 3) := by decide +kernel
theorem dX1_lengthOfPath_23 : decode cX1_lengthOfPath 23 = .ok (.iload_n 2, 1) := by decide +kernel
theorem dX1_lengthOfPath_24 : decode cX1_lengthOfPath 24 = .ok (.iconst 1, 1) := by decide +kernel
theorem dX1_lengthOfPath_25 : decode cX1_lengthOfPath 25 = .ok (.isub, 1) := by decide +kernel
theorem dX1_lengthOfPath_26 : decode cX1_lengthOfPath 26 = .ok (.iaload, 1) := by decide +kernel
theorem dX1_lengthOfPath_27 : decode cX1_lengthOfPath 27 = .ok (.imul, 1) := by decide +kernel
theorem dX1_lengthOfPath_28 : decode cX1_lengthOfPath 28 = .ok (.aload_n 0, 1) := by decide +kernel
theorem dX1_lengthOfPath_29 : decode cX1_lengthOfPath 29 = .ok (.getfield 20, 3) := by decide +kernel
theorem dX1_lengthOfPath_32 : decode cX1_lengthOfPath 32 = .ok (.iload_n 2, 1) := by decide +kernel
theorem dX1_lengthOfPath_33 : decode cX1_lengthOfPath 33 = .ok (.iaload, 1) := by decide +kernel
theorem dX1_lengthOfPath_34 : decode cX1_lengthOfPath 34 = .ok (.iadd, 1) := by decide +kernel
theorem dX1_lengthOfPath_35 : decode cX1_lengthOfPath 35 = .ok (.iaload, 1) := by decide +kernel
theorem dX1_lengthOfPath_36 : decode cX1_lengthOfPath 36 = .ok (.iadd, 1) := by decide +kernel
theorem dX1_lengthOfPath_37 : decode cX1_lengthOfPath 37 = .ok (.istore_n 1, 1) := by decide +kernel
theorem dX1_lengthOfPath_38 : decode cX1_lengthOfPath 38 = .ok (.iinc 2 1, 3) := by decide +kernel
theorem dX1_lengthOfPath_41 : decode cX1_lengthOfPath 41 = .ok (.goto (-37), 3) := by decide +kernel
theorem dX1_lengthOfPath_44 : decode cX1_lengthOfPath 44 = .ok (.iload_n 1, 1) := by decide +kernel
theorem dX1_lengthOfPath_45 : decode cX1_lengthOfPath 45 = .ok (.ireturn, 1) := by decide +kernel
theorem dX1_pathPasses_0 : decode cX1_pathPasses 0 = .ok (.iconst 1, 1) := by decide +kernel
theorem dX1_pathPasses_1 : decode cX1_pathPasses 1 = .ok (.istore_n 3, 1) := by decide +kernel
theorem dX1_pathPasses_2 : decode cX1_pathPasses 2 = .ok (.iload_n 3, 1) := by decide +kernel
theorem dX1_pathPasses_3 : decode cX1_pathPasses 3 = .ok (.aload_n 0, 1) := by decide +kernel
theorem dX1_pathPasses_4 : decode cX1_pathPasses 4 = .ok (.getfield 39, 3) := by decide +kernel
theorem dX1_pathPasses_7 : decode cX1_pathPasses 7 = .ok (.if_icmp .ge 33, 3) := by decide +kernel
theorem dX1_pathPasses_10 : decode cX1_pathPasses 10 = .ok (.aload_n 0, 1) := by decide +kernel
theorem dX1_pathPasses_11 : decode cX1_pathPasses 11 = .ok (.getfield 20, 3) := by decide +kernel
theorem dX1_pathPasses_14 : decode cX1_pathPasses 14 = .ok (.iload_n 3, 1) := by decide +kernel
theorem dX1_pathPasses_15 : decode cX1_pathPasses 15 = .ok (.iconst 1, 1) := by decide +kernel
theorem dX1_pathPasses_16 : decode cX1_pathPasses 16 = .ok (.isub, 1) := by decide +kernel
theorem dX1_pathPasses_17 : decode cX1_pathPasses 17 = .ok (.iaload, 1) := by decide +kernel
theorem dX1_pathPasses_18 : decode cX1_pathPasses 18 = .ok (.iload_n 1, 1) := by decide +kernel
theorem dX1_pathPasses_19 : decode cX1_pathPasses 19 = .ok (.if_icmp .ne 15, 3) := by decide +kernel
theorem dX1_pathPasses_22 : decode cX1_pathPasses 22 = .ok (.aload_n 0, 1) := by decide +kernel
theorem dX1_pathPasses_23 : decode cX1_pathPasses 23 = .ok (.getfield 20, 3) := by decide +kernel
theorem dX1_pathPasses_26 : decode cX1_pathPasses 26 = .ok (.iload_n 3, 1) := by decide +kernel
theorem dX1_pathPasses_27 : decode cX1_pathPasses 27 = .ok (.iaload, 1) := by decide +kernel
theorem dX1_pathPasses_28 : decode cX1_pathPasses 28 = .ok (.iload_n 2, 1) := by decide +kernel
theorem dX1_pathPasses_29 : decode cX1_pathPasses 29 = .ok (.if_icmp .ne 5, 3) := by decide +kernel
theorem dX1_pathPasses_32 : decode cX1_pathPasses 32 = .ok (.iconst 1, 1) := by decide +kernel
theorem dX1_pathPasses_33 : decode cX1_pathPasses 33 = .ok (.ireturn, 1) := by decide +kernel
theorem dX1_pathPasses_34 : decode cX1_pathPasses 34 = .ok (.iinc 3 1, 3) := by decide +kernel
theorem dX1_pathPasses_37 : decode cX1_pathPasses 37 = .ok (.goto (-35), 3) := by decide +kernel
theorem dX1_pathPasses_40 : decode cX1_pathPasses 40 = .ok (.iconst 0, 1) := by decide +kernel
theorem dX1_pathPasses_41 : decode cX1_pathPasses 41 = .ok (.ireturn, 1) := by decide +kernel
theorem dX1_keep_0 : decode cX1_keep 0 = .ok (.aload_n 0, 1) := by decide +kernel
theorem dX1_keep_1 : decode cX1_keep 1 = .ok (.invokevirtual 42, 3) := by decide +kernel
theorem dX1_keep_4 : decode cX1_keep 4 = .ok (.istore_n 1, 1) := by decide +kernel
theorem dX1_keep_5 : decode cX1_keep 5 = .ok (.aload_n 0, 1) := by decide +kernel
theorem dX1_keep_6 : decode cX1_keep 6 = .ok (.getfield 46, 3) := by decide +kernel
theorem dX1_keep_9 : decode cX1_keep 9 = .ok (.istore_n 2, 1) := by decide +kernel
theorem dX1_keep_10 : decode cX1_keep 10 = .ok (.aload_n 0, 1) := by decide +kernel
end
section
set_option maxRecDepth 100000
theorem dX1_keep_11 : decode cX1_keep 11 = .ok (.getfield 46, 3) := by decide +kernel
theorem dX1_keep_14 : decode cX1_keep 14 = .ok (.iconst 1, 1) := by decide +kernel
theorem dX1_keep_15 : decode cX1_keep 15 = .ok (.isub, 1) := by decide +kernel
theorem dX1_keep_16 : decode cX1_keep 16 = .ok (.istore_n 3, 1) := by decide +kernel
theorem dX1_keep_17 : decode cX1_keep 17 = .ok (.iload_n 3, 1) := by decide +kernel
theorem dX1_keep_18 : decode cX1_keep 18 = .ok (.ifCond .lt 25, 3) := by decide +kernel
theorem dX1_keep_21 : decode cX1_keep 21 = .ok (.aload_n 0, 1) := by decide +kernel
theorem dX1_keep_22 : decode cX1_keep 22 = .ok (.iload_n 1, 1) := by decide +kernel
theorem dX1_keep_23 : decode cX1_keep 23 = .ok (.iload_n 3, 1) := by decide +kernel
theorem dX1_keep_24 : decode cX1_keep 24 = .ok (.invokevirtual 49, 3) := by decide +kernel
theorem dX1_keep_27 : decode cX1_keep 27 = .ok (.ifCond .eq 10, 3) := by decide +kernel
theorem dX1_keep_30 : decode cX1_keep 30 = .ok (.aload_n 0, 1) := by decide +kernel
theorem dX1_keep_31 : decode cX1_keep 31 = .ok (.iload_n 3, 1) := by decide +kernel
theorem dX1_keep_32 : decode cX1_keep 32 = .ok (.invokevirtual 53, 3) := by decide +kernel
theorem dX1_keep_35 : decode cX1_keep 35 = .ok (.iload_n 3, 1) := by decide +kernel
theorem dX1_keep_36 : decode cX1_keep 36 = .ok (.istore_n 2, 1) := by decide +kernel
theorem dX1_keep_37 : decode cX1_keep 37 = .ok (.iinc 3 (-1), 3) := by decide +kernel
theorem dX1_keep_40 : decode cX1_keep 40 = .ok (.goto (-23), 3) := by decide +kernel
theorem dX1_keep_43 : decode cX1_keep 43 = .ok (.aload_n 0, 1) := by decide +kernel
theorem dX1_keep_44 : decode cX1_keep 44 = .ok (.getfield 26, 3) := by decide +kernel
theorem dX1_keep_47 : decode cX1_keep 47 = .ok (.iload_n 2, 1) := by decide +kernel
theorem dX1_keep_48 : decode cX1_keep 48 = .ok (.iload_n 1, 1) := by decide +kernel
theorem dX1_keep_49 : decode cX1_keep 49 = .ok (.iastore, 1) := by decide +kernel
theorem dX1_keep_50 : decode cX1_keep 50 = .ok (.aload_n 0, 1) := by decide +kernel
theorem dX1_keep_51 : decode cX1_keep 51 = .ok (.getfield 29, 3) := by decide +kernel
theorem dX1_keep_54 : decode cX1_keep 54 = .ok (.iload_n 2, 1) := by decide +kernel
theorem dX1_keep_55 : decode cX1_keep 55 = .ok (.aload_n 0, 1) := by decide +kernel
theorem dX1_keep_56 : decode cX1_keep 56 = .ok (.getfield 39, 3) := by decide +kernel
theorem dX1_keep_59 : decode cX1_keep 59 = .ok (.iastore, 1) := by decide +kernel
theorem dX1_keep_60 : decode cX1_keep 60 = .ok (.iconst 0, 1) := by decide +kernel
theorem dX1_keep_61 : decode cX1_keep 61 = .ok (.istore_n 3, 1) := by decide +kernel
theorem dX1_keep_62 : decode cX1_keep 62 = .ok (.iload_n 3, 1) := by decide +kernel
theorem dX1_keep_63 : decode cX1_keep 63 = .ok (.aload_n 0, 1) := by decide +kernel
theorem dX1_keep_64 : decode cX1_keep 64 = .ok (.getfield 39, 3) := by decide +kernel
theorem dX1_keep_67 : decode cX1_keep 67 = .ok (.if_icmp .ge 26, 3) := by decide +kernel
theorem dX1_keep_70 : decode cX1_keep 70 = .ok (.aload_n 0, 1) := by decide +kernel
theorem dX1_keep_71 : decode cX1_keep 71 = .ok (.getfield 32, 3) := by decide +kernel
theorem dX1_keep_74 : decode cX1_keep 74 = .ok (.bipush 7, 2) := by decide +kernel
theorem dX1_keep_76 : decode cX1_keep 76 = .ok (.iload_n 2, 1) := by decide +kernel
theorem dX1_keep_77 : decode cX1_keep 77 = .ok (.imul, 1) := by decide +kernel
theorem dX1_keep_78 : decode cX1_keep 78 = .ok (.iload_n 3, 1) := by decide +kernel
theorem dX1_keep_79 : decode cX1_keep 79 = .ok (.iadd, 1) := by decide +kernel
theorem dX1_keep_80 : decode cX1_keep 80 = .ok (.aload_n 0, 1) := by decide +kernel
theorem dX1_keep_81 : decode cX1_keep 81 = .ok (.getfield 20, 3) := by decide +kernel
theorem dX1_keep_84 : decode cX1_keep 84 = .ok (.iload_n 3, 1) := by decide +kernel
theorem dX1_keep_85 : decode cX1_keep 85 = .ok (.iaload, 1) := by decide +kernel
theorem dX1_keep_86 : decode cX1_keep 86 = .ok (.iastore, 1) := by decide +kernel
theorem dX1_keep_87 : decode cX1_keep 87 = .ok (.iinc 3 1, 3) := by decide +kernel
theorem dX1_keep_90 : decode cX1_keep 90 = .ok (.goto (-28), 3) := by decide +kernel
theorem dX1_keep_93 : decode cX1_keep 93 = .ok (.aload_n 0, 1) := by decide +kernel
theorem dX1_keep_94 : decode cX1_keep 94 = .ok (.getfield 46, 3) := by decide +kernel
theorem dX1_keep_97 : decode cX1_keep 97 = .ok (.bipush 12, 2) := by decide +kernel
theorem dX1_keep_99 : decode cX1_keep 99 = .ok (.if_icmp .ge 13, 3) := by decide +kernel
theorem dX1_keep_102 : decode cX1_keep 102 = .ok (.aload_n 0, 1) := by decide +kernel
theorem dX1_keep_103 : decode cX1_keep 103 = .ok (.dup, 1) := by decide +kernel
theorem dX1_keep_104 : decode cX1_keep 104 = .ok (.getfield 46, 3) := by decide +kernel
theorem dX1_keep_107 : decode cX1_keep 107 = .ok (.iconst 1, 1) := by decide +kernel
theorem dX1_keep_108 : decode cX1_keep 108 = .ok (.iadd, 1) := by decide +kernel
theorem dX1_keep_109 : decode cX1_keep 109 = .ok (.putfield 46, 3) := by decide +kernel
theorem dX1_keep_112 : decode cX1_keep 112 = .ok (.return_, 1) := by decide +kernel
theorem dX1_comesBefore_0 : decode cX1_comesBefore 0 = .ok (.iload_n 1, 1) := by decide +kernel
theorem dX1_comesBefore_1 : decode cX1_comesBefore 1 = .ok (.aload_n 0, 1) := by decide +kernel
theorem dX1_comesBefore_2 : decode cX1_comesBefore 2 = .ok (.getfield 26, 3) := by decide +kernel
theorem dX1_comesBefore_5 : decode cX1_comesBefore 5 = .ok (.iload_n 2, 1) := by decide +kernel
theorem dX1_comesBefore_6 : decode cX1_comesBefore 6 = .ok (.iaload, 1) := by decide +kernel
theorem dX1_comesBefore_7 : decode cX1_comesBefore 7 = .ok (.if_icmp .eq 19, 3) := by decide +kernel
theorem dX1_comesBefore_10 : decode cX1_comesBefore 10 = .ok (.iload_n 1, 1) := by decide +kernel
theorem dX1_comesBefore_11 : decode cX1_comesBefore 11 = .ok (.aload_n 0, 1) := by decide +kernel
theorem dX1_comesBefore_12 : decode cX1_comesBefore 12 = .ok (.getfield 26, 3) := by decide +kernel
theorem dX1_comesBefore_15 : decode cX1_comesBefore 15 = .ok (.iload_n 2, 1) := by decide +kernel
theorem dX1_comesBefore_16 : decode cX1_comesBefore 16 = .ok (.iaload, 1) := by decide +kernel
theorem dX1_comesBefore_17 : decode cX1_comesBefore 17 = .ok (.if_icmp .ge 7, 3) := by decide +kernel
theorem dX1_comesBefore_20 : decode cX1_comesBefore 20 = .ok (.iconst 1, 1) := by decide +kernel
theorem dX1_comesBefore_21 : decode cX1_comesBefore 21 = .ok (.goto 4, 3) := by decide +kernel
theorem dX1_comesBefore_24 : decode cX1_comesBefore 24 = .ok (.iconst 0, 1) := by decide +kernel
theorem dX1_comesBefore_25 : decode cX1_comesBefore 25 = .ok (.ireturn, 1) := by decide +kernel
theorem dX1_comesBefore_26 : decode cX1_comesBefore 26 = .ok (.iconst 0, 1) := by decide +kernel
theorem dX1_comesBefore_27 : decode cX1_comesBefore 27 = .ok (.istore_n 3, 1) := by decide +kernel
theorem dX1_comesBefore_28 : decode cX1_comesBefore 28 = .ok (.iload_n 3, 1) := by decide +kernel
theorem dX1_comesBefore_29 : decode cX1_comesBefore 29 = .ok (.bipush 7, 2) := by decide +kernel
theorem dX1_comesBefore_31 : decode cX1_comesBefore 31 = .ok (.if_icmp .ge 73, 3) := by decide +kernel
theorem dX1_comesBefore_34 : decode cX1_comesBefore 34 = .ok (.iload_n 3, 1) := by decide +kernel
theorem dX1_comesBefore_35 : decode cX1_comesBefore 35 = .ok (.aload_n 0, 1) := by decide +kernel
theorem dX1_comesBefore_36 : decode cX1_comesBefore 36 = .ok (.getfield 39, 3) := by decide +kernel
theorem dX1_comesBefore_39 : decode cX1_comesBefore 39 = .ok (.if_icmp .ge 65, 3) := by decide +kernel
theorem dX1_comesBefore_42 : decode cX1_comesBefore 42 = .ok (.iload_n 3, 1) := by decide +kernel
theorem dX1_comesBefore_43 : decode cX1_comesBefore 43 = .ok (.aload_n 0, 1) := by decide +kernel
theorem dX1_comesBefore_44 : decode cX1_comesBefore 44 = .ok (.getfield 29, 3) := by decide +kernel
theorem dX1_comesBefore_47 : decode cX1_comesBefore 47 = .ok (.iload_n 2, 1) := by decide +kernel
theorem dX1_comesBefore_48 : decode cX1_comesBefore 48 = .ok (.iaload, 1) := by decide +kernel
theorem dX1_comesBefore_49 : decode cX1_comesBefore 49 = .ok (.if_icmp .ge 55, 3) := by decide +kernel
theorem dX1_comesBefore_52 : decode cX1_comesBefore 52 = .ok (.aload_n 0, 1) := by decide +kernel
theorem dX1_comesBefore_53 : decode cX1_comesBefore 53 = .ok (.getfield 20, 3) := by decide +kernel
theorem dX1_comesBefore_56 : decode cX1_comesBefore 56 = .ok (.iload_n 3, 1) := by decide +kernel
theorem dX1_comesBefore_57 : decode cX1_comesBefore 57 = .ok (.iaload, 1) := by decide +kernel
theorem dX1_comesBefore_58 : decode cX1_comesBefore 58 = .ok (.aload_n 0, 1) := by decide +kernel
theorem dX1_comesBefore_59 : decode cX1_comesBefore 59 = .ok (.getfield 32, 3) := by decide +kernel
theorem dX1_comesBefore_62 : decode cX1_comesBefore 62 = .ok (.bipush 7, 2) := by decide +kernel
theorem dX1_comesBefore_64 : decode cX1_comesBefore 64 = .ok (.iload_n 2, 1) := by decide +kernel
theorem dX1_comesBefore_65 : decode cX1_comesBefore 65 = .ok (.imul, 1) := by decide +kernel
theorem dX1_comesBefore_66 : decode cX1_comesBefore 66 = .ok (.iload_n 3, 1) := by decide +kernel
theorem dX1_comesBefore_67 : decode cX1_comesBefore 67 = .ok (.iadd, 1) := by decide +kernel
theorem dX1_comesBefore_68 : decode cX1_comesBefore 68 = .ok (.iaload, 1) := by decide +kernel
theorem dX1_comesBefore_69 : decode cX1_comesBefore 69 = .ok (.if_icmp .eq 29, 3) := by decide +kernel
theorem dX1_comesBefore_72 : decode cX1_comesBefore 72 = .ok (.aload_n 0, 1) := by decide +kernel
theorem dX1_comesBefore_73 : decode cX1_comesBefore 73 = .ok (.getfield 20, 3) := by decide +kernel
theorem dX1_comesBefore_76 : decode cX1_comesBefore 76 = .ok (.iload_n 3, 1) := by decide +kernel
theorem dX1_comesBefore_77 : decode cX1_comesBefore 77 = .ok (.iaload, 1) := by decide +kernel
theorem dX1_comesBefore_78 : decode cX1_comesBefore 78 = .ok (.aload_n 0, 1) := by decide +kernel
theorem dX1_comesBefore_79 : decode cX1_comesBefore 79 = .ok (.getfield 32, 3) := by decide +kernel
theorem dX1_comesBefore_82 : decode cX1_comesBefore 82 = .ok (.bipush 7, 2) := by decide +kernel
theorem dX1_comesBefore_84 : decode cX1_comesBefore 84 = .ok (.iload_n 2, 1) := by decide +kernel
theorem dX1_comesBefore_85 : decode cX1_comesBefore 85 = .ok (.imul, 1) := by decide +kernel
theorem dX1_comesBefore_86 : decode cX1_comesBefore 86 = .ok (.iload_n 3, 1) := by decide +kernel
theorem dX1_comesBefore_87 : decode cX1_comesBefore 87 = .ok (.iadd, 1) := by decide +kernel
theorem dX1_comesBefore_88 : decode cX1_comesBefore 88 = .ok (.iaload, 1) := by decide +kernel
theorem dX1_comesBefore_89 : decode cX1_comesBefore 89 = .ok (.if_icmp .ge 7, 3) := by decide +kernel
theorem dX1_comesBefore_92 : decode cX1_comesBefore 92 = .ok (.iconst 1, 1) := by decide +kernel
theorem dX1_comesBefore_93 : decode cX1_comesBefore 93 = .ok (.goto 4, 3) := by decide +kernel
theorem dX1_comesBefore_96 : decode cX1_comesBefore 96 = .ok (.iconst 0, 1) := by decide +kernel
theorem dX1_comesBefore_97 : decode cX1_comesBefore 97 = .ok (.ireturn, 1) := by decide +kernel
theorem dX1_comesBefore_98 : decode cX1_comesBefore 98 = .ok (.iinc 3 1, 3) := by decide +kernel
theorem dX1_comesBefore_101 : decode cX1_comesBefore 101 = .ok (.goto (-73), 3) := by decide +kernel
theorem dX1_comesBefore_104 : decode cX1_comesBefore 104 = .ok (.iconst 0, 1) := by decide +kernel
theorem dX1_comesBefore_105 : decode cX1_comesBefore 105 = .ok (.ireturn, 1) := by decide +kernel
theorem dX1_shift_0 : decode cX1_shift 0 = .ok (.aload_n 0, 1) := by decide +kernel
theorem dX1_shift_1 : decode cX1_shift 1 = .ok (.getfield 26, 3) := by decide +kernel
theorem dX1_shift_4 : decode cX1_shift 4 = .ok (.iload_n 1, 1) := by decide +kernel
theorem dX1_shift_5 : decode cX1_shift 5 = .ok (.iconst 1, 1) := by decide +kernel
theorem dX1_shift_6 : decode cX1_shift 6 = .ok (.iadd, 1) := by decide +kernel
theorem dX1_shift_7 : decode cX1_shift 7 = .ok (.aload_n 0, 1) := by decide +kernel
theorem dX1_shift_8 : decode cX1_shift 8 = .ok (.getfield 26, 3) := by decide +kernel
theorem dX1_shift_11 : decode cX1_shift 11 = .ok (.iload_n 1, 1) := by decide +kernel
theorem dX1_shift_12 : decode cX1_shift 12 = .ok (.iaload, 1) := by decide +kernel
theorem dX1_shift_13 : decode cX1_shift 13 = .ok (.iastore, 1) := by decide +kernel
theorem dX1_shift_14 : decode cX1_shift 14 = .ok (.aload_n 0, 1) := by decide +kernel
theorem dX1_shift_15 : decode cX1_shift 15 = .ok (.getfield 29, 3) := by decide +kernel
theorem dX1_shift_18 : decode cX1_shift 18 = .ok (.iload_n 1, 1) := by decide +kernel
theorem dX1_shift_19 : decode cX1_shift 19 = .ok (.iconst 1, 1) := by decide +kernel
theorem dX1_shift_20 : decode cX1_shift 20 = .ok (.iadd, 1) := by decide +kernel
theorem dX1_shift_21 : decode cX1_shift 21 = .ok (.aload_n 0, 1) := by decide +kernel
theorem dX1_shift_22 : decode cX1_shift 22 = .ok (.getfield 29, 3) := by decide +kernel
theorem dX1_shift_25 : decode cX1_shift 25 = .ok (.iload_n 1, 1) := by decide +kernel
theorem dX1_shift_26 : decode cX1_shift 26 = .ok (.iaload, 1) := by decide +kernel
theorem dX1_shift_27 : decode cX1_shift 27 = .ok (.iastore, 1) := by decide +kernel
theorem dX1_shift_28 : decode cX1_shift 28 = .ok (.iconst 0, 1) := by decide +kernel
theorem dX1_shift_29 : decode cX1_shift 29 = .ok (.istore_n 2, 1) := by decide +kernel
theorem dX1_shift_30 : decode cX1_shift 30 = .ok (.iload_n 2, 1) := by decide +kernel
theorem dX1_shift_31 : decode cX1_shift 31 = .ok (.bipush 7, 2) := by decide +kernel
theorem dX1_shift_33 : decode cX1_shift 33 = .ok (.if_icmp .ge 34, 3) := by decide +kernel
theorem dX1_shift_36 : decode cX1_shift 36 = .ok (.aload_n 0, 1) := by decide +kernel
theorem dX1_shift_37 : decode cX1_shift 37 = .ok (.getfield 32, 3) := by decide +kernel
theorem dX1_shift_40 : decode cX1_shift 40 = .ok (.bipush 7, 2) := by decide +kernel
theorem dX1_shift_42 : decode cX1_shift 42 = .ok (.iload_n 1, 1) := by decide +kernel
theorem dX1_shift_43 : decode cX1_shift 43 = .ok (.imul, 1) := by decide +kernel
theorem dX1_shift_44 : decode cX1_shift 44 = .ok (.bipush 7, 2) := by decide +kernel
theorem dX1_shift_46 : decode cX1_shift 46 = .ok (.iadd, 1) := by decide +kernel
theorem dX1_shift_47 : decode cX1_shift 47 = .ok (.iload_n 2, 1) := by decide +kernel
theorem dX1_shift_48 : decode cX1_shift 48 = .ok (.iadd, 1) := by decide +kernel
theorem dX1_shift_49 : decode cX1_shift 49 = .ok (.aload_n 0, 1) := by decide +kernel
theorem dX1_shift_50 : decode cX1_shift 50 = .ok (.getfield 32, 3) := by decide +kernel
theorem dX1_shift_53 : decode cX1_shift 53 = .ok (.bipush 7, 2) := by decide +kernel
theorem dX1_shift_55 : decode cX1_shift 55 = .ok (.iload_n 1, 1) := by decide +kernel
theorem dX1_shift_56 : decode cX1_shift 56 = .ok (.imul, 1) := by decide +kernel
theorem dX1_shift_57 : decode cX1_shift 57 = .ok (.iload_n 2, 1) := by decide +kernel
theorem dX1_shift_58 : decode cX1_shift 58 = .ok (.iadd, 1) := by decide +kernel
theorem dX1_shift_59 : decode cX1_shift 59 = .ok (.iaload, 1) := by decide +kernel
theorem dX1_shift_60 : decode cX1_shift 60 = .ok (.iastore, 1) := by decide +kernel
theorem dX1_shift_61 : decode cX1_shift 61 = .ok (.iinc 2 1, 3) := by decide +kernel
theorem dX1_shift_64 : decode cX1_shift 64 = .ok (.goto (-34), 3) := by decide +kernel
theorem dX1_shift_67 : decode cX1_shift 67 = .ok (.return_, 1) := by decide +kernel
theorem dX1_onPath_0 : decode cX1_onPath 0 = .ok (.iconst 0, 1) := by decide +kernel
theorem dX1_onPath_1 : decode cX1_onPath 1 = .ok (.istore_n 2, 1) := by decide +kernel
theorem dX1_onPath_2 : decode cX1_onPath 2 = .ok (.iload_n 2, 1) := by decide +kernel
theorem dX1_onPath_3 : decode cX1_onPath 3 = .ok (.aload_n 0, 1) := by decide +kernel
theorem dX1_onPath_4 : decode cX1_onPath 4 = .ok (.getfield 39, 3) := by decide +kernel
theorem dX1_onPath_7 : decode cX1_onPath 7 = .ok (.if_icmp .ge 21, 3) := by decide +kernel
theorem dX1_onPath_10 : decode cX1_onPath 10 = .ok (.aload_n 0, 1) := by decide +kernel
theorem dX1_onPath_11 : decode cX1_onPath 11 = .ok (.getfield 20, 3) := by decide +kernel
theorem dX1_onPath_14 : decode cX1_onPath 14 = .ok (.iload_n 2, 1) := by decide +kernel
theorem dX1_onPath_15 : decode cX1_onPath 15 = .ok (.iaload, 1) := by decide +kernel
theorem dX1_onPath_16 : decode cX1_onPath 16 = .ok (.iload_n 1, 1) := by decide +kernel
theorem dX1_onPath_17 : decode cX1_onPath 17 = .ok (.if_icmp .ne 5, 3) := by decide +kernel
theorem dX1_onPath_20 : decode cX1_onPath 20 = .ok (.iconst 1, 1) := by decide +kernel
theorem dX1_onPath_21 : decode cX1_onPath 21 = .ok (.ireturn, 1) := by decide +kernel
theorem dX1_onPath_22 : decode cX1_onPath 22 = .ok (.iinc 2 1, 3) := by decide +kernel
theorem dX1_onPath_25 : decode cX1_onPath 25 = .ok (.goto (-23), 3) := by decide +kernel
theorem dX1_onPath_28 : decode cX1_onPath 28 = .ok (.iconst 0, 1) := by decide +kernel
theorem dX1_onPath_29 : decode cX1_onPath 29 = .ok (.ireturn, 1) := by decide +kernel
theorem dX1_length_0 : decode cX1_length 0 = .ok (.aload_n 0, 1) := by decide +kernel
theorem dX1_length_1 : decode cX1_length 1 = .ok (.iconst (-1), 1) := by decide +kernel
theorem dX1_length_2 : decode cX1_length 2 = .ok (.iconst (-1), 1) := by decide +kernel
theorem dX1_length_3 : decode cX1_length 3 = .ok (.invokevirtual 79, 3) := by decide +kernel
theorem dX1_length_6 : decode cX1_length 6 = .ok (.iload_n 1, 1) := by decide +kernel
theorem dX1_length_7 : decode cX1_length 7 = .ok (.ifCond .lt 20, 3) := by decide +kernel
theorem dX1_length_10 : decode cX1_length 10 = .ok (.iload_n 1, 1) := by decide +kernel
theorem dX1_length_11 : decode cX1_length 11 = .ok (.aload_n 0, 1) := by decide +kernel
theorem dX1_length_12 : decode cX1_length 12 = .ok (.getfield 46, 3) := by decide +kernel
theorem dX1_length_15 : decode cX1_length 15 = .ok (.if_icmp .ge 12, 3) := by decide +kernel
theorem dX1_length_18 : decode cX1_length 18 = .ok (.aload_n 0, 1) := by decide +kernel
theorem dX1_length_19 : decode cX1_length 19 = .ok (.getfield 26, 3) := by decide +kernel
theorem dX1_length_22 : decode cX1_length 22 = .ok (.iload_n 1, 1) := by decide +kernel
theorem dX1_length_23 : decode cX1_length 23 = .ok (.iaload, 1) := by decide +kernel
theorem dX1_length_24 : decode cX1_length 24 = .ok (.goto 5, 3) := by decide +kernel
theorem dX1_length_27 : decode cX1_length 27 = .ok (.bipush (-2), 2) := by decide +kernel
theorem dX1_length_29 : decode cX1_length 29 = .ok (.ireturn, 1) := by decide +kernel
theorem dX1_size_0 : decode cX1_size 0 = .ok (.aload_n 0, 1) := by decide +kernel
theorem dX1_size_1 : decode cX1_size 1 = .ok (.iconst (-1), 1) := by decide +kernel
theorem dX1_size_2 : decode cX1_size 2 = .ok (.iconst (-1), 1) := by decide +kernel
theorem dX1_size_3 : decode cX1_size 3 = .ok (.invokevirtual 79, 3) := by decide +kernel
theorem dX1_size_6 : decode cX1_size 6 = .ok (.iload_n 1, 1) := by decide +kernel
theorem dX1_size_7 : decode cX1_size 7 = .ok (.ifCond .lt 20, 3) := by decide +kernel
theorem dX1_size_10 : decode cX1_size 10 = .ok (.iload_n 1, 1) := by decide +kernel
theorem dX1_size_11 : decode cX1_size 11 = .ok (.aload_n 0, 1) := by decide +kernel
theorem dX1_size_12 : decode cX1_size 12 = .ok (.getfield 46, 3) := by decide +kernel
theorem dX1_size_15 : decode cX1_size 15 = .ok (.if_icmp .ge 12, 3) := by decide +kernel
theorem dX1_size_18 : decode cX1_size 18 = .ok (.aload_n 0, 1) := by decide +kernel
theorem dX1_size_19 : decode cX1_size 19 = .ok (.getfield 29, 3) := by decide +kernel
theorem dX1_size_22 : decode cX1_size 22 = .ok (.iload_n 1, 1) := by decide +kernel
theorem dX1_size_23 : decode cX1_size 23 = .ok (.iaload, 1) := by decide +kernel
theorem dX1_size_24 : decode cX1_size 24 = .ok (.goto 5, 3) := by decide +kernel
theorem dX1_size_27 : decode cX1_size 27 = .ok (.bipush (-2), 2) := by decide +kernel
theorem dX1_size_29 : decode cX1_size 29 = .ok (.ireturn, 1) := by decide +kernel
theorem dX1_vertex_0 : decode cX1_vertex 0 = .ok (.aload_n 0, 1) := by decide +kernel
theorem dX1_vertex_1 : decode cX1_vertex 1 = .ok (.iconst (-1), 1) := by decide +kernel
theorem dX1_vertex_2 : decode cX1_vertex 2 = .ok (.iconst (-1), 1) := by decide +kernel
theorem dX1_vertex_3 : decode cX1_vertex 3 = .ok (.invokevirtual 79, 3) := by decide +kernel
theorem dX1_vertex_6 : decode cX1_vertex 6 = .ok (.iload_n 1, 1) := by decide +kernel
theorem dX1_vertex_7 : decode cX1_vertex 7 = .ok (.ifCond .lt 39, 3) := by decide +kernel
theorem dX1_vertex_10 : decode cX1_vertex 10 = .ok (.iload_n 1, 1) := by decide +kernel
theorem dX1_vertex_11 : decode cX1_vertex 11 = .ok (.aload_n 0, 1) := by decide +kernel
theorem dX1_vertex_12 : decode cX1_vertex 12 = .ok (.getfield 46, 3) := by decide +kernel
theorem dX1_vertex_15 : decode cX1_vertex 15 = .ok (.if_icmp .ge 31, 3) := by decide +kernel
theorem dX1_vertex_18 : decode cX1_vertex 18 = .ok (.iload_n 2, 1) := by decide +kernel
theorem dX1_vertex_19 : decode cX1_vertex 19 = .ok (.ifCond .lt 27, 3) := by decide +kernel
theorem dX1_vertex_22 : decode cX1_vertex 22 = .ok (.iload_n 2, 1) := by decide +kernel
theorem dX1_vertex_23 : decode cX1_vertex 23 = .ok (.aload_n 0, 1) := by decide +kernel
theorem dX1_vertex_24 : decode cX1_vertex 24 = .ok (.getfield 29, 3) := by decide +kernel
theorem dX1_vertex_27 : decode cX1_vertex 27 = .ok (.iload_n 1, 1) := by decide +kernel
theorem dX1_vertex_28 : decode cX1_vertex 28 = .ok (.iaload, 1) := by decide +kernel
theorem dX1_vertex_29 : decode cX1_vertex 29 = .ok (.if_icmp .ge 17, 3) := by decide +kernel
theorem dX1_vertex_32 : decode cX1_vertex 32 = .ok (.aload_n 0, 1) := by decide +kernel
theorem dX1_vertex_33 : decode cX1_vertex 33 = .ok (.getfield 32, 3) := by decide +kernel
theorem dX1_vertex_36 : decode cX1_vertex 36 = .ok (.bipush 7, 2) := by decide +kernel
theorem dX1_vertex_38 : decode cX1_vertex 38 = .ok (.iload_n 1, 1) := by decide +kernel
theorem dX1_vertex_39 : decode cX1_vertex 39 = .ok (.imul, 1) := by decide +kernel
theorem dX1_vertex_40 : decode cX1_vertex 40 = .ok (.iload_n 2, 1) := by decide +kernel
theorem dX1_vertex_41 : decode cX1_vertex 41 = .ok (.iadd, 1) := by decide +kernel
theorem dX1_vertex_42 : decode cX1_vertex 42 = .ok (.iaload, 1) := by decide +kernel
theorem dX1_vertex_43 : decode cX1_vertex 43 = .ok (.goto 5, 3) := by decide +kernel
theorem dX1_vertex_46 : decode cX1_vertex 46 = .ok (.bipush (-2), 2) := by decide +kernel
theorem dX1_vertex_48 : decode cX1_vertex 48 = .ok (.ireturn, 1) := by decide +kernel
theorem dX1_passing_0 : decode cX1_passing 0 = .ok (.aload_n 0, 1) := by decide +kernel
theorem dX1_passing_1 : decode cX1_passing 1 = .ok (.iload_n 1, 1) := by decide +kernel
theorem dX1_passing_2 : decode cX1_passing 2 = .ok (.invokevirtual 35, 3) := by decide +kernel
theorem dX1_passing_5 : decode cX1_passing 5 = .ok (.ifCond .eq 11, 3) := by decide +kernel
theorem dX1_passing_8 : decode cX1_passing 8 = .ok (.aload_n 0, 1) := by decide +kernel
theorem dX1_passing_9 : decode cX1_passing 9 = .ok (.iload_n 2, 1) := by decide +kernel
theorem dX1_passing_10 : decode cX1_passing 10 = .ok (.invokevirtual 35, 3) := by decide +kernel
theorem dX1_passing_13 : decode cX1_passing 13 = .ok (.ifCond .ne 5, 3) := by decide +kernel
theorem dX1_passing_16 : decode cX1_passing 16 = .ok (.iconst (-1), 1) := by decide +kernel
theorem dX1_passing_17 : decode cX1_passing 17 = .ok (.ireturn, 1) := by decide +kernel
theorem dX1_passing_18 : decode cX1_passing 18 = .ok (.aload_n 0, 1) := by decide +kernel
theorem dX1_passing_19 : decode cX1_passing 19 = .ok (.iconst (-1), 1) := by decide +kernel
theorem dX1_passing_20 : decode cX1_passing 20 = .ok (.iconst (-1), 1) := by decide +kernel
theorem dX1_passing_21 : decode cX1_passing 21 = .ok (.invokevirtual 79, 3) := by decide +kernel
theorem dX1_passing_24 : decode cX1_passing 24 = .ok (.iconst 0, 1) := by decide +kernel
theorem dX1_passing_25 : decode cX1_passing 25 = .ok (.istore_n 3, 1) := by decide +kernel
theorem dX1_passing_26 : decode cX1_passing 26 = .ok (.iconst 0, 1) := by decide +kernel
theorem dX1_passing_27 : decode cX1_passing 27 = .ok (.istore 4, 2) := by decide +kernel
theorem dX1_passing_29 : decode cX1_passing 29 = .ok (.iload 4, 2) := by decide +kernel
theorem dX1_passing_31 : decode cX1_passing 31 = .ok (.aload_n 0, 1) := by decide +kernel
theorem dX1_passing_32 : decode cX1_passing 32 = .ok (.getfield 46, 3) := by decide +kernel
theorem dX1_passing_35 : decode cX1_passing 35 = .ok (.if_icmp .ge 23, 3) := by decide +kernel
theorem dX1_passing_38 : decode cX1_passing 38 = .ok (.aload_n 0, 1) := by decide +kernel
theorem dX1_passing_39 : decode cX1_passing 39 = .ok (.iload 4, 2) := by decide +kernel
theorem dX1_passing_41 : decode cX1_passing 41 = .ok (.iload_n 1, 1) := by decide +kernel
theorem dX1_passing_42 : decode cX1_passing 42 = .ok (.iload_n 2, 1) := by decide +kernel
theorem dX1_passing_43 : decode cX1_passing 43 = .ok (.invokevirtual 82, 3) := by decide +kernel
theorem dX1_passing_46 : decode cX1_passing 46 = .ok (.ifCond .eq 6, 3) := by decide +kernel
theorem dX1_passing_49 : decode cX1_passing 49 = .ok (.iinc 3 1, 3) := by decide +kernel
theorem dX1_passing_52 : decode cX1_passing 52 = .ok (.iinc 4 1, 3) := by decide +kernel
theorem dX1_passing_55 : decode cX1_passing 55 = .ok (.goto (-26), 3) := by decide +kernel
theorem dX1_passing_58 : decode cX1_passing 58 = .ok (.iload_n 3, 1) := by decide +kernel
theorem dX1_passing_59 : decode cX1_passing 59 = .ok (.ireturn, 1) := by decide +kernel
theorem dX1_keptPasses_0 : decode cX1_keptPasses 0 = .ok (.iconst 1, 1) := by decide +kernel
theorem dX1_keptPasses_1 : decode cX1_keptPasses 1 = .ok (.istore 4, 2) := by decide +kernel
theorem dX1_keptPasses_3 : decode cX1_keptPasses 3 = .ok (.iload 4, 2) := by decide +kernel
theorem dX1_keptPasses_5 : decode cX1_keptPasses 5 = .ok (.aload_n 0, 1) := by decide +kernel
theorem dX1_keptPasses_6 : decode cX1_keptPasses 6 = .ok (.getfield 29, 3) := by decide +kernel
theorem dX1_keptPasses_9 : decode cX1_keptPasses 9 = .ok (.iload_n 1, 1) := by decide +kernel
theorem dX1_keptPasses_10 : decode cX1_keptPasses 10 = .ok (.iaload, 1) := by decide +kernel
theorem dX1_keptPasses_11 : decode cX1_keptPasses 11 = .ok (.if_icmp .ge 45, 3) := by decide +kernel
theorem dX1_keptPasses_14 : decode cX1_keptPasses 14 = .ok (.aload_n 0, 1) := by decide +kernel
theorem dX1_keptPasses_15 : decode cX1_keptPasses 15 = .ok (.getfield 32, 3) := by decide +kernel
theorem dX1_keptPasses_18 : decode cX1_keptPasses 18 = .ok (.bipush 7, 2) := by decide +kernel
theorem dX1_keptPasses_20 : decode cX1_keptPasses 20 = .ok (.iload_n 1, 1) := by decide +kernel
theorem dX1_keptPasses_21 : decode cX1_keptPasses 21 = .ok (.imul, 1) := by decide +kernel
theorem dX1_keptPasses_22 : decode cX1_keptPasses 22 = .ok (.iload 4, 2) := by decide +kernel
theorem dX1_keptPasses_24 : decode cX1_keptPasses 24 = .ok (.iadd, 1) := by decide +kernel
theorem dX1_keptPasses_25 : decode cX1_keptPasses 25 = .ok (.iconst 1, 1) := by decide +kernel
theorem dX1_keptPasses_26 : decode cX1_keptPasses 26 = .ok (.isub, 1) := by decide +kernel
theorem dX1_keptPasses_27 : decode cX1_keptPasses 27 = .ok (.iaload, 1) := by decide +kernel
theorem dX1_keptPasses_28 : decode cX1_keptPasses 28 = .ok (.iload_n 2, 1) := by decide +kernel
theorem dX1_keptPasses_29 : decode cX1_keptPasses 29 = .ok (.if_icmp .ne 21, 3) := by decide +kernel
theorem dX1_keptPasses_32 : decode cX1_keptPasses 32 = .ok (.aload_n 0, 1) := by decide +kernel
theorem dX1_keptPasses_33 : decode cX1_keptPasses 33 = .ok (.getfield 32, 3) := by decide +kernel
theorem dX1_keptPasses_36 : decode cX1_keptPasses 36 = .ok (.bipush 7, 2) := by decide +kernel
theorem dX1_keptPasses_38 : decode cX1_keptPasses 38 = .ok (.iload_n 1, 1) := by decide +kernel
theorem dX1_keptPasses_39 : decode cX1_keptPasses 39 = .ok (.imul, 1) := by decide +kernel
theorem dX1_keptPasses_40 : decode cX1_keptPasses 40 = .ok (.iload 4, 2) := by decide +kernel
theorem dX1_keptPasses_42 : decode cX1_keptPasses 42 = .ok (.iadd, 1) := by decide +kernel
theorem dX1_keptPasses_43 : decode cX1_keptPasses 43 = .ok (.iaload, 1) := by decide +kernel
theorem dX1_keptPasses_44 : decode cX1_keptPasses 44 = .ok (.iload_n 3, 1) := by decide +kernel
theorem dX1_keptPasses_45 : decode cX1_keptPasses 45 = .ok (.if_icmp .ne 5, 3) := by decide +kernel
theorem dX1_keptPasses_48 : decode cX1_keptPasses 48 = .ok (.iconst 1, 1) := by decide +kernel
theorem dX1_keptPasses_49 : decode cX1_keptPasses 49 = .ok (.ireturn, 1) := by decide +kernel
theorem dX1_keptPasses_50 : decode cX1_keptPasses 50 = .ok (.iinc 4 1, 3) := by decide +kernel
theorem dX1_keptPasses_53 : decode cX1_keptPasses 53 = .ok (.goto (-50), 3) := by decide +kernel
theorem dX1_keptPasses_56 : decode cX1_keptPasses 56 = .ok (.iconst 0, 1) := by decide +kernel
theorem dX1_keptPasses_57 : decode cX1_keptPasses 57 = .ok (.ireturn, 1) := by decide +kernel
theorem dX1_avoiding_0 : decode cX1_avoiding 0 = .ok (.aload_n 0, 1) := by decide +kernel
theorem dX1_avoiding_1 : decode cX1_avoiding 1 = .ok (.iload_n 1, 1) := by decide +kernel
theorem dX1_avoiding_2 : decode cX1_avoiding 2 = .ok (.invokevirtual 35, 3) := by decide +kernel
theorem dX1_avoiding_5 : decode cX1_avoiding 5 = .ok (.ifCond .eq 11, 3) := by decide +kernel
theorem dX1_avoiding_8 : decode cX1_avoiding 8 = .ok (.aload_n 0, 1) := by decide +kernel
theorem dX1_avoiding_9 : decode cX1_avoiding 9 = .ok (.iload_n 2, 1) := by decide +kernel
theorem dX1_avoiding_10 : decode cX1_avoiding 10 = .ok (.invokevirtual 35, 3) := by decide +kernel
theorem dX1_avoiding_13 : decode cX1_avoiding 13 = .ok (.ifCond .ne 5, 3) := by decide +kernel
theorem dX1_avoiding_16 : decode cX1_avoiding 16 = .ok (.iconst (-1), 1) := by decide +kernel
theorem dX1_avoiding_17 : decode cX1_avoiding 17 = .ok (.ireturn, 1) := by decide +kernel
theorem dX1_avoiding_18 : decode cX1_avoiding 18 = .ok (.aload_n 0, 1) := by decide +kernel
theorem dX1_avoiding_19 : decode cX1_avoiding 19 = .ok (.iload_n 1, 1) := by decide +kernel
theorem dX1_avoiding_20 : decode cX1_avoiding 20 = .ok (.iload_n 2, 1) := by decide +kernel
theorem dX1_avoiding_21 : decode cX1_avoiding 21 = .ok (.invokevirtual 79, 3) := by decide +kernel
theorem dX1_avoiding_24 : decode cX1_avoiding 24 = .ok (.aload_n 0, 1) := by decide +kernel
theorem dX1_avoiding_25 : decode cX1_avoiding 25 = .ok (.getfield 63, 3) := by decide +kernel
theorem dX1_avoiding_28 : decode cX1_avoiding 28 = .ok (.ireturn, 1) := by decide +kernel
theorem dX1_unavoidable_0 : decode cX1_unavoidable 0 = .ok (.aload_n 0, 1) := by decide +kernel
theorem dX1_unavoidable_1 : decode cX1_unavoidable 1 = .ok (.iconst (-1), 1) := by decide +kernel
theorem dX1_unavoidable_2 : decode cX1_unavoidable 2 = .ok (.iconst (-1), 1) := by decide +kernel
theorem dX1_unavoidable_3 : decode cX1_unavoidable 3 = .ok (.invokevirtual 79, 3) := by decide +kernel
theorem dX1_unavoidable_6 : decode cX1_unavoidable 6 = .ok (.aload_n 0, 1) := by decide +kernel
theorem dX1_unavoidable_7 : decode cX1_unavoidable 7 = .ok (.getfield 57, 3) := by decide +kernel
theorem dX1_unavoidable_10 : decode cX1_unavoidable 10 = .ok (.ireturn, 1) := by decide +kernel
end
section
/-! the law's own entry -/
set_option maxRecDepth 100000
abbrev cL_law : ByteArray := code
end
section
set_option maxRecDepth 100000
theorem dL_law_0 : decode cL_law 0 = .ok (.new 7, 3) := by decide +kernel
theorem dL_law_3 : decode cL_law 3 = .ok (.dup, 1) := by decide +kernel
theorem dL_law_4 : decode cL_law 4 = .ok (.invokespecial 9, 3) := by decide +kernel
theorem dL_law_7 : decode cL_law 7 = .ok (.astore_n 1, 1) := by decide +kernel
theorem dL_law_8 : decode cL_law 8 = .ok (.new 10, 3) := by decide +kernel
theorem dL_law_11 : decode cL_law 11 = .ok (.dup, 1) := by decide +kernel
theorem dL_law_12 : decode cL_law 12 = .ok (.invokespecial 12, 3) := by decide +kernel
theorem dL_law_15 : decode cL_law 15 = .ok (.astore_n 2, 1) := by decide +kernel
theorem dL_law_16 : decode cL_law 16 = .ok (.iconst 0, 1) := by decide +kernel
theorem dL_law_17 : decode cL_law 17 = .ok (.istore_n 3, 1) := by decide +kernel
theorem dL_law_18 : decode cL_law 18 = .ok (.iload_n 3, 1) := by decide +kernel
theorem dL_law_19 : decode cL_law 19 = .ok (.aload_n 0, 1) := by decide +kernel
theorem dL_law_20 : decode cL_law 20 = .ok (.arraylength, 1) := by decide +kernel
theorem dL_law_21 : decode cL_law 21 = .ok (.iconst 4, 1) := by decide +kernel
theorem dL_law_22 : decode cL_law 22 = .ok (.isub, 1) := by decide +kernel
theorem dL_law_23 : decode cL_law 23 = .ok (.if_icmp .gt 351, 3) := by decide +kernel
theorem dL_law_26 : decode cL_law 26 = .ok (.aload_n 0, 1) := by decide +kernel
theorem dL_law_27 : decode cL_law 27 = .ok (.iload_n 3, 1) := by decide +kernel
theorem dL_law_28 : decode cL_law 28 = .ok (.iaload, 1) := by decide +kernel
theorem dL_law_29 : decode cL_law 29 = .ok (.bipush 15, 2) := by decide +kernel
theorem dL_law_31 : decode cL_law 31 = .ok (.iand, 1) := by decide +kernel
theorem dL_law_32 : decode cL_law 32 = .ok (.tableswitch 336 0 9 #[56, 99, 132, 165, 178, 201, 224, 257, 290, 323], 56) := by decide +kernel
theorem dL_law_88 : decode cL_law 88 = .ok (.aload_n 1, 1) := by decide +kernel
theorem dL_law_89 : decode cL_law 89 = .ok (.aload_n 0, 1) := by decide +kernel
theorem dL_law_90 : decode cL_law 90 = .ok (.iload_n 3, 1) := by decide +kernel
theorem dL_law_91 : decode cL_law 91 = .ok (.iconst 1, 1) := by decide +kernel
theorem dL_law_92 : decode cL_law 92 = .ok (.iadd, 1) := by decide +kernel
theorem dL_law_93 : decode cL_law 93 = .ok (.iaload, 1) := by decide +kernel
theorem dL_law_94 : decode cL_law 94 = .ok (.aload_n 0, 1) := by decide +kernel
theorem dL_law_95 : decode cL_law 95 = .ok (.iload_n 3, 1) := by decide +kernel
theorem dL_law_96 : decode cL_law 96 = .ok (.iconst 2, 1) := by decide +kernel
theorem dL_law_97 : decode cL_law 97 = .ok (.iadd, 1) := by decide +kernel
theorem dL_law_98 : decode cL_law 98 = .ok (.iaload, 1) := by decide +kernel
theorem dL_law_99 : decode cL_law 99 = .ok (.aload_n 0, 1) := by decide +kernel
theorem dL_law_100 : decode cL_law 100 = .ok (.iload_n 3, 1) := by decide +kernel
theorem dL_law_101 : decode cL_law 101 = .ok (.iconst 3, 1) := by decide +kernel
theorem dL_law_102 : decode cL_law 102 = .ok (.iadd, 1) := by decide +kernel
theorem dL_law_103 : decode cL_law 103 = .ok (.iaload, 1) := by decide +kernel
theorem dL_law_104 : decode cL_law 104 = .ok (.invokevirtual 13, 3) := by decide +kernel
theorem dL_law_107 : decode cL_law 107 = .ok (.aload_n 2, 1) := by decide +kernel
theorem dL_law_108 : decode cL_law 108 = .ok (.aload_n 0, 1) := by decide +kernel
theorem dL_law_109 : decode cL_law 109 = .ok (.iload_n 3, 1) := by decide +kernel
theorem dL_law_110 : decode cL_law 110 = .ok (.iconst 1, 1) := by decide +kernel
theorem dL_law_111 : decode cL_law 111 = .ok (.iadd, 1) := by decide +kernel
theorem dL_law_112 : decode cL_law 112 = .ok (.iaload, 1) := by decide +kernel
theorem dL_law_113 : decode cL_law 113 = .ok (.aload_n 0, 1) := by decide +kernel
theorem dL_law_114 : decode cL_law 114 = .ok (.iload_n 3, 1) := by decide +kernel
theorem dL_law_115 : decode cL_law 115 = .ok (.iconst 2, 1) := by decide +kernel
theorem dL_law_116 : decode cL_law 116 = .ok (.iadd, 1) := by decide +kernel
theorem dL_law_117 : decode cL_law 117 = .ok (.iaload, 1) := by decide +kernel
theorem dL_law_118 : decode cL_law 118 = .ok (.aload_n 0, 1) := by decide +kernel
theorem dL_law_119 : decode cL_law 119 = .ok (.iload_n 3, 1) := by decide +kernel
theorem dL_law_120 : decode cL_law 120 = .ok (.iconst 3, 1) := by decide +kernel
theorem dL_law_121 : decode cL_law 121 = .ok (.iadd, 1) := by decide +kernel
theorem dL_law_122 : decode cL_law 122 = .ok (.iaload, 1) := by decide +kernel
theorem dL_law_123 : decode cL_law 123 = .ok (.invokevirtual 17, 3) := by decide +kernel
theorem dL_law_126 : decode cL_law 126 = .ok (.if_icmp .eq 242, 3) := by decide +kernel
theorem dL_law_129 : decode cL_law 129 = .ok (.iconst 0, 1) := by decide +kernel
theorem dL_law_130 : decode cL_law 130 = .ok (.ireturn, 1) := by decide +kernel
theorem dL_law_131 : decode cL_law 131 = .ok (.aload_n 1, 1) := by decide +kernel
theorem dL_law_132 : decode cL_law 132 = .ok (.aload_n 0, 1) := by decide +kernel
theorem dL_law_133 : decode cL_law 133 = .ok (.iload_n 3, 1) := by decide +kernel
theorem dL_law_134 : decode cL_law 134 = .ok (.iconst 1, 1) := by decide +kernel
theorem dL_law_135 : decode cL_law 135 = .ok (.iadd, 1) := by decide +kernel
theorem dL_law_136 : decode cL_law 136 = .ok (.iaload, 1) := by decide +kernel
theorem dL_law_137 : decode cL_law 137 = .ok (.aload_n 0, 1) := by decide +kernel
theorem dL_law_138 : decode cL_law 138 = .ok (.iload_n 3, 1) := by decide +kernel
theorem dL_law_139 : decode cL_law 139 = .ok (.iconst 2, 1) := by decide +kernel
theorem dL_law_140 : decode cL_law 140 = .ok (.iadd, 1) := by decide +kernel
theorem dL_law_141 : decode cL_law 141 = .ok (.iaload, 1) := by decide +kernel
theorem dL_law_142 : decode cL_law 142 = .ok (.invokevirtual 18, 3) := by decide +kernel
theorem dL_law_145 : decode cL_law 145 = .ok (.aload_n 2, 1) := by decide +kernel
theorem dL_law_146 : decode cL_law 146 = .ok (.aload_n 0, 1) := by decide +kernel
theorem dL_law_147 : decode cL_law 147 = .ok (.iload_n 3, 1) := by decide +kernel
theorem dL_law_148 : decode cL_law 148 = .ok (.iconst 1, 1) := by decide +kernel
theorem dL_law_149 : decode cL_law 149 = .ok (.iadd, 1) := by decide +kernel
theorem dL_law_150 : decode cL_law 150 = .ok (.iaload, 1) := by decide +kernel
theorem dL_law_151 : decode cL_law 151 = .ok (.aload_n 0, 1) := by decide +kernel
theorem dL_law_152 : decode cL_law 152 = .ok (.iload_n 3, 1) := by decide +kernel
theorem dL_law_153 : decode cL_law 153 = .ok (.iconst 2, 1) := by decide +kernel
theorem dL_law_154 : decode cL_law 154 = .ok (.iadd, 1) := by decide +kernel
theorem dL_law_155 : decode cL_law 155 = .ok (.iaload, 1) := by decide +kernel
theorem dL_law_156 : decode cL_law 156 = .ok (.invokevirtual 22, 3) := by decide +kernel
theorem dL_law_159 : decode cL_law 159 = .ok (.if_icmp .eq 209, 3) := by decide +kernel
theorem dL_law_162 : decode cL_law 162 = .ok (.iconst 0, 1) := by decide +kernel
theorem dL_law_163 : decode cL_law 163 = .ok (.ireturn, 1) := by decide +kernel
theorem dL_law_164 : decode cL_law 164 = .ok (.aload_n 1, 1) := by decide +kernel
theorem dL_law_165 : decode cL_law 165 = .ok (.aload_n 0, 1) := by decide +kernel
theorem dL_law_166 : decode cL_law 166 = .ok (.iload_n 3, 1) := by decide +kernel
theorem dL_law_167 : decode cL_law 167 = .ok (.iconst 1, 1) := by decide +kernel
theorem dL_law_168 : decode cL_law 168 = .ok (.iadd, 1) := by decide +kernel
theorem dL_law_169 : decode cL_law 169 = .ok (.iaload, 1) := by decide +kernel
theorem dL_law_170 : decode cL_law 170 = .ok (.aload_n 0, 1) := by decide +kernel
theorem dL_law_171 : decode cL_law 171 = .ok (.iload_n 3, 1) := by decide +kernel
theorem dL_law_172 : decode cL_law 172 = .ok (.iconst 2, 1) := by decide +kernel
theorem dL_law_173 : decode cL_law 173 = .ok (.iadd, 1) := by decide +kernel
theorem dL_law_174 : decode cL_law 174 = .ok (.iaload, 1) := by decide +kernel
theorem dL_law_175 : decode cL_law 175 = .ok (.invokevirtual 23, 3) := by decide +kernel
theorem dL_law_178 : decode cL_law 178 = .ok (.aload_n 2, 1) := by decide +kernel
theorem dL_law_179 : decode cL_law 179 = .ok (.aload_n 0, 1) := by decide +kernel
theorem dL_law_180 : decode cL_law 180 = .ok (.iload_n 3, 1) := by decide +kernel
theorem dL_law_181 : decode cL_law 181 = .ok (.iconst 1, 1) := by decide +kernel
theorem dL_law_182 : decode cL_law 182 = .ok (.iadd, 1) := by decide +kernel
theorem dL_law_183 : decode cL_law 183 = .ok (.iaload, 1) := by decide +kernel
theorem dL_law_184 : decode cL_law 184 = .ok (.aload_n 0, 1) := by decide +kernel
theorem dL_law_185 : decode cL_law 185 = .ok (.iload_n 3, 1) := by decide +kernel
theorem dL_law_186 : decode cL_law 186 = .ok (.iconst 2, 1) := by decide +kernel
theorem dL_law_187 : decode cL_law 187 = .ok (.iadd, 1) := by decide +kernel
theorem dL_law_188 : decode cL_law 188 = .ok (.iaload, 1) := by decide +kernel
theorem dL_law_189 : decode cL_law 189 = .ok (.invokevirtual 27, 3) := by decide +kernel
theorem dL_law_192 : decode cL_law 192 = .ok (.if_icmp .eq 176, 3) := by decide +kernel
theorem dL_law_195 : decode cL_law 195 = .ok (.iconst 0, 1) := by decide +kernel
theorem dL_law_196 : decode cL_law 196 = .ok (.ireturn, 1) := by decide +kernel
theorem dL_law_197 : decode cL_law 197 = .ok (.aload_n 1, 1) := by decide +kernel
theorem dL_law_198 : decode cL_law 198 = .ok (.invokevirtual 28, 3) := by decide +kernel
theorem dL_law_201 : decode cL_law 201 = .ok (.aload_n 2, 1) := by decide +kernel
theorem dL_law_202 : decode cL_law 202 = .ok (.invokevirtual 32, 3) := by decide +kernel
theorem dL_law_205 : decode cL_law 205 = .ok (.if_icmp .eq 163, 3) := by decide +kernel
theorem dL_law_208 : decode cL_law 208 = .ok (.iconst 0, 1) := by decide +kernel
theorem dL_law_209 : decode cL_law 209 = .ok (.ireturn, 1) := by decide +kernel
theorem dL_law_210 : decode cL_law 210 = .ok (.aload_n 1, 1) := by decide +kernel
theorem dL_law_211 : decode cL_law 211 = .ok (.aload_n 0, 1) := by decide +kernel
theorem dL_law_212 : decode cL_law 212 = .ok (.iload_n 3, 1) := by decide +kernel
theorem dL_law_213 : decode cL_law 213 = .ok (.iconst 1, 1) := by decide +kernel
theorem dL_law_214 : decode cL_law 214 = .ok (.iadd, 1) := by decide +kernel
theorem dL_law_215 : decode cL_law 215 = .ok (.iaload, 1) := by decide +kernel
theorem dL_law_216 : decode cL_law 216 = .ok (.invokevirtual 33, 3) := by decide +kernel
theorem dL_law_219 : decode cL_law 219 = .ok (.aload_n 2, 1) := by decide +kernel
theorem dL_law_220 : decode cL_law 220 = .ok (.aload_n 0, 1) := by decide +kernel
theorem dL_law_221 : decode cL_law 221 = .ok (.iload_n 3, 1) := by decide +kernel
theorem dL_law_222 : decode cL_law 222 = .ok (.iconst 1, 1) := by decide +kernel
theorem dL_law_223 : decode cL_law 223 = .ok (.iadd, 1) := by decide +kernel
theorem dL_law_224 : decode cL_law 224 = .ok (.iaload, 1) := by decide +kernel
theorem dL_law_225 : decode cL_law 225 = .ok (.invokevirtual 37, 3) := by decide +kernel
theorem dL_law_228 : decode cL_law 228 = .ok (.if_icmp .eq 140, 3) := by decide +kernel
theorem dL_law_231 : decode cL_law 231 = .ok (.iconst 0, 1) := by decide +kernel
theorem dL_law_232 : decode cL_law 232 = .ok (.ireturn, 1) := by decide +kernel
theorem dL_law_233 : decode cL_law 233 = .ok (.aload_n 1, 1) := by decide +kernel
theorem dL_law_234 : decode cL_law 234 = .ok (.aload_n 0, 1) := by decide +kernel
theorem dL_law_235 : decode cL_law 235 = .ok (.iload_n 3, 1) := by decide +kernel
theorem dL_law_236 : decode cL_law 236 = .ok (.iconst 1, 1) := by decide +kernel
theorem dL_law_237 : decode cL_law 237 = .ok (.iadd, 1) := by decide +kernel
theorem dL_law_238 : decode cL_law 238 = .ok (.iaload, 1) := by decide +kernel
theorem dL_law_239 : decode cL_law 239 = .ok (.invokevirtual 38, 3) := by decide +kernel
theorem dL_law_242 : decode cL_law 242 = .ok (.aload_n 2, 1) := by decide +kernel
theorem dL_law_243 : decode cL_law 243 = .ok (.aload_n 0, 1) := by decide +kernel
theorem dL_law_244 : decode cL_law 244 = .ok (.iload_n 3, 1) := by decide +kernel
theorem dL_law_245 : decode cL_law 245 = .ok (.iconst 1, 1) := by decide +kernel
theorem dL_law_246 : decode cL_law 246 = .ok (.iadd, 1) := by decide +kernel
theorem dL_law_247 : decode cL_law 247 = .ok (.iaload, 1) := by decide +kernel
theorem dL_law_248 : decode cL_law 248 = .ok (.invokevirtual 41, 3) := by decide +kernel
theorem dL_law_251 : decode cL_law 251 = .ok (.if_icmp .eq 117, 3) := by decide +kernel
theorem dL_law_254 : decode cL_law 254 = .ok (.iconst 0, 1) := by decide +kernel
theorem dL_law_255 : decode cL_law 255 = .ok (.ireturn, 1) := by decide +kernel
theorem dL_law_256 : decode cL_law 256 = .ok (.aload_n 1, 1) := by decide +kernel
theorem dL_law_257 : decode cL_law 257 = .ok (.aload_n 0, 1) := by decide +kernel
theorem dL_law_258 : decode cL_law 258 = .ok (.iload_n 3, 1) := by decide +kernel
theorem dL_law_259 : decode cL_law 259 = .ok (.iconst 1, 1) := by decide +kernel
theorem dL_law_260 : decode cL_law 260 = .ok (.iadd, 1) := by decide +kernel
theorem dL_law_261 : decode cL_law 261 = .ok (.iaload, 1) := by decide +kernel
theorem dL_law_262 : decode cL_law 262 = .ok (.aload_n 0, 1) := by decide +kernel
theorem dL_law_263 : decode cL_law 263 = .ok (.iload_n 3, 1) := by decide +kernel
theorem dL_law_264 : decode cL_law 264 = .ok (.iconst 2, 1) := by decide +kernel
theorem dL_law_265 : decode cL_law 265 = .ok (.iadd, 1) := by decide +kernel
theorem dL_law_266 : decode cL_law 266 = .ok (.iaload, 1) := by decide +kernel
theorem dL_law_267 : decode cL_law 267 = .ok (.invokevirtual 42, 3) := by decide +kernel
theorem dL_law_270 : decode cL_law 270 = .ok (.aload_n 2, 1) := by decide +kernel
theorem dL_law_271 : decode cL_law 271 = .ok (.aload_n 0, 1) := by decide +kernel
theorem dL_law_272 : decode cL_law 272 = .ok (.iload_n 3, 1) := by decide +kernel
theorem dL_law_273 : decode cL_law 273 = .ok (.iconst 1, 1) := by decide +kernel
theorem dL_law_274 : decode cL_law 274 = .ok (.iadd, 1) := by decide +kernel
theorem dL_law_275 : decode cL_law 275 = .ok (.iaload, 1) := by decide +kernel
theorem dL_law_276 : decode cL_law 276 = .ok (.aload_n 0, 1) := by decide +kernel
theorem dL_law_277 : decode cL_law 277 = .ok (.iload_n 3, 1) := by decide +kernel
theorem dL_law_278 : decode cL_law 278 = .ok (.iconst 2, 1) := by decide +kernel
theorem dL_law_279 : decode cL_law 279 = .ok (.iadd, 1) := by decide +kernel
theorem dL_law_280 : decode cL_law 280 = .ok (.iaload, 1) := by decide +kernel
theorem dL_law_281 : decode cL_law 281 = .ok (.invokevirtual 45, 3) := by decide +kernel
theorem dL_law_284 : decode cL_law 284 = .ok (.if_icmp .eq 84, 3) := by decide +kernel
theorem dL_law_287 : decode cL_law 287 = .ok (.iconst 0, 1) := by decide +kernel
theorem dL_law_288 : decode cL_law 288 = .ok (.ireturn, 1) := by decide +kernel
theorem dL_law_289 : decode cL_law 289 = .ok (.aload_n 1, 1) := by decide +kernel
theorem dL_law_290 : decode cL_law 290 = .ok (.aload_n 0, 1) := by decide +kernel
theorem dL_law_291 : decode cL_law 291 = .ok (.iload_n 3, 1) := by decide +kernel
theorem dL_law_292 : decode cL_law 292 = .ok (.iconst 1, 1) := by decide +kernel
theorem dL_law_293 : decode cL_law 293 = .ok (.iadd, 1) := by decide +kernel
theorem dL_law_294 : decode cL_law 294 = .ok (.iaload, 1) := by decide +kernel
theorem dL_law_295 : decode cL_law 295 = .ok (.aload_n 0, 1) := by decide +kernel
theorem dL_law_296 : decode cL_law 296 = .ok (.iload_n 3, 1) := by decide +kernel
theorem dL_law_297 : decode cL_law 297 = .ok (.iconst 2, 1) := by decide +kernel
theorem dL_law_298 : decode cL_law 298 = .ok (.iadd, 1) := by decide +kernel
theorem dL_law_299 : decode cL_law 299 = .ok (.iaload, 1) := by decide +kernel
theorem dL_law_300 : decode cL_law 300 = .ok (.invokevirtual 46, 3) := by decide +kernel
theorem dL_law_303 : decode cL_law 303 = .ok (.aload_n 2, 1) := by decide +kernel
theorem dL_law_304 : decode cL_law 304 = .ok (.aload_n 0, 1) := by decide +kernel
theorem dL_law_305 : decode cL_law 305 = .ok (.iload_n 3, 1) := by decide +kernel
theorem dL_law_306 : decode cL_law 306 = .ok (.iconst 1, 1) := by decide +kernel
theorem dL_law_307 : decode cL_law 307 = .ok (.iadd, 1) := by decide +kernel
theorem dL_law_308 : decode cL_law 308 = .ok (.iaload, 1) := by decide +kernel
theorem dL_law_309 : decode cL_law 309 = .ok (.aload_n 0, 1) := by decide +kernel
theorem dL_law_310 : decode cL_law 310 = .ok (.iload_n 3, 1) := by decide +kernel
theorem dL_law_311 : decode cL_law 311 = .ok (.iconst 2, 1) := by decide +kernel
theorem dL_law_312 : decode cL_law 312 = .ok (.iadd, 1) := by decide +kernel
theorem dL_law_313 : decode cL_law 313 = .ok (.iaload, 1) := by decide +kernel
theorem dL_law_314 : decode cL_law 314 = .ok (.invokevirtual 49, 3) := by decide +kernel
theorem dL_law_317 : decode cL_law 317 = .ok (.if_icmp .eq 51, 3) := by decide +kernel
theorem dL_law_320 : decode cL_law 320 = .ok (.iconst 0, 1) := by decide +kernel
theorem dL_law_321 : decode cL_law 321 = .ok (.ireturn, 1) := by decide +kernel
theorem dL_law_322 : decode cL_law 322 = .ok (.aload_n 1, 1) := by decide +kernel
theorem dL_law_323 : decode cL_law 323 = .ok (.aload_n 0, 1) := by decide +kernel
theorem dL_law_324 : decode cL_law 324 = .ok (.iload_n 3, 1) := by decide +kernel
theorem dL_law_325 : decode cL_law 325 = .ok (.iconst 1, 1) := by decide +kernel
theorem dL_law_326 : decode cL_law 326 = .ok (.iadd, 1) := by decide +kernel
theorem dL_law_327 : decode cL_law 327 = .ok (.iaload, 1) := by decide +kernel
theorem dL_law_328 : decode cL_law 328 = .ok (.aload_n 0, 1) := by decide +kernel
theorem dL_law_329 : decode cL_law 329 = .ok (.iload_n 3, 1) := by decide +kernel
theorem dL_law_330 : decode cL_law 330 = .ok (.iconst 2, 1) := by decide +kernel
theorem dL_law_331 : decode cL_law 331 = .ok (.iadd, 1) := by decide +kernel
theorem dL_law_332 : decode cL_law 332 = .ok (.iaload, 1) := by decide +kernel
theorem dL_law_333 : decode cL_law 333 = .ok (.invokevirtual 50, 3) := by decide +kernel
theorem dL_law_336 : decode cL_law 336 = .ok (.aload_n 2, 1) := by decide +kernel
theorem dL_law_337 : decode cL_law 337 = .ok (.aload_n 0, 1) := by decide +kernel
theorem dL_law_338 : decode cL_law 338 = .ok (.iload_n 3, 1) := by decide +kernel
theorem dL_law_339 : decode cL_law 339 = .ok (.iconst 1, 1) := by decide +kernel
theorem dL_law_340 : decode cL_law 340 = .ok (.iadd, 1) := by decide +kernel
theorem dL_law_341 : decode cL_law 341 = .ok (.iaload, 1) := by decide +kernel
theorem dL_law_342 : decode cL_law 342 = .ok (.aload_n 0, 1) := by decide +kernel
theorem dL_law_343 : decode cL_law 343 = .ok (.iload_n 3, 1) := by decide +kernel
theorem dL_law_344 : decode cL_law 344 = .ok (.iconst 2, 1) := by decide +kernel
theorem dL_law_345 : decode cL_law 345 = .ok (.iadd, 1) := by decide +kernel
theorem dL_law_346 : decode cL_law 346 = .ok (.iaload, 1) := by decide +kernel
theorem dL_law_347 : decode cL_law 347 = .ok (.invokevirtual 53, 3) := by decide +kernel
theorem dL_law_350 : decode cL_law 350 = .ok (.if_icmp .eq 18, 3) := by decide +kernel
theorem dL_law_353 : decode cL_law 353 = .ok (.iconst 0, 1) := by decide +kernel
theorem dL_law_354 : decode cL_law 354 = .ok (.ireturn, 1) := by decide +kernel
theorem dL_law_355 : decode cL_law 355 = .ok (.aload_n 1, 1) := by decide +kernel
theorem dL_law_356 : decode cL_law 356 = .ok (.invokevirtual 54, 3) := by decide +kernel
theorem dL_law_359 : decode cL_law 359 = .ok (.aload_n 2, 1) := by decide +kernel
theorem dL_law_360 : decode cL_law 360 = .ok (.invokevirtual 57, 3) := by decide +kernel
theorem dL_law_363 : decode cL_law 363 = .ok (.if_icmp .eq 5, 3) := by decide +kernel
theorem dL_law_366 : decode cL_law 366 = .ok (.iconst 0, 1) := by decide +kernel
theorem dL_law_367 : decode cL_law 367 = .ok (.ireturn, 1) := by decide +kernel
theorem dL_law_368 : decode cL_law 368 = .ok (.iinc 3 4, 3) := by decide +kernel
theorem dL_law_371 : decode cL_law 371 = .ok (.goto (-353), 3) := by decide +kernel
theorem dL_law_374 : decode cL_law 374 = .ok (.iconst 1, 1) := by decide +kernel
theorem dL_law_375 : decode cL_law 375 = .ok (.ireturn, 1) := by decide +kernel
end
section
/-! java/lang/Object -/
set_option maxRecDepth 100000
def RJ0 : String := "java/lang/Object"
abbrev cJ0_init : ByteArray := object_method_1_code
def yJ0_init : MethodName := ⟨RJ0, "<init>", "()V"⟩
theorem dJ0_init_0 : decode cJ0_init 0 = .ok (.return_, 1) := by decide +kernel
theorem q32 : (Jvm.Cond.instanceMethod ({ cls := "java/lang/Object", name := "<init>", desc := "()V" } : Jvm.MethodName)) ∈ lw_all := lw_g (lw_at lw_m1 9 rfl) rfl
theorem q33 : (Jvm.Cond.code ({ cls := "java/lang/Object", name := "<init>", desc := "()V" } : Jvm.MethodName) object_method_1_code (1 : Nat) (Option.none : Option Jvm.ClassFile.FieldType)) ∈ lw_all := lw_g (lw_at lw_m1 10 rfl) rfl

theorem q86 : (Jvm.Cond.arrayClass Jvm.ClassFile.FieldType.byte) ∈ lw_all := lw_g (lw_at lw_m1 63 rfl) rfl
set_option maxRecDepth 100000
theorem q87 : (Jvm.Cond.arrayClass Jvm.ClassFile.FieldType.int) ∈ lw_all := lw_g (lw_at lw_m1 64 rfl) rfl

theorem q23 : (Jvm.Cond.initialized "YenKPathsLaw") ∈ lw_all := lw_g (lw_at lw_m1 0 rfl) rfl
set_option maxRecDepth 100000
theorem q26 : (Jvm.Cond.classLink "YenKPathsLaw" (7 : Nat) "YenKPaths") ∈ lw_all := lw_g (lw_at lw_m1 3 rfl) rfl
theorem q28 : (Jvm.Cond.methodLink "YenKPathsLaw" (9 : Nat) ({ cls := "YenKPaths", name := "<init>", desc := "()V" } : Jvm.MethodName)) ∈ lw_all := lw_g (lw_at lw_m1 5 rfl) rfl
theorem q88 : (Jvm.Cond.methodLink "YenKPathsLaw" (13 : Nat) ({ cls := "YenKPaths", name := "arc", desc := "(III)Z" } : Jvm.MethodName)) ∈ lw_all := lw_g (lw_at lw_m1 65 rfl) rfl
theorem q96 : (Jvm.Cond.methodLink "YenKPathsLaw" (18 : Nat) ({ cls := "YenKPaths", name := "ends", desc := "(II)Z" } : Jvm.MethodName)) ∈ lw_all := lw_g (lw_at lw_m1 73 rfl) rfl
theorem q100 : (Jvm.Cond.methodLink "YenKPathsLaw" (23 : Nat) ({ cls := "YenKPaths", name := "weight", desc := "(II)I" } : Jvm.MethodName)) ∈ lw_all := lw_g (lw_at lw_m1 77 rfl) rfl
theorem q104 : (Jvm.Cond.methodLink "YenKPathsLaw" (28 : Nat) ({ cls := "YenKPaths", name := "paths", desc := "()I" } : Jvm.MethodName)) ∈ lw_all := lw_g (lw_at lw_m1 81 rfl) rfl
theorem q153 : (Jvm.Cond.methodLink "YenKPathsLaw" (33 : Nat) ({ cls := "YenKPaths", name := "length", desc := "(I)I" } : Jvm.MethodName)) ∈ lw_all := lw_g (lw_at lw_m1 130 rfl) rfl
theorem q157 : (Jvm.Cond.methodLink "YenKPathsLaw" (38 : Nat) ({ cls := "YenKPaths", name := "size", desc := "(I)I" } : Jvm.MethodName)) ∈ lw_all := lw_g (lw_at lw_m1 134 rfl) rfl
theorem q161 : (Jvm.Cond.methodLink "YenKPathsLaw" (42 : Nat) ({ cls := "YenKPaths", name := "vertex", desc := "(II)I" } : Jvm.MethodName)) ∈ lw_all := lw_g (lw_at lw_m1 138 rfl) rfl
theorem q165 : (Jvm.Cond.methodLink "YenKPathsLaw" (46 : Nat) ({ cls := "YenKPaths", name := "passing", desc := "(II)I" } : Jvm.MethodName)) ∈ lw_all := lw_g (lw_at lw_m1 142 rfl) rfl
theorem q169 : (Jvm.Cond.methodLink "YenKPathsLaw" (50 : Nat) ({ cls := "YenKPaths", name := "avoiding", desc := "(II)I" } : Jvm.MethodName)) ∈ lw_all := lw_g (lw_at lw_m1 146 rfl) rfl
theorem q173 : (Jvm.Cond.methodLink "YenKPathsLaw" (54 : Nat) ({ cls := "YenKPaths", name := "unavoidable", desc := "()I" } : Jvm.MethodName)) ∈ lw_all := lw_g (lw_at lw_m1 150 rfl) rfl
theorem q177 : (Jvm.Cond.classLink "YenKPathsLaw" (10 : Nat) "YenKPathsModel") ∈ lw_all := lw_g (lw_at lw_m1 154 rfl) rfl
theorem q179 : (Jvm.Cond.methodLink "YenKPathsLaw" (12 : Nat) ({ cls := "YenKPathsModel", name := "<init>", desc := "()V" } : Jvm.MethodName)) ∈ lw_all := lw_g (lw_at lw_m1 156 rfl) rfl
theorem q220 : (Jvm.Cond.methodLink "YenKPathsLaw" (17 : Nat) ({ cls := "YenKPathsModel", name := "arc", desc := "(III)Z" } : Jvm.MethodName)) ∈ lw_all := lw_g (lw_at lw_m1 197 rfl) rfl
theorem q228 : (Jvm.Cond.methodLink "YenKPathsLaw" (22 : Nat) ({ cls := "YenKPathsModel", name := "ends", desc := "(II)Z" } : Jvm.MethodName)) ∈ lw_all := lw_g (lw_at lw_m1 205 rfl) rfl
theorem q232 : (Jvm.Cond.methodLink "YenKPathsLaw" (27 : Nat) ({ cls := "YenKPathsModel", name := "weight", desc := "(II)I" } : Jvm.MethodName)) ∈ lw_all := lw_g (lw_at lw_m1 209 rfl) rfl
theorem q236 : (Jvm.Cond.methodLink "YenKPathsLaw" (32 : Nat) ({ cls := "YenKPathsModel", name := "paths", desc := "()I" } : Jvm.MethodName)) ∈ lw_all := lw_g (lw_at lw_m1 213 rfl) rfl
theorem q276 : (Jvm.Cond.methodLink "YenKPathsLaw" (37 : Nat) ({ cls := "YenKPathsModel", name := "length", desc := "(I)I" } : Jvm.MethodName)) ∈ lw_all := lw_g (lw_at lw_m2 13 rfl) rfl
theorem q280 : (Jvm.Cond.methodLink "YenKPathsLaw" (41 : Nat) ({ cls := "YenKPathsModel", name := "size", desc := "(I)I" } : Jvm.MethodName)) ∈ lw_all := lw_g (lw_at lw_m2 17 rfl) rfl
theorem q284 : (Jvm.Cond.methodLink "YenKPathsLaw" (45 : Nat) ({ cls := "YenKPathsModel", name := "vertex", desc := "(II)I" } : Jvm.MethodName)) ∈ lw_all := lw_g (lw_at lw_m2 21 rfl) rfl
theorem q288 : (Jvm.Cond.methodLink "YenKPathsLaw" (49 : Nat) ({ cls := "YenKPathsModel", name := "passing", desc := "(II)I" } : Jvm.MethodName)) ∈ lw_all := lw_g (lw_at lw_m2 25 rfl) rfl
theorem q296 : (Jvm.Cond.methodLink "YenKPathsLaw" (53 : Nat) ({ cls := "YenKPathsModel", name := "avoiding", desc := "(II)I" } : Jvm.MethodName)) ∈ lw_all := lw_g (lw_at lw_m2 33 rfl) rfl
theorem q300 : (Jvm.Cond.methodLink "YenKPathsLaw" (57 : Nat) ({ cls := "YenKPathsModel", name := "unavoidable", desc := "()I" } : Jvm.MethodName)) ∈ lw_all := lw_g (lw_at lw_m2 37 rfl) rfl
end
section
/-! MY OWN LAYER: a machine at a place (ky_At) whose heap is a picture ws and whose locals are a list L; every int is nI of a Nat -/
set_option maxRecDepth 100000
abbrev vwCl : List vw_C := [(RX0, TX0, 17), (RX1, TX1, 12)]
theorem kn_and (a b : Nat) : nI a &&& nI b = nI (a &&& b) := by
  apply Int32.toBitVec_inj.1
  show BitVec.ofNat 32 a &&& BitVec.ofNat 32 b = BitVec.ofNat 32 (a &&& b)
  apply BitVec.eq_of_getLsbD_eq
  intro i hi
  simp [hi]
theorem kn_or (a b : Nat) : nI a ||| nI b = nI (a ||| b) := by
  apply Int32.toBitVec_inj.1
  show BitVec.ofNat 32 a ||| BitVec.ofNat 32 b = BitVec.ofNat 32 (a ||| b)
  apply BitVec.eq_of_getLsbD_eq
  intro i hi
  simp [hi]
theorem kn_sl : ∀ n, n < 32 → ((nI n &&& 31).toBitVec.smod 32).toNat = n := by decide +kernel
theorem kn_shl {a b : Nat} (hb : b < 32) (h : a * 2 ^ b < 4294967296) : nI a <<< (nI b &&& 31) = nI (a * 2 ^ b) := pk_shlN _ b (kn_sl b hb) (by omega)
theorem kn_shr {a b : Nat} (ha : a < 2147483648) (hb : b < 32) : nI a >>> (nI b &&& 31) = nI (a / 2 ^ b) := pk_shrN (by omega) _ b (kn_sl b hb)
theorem kn_byte {n : Nat} (h : n < 128) : (nI n).toInt8.toInt32 = nI n := by
  have : ∀ j : Fin 128, (nI j.val).toInt8.toInt32 = nI j.val := by decide +kernel
  exact this ⟨n, h⟩
theorem kn_eq {a b : Nat} (ha : a < 4294967296) (hb : b < 4294967296) : nI a = nI b ↔ a = b := by
  constructor
  · intro h
    have h2 : (nI a).toBitVec.toNat = (nI b).toBitVec.toNat := by rw [h]
    rwa [pk_tn (by omega), pk_tn (by omega)] at h2
  · intro h
    rw [h]
theorem kn_eq0 {a : Nat} (ha : a < 4294967296) : nI a = 0 ↔ a = 0 := by
  rw [← nI_0]
  exact kn_eq ha (by omega)
theorem kn_toInt {a : Nat} (h : a < 4294967296) : (nI a).toInt = if a < 2147483648 then (a : Int) else (a : Int) - 4294967296 := by
  show (nI a).toBitVec.toInt = _
  rw [BitVec.toInt_eq_toNat_cond, pk_tn (by omega)]
  split <;> split <;> omega
theorem kn_lt0 {a : Nat} (h : a < 4294967296) : nI a < 0 ↔ 2147483648 ≤ a := by
  have h0 : (0 : Int32).toInt = 0 := by decide
  rw [Int32.lt_iff_toInt_lt, kn_toInt h, h0]
  split <;> omega
theorem kn_le0 {a : Nat} (h : a < 2147483648) : nI a ≤ 0 ↔ a = 0 := by
  have h0 : (0 : Int32).toInt = 0 := by decide
  rw [Int32.le_iff_toInt_le, kn_toInt (by omega), h0]
  split <;> omega
theorem kn_ge0 {a : Nat} (h : a < 4294967296) : 0 ≤ nI a ↔ a < 2147483648 := by
  have h0 : (0 : Int32).toInt = 0 := by decide
  rw [Int32.le_iff_toInt_le, kn_toInt h, h0]
  split <;> omega
theorem kn_wrap (a : Nat) : nI (a + 4294967296) = nI a := by
  apply Int32.toBitVec_inj.1
  show BitVec.ofNat 32 (a + 4294967296) = BitVec.ofNat 32 a
  apply BitVec.eq_of_toNat_eq
  rw [BitVec.toNat_ofNat, BitVec.toNat_ofNat]
  omega
theorem kn_of (x : Int32) : ∃ n, n < 4294967296 ∧ x = nI n := ⟨x.toBitVec.toNat, x.toBitVec.isLt, Int32.toBitVec_inj.mp (by show _ = BitVec.ofNat 32 _; simp)⟩
theorem kn_upd {f : Nat → Nat} {i v : Nat} (hi : i < 2147483648) : upd (fun j => nI (f j)) (nI i).toNatClampNeg (nI v) = fun j => nI (va_up f i v j) := by
  rw [nI_clamp (by omega)]
  funext j
  unfold upd va_up
  split <;> rfl
/-- bits of a set -/
theorem kn_bit (a i : Nat) : a / 2 ^ i &&& 1 = if a.testBit i = true then 1 else 0 := by
  rw [Nat.and_one_is_mod, Nat.testBit_eq_decide_div_mod_eq]
  have := Nat.mod_two_eq_zero_or_one (a / 2 ^ i)
  rcases this with h | h <;> simp [h]
section KY
variable {p : Program} {l : Launch} {e : Env} {R : Room} {s : State} {m : MethodId} {args : Array Value} {below : List Frame} {meth : Method} {c : Code} {cells slots : Nat} {Q : State → Prop}
variable {cc : ByteArray} {own : String} {D : va_G} {tys : List (ClassId × FieldType)} {A : Nat → Prop} {nL pc : Nat} {ws : va_W} {L : List (Option Value)} {st : List Value}
/-- the locals: what is known of them -/
def ky_L (ls : Array Slot) (nL : Nat) (L : List (Option Value)) : Prop := ls.size = nL ∧ lv_wf ls ∧ ∀ (i : Nat) (v : Value), L[i]? = some (some v) → ls[i]? = some (.val v) ∧ v.category = 1
/-- what stays through a method's run -/
def ky_C (p : Program) (s : State) (m : MethodId) (args : Array Value) (c : Code) (cc : ByteArray) (nL : Nat) (own : String) (D : va_G) (tys : List (ClassId × FieldType)) : Prop := p.tables.exec = Jvm.exec ∧ c.code = cc ∧ c.maxLocals = nL ∧ s.vm.findClass own = some m.cls ∧ (∀ w ∈ lw_all, w.before args s = true) ∧ va_K D vwCl tys s
def ky_H (D : va_G) (A : Nat → Prop) (H0 : Heap) (ws : va_W) (H : Heap) (locs : List Loc) : Prop := va_P D vwCl ws H ∧ va_D A ws ∧ va_S A H0 H locs
def ky_At (p : Program) (l : Launch) (e : Env) (R : Room) (s : State) (m : MethodId) (args : Array Value) (below : List Frame) (meth : Method) (c : Code) (cells slots : Nat) (Q : State → Prop) (D : va_G) (A : Nat → Prop) (nL : Nat) (ws : va_W) (pc : Nat) (L : List (Option Value)) (st : List Value) : Prop :=
  ∀ (H : Heap) (locs : List Loc) (ls : Array Slot), ky_H D A s.heap ws H locs → ky_L ls nL L → W p l e R s m args below meth c H locs cells slots Q (F0 m pc ls st)
def ky_ps : Nat → List (Option Value) → List (Nat × Value)
  | _, [] => []
  | i, none :: r => ky_ps (i + 1) r
  | i, some v :: r => (i, v) :: ky_ps (i + 1) r
theorem ky_ps_mem : ∀ (L : List (Option Value)) (i j : Nat) (v : Value), L[j]? = some (some v) → (i + j, v) ∈ ky_ps i L
  | [], i, j, v, h => by simp at h
  | none :: r, i, 0, v, h => by simp at h
  | none :: r, i, j + 1, v, h => by
    have h1 := ky_ps_mem r (i + 1) j v (by simpa using h)
    show (i + (j + 1), v) ∈ ky_ps (i + 1) r
    rw [show i + (j + 1) = i + 1 + j by omega]
    exact h1
  | some w :: r, i, 0, v, h => by
    have h2 : w = v := by simpa using h
    rw [h2]
    exact List.mem_cons_self
  | some w :: r, i, j + 1, v, h => by
    have h1 := ky_ps_mem r (i + 1) j v (by simpa using h)
    show (i + (j + 1), v) ∈ (i, w) :: ky_ps (i + 1) r
    rw [show i + (j + 1) = i + 1 + j by omega]
    exact List.mem_cons_of_mem _ h1
theorem ky_ps_inv : ∀ (L : List (Option Value)) (i : Nat) (q : Nat × Value), q ∈ ky_ps i L → ∃ j, q.1 = i + j ∧ L[j]? = some (some q.2)
  | [], i, q, h => by simp [ky_ps] at h
  | none :: r, i, q, h => by
    obtain ⟨j, h1, h2⟩ := ky_ps_inv r (i + 1) q h
    exact ⟨j + 1, by omega, by simpa using h2⟩
  | some w :: r, i, q, h => by
    rcases List.mem_cons.mp h with h3 | h3
    · exact ⟨0, by rw [h3]; rfl, by rw [h3]; rfl⟩
    · obtain ⟨j, h1, h2⟩ := ky_ps_inv r (i + 1) q h3
      exact ⟨j + 1, by omega, by simpa using h2⟩
theorem ky_has {ls : Array Slot} (h : ky_L ls nL L) : lv_has ls nL (ky_ps 0 L) := by
  refine ⟨h.1, h.2.1, fun q hq => ?_⟩
  obtain ⟨j, h1, h2⟩ := ky_ps_inv L 0 q hq
  rw [h1, Nat.zero_add]
  exact (h.2.2 j q.2 h2).1
theorem ky_set {ls ls' : Array Slot} {i : Nat} {v : Value} (h : ky_L ls nL L) (hv : v.category = 1) (h2 : lv_has ls' nL ((i, v) :: (ky_ps 0 L).filter (fun q => !(q.1 == i) && !(q.1 + 1 == i && q.2.category == 2)))) : ky_L ls' nL (L.set i (some v)) := by
  refine ⟨h2.1, h2.2.1, fun j w hw => ?_⟩
  by_cases hji : j = i
  · subst hji
    have hlt : j < L.length := by
      have := (List.getElem?_eq_some_iff.mp hw).1
      simpa using this
    rw [List.getElem?_set_self hlt] at hw
    have hvw : v = w := by simpa using hw
    rw [← hvw]
    exact ⟨h2.2.2 (j, v) List.mem_cons_self, hv⟩
  · rw [List.getElem?_set_ne (fun q => hji q.symm)] at hw
    have hc := (h.2.2 j w hw).2
    refine ⟨h2.2.2 (j, w) (List.mem_cons_of_mem _ (List.mem_filter.mpr ⟨?_, ?_⟩)), hc⟩
    · have h3 := ky_ps_mem L 0 j w hw
      rwa [Nat.zero_add] at h3
    · simp [hji, hc]
-- ===== rows =====
theorem ky_iconst (C : ky_C p s m args c cc nL own D tys) {n : Int} (v : Nat) (hdg : decode cc pc = .ok (.iconst n, 1)) (hv : Int32.ofInt n = nI v) (kk : ky_At p l e R s m args below meth c cells slots Q D A nL ws (pc + 1) L (.int (nI v) :: st)) : ky_At p l e R s m args below meth c cells slots Q D A nL ws pc L st :=
  fun H locs ls h hl => lv_iconst C.1 C.2.1 hdg hv (kk H locs ls h hl)
theorem ky_bipush (C : ky_C p s m args c cc nL own D tys) {n : Int} (v : Nat) (hdg : decode cc pc = .ok (.bipush n, 2)) (hv : (Int8.ofInt n).toInt32 = nI v) (kk : ky_At p l e R s m args below meth c cells slots Q D A nL ws (pc + 2) L (.int (nI v) :: st)) : ky_At p l e R s m args below meth c cells slots Q D A nL ws pc L st :=
  fun H locs ls h hl => lv_bipush C.1 C.2.1 hdg hv (kk H locs ls h hl)
theorem ky_sipush (C : ky_C p s m args c cc nL own D tys) {n : Int} (v : Nat) (hdg : decode cc pc = .ok (.sipush n, 3)) (hv : (Int16.ofInt n).toInt32 = nI v) (kk : ky_At p l e R s m args below meth c cells slots Q D A nL ws (pc + 3) L (.int (nI v) :: st)) : ky_At p l e R s m args below meth c cells slots Q D A nL ws pc L st :=
  fun H locs ls h hl => lv_sipush C.1 C.2.1 hdg hv (kk H locs ls h hl)
theorem ky_ldc (C : ky_C p s m args c cc nL own D tys) {idx : Nat} (v : Nat) {x : Int32} (hdg : decode cc pc = .ok (.ldc idx, 2)) (hq : Jvm.Cond.constant own idx x ∈ lw_all) (hv : x = nI v) (kk : ky_At p l e R s m args below meth c cells slots Q D A nL ws (pc + 2) L (.int (nI v) :: st)) : ky_At p l e R s m args below meth c cells slots Q D A nL ws pc L st := by
  subst hv
  exact fun H locs ls h hl => lv_ldc C.1 C.2.1 C.2.2.2.1 (C.2.2.2.2.1 _ hq) hdg (kk H locs ls h hl)
theorem ky_iload_n (C : ky_C p s m args c cc nL own D tys) {k : Fin 4} {x : Int32} (hdg : decode cc pc = .ok (.iload_n k, 1)) (hv : L[(k : Nat)]? = some (some (.int x))) (kk : ky_At p l e R s m args below meth c cells slots Q D A nL ws (pc + 1) L (.int x :: st)) : ky_At p l e R s m args below meth c cells slots Q D A nL ws pc L st :=
  fun H locs ls h hl => lv_iload_n C.1 C.2.1 hdg rfl (hl.2.2 _ _ hv).1 (kk H locs ls h hl)
theorem ky_iload (C : ky_C p s m args c cc nL own D tys) {k : Nat} {x : Int32} (hdg : decode cc pc = .ok (.iload k, 2)) (hv : L[k]? = some (some (.int x))) (kk : ky_At p l e R s m args below meth c cells slots Q D A nL ws (pc + 2) L (.int x :: st)) : ky_At p l e R s m args below meth c cells slots Q D A nL ws pc L st :=
  fun H locs ls h hl => lv_iload C.1 C.2.1 hdg (hl.2.2 _ _ hv).1 (kk H locs ls h hl)
theorem ky_aload_n (C : ky_C p s m args c cc nL own D tys) {k : Fin 4} {x : Nat} (hdg : decode cc pc = .ok (.aload_n k, 1)) (hv : L[(k : Nat)]? = some (some (.ref x))) (kk : ky_At p l e R s m args below meth c cells slots Q D A nL ws (pc + 1) L (.ref x :: st)) : ky_At p l e R s m args below meth c cells slots Q D A nL ws pc L st :=
  fun H locs ls h hl => lv_aload_n C.1 C.2.1 hdg rfl (hl.2.2 _ _ hv).1 (kk H locs ls h hl)
theorem ky_istore_n (C : ky_C p s m args c cc nL own D tys) {k : Fin 4} {x : Int32} (hdg : decode cc pc = .ok (.istore_n k, 1)) (hn : (k : Nat) < nL) (kk : ky_At p l e R s m args below meth c cells slots Q D A nL ws (pc + 1) (L.set (k : Nat) (some (.int x))) st) : ky_At p l e R s m args below meth c cells slots Q D A nL ws pc L (.int x :: st) :=
  fun H locs ls h hl => lv_istore_n C.1 C.2.1 hdg rfl (ky_has hl) hn rfl (fun ls' hl' => kk H locs ls' h (ky_set hl rfl hl'))
theorem ky_istore (C : ky_C p s m args c cc nL own D tys) {k : Nat} {x : Int32} (hdg : decode cc pc = .ok (.istore k, 2)) (hn : k < nL) (kk : ky_At p l e R s m args below meth c cells slots Q D A nL ws (pc + 2) (L.set k (some (.int x))) st) : ky_At p l e R s m args below meth c cells slots Q D A nL ws pc L (.int x :: st) :=
  fun H locs ls h hl => lv_istore C.1 C.2.1 hdg (ky_has hl) hn rfl (fun ls' hl' => kk H locs ls' h (ky_set hl rfl hl'))
theorem ky_astore_n (C : ky_C p s m args c cc nL own D tys) {k : Fin 4} {x : Nat} (hdg : decode cc pc = .ok (.astore_n k, 1)) (hn : (k : Nat) < nL) (kk : ky_At p l e R s m args below meth c cells slots Q D A nL ws (pc + 1) (L.set (k : Nat) (some (.ref x))) st) : ky_At p l e R s m args below meth c cells slots Q D A nL ws pc L (.ref x :: st) :=
  fun H locs ls h hl => lv_astore_n C.1 C.2.1 hdg rfl (ky_has hl) hn rfl (fun ls' hl' => kk H locs ls' h (ky_set hl rfl hl'))
theorem ky_iinc (C : ky_C p s m args c cc nL own D tys) {k : Nat} {n : Int} {a : Nat} (v : Nat) (hdg : decode cc pc = .ok (.iinc k n, 3)) (ha : L[k]? = some (some (.int (nI a)))) (hv : nI a + Int32.ofInt n = nI v) (hn : k < nL) (kk : ky_At p l e R s m args below meth c cells slots Q D A nL ws (pc + 3) (L.set k (some (.int (nI v)))) st) : ky_At p l e R s m args below meth c cells slots Q D A nL ws pc L st := by
  intro H locs ls h hl
  have h1 := ky_ps_mem L 0 k _ ha
  rw [Nat.zero_add] at h1
  obtain ⟨j, hj⟩ := List.getElem?_of_mem h1
  exact lv_iinc (k := j) C.1 C.2.1 hdg (ky_has hl) hj hv hn rfl (fun ls' hl' => kk H locs ls' h (ky_set hl rfl hl'))
theorem ky_dup (C : ky_C p s m args c cc nL own D tys) {va : Value} (hdg : decode cc pc = .ok (.dup, 1)) (hva : va.category = 1) (kk : ky_At p l e R s m args below meth c cells slots Q D A nL ws (pc + 1) L (va :: va :: st)) : ky_At p l e R s m args below meth c cells slots Q D A nL ws pc L (va :: st) :=
  fun H locs ls h hl => lv_dup C.1 C.2.1 hdg hva (kk H locs ls h hl)
theorem ky_dup2 (C : ky_C p s m args c cc nL own D tys) {va vb : Value} (hdg : decode cc pc = .ok (.dup2, 1)) (hva : va.category = 1) (hvb : vb.category = 1) (kk : ky_At p l e R s m args below meth c cells slots Q D A nL ws (pc + 1) L (va :: vb :: va :: vb :: st)) : ky_At p l e R s m args below meth c cells slots Q D A nL ws pc L (va :: vb :: st) :=
  fun H locs ls h hl => lv_dup2_11 C.1 C.2.1 hdg hva hvb (kk H locs ls h hl)
theorem ky_iadd (C : ky_C p s m args c cc nL own D tys) {a b : Nat} (hdg : decode cc pc = .ok (.iadd, 1)) (kk : ky_At p l e R s m args below meth c cells slots Q D A nL ws (pc + 1) L (.int (nI (a + b)) :: st)) : ky_At p l e R s m args below meth c cells slots Q D A nL ws pc L (.int (nI b) :: .int (nI a) :: st) :=
  fun H locs ls h hl => lv_iadd C.1 C.2.1 hdg (by rw [nI_add]; exact kk H locs ls h hl)
theorem ky_isub (C : ky_C p s m args c cc nL own D tys) {a b : Nat} (hdg : decode cc pc = .ok (.isub, 1)) (hab : b ≤ a) (kk : ky_At p l e R s m args below meth c cells slots Q D A nL ws (pc + 1) L (.int (nI (a - b)) :: st)) : ky_At p l e R s m args below meth c cells slots Q D A nL ws pc L (.int (nI b) :: .int (nI a) :: st) :=
  fun H locs ls h hl => lv_isub C.1 C.2.1 hdg (by rw [pk_sub hab]; exact kk H locs ls h hl)
/-- a difference that may be negative -/
theorem ky_isubW (C : ky_C p s m args c cc nL own D tys) {a b : Nat} (v : Nat) (hdg : decode cc pc = .ok (.isub, 1)) (hv : nI a - nI b = nI v) (kk : ky_At p l e R s m args below meth c cells slots Q D A nL ws (pc + 1) L (.int (nI v) :: st)) : ky_At p l e R s m args below meth c cells slots Q D A nL ws pc L (.int (nI b) :: .int (nI a) :: st) :=
  fun H locs ls h hl => lv_isub C.1 C.2.1 hdg (by rw [hv]; exact kk H locs ls h hl)
theorem ky_imul (C : ky_C p s m args c cc nL own D tys) {a b : Nat} (hdg : decode cc pc = .ok (.imul, 1)) (kk : ky_At p l e R s m args below meth c cells slots Q D A nL ws (pc + 1) L (.int (nI (a * b)) :: st)) : ky_At p l e R s m args below meth c cells slots Q D A nL ws pc L (.int (nI b) :: .int (nI a) :: st) :=
  fun H locs ls h hl => lv_imul C.1 C.2.1 hdg (by rw [pk_mul]; exact kk H locs ls h hl)
theorem ky_idiv (C : ky_C p s m args c cc nL own D tys) {a b : Nat} (hdg : decode cc pc = .ok (.idiv, 1)) (ha : a < 2147483648) (hb0 : 0 < b) (hb : b < 2147483648) (kk : ky_At p l e R s m args below meth c cells slots Q D A nL ws (pc + 1) L (.int (nI (a / b)) :: st)) : ky_At p l e R s m args below meth c cells slots Q D A nL ws pc L (.int (nI b) :: .int (nI a) :: st) :=
  fun H locs ls h hl => lv_idiv C.1 C.2.1 hdg (nI_ne0 hb0 (by omega)) (by rw [pk_div (by omega) hb0 (by omega)]; exact kk H locs ls h hl)
theorem ky_irem (C : ky_C p s m args c cc nL own D tys) {a b : Nat} (hdg : decode cc pc = .ok (.irem, 1)) (ha : a < 2147483648) (hb0 : 0 < b) (hb : b < 2147483648) (kk : ky_At p l e R s m args below meth c cells slots Q D A nL ws (pc + 1) L (.int (nI (a % b)) :: st)) : ky_At p l e R s m args below meth c cells slots Q D A nL ws pc L (.int (nI b) :: .int (nI a) :: st) :=
  fun H locs ls h hl => lv_irem C.1 C.2.1 hdg (nI_ne0 hb0 (by omega)) (by rw [pk_rem (by omega) hb0 (by omega)]; exact kk H locs ls h hl)
theorem ky_iand (C : ky_C p s m args c cc nL own D tys) {a b : Nat} (hdg : decode cc pc = .ok (.iand, 1)) (kk : ky_At p l e R s m args below meth c cells slots Q D A nL ws (pc + 1) L (.int (nI (a &&& b)) :: st)) : ky_At p l e R s m args below meth c cells slots Q D A nL ws pc L (.int (nI b) :: .int (nI a) :: st) :=
  fun H locs ls h hl => lv_iand C.1 C.2.1 hdg (by rw [kn_and]; exact kk H locs ls h hl)
theorem ky_ior (C : ky_C p s m args c cc nL own D tys) {a b : Nat} (hdg : decode cc pc = .ok (.ior, 1)) (kk : ky_At p l e R s m args below meth c cells slots Q D A nL ws (pc + 1) L (.int (nI (a ||| b)) :: st)) : ky_At p l e R s m args below meth c cells slots Q D A nL ws pc L (.int (nI b) :: .int (nI a) :: st) :=
  fun H locs ls h hl => lv_ior C.1 C.2.1 hdg (by rw [kn_or]; exact kk H locs ls h hl)
theorem ky_ishl (C : ky_C p s m args c cc nL own D tys) {a b : Nat} (hdg : decode cc pc = .ok (.ishl, 1)) (hb : b < 32) (h2 : a * 2 ^ b < 4294967296) (kk : ky_At p l e R s m args below meth c cells slots Q D A nL ws (pc + 1) L (.int (nI (a * 2 ^ b)) :: st)) : ky_At p l e R s m args below meth c cells slots Q D A nL ws pc L (.int (nI b) :: .int (nI a) :: st) :=
  fun H locs ls h hl => lv_ishl C.1 C.2.1 hdg (by rw [kn_shl hb h2]; exact kk H locs ls h hl)
theorem ky_ishr (C : ky_C p s m args c cc nL own D tys) {a b : Nat} (hdg : decode cc pc = .ok (.ishr, 1)) (ha : a < 2147483648) (hb : b < 32) (kk : ky_At p l e R s m args below meth c cells slots Q D A nL ws (pc + 1) L (.int (nI (a / 2 ^ b)) :: st)) : ky_At p l e R s m args below meth c cells slots Q D A nL ws pc L (.int (nI b) :: .int (nI a) :: st) :=
  fun H locs ls h hl => lv_ishr C.1 C.2.1 hdg (by rw [kn_shr ha hb]; exact kk H locs ls h hl)
theorem ky_i2b (C : ky_C p s m args c cc nL own D tys) {a : Nat} (hdg : decode cc pc = .ok (.i2b, 1)) (ha : a < 128) (kk : ky_At p l e R s m args below meth c cells slots Q D A nL ws (pc + 1) L (.int (nI a) :: st)) : ky_At p l e R s m args below meth c cells slots Q D A nL ws pc L (.int (nI a) :: st) :=
  fun H locs ls h hl => lv_i2b C.1 C.2.1 hdg (kn_byte ha) (kk H locs ls h hl)
theorem ky_goto (C : ky_C p s m args c cc nL own D tys) {off : Int} {tgt : Nat} (hdg : decode cc pc = .ok (.goto off, 3)) (ht : (pc : Int) + off = (tgt : Int)) (kk : ky_At p l e R s m args below meth c cells slots Q D A nL ws tgt L st) : ky_At p l e R s m args below meth c cells slots Q D A nL ws pc L st :=
  fun H locs ls h hl => lv_goto C.1 C.2.1 hdg ht (kk H locs ls h hl)
/-- a number on the stack under another name -/
theorem ky_top {a b : Nat} (h : a = b) (kk : ky_At p l e R s m args below meth c cells slots Q D A nL ws pc L (.int (nI b) :: st)) : ky_At p l e R s m args below meth c cells slots Q D A nL ws pc L (.int (nI a) :: st) := by
  rw [h]
  exact kk
theorem ky_eqL {L' : List (Option Value)} (h : L = L') (kk : ky_At p l e R s m args below meth c cells slots Q D A nL ws pc L' st) : ky_At p l e R s m args below meth c cells slots Q D A nL ws pc L st := by
  rw [h]
  exact kk
theorem ky_eqW {ws' : va_W} (h : ws = ws') (kk : ky_At p l e R s m args below meth c cells slots Q D A nL ws' pc L st) : ky_At p l e R s m args below meth c cells slots Q D A nL ws pc L st := by
  rw [h]
  exact kk
/-- forget locals: fewer known -/
theorem ky_weak {L' : List (Option Value)} (h : ∀ (i : Nat) (v : Value), L'[i]? = some (some v) → L[i]? = some (some v)) (kk : ky_At p l e R s m args below meth c cells slots Q D A nL ws pc L' st) : ky_At p l e R s m args below meth c cells slots Q D A nL ws pc L st :=
  fun H locs ls hh hl => kk H locs ls hh ⟨hl.1, hl.2.1, fun i v hv => hl.2.2 i v (h i v hv)⟩
-- ===== branches =====
theorem ky_if_eq (C : ky_C p s m args c cc nL own D tys) {a : Nat} {off : Int} {tgt : Nat} (hdg : decode cc pc = .ok (.ifCond .eq off, 3)) (ht : (pc : Int) + off = (tgt : Int)) (ha : a < 4294967296)
    (kt : a = 0 → ky_At p l e R s m args below meth c cells slots Q D A nL ws tgt L st) (kf : a ≠ 0 → ky_At p l e R s m args below meth c cells slots Q D A nL ws (pc + 3) L st) : ky_At p l e R s m args below meth c cells slots Q D A nL ws pc L (.int (nI a) :: st) :=
  fun H locs ls h hl => lv_if_eq C.1 C.2.1 hdg ht (fun q => kt ((kn_eq0 ha).mp q) H locs ls h hl) (fun q => kf (fun z => q ((kn_eq0 ha).mpr z)) H locs ls h hl)
theorem ky_if_ne (C : ky_C p s m args c cc nL own D tys) {a : Nat} {off : Int} {tgt : Nat} (hdg : decode cc pc = .ok (.ifCond .ne off, 3)) (ht : (pc : Int) + off = (tgt : Int)) (ha : a < 4294967296)
    (kt : a ≠ 0 → ky_At p l e R s m args below meth c cells slots Q D A nL ws tgt L st) (kf : a = 0 → ky_At p l e R s m args below meth c cells slots Q D A nL ws (pc + 3) L st) : ky_At p l e R s m args below meth c cells slots Q D A nL ws pc L (.int (nI a) :: st) :=
  fun H locs ls h hl => lv_if_ne C.1 C.2.1 hdg ht (fun q => kt (fun z => q ((kn_eq0 ha).mpr z)) H locs ls h hl) (fun q => kf ((kn_eq0 ha).mp q) H locs ls h hl)
theorem ky_if_lt (C : ky_C p s m args c cc nL own D tys) {a : Nat} {off : Int} {tgt : Nat} (hdg : decode cc pc = .ok (.ifCond .lt off, 3)) (ht : (pc : Int) + off = (tgt : Int)) (ha : a < 4294967296)
    (kt : 2147483648 ≤ a → ky_At p l e R s m args below meth c cells slots Q D A nL ws tgt L st) (kf : a < 2147483648 → ky_At p l e R s m args below meth c cells slots Q D A nL ws (pc + 3) L st) : ky_At p l e R s m args below meth c cells slots Q D A nL ws pc L (.int (nI a) :: st) :=
  fun H locs ls h hl => lv_if_lt C.1 C.2.1 hdg ht (fun q => kt ((kn_lt0 ha).mp q) H locs ls h hl) (fun q => kf (Nat.not_le.mp (fun z => q ((kn_lt0 ha).mpr z))) H locs ls h hl)
theorem ky_if_ge (C : ky_C p s m args c cc nL own D tys) {a : Nat} {off : Int} {tgt : Nat} (hdg : decode cc pc = .ok (.ifCond .ge off, 3)) (ht : (pc : Int) + off = (tgt : Int)) (ha : a < 4294967296)
    (kt : a < 2147483648 → ky_At p l e R s m args below meth c cells slots Q D A nL ws tgt L st) (kf : 2147483648 ≤ a → ky_At p l e R s m args below meth c cells slots Q D A nL ws (pc + 3) L st) : ky_At p l e R s m args below meth c cells slots Q D A nL ws pc L (.int (nI a) :: st) :=
  fun H locs ls h hl => lv_if_ge C.1 C.2.1 hdg ht (fun q => kt ((kn_ge0 ha).mp q) H locs ls h hl) (fun q => kf (Nat.not_lt.mp (fun z => q ((kn_ge0 ha).mpr z))) H locs ls h hl)
theorem ky_if_le (C : ky_C p s m args c cc nL own D tys) {a : Nat} {off : Int} {tgt : Nat} (hdg : decode cc pc = .ok (.ifCond .le off, 3)) (ht : (pc : Int) + off = (tgt : Int)) (ha : a < 2147483648)
    (kt : a = 0 → ky_At p l e R s m args below meth c cells slots Q D A nL ws tgt L st) (kf : 0 < a → ky_At p l e R s m args below meth c cells slots Q D A nL ws (pc + 3) L st) : ky_At p l e R s m args below meth c cells slots Q D A nL ws pc L (.int (nI a) :: st) :=
  fun H locs ls h hl => lv_if_le C.1 C.2.1 hdg ht (fun q => kt ((kn_le0 ha).mp q) H locs ls h hl) (fun q => kf (Nat.pos_of_ne_zero (fun z => q ((kn_le0 ha).mpr z))) H locs ls h hl)
theorem ky_icmp_eq (C : ky_C p s m args c cc nL own D tys) {a b : Nat} {off : Int} {tgt : Nat} (hdg : decode cc pc = .ok (.if_icmp .eq off, 3)) (ht : (pc : Int) + off = (tgt : Int)) (ha : a < 4294967296) (hb : b < 4294967296)
    (kt : a = b → ky_At p l e R s m args below meth c cells slots Q D A nL ws tgt L st) (kf : a ≠ b → ky_At p l e R s m args below meth c cells slots Q D A nL ws (pc + 3) L st) : ky_At p l e R s m args below meth c cells slots Q D A nL ws pc L (.int (nI b) :: .int (nI a) :: st) :=
  fun H locs ls h hl => lv_icmp_eq C.1 C.2.1 hdg ht (fun q => kt ((kn_eq ha hb).mp q) H locs ls h hl) (fun q => kf (fun z => q ((kn_eq ha hb).mpr z)) H locs ls h hl)
theorem ky_icmp_ne (C : ky_C p s m args c cc nL own D tys) {a b : Nat} {off : Int} {tgt : Nat} (hdg : decode cc pc = .ok (.if_icmp .ne off, 3)) (ht : (pc : Int) + off = (tgt : Int)) (ha : a < 4294967296) (hb : b < 4294967296)
    (kt : a ≠ b → ky_At p l e R s m args below meth c cells slots Q D A nL ws tgt L st) (kf : a = b → ky_At p l e R s m args below meth c cells slots Q D A nL ws (pc + 3) L st) : ky_At p l e R s m args below meth c cells slots Q D A nL ws pc L (.int (nI b) :: .int (nI a) :: st) :=
  fun H locs ls h hl => lv_icmp_ne C.1 C.2.1 hdg ht (fun q => kt (fun z => q ((kn_eq ha hb).mpr z)) H locs ls h hl) (fun q => kf ((kn_eq ha hb).mp q) H locs ls h hl)
theorem ky_icmp_ge (C : ky_C p s m args c cc nL own D tys) {a b : Nat} {off : Int} {tgt : Nat} (hdg : decode cc pc = .ok (.if_icmp .ge off, 3)) (ht : (pc : Int) + off = (tgt : Int)) (ha : a < 2147483648) (hb : b < 2147483648)
    (kt : b ≤ a → ky_At p l e R s m args below meth c cells slots Q D A nL ws tgt L st) (kf : a < b → ky_At p l e R s m args below meth c cells slots Q D A nL ws (pc + 3) L st) : ky_At p l e R s m args below meth c cells slots Q D A nL ws pc L (.int (nI b) :: .int (nI a) :: st) := by
  intro H locs ls h hl
  refine lv_icmp_ge C.1 C.2.1 hdg ht (fun q => kt ?_ H locs ls h hl) (fun q => kf ?_ H locs ls h hl)
  · exact (nI_leI (by omega) (by omega)).mp q
  · exact Nat.not_le.mp (fun z => q ((nI_leI (by omega) (by omega)).mpr z))
theorem ky_icmp_lt (C : ky_C p s m args c cc nL own D tys) {a b : Nat} {off : Int} {tgt : Nat} (hdg : decode cc pc = .ok (.if_icmp .lt off, 3)) (ht : (pc : Int) + off = (tgt : Int)) (ha : a < 2147483648) (hb : b < 2147483648)
    (kt : a < b → ky_At p l e R s m args below meth c cells slots Q D A nL ws tgt L st) (kf : b ≤ a → ky_At p l e R s m args below meth c cells slots Q D A nL ws (pc + 3) L st) : ky_At p l e R s m args below meth c cells slots Q D A nL ws pc L (.int (nI b) :: .int (nI a) :: st) := by
  intro H locs ls h hl
  refine lv_icmp_lt C.1 C.2.1 hdg ht (fun q => kt ?_ H locs ls h hl) (fun q => kf ?_ H locs ls h hl)
  · exact (nI_ltI (by omega) (by omega)).mp q
  · exact Nat.not_lt.mp (fun z => q ((nI_ltI (by omega) (by omega)).mpr z))
theorem ky_icmp_gt (C : ky_C p s m args c cc nL own D tys) {a b : Nat} {off : Int} {tgt : Nat} (hdg : decode cc pc = .ok (.if_icmp .gt off, 3)) (ht : (pc : Int) + off = (tgt : Int)) (ha : a < 2147483648) (hb : b < 2147483648)
    (kt : b < a → ky_At p l e R s m args below meth c cells slots Q D A nL ws tgt L st) (kf : a ≤ b → ky_At p l e R s m args below meth c cells slots Q D A nL ws (pc + 3) L st) : ky_At p l e R s m args below meth c cells slots Q D A nL ws pc L (.int (nI b) :: .int (nI a) :: st) := by
  intro H locs ls h hl
  refine lv_icmp_gt C.1 C.2.1 hdg ht (fun q => kt ?_ H locs ls h hl) (fun q => kf ?_ H locs ls h hl)
  · exact (nI_ltI (by omega) (by omega)).mp q
  · exact Nat.not_lt.mp (fun z => q ((nI_ltI (by omega) (by omega)).mpr z))
theorem ky_icmp_le (C : ky_C p s m args c cc nL own D tys) {a b : Nat} {off : Int} {tgt : Nat} (hdg : decode cc pc = .ok (.if_icmp .le off, 3)) (ht : (pc : Int) + off = (tgt : Int)) (ha : a < 2147483648) (hb : b < 2147483648)
    (kt : a ≤ b → ky_At p l e R s m args below meth c cells slots Q D A nL ws tgt L st) (kf : b < a → ky_At p l e R s m args below meth c cells slots Q D A nL ws (pc + 3) L st) : ky_At p l e R s m args below meth c cells slots Q D A nL ws pc L (.int (nI b) :: .int (nI a) :: st) := by
  intro H locs ls h hl
  refine lv_icmp_le C.1 C.2.1 hdg ht (fun q => kt ?_ H locs ls h hl) (fun q => kf ?_ H locs ls h hl)
  · exact (nI_leI (by omega) (by omega)).mp q
  · exact Nat.not_le.mp (fun z => q ((nI_leI (by omega) (by omega)).mpr z))
-- ===== a method's contract, its start, its ends, its calls =====
/-- the world behind a call -/
def ky_B (D : va_G) (tys : List (ClassId × FieldType)) (A : Nat → Prop) (w : va_W) (t : State) : Prop := va_P D vwCl w t.heap ∧ va_K D vwCl tys t ∧ va_D A w
/-- the contract of a method with an int answer: from the picture ws and the arguments As, it answers r and leaves the picture w, with post r w -/
def ky_Mi (l : Launch) (y : MethodName) (cc : ByteArray) (nL : Nat) (ty : FieldType) (rm : Room) (D : va_G) (tys : List (ClassId × FieldType)) (ws : va_W) (As : List Value) (post : Int32 → va_W → Prop) : Prop :=
  ∀ sz : Nat, Met l y (ws_ y cc nL (some ty)) rm (va_Pc As (fun U => U.heap.size = sz ∧ va_P D vwCl ws U.heap ∧ va_K D vwCl tys U ∧ va_D (fun _ => True) ws)) (va_Qi post (ky_B D tys (va_A ws sz)) (va_A ws sz)) 0 0 (va_A ws sz)
def ky_Mv (l : Launch) (y : MethodName) (cc : ByteArray) (nL : Nat) (rm : Room) (D : va_G) (tys : List (ClassId × FieldType)) (ws : va_W) (As : List Value) (post : va_W → Prop) : Prop :=
  ∀ sz : Nat, Met l y (ws_ y cc nL none) rm (va_Pc As (fun U => U.heap.size = sz ∧ va_P D vwCl ws U.heap ∧ va_K D vwCl tys U ∧ va_D (fun _ => True) ws)) (va_Qv post (ky_B D tys (va_A ws sz)) (va_A ws sz)) 0 0 (va_A ws sz)
theorem ky_entry (vs : List Value) (n : Nat) (hc : ∀ v ∈ vs, v.category = 1) (hn : vs.length ≤ n) : ky_L ((lg_sl vs ++ List.replicate (n - (lg_sl vs).length) Slot.unset).toArray) n (vs.map some) := by
  have hs : ∀ (us : List Value), (∀ v ∈ us, v.category = 1) → (lg_sl us).length = us.length := by
    intro us
    induction us with
    | nil => intro _; rfl
    | cons v r ih =>
      intro h
      have h1 : v.category = 1 := h v List.mem_cons_self
      have h2 := ih (fun w hw => h w (List.mem_cons_of_mem _ hw))
      have h3 : ¬ v.category = 2 := by omega
      simp [lg_sl, h3] at h2 ⊢
      try omega
  have ha : ∀ (us : List Value) (i : Nat), (∀ v ∈ us, v.category = 1) → ∀ (j : Nat) (v : Value), us[j]? = some v → (i + j, v) ∈ lv_args i us := by
    intro us
    induction us with
    | nil => intro i _ j v h; simp at h
    | cons w r ih =>
      intro i h j v hj
      have h1 : w.category = 1 := h w List.mem_cons_self
      have h3 : ¬ w.category = 2 := by omega
      cases j with
      | zero =>
        have h4 : w = v := by simpa using hj
        subst h4
        exact List.mem_cons_self
      | succ j =>
        have h5 := ih (i + 1) (fun w hw => h w (List.mem_cons_of_mem _ hw)) j v (by simpa using hj)
        unfold lv_args
        rw [if_neg h3, show i + (j + 1) = i + 1 + j by omega]
        exact List.mem_cons_of_mem _ h5
  obtain ⟨h1, h2, h3⟩ := lv_entry vs (n := n) (by rw [hs vs hc]; exact hn)
  refine ⟨h1, h2, fun i v hv => ?_⟩
  have hv2 : vs[i]? = some v := by
    rw [List.getElem?_map] at hv
    cases hq : vs[i]? with
    | none => rw [hq] at hv; cases hv
    | some u => rw [hq] at hv; exact congrArg some (by simpa using hv)
  have h5 := ha vs 0 hc i v hv2
  rw [Nat.zero_add] at h5
  exact ⟨h3 (i, v) h5, hc v (List.mem_of_getElem? hv2)⟩
theorem ky_Mi.intro {y : MethodName} {ty : FieldType} {rm : Room} {As : List Value} {post : Int32 → va_W → Prop} (hy : plainName y.cls = true) (hc : ∀ v ∈ As, v.category = 1) (hn : As.length ≤ nL)
    (body : ∀ (p : Program) (e : Env) (s : State) (m : MethodId) (below : List Frame) (meth : Method) (c : Code) (A : Nat → Prop), ky_C p s m As.toArray c cc nL y.cls D tys → meth.sig.returnType = some ty → meth.locks = false → (∀ q : Nat, s.heap.size ≤ q → A q) →
      ky_At p l e rm s m As.toArray below meth c 0 0 (MQ below (va_Qi post (ky_B D tys A) A) As.toArray s 0 0 A) D A nL ws 0 (As.map some ++ List.replicate (nL - As.length) none) []) : ky_Mi l y cc nL ty rm D tys ws As post := by
  intro sz
  refine Met.ofW (cc := cc) (maxL := nL) (ret := some ty) hy rfl ?_
  intro p e s m args below meth c s₁ B hml hv
  obtain ⟨rfl, hsz, hP, hK, hD0⟩ := hv
  have hts := atoms_spec (ws := ws_ y cc nL (some ty)) B.pre
  have hts : ∀ w ∈ lw_all, w.before _ s = true := fun w h => hts w (List.mem_cons_of_mem _ h)
  have hown : s.vm.findClass y.cls = some m.cls := findClass_of_methodNamed B.named
  subst hsz
  have hD := hD0.self (sz := s.heap.size)
  have hl := ky_entry As nL hc hn
  rw [lg_entry_eq]
  exact body p e s m below meth c _ ⟨B.exec, B.bytes, hml, hown, hts, hK⟩ B.returns B.notSynchronized (fun q h => Or.inr h) s.heap [] _ ⟨hP, hD, va_S.rf⟩ ⟨hl.1, hl.2.1, fun i v hv => hl.2.2 i v (by
    by_cases hi : i < (As.map some).length
    · rwa [List.getElem?_append_left hi] at hv
    · rw [List.getElem?_append_right (by omega)] at hv
      have := List.mem_of_getElem? hv
      simp at this)⟩
theorem ky_Mv.intro {y : MethodName} {rm : Room} {As : List Value} {post : va_W → Prop} (hy : plainName y.cls = true) (hc : ∀ v ∈ As, v.category = 1) (hn : As.length ≤ nL)
    (body : ∀ (p : Program) (e : Env) (s : State) (m : MethodId) (below : List Frame) (meth : Method) (c : Code) (A : Nat → Prop), ky_C p s m As.toArray c cc nL y.cls D tys → meth.sig.returnType = none → meth.locks = false → (∀ q : Nat, s.heap.size ≤ q → A q) →
      ky_At p l e rm s m As.toArray below meth c 0 0 (MQ below (va_Qv post (ky_B D tys A) A) As.toArray s 0 0 A) D A nL ws 0 (As.map some ++ List.replicate (nL - As.length) none) []) : ky_Mv l y cc nL rm D tys ws As post := by
  intro sz
  refine Met.ofW (cc := cc) (maxL := nL) (ret := none) hy rfl ?_
  intro p e s m args below meth c s₁ B hml hv
  obtain ⟨rfl, hsz, hP, hK, hD0⟩ := hv
  have hts := atoms_spec (ws := ws_ y cc nL none) B.pre
  have hts : ∀ w ∈ lw_all, w.before _ s = true := fun w h => hts w (List.mem_cons_of_mem _ h)
  have hown : s.vm.findClass y.cls = some m.cls := findClass_of_methodNamed B.named
  subst hsz
  have hD := hD0.self (sz := s.heap.size)
  have hl := ky_entry As nL hc hn
  rw [lg_entry_eq]
  exact body p e s m below meth c _ ⟨B.exec, B.bytes, hml, hown, hts, hK⟩ B.returns B.notSynchronized (fun q h => Or.inr h) s.heap [] _ ⟨hP, hD, va_S.rf⟩ ⟨hl.1, hl.2.1, fun i v hv => hl.2.2 i v (by
    by_cases hi : i < (As.map some).length
    · rwa [List.getElem?_append_left hi] at hv
    · rw [List.getElem?_append_right (by omega)] at hv
      have := List.mem_of_getElem? hv
      simp at this)⟩
theorem ky_iret (C : ky_C p s m args c cc nL own D tys) {v : Int32} {post : Int32 → va_W → Prop} (hr : meth.sig.returnType = some .int) (hlocks : meth.locks = false) (hdg : decode cc pc = .ok (.ireturn, 1)) (hp : post v ws) : ky_At p l e R s m args below meth c 0 0 (MQ below (va_Qi post (ky_B D tys A) A) args s 0 0 A) D A nL ws pc L [.int v] :=
  fun H locs ls h hl => W.iret C.1 C.2.1 hr (fun t ht hW => ⟨⟨v, ws, rfl, hp, by rw [ht]; exact h.1, va_K.moved hW.alike C.2.2.2.2.2, h.2.1⟩, h.2.2.F ht⟩) h.2.2.2.2 hdg hlocks
theorem ky_zret (C : ky_C p s m args c cc nL own D tys) {v : Nat} {post : Int32 → va_W → Prop} (hr : meth.sig.returnType = some .boolean) (hlocks : meth.locks = false) (hdg : decode cc pc = .ok (.ireturn, 1)) (hv : v < 2) (hp : post (nI v) ws) : ky_At p l e R s m args below meth c 0 0 (MQ below (va_Qi post (ky_B D tys A) A) args s 0 0 A) D A nL ws pc L [.int (nI v)] :=
  fun H locs ls h hl => W.zret (ty := .boolean) C.1 C.2.1 hr (by rcases (show v = 0 ∨ v = 1 by omega) with h1 | h1 <;> subst h1 <;> rfl) (fun t ht hW => ⟨⟨nI v, ws, rfl, hp, by rw [ht]; exact h.1, va_K.moved hW.alike C.2.2.2.2.2, h.2.1⟩, h.2.2.F ht⟩) h.2.2.2.2 hdg hlocks
theorem ky_vret (C : ky_C p s m args c cc nL own D tys) {post : va_W → Prop} (hr : meth.sig.returnType = none) (hlocks : meth.locks = false) (hdg : decode cc pc = .ok (.return_, 1)) (hp : post ws) : ky_At p l e R s m args below meth c 0 0 (MQ below (va_Qv post (ky_B D tys A) A) args s 0 0 A) D A nL ws pc L [] :=
  fun H locs ls h hl => W.vret C.1 C.2.1 hr (fun t ht hW => ⟨⟨ws, rfl, hp, by rw [ht]; exact h.1, va_K.moved hW.alike C.2.2.2.2.2, h.2.1⟩, h.2.2.F ht⟩) h.2.2.2.2 hdg hlocks
theorem ky_blind {As : List Value} {sz : Nat} : FrameBlind (va_Pc As (fun U => U.heap.size = sz ∧ va_P D vwCl ws U.heap ∧ va_K D vwCl tys U ∧ va_D (fun _ => True) ws)) :=
  fun a U g mk q => by
    obtain ⟨q0, q1, qP, qK, qD⟩ := q
    exact ⟨q0, q1, qP, va_K.moved (u := U) (U := U.calling g mk a) (Vm.Alike.refl U.vm) qK, qD⟩
theorem ky_freeAll {H0 H : Heap} {locs : List Loc} (hD : va_D A ws) (hS : va_S A H0 H locs) (hA : ∀ q : Nat, H0.size ≤ q → A q) : ∀ q, va_A ws H.size q → A q := by
  intro q h
  rcases h with ⟨k, e, h⟩ | h
  · exact hD.2 k (q, e) h
  · exact hA q (Nat.le_trans hS.1 h)
/-- a call of a method of the object itself (or of one whose world is the whole picture), with an int answer -/
theorem ky_calli (C : ky_C p s m args c cc nL own D tys) (hA : ∀ q : Nat, s.heap.size ≤ q → A q) {y : MethodName} {cy : ByteArray} {nY n index ci o q0 : Nat} {ty : FieldType} {rm : Room} {As : List Value} {post : Int32 → va_W → Prop} {Cn : String} {Tn : u_T} {Nn : Nat} {fs : List Value}
    (hM : ky_Mi l y cy nY ty rm D tys ws (.ref o :: As) post) (cw : CallW R s args own Cn index y cy nY (some ty) (ws_ y cy nY (some ty)) rm 0 0 n)
    (hc : vwCl[ci]? = some (Cn, Tn, Nn)) (ho : ws[q0]? = some (o, .inr (ci, fs))) (hn : As.length = n) (hst : (st.map fun v => v.category).sum ≤ 8) (hdg : decode cc pc = .ok (.invokevirtual index, 3)) (hf : cells ≤ R.cells ∧ slots ≤ R.slots)
    (kk : ∀ (r : Int32) (w : va_W), post r w → ky_At p l e R s m args below meth c cells slots Q D A nL w (pc + 3) L (.int r :: st)) : ky_At p l e R s m args below meth c cells slots Q D A nL ws pc L (As.reverse ++ .ref o :: st) := by
  intro H locs ls h hl
  obtain ⟨hP, hD, hS⟩ := h
  have hF := ky_freeAll hD hS hA
  refine va_calli (va_runV (As := As) (rest := st) (Ts := lw_all) ⟨C.1, C.2.1, C.2.2.1, C.2.2.2.1, C.2.2.2.2.1⟩ (hM H.size) cw ⟨ky_blind, va_recv C.2.2.2.2.2 hP (ci := ci) (q0 := q0) hc ho, fun U hU hW => ⟨rfl, by rw [hU], by rw [hU]; exact hP, va_K.moved hW.alike C.2.2.2.2.2, hD.weaken (fun _ _ _ _ => trivial)⟩⟩ rfl hn hl.1 rfl (lv_room hst) hdg hf) hS (fun q _ h => hF q h) hF (fun r w t H1 locs1 ht hvm hp hB hz hk hS1 => ?_)
  obtain ⟨hP1, hK1, hD1⟩ := hB
  rw [ht] at hP1
  exact kk r w hp H1 locs1 ls ⟨hP1, hD1.weaken (fun k q _ h => hF q.1 h), hS1⟩ hl
theorem ky_callv (C : ky_C p s m args c cc nL own D tys) (hA : ∀ q : Nat, s.heap.size ≤ q → A q) {y : MethodName} {cy : ByteArray} {nY n index ci o q0 : Nat} {rm : Room} {As : List Value} {post : va_W → Prop} {Cn : String} {Tn : u_T} {Nn : Nat} {fs : List Value}
    (hM : ky_Mv l y cy nY rm D tys ws (.ref o :: As) post) (cw : CallW R s args own Cn index y cy nY none (ws_ y cy nY none) rm 0 0 n)
    (hc : vwCl[ci]? = some (Cn, Tn, Nn)) (ho : ws[q0]? = some (o, .inr (ci, fs))) (hn : As.length = n) (hst : (st.map fun v => v.category).sum ≤ 8) (hdg : decode cc pc = .ok (.invokevirtual index, 3)) (hf : cells ≤ R.cells ∧ slots ≤ R.slots)
    (kk : ∀ (w : va_W), post w → ky_At p l e R s m args below meth c cells slots Q D A nL w (pc + 3) L st) : ky_At p l e R s m args below meth c cells slots Q D A nL ws pc L (As.reverse ++ .ref o :: st) := by
  intro H locs ls h hl
  obtain ⟨hP, hD, hS⟩ := h
  have hF := ky_freeAll hD hS hA
  refine va_callv (va_runV (As := As) (rest := st) (Ts := lw_all) ⟨C.1, C.2.1, C.2.2.1, C.2.2.2.1, C.2.2.2.2.1⟩ (hM H.size) cw ⟨ky_blind, va_recv C.2.2.2.2.2 hP (ci := ci) (q0 := q0) hc ho, fun U hU hW => ⟨rfl, by rw [hU], by rw [hU]; exact hP, va_K.moved hW.alike C.2.2.2.2.2, hD.weaken (fun _ _ _ _ => trivial)⟩⟩ rfl hn hl.1 rfl (lv_room hst) hdg hf) hS (fun q _ h => hF q h) hF (fun w t H1 locs1 ht hvm hp hB hz hk hS1 => ?_)
  obtain ⟨hP1, hK1, hD1⟩ := hB
  rw [ht] at hP1
  exact kk w hp H1 locs1 ls ⟨hP1, hD1.weaken (fun k q _ h => hF q.1 h), hS1⟩ hl
end KY
end
section
/-! the pictures of the two objects, a row for each field and array (printed by mkfields.py) -/
set_option maxRecDepth 100000
def ky_ar (a : Nat) (d : ClassId) (n : Nat) (f : Nat → Nat) : Nat × va_E := (a, .inl (d, n, .inl (fun j => nI (f j))))
def xF (ad : Nat → Nat) (G : Nat → Nat) : List Value := [.ref (ad 0), .int (nI (G 1)), .int (nI (G 2)), .int (nI (G 3)), .int (nI (G 4)), .ref (ad 5), .ref (ad 6), .ref (ad 7), .int (nI (G 8)), .ref (ad 9), .ref (ad 10), .ref (ad 11), .ref (ad 12), .int (nI (G 13)), .ref (ad 14), .int (nI (G 15)), .int (nI (G 16))]
def xW (o : Nat) (ad : Nat → Nat) (dA : Nat → ClassId) (G : Nat → Nat) (F : Nat → Nat → Nat) : va_W := [(o, .inr (0, xF ad G)), ky_ar (ad 0) (dA 0) 49 (F 0), ky_ar (ad 5) (dA 5) 12 (F 5), ky_ar (ad 6) (dA 6) 12 (F 6), ky_ar (ad 7) (dA 7) 12 (F 7), ky_ar (ad 9) (dA 9) 72 (F 9), ky_ar (ad 10) (dA 10) 72 (F 10), ky_ar (ad 11) (dA 11) 72 (F 11), ky_ar (ad 12) (dA 12) 7 (F 12), ky_ar (ad 14) (dA 14) 7 (F 14)]
def xT (dA : Nat → ClassId) : List (ClassId × FieldType) := [(dA 0, .byte), (dA 5, .int), (dA 6, .int), (dA 7, .int), (dA 9, .int), (dA 10, .int), (dA 11, .int), (dA 12, .int), (dA 14, .byte)]
def wF (ad : Nat → Nat) (G : Nat → Nat) : List Value := [.ref (ad 0), .int (nI (G 1)), .int (nI (G 2)), .ref (ad 3), .ref (ad 4), .int (nI (G 5)), .int (nI (G 6)), .ref (ad 7), .ref (ad 8), .ref (ad 9), .int (nI (G 10)), .int (nI (G 11))]
def wW (o : Nat) (ad : Nat → Nat) (dA : Nat → ClassId) (G : Nat → Nat) (F : Nat → Nat → Nat) : va_W := [(o, .inr (1, wF ad G)), ky_ar (ad 0) (dA 0) 49 (F 0), ky_ar (ad 3) (dA 3) 7 (F 3), ky_ar (ad 4) (dA 4) 8 (F 4), ky_ar (ad 7) (dA 7) 13 (F 7), ky_ar (ad 8) (dA 8) 13 (F 8), ky_ar (ad 9) (dA 9) 91 (F 9)]
def wT (dA : Nat → ClassId) : List (ClassId × FieldType) := [(dA 0, .int), (dA 3, .int), (dA 4, .int), (dA 7, .int), (dA 8, .int), (dA 9, .int)]
section KYF
variable {p : Program} {l : Launch} {e : Env} {R : Room} {s : State} {m : MethodId} {args : Array Value} {below : List Frame} {meth : Method} {c : Code} {cells slots : Nat} {Q : State → Prop}
variable {cc : ByteArray} {D : va_G} {A : Nat → Prop} {nL pc : Nat} {L : List (Option Value)} {st : List Value}
variable {o : Nat} {ad : Nat → Nat} {dA : Nat → ClassId} {G : Nat → Nat} {F : Nat → Nat → Nat}
theorem x_g0 (C : ky_C p s m args c cc nL RX0 D (xT dA)) (hdg : decode cc pc = .ok (.getfield 7, 3)) (kk : ky_At p l e R s m args below meth c cells slots Q D A nL (xW o ad dA G F) (pc + 3) L (.ref (ad 0) :: st)) : ky_At p l e R s m args below meth c cells slots Q D A nL (xW o ad dA G F) pc L (.ref o :: st) :=
  fun H locs ls h hl => va_get (D := D) (ci := 0) (v := .ref (ad 0)) (C := RX0) (T := TX0) (N := 17) C.1 C.2.1 C.2.2.2.2.1 in_X0 C.2.2.2.1 C.2.2.2.2.2 h.1 0 rfl rfl 0 (by decide) (C.2.2.2.2.1 _ q34) (fun _ h9 => h9) rfl hdg (kk H locs ls h hl)
theorem x_l0 (C : ky_C p s m args c cc nL RX0 D (xT dA)) (hdg : decode cc pc = .ok (.baload, 1)) {i v : Nat} (hi : i < 49) (hv : F 0 i = v) (kk : ky_At p l e R s m args below meth c cells slots Q D A nL (xW o ad dA G F) (pc + 1) L (.int (nI v) :: st)) : ky_At p l e R s m args below meth c cells slots Q D A nL (xW o ad dA G F) pc L (.int (nI i) :: .ref (ad 0) :: st) := by
  subst hv
  intro H locs ls h hl
  refine va_bald (f := fun j => nI (F 0 j)) C.1 C.2.1 C.2.2.2.2.2 h.1 1 0 rfl rfl (vp_in_nI hi (by decide)) hdg ?_
  rw [nI_clamp (show i < 2 ^ 31 by omega)]
  exact kk H locs ls h hl
theorem x_s0 (C : ky_C p s m args c cc nL RX0 D (xT dA)) (hdg : decode cc pc = .ok (.bastore, 1)) {i v : Nat} (hi : i < 49) (hb : v < 128) (kk : ky_At p l e R s m args below meth c cells slots Q D A nL (xW o ad dA G (va_up F 0 (va_up (F 0) i v))) (pc + 1) L st) : ky_At p l e R s m args below meth c cells slots Q D A nL (xW o ad dA G F) pc L (.int (nI v) :: .int (nI i) :: .ref (ad 0) :: st) := by
  intro H locs ls h hl
  refine va_bast (f := fun j => nI (F 0 j)) C.1 C.2.1 C.2.2.2.2.2 h.1 h.2.1 h.2.2 1 0 rfl rfl (vp_in_nI hi (by decide)) hdg (fun H1 locs1 hP hD hS => ?_)
  rw [vp_nar_byte, kn_byte hb, kn_upd (by omega)] at hP hD
  exact kk H1 locs1 ls ⟨hP, hD, hS⟩ hl
theorem x_g1 (C : ky_C p s m args c cc nL RX0 D (xT dA)) (hdg : decode cc pc = .ok (.getfield 53, 3)) {v : Nat} (hv : G 1 = v) (kk : ky_At p l e R s m args below meth c cells slots Q D A nL (xW o ad dA G F) (pc + 3) L (.int (nI v) :: st)) : ky_At p l e R s m args below meth c cells slots Q D A nL (xW o ad dA G F) pc L (.ref o :: st) := by
  subst hv
  exact fun H locs ls h hl => va_get (D := D) (ci := 0) (v := .int (nI (G 1))) (C := RX0) (T := TX0) (N := 17) C.1 C.2.1 C.2.2.2.2.1 in_X0 C.2.2.2.1 C.2.2.2.2.2 h.1 0 rfl rfl 1 (by decide) (C.2.2.2.2.1 _ q35) (fun _ h9 => h9) rfl hdg (kk H locs ls h hl)
theorem x_p1 (C : ky_C p s m args c cc nL RX0 D (xT dA)) (hdg : decode cc pc = .ok (.putfield 53, 3)) {v : Nat} (kk : ky_At p l e R s m args below meth c cells slots Q D A nL (xW o ad dA (va_up G 1 v) F) (pc + 3) L st) : ky_At p l e R s m args below meth c cells slots Q D A nL (xW o ad dA G F) pc L (.int (nI v) :: .ref o :: st) :=
  fun H locs ls h hl => va_put (D := D) (ci := 0) (v := .int (nI v)) (ty := .int) (C := RX0) (T := TX0) (N := 17) C.1 C.2.1 C.2.2.2.2.1 in_X0 tyX0 tyX0_ok nmX0 C.2.2.2.1 C.2.2.2.2.2 h.1 h.2.1 h.2.2 0 rfl rfl 1 (by decide) (C.2.2.2.2.1 _ q35) (fun _ h9 => h9) rfl (by decide +kernel) rfl rfl (Nat.le_of_ble_eq_true rfl) hdg (fun H1 locs1 hP hD hS => kk H1 locs1 ls ⟨hP, hD, hS⟩ hl)
theorem x_g2 (C : ky_C p s m args c cc nL RX0 D (xT dA)) (hdg : decode cc pc = .ok (.getfield 38, 3)) {v : Nat} (hv : G 2 = v) (kk : ky_At p l e R s m args below meth c cells slots Q D A nL (xW o ad dA G F) (pc + 3) L (.int (nI v) :: st)) : ky_At p l e R s m args below meth c cells slots Q D A nL (xW o ad dA G F) pc L (.ref o :: st) := by
  subst hv
  exact fun H locs ls h hl => va_get (D := D) (ci := 0) (v := .int (nI (G 2))) (C := RX0) (T := TX0) (N := 17) C.1 C.2.1 C.2.2.2.2.1 in_X0 C.2.2.2.1 C.2.2.2.2.2 h.1 0 rfl rfl 2 (by decide) (C.2.2.2.2.1 _ q36) (fun _ h9 => h9) rfl hdg (kk H locs ls h hl)
theorem x_p2 (C : ky_C p s m args c cc nL RX0 D (xT dA)) (hdg : decode cc pc = .ok (.putfield 38, 3)) {v : Nat} (kk : ky_At p l e R s m args below meth c cells slots Q D A nL (xW o ad dA (va_up G 2 v) F) (pc + 3) L st) : ky_At p l e R s m args below meth c cells slots Q D A nL (xW o ad dA G F) pc L (.int (nI v) :: .ref o :: st) :=
  fun H locs ls h hl => va_put (D := D) (ci := 0) (v := .int (nI v)) (ty := .int) (C := RX0) (T := TX0) (N := 17) C.1 C.2.1 C.2.2.2.2.1 in_X0 tyX0 tyX0_ok nmX0 C.2.2.2.1 C.2.2.2.2.2 h.1 h.2.1 h.2.2 0 rfl rfl 2 (by decide) (C.2.2.2.2.1 _ q36) (fun _ h9 => h9) rfl (by decide +kernel) rfl rfl (Nat.le_of_ble_eq_true rfl) hdg (fun H1 locs1 hP hD hS => kk H1 locs1 ls ⟨hP, hD, hS⟩ hl)
theorem x_g3 (C : ky_C p s m args c cc nL RX0 D (xT dA)) (hdg : decode cc pc = .ok (.getfield 49, 3)) {v : Nat} (hv : G 3 = v) (kk : ky_At p l e R s m args below meth c cells slots Q D A nL (xW o ad dA G F) (pc + 3) L (.int (nI v) :: st)) : ky_At p l e R s m args below meth c cells slots Q D A nL (xW o ad dA G F) pc L (.ref o :: st) := by
  subst hv
  exact fun H locs ls h hl => va_get (D := D) (ci := 0) (v := .int (nI (G 3))) (C := RX0) (T := TX0) (N := 17) C.1 C.2.1 C.2.2.2.2.1 in_X0 C.2.2.2.1 C.2.2.2.2.2 h.1 0 rfl rfl 3 (by decide) (C.2.2.2.2.1 _ q37) (fun _ h9 => h9) rfl hdg (kk H locs ls h hl)
theorem x_p3 (C : ky_C p s m args c cc nL RX0 D (xT dA)) (hdg : decode cc pc = .ok (.putfield 49, 3)) {v : Nat} (hn : narrow .boolean (.int (nI v)) = .int (nI v)) (hfit : fits .boolean (.int (nI v)) = true) (kk : ky_At p l e R s m args below meth c cells slots Q D A nL (xW o ad dA (va_up G 3 v) F) (pc + 3) L st) : ky_At p l e R s m args below meth c cells slots Q D A nL (xW o ad dA G F) pc L (.int (nI v) :: .ref o :: st) :=
  fun H locs ls h hl => va_put (D := D) (ci := 0) (v := .int (nI v)) (ty := .boolean) (C := RX0) (T := TX0) (N := 17) C.1 C.2.1 C.2.2.2.2.1 in_X0 tyX0 tyX0_ok nmX0 C.2.2.2.1 C.2.2.2.2.2 h.1 h.2.1 h.2.2 0 rfl rfl 3 (by decide) (C.2.2.2.2.1 _ q37) (fun _ h9 => h9) rfl (by decide +kernel) hn hfit (Nat.le_of_ble_eq_true rfl) hdg (fun H1 locs1 hP hD hS => kk H1 locs1 ls ⟨hP, hD, hS⟩ hl)
theorem x_g4 (C : ky_C p s m args c cc nL RX0 D (xT dA)) (hdg : decode cc pc = .ok (.getfield 59, 3)) {v : Nat} (hv : G 4 = v) (kk : ky_At p l e R s m args below meth c cells slots Q D A nL (xW o ad dA G F) (pc + 3) L (.int (nI v) :: st)) : ky_At p l e R s m args below meth c cells slots Q D A nL (xW o ad dA G F) pc L (.ref o :: st) := by
  subst hv
  exact fun H locs ls h hl => va_get (D := D) (ci := 0) (v := .int (nI (G 4))) (C := RX0) (T := TX0) (N := 17) C.1 C.2.1 C.2.2.2.2.1 in_X0 C.2.2.2.1 C.2.2.2.2.2 h.1 0 rfl rfl 4 (by decide) (C.2.2.2.2.1 _ q38) (fun _ h9 => h9) rfl hdg (kk H locs ls h hl)
theorem x_p4 (C : ky_C p s m args c cc nL RX0 D (xT dA)) (hdg : decode cc pc = .ok (.putfield 59, 3)) {v : Nat} (kk : ky_At p l e R s m args below meth c cells slots Q D A nL (xW o ad dA (va_up G 4 v) F) (pc + 3) L st) : ky_At p l e R s m args below meth c cells slots Q D A nL (xW o ad dA G F) pc L (.int (nI v) :: .ref o :: st) :=
  fun H locs ls h hl => va_put (D := D) (ci := 0) (v := .int (nI v)) (ty := .int) (C := RX0) (T := TX0) (N := 17) C.1 C.2.1 C.2.2.2.2.1 in_X0 tyX0 tyX0_ok nmX0 C.2.2.2.1 C.2.2.2.2.2 h.1 h.2.1 h.2.2 0 rfl rfl 4 (by decide) (C.2.2.2.2.1 _ q38) (fun _ h9 => h9) rfl (by decide +kernel) rfl rfl (Nat.le_of_ble_eq_true rfl) hdg (fun H1 locs1 hP hD hS => kk H1 locs1 ls ⟨hP, hD, hS⟩ hl)
theorem x_g5 (C : ky_C p s m args c cc nL RX0 D (xT dA)) (hdg : decode cc pc = .ok (.getfield 13, 3)) (kk : ky_At p l e R s m args below meth c cells slots Q D A nL (xW o ad dA G F) (pc + 3) L (.ref (ad 5) :: st)) : ky_At p l e R s m args below meth c cells slots Q D A nL (xW o ad dA G F) pc L (.ref o :: st) :=
  fun H locs ls h hl => va_get (D := D) (ci := 0) (v := .ref (ad 5)) (C := RX0) (T := TX0) (N := 17) C.1 C.2.1 C.2.2.2.2.1 in_X0 C.2.2.2.1 C.2.2.2.2.2 h.1 0 rfl rfl 5 (by decide) (C.2.2.2.2.1 _ q39) (fun _ h9 => h9) rfl hdg (kk H locs ls h hl)
theorem x_l5 (C : ky_C p s m args c cc nL RX0 D (xT dA)) (hdg : decode cc pc = .ok (.iaload, 1)) {i v : Nat} (hi : i < 12) (hv : F 5 i = v) (kk : ky_At p l e R s m args below meth c cells slots Q D A nL (xW o ad dA G F) (pc + 1) L (.int (nI v) :: st)) : ky_At p l e R s m args below meth c cells slots Q D A nL (xW o ad dA G F) pc L (.int (nI i) :: .ref (ad 5) :: st) := by
  subst hv
  intro H locs ls h hl
  refine va_iald (f := fun j => nI (F 5 j)) C.1 C.2.1 C.2.2.2.2.2 h.1 2 1 rfl rfl (vp_in_nI hi (by decide)) hdg ?_
  rw [nI_clamp (show i < 2 ^ 31 by omega)]
  exact kk H locs ls h hl
theorem x_s5 (C : ky_C p s m args c cc nL RX0 D (xT dA)) (hdg : decode cc pc = .ok (.iastore, 1)) {i v : Nat} (hi : i < 12) (kk : ky_At p l e R s m args below meth c cells slots Q D A nL (xW o ad dA G (va_up F 5 (va_up (F 5) i v))) (pc + 1) L st) : ky_At p l e R s m args below meth c cells slots Q D A nL (xW o ad dA G F) pc L (.int (nI v) :: .int (nI i) :: .ref (ad 5) :: st) := by
  intro H locs ls h hl
  refine va_iast (f := fun j => nI (F 5 j)) C.1 C.2.1 C.2.2.2.2.2 h.1 h.2.1 h.2.2 2 1 rfl rfl (vp_in_nI hi (by decide)) hdg (fun H1 locs1 hP hD hS => ?_)
  rw [kn_upd (by omega)] at hP hD
  exact kk H1 locs1 ls ⟨hP, hD, hS⟩ hl
theorem x_g6 (C : ky_C p s m args c cc nL RX0 D (xT dA)) (hdg : decode cc pc = .ok (.getfield 17, 3)) (kk : ky_At p l e R s m args below meth c cells slots Q D A nL (xW o ad dA G F) (pc + 3) L (.ref (ad 6) :: st)) : ky_At p l e R s m args below meth c cells slots Q D A nL (xW o ad dA G F) pc L (.ref o :: st) :=
  fun H locs ls h hl => va_get (D := D) (ci := 0) (v := .ref (ad 6)) (C := RX0) (T := TX0) (N := 17) C.1 C.2.1 C.2.2.2.2.1 in_X0 C.2.2.2.1 C.2.2.2.2.2 h.1 0 rfl rfl 6 (by decide) (C.2.2.2.2.1 _ q40) (fun _ h9 => h9) rfl hdg (kk H locs ls h hl)
theorem x_l6 (C : ky_C p s m args c cc nL RX0 D (xT dA)) (hdg : decode cc pc = .ok (.iaload, 1)) {i v : Nat} (hi : i < 12) (hv : F 6 i = v) (kk : ky_At p l e R s m args below meth c cells slots Q D A nL (xW o ad dA G F) (pc + 1) L (.int (nI v) :: st)) : ky_At p l e R s m args below meth c cells slots Q D A nL (xW o ad dA G F) pc L (.int (nI i) :: .ref (ad 6) :: st) := by
  subst hv
  intro H locs ls h hl
  refine va_iald (f := fun j => nI (F 6 j)) C.1 C.2.1 C.2.2.2.2.2 h.1 3 2 rfl rfl (vp_in_nI hi (by decide)) hdg ?_
  rw [nI_clamp (show i < 2 ^ 31 by omega)]
  exact kk H locs ls h hl
theorem x_s6 (C : ky_C p s m args c cc nL RX0 D (xT dA)) (hdg : decode cc pc = .ok (.iastore, 1)) {i v : Nat} (hi : i < 12) (kk : ky_At p l e R s m args below meth c cells slots Q D A nL (xW o ad dA G (va_up F 6 (va_up (F 6) i v))) (pc + 1) L st) : ky_At p l e R s m args below meth c cells slots Q D A nL (xW o ad dA G F) pc L (.int (nI v) :: .int (nI i) :: .ref (ad 6) :: st) := by
  intro H locs ls h hl
  refine va_iast (f := fun j => nI (F 6 j)) C.1 C.2.1 C.2.2.2.2.2 h.1 h.2.1 h.2.2 3 2 rfl rfl (vp_in_nI hi (by decide)) hdg (fun H1 locs1 hP hD hS => ?_)
  rw [kn_upd (by omega)] at hP hD
  exact kk H1 locs1 ls ⟨hP, hD, hS⟩ hl
theorem x_g7 (C : ky_C p s m args c cc nL RX0 D (xT dA)) (hdg : decode cc pc = .ok (.getfield 20, 3)) (kk : ky_At p l e R s m args below meth c cells slots Q D A nL (xW o ad dA G F) (pc + 3) L (.ref (ad 7) :: st)) : ky_At p l e R s m args below meth c cells slots Q D A nL (xW o ad dA G F) pc L (.ref o :: st) :=
  fun H locs ls h hl => va_get (D := D) (ci := 0) (v := .ref (ad 7)) (C := RX0) (T := TX0) (N := 17) C.1 C.2.1 C.2.2.2.2.1 in_X0 C.2.2.2.1 C.2.2.2.2.2 h.1 0 rfl rfl 7 (by decide) (C.2.2.2.2.1 _ q41) (fun _ h9 => h9) rfl hdg (kk H locs ls h hl)
theorem x_l7 (C : ky_C p s m args c cc nL RX0 D (xT dA)) (hdg : decode cc pc = .ok (.iaload, 1)) {i v : Nat} (hi : i < 12) (hv : F 7 i = v) (kk : ky_At p l e R s m args below meth c cells slots Q D A nL (xW o ad dA G F) (pc + 1) L (.int (nI v) :: st)) : ky_At p l e R s m args below meth c cells slots Q D A nL (xW o ad dA G F) pc L (.int (nI i) :: .ref (ad 7) :: st) := by
  subst hv
  intro H locs ls h hl
  refine va_iald (f := fun j => nI (F 7 j)) C.1 C.2.1 C.2.2.2.2.2 h.1 4 3 rfl rfl (vp_in_nI hi (by decide)) hdg ?_
  rw [nI_clamp (show i < 2 ^ 31 by omega)]
  exact kk H locs ls h hl
theorem x_s7 (C : ky_C p s m args c cc nL RX0 D (xT dA)) (hdg : decode cc pc = .ok (.iastore, 1)) {i v : Nat} (hi : i < 12) (kk : ky_At p l e R s m args below meth c cells slots Q D A nL (xW o ad dA G (va_up F 7 (va_up (F 7) i v))) (pc + 1) L st) : ky_At p l e R s m args below meth c cells slots Q D A nL (xW o ad dA G F) pc L (.int (nI v) :: .int (nI i) :: .ref (ad 7) :: st) := by
  intro H locs ls h hl
  refine va_iast (f := fun j => nI (F 7 j)) C.1 C.2.1 C.2.2.2.2.2 h.1 h.2.1 h.2.2 4 3 rfl rfl (vp_in_nI hi (by decide)) hdg (fun H1 locs1 hP hD hS => ?_)
  rw [kn_upd (by omega)] at hP hD
  exact kk H1 locs1 ls ⟨hP, hD, hS⟩ hl
theorem x_g8 (C : ky_C p s m args c cc nL RX0 D (xT dA)) (hdg : decode cc pc = .ok (.getfield 85, 3)) {v : Nat} (hv : G 8 = v) (kk : ky_At p l e R s m args below meth c cells slots Q D A nL (xW o ad dA G F) (pc + 3) L (.int (nI v) :: st)) : ky_At p l e R s m args below meth c cells slots Q D A nL (xW o ad dA G F) pc L (.ref o :: st) := by
  subst hv
  exact fun H locs ls h hl => va_get (D := D) (ci := 0) (v := .int (nI (G 8))) (C := RX0) (T := TX0) (N := 17) C.1 C.2.1 C.2.2.2.2.1 in_X0 C.2.2.2.1 C.2.2.2.2.2 h.1 0 rfl rfl 8 (by decide) (C.2.2.2.2.1 _ q42) (fun _ h9 => h9) rfl hdg (kk H locs ls h hl)
theorem x_p8 (C : ky_C p s m args c cc nL RX0 D (xT dA)) (hdg : decode cc pc = .ok (.putfield 85, 3)) {v : Nat} (kk : ky_At p l e R s m args below meth c cells slots Q D A nL (xW o ad dA (va_up G 8 v) F) (pc + 3) L st) : ky_At p l e R s m args below meth c cells slots Q D A nL (xW o ad dA G F) pc L (.int (nI v) :: .ref o :: st) :=
  fun H locs ls h hl => va_put (D := D) (ci := 0) (v := .int (nI v)) (ty := .int) (C := RX0) (T := TX0) (N := 17) C.1 C.2.1 C.2.2.2.2.1 in_X0 tyX0 tyX0_ok nmX0 C.2.2.2.1 C.2.2.2.2.2 h.1 h.2.1 h.2.2 0 rfl rfl 8 (by decide) (C.2.2.2.2.1 _ q42) (fun _ h9 => h9) rfl (by decide +kernel) rfl rfl (Nat.le_of_ble_eq_true rfl) hdg (fun H1 locs1 hP hD hS => kk H1 locs1 ls ⟨hP, hD, hS⟩ hl)
theorem x_g9 (C : ky_C p s m args c cc nL RX0 D (xT dA)) (hdg : decode cc pc = .ok (.getfield 23, 3)) (kk : ky_At p l e R s m args below meth c cells slots Q D A nL (xW o ad dA G F) (pc + 3) L (.ref (ad 9) :: st)) : ky_At p l e R s m args below meth c cells slots Q D A nL (xW o ad dA G F) pc L (.ref o :: st) :=
  fun H locs ls h hl => va_get (D := D) (ci := 0) (v := .ref (ad 9)) (C := RX0) (T := TX0) (N := 17) C.1 C.2.1 C.2.2.2.2.1 in_X0 C.2.2.2.1 C.2.2.2.2.2 h.1 0 rfl rfl 9 (by decide) (C.2.2.2.2.1 _ q43) (fun _ h9 => h9) rfl hdg (kk H locs ls h hl)
theorem x_l9 (C : ky_C p s m args c cc nL RX0 D (xT dA)) (hdg : decode cc pc = .ok (.iaload, 1)) {i v : Nat} (hi : i < 72) (hv : F 9 i = v) (kk : ky_At p l e R s m args below meth c cells slots Q D A nL (xW o ad dA G F) (pc + 1) L (.int (nI v) :: st)) : ky_At p l e R s m args below meth c cells slots Q D A nL (xW o ad dA G F) pc L (.int (nI i) :: .ref (ad 9) :: st) := by
  subst hv
  intro H locs ls h hl
  refine va_iald (f := fun j => nI (F 9 j)) C.1 C.2.1 C.2.2.2.2.2 h.1 5 4 rfl rfl (vp_in_nI hi (by decide)) hdg ?_
  rw [nI_clamp (show i < 2 ^ 31 by omega)]
  exact kk H locs ls h hl
theorem x_s9 (C : ky_C p s m args c cc nL RX0 D (xT dA)) (hdg : decode cc pc = .ok (.iastore, 1)) {i v : Nat} (hi : i < 72) (kk : ky_At p l e R s m args below meth c cells slots Q D A nL (xW o ad dA G (va_up F 9 (va_up (F 9) i v))) (pc + 1) L st) : ky_At p l e R s m args below meth c cells slots Q D A nL (xW o ad dA G F) pc L (.int (nI v) :: .int (nI i) :: .ref (ad 9) :: st) := by
  intro H locs ls h hl
  refine va_iast (f := fun j => nI (F 9 j)) C.1 C.2.1 C.2.2.2.2.2 h.1 h.2.1 h.2.2 5 4 rfl rfl (vp_in_nI hi (by decide)) hdg (fun H1 locs1 hP hD hS => ?_)
  rw [kn_upd (by omega)] at hP hD
  exact kk H1 locs1 ls ⟨hP, hD, hS⟩ hl
theorem x_g10 (C : ky_C p s m args c cc nL RX0 D (xT dA)) (hdg : decode cc pc = .ok (.getfield 26, 3)) (kk : ky_At p l e R s m args below meth c cells slots Q D A nL (xW o ad dA G F) (pc + 3) L (.ref (ad 10) :: st)) : ky_At p l e R s m args below meth c cells slots Q D A nL (xW o ad dA G F) pc L (.ref o :: st) :=
  fun H locs ls h hl => va_get (D := D) (ci := 0) (v := .ref (ad 10)) (C := RX0) (T := TX0) (N := 17) C.1 C.2.1 C.2.2.2.2.1 in_X0 C.2.2.2.1 C.2.2.2.2.2 h.1 0 rfl rfl 10 (by decide) (C.2.2.2.2.1 _ q44) (fun _ h9 => h9) rfl hdg (kk H locs ls h hl)
theorem x_l10 (C : ky_C p s m args c cc nL RX0 D (xT dA)) (hdg : decode cc pc = .ok (.iaload, 1)) {i v : Nat} (hi : i < 72) (hv : F 10 i = v) (kk : ky_At p l e R s m args below meth c cells slots Q D A nL (xW o ad dA G F) (pc + 1) L (.int (nI v) :: st)) : ky_At p l e R s m args below meth c cells slots Q D A nL (xW o ad dA G F) pc L (.int (nI i) :: .ref (ad 10) :: st) := by
  subst hv
  intro H locs ls h hl
  refine va_iald (f := fun j => nI (F 10 j)) C.1 C.2.1 C.2.2.2.2.2 h.1 6 5 rfl rfl (vp_in_nI hi (by decide)) hdg ?_
  rw [nI_clamp (show i < 2 ^ 31 by omega)]
  exact kk H locs ls h hl
theorem x_s10 (C : ky_C p s m args c cc nL RX0 D (xT dA)) (hdg : decode cc pc = .ok (.iastore, 1)) {i v : Nat} (hi : i < 72) (kk : ky_At p l e R s m args below meth c cells slots Q D A nL (xW o ad dA G (va_up F 10 (va_up (F 10) i v))) (pc + 1) L st) : ky_At p l e R s m args below meth c cells slots Q D A nL (xW o ad dA G F) pc L (.int (nI v) :: .int (nI i) :: .ref (ad 10) :: st) := by
  intro H locs ls h hl
  refine va_iast (f := fun j => nI (F 10 j)) C.1 C.2.1 C.2.2.2.2.2 h.1 h.2.1 h.2.2 6 5 rfl rfl (vp_in_nI hi (by decide)) hdg (fun H1 locs1 hP hD hS => ?_)
  rw [kn_upd (by omega)] at hP hD
  exact kk H1 locs1 ls ⟨hP, hD, hS⟩ hl
theorem x_g11 (C : ky_C p s m args c cc nL RX0 D (xT dA)) (hdg : decode cc pc = .ok (.getfield 29, 3)) (kk : ky_At p l e R s m args below meth c cells slots Q D A nL (xW o ad dA G F) (pc + 3) L (.ref (ad 11) :: st)) : ky_At p l e R s m args below meth c cells slots Q D A nL (xW o ad dA G F) pc L (.ref o :: st) :=
  fun H locs ls h hl => va_get (D := D) (ci := 0) (v := .ref (ad 11)) (C := RX0) (T := TX0) (N := 17) C.1 C.2.1 C.2.2.2.2.1 in_X0 C.2.2.2.1 C.2.2.2.2.2 h.1 0 rfl rfl 11 (by decide) (C.2.2.2.2.1 _ q45) (fun _ h9 => h9) rfl hdg (kk H locs ls h hl)
theorem x_l11 (C : ky_C p s m args c cc nL RX0 D (xT dA)) (hdg : decode cc pc = .ok (.iaload, 1)) {i v : Nat} (hi : i < 72) (hv : F 11 i = v) (kk : ky_At p l e R s m args below meth c cells slots Q D A nL (xW o ad dA G F) (pc + 1) L (.int (nI v) :: st)) : ky_At p l e R s m args below meth c cells slots Q D A nL (xW o ad dA G F) pc L (.int (nI i) :: .ref (ad 11) :: st) := by
  subst hv
  intro H locs ls h hl
  refine va_iald (f := fun j => nI (F 11 j)) C.1 C.2.1 C.2.2.2.2.2 h.1 7 6 rfl rfl (vp_in_nI hi (by decide)) hdg ?_
  rw [nI_clamp (show i < 2 ^ 31 by omega)]
  exact kk H locs ls h hl
theorem x_s11 (C : ky_C p s m args c cc nL RX0 D (xT dA)) (hdg : decode cc pc = .ok (.iastore, 1)) {i v : Nat} (hi : i < 72) (kk : ky_At p l e R s m args below meth c cells slots Q D A nL (xW o ad dA G (va_up F 11 (va_up (F 11) i v))) (pc + 1) L st) : ky_At p l e R s m args below meth c cells slots Q D A nL (xW o ad dA G F) pc L (.int (nI v) :: .int (nI i) :: .ref (ad 11) :: st) := by
  intro H locs ls h hl
  refine va_iast (f := fun j => nI (F 11 j)) C.1 C.2.1 C.2.2.2.2.2 h.1 h.2.1 h.2.2 7 6 rfl rfl (vp_in_nI hi (by decide)) hdg (fun H1 locs1 hP hD hS => ?_)
  rw [kn_upd (by omega)] at hP hD
  exact kk H1 locs1 ls ⟨hP, hD, hS⟩ hl
theorem x_g12 (C : ky_C p s m args c cc nL RX0 D (xT dA)) (hdg : decode cc pc = .ok (.getfield 32, 3)) (kk : ky_At p l e R s m args below meth c cells slots Q D A nL (xW o ad dA G F) (pc + 3) L (.ref (ad 12) :: st)) : ky_At p l e R s m args below meth c cells slots Q D A nL (xW o ad dA G F) pc L (.ref o :: st) :=
  fun H locs ls h hl => va_get (D := D) (ci := 0) (v := .ref (ad 12)) (C := RX0) (T := TX0) (N := 17) C.1 C.2.1 C.2.2.2.2.1 in_X0 C.2.2.2.1 C.2.2.2.2.2 h.1 0 rfl rfl 12 (by decide) (C.2.2.2.2.1 _ q46) (fun _ h9 => h9) rfl hdg (kk H locs ls h hl)
theorem x_l12 (C : ky_C p s m args c cc nL RX0 D (xT dA)) (hdg : decode cc pc = .ok (.iaload, 1)) {i v : Nat} (hi : i < 7) (hv : F 12 i = v) (kk : ky_At p l e R s m args below meth c cells slots Q D A nL (xW o ad dA G F) (pc + 1) L (.int (nI v) :: st)) : ky_At p l e R s m args below meth c cells slots Q D A nL (xW o ad dA G F) pc L (.int (nI i) :: .ref (ad 12) :: st) := by
  subst hv
  intro H locs ls h hl
  refine va_iald (f := fun j => nI (F 12 j)) C.1 C.2.1 C.2.2.2.2.2 h.1 8 7 rfl rfl (vp_in_nI hi (by decide)) hdg ?_
  rw [nI_clamp (show i < 2 ^ 31 by omega)]
  exact kk H locs ls h hl
theorem x_s12 (C : ky_C p s m args c cc nL RX0 D (xT dA)) (hdg : decode cc pc = .ok (.iastore, 1)) {i v : Nat} (hi : i < 7) (kk : ky_At p l e R s m args below meth c cells slots Q D A nL (xW o ad dA G (va_up F 12 (va_up (F 12) i v))) (pc + 1) L st) : ky_At p l e R s m args below meth c cells slots Q D A nL (xW o ad dA G F) pc L (.int (nI v) :: .int (nI i) :: .ref (ad 12) :: st) := by
  intro H locs ls h hl
  refine va_iast (f := fun j => nI (F 12 j)) C.1 C.2.1 C.2.2.2.2.2 h.1 h.2.1 h.2.2 8 7 rfl rfl (vp_in_nI hi (by decide)) hdg (fun H1 locs1 hP hD hS => ?_)
  rw [kn_upd (by omega)] at hP hD
  exact kk H1 locs1 ls ⟨hP, hD, hS⟩ hl
theorem x_g13 (C : ky_C p s m args c cc nL RX0 D (xT dA)) (hdg : decode cc pc = .ok (.getfield 42, 3)) {v : Nat} (hv : G 13 = v) (kk : ky_At p l e R s m args below meth c cells slots Q D A nL (xW o ad dA G F) (pc + 3) L (.int (nI v) :: st)) : ky_At p l e R s m args below meth c cells slots Q D A nL (xW o ad dA G F) pc L (.ref o :: st) := by
  subst hv
  exact fun H locs ls h hl => va_get (D := D) (ci := 0) (v := .int (nI (G 13))) (C := RX0) (T := TX0) (N := 17) C.1 C.2.1 C.2.2.2.2.1 in_X0 C.2.2.2.1 C.2.2.2.2.2 h.1 0 rfl rfl 13 (by decide) (C.2.2.2.2.1 _ q47) (fun _ h9 => h9) rfl hdg (kk H locs ls h hl)
theorem x_p13 (C : ky_C p s m args c cc nL RX0 D (xT dA)) (hdg : decode cc pc = .ok (.putfield 42, 3)) {v : Nat} (kk : ky_At p l e R s m args below meth c cells slots Q D A nL (xW o ad dA (va_up G 13 v) F) (pc + 3) L st) : ky_At p l e R s m args below meth c cells slots Q D A nL (xW o ad dA G F) pc L (.int (nI v) :: .ref o :: st) :=
  fun H locs ls h hl => va_put (D := D) (ci := 0) (v := .int (nI v)) (ty := .int) (C := RX0) (T := TX0) (N := 17) C.1 C.2.1 C.2.2.2.2.1 in_X0 tyX0 tyX0_ok nmX0 C.2.2.2.1 C.2.2.2.2.2 h.1 h.2.1 h.2.2 0 rfl rfl 13 (by decide) (C.2.2.2.2.1 _ q47) (fun _ h9 => h9) rfl (by decide +kernel) rfl rfl (Nat.le_of_ble_eq_true rfl) hdg (fun H1 locs1 hP hD hS => kk H1 locs1 ls ⟨hP, hD, hS⟩ hl)
theorem x_g14 (C : ky_C p s m args c cc nL RX0 D (xT dA)) (hdg : decode cc pc = .ok (.getfield 35, 3)) (kk : ky_At p l e R s m args below meth c cells slots Q D A nL (xW o ad dA G F) (pc + 3) L (.ref (ad 14) :: st)) : ky_At p l e R s m args below meth c cells slots Q D A nL (xW o ad dA G F) pc L (.ref o :: st) :=
  fun H locs ls h hl => va_get (D := D) (ci := 0) (v := .ref (ad 14)) (C := RX0) (T := TX0) (N := 17) C.1 C.2.1 C.2.2.2.2.1 in_X0 C.2.2.2.1 C.2.2.2.2.2 h.1 0 rfl rfl 14 (by decide) (C.2.2.2.2.1 _ q48) (fun _ h9 => h9) rfl hdg (kk H locs ls h hl)
theorem x_l14 (C : ky_C p s m args c cc nL RX0 D (xT dA)) (hdg : decode cc pc = .ok (.baload, 1)) {i v : Nat} (hi : i < 7) (hv : F 14 i = v) (kk : ky_At p l e R s m args below meth c cells slots Q D A nL (xW o ad dA G F) (pc + 1) L (.int (nI v) :: st)) : ky_At p l e R s m args below meth c cells slots Q D A nL (xW o ad dA G F) pc L (.int (nI i) :: .ref (ad 14) :: st) := by
  subst hv
  intro H locs ls h hl
  refine va_bald (f := fun j => nI (F 14 j)) C.1 C.2.1 C.2.2.2.2.2 h.1 9 8 rfl rfl (vp_in_nI hi (by decide)) hdg ?_
  rw [nI_clamp (show i < 2 ^ 31 by omega)]
  exact kk H locs ls h hl
theorem x_s14 (C : ky_C p s m args c cc nL RX0 D (xT dA)) (hdg : decode cc pc = .ok (.bastore, 1)) {i v : Nat} (hi : i < 7) (hb : v < 128) (kk : ky_At p l e R s m args below meth c cells slots Q D A nL (xW o ad dA G (va_up F 14 (va_up (F 14) i v))) (pc + 1) L st) : ky_At p l e R s m args below meth c cells slots Q D A nL (xW o ad dA G F) pc L (.int (nI v) :: .int (nI i) :: .ref (ad 14) :: st) := by
  intro H locs ls h hl
  refine va_bast (f := fun j => nI (F 14 j)) C.1 C.2.1 C.2.2.2.2.2 h.1 h.2.1 h.2.2 9 8 rfl rfl (vp_in_nI hi (by decide)) hdg (fun H1 locs1 hP hD hS => ?_)
  rw [vp_nar_byte, kn_byte hb, kn_upd (by omega)] at hP hD
  exact kk H1 locs1 ls ⟨hP, hD, hS⟩ hl
theorem x_g15 (C : ky_C p s m args c cc nL RX0 D (xT dA)) (hdg : decode cc pc = .ok (.getfield 66, 3)) {v : Nat} (hv : G 15 = v) (kk : ky_At p l e R s m args below meth c cells slots Q D A nL (xW o ad dA G F) (pc + 3) L (.int (nI v) :: st)) : ky_At p l e R s m args below meth c cells slots Q D A nL (xW o ad dA G F) pc L (.ref o :: st) := by
  subst hv
  exact fun H locs ls h hl => va_get (D := D) (ci := 0) (v := .int (nI (G 15))) (C := RX0) (T := TX0) (N := 17) C.1 C.2.1 C.2.2.2.2.1 in_X0 C.2.2.2.1 C.2.2.2.2.2 h.1 0 rfl rfl 15 (by decide) (C.2.2.2.2.1 _ q49) (fun _ h9 => h9) rfl hdg (kk H locs ls h hl)
theorem x_p15 (C : ky_C p s m args c cc nL RX0 D (xT dA)) (hdg : decode cc pc = .ok (.putfield 66, 3)) {v : Nat} (kk : ky_At p l e R s m args below meth c cells slots Q D A nL (xW o ad dA (va_up G 15 v) F) (pc + 3) L st) : ky_At p l e R s m args below meth c cells slots Q D A nL (xW o ad dA G F) pc L (.int (nI v) :: .ref o :: st) :=
  fun H locs ls h hl => va_put (D := D) (ci := 0) (v := .int (nI v)) (ty := .int) (C := RX0) (T := TX0) (N := 17) C.1 C.2.1 C.2.2.2.2.1 in_X0 tyX0 tyX0_ok nmX0 C.2.2.2.1 C.2.2.2.2.2 h.1 h.2.1 h.2.2 0 rfl rfl 15 (by decide) (C.2.2.2.2.1 _ q49) (fun _ h9 => h9) rfl (by decide +kernel) rfl rfl (Nat.le_of_ble_eq_true rfl) hdg (fun H1 locs1 hP hD hS => kk H1 locs1 ls ⟨hP, hD, hS⟩ hl)
theorem x_g16 (C : ky_C p s m args c cc nL RX0 D (xT dA)) (hdg : decode cc pc = .ok (.getfield 73, 3)) {v : Nat} (hv : G 16 = v) (kk : ky_At p l e R s m args below meth c cells slots Q D A nL (xW o ad dA G F) (pc + 3) L (.int (nI v) :: st)) : ky_At p l e R s m args below meth c cells slots Q D A nL (xW o ad dA G F) pc L (.ref o :: st) := by
  subst hv
  exact fun H locs ls h hl => va_get (D := D) (ci := 0) (v := .int (nI (G 16))) (C := RX0) (T := TX0) (N := 17) C.1 C.2.1 C.2.2.2.2.1 in_X0 C.2.2.2.1 C.2.2.2.2.2 h.1 0 rfl rfl 16 (by decide) (C.2.2.2.2.1 _ q50) (fun _ h9 => h9) rfl hdg (kk H locs ls h hl)
theorem x_p16 (C : ky_C p s m args c cc nL RX0 D (xT dA)) (hdg : decode cc pc = .ok (.putfield 73, 3)) {v : Nat} (kk : ky_At p l e R s m args below meth c cells slots Q D A nL (xW o ad dA (va_up G 16 v) F) (pc + 3) L st) : ky_At p l e R s m args below meth c cells slots Q D A nL (xW o ad dA G F) pc L (.int (nI v) :: .ref o :: st) :=
  fun H locs ls h hl => va_put (D := D) (ci := 0) (v := .int (nI v)) (ty := .int) (C := RX0) (T := TX0) (N := 17) C.1 C.2.1 C.2.2.2.2.1 in_X0 tyX0 tyX0_ok nmX0 C.2.2.2.1 C.2.2.2.2.2 h.1 h.2.1 h.2.2 0 rfl rfl 16 (by decide) (C.2.2.2.2.1 _ q50) (fun _ h9 => h9) rfl (by decide +kernel) rfl rfl (Nat.le_of_ble_eq_true rfl) hdg (fun H1 locs1 hP hD hS => kk H1 locs1 ls ⟨hP, hD, hS⟩ hl)
theorem w_g0 (C : ky_C p s m args c cc nL RX1 D (wT dA)) (hdg : decode cc pc = .ok (.getfield 7, 3)) (kk : ky_At p l e R s m args below meth c cells slots Q D A nL (wW o ad dA G F) (pc + 3) L (.ref (ad 0) :: st)) : ky_At p l e R s m args below meth c cells slots Q D A nL (wW o ad dA G F) pc L (.ref o :: st) :=
  fun H locs ls h hl => va_get (D := D) (ci := 1) (v := .ref (ad 0)) (C := RX1) (T := TX1) (N := 12) C.1 C.2.1 C.2.2.2.2.1 in_X1 C.2.2.2.1 C.2.2.2.2.2 h.1 0 rfl rfl 0 (by decide) (C.2.2.2.2.1 _ q183) (fun _ h9 => h9) rfl hdg (kk H locs ls h hl)
theorem w_l0 (C : ky_C p s m args c cc nL RX1 D (wT dA)) (hdg : decode cc pc = .ok (.iaload, 1)) {i v : Nat} (hi : i < 49) (hv : F 0 i = v) (kk : ky_At p l e R s m args below meth c cells slots Q D A nL (wW o ad dA G F) (pc + 1) L (.int (nI v) :: st)) : ky_At p l e R s m args below meth c cells slots Q D A nL (wW o ad dA G F) pc L (.int (nI i) :: .ref (ad 0) :: st) := by
  subst hv
  intro H locs ls h hl
  refine va_iald (f := fun j => nI (F 0 j)) C.1 C.2.1 C.2.2.2.2.2 h.1 1 0 rfl rfl (vp_in_nI hi (by decide)) hdg ?_
  rw [nI_clamp (show i < 2 ^ 31 by omega)]
  exact kk H locs ls h hl
theorem w_s0 (C : ky_C p s m args c cc nL RX1 D (wT dA)) (hdg : decode cc pc = .ok (.iastore, 1)) {i v : Nat} (hi : i < 49) (kk : ky_At p l e R s m args below meth c cells slots Q D A nL (wW o ad dA G (va_up F 0 (va_up (F 0) i v))) (pc + 1) L st) : ky_At p l e R s m args below meth c cells slots Q D A nL (wW o ad dA G F) pc L (.int (nI v) :: .int (nI i) :: .ref (ad 0) :: st) := by
  intro H locs ls h hl
  refine va_iast (f := fun j => nI (F 0 j)) C.1 C.2.1 C.2.2.2.2.2 h.1 h.2.1 h.2.2 1 0 rfl rfl (vp_in_nI hi (by decide)) hdg (fun H1 locs1 hP hD hS => ?_)
  rw [kn_upd (by omega)] at hP hD
  exact kk H1 locs1 ls ⟨hP, hD, hS⟩ hl
theorem w_g1 (C : ky_C p s m args c cc nL RX1 D (wT dA)) (hdg : decode cc pc = .ok (.getfield 13, 3)) {v : Nat} (hv : G 1 = v) (kk : ky_At p l e R s m args below meth c cells slots Q D A nL (wW o ad dA G F) (pc + 3) L (.int (nI v) :: st)) : ky_At p l e R s m args below meth c cells slots Q D A nL (wW o ad dA G F) pc L (.ref o :: st) := by
  subst hv
  exact fun H locs ls h hl => va_get (D := D) (ci := 1) (v := .int (nI (G 1))) (C := RX1) (T := TX1) (N := 12) C.1 C.2.1 C.2.2.2.2.1 in_X1 C.2.2.2.1 C.2.2.2.2.2 h.1 0 rfl rfl 1 (by decide) (C.2.2.2.2.1 _ q184) (fun _ h9 => h9) rfl hdg (kk H locs ls h hl)
theorem w_p1 (C : ky_C p s m args c cc nL RX1 D (wT dA)) (hdg : decode cc pc = .ok (.putfield 13, 3)) {v : Nat} (kk : ky_At p l e R s m args below meth c cells slots Q D A nL (wW o ad dA (va_up G 1 v) F) (pc + 3) L st) : ky_At p l e R s m args below meth c cells slots Q D A nL (wW o ad dA G F) pc L (.int (nI v) :: .ref o :: st) :=
  fun H locs ls h hl => va_put (D := D) (ci := 1) (v := .int (nI v)) (ty := .int) (C := RX1) (T := TX1) (N := 12) C.1 C.2.1 C.2.2.2.2.1 in_X1 tyX1 tyX1_ok nmX1 C.2.2.2.1 C.2.2.2.2.2 h.1 h.2.1 h.2.2 0 rfl rfl 1 (by decide) (C.2.2.2.2.1 _ q184) (fun _ h9 => h9) rfl (by decide +kernel) rfl rfl (Nat.le_of_ble_eq_true rfl) hdg (fun H1 locs1 hP hD hS => kk H1 locs1 ls ⟨hP, hD, hS⟩ hl)
theorem w_g2 (C : ky_C p s m args c cc nL RX1 D (wT dA)) (hdg : decode cc pc = .ok (.getfield 17, 3)) {v : Nat} (hv : G 2 = v) (kk : ky_At p l e R s m args below meth c cells slots Q D A nL (wW o ad dA G F) (pc + 3) L (.int (nI v) :: st)) : ky_At p l e R s m args below meth c cells slots Q D A nL (wW o ad dA G F) pc L (.ref o :: st) := by
  subst hv
  exact fun H locs ls h hl => va_get (D := D) (ci := 1) (v := .int (nI (G 2))) (C := RX1) (T := TX1) (N := 12) C.1 C.2.1 C.2.2.2.2.1 in_X1 C.2.2.2.1 C.2.2.2.2.2 h.1 0 rfl rfl 2 (by decide) (C.2.2.2.2.1 _ q185) (fun _ h9 => h9) rfl hdg (kk H locs ls h hl)
theorem w_p2 (C : ky_C p s m args c cc nL RX1 D (wT dA)) (hdg : decode cc pc = .ok (.putfield 17, 3)) {v : Nat} (kk : ky_At p l e R s m args below meth c cells slots Q D A nL (wW o ad dA (va_up G 2 v) F) (pc + 3) L st) : ky_At p l e R s m args below meth c cells slots Q D A nL (wW o ad dA G F) pc L (.int (nI v) :: .ref o :: st) :=
  fun H locs ls h hl => va_put (D := D) (ci := 1) (v := .int (nI v)) (ty := .int) (C := RX1) (T := TX1) (N := 12) C.1 C.2.1 C.2.2.2.2.1 in_X1 tyX1 tyX1_ok nmX1 C.2.2.2.1 C.2.2.2.2.2 h.1 h.2.1 h.2.2 0 rfl rfl 2 (by decide) (C.2.2.2.2.1 _ q185) (fun _ h9 => h9) rfl (by decide +kernel) rfl rfl (Nat.le_of_ble_eq_true rfl) hdg (fun H1 locs1 hP hD hS => kk H1 locs1 ls ⟨hP, hD, hS⟩ hl)
theorem w_g3 (C : ky_C p s m args c cc nL RX1 D (wT dA)) (hdg : decode cc pc = .ok (.getfield 20, 3)) (kk : ky_At p l e R s m args below meth c cells slots Q D A nL (wW o ad dA G F) (pc + 3) L (.ref (ad 3) :: st)) : ky_At p l e R s m args below meth c cells slots Q D A nL (wW o ad dA G F) pc L (.ref o :: st) :=
  fun H locs ls h hl => va_get (D := D) (ci := 1) (v := .ref (ad 3)) (C := RX1) (T := TX1) (N := 12) C.1 C.2.1 C.2.2.2.2.1 in_X1 C.2.2.2.1 C.2.2.2.2.2 h.1 0 rfl rfl 3 (by decide) (C.2.2.2.2.1 _ q186) (fun _ h9 => h9) rfl hdg (kk H locs ls h hl)
theorem w_l3 (C : ky_C p s m args c cc nL RX1 D (wT dA)) (hdg : decode cc pc = .ok (.iaload, 1)) {i v : Nat} (hi : i < 7) (hv : F 3 i = v) (kk : ky_At p l e R s m args below meth c cells slots Q D A nL (wW o ad dA G F) (pc + 1) L (.int (nI v) :: st)) : ky_At p l e R s m args below meth c cells slots Q D A nL (wW o ad dA G F) pc L (.int (nI i) :: .ref (ad 3) :: st) := by
  subst hv
  intro H locs ls h hl
  refine va_iald (f := fun j => nI (F 3 j)) C.1 C.2.1 C.2.2.2.2.2 h.1 2 1 rfl rfl (vp_in_nI hi (by decide)) hdg ?_
  rw [nI_clamp (show i < 2 ^ 31 by omega)]
  exact kk H locs ls h hl
theorem w_s3 (C : ky_C p s m args c cc nL RX1 D (wT dA)) (hdg : decode cc pc = .ok (.iastore, 1)) {i v : Nat} (hi : i < 7) (kk : ky_At p l e R s m args below meth c cells slots Q D A nL (wW o ad dA G (va_up F 3 (va_up (F 3) i v))) (pc + 1) L st) : ky_At p l e R s m args below meth c cells slots Q D A nL (wW o ad dA G F) pc L (.int (nI v) :: .int (nI i) :: .ref (ad 3) :: st) := by
  intro H locs ls h hl
  refine va_iast (f := fun j => nI (F 3 j)) C.1 C.2.1 C.2.2.2.2.2 h.1 h.2.1 h.2.2 2 1 rfl rfl (vp_in_nI hi (by decide)) hdg (fun H1 locs1 hP hD hS => ?_)
  rw [kn_upd (by omega)] at hP hD
  exact kk H1 locs1 ls ⟨hP, hD, hS⟩ hl
theorem w_g4 (C : ky_C p s m args c cc nL RX1 D (wT dA)) (hdg : decode cc pc = .ok (.getfield 23, 3)) (kk : ky_At p l e R s m args below meth c cells slots Q D A nL (wW o ad dA G F) (pc + 3) L (.ref (ad 4) :: st)) : ky_At p l e R s m args below meth c cells slots Q D A nL (wW o ad dA G F) pc L (.ref o :: st) :=
  fun H locs ls h hl => va_get (D := D) (ci := 1) (v := .ref (ad 4)) (C := RX1) (T := TX1) (N := 12) C.1 C.2.1 C.2.2.2.2.1 in_X1 C.2.2.2.1 C.2.2.2.2.2 h.1 0 rfl rfl 4 (by decide) (C.2.2.2.2.1 _ q187) (fun _ h9 => h9) rfl hdg (kk H locs ls h hl)
theorem w_l4 (C : ky_C p s m args c cc nL RX1 D (wT dA)) (hdg : decode cc pc = .ok (.iaload, 1)) {i v : Nat} (hi : i < 8) (hv : F 4 i = v) (kk : ky_At p l e R s m args below meth c cells slots Q D A nL (wW o ad dA G F) (pc + 1) L (.int (nI v) :: st)) : ky_At p l e R s m args below meth c cells slots Q D A nL (wW o ad dA G F) pc L (.int (nI i) :: .ref (ad 4) :: st) := by
  subst hv
  intro H locs ls h hl
  refine va_iald (f := fun j => nI (F 4 j)) C.1 C.2.1 C.2.2.2.2.2 h.1 3 2 rfl rfl (vp_in_nI hi (by decide)) hdg ?_
  rw [nI_clamp (show i < 2 ^ 31 by omega)]
  exact kk H locs ls h hl
theorem w_s4 (C : ky_C p s m args c cc nL RX1 D (wT dA)) (hdg : decode cc pc = .ok (.iastore, 1)) {i v : Nat} (hi : i < 8) (kk : ky_At p l e R s m args below meth c cells slots Q D A nL (wW o ad dA G (va_up F 4 (va_up (F 4) i v))) (pc + 1) L st) : ky_At p l e R s m args below meth c cells slots Q D A nL (wW o ad dA G F) pc L (.int (nI v) :: .int (nI i) :: .ref (ad 4) :: st) := by
  intro H locs ls h hl
  refine va_iast (f := fun j => nI (F 4 j)) C.1 C.2.1 C.2.2.2.2.2 h.1 h.2.1 h.2.2 3 2 rfl rfl (vp_in_nI hi (by decide)) hdg (fun H1 locs1 hP hD hS => ?_)
  rw [kn_upd (by omega)] at hP hD
  exact kk H1 locs1 ls ⟨hP, hD, hS⟩ hl
theorem w_g5 (C : ky_C p s m args c cc nL RX1 D (wT dA)) (hdg : decode cc pc = .ok (.getfield 39, 3)) {v : Nat} (hv : G 5 = v) (kk : ky_At p l e R s m args below meth c cells slots Q D A nL (wW o ad dA G F) (pc + 3) L (.int (nI v) :: st)) : ky_At p l e R s m args below meth c cells slots Q D A nL (wW o ad dA G F) pc L (.ref o :: st) := by
  subst hv
  exact fun H locs ls h hl => va_get (D := D) (ci := 1) (v := .int (nI (G 5))) (C := RX1) (T := TX1) (N := 12) C.1 C.2.1 C.2.2.2.2.1 in_X1 C.2.2.2.1 C.2.2.2.2.2 h.1 0 rfl rfl 5 (by decide) (C.2.2.2.2.1 _ q188) (fun _ h9 => h9) rfl hdg (kk H locs ls h hl)
theorem w_p5 (C : ky_C p s m args c cc nL RX1 D (wT dA)) (hdg : decode cc pc = .ok (.putfield 39, 3)) {v : Nat} (kk : ky_At p l e R s m args below meth c cells slots Q D A nL (wW o ad dA (va_up G 5 v) F) (pc + 3) L st) : ky_At p l e R s m args below meth c cells slots Q D A nL (wW o ad dA G F) pc L (.int (nI v) :: .ref o :: st) :=
  fun H locs ls h hl => va_put (D := D) (ci := 1) (v := .int (nI v)) (ty := .int) (C := RX1) (T := TX1) (N := 12) C.1 C.2.1 C.2.2.2.2.1 in_X1 tyX1 tyX1_ok nmX1 C.2.2.2.1 C.2.2.2.2.2 h.1 h.2.1 h.2.2 0 rfl rfl 5 (by decide) (C.2.2.2.2.1 _ q188) (fun _ h9 => h9) rfl (by decide +kernel) rfl rfl (Nat.le_of_ble_eq_true rfl) hdg (fun H1 locs1 hP hD hS => kk H1 locs1 ls ⟨hP, hD, hS⟩ hl)
theorem w_g6 (C : ky_C p s m args c cc nL RX1 D (wT dA)) (hdg : decode cc pc = .ok (.getfield 46, 3)) {v : Nat} (hv : G 6 = v) (kk : ky_At p l e R s m args below meth c cells slots Q D A nL (wW o ad dA G F) (pc + 3) L (.int (nI v) :: st)) : ky_At p l e R s m args below meth c cells slots Q D A nL (wW o ad dA G F) pc L (.ref o :: st) := by
  subst hv
  exact fun H locs ls h hl => va_get (D := D) (ci := 1) (v := .int (nI (G 6))) (C := RX1) (T := TX1) (N := 12) C.1 C.2.1 C.2.2.2.2.1 in_X1 C.2.2.2.1 C.2.2.2.2.2 h.1 0 rfl rfl 6 (by decide) (C.2.2.2.2.1 _ q189) (fun _ h9 => h9) rfl hdg (kk H locs ls h hl)
theorem w_p6 (C : ky_C p s m args c cc nL RX1 D (wT dA)) (hdg : decode cc pc = .ok (.putfield 46, 3)) {v : Nat} (kk : ky_At p l e R s m args below meth c cells slots Q D A nL (wW o ad dA (va_up G 6 v) F) (pc + 3) L st) : ky_At p l e R s m args below meth c cells slots Q D A nL (wW o ad dA G F) pc L (.int (nI v) :: .ref o :: st) :=
  fun H locs ls h hl => va_put (D := D) (ci := 1) (v := .int (nI v)) (ty := .int) (C := RX1) (T := TX1) (N := 12) C.1 C.2.1 C.2.2.2.2.1 in_X1 tyX1 tyX1_ok nmX1 C.2.2.2.1 C.2.2.2.2.2 h.1 h.2.1 h.2.2 0 rfl rfl 6 (by decide) (C.2.2.2.2.1 _ q189) (fun _ h9 => h9) rfl (by decide +kernel) rfl rfl (Nat.le_of_ble_eq_true rfl) hdg (fun H1 locs1 hP hD hS => kk H1 locs1 ls ⟨hP, hD, hS⟩ hl)
theorem w_g7 (C : ky_C p s m args c cc nL RX1 D (wT dA)) (hdg : decode cc pc = .ok (.getfield 26, 3)) (kk : ky_At p l e R s m args below meth c cells slots Q D A nL (wW o ad dA G F) (pc + 3) L (.ref (ad 7) :: st)) : ky_At p l e R s m args below meth c cells slots Q D A nL (wW o ad dA G F) pc L (.ref o :: st) :=
  fun H locs ls h hl => va_get (D := D) (ci := 1) (v := .ref (ad 7)) (C := RX1) (T := TX1) (N := 12) C.1 C.2.1 C.2.2.2.2.1 in_X1 C.2.2.2.1 C.2.2.2.2.2 h.1 0 rfl rfl 7 (by decide) (C.2.2.2.2.1 _ q190) (fun _ h9 => h9) rfl hdg (kk H locs ls h hl)
theorem w_l7 (C : ky_C p s m args c cc nL RX1 D (wT dA)) (hdg : decode cc pc = .ok (.iaload, 1)) {i v : Nat} (hi : i < 13) (hv : F 7 i = v) (kk : ky_At p l e R s m args below meth c cells slots Q D A nL (wW o ad dA G F) (pc + 1) L (.int (nI v) :: st)) : ky_At p l e R s m args below meth c cells slots Q D A nL (wW o ad dA G F) pc L (.int (nI i) :: .ref (ad 7) :: st) := by
  subst hv
  intro H locs ls h hl
  refine va_iald (f := fun j => nI (F 7 j)) C.1 C.2.1 C.2.2.2.2.2 h.1 4 3 rfl rfl (vp_in_nI hi (by decide)) hdg ?_
  rw [nI_clamp (show i < 2 ^ 31 by omega)]
  exact kk H locs ls h hl
theorem w_s7 (C : ky_C p s m args c cc nL RX1 D (wT dA)) (hdg : decode cc pc = .ok (.iastore, 1)) {i v : Nat} (hi : i < 13) (kk : ky_At p l e R s m args below meth c cells slots Q D A nL (wW o ad dA G (va_up F 7 (va_up (F 7) i v))) (pc + 1) L st) : ky_At p l e R s m args below meth c cells slots Q D A nL (wW o ad dA G F) pc L (.int (nI v) :: .int (nI i) :: .ref (ad 7) :: st) := by
  intro H locs ls h hl
  refine va_iast (f := fun j => nI (F 7 j)) C.1 C.2.1 C.2.2.2.2.2 h.1 h.2.1 h.2.2 4 3 rfl rfl (vp_in_nI hi (by decide)) hdg (fun H1 locs1 hP hD hS => ?_)
  rw [kn_upd (by omega)] at hP hD
  exact kk H1 locs1 ls ⟨hP, hD, hS⟩ hl
theorem w_g8 (C : ky_C p s m args c cc nL RX1 D (wT dA)) (hdg : decode cc pc = .ok (.getfield 29, 3)) (kk : ky_At p l e R s m args below meth c cells slots Q D A nL (wW o ad dA G F) (pc + 3) L (.ref (ad 8) :: st)) : ky_At p l e R s m args below meth c cells slots Q D A nL (wW o ad dA G F) pc L (.ref o :: st) :=
  fun H locs ls h hl => va_get (D := D) (ci := 1) (v := .ref (ad 8)) (C := RX1) (T := TX1) (N := 12) C.1 C.2.1 C.2.2.2.2.1 in_X1 C.2.2.2.1 C.2.2.2.2.2 h.1 0 rfl rfl 8 (by decide) (C.2.2.2.2.1 _ q191) (fun _ h9 => h9) rfl hdg (kk H locs ls h hl)
theorem w_l8 (C : ky_C p s m args c cc nL RX1 D (wT dA)) (hdg : decode cc pc = .ok (.iaload, 1)) {i v : Nat} (hi : i < 13) (hv : F 8 i = v) (kk : ky_At p l e R s m args below meth c cells slots Q D A nL (wW o ad dA G F) (pc + 1) L (.int (nI v) :: st)) : ky_At p l e R s m args below meth c cells slots Q D A nL (wW o ad dA G F) pc L (.int (nI i) :: .ref (ad 8) :: st) := by
  subst hv
  intro H locs ls h hl
  refine va_iald (f := fun j => nI (F 8 j)) C.1 C.2.1 C.2.2.2.2.2 h.1 5 4 rfl rfl (vp_in_nI hi (by decide)) hdg ?_
  rw [nI_clamp (show i < 2 ^ 31 by omega)]
  exact kk H locs ls h hl
theorem w_s8 (C : ky_C p s m args c cc nL RX1 D (wT dA)) (hdg : decode cc pc = .ok (.iastore, 1)) {i v : Nat} (hi : i < 13) (kk : ky_At p l e R s m args below meth c cells slots Q D A nL (wW o ad dA G (va_up F 8 (va_up (F 8) i v))) (pc + 1) L st) : ky_At p l e R s m args below meth c cells slots Q D A nL (wW o ad dA G F) pc L (.int (nI v) :: .int (nI i) :: .ref (ad 8) :: st) := by
  intro H locs ls h hl
  refine va_iast (f := fun j => nI (F 8 j)) C.1 C.2.1 C.2.2.2.2.2 h.1 h.2.1 h.2.2 5 4 rfl rfl (vp_in_nI hi (by decide)) hdg (fun H1 locs1 hP hD hS => ?_)
  rw [kn_upd (by omega)] at hP hD
  exact kk H1 locs1 ls ⟨hP, hD, hS⟩ hl
theorem w_g9 (C : ky_C p s m args c cc nL RX1 D (wT dA)) (hdg : decode cc pc = .ok (.getfield 32, 3)) (kk : ky_At p l e R s m args below meth c cells slots Q D A nL (wW o ad dA G F) (pc + 3) L (.ref (ad 9) :: st)) : ky_At p l e R s m args below meth c cells slots Q D A nL (wW o ad dA G F) pc L (.ref o :: st) :=
  fun H locs ls h hl => va_get (D := D) (ci := 1) (v := .ref (ad 9)) (C := RX1) (T := TX1) (N := 12) C.1 C.2.1 C.2.2.2.2.1 in_X1 C.2.2.2.1 C.2.2.2.2.2 h.1 0 rfl rfl 9 (by decide) (C.2.2.2.2.1 _ q192) (fun _ h9 => h9) rfl hdg (kk H locs ls h hl)
theorem w_l9 (C : ky_C p s m args c cc nL RX1 D (wT dA)) (hdg : decode cc pc = .ok (.iaload, 1)) {i v : Nat} (hi : i < 91) (hv : F 9 i = v) (kk : ky_At p l e R s m args below meth c cells slots Q D A nL (wW o ad dA G F) (pc + 1) L (.int (nI v) :: st)) : ky_At p l e R s m args below meth c cells slots Q D A nL (wW o ad dA G F) pc L (.int (nI i) :: .ref (ad 9) :: st) := by
  subst hv
  intro H locs ls h hl
  refine va_iald (f := fun j => nI (F 9 j)) C.1 C.2.1 C.2.2.2.2.2 h.1 6 5 rfl rfl (vp_in_nI hi (by decide)) hdg ?_
  rw [nI_clamp (show i < 2 ^ 31 by omega)]
  exact kk H locs ls h hl
theorem w_s9 (C : ky_C p s m args c cc nL RX1 D (wT dA)) (hdg : decode cc pc = .ok (.iastore, 1)) {i v : Nat} (hi : i < 91) (kk : ky_At p l e R s m args below meth c cells slots Q D A nL (wW o ad dA G (va_up F 9 (va_up (F 9) i v))) (pc + 1) L st) : ky_At p l e R s m args below meth c cells slots Q D A nL (wW o ad dA G F) pc L (.int (nI v) :: .int (nI i) :: .ref (ad 9) :: st) := by
  intro H locs ls h hl
  refine va_iast (f := fun j => nI (F 9 j)) C.1 C.2.1 C.2.2.2.2.2 h.1 h.2.1 h.2.2 6 5 rfl rfl (vp_in_nI hi (by decide)) hdg (fun H1 locs1 hP hD hS => ?_)
  rw [kn_upd (by omega)] at hP hD
  exact kk H1 locs1 ls ⟨hP, hD, hS⟩ hl
theorem w_g10 (C : ky_C p s m args c cc nL RX1 D (wT dA)) (hdg : decode cc pc = .ok (.getfield 63, 3)) {v : Nat} (hv : G 10 = v) (kk : ky_At p l e R s m args below meth c cells slots Q D A nL (wW o ad dA G F) (pc + 3) L (.int (nI v) :: st)) : ky_At p l e R s m args below meth c cells slots Q D A nL (wW o ad dA G F) pc L (.ref o :: st) := by
  subst hv
  exact fun H locs ls h hl => va_get (D := D) (ci := 1) (v := .int (nI (G 10))) (C := RX1) (T := TX1) (N := 12) C.1 C.2.1 C.2.2.2.2.1 in_X1 C.2.2.2.1 C.2.2.2.2.2 h.1 0 rfl rfl 10 (by decide) (C.2.2.2.2.1 _ q193) (fun _ h9 => h9) rfl hdg (kk H locs ls h hl)
theorem w_p10 (C : ky_C p s m args c cc nL RX1 D (wT dA)) (hdg : decode cc pc = .ok (.putfield 63, 3)) {v : Nat} (kk : ky_At p l e R s m args below meth c cells slots Q D A nL (wW o ad dA (va_up G 10 v) F) (pc + 3) L st) : ky_At p l e R s m args below meth c cells slots Q D A nL (wW o ad dA G F) pc L (.int (nI v) :: .ref o :: st) :=
  fun H locs ls h hl => va_put (D := D) (ci := 1) (v := .int (nI v)) (ty := .int) (C := RX1) (T := TX1) (N := 12) C.1 C.2.1 C.2.2.2.2.1 in_X1 tyX1 tyX1_ok nmX1 C.2.2.2.1 C.2.2.2.2.2 h.1 h.2.1 h.2.2 0 rfl rfl 10 (by decide) (C.2.2.2.2.1 _ q193) (fun _ h9 => h9) rfl (by decide +kernel) rfl rfl (Nat.le_of_ble_eq_true rfl) hdg (fun H1 locs1 hP hD hS => kk H1 locs1 ls ⟨hP, hD, hS⟩ hl)
theorem w_g11 (C : ky_C p s m args c cc nL RX1 D (wT dA)) (hdg : decode cc pc = .ok (.getfield 57, 3)) {v : Nat} (hv : G 11 = v) (kk : ky_At p l e R s m args below meth c cells slots Q D A nL (wW o ad dA G F) (pc + 3) L (.int (nI v) :: st)) : ky_At p l e R s m args below meth c cells slots Q D A nL (wW o ad dA G F) pc L (.ref o :: st) := by
  subst hv
  exact fun H locs ls h hl => va_get (D := D) (ci := 1) (v := .int (nI (G 11))) (C := RX1) (T := TX1) (N := 12) C.1 C.2.1 C.2.2.2.2.1 in_X1 C.2.2.2.1 C.2.2.2.2.2 h.1 0 rfl rfl 11 (by decide) (C.2.2.2.2.1 _ q194) (fun _ h9 => h9) rfl hdg (kk H locs ls h hl)
theorem w_p11 (C : ky_C p s m args c cc nL RX1 D (wT dA)) (hdg : decode cc pc = .ok (.putfield 57, 3)) {v : Nat} (kk : ky_At p l e R s m args below meth c cells slots Q D A nL (wW o ad dA (va_up G 11 v) F) (pc + 3) L st) : ky_At p l e R s m args below meth c cells slots Q D A nL (wW o ad dA G F) pc L (.int (nI v) :: .ref o :: st) :=
  fun H locs ls h hl => va_put (D := D) (ci := 1) (v := .int (nI v)) (ty := .int) (C := RX1) (T := TX1) (N := 12) C.1 C.2.1 C.2.2.2.2.1 in_X1 tyX1 tyX1_ok nmX1 C.2.2.2.1 C.2.2.2.2.2 h.1 h.2.1 h.2.2 0 rfl rfl 11 (by decide) (C.2.2.2.2.1 _ q194) (fun _ h9 => h9) rfl (by decide +kernel) rfl rfl (Nat.le_of_ble_eq_true rfl) hdg (fun H1 locs1 hP hD hS => kk H1 locs1 ls ⟨hP, hD, hS⟩ hl)
end KYF
end
section
/-! contracts of methods of the two objects: start, end, call (printed by mkcalls.py) -/
set_option maxRecDepth 100000
theorem kn_p7 {v : Nat} (h : v < 7) : 1 * 2 ^ v < 4294967296 := by
  have h1 : 2 ^ v ≤ 2 ^ 6 := Nat.pow_le_pow_right (by decide) (by omega)
  omega
theorem kn_cap (o : Nat) (As : List Int32) : ∀ v ∈ (Value.ref o :: As.map Value.int), v.category = 1 := by
  intro v hv
  rcases List.mem_cons.mp hv with h | h
  · rw [h]; rfl
  · obtain ⟨a, -, ha⟩ := List.mem_map.mp h
    rw [← ha]; rfl
section KYG
variable {p : Program} {l : Launch} {e : Env} {R : Room} {s : State} {m : MethodId} {args : Array Value} {below : List Frame} {meth : Method} {c : Code} {Q : State → Prop}
variable {cc : ByteArray} {own : String} {D : va_G} {tys : List (ClassId × FieldType)} {A : Nat → Prop} {nL pc : Nat} {ws : va_W} {L : List (Option Value)} {st : List Value}
theorem ky_iinc1 {cells slots : Nat} (C : ky_C p s m args c cc nL own D tys) {k a : Nat} (hdg : decode cc pc = .ok (.iinc k 1, 3)) (ha : L[k]? = some (some (.int (nI a)))) (hn : k < nL) (kk : ky_At p l e R s m args below meth c cells slots Q D A nL ws (pc + 3) (L.set k (some (.int (nI (a + 1))))) st) : ky_At p l e R s m args below meth c cells slots Q D A nL ws pc L st :=
  ky_iinc C (a + 1) hdg ha (by rw [← nI_1]; rfl) hn kk
variable {o : Nat} {ad : Nat → Nat} {dA : Nat → ClassId} {G : Nat → Nat} {F : Nat → Nat → Nat}
def xPi (o : Nat) (ad : Nat → Nat) (dA : Nat → ClassId) (post : Nat → (Nat → Nat) → (Nat → Nat → Nat) → Prop) : Int32 → va_W → Prop := fun r w => ∃ v G' F', r = nI v ∧ w = xW o ad dA G' F' ∧ post v G' F'
def xPv (o : Nat) (ad : Nat → Nat) (dA : Nat → ClassId) (post : (Nat → Nat) → (Nat → Nat → Nat) → Prop) : va_W → Prop := fun w => ∃ G' F', w = xW o ad dA G' F' ∧ post G' F'
/-- the contract of a method with an int answer: from the fields G, the arrays F, the arguments As: post answer fields arrays -/
def xMi (l : Launch) (y : MethodName) (cc : ByteArray) (nL : Nat) (ty : FieldType) (rm : Room) (D : va_G) (o : Nat) (ad : Nat → Nat) (dA : Nat → ClassId) (G : Nat → Nat) (F : Nat → Nat → Nat) (As : List Int32) (post : Nat → (Nat → Nat) → (Nat → Nat → Nat) → Prop) : Prop :=
  ky_Mi l y cc nL ty rm D (xT dA) (xW o ad dA G F) (.ref o :: As.map Value.int) (xPi o ad dA post)
def xMv (l : Launch) (y : MethodName) (cc : ByteArray) (nL : Nat) (rm : Room) (D : va_G) (o : Nat) (ad : Nat → Nat) (dA : Nat → ClassId) (G : Nat → Nat) (F : Nat → Nat → Nat) (As : List Int32) (post : (Nat → Nat) → (Nat → Nat → Nat) → Prop) : Prop :=
  ky_Mv l y cc nL rm D (xT dA) (xW o ad dA G F) (.ref o :: As.map Value.int) (xPv o ad dA post)
def xQi (below : List Frame) (D : va_G) (o : Nat) (ad : Nat → Nat) (dA : Nat → ClassId) (A : Nat → Prop) (args : Array Value) (s : State) (post : Nat → (Nat → Nat) → (Nat → Nat → Nat) → Prop) : State → Prop := MQ below (va_Qi (xPi o ad dA post) (ky_B D (xT dA) A) A) args s 0 0 A
def xQv (below : List Frame) (D : va_G) (o : Nat) (ad : Nat → Nat) (dA : Nat → ClassId) (A : Nat → Prop) (args : Array Value) (s : State) (post : (Nat → Nat) → (Nat → Nat → Nat) → Prop) : State → Prop := MQ below (va_Qv (xPv o ad dA post) (ky_B D (xT dA) A) A) args s 0 0 A
theorem xMi.intro {y : MethodName} {ty : FieldType} {rm : Room} {As : List Int32} {post : Nat → (Nat → Nat) → (Nat → Nat → Nat) → Prop} (hy : plainName y.cls = true) (hcl : y.cls = RX0) (hn : As.length + 1 ≤ nL) (hL : (Value.ref o :: As.map Value.int).map some ++ List.replicate (nL - (Value.ref o :: As.map Value.int).length) none = L)
    (body : ∀ (p : Program) (e : Env) (s : State) (m : MethodId) (args : Array Value) (below : List Frame) (meth : Method) (c : Code) (A : Nat → Prop), ky_C p s m args c cc nL RX0 D (xT dA) → meth.sig.returnType = some ty → meth.locks = false → (∀ q : Nat, s.heap.size ≤ q → A q) →
      ky_At p l e rm s m args below meth c 0 0 (xQi below D o ad dA A args s post) D A nL (xW o ad dA G F) 0 L []) : xMi l y cc nL ty rm D o ad dA G F As post := by
  refine ky_Mi.intro hy (kn_cap o As) (by simpa using hn) ?_
  intro p e s m below meth c A C hr hlocks hA
  rw [hL]
  rw [hcl] at C
  exact body p e s m _ below meth c A C hr hlocks hA
theorem xMv.intro {y : MethodName} {rm : Room} {As : List Int32} {post : (Nat → Nat) → (Nat → Nat → Nat) → Prop} (hy : plainName y.cls = true) (hcl : y.cls = RX0) (hn : As.length + 1 ≤ nL) (hL : (Value.ref o :: As.map Value.int).map some ++ List.replicate (nL - (Value.ref o :: As.map Value.int).length) none = L)
    (body : ∀ (p : Program) (e : Env) (s : State) (m : MethodId) (args : Array Value) (below : List Frame) (meth : Method) (c : Code) (A : Nat → Prop), ky_C p s m args c cc nL RX0 D (xT dA) → meth.sig.returnType = none → meth.locks = false → (∀ q : Nat, s.heap.size ≤ q → A q) →
      ky_At p l e rm s m args below meth c 0 0 (xQv below D o ad dA A args s post) D A nL (xW o ad dA G F) 0 L []) : xMv l y cc nL rm D o ad dA G F As post := by
  refine ky_Mv.intro hy (kn_cap o As) (by simpa using hn) ?_
  intro p e s m below meth c A C hr hlocks hA
  rw [hL]
  rw [hcl] at C
  exact body p e s m _ below meth c A C hr hlocks hA
theorem x_iret (C : ky_C p s m args c cc nL RX0 D (xT dA)) {v : Nat} {post : Nat → (Nat → Nat) → (Nat → Nat → Nat) → Prop} (hr : meth.sig.returnType = some .int) (hlocks : meth.locks = false) (hdg : decode cc pc = .ok (.ireturn, 1)) (hp : post v G F) : ky_At p l e R s m args below meth c 0 0 (xQi below D o ad dA A args s post) D A nL (xW o ad dA G F) pc L [.int (nI v)] :=
  ky_iret C hr hlocks hdg ⟨v, G, F, rfl, rfl, hp⟩
theorem x_zret (C : ky_C p s m args c cc nL RX0 D (xT dA)) {v : Nat} {post : Nat → (Nat → Nat) → (Nat → Nat → Nat) → Prop} (hr : meth.sig.returnType = some .boolean) (hlocks : meth.locks = false) (hdg : decode cc pc = .ok (.ireturn, 1)) (hv : v < 2) (hp : post v G F) : ky_At p l e R s m args below meth c 0 0 (xQi below D o ad dA A args s post) D A nL (xW o ad dA G F) pc L [.int (nI v)] :=
  ky_zret C hr hlocks hdg hv ⟨v, G, F, rfl, rfl, hp⟩
theorem x_vret (C : ky_C p s m args c cc nL RX0 D (xT dA)) {post : (Nat → Nat) → (Nat → Nat → Nat) → Prop} (hr : meth.sig.returnType = none) (hlocks : meth.locks = false) (hdg : decode cc pc = .ok (.return_, 1)) (hp : post G F) : ky_At p l e R s m args below meth c 0 0 (xQv below D o ad dA A args s post) D A nL (xW o ad dA G F) pc L [] :=
  ky_vret C hr hlocks hdg ⟨G, F, rfl, hp⟩
theorem x_ci (C : ky_C p s m args c cc nL RX0 D (xT dA)) (hA : ∀ q : Nat, s.heap.size ≤ q → A q) {y : MethodName} {cy : ByteArray} {nY n index : Nat} {ty : FieldType} {rm : Room} {As : List Int32} {S : List Value} {post : Nat → (Nat → Nat) → (Nat → Nat → Nat) → Prop}
    (hM : xMi l y cy nY ty rm D o ad dA G F As post) (cw : CallW R s args RX0 RX0 index y cy nY (some ty) (ws_ y cy nY (some ty)) rm 0 0 n) (hS : S = (As.map Value.int).reverse ++ .ref o :: st) (hn : (As.map Value.int).length = n) (hst : (st.map fun v => v.category).sum ≤ 8) (hdg : decode cc pc = .ok (.invokevirtual index, 3))
    (kk : ∀ (v : Nat) (G' : Nat → Nat) (F' : Nat → Nat → Nat), post v G' F' → ky_At p l e R s m args below meth c 0 0 Q D A nL (xW o ad dA G' F') (pc + 3) L (.int (nI v) :: st)) : ky_At p l e R s m args below meth c 0 0 Q D A nL (xW o ad dA G F) pc L S := by
  subst hS
  refine ky_calli (ci := 0) (q0 := 0) (o := o) C hA hM cw rfl rfl hn hst hdg ⟨Nat.zero_le _, Nat.zero_le _⟩ (fun r w hw => ?_)
  obtain ⟨v, G', F', rfl, rfl, h⟩ := hw
  exact kk v G' F' h
theorem x_cv (C : ky_C p s m args c cc nL RX0 D (xT dA)) (hA : ∀ q : Nat, s.heap.size ≤ q → A q) {y : MethodName} {cy : ByteArray} {nY n index : Nat} {rm : Room} {As : List Int32} {S : List Value} {post : (Nat → Nat) → (Nat → Nat → Nat) → Prop}
    (hM : xMv l y cy nY rm D o ad dA G F As post) (cw : CallW R s args RX0 RX0 index y cy nY none (ws_ y cy nY none) rm 0 0 n) (hS : S = (As.map Value.int).reverse ++ .ref o :: st) (hn : (As.map Value.int).length = n) (hst : (st.map fun v => v.category).sum ≤ 8) (hdg : decode cc pc = .ok (.invokevirtual index, 3))
    (kk : ∀ (G' : Nat → Nat) (F' : Nat → Nat → Nat), post G' F' → ky_At p l e R s m args below meth c 0 0 Q D A nL (xW o ad dA G' F') (pc + 3) L st) : ky_At p l e R s m args below meth c 0 0 Q D A nL (xW o ad dA G F) pc L S := by
  subst hS
  refine ky_callv (ci := 0) (q0 := 0) (o := o) C hA hM cw rfl rfl hn hst hdg ⟨Nat.zero_le _, Nat.zero_le _⟩ (fun w hw => ?_)
  obtain ⟨G', F', rfl, h⟩ := hw
  exact kk G' F' h
def wPi (o : Nat) (ad : Nat → Nat) (dA : Nat → ClassId) (post : Nat → (Nat → Nat) → (Nat → Nat → Nat) → Prop) : Int32 → va_W → Prop := fun r w => ∃ v G' F', r = nI v ∧ w = wW o ad dA G' F' ∧ post v G' F'
def wPv (o : Nat) (ad : Nat → Nat) (dA : Nat → ClassId) (post : (Nat → Nat) → (Nat → Nat → Nat) → Prop) : va_W → Prop := fun w => ∃ G' F', w = wW o ad dA G' F' ∧ post G' F'
/-- the contract of a method with an int answer: from the fields G, the arrays F, the arguments As: post answer fields arrays -/
def wMi (l : Launch) (y : MethodName) (cc : ByteArray) (nL : Nat) (ty : FieldType) (rm : Room) (D : va_G) (o : Nat) (ad : Nat → Nat) (dA : Nat → ClassId) (G : Nat → Nat) (F : Nat → Nat → Nat) (As : List Int32) (post : Nat → (Nat → Nat) → (Nat → Nat → Nat) → Prop) : Prop :=
  ky_Mi l y cc nL ty rm D (wT dA) (wW o ad dA G F) (.ref o :: As.map Value.int) (wPi o ad dA post)
def wMv (l : Launch) (y : MethodName) (cc : ByteArray) (nL : Nat) (rm : Room) (D : va_G) (o : Nat) (ad : Nat → Nat) (dA : Nat → ClassId) (G : Nat → Nat) (F : Nat → Nat → Nat) (As : List Int32) (post : (Nat → Nat) → (Nat → Nat → Nat) → Prop) : Prop :=
  ky_Mv l y cc nL rm D (wT dA) (wW o ad dA G F) (.ref o :: As.map Value.int) (wPv o ad dA post)
def wQi (below : List Frame) (D : va_G) (o : Nat) (ad : Nat → Nat) (dA : Nat → ClassId) (A : Nat → Prop) (args : Array Value) (s : State) (post : Nat → (Nat → Nat) → (Nat → Nat → Nat) → Prop) : State → Prop := MQ below (va_Qi (wPi o ad dA post) (ky_B D (wT dA) A) A) args s 0 0 A
def wQv (below : List Frame) (D : va_G) (o : Nat) (ad : Nat → Nat) (dA : Nat → ClassId) (A : Nat → Prop) (args : Array Value) (s : State) (post : (Nat → Nat) → (Nat → Nat → Nat) → Prop) : State → Prop := MQ below (va_Qv (wPv o ad dA post) (ky_B D (wT dA) A) A) args s 0 0 A
theorem wMi.intro {y : MethodName} {ty : FieldType} {rm : Room} {As : List Int32} {post : Nat → (Nat → Nat) → (Nat → Nat → Nat) → Prop} (hy : plainName y.cls = true) (hcl : y.cls = RX1) (hn : As.length + 1 ≤ nL) (hL : (Value.ref o :: As.map Value.int).map some ++ List.replicate (nL - (Value.ref o :: As.map Value.int).length) none = L)
    (body : ∀ (p : Program) (e : Env) (s : State) (m : MethodId) (args : Array Value) (below : List Frame) (meth : Method) (c : Code) (A : Nat → Prop), ky_C p s m args c cc nL RX1 D (wT dA) → meth.sig.returnType = some ty → meth.locks = false → (∀ q : Nat, s.heap.size ≤ q → A q) →
      ky_At p l e rm s m args below meth c 0 0 (wQi below D o ad dA A args s post) D A nL (wW o ad dA G F) 0 L []) : wMi l y cc nL ty rm D o ad dA G F As post := by
  refine ky_Mi.intro hy (kn_cap o As) (by simpa using hn) ?_
  intro p e s m below meth c A C hr hlocks hA
  rw [hL]
  rw [hcl] at C
  exact body p e s m _ below meth c A C hr hlocks hA
theorem wMv.intro {y : MethodName} {rm : Room} {As : List Int32} {post : (Nat → Nat) → (Nat → Nat → Nat) → Prop} (hy : plainName y.cls = true) (hcl : y.cls = RX1) (hn : As.length + 1 ≤ nL) (hL : (Value.ref o :: As.map Value.int).map some ++ List.replicate (nL - (Value.ref o :: As.map Value.int).length) none = L)
    (body : ∀ (p : Program) (e : Env) (s : State) (m : MethodId) (args : Array Value) (below : List Frame) (meth : Method) (c : Code) (A : Nat → Prop), ky_C p s m args c cc nL RX1 D (wT dA) → meth.sig.returnType = none → meth.locks = false → (∀ q : Nat, s.heap.size ≤ q → A q) →
      ky_At p l e rm s m args below meth c 0 0 (wQv below D o ad dA A args s post) D A nL (wW o ad dA G F) 0 L []) : wMv l y cc nL rm D o ad dA G F As post := by
  refine ky_Mv.intro hy (kn_cap o As) (by simpa using hn) ?_
  intro p e s m below meth c A C hr hlocks hA
  rw [hL]
  rw [hcl] at C
  exact body p e s m _ below meth c A C hr hlocks hA
theorem w_iret (C : ky_C p s m args c cc nL RX1 D (wT dA)) {v : Nat} {post : Nat → (Nat → Nat) → (Nat → Nat → Nat) → Prop} (hr : meth.sig.returnType = some .int) (hlocks : meth.locks = false) (hdg : decode cc pc = .ok (.ireturn, 1)) (hp : post v G F) : ky_At p l e R s m args below meth c 0 0 (wQi below D o ad dA A args s post) D A nL (wW o ad dA G F) pc L [.int (nI v)] :=
  ky_iret C hr hlocks hdg ⟨v, G, F, rfl, rfl, hp⟩
theorem w_zret (C : ky_C p s m args c cc nL RX1 D (wT dA)) {v : Nat} {post : Nat → (Nat → Nat) → (Nat → Nat → Nat) → Prop} (hr : meth.sig.returnType = some .boolean) (hlocks : meth.locks = false) (hdg : decode cc pc = .ok (.ireturn, 1)) (hv : v < 2) (hp : post v G F) : ky_At p l e R s m args below meth c 0 0 (wQi below D o ad dA A args s post) D A nL (wW o ad dA G F) pc L [.int (nI v)] :=
  ky_zret C hr hlocks hdg hv ⟨v, G, F, rfl, rfl, hp⟩
theorem w_vret (C : ky_C p s m args c cc nL RX1 D (wT dA)) {post : (Nat → Nat) → (Nat → Nat → Nat) → Prop} (hr : meth.sig.returnType = none) (hlocks : meth.locks = false) (hdg : decode cc pc = .ok (.return_, 1)) (hp : post G F) : ky_At p l e R s m args below meth c 0 0 (wQv below D o ad dA A args s post) D A nL (wW o ad dA G F) pc L [] :=
  ky_vret C hr hlocks hdg ⟨G, F, rfl, hp⟩
theorem w_ci (C : ky_C p s m args c cc nL RX1 D (wT dA)) (hA : ∀ q : Nat, s.heap.size ≤ q → A q) {y : MethodName} {cy : ByteArray} {nY n index : Nat} {ty : FieldType} {rm : Room} {As : List Int32} {S : List Value} {post : Nat → (Nat → Nat) → (Nat → Nat → Nat) → Prop}
    (hM : wMi l y cy nY ty rm D o ad dA G F As post) (cw : CallW R s args RX1 RX1 index y cy nY (some ty) (ws_ y cy nY (some ty)) rm 0 0 n) (hS : S = (As.map Value.int).reverse ++ .ref o :: st) (hn : (As.map Value.int).length = n) (hst : (st.map fun v => v.category).sum ≤ 8) (hdg : decode cc pc = .ok (.invokevirtual index, 3))
    (kk : ∀ (v : Nat) (G' : Nat → Nat) (F' : Nat → Nat → Nat), post v G' F' → ky_At p l e R s m args below meth c 0 0 Q D A nL (wW o ad dA G' F') (pc + 3) L (.int (nI v) :: st)) : ky_At p l e R s m args below meth c 0 0 Q D A nL (wW o ad dA G F) pc L S := by
  subst hS
  refine ky_calli (ci := 1) (q0 := 0) (o := o) C hA hM cw rfl rfl hn hst hdg ⟨Nat.zero_le _, Nat.zero_le _⟩ (fun r w hw => ?_)
  obtain ⟨v, G', F', rfl, rfl, h⟩ := hw
  exact kk v G' F' h
theorem w_cv (C : ky_C p s m args c cc nL RX1 D (wT dA)) (hA : ∀ q : Nat, s.heap.size ≤ q → A q) {y : MethodName} {cy : ByteArray} {nY n index : Nat} {rm : Room} {As : List Int32} {S : List Value} {post : (Nat → Nat) → (Nat → Nat → Nat) → Prop}
    (hM : wMv l y cy nY rm D o ad dA G F As post) (cw : CallW R s args RX1 RX1 index y cy nY none (ws_ y cy nY none) rm 0 0 n) (hS : S = (As.map Value.int).reverse ++ .ref o :: st) (hn : (As.map Value.int).length = n) (hst : (st.map fun v => v.category).sum ≤ 8) (hdg : decode cc pc = .ok (.invokevirtual index, 3))
    (kk : ∀ (G' : Nat → Nat) (F' : Nat → Nat → Nat), post G' F' → ky_At p l e R s m args below meth c 0 0 Q D A nL (wW o ad dA G' F') (pc + 3) L st) : ky_At p l e R s m args below meth c 0 0 Q D A nL (wW o ad dA G F) pc L S := by
  subst hS
  refine ky_callv (ci := 1) (q0 := 0) (o := o) C hA hM cw rfl rfl hn hst hdg ⟨Nat.zero_le _, Nat.zero_le _⟩ (fun w hw => ?_)
  obtain ⟨G', F', rfl, h⟩ := hw
  exact kk G' F' h
end KYG
end
section
/-! the rooms of the methods (printed by gen.py rooms) -/
abbrev rX0_arc : Room := { frames := 1, cells := 0, slots := 0, locals := 21 }
abbrev rX0_avoiding : Room := { frames := 2, cells := 0, slots := 0, locals := 52 }
abbrev rX0_bestCandidate : Room := { frames := 0, cells := 0, slots := 0, locals := 0 }
abbrev rX0_branchOff : Room := { frames := 2, cells := 0, slots := 0, locals := 52 }
abbrev rX0_codeOfWay : Room := { frames := 0, cells := 0, slots := 0, locals := 0 }
abbrev rX0_ends : Room := { frames := 1, cells := 0, slots := 0, locals := 21 }
abbrev rX0_findPaths : Room := { frames := 3, cells := 0, slots := 0, locals := 79 }
abbrev rX0_goOn : Room := { frames := 1, cells := 0, slots := 0, locals := 25 }
abbrev rX0_init : Room := { frames := 1, cells := 0, slots := 0, locals := 12 }
abbrev rX0_isVertex : Room := { frames := 0, cells := 0, slots := 0, locals := 0 }
abbrev rX0_keep : Room := { frames := 0, cells := 0, slots := 0, locals := 0 }
abbrev rX0_length : Room := { frames := 4, cells := 0, slots := 0, locals := 101 }
abbrev rX0_measure : Room := { frames := 0, cells := 0, slots := 0, locals := 0 }
abbrev rX0_nearer : Room := { frames := 0, cells := 0, slots := 0, locals := 0 }
abbrev rX0_passing : Room := { frames := 4, cells := 0, slots := 0, locals := 101 }
abbrev rX0_paths : Room := { frames := 4, cells := 0, slots := 0, locals := 101 }
abbrev rX0_propose : Room := { frames := 0, cells := 0, slots := 0, locals := 0 }
abbrev rX0_size : Room := { frames := 4, cells := 0, slots := 0, locals := 101 }
abbrev rX0_takenAfter : Room := { frames := 1, cells := 0, slots := 0, locals := 22 }
abbrev rX0_unavoidable : Room := { frames := 2, cells := 0, slots := 0, locals := 52 }
abbrev rX0_vertex : Room := { frames := 4, cells := 0, slots := 0, locals := 101 }
abbrev rX0_vertexIn : Room := { frames := 0, cells := 0, slots := 0, locals := 0 }
abbrev rX0_weight : Room := { frames := 1, cells := 0, slots := 0, locals := 21 }
abbrev rX1_arc : Room := { frames := 1, cells := 0, slots := 0, locals := 21 }
abbrev rX1_avoiding : Room := { frames := 5, cells := 0, slots := 0, locals := 118 }
abbrev rX1_comesBefore : Room := { frames := 0, cells := 0, slots := 0, locals := 0 }
abbrev rX1_ends : Room := { frames := 1, cells := 0, slots := 0, locals := 21 }
abbrev rX1_found : Room := { frames := 2, cells := 0, slots := 0, locals := 46 }
abbrev rX1_init : Room := { frames := 1, cells := 0, slots := 0, locals := 12 }
abbrev rX1_isVertex : Room := { frames := 0, cells := 0, slots := 0, locals := 0 }
abbrev rX1_keep : Room := { frames := 1, cells := 0, slots := 0, locals := 23 }
abbrev rX1_keptPasses : Room := { frames := 0, cells := 0, slots := 0, locals := 0 }
abbrev rX1_length : Room := { frames := 5, cells := 0, slots := 0, locals := 118 }
abbrev rX1_lengthOfPath : Room := { frames := 0, cells := 0, slots := 0, locals := 0 }
abbrev rX1_onPath : Room := { frames := 0, cells := 0, slots := 0, locals := 0 }
abbrev rX1_passing : Room := { frames := 5, cells := 0, slots := 0, locals := 118 }
abbrev rX1_pathPasses : Room := { frames := 0, cells := 0, slots := 0, locals := 0 }
abbrev rX1_paths : Room := { frames := 5, cells := 0, slots := 0, locals := 118 }
abbrev rX1_search : Room := { frames := 4, cells := 0, slots := 0, locals := 95 }
abbrev rX1_shift : Room := { frames := 0, cells := 0, slots := 0, locals := 0 }
abbrev rX1_size : Room := { frames := 5, cells := 0, slots := 0, locals := 118 }
abbrev rX1_turn : Room := { frames := 3, cells := 0, slots := 0, locals := 71 }
abbrev rX1_unavoidable : Room := { frames := 5, cells := 0, slots := 0, locals := 118 }
abbrev rX1_vertex : Room := { frames := 5, cells := 0, slots := 0, locals := 118 }
abbrev rX1_weight : Room := { frames := 1, cells := 0, slots := 0, locals := 21 }
end
section
/-! more rows: forgetting, bits, updates -/
theorem kn_bit0 (a i : Nat) : a / 2 ^ i &&& 1 = 0 ↔ a.testBit i = false := by
  rw [kn_bit]
  cases a.testBit i <;> simp
theorem kn_bit_lt (a : Nat) : (a &&& 1) < 4294967296 := Nat.lt_of_le_of_lt Nat.and_le_right (by decide)
theorem vu_at {α : Type} (f : Nat → α) (k : Nat) (v : α) : va_up f k v k = v := by simp [va_up]
theorem vu_ne {α : Type} {f : Nat → α} {k j : Nat} {v : α} (h : j ≠ k) : va_up f k v j = f j := by simp [va_up, h]
theorem vu_self {α : Type} (f : Nat → α) (k : Nat) : va_up f k (f k) = f := by
  funext j
  unfold va_up
  split
  · rename_i h
    rw [h]
  · rfl
theorem vu_comm {α : Type} (f : Nat → α) {i j : Nat} (h : i ≠ j) (v w : α) : va_up (va_up f i v) j w = va_up (va_up f j w) i v := by
  funext x
  unfold va_up
  split
  · split
    · omega
    · rfl
  · rfl
section KYF3
variable {p : Program} {l : Launch} {e : Env} {R : Room} {s : State} {m : MethodId} {args : Array Value} {below : List Frame} {meth : Method} {c : Code} {cells slots : Nat} {Q : State → Prop} {D : va_G} {A : Nat → Prop} {nL pc : Nat} {ws : va_W} {L : List (Option Value)} {st : List Value}
theorem ky_forget (k : Nat) (kk : ky_At p l e R s m args below meth c cells slots Q D A nL ws pc (L.set k none) st) : ky_At p l e R s m args below meth c cells slots Q D A nL ws pc L st := by
  refine ky_weak (fun i v h => ?_) kk
  by_cases hi : i = k
  · subst hi
    have hlt : i < L.length := by
      have := (List.getElem?_eq_some_iff.mp h).1
      simpa using this
    rw [List.getElem?_set_self hlt] at h
    cases h
  · rwa [List.getElem?_set_ne (fun q => hi q.symm)] at h
end KYF3
end
section
/-! PURE: walks, lengths, order (no machine in sight) -/
/-- length of a list of vertices -/
def ye_len (w : Nat → Nat) : List Nat → Nat
  | [] => 0
  | [_] => 0
  | u :: v :: r => w (7 * u + v) + ye_len w (v :: r)
/-- all its arcs are there, and none is the closed one -/
def ye_wk (w : Nat → Nat) (ca : Nat) : List Nat → Prop
  | [] => True
  | [_] => True
  | u :: v :: r => (w (7 * u + v) ≠ 0 ∧ 7 * u + v ≠ ca) ∧ ye_wk w ca (v :: r)
/-- strictly before, at the first place where they differ -/
def ye_lx : List Nat → List Nat → Prop
  | a :: r, b :: q => a < b ∨ (a = b ∧ ye_lx r q)
  | _, _ => False
def ye_lt (w : Nat → Nat) (p q : List Nat) : Prop := ye_len w p < ye_len w q ∨ (ye_len w p = ye_len w q ∧ ye_lx p q)
/-- a path from s to t -/
def ye_path (w : Nat → Nat) (ca s t : Nat) (p : List Nat) : Prop := p.Nodup ∧ (∀ x ∈ p, x < 7) ∧ p.head? = some s ∧ p.getLast? = some t ∧ ye_wk w ca p
/-- a walk from v to t that keeps off the set cl -/
def ye_V (w : Nat → Nat) (ca cl t v : Nat) (p : List Nat) : Prop := p.head? = some v ∧ p.getLast? = some t ∧ ye_wk w ca p ∧ ∀ x ∈ p, x < 7 ∧ cl.testBit x = false
theorem ye_lx_irr : ∀ (p : List Nat), ¬ ye_lx p p
  | [] => fun h => h
  | a :: r => fun h => by
    rcases h with h | ⟨-, h⟩
    · omega
    · exact ye_lx_irr r h
theorem ye_lx_asym : ∀ (p q : List Nat), ye_lx p q → ¬ ye_lx q p
  | [], _ => fun h => by cases h
  | _ :: _, [] => fun h => by cases h
  | a :: r, b :: q => fun h h2 => by
    rcases h with h | ⟨e, h⟩ <;> rcases h2 with h2 | ⟨e2, h2⟩
    · omega
    · omega
    · omega
    · exact ye_lx_asym r q h h2
theorem ye_lx_trans : ∀ (p q r : List Nat), ye_lx p q → ye_lx q r → ye_lx p r
  | [], _, _ => fun h => by cases h
  | _ :: _, [], _ => fun h => by cases h
  | _ :: _, _ :: _, [] => fun _ h => by cases h
  | a :: p, b :: q, c :: r => fun h h2 => by
    rcases h with h | ⟨e, h⟩ <;> rcases h2 with h2 | ⟨e2, h2⟩
    · exact Or.inl (by omega)
    · exact Or.inl (by omega)
    · exact Or.inl (by omega)
    · exact Or.inr ⟨by omega, ye_lx_trans p q r h h2⟩
theorem ye_lt_irr {w : Nat → Nat} {p : List Nat} : ¬ ye_lt w p p := by
  rintro (h | ⟨-, h⟩)
  · omega
  · exact ye_lx_irr p h
theorem ye_lt_trans {w : Nat → Nat} {p q r : List Nat} (h : ye_lt w p q) (h2 : ye_lt w q r) : ye_lt w p r := by
  rcases h with h | ⟨e, h⟩ <;> rcases h2 with h2 | ⟨e2, h2⟩
  · exact Or.inl (by omega)
  · exact Or.inl (by omega)
  · exact Or.inl (by omega)
  · exact Or.inr ⟨by omega, ye_lx_trans _ _ _ h h2⟩
theorem ye_lt_asym {w : Nat → Nat} {p q : List Nat} (h : ye_lt w p q) : ¬ ye_lt w q p := fun h2 => ye_lt_irr (ye_lt_trans h h2)
/-- lists that end at t and hold it once: one is before the other -/
theorem ye_lx_tri {t : Nat} : ∀ (p q : List Nat), p.getLast? = some t → q.getLast? = some t → p.Nodup → q.Nodup → p = q ∨ ye_lx p q ∨ ye_lx q p
  | [], _ => fun h => by simp at h
  | _ :: _, [] => fun _ h => by simp at h
  | [a], [b] => fun h h2 _ _ => by
    simp at h h2
    left
    rw [h, h2]
  | [a], b :: c :: q => fun h h2 _ n2 => by
    simp at h
    rcases Nat.lt_trichotomy a b with z | z | z
    · exact Or.inr (Or.inl (Or.inl z))
    · exfalso
      rw [List.getLast?_cons_cons] at h2
      have h3 := List.mem_of_getLast? h2
      rw [List.nodup_cons] at n2
      exact n2.1 (by rw [← z, h]; exact h3)
    · exact Or.inr (Or.inr (Or.inl z))
  | a :: c :: p, [b] => fun h h2 n1 _ => by
    simp at h2
    rcases Nat.lt_trichotomy a b with z | z | z
    · exact Or.inr (Or.inl (Or.inl z))
    · exfalso
      rw [List.getLast?_cons_cons] at h
      have h3 := List.mem_of_getLast? h
      rw [List.nodup_cons] at n1
      exact n1.1 (by rw [z, h2]; exact h3)
    · exact Or.inr (Or.inr (Or.inl z))
  | a :: c :: p, b :: d :: q => fun h h2 n1 n2 => by
    rcases Nat.lt_trichotomy a b with z | z | z
    · exact Or.inr (Or.inl (Or.inl z))
    · rw [List.getLast?_cons_cons] at h h2
      rw [List.nodup_cons] at n1 n2
      rcases ye_lx_tri (c :: p) (d :: q) h h2 n1.2 n2.2 with y | y | y
      · left
        rw [z, y]
      · exact Or.inr (Or.inl (Or.inr ⟨z, y⟩))
      · exact Or.inr (Or.inr (Or.inr ⟨z.symm, y⟩))
    · exact Or.inr (Or.inr (Or.inl z))
theorem ye_path_tri {w : Nat → Nat} {ca s t : Nat} {p q : List Nat} (hp : ye_path w ca s t p) (hq : ye_path w ca s t q) : p = q ∨ ye_lt w p q ∨ ye_lt w q p := by
  rcases Nat.lt_trichotomy (ye_len w p) (ye_len w q) with h | h | h
  · exact Or.inr (Or.inl (Or.inl h))
  · rcases ye_lx_tri p q hp.2.2.2.1 hq.2.2.2.1 hp.1 hq.1 with y | y | y
    · exact Or.inl y
    · exact Or.inr (Or.inl (Or.inr ⟨h, y⟩))
    · exact Or.inr (Or.inr (Or.inr ⟨h.symm, y⟩))
  · exact Or.inr (Or.inr (Or.inl h))
/-- no path is the beginning of another -/
theorem ye_no_begin {t : Nat} : ∀ (p q : List Nat), p.getLast? = some t → (p ++ q).getLast? = some t → (p ++ q).Nodup → q = []
  | [], _ => fun h => by simp at h
  | [a], q => fun h h2 n => by
    simp at h
    cases q with
    | nil => rfl
    | cons b r =>
      exfalso
      simp at h2
      have h3 := List.mem_of_getLast? (l := b :: r) h2
      have n2 : a ∉ b :: r := (List.nodup_cons.mp n).1
      exact n2 (by rw [h]; exact h3)
  | a :: b :: p, q => fun h h2 n => by
    rw [List.getLast?_cons_cons] at h
    have h3 : (b :: p ++ q).getLast? = some t := by
      rw [List.cons_append, List.cons_append, List.getLast?_cons_cons] at h2
      exact h2
    exact ye_no_begin (b :: p) q h h3 (List.nodup_cons.mp n).2
theorem ye_nodup_len : ∀ (n : Nat) (p : List Nat), p.Nodup → (∀ x ∈ p, x < n) → p.length ≤ n
  | 0, p => fun _ h => by
    cases p with
    | nil => simp
    | cons a r => exact absurd (h a List.mem_cons_self) (by omega)
  | n + 1, p => fun hn h => by
    have h1 : (p.erase n).length ≤ n := by
      refine ye_nodup_len n (p.erase n) (hn.erase n) (fun x hx => ?_)
      have h2 := (hn.mem_erase_iff).mp hx
      have h3 := h x h2.2
      have h4 := h2.1
      omega
    have h5 := List.length_erase (a := n) (l := p)
    split at h5 <;> omega
/-- a walk can be made a path: drop what goes round -/
theorem ye_simple {w : Nat → Nat} {ca t : Nat} : ∀ (p : List Nat) (v : Nat), p.head? = some v → p.getLast? = some t → ye_wk w ca p → ∃ q : List Nat, q.Nodup ∧ q.head? = some v ∧ q.getLast? = some t ∧ ye_wk w ca q ∧ (∀ x ∈ q, x ∈ p) ∧ ye_len w q ≤ ye_len w p
  | [], _ => fun h => by simp at h
  | [a], v => fun h h2 h3 => ⟨[a], by simp, h, h2, h3, fun _ h => h, Nat.le_refl _⟩
  | a :: b :: r, v => fun h h2 h3 => by
    rw [List.getLast?_cons_cons] at h2
    obtain ⟨q, q1, q2, q3, q4, q5, q6⟩ := ye_simple (b :: r) b rfl h2 h3.2
    have hv : a = v := by simpa using h
    subst hv
    by_cases ha : a ∈ q
    · obtain ⟨x, y, rfl⟩ := List.append_of_mem ha
      have hs : ∀ (x : List Nat), ye_wk w ca (x ++ a :: y) → ye_wk w ca (a :: y) ∧ ye_len w (a :: y) ≤ ye_len w (x ++ a :: y) := by
        intro x
        induction x with
        | nil => exact fun h => ⟨h, Nat.le_refl _⟩
        | cons c z ih =>
          intro h
          cases z with
          | nil =>
            refine ⟨h.2, ?_⟩
            show _ ≤ w (7 * c + a) + ye_len w (a :: y)
            omega
          | cons d z =>
            obtain ⟨i1, i2⟩ := ih h.2
            refine ⟨i1, ?_⟩
            show _ ≤ w (7 * c + d) + ye_len w (d :: (z ++ a :: y))
            have i3 : ye_len w (a :: y) ≤ ye_len w (d :: (z ++ a :: y)) := i2
            omega
      obtain ⟨s1, s2⟩ := hs x q4
      refine ⟨a :: y, ?_, rfl, ?_, s1, ?_, ?_⟩
      · exact (List.nodup_append.mp q1).2.1
      · rw [List.getLast?_append] at q3
        cases hz : (a :: y).getLast? with
        | none => simp at hz
        | some z => rw [hz] at q3; exact q3
      · intro z hz
        exact List.mem_cons_of_mem _ (q5 z (List.mem_append_right _ hz))
      · show _ ≤ w (7 * a + b) + ye_len w (b :: r)
        omega
    · cases q with
      | nil => simp at q2
      | cons c q =>
        have hc : c = b := by simpa using q2
        subst hc
        refine ⟨a :: c :: q, List.nodup_cons.mpr ⟨ha, q1⟩, rfl, ?_, ⟨h3.1, q4⟩, ?_, ?_⟩
        · rw [List.getLast?_cons_cons]; exact q3
        · intro z hz
          rcases List.mem_cons.mp hz with e | e
          · rw [e]; exact List.mem_cons_self
          · exact List.mem_cons_of_mem _ (q5 z e)
        · show w (7 * a + c) + ye_len w (c :: q) ≤ w (7 * a + c) + ye_len w (c :: r)
          omega
theorem ye_len_le {w : Nat → Nat} (hw : ∀ j, j < 49 → w j ≤ 50) : ∀ (p : List Nat), (∀ x ∈ p, x < 7) → ye_len w p ≤ 50 * (p.length - 1)
  | [] => fun _ => Nat.zero_le _
  | [_] => fun _ => Nat.zero_le _
  | u :: v :: r => fun h => by
    have h1 := ye_len_le hw (v :: r) (fun x hx => h x (List.mem_cons_of_mem _ hx))
    have hu := h u List.mem_cons_self
    have hv := h v (List.mem_cons_of_mem _ List.mem_cons_self)
    have h2 := hw (7 * u + v) (by omega)
    show w (7 * u + v) + ye_len w (v :: r) ≤ _
    simp only [List.length_cons] at h1 ⊢
    omega
/-- a length in two parts -/
theorem ye_len_app {w : Nat → Nat} (a : Nat) (q : List Nat) : ∀ (x : List Nat), ye_len w (x ++ a :: q) = ye_len w (x ++ [a]) + ye_len w (a :: q)
  | [] => by show ye_len w (a :: q) = 0 + ye_len w (a :: q); omega
  | [c] => by
    show w (7 * c + a) + ye_len w (a :: q) = (w (7 * c + a) + 0) + ye_len w (a :: q)
    omega
  | c :: d :: x => by
    have h := ye_len_app (w := w) a q (d :: x)
    show w (7 * c + d) + ye_len w (d :: x ++ a :: q) = (w (7 * c + d) + ye_len w (d :: x ++ [a])) + ye_len w (a :: q)
    omega
theorem ye_wk_app {w : Nat → Nat} {ca : Nat} (a : Nat) (q : List Nat) : ∀ (x : List Nat), ye_wk w ca (x ++ a :: q) ↔ ye_wk w ca (x ++ [a]) ∧ ye_wk w ca (a :: q)
  | [] => by
    show ye_wk w ca (a :: q) ↔ True ∧ ye_wk w ca (a :: q)
    simp
  | [c] => by
    show ((w (7 * c + a) ≠ 0 ∧ 7 * c + a ≠ ca) ∧ ye_wk w ca (a :: q)) ↔ ((w (7 * c + a) ≠ 0 ∧ 7 * c + a ≠ ca) ∧ True) ∧ ye_wk w ca (a :: q)
    simp
  | c :: d :: x => by
    have h := ye_wk_app (w := w) (ca := ca) a q (d :: x)
    show ((w (7 * c + d) ≠ 0 ∧ 7 * c + d ≠ ca) ∧ ye_wk w ca (d :: x ++ a :: q)) ↔ ((w (7 * c + d) ≠ 0 ∧ 7 * c + d ≠ ca) ∧ ye_wk w ca (d :: x ++ [a])) ∧ ye_wk w ca (a :: q)
    rw [h]
    exact and_assoc.symm
theorem ye_lx_app (p q : List Nat) : ∀ (x : List Nat), ye_lx (x ++ p) (x ++ q) ↔ ye_lx p q
  | [] => Iff.rfl
  | c :: x => by
    have h := ye_lx_app p q x
    show (c < c ∨ (c = c ∧ ye_lx (x ++ p) (x ++ q))) ↔ _
    rw [h]
    simp
-- ===== the first n of a set in order: it is one list =====
def ye_first (lt : List Nat → List Nat → Prop) (S : List Nat → Prop) (n : Nat) (K : List (List Nat)) : Prop := K.Pairwise lt ∧ (∀ p ∈ K, S p) ∧ K.length ≤ n ∧ ∀ q, S q → q ∉ K → K.length = n ∧ ∀ p ∈ K, lt p q
theorem ye_first_one {lt : List Nat → List Nat → Prop} (ha : ∀ p q, lt p q → ¬ lt q p) : ∀ (K K' : List (List Nat)) (S : List Nat → Prop) (n : Nat), ye_first lt S n K → ye_first lt S n K' → K = K'
  | [], [] => fun _ _ _ _ => rfl
  | [], p :: r => fun S n h h' => by
    have h1 := (h.2.2.2 p (h'.2.1 p List.mem_cons_self) List.not_mem_nil).1
    have h2 := h'.2.2.1
    simp at h1 h2
    omega
  | p :: r, [] => fun S n h h' => by
    have h1 := (h'.2.2.2 p (h.2.1 p List.mem_cons_self) List.not_mem_nil).1
    have h2 := h.2.2.1
    simp at h1 h2
    omega
  | p :: r, p' :: r' => fun S n h h' => by
    have key : ∀ (a : List Nat) (x : List (List Nat)) (b : List Nat) (y : List (List Nat)), ye_first lt S n (a :: x) → ye_first lt S n (b :: y) → a ≠ b → lt b a := by
      intro a x b y h1 h2 hne
      by_cases hm : a ∈ b :: y
      · rcases List.mem_cons.mp hm with e | e
        · exact absurd e hne
        · exact (List.pairwise_cons.mp h2.1).1 a e
      · exact (h2.2.2.2 a (h1.2.1 a List.mem_cons_self) hm).2 b List.mem_cons_self
    by_cases hpp : p = p'
    · subst hpp
      have sub : ∀ (x : List (List Nat)), ye_first lt S n (p :: x) → ye_first lt (fun q => S q ∧ q ≠ p) (n - 1) x := by
        intro x hx
        obtain ⟨x1, x2, x3, x4⟩ := hx
        have x5 := List.pairwise_cons.mp x1
        simp only [List.length_cons] at x3 x4
        refine ⟨x5.2, fun q hq => ⟨x2 q (List.mem_cons_of_mem _ hq), fun e => ?_⟩, by omega, fun q hq hn => ?_⟩
        · have := x5.1 q hq
          rw [e] at this
          exact ha p p this this
        · have hn2 : q ∉ p :: x := fun z => by
            rcases List.mem_cons.mp z with e | e
            · exact hq.2 e
            · exact hn e
          obtain ⟨y1, y2⟩ := x4 q hq.1 hn2
          exact ⟨by omega, fun z hz => y2 z (List.mem_cons_of_mem _ hz)⟩
      rw [ye_first_one ha r r' _ _ (sub r h) (sub r' h')]
    · exact absurd (key p r p' r' h h' hpp) (ha _ _ (key p' r' p r h' h (fun e => hpp e.symm)))
end
section
/-! PURE: least lengths by rounds (measure), the way that follows them (nearer, goOn) -/
def ye_rx (w : Nat → Nat) (ca cl : Nat) (d : Nat → Nat) (a : Nat) : Nat → Nat :=
  if w a = 0 ∨ a = ca ∨ cl.testBit (a / 7) = true then d else if d (a % 7) + w a < d (a / 7) then va_up d (a / 7) (d (a % 7) + w a) else d
/-- arcs 0 .. n-1 in order -/
def ye_rnd (w : Nat → Nat) (ca cl : Nat) (d : Nat → Nat) : Nat → (Nat → Nat)
  | 0 => d
  | n + 1 => ye_rx w ca cl (ye_rnd w ca cl d n) n
def ye_rnds (w : Nat → Nat) (ca cl : Nat) (d : Nat → Nat) : Nat → (Nat → Nat)
  | 0 => d
  | r + 1 => ye_rnd w ca cl (ye_rnds w ca cl d r) 49
/-- what measure leaves: least lengths to t over walks that keep off cl -/
def ye_D (w : Nat → Nat) (ca cl t : Nat) (d : Nat → Nat) : Prop := (∀ v, v < 7 → d v ≤ 1000000) ∧ (∀ v, v < 7 → d v = 1000000 ∨ ∃ p, ye_V w ca cl t v p ∧ ye_len w p = d v) ∧ (∀ v p, ye_V w ca cl t v p → d v ≤ ye_len w p)
theorem ye_rx_le {w : Nat → Nat} {ca cl a : Nat} {d : Nat → Nat} (v : Nat) : ye_rx w ca cl d a v ≤ d v := by
  unfold ye_rx
  split
  · exact Nat.le_refl _
  · split
    · unfold va_up
      split
      · rename_i h1 h2 h3
        rw [h3]
        omega
      · exact Nat.le_refl _
    · exact Nat.le_refl _
theorem ye_rnd_le {w : Nat → Nat} {ca cl : Nat} {d : Nat → Nat} (v : Nat) : ∀ n, ye_rnd w ca cl d n v ≤ d v
  | 0 => Nat.le_refl _
  | n + 1 => Nat.le_trans (ye_rx_le v) (ye_rnd_le v n)
theorem ye_rx_arc {w : Nat → Nat} {ca cl a : Nat} {d : Nat → Nat} (h1 : w a ≠ 0) (h2 : a ≠ ca) (h3 : cl.testBit (a / 7) = false) : ye_rx w ca cl d a (a / 7) ≤ d (a % 7) + w a := by
  unfold ye_rx
  rw [if_neg (by simp [h1, h2, h3])]
  split
  · simp [va_up]
  · omega
theorem ye_rnd_arc {w : Nat → Nat} {ca cl a : Nat} {d : Nat → Nat} (h1 : w a ≠ 0) (h2 : a ≠ ca) (h3 : cl.testBit (a / 7) = false) : ∀ n, a < n → ye_rnd w ca cl d n (a / 7) ≤ d (a % 7) + w a
  | 0 => fun h => absurd h (by omega)
  | n + 1 => fun h => by
    show ye_rx w ca cl (ye_rnd w ca cl d n) n (a / 7) ≤ _
    by_cases hn : a = n
    · subst hn
      have h4 := ye_rx_arc (d := ye_rnd w ca cl d a) h1 h2 h3
      have h5 := ye_rnd_le (w := w) (ca := ca) (cl := cl) (d := d) (a % 7) a
      omega
    · have h4 := ye_rnd_arc (d := d) h1 h2 h3 n (by omega)
      exact Nat.le_trans (ye_rx_le _) h4
/-- every number that is there is the length of a walk -/
def ye_snd (w : Nat → Nat) (ca cl t : Nat) (d : Nat → Nat) : Prop := ∀ v, v < 7 → d v ≤ 1000000 ∧ (d v = 1000000 ∨ ∃ p, ye_V w ca cl t v p ∧ ye_len w p = d v)
theorem ye_snd_rx {w : Nat → Nat} {ca cl t a : Nat} {d : Nat → Nat} (ha : a < 49) (h : ye_snd w ca cl t d) : ye_snd w ca cl t (ye_rx w ca cl d a) := by
  unfold ye_rx
  split
  · exact h
  · rename_i hc
    split
    · rename_i hlt
      intro v hv
      unfold va_up
      split
      · rename_i hva
        have h0 := h (a / 7) (by omega)
        obtain ⟨h1, h2⟩ := h (a % 7) (by omega)
        refine ⟨by omega, Or.inr ?_⟩
        rcases h2 with h2 | ⟨p, hp, hl⟩
        · omega
        · obtain ⟨p1, p2, p3, p4⟩ := hp
          cases p with
          | nil => simp at p1
          | cons b r =>
            have hb : b = a % 7 := by simpa using p1
            have hwa : w a ≠ 0 := fun z => hc (Or.inl z)
            have hca : a ≠ ca := fun z => hc (Or.inr (Or.inl z))
            have hcl : cl.testBit (a / 7) = false := by
              cases hz : cl.testBit (a / 7) with
              | false => rfl
              | true => exact absurd (Or.inr (Or.inr hz)) hc
            have he : 7 * v + b = a := by omega
            refine ⟨v :: b :: r, ⟨rfl, ?_, ⟨⟨by rw [he]; exact hwa, by rw [he]; exact hca⟩, p3⟩, ?_⟩, ?_⟩
            · rw [List.getLast?_cons_cons]; exact p2
            · intro x hx
              rcases List.mem_cons.mp hx with e | e
              · rw [e]; exact ⟨hv, by rw [hva]; exact hcl⟩
              · exact p4 x e
            · show w (7 * v + b) + ye_len w (b :: r) = _
              rw [he, hl]
              omega
      · exact h v hv
    · exact h
theorem ye_snd_rnd {w : Nat → Nat} {ca cl t : Nat} {d : Nat → Nat} (h : ye_snd w ca cl t d) : ∀ n, n ≤ 49 → ye_snd w ca cl t (ye_rnd w ca cl d n)
  | 0 => fun _ => h
  | n + 1 => fun hn => ye_snd_rx (by omega) (ye_snd_rnd h n (by omega))
theorem ye_snd_rnds {w : Nat → Nat} {ca cl t : Nat} {d : Nat → Nat} (h : ye_snd w ca cl t d) : ∀ r, ye_snd w ca cl t (ye_rnds w ca cl d r)
  | 0 => h
  | r + 1 => ye_snd_rnd (ye_snd_rnds h r) 49 (Nat.le_refl _)
/-- behind r rounds: no walk of at most r arcs is shorter -/
theorem ye_below {w : Nat → Nat} {ca cl t : Nat} {d : Nat → Nat} (h0 : d t = 0) : ∀ (r v : Nat) (p : List Nat), ye_V w ca cl t v p → p.length ≤ r + 1 → ye_rnds w ca cl d r v ≤ ye_len w p
  | 0, v, p => fun h hl => by
    obtain ⟨h1, h2, -, -⟩ := h
    match p, h1, h2, hl with
    | [], h1, _, _ => simp at h1
    | [a], h1, h2, _ =>
      have e1 : a = v := by simpa using h1
      have e2 : a = t := by simpa using h2
      show d v ≤ _
      rw [← e1, e2, h0]
      exact Nat.zero_le _
    | a :: b :: r, _, _, hl => simp at hl
  | r + 1, v, p => fun h hl => by
    obtain ⟨h1, h2, h3, h4⟩ := h
    match p, h1, h2, h3, h4, hl with
    | [], h1, _, _, _, _ => simp at h1
    | [a], h1, h2, h3, h4, _ =>
      have h5 := ye_below (w := w) (ca := ca) (cl := cl) h0 r v [a] ⟨h1, h2, h3, h4⟩ (by simp)
      exact Nat.le_trans (ye_rnd_le v 49) h5
    | a :: b :: q, h1, h2, h3, h4, hl =>
      have e1 : a = v := by simpa using h1
      subst e1
      rw [List.getLast?_cons_cons] at h2
      have h5 := ye_below (w := w) (ca := ca) (cl := cl) h0 r b (b :: q) ⟨rfl, h2, h3.2, fun x hx => h4 x (List.mem_cons_of_mem _ hx)⟩ (by simp at hl ⊢; omega)
      have ha := h4 a List.mem_cons_self
      have hb := h4 b (List.mem_cons_of_mem _ List.mem_cons_self)
      have e2 : (7 * a + b) / 7 = a := by omega
      have e3 : (7 * a + b) % 7 = b := by omega
      have h6 := ye_rnd_arc (w := w) (ca := ca) (cl := cl) (a := 7 * a + b) (d := ye_rnds w ca cl d r) h3.1.1 h3.1.2 (by rw [e2]; exact ha.2) 49 (by omega)
      rw [e2, e3] at h6
      show ye_rnd w ca cl (ye_rnds w ca cl d r) 49 a ≤ w (7 * a + b) + ye_len w (b :: q)
      omega
theorem ye_V_simple {w : Nat → Nat} {ca cl t v : Nat} {p : List Nat} (h : ye_V w ca cl t v p) : ∃ q, q.Nodup ∧ ye_V w ca cl t v q ∧ ye_len w q ≤ ye_len w p := by
  obtain ⟨h1, h2, h3, h4⟩ := h
  obtain ⟨q, q1, q2, q3, q4, q5, q6⟩ := ye_simple p v h1 h2 h3
  exact ⟨q, q1, ⟨q2, q3, q4, fun x hx => h4 x (q5 x hx)⟩, q6⟩
/-- measure is right -/
theorem ye_measure {w : Nat → Nat} {ca cl t : Nat} {d : Nat → Nat} (ht : t < 7) (hcl : cl.testBit t = false) (hd : ∀ v, v < 7 → d v = if v = t then 0 else 1000000) : ye_D w ca cl t (ye_rnds w ca cl d 6) := by
  have hs : ye_snd w ca cl t d := by
    intro v hv
    rw [hd v hv]
    split
    · rename_i h
      refine ⟨by omega, Or.inr ⟨[v], ⟨rfl, by rw [h]; rfl, trivial, ?_⟩, rfl⟩⟩
      intro x hx
      have : x = v := by simpa using hx
      rw [this, h]
      exact ⟨ht, hcl⟩
    · exact ⟨Nat.le_refl _, Or.inl rfl⟩
  have hs6 := ye_snd_rnds hs 6
  refine ⟨fun v hv => (hs6 v hv).1, fun v hv => (hs6 v hv).2, fun v p hp => ?_⟩
  obtain ⟨q, q1, q2, q3⟩ := ye_V_simple hp
  have h0 : d t = 0 := by rw [hd t ht]; simp
  have h7 := ye_nodup_len 7 q q1 (fun x hx => (q2.2.2.2 x hx).1)
  exact Nat.le_trans (ye_below h0 6 v q q2 h7) q3
theorem ye_D_near {w : Nat → Nat} {ca cl t v : Nat} {d : Nat → Nat} {p : List Nat} (hw : ∀ j, j < 49 → w j ≤ 50) (hD : ye_D w ca cl t d) (hp : ye_V w ca cl t v p) : d v ≤ 300 := by
  obtain ⟨q, q1, q2, q3⟩ := ye_V_simple hp
  have h1 := hD.2.2 v q q2
  have h7 := ye_nodup_len 7 q q1 (fun x hx => (q2.2.2.2 x hx).1)
  have h2 := ye_len_le hw q (fun x hx => (q2.2.2.2 x hx).1)
  omega
-- ===== the next vertex of a shortest way =====
def ye_ok (w : Nat → Nat) (ca : Nat) (d : Nat → Nat) (u v : Nat) : Prop := w (7 * u + v) ≠ 0 ∧ 7 * u + v ≠ ca ∧ d v < 1000000 ∧ d v + w (7 * u + v) = d u
/-- what nearer answers -/
def ye_nr (w : Nat → Nat) (ca : Nat) (d : Nat → Nat) (t u v : Nat) : Prop := (v < 7 ∧ ye_ok w ca d u v ∧ ∀ x, x < v → ¬ ye_ok w ca d u x) ∨ (v = t ∧ ∀ x, x < 7 → ¬ ye_ok w ca d u x)
theorem ye_nr_one {w : Nat → Nat} {ca t u v v' : Nat} {d : Nat → Nat} (h : ye_nr w ca d t u v) (h' : ye_nr w ca d t u v') : v = v' := by
  rcases h with ⟨a1, a2, a3⟩ | ⟨a1, a2⟩ <;> rcases h' with ⟨b1, b2, b3⟩ | ⟨b1, b2⟩
  · rcases Nat.lt_trichotomy v v' with z | z | z
    · exact absurd a2 (b3 v z)
    · exact z
    · exact absurd b2 (a3 v' z)
  · exact absurd a2 (b2 v a1)
  · exact absurd b2 (a2 v' b1)
  · rw [a1, b1]
def ye_fol (w : Nat → Nat) (ca : Nat) (d : Nat → Nat) (t : Nat) : List Nat → Prop
  | [] => False
  | [x] => x = t
  | x :: y :: r => x ≠ t ∧ ye_nr w ca d t x y ∧ ye_fol w ca d t (y :: r)
theorem ye_least (P : Nat → Prop) : ∀ n, P n → ∃ k, k ≤ n ∧ P k ∧ ∀ j, j < k → ¬ P j := by
  intro n
  induction n using Nat.strongRecOn with
  | ind n ih =>
    intro h
    by_cases hx : ∃ j, j < n ∧ P j
    · obtain ⟨j, h1, h2⟩ := hx
      obtain ⟨k, k1, k2, k3⟩ := ih j h1 h2
      exact ⟨k, by omega, k2, k3⟩
    · exact ⟨n, Nat.le_refl _, h, fun j hj hp => hx ⟨j, hj, hp⟩⟩
/-- from a vertex that the target can be reached from: the way that follows the least lengths -/
theorem ye_follow {w : Nat → Nat} {ca cl t : Nat} {d : Nat → Nat} (hD : ye_D w ca cl t d) (ht : t < 7) : ∀ (n x : Nat), d x = n → x < 7 → d x < 1000000 → ∃ q, q.head? = some x ∧ ye_fol w ca d t q ∧ ye_V w ca cl t x q ∧ ye_len w q = d x ∧ (∀ y ∈ q, d y ≤ d x ∧ d y < 1000000) ∧ q.Nodup ∧ ∀ q', ye_V w ca cl t x q' → ye_len w q' = d x → q = q' ∨ q' = [] ∨ ye_lx q q' ∨ x = t := by
  intro n
  induction n using Nat.strongRecOn with
  | ind n ih =>
    intro x hn hx hlt
    obtain ⟨hD1, hD2, hD3⟩ := hD
    obtain ⟨p, hp, hl⟩ : ∃ p, ye_V w ca cl t x p ∧ ye_len w p = d x := by
      rcases hD2 x hx with h | h
      · omega
      · exact h
    by_cases hxt : x = t
    · have hx2 : x < 7 ∧ cl.testBit x = false := by
        obtain ⟨p1, p2, p3, p4⟩ := hp
        cases p with
        | nil => simp at p1
        | cons a r =>
          have e : a = x := by simpa using p1
          rw [← e]
          exact p4 a List.mem_cons_self
      have hV : ye_V w ca cl t x [x] := ⟨rfl, by rw [hxt]; rfl, trivial, fun y hy => by
        have : y = x := by simpa using hy
        rw [this]; exact hx2⟩
      have h0 : d x = 0 := by
        have h1 : d x ≤ 0 := hD3 x [x] hV
        omega
      refine ⟨[x], rfl, hxt, hV, ?_, ?_, ?_, ?_⟩
      · show 0 = d x
        omega
      · intro y hy
        have : y = x := by simpa using hy
        rw [this]; omega
      · simp
      · intro q' _ _
        exact Or.inr (Or.inr (Or.inr hxt))
    · -- the first arc of a shortest walk
      have step : ∀ (a : Nat) (r : List Nat), ye_V w ca cl t x (x :: a :: r) → ye_len w (x :: a :: r) = d x → ye_ok w ca d x a ∧ a < 7 ∧ ye_V w ca cl t a (a :: r) ∧ ye_len w (a :: r) = d a := by
        intro a r hV hlen
        obtain ⟨v1, v2, v3, v4⟩ := hV
        rw [List.getLast?_cons_cons] at v2
        have ha := v4 a (List.mem_cons_of_mem _ List.mem_cons_self)
        have hVa : ye_V w ca cl t a (a :: r) := ⟨rfl, v2, v3.2, fun y hy => v4 y (List.mem_cons_of_mem _ hy)⟩
        have h1 := hD3 a _ hVa
        have h2 : w (7 * x + a) + ye_len w (a :: r) = d x := hlen
        have h3 : d a < 1000000 := by omega
        obtain ⟨q, hq, hql⟩ : ∃ q, ye_V w ca cl t a q ∧ ye_len w q = d a := by
          rcases hD2 a ha.1 with h | h
          · omega
          · exact h
        obtain ⟨q1, q2, q3, q4⟩ := hq
        cases q with
        | nil => simp at q1
        | cons b q =>
          have e : b = a := by simpa using q1
          subst e
          have hVx : ye_V w ca cl t x (x :: b :: q) := ⟨rfl, by rw [List.getLast?_cons_cons]; exact q2, ⟨v3.1, q3⟩, fun y hy => by
            rcases List.mem_cons.mp hy with e | e
            · rw [e]; exact v4 x List.mem_cons_self
            · exact q4 y e⟩
          have h4 : d x ≤ w (7 * x + b) + ye_len w (b :: q) := hD3 x _ hVx
          refine ⟨⟨v3.1.1, v3.1.2, h3, by omega⟩, ha.1, hVa, by omega⟩
      obtain ⟨a, r, rfl⟩ : ∃ a r, p = x :: a :: r := by
        obtain ⟨p1, p2, p3, p4⟩ := hp
        match p, p1, p2 with
        | [], p1, _ => simp at p1
        | [a], p1, p2 =>
          exfalso
          have e1 : a = x := by simpa using p1
          have e2 : a = t := by simpa using p2
          exact hxt (by rw [← e1, e2])
        | b :: a :: r, p1, _ =>
          have e1 : b = x := by simpa using p1
          exact ⟨a, r, by rw [e1]⟩
      obtain ⟨hok, ha7, -, -⟩ := step a r hp hl
      obtain ⟨v, hv1, hv2, hv3⟩ := ye_least (fun v => ye_ok w ca d x v) a hok
      have hv7 : v < 7 := by omega
      have hw0 : w (7 * x + v) ≠ 0 := hv2.1
      have hdv : d v + w (7 * x + v) = d x := hv2.2.2.2
      obtain ⟨q, q1, q2, q3, q4, q5, q6, q7⟩ := ih (d v) (by omega) v rfl hv7 hv2.2.2.1
      cases q with
      | nil => simp at q1
      | cons b q =>
        have e : b = v := by simpa using q1
        subst e
        have hxc : x < 7 ∧ cl.testBit x = false := hp.2.2.2 x List.mem_cons_self
        have hVx : ye_V w ca cl t x (x :: b :: q) := ⟨rfl, by rw [List.getLast?_cons_cons]; exact q3.2.1, ⟨⟨hw0, hv2.2.1⟩, q3.2.2.1⟩, fun y hy => by
            rcases List.mem_cons.mp hy with e | e
            · rw [e]; exact hxc
            · exact q3.2.2.2 y e⟩
        refine ⟨x :: b :: q, rfl, ⟨hxt, Or.inl ⟨hv7, hv2, hv3⟩, q2⟩, hVx, ?_, ?_, ?_, ?_⟩
        · show w (7 * x + b) + ye_len w (b :: q) = d x
          omega
        · intro y hy
          rcases List.mem_cons.mp hy with e | e
          · rw [e]; omega
          · have := q5 y e
            omega
        · refine List.nodup_cons.mpr ⟨fun hm => ?_, q6⟩
          have := (q5 x hm).1
          omega
        · intro q' hq' hl'
          obtain ⟨c, r', rfl⟩ : ∃ c r', q' = x :: c :: r' := by
            obtain ⟨p1, p2, p3, p4⟩ := hq'
            match q', p1, p2 with
            | [], p1, _ => simp at p1
            | [a], p1, p2 =>
              exfalso
              have e1 : a = x := by simpa using p1
              have e2 : a = t := by simpa using p2
              exact hxt (by rw [← e1, e2])
            | b :: a :: r, p1, _ =>
              have e1 : b = x := by simpa using p1
              exact ⟨a, r, by rw [e1]⟩
          obtain ⟨o1, o2, o3, o4⟩ := step c r' hq' hl'
          rcases Nat.lt_trichotomy b c with z | z | z
          · exact Or.inr (Or.inr (Or.inl (Or.inr ⟨rfl, Or.inl z⟩)))
          · subst z
            rcases q7 (b :: r') o3 o4 with y | y | y | y
            · left
              rw [y]
            · cases y
            · exact Or.inr (Or.inr (Or.inl (Or.inr ⟨rfl, Or.inr ⟨rfl, (by
                rcases y with y | y
                · omega
                · exact y.2)⟩⟩)))
            · -- b = t: its way is [t]; the other one has length 0
              have hb0 : d b = 0 := by
                have hVt : ye_V w ca cl t b [b] := ⟨rfl, by rw [y]; rfl, trivial, fun z hz => by
                  have : z = b := by simpa using hz
                  rw [this]; exact o3.2.2.2 b List.mem_cons_self⟩
                have : d b ≤ 0 := hD3 b [b] hVt
                omega
              have only : ∀ (z : List Nat), ye_V w ca cl t b (b :: z) → ye_len w (b :: z) = 0 → z = [] := by
                intro z hz hz0
                cases z with
                | nil => rfl
                | cons c2 z =>
                  exfalso
                  have h1 := hz.2.2.1.1.1
                  have h2 : w (7 * b + c2) + ye_len w (c2 :: z) = 0 := hz0
                  omega
              left
              rw [only q q3 (by omega), only r' o3 (by omega)]
          · exact absurd o1 (hv3 c z)
end
section
/-! PURE: goOn's choice, codes of paths -/
/-- what goOn looks for: from u, first arc not to a barred vertex, then keeping off cl and u -/
def ye_cand (w : Nat → Nat) (ca cl t u bar : Nat) (q : List Nat) : Prop := ∃ v r, q = u :: v :: r ∧ w (7 * u + v) ≠ 0 ∧ 7 * u + v ≠ ca ∧ bar.testBit v = false ∧ ye_V w ca (cl ||| 2 ^ u) t v (v :: r)
def ye_al (w : Nat → Nat) (ca u bar v : Nat) : Prop := w (7 * u + v) ≠ 0 ∧ 7 * u + v ≠ ca ∧ bar.testBit v = false
/-- goOn's loop over the next vertex: the state behind v < n -/
def ye_sel (w : Nat → Nat) (ca u bar : Nat) (d : Nat → Nat) (n best next : Nat) : Prop :=
  (next = 4294967295 ∧ best = 1000000 ∧ ∀ v, v < n → ye_al w ca u bar v → 1000000 ≤ d v + w (7 * u + v)) ∨
  (next < n ∧ next < 7 ∧ ye_al w ca u bar next ∧ best = d next + w (7 * u + next) ∧ best < 1000000 ∧ (∀ v, v < next → ye_al w ca u bar v → best < d v + w (7 * u + v)) ∧ ∀ v, v < n → ye_al w ca u bar v → best ≤ d v + w (7 * u + v))
theorem ye_sel_0 {w : Nat → Nat} {ca u bar : Nat} {d : Nat → Nat} : ye_sel w ca u bar d 0 1000000 4294967295 := Or.inl ⟨rfl, rfl, fun v h => absurd h (by omega)⟩
theorem ye_sel_bound {w : Nat → Nat} {ca u bar n best next : Nat} {d : Nat → Nat} (h : ye_sel w ca u bar d n best next) : best ≤ 1000000 ∧ next < 4294967296 := by
  rcases h with ⟨h1, h2, -⟩ | ⟨-, h1, -, -, h2, -⟩ <;> omega
theorem ye_sel_skip {w : Nat → Nat} {ca u bar n best next : Nat} {d : Nat → Nat} (h : ye_sel w ca u bar d n best next) (hn : ye_al w ca u bar n → best ≤ d n + w (7 * u + n)) : ye_sel w ca u bar d (n + 1) best next := by
  rcases h with ⟨h1, h2, h3⟩ | ⟨h1, h2, h3, h4, h5, h6, h7⟩
  · refine Or.inl ⟨h1, h2, fun v hv ha => ?_⟩
    by_cases e : v = n
    · subst e
      have := hn ha
      omega
    · exact h3 v (by omega) ha
  · refine Or.inr ⟨by omega, h2, h3, h4, h5, h6, fun v hv ha => ?_⟩
    by_cases e : v = n
    · subst e
      exact hn ha
    · exact h7 v (by omega) ha
theorem ye_sel_take {w : Nat → Nat} {ca u bar n best next : Nat} {d : Nat → Nat} (h : ye_sel w ca u bar d n best next) (h7 : n < 7) (ha : ye_al w ca u bar n) (hn : d n + w (7 * u + n) < best) : ye_sel w ca u bar d (n + 1) (d n + w (7 * u + n)) n := by
  have hb := (ye_sel_bound h).1
  have hall : ∀ v, v < n → ye_al w ca u bar v → best ≤ d v + w (7 * u + v) := by
    rcases h with ⟨h1, h2, h3⟩ | ⟨-, -, -, -, -, -, h3⟩
    · intro v hv ha
      have := h3 v hv ha
      omega
    · exact h3
  refine Or.inr ⟨by omega, h7, ha, rfl, by omega, fun v hv hav => ?_, fun v hv hav => ?_⟩
  · have := hall v hv hav
    omega
  · by_cases e : v = n
    · subst e
      omega
    · have := hall v (by omega) hav
      omega
theorem ye_goOn_none {w : Nat → Nat} {ca cl t u bar best : Nat} {d : Nat → Nat} (hw : ∀ j, j < 49 → w j ≤ 50) (hu : u < 7) (hD : ye_D w ca (cl ||| 2 ^ u) t d) (hs : ye_sel w ca u bar d 7 best 4294967295) (q : List Nat) : ¬ ye_cand w ca cl t u bar q := by
  rintro ⟨v, r, -, h1, h2, h3, h4⟩
  rcases hs with ⟨-, -, s⟩ | ⟨s, -⟩
  · have hv : v < 7 := (h4.2.2.2 v List.mem_cons_self).1
    have h5 := s v hv ⟨h1, h2, h3⟩
    have h6 := ye_D_near hw hD h4
    have h7 := hw (7 * u + v) (by omega)
    omega
  · omega
theorem ye_off {cl u : Nat} : (cl ||| 2 ^ u).testBit u = true := by
  rw [Nat.testBit_or, Nat.testBit_two_pow]
  simp
theorem ye_goOn_some {w : Nat → Nat} {ca cl t u bar best next : Nat} {d : Nat → Nat} (ht : t < 7) (hD : ye_D w ca (cl ||| 2 ^ u) t d) (hs : ye_sel w ca u bar d 7 best next) (hn : next < 7) :
    ∃ q, q.head? = some next ∧ ye_fol w ca d t q ∧ ye_cand w ca cl t u bar (u :: q) ∧ (u :: q).Nodup ∧ ye_len w (u :: q) = best ∧ (∀ x ∈ q, x < 7 ∧ (cl ||| 2 ^ u).testBit x = false) ∧ q.getLast? = some t ∧ ∀ q', ye_cand w ca cl t u bar q' → u :: q = q' ∨ ye_lt w (u :: q) q' := by
  rcases hs with ⟨s, -⟩ | ⟨-, -, s1, s2, s3, s4, s5⟩
  · omega
  · obtain ⟨q, q1, q2, q3, q4, q5, q6, q7⟩ := ye_follow hD ht (d next) next rfl hn (by omega)
    cases q with
    | nil => simp at q1
    | cons b r =>
      have e : b = next := by simpa using q1
      subst e
      refine ⟨b :: r, rfl, q2, ⟨b, r, rfl, s1.1, s1.2.1, s1.2.2, q3⟩, ?_, ?_, q3.2.2.2, q3.2.1, ?_⟩
      · refine List.nodup_cons.mpr ⟨fun hm => ?_, q6⟩
        have h1 := (q3.2.2.2 u hm).2
        rw [ye_off] at h1
        cases h1
      · show w (7 * u + b) + ye_len w (b :: r) = best
        omega
      · rintro q' ⟨v, r', rfl, a1, a2, a3, a4⟩
        have h1 := hD.2.2 v _ a4
        have hv : v < 7 := (a4.2.2.2 v List.mem_cons_self).1
        have h2 := s5 v hv ⟨a1, a2, a3⟩
        have e1 : ye_len w (u :: b :: r) = best := by
          show w (7 * u + b) + ye_len w (b :: r) = best
          omega
        have e2 : ye_len w (u :: v :: r') = w (7 * u + v) + ye_len w (v :: r') := rfl
        rcases Nat.lt_or_ge best (ye_len w (u :: v :: r')) with z | z
        · exact Or.inr (Or.inl (by omega))
        · have hl : ye_len w (v :: r') = d v := by omega
          rcases Nat.lt_trichotomy b v with y | y | y
          · exact Or.inr (Or.inr ⟨by omega, Or.inr ⟨rfl, Or.inl y⟩⟩)
          · subst y
            rcases q7 (b :: r') a4 hl with y | y | y | y
            · exact Or.inl (by rw [y])
            · cases y
            · exact Or.inr (Or.inr ⟨by omega, Or.inr ⟨rfl, y⟩⟩)
            · have hVt : ye_V w ca (cl ||| 2 ^ u) t b [b] := ⟨rfl, by rw [y]; rfl, trivial, fun z hz => by
                have : z = b := by simpa using hz
                rw [this]; exact a4.2.2.2 b List.mem_cons_self⟩
              have hb0 : d b ≤ 0 := hD.2.2 b [b] hVt
              have only : ∀ (z : List Nat), ye_V w ca (cl ||| 2 ^ u) t b (b :: z) → ye_len w (b :: z) = 0 → z = [] := by
                intro z hz hz0
                cases z with
                | nil => rfl
                | cons c2 z =>
                  exfalso
                  have h1 := hz.2.2.1.1.1
                  have h2 : w (7 * b + c2) + ye_len w (c2 :: z) = 0 := hz0
                  omega
              left
              rw [only r q3 (by omega), only r' a4 (by omega)]
          · have := s4 v y ⟨a1, a2, a3⟩
            omega
-- ===== paths as numbers =====
def ye_hor (f : Nat → Nat) : Nat → Nat
  | 0 => 0
  | n + 1 => ye_hor f n * 8 + f n
def ye_dg (p : List Nat) (i : Nat) : Nat := p.getD i 0
def ye_code (p : List Nat) : Nat := ye_hor (ye_dg p) 7
theorem ye_hor_cong {f g : Nat → Nat} : ∀ n, (∀ i, i < n → f i = g i) → ye_hor f n = ye_hor g n
  | 0 => fun _ => rfl
  | n + 1 => fun h => by
    show ye_hor f n * 8 + f n = ye_hor g n * 8 + g n
    rw [ye_hor_cong n (fun i hi => h i (by omega)), h n (by omega)]
theorem ye_hor_lt {f : Nat → Nat} : ∀ n, (∀ i, i < n → f i < 8) → ye_hor f n < 8 ^ n
  | 0 => fun _ => by
    show (0 : Nat) < 8 ^ 0
    decide
  | n + 1 => fun h => by
    have h1 := ye_hor_lt n (fun i hi => h i (by omega))
    have h2 := h n (by omega)
    show ye_hor f n * 8 + f n < _
    rw [Nat.pow_succ]
    omega
theorem ye_hor_div {f : Nat → Nat} (n : Nat) : ∀ m, (∀ i, i < n + m → f i < 8) → ye_hor f (n + m) / 8 ^ m = ye_hor f n
  | 0 => fun _ => by simp
  | m + 1 => fun h => by
    have h1 := ye_hor_div n m (fun i hi => h i (by omega))
    have h2 := h (n + m) (by omega)
    have h3 : ye_hor f (n + (m + 1)) = ye_hor f (n + m) * 8 + f (n + m) := rfl
    rw [h3, Nat.pow_succ, Nat.mul_comm (8 ^ m) 8, ← Nat.div_div_eq_div_mul]
    rw [show (ye_hor f (n + m) * 8 + f (n + m)) / 8 = ye_hor f (n + m) by omega]
    exact h1
theorem ye_hor_inj {f g : Nat → Nat} : ∀ n, (∀ i, i < n → f i < 8) → (∀ i, i < n → g i < 8) → ye_hor f n = ye_hor g n → ∀ i, i < n → f i = g i
  | 0 => fun _ _ _ i h => absurd h (by omega)
  | n + 1 => fun h1 h2 h i hi => by
    have h3 : ye_hor f n * 8 + f n = ye_hor g n * 8 + g n := h
    have a1 := h1 n (by omega)
    have a2 := h2 n (by omega)
    by_cases e : i = n
    · subst e
      omega
    · exact ye_hor_inj n (fun i hi => h1 i (by omega)) (fun i hi => h2 i (by omega)) (by omega) i (by omega)
theorem ye_hor_mono {f g : Nat → Nat} {j : Nat} (hj : ye_hor f j < ye_hor g j) : ∀ m, (∀ i, i < j + m → f i < 8) → (∀ i, i < j + m → g i < 8) → ye_hor f (j + m) < ye_hor g (j + m)
  | 0 => fun _ _ => hj
  | m + 1 => fun h1 h2 => by
    have h := ye_hor_mono hj m (fun i hi => h1 i (by omega)) (fun i hi => h2 i (by omega))
    have a1 := h1 (j + m) (by omega)
    have a2 := h2 (j + m) (by omega)
    show ye_hor f (j + m) * 8 + f (j + m) < ye_hor g (j + m) * 8 + g (j + m)
    omega
theorem ye_dg_lt {p : List Nat} (h : ∀ x ∈ p, x < 7) (i : Nat) : ye_dg p i < 8 := by
  unfold ye_dg
  rw [List.getD_eq_getElem?_getD]
  cases hz : p[i]? with
  | none => simp
  | some x =>
    have := h x (List.mem_of_getElem? hz)
    simp
    omega
theorem ye_dg_some {p : List Nat} {i x : Nat} (h : p[i]? = some x) : ye_dg p i = x := by
  unfold ye_dg
  rw [List.getD_eq_getElem?_getD, h]
  rfl
theorem ye_dg_of {p : List Nat} {i : Nat} (h : i < p.length) : p[i]? = some (ye_dg p i) := by
  rw [List.getElem?_eq_getElem h]
  congr 1
  unfold ye_dg
  rw [List.getD_eq_getElem?_getD, List.getElem?_eq_getElem h]
  rfl
theorem ye_code_lt {p : List Nat} (h : ∀ x ∈ p, x < 7) : ye_code p < 2097152 := ye_hor_lt 7 (fun i _ => ye_dg_lt h i)
theorem ye_code_shr {p : List Nat} (h : ∀ x ∈ p, x < 7) {i : Nat} (hi : i < 7) : ye_code p / 2 ^ (3 * (6 - i)) = ye_hor (ye_dg p) (i + 1) := by
  have h1 := ye_hor_div (f := ye_dg p) (i + 1) (6 - i) (fun j _ => ye_dg_lt h j)
  rw [show i + 1 + (6 - i) = 7 by omega] at h1
  rw [Nat.pow_mul]
  exact h1
/-- vertexIn is right -/
theorem ye_code_at {p : List Nat} (h : ∀ x ∈ p, x < 7) {i : Nat} (hi : i < 7) : ye_code p / 2 ^ (3 * (6 - i)) &&& 7 = ye_dg p i := by
  rw [ye_code_shr h hi]
  have h1 := Nat.and_two_pow_sub_one_eq_mod (ye_hor (ye_dg p) (i + 1)) 3
  have h2 : (2 ^ 3 - 1 : Nat) = 7 := by decide
  rw [h2] at h1
  rw [h1]
  have h3 := ye_dg_lt h i
  show (ye_hor (ye_dg p) i * 8 + ye_dg p i) % 2 ^ 3 = _
  omega
theorem ye_lx_at : ∀ (p q : List Nat), ye_lx p q → ∃ j, j < p.length ∧ j < q.length ∧ (∀ k, k < j → ye_dg p k = ye_dg q k) ∧ ye_dg p j < ye_dg q j
  | [], _ => fun h => by cases h
  | _ :: _, [] => fun h => by cases h
  | a :: p, b :: q => fun h => by
    rcases h with h | ⟨e, h⟩
    · exact ⟨0, by simp, by simp, fun k hk => absurd hk (by omega), h⟩
    · obtain ⟨j, j1, j2, j3, j4⟩ := ye_lx_at p q h
      refine ⟨j + 1, by simp; omega, by simp; omega, fun k hk => ?_, ?_⟩
      · cases k with
        | zero => exact e
        | succ k =>
          have := j3 k (by omega)
          exact this
      · exact j4
theorem ye_lx_code {p q : List Nat} (hp : ∀ x ∈ p, x < 7) (hq : ∀ x ∈ q, x < 7) (lp : p.length ≤ 7) (h : ye_lx p q) : ye_code p < ye_code q := by
  obtain ⟨j, j1, j2, j3, j4⟩ := ye_lx_at p q h
  have h1 : ye_hor (ye_dg p) (j + 1) < ye_hor (ye_dg q) (j + 1) := by
    show ye_hor (ye_dg p) j * 8 + ye_dg p j < ye_hor (ye_dg q) j * 8 + ye_dg q j
    rw [ye_hor_cong j j3]
    omega
  have h2 := ye_hor_mono h1 (6 - j) (fun i _ => ye_dg_lt hp i) (fun i _ => ye_dg_lt hq i)
  rw [show j + 1 + (6 - j) = 7 by omega] at h2
  exact h2
theorem ye_path_len {w : Nat → Nat} {ca s t : Nat} {p : List Nat} (h : ye_path w ca s t p) : p.length ≤ 7 := ye_nodup_len 7 p h.1 h.2.1
theorem ye_code_lx {w : Nat → Nat} {ca s t : Nat} {p q : List Nat} (hp : ye_path w ca s t p) (hq : ye_path w ca s t q) : ye_code p < ye_code q ↔ ye_lx p q := by
  constructor
  · intro h
    rcases ye_lx_tri p q hp.2.2.2.1 hq.2.2.2.1 hp.1 hq.1 with y | y | y
    · rw [y] at h
      omega
    · exact y
    · have := ye_lx_code hq.2.1 hp.2.1 (ye_path_len hq) y
      omega
  · exact ye_lx_code hp.2.1 hq.2.1 (ye_path_len hp)
theorem ye_code_inj {w : Nat → Nat} {ca s t : Nat} {p q : List Nat} (hp : ye_path w ca s t p) (hq : ye_path w ca s t q) (h : ye_code p = ye_code q) : p = q := by
  rcases ye_lx_tri p q hp.2.2.2.1 hq.2.2.2.1 hp.1 hq.1 with y | y | y
  · exact y
  · have := ye_lx_code hp.2.1 hq.2.1 (ye_path_len hp) y
    omega
  · have := ye_lx_code hq.2.1 hp.2.1 (ye_path_len hq) y
    omega
/-- the same beginning, by numbers and by lists -/
theorem ye_take_iff {p q : List Nat} {n : Nat} (hp : n ≤ p.length) (hq : n ≤ q.length) : p.take n = q.take n ↔ ∀ i, i < n → ye_dg p i = ye_dg q i := by
  constructor
  · intro h i hi
    have h1 : (p.take n)[i]? = (q.take n)[i]? := by rw [h]
    rw [List.getElem?_take_of_lt hi, List.getElem?_take_of_lt hi, ye_dg_of (by omega), ye_dg_of (by omega)] at h1
    exact Option.some.inj h1
  · intro h
    apply List.ext_getElem?
    intro i
    by_cases hi : i < n
    · rw [List.getElem?_take_of_lt hi, List.getElem?_take_of_lt hi, ye_dg_of (by omega), ye_dg_of (by omega), h i hi]
    · rw [List.getElem?_eq_none (by simp; omega), List.getElem?_eq_none (by simp; omega)]
theorem ye_code_begin {p q : List Nat} (hp : ∀ x ∈ p, x < 7) (hq : ∀ x ∈ q, x < 7) {i : Nat} (hi : i < 7) (lp : i + 1 ≤ p.length) (lq : i + 1 ≤ q.length) : ye_code p / 2 ^ (3 * (6 - i)) = ye_code q / 2 ^ (3 * (6 - i)) ↔ p.take (i + 1) = q.take (i + 1) := by
  rw [ye_code_shr hp hi, ye_code_shr hq hi, ye_take_iff lp lq]
  constructor
  · intro h
    exact ye_hor_inj (i + 1) (fun j _ => ye_dg_lt hp j) (fun j _ => ye_dg_lt hq j) h
  · intro h
    exact ye_hor_cong (i + 1) h
end
section
/-! PURE: the first paths in order, by candidates that leave known ones -/
theorem ye_agree_lt {w : Nat → Nat} {ca s t n : Nat} {p q : List Nat} (hp : ye_path w ca s t p) (hq : ye_path w ca s t q) (h : p.take n = q.take n) (hn : n < p.length) : n < q.length := by
  rcases Nat.lt_or_ge n q.length with z | z
  · exact z
  · exfalso
    have h1 : q.take n = q := List.take_of_length_le z
    rw [h1] at h
    have h2 : q ++ p.drop n = p := by rw [← h]; exact List.take_append_drop n p
    have h3 := ye_no_begin q (p.drop n) hq.2.2.2.1 (by rw [h2]; exact hp.2.2.2.1) (by rw [h2]; exact hp.1)
    have h4 : (p.drop n).length = 0 := by rw [h3]; rfl
    rw [List.length_drop] at h4
    omega
theorem ye_path_two {w : Nat → Nat} {ca s t : Nat} {p : List Nat} (hst : s ≠ t) (hp : ye_path w ca s t p) : 1 < p.length := by
  obtain ⟨-, -, h1, h2, -⟩ := hp
  match p, h1, h2 with
  | [], h1, _ => simp at h1
  | [a], h1, h2 =>
    exfalso
    have e1 : a = s := by simpa using h1
    have e2 : a = t := by simpa using h2
    exact hst (by rw [← e1, e2])
  | _ :: _ :: _, _, _ => simp
theorem ye_take1 {s : Nat} {p : List Nat} (h : p.head? = some s) : p.take 1 = [s] := by
  cases p with
  | nil => simp at h
  | cons a r =>
    have e : a = s := by simpa using h
    simp [e]
theorem ye_take_succ {p q : List Nat} {n : Nat} (hp : n < p.length) (hq : n < q.length) (h : p.take n = q.take n) (hd : ye_dg p n = ye_dg q n) : p.take (n + 1) = q.take (n + 1) := by
  rw [List.take_add_one, List.take_add_one, h, ye_dg_of hp, ye_dg_of hq, hd]
/-- every path that goes on from the first n of k otherwise than the known ones do is matched by a candidate -/
def ye_srv (w : Nat → Nat) (ca s t : Nat) (K C : List (List Nat)) (k : List Nat) (n : Nat) : Prop :=
  ∀ q, ye_path w ca s t q → q.take n = k.take n → (∀ k' ∈ K, k'.take n = k.take n → ye_dg k' n ≠ ye_dg q n) → ∃ c ∈ C, c.take n = k.take n ∧ (c = q ∨ ye_lt w c q)
def ye_inv (w : Nat → Nat) (ca s t : Nat) (K C : List (List Nat)) (P : List Nat) : Prop :=
  K.Pairwise (ye_lt w) ∧ (∀ p ∈ K, ye_path w ca s t p) ∧ (∀ q, ye_path w ca s t q → q ∉ K → ∀ p ∈ K, ye_lt w p q) ∧ C.Nodup ∧ (∀ c ∈ C, ye_path w ca s t c ∧ c ∉ K) ∧ P ∈ K ∧ ∀ k ∈ K, ∀ n, 1 ≤ n → n < k.length → k.take n ≠ P.take n → ye_srv w ca s t K C k n
theorem ye_srv_mono {w : Nat → Nat} {ca s t n : Nat} {K C C' : List (List Nat)} {k : List Nat} (h : ye_srv w ca s t K C k n) (hC : ∀ c ∈ C, c ∈ C') : ye_srv w ca s t K C' k n := by
  intro q h1 h2 h3
  obtain ⟨c, c1, c2, c3⟩ := h q h1 h2 h3
  exact ⟨c, hC c c1, c2, c3⟩
/-- when all known paths have been branched off: the least path that isn't known is among the candidates -/
theorem ye_match {w : Nat → Nat} {ca s t : Nat} {K C : List (List Nat)} (hst : s ≠ t) (hK : ∀ p ∈ K, ye_path w ca s t p) (hne : ∃ P, P ∈ K) (hs : ∀ k ∈ K, ∀ n, 1 ≤ n → n < k.length → ye_srv w ca s t K C k n) (q : List Nat) (hq : ye_path w ca s t q) (hqK : q ∉ K) : ∃ c ∈ C, c = q ∨ ye_lt w c q := by
  have go : ∀ (m n : Nat), q.length - n ≤ m → 1 ≤ n → (∃ k ∈ K, k.take n = q.take n ∧ n < k.length) → ∃ c ∈ C, c = q ∨ ye_lt w c q := by
    intro m
    induction m with
    | zero =>
      rintro n h1 h2 ⟨k, k1, k2, k3⟩
      have := ye_agree_lt (hK k k1) hq k2 k3
      omega
    | succ m ih =>
      rintro n h1 h2 ⟨k, k1, k2, k3⟩
      have hnq := ye_agree_lt (hK k k1) hq k2 k3
      by_cases hx : ∃ k' ∈ K, k'.take n = k.take n ∧ ye_dg k' n = ye_dg q n
      · obtain ⟨k', a1, a2, a3⟩ := hx
        have hnk : n < k'.length := ye_agree_lt (hK k k1) (hK k' a1) a2.symm k3
        have h4 : k'.take (n + 1) = q.take (n + 1) := ye_take_succ hnk hnq (a2.trans k2) a3
        refine ih (n + 1) (by omega) (by omega) ⟨k', a1, h4, ?_⟩
        rcases Nat.lt_or_ge (n + 1) k'.length with z | z
        · exact z
        · exfalso
          have h5 : k'.take (n + 1) = k' := List.take_of_length_le z
          rw [h5] at h4
          have h6 : k' ++ q.drop (n + 1) = q := by rw [h4]; exact List.take_append_drop (n + 1) q
          have h7 := ye_no_begin k' (q.drop (n + 1)) (hK k' a1).2.2.2.1 (by rw [h6]; exact hq.2.2.2.1) (by rw [h6]; exact hq.1)
          rw [h7, List.append_nil] at h6
          exact hqK (by rw [← h6]; exact a1)
      · obtain ⟨c, c1, -, c3⟩ := hs k k1 n h2 k3 q hq k2.symm (fun k' z1 z2 z3 => hx ⟨k', z1, z2, z3⟩)
        exact ⟨c, c1, c3⟩
  obtain ⟨P, hP⟩ := hne
  refine go q.length 1 (by omega) (Nat.le_refl _) ⟨P, hP, ?_, ye_path_two hst (hK P hP)⟩
  rw [ye_take1 (hK P hP).2.2.1, ye_take1 hq.2.2.1]
theorem ye_served {w : Nat → Nat} {ca s t : Nat} {K C C' : List (List Nat)} {P : List Nat} (h : ye_inv w ca s t K C P) (hC : ∀ c ∈ C, c ∈ C') (hb : ∀ n, 1 ≤ n → n < P.length → ye_srv w ca s t K C' P n) : ∀ k ∈ K, ∀ n, 1 ≤ n → n < k.length → ye_srv w ca s t K C' k n := by
  obtain ⟨i1, i2, i3, i4, i5, i6, i7⟩ := h
  intro k hk n h1 h2
  by_cases he : k.take n = P.take n
  · have h3 := hb n h1 (ye_agree_lt (i2 k hk) (i2 P i6) he h2)
    unfold ye_srv at h3 ⊢
    rw [he]
    exact h3
  · exact ye_srv_mono (i7 k hk n h1 h2 he) hC
/-- one more path is known -/
theorem ye_inv_next {w : Nat → Nat} {ca s t : Nat} {K C C' C'' : List (List Nat)} {P b : List Nat} (hst : s ≠ t) (h : ye_inv w ca s t K C P) (hC : ∀ c ∈ C, c ∈ C') (hp : ∀ c ∈ C', ye_path w ca s t c ∧ c ∉ K) (hb : ∀ n, 1 ≤ n → n < P.length → ye_srv w ca s t K C' P n) (hbm : b ∈ C') (hbl : ∀ c ∈ C', c = b ∨ ye_lt w b c) (hn : C''.Nodup) (hm : ∀ c, c ∈ C'' ↔ c ∈ C' ∧ c ≠ b) : ye_inv w ca s t (K ++ [b]) C'' b := by
  have hs := ye_served h hC hb
  obtain ⟨i1, i2, i3, i4, i5, i6, i7⟩ := h
  have hbp := hp b hbm
  refine ⟨?_, ?_, ?_, hn, ?_, by simp, ?_⟩
  · refine List.pairwise_append.mpr ⟨i1, by simp, fun x hx y hy => ?_⟩
    have : y = b := by simpa using hy
    rw [this]
    exact i3 b hbp.1 hbp.2 x hx
  · intro p hpm
    rcases List.mem_append.mp hpm with z | z
    · exact i2 p z
    · have : p = b := by simpa using z
      rw [this]
      exact hbp.1
  · intro q hq hqn p hpm
    have hq1 : q ∉ K := fun z => hqn (List.mem_append_left _ z)
    have hq2 : q ≠ b := fun z => hqn (by rw [z]; simp)
    rcases List.mem_append.mp hpm with z | z
    · exact i3 q hq hq1 p z
    · have e : p = b := by simpa using z
      rw [e]
      obtain ⟨c, c1, c2⟩ := ye_match hst i2 ⟨P, i6⟩ hs q hq hq1
      rcases hbl c c1 with y | y
      · rw [y] at c2
        rcases c2 with c2 | c2
        · exact absurd c2.symm hq2
        · exact c2
      · rcases c2 with c2 | c2
        · rw [← c2]; exact y
        · exact ye_lt_trans y c2
  · intro c hc
    obtain ⟨c1, c2⟩ := (hm c).mp hc
    refine ⟨(hp c c1).1, fun z => ?_⟩
    rcases List.mem_append.mp z with z | z
    · exact (hp c c1).2 z
    · exact c2 (by simpa using z)
  · intro k hk n h1 h2 hne
    have hkK : k ∈ K := by
      rcases List.mem_append.mp hk with z | z
      · exact z
      · have e : k = b := by simpa using z
        exact absurd (by rw [e]) hne
    intro q q1 q2 q3
    obtain ⟨c, c1, c2, c3⟩ := hs k hkK n h1 h2 q q1 q2 (fun k' z1 z2 => q3 k' (List.mem_append_left _ z1) z2)
    refine ⟨c, (hm c).mpr ⟨c1, fun e => hne ?_⟩, c2, c3⟩
    rw [← c2, e]
theorem ye_inv_end {w : Nat → Nat} {ca s t : Nat} {K C C' : List (List Nat)} {P : List Nat} (hst : s ≠ t) (h : ye_inv w ca s t K C P) (hC : ∀ c ∈ C, c ∈ C') (hb : ∀ n, 1 ≤ n → n < P.length → ye_srv w ca s t K C' P n) (h0 : C' = []) (hl : K.length ≤ 12) : ye_first (ye_lt w) (ye_path w ca s t) 12 K := by
  have hs := ye_served h hC hb
  obtain ⟨i1, i2, i3, i4, i5, i6, i7⟩ := h
  refine ⟨i1, i2, hl, fun q hq hqn => ?_⟩
  obtain ⟨c, c1, -⟩ := ye_match hst i2 ⟨P, i6⟩ hs q hq hqn
  rw [h0] at c1
  cases c1
theorem ye_inv_full {w : Nat → Nat} {ca s t : Nat} {K C : List (List Nat)} {P : List Nat} (h : ye_inv w ca s t K C P) (hl : K.length = 12) : ye_first (ye_lt w) (ye_path w ca s t) 12 K :=
  ⟨h.1, h.2.1, by omega, fun q hq hqn => ⟨hl, h.2.2.1 q hq hqn⟩⟩
theorem ye_inv_start {w : Nat → Nat} {ca s t : Nat} {P : List Nat} (hP : ye_path w ca s t P) (hl : ∀ q, ye_path w ca s t q → P = q ∨ ye_lt w P q) : ye_inv w ca s t [P] [] P := by
  refine ⟨by simp, ?_, ?_, by simp, ?_, by simp, ?_⟩
  · intro p hp
    have : p = P := by simpa using hp
    rw [this]; exact hP
  · intro q hq hqn p hp
    have : p = P := by simpa using hp
    rw [this]
    rcases hl q hq with z | z
    · exact absurd (by rw [z]; simp) hqn
    · exact z
  · intro c hc
    cases hc
  · intro k hk n _ _ hne
    have : k = P := by simpa using hk
    exact absurd (by rw [this]) hne
-- ===== spurs =====
theorem ye_spur_path {w : Nat → Nat} {ca s t u cl bar : Nat} {x y q : List Nat} (hP : ye_path w ca s t (x ++ u :: y)) (hcl : ∀ z, z ∈ x → cl.testBit z = true) (hc : ye_cand w ca cl t u bar (u :: q)) (hn : (u :: q).Nodup) : ye_path w ca s t (x ++ u :: q) := by
  obtain ⟨p1, p2, p3, p4, p5⟩ := hP
  obtain ⟨v, r, e, c1, c2, c3, c4⟩ := hc
  have e2 : q = v :: r := by simpa using e
  subst e2
  have n1 := List.nodup_append.mp p1
  refine ⟨?_, ?_, ?_, ?_, ?_⟩
  · refine List.nodup_append.mpr ⟨n1.1, hn, fun a ha b hb he => ?_⟩
    rw [← he] at hb
    rcases List.mem_cons.mp hb with z | z
    · exact n1.2.2 a ha u List.mem_cons_self z
    · have h1 := (c4.2.2.2 a z).2
      rw [Nat.testBit_or, hcl a ha] at h1
      simp at h1
  · intro a ha
    rcases List.mem_append.mp ha with z | z
    · exact p2 a (List.mem_append_left _ z)
    · rcases List.mem_cons.mp z with z | z
      · rw [z]; exact p2 u (List.mem_append_right _ List.mem_cons_self)
      · exact (c4.2.2.2 a z).1
  · cases x with
    | nil => exact p3
    | cons a x => exact p3
  · rw [List.getLast?_append, List.getLast?_cons_cons, c4.2.1]
    rfl
  · rw [ye_wk_app] at p5 ⊢
    exact ⟨p5.1, ⟨c1, c2⟩, c4.2.2.1⟩
theorem ye_spur_cand {w : Nat → Nat} {ca s t u v cl bar : Nat} {x r : List Nat} (hP : ye_path w ca s t (x ++ u :: v :: r)) (hcl : ∀ z, z < 7 → cl.testBit z = true → z ∈ x) (hb : bar.testBit v = false) : ye_cand w ca cl t u bar (u :: v :: r) := by
  obtain ⟨p1, p2, p3, p4, p5⟩ := hP
  have n1 := List.nodup_append.mp p1
  have n2 := List.nodup_cons.mp n1.2.1
  rw [ye_wk_app] at p5
  refine ⟨v, r, rfl, p5.2.1.1, p5.2.1.2, hb, rfl, ?_, p5.2.2, fun z hz => ?_⟩
  · rw [List.getLast?_append, List.getLast?_cons_cons] at p4
    cases h : (v :: r).getLast? with
    | none => simp at h
    | some z => rw [h] at p4; exact p4
  · have hz7 := p2 z (List.mem_append_right _ (List.mem_cons_of_mem _ hz))
    refine ⟨hz7, ?_⟩
    rw [Nat.testBit_or, Nat.testBit_two_pow]
    cases h : cl.testBit z with
    | true =>
      exfalso
      exact n1.2.2 z (hcl z hz7 h) z (List.mem_cons_of_mem _ hz) rfl
    | false =>
      have : ¬ u = z := fun e => n2.1 (by rw [e]; exact hz)
      simp [this]
theorem ye_lt_app {w : Nat → Nat} {u : Nat} {x q q' : List Nat} (h : ye_lt w (u :: q) (u :: q')) : ye_lt w (x ++ u :: q) (x ++ u :: q') := by
  unfold ye_lt at h ⊢
  rw [ye_len_app u q x, ye_len_app u q' x, ye_lx_app]
  rcases h with h | ⟨h1, h2⟩
  · exact Or.inl (by omega)
  · exact Or.inr ⟨by omega, h2⟩
/-- a spur that found its way: the candidate serves this beginning -/
theorem ye_spur_some {w : Nat → Nat} {ca s t u cl bar : Nat} {K C : List (List Nat)} {x y q : List Nat} (hP : ye_path w ca s t (x ++ u :: y)) (hcl : ∀ z, z < 7 → (cl.testBit z = true ↔ z ∈ x)) (hy : y ≠ [])
    (hbar : ∀ v, v < 7 → (bar.testBit v = true ↔ ∃ k ∈ K, k.take (x.length + 1) = x ++ [u] ∧ ye_dg k (x.length + 1) = v)) (hK : ∀ k ∈ K, ye_path w ca s t k)
    (hc : ye_cand w ca cl t u bar (u :: q)) (hn : (u :: q).Nodup) (hmin : ∀ q', ye_cand w ca cl t u bar q' → u :: q = q' ∨ ye_lt w (u :: q) q') :
    ye_path w ca s t (x ++ u :: q) ∧ x ++ u :: q ∉ K ∧ (x ++ u :: q ∈ C → ye_srv w ca s t K C (x ++ u :: y) (x.length + 1)) := by
  have hx7 : ∀ z, z ∈ x → z < 7 := fun z hz => hP.2.1 z (List.mem_append_left _ hz)
  have hpath := ye_spur_path hP (fun z hz => (hcl z (hx7 z hz)).mpr hz) hc hn
  have tk : ∀ (z : List Nat), (x ++ u :: z).take (x.length + 1) = x ++ [u] := by
    intro z
    rw [show x ++ u :: z = (x ++ [u]) ++ z by simp, List.take_append_of_le_length (by simp), List.take_of_length_le (by simp)]
  have dgn : ∀ (v : Nat) (z : List Nat), ye_dg (x ++ u :: v :: z) (x.length + 1) = v := by
    intro v z
    apply ye_dg_some
    rw [List.getElem?_append_right (by omega)]
    simp
  obtain ⟨v, r, e, c1, c2, c3, c4⟩ := hc
  have e2 : q = v :: r := by simpa using e
  subst e2
  have hv7 : v < 7 := (c4.2.2.2 v List.mem_cons_self).1
  refine ⟨hpath, fun hm => ?_, fun hm => ?_⟩
  · have h1 := (hbar v hv7).mpr ⟨_, hm, tk _, dgn v r⟩
    rw [c3] at h1
    cases h1
  · intro q' h1 h2 h3
    rw [tk] at h2
    refine ⟨_, hm, by rw [tk, tk], ?_⟩
    have hl : x.length + 1 < q'.length := by
      refine ye_agree_lt hP h1 (by rw [tk, h2]) ?_
      rw [List.length_append, List.length_cons]
      have : y.length ≠ 0 := fun z => hy (List.eq_nil_of_length_eq_zero z)
      omega
    have hq' : q' = x ++ u :: ye_dg q' (x.length + 1) :: q'.drop (x.length + 2) := by
      have h4 := List.take_append_drop (x.length + 1) q'
      rw [h2, List.drop_eq_getElem_cons hl] at h4
      have h5 : q'[x.length + 1] = ye_dg q' (x.length + 1) := by
        have := ye_dg_of hl
        rw [List.getElem?_eq_getElem hl] at this
        exact Option.some.inj this
      rw [h5, List.append_assoc] at h4
      exact h4.symm
    generalize hgv : ye_dg q' (x.length + 1) = v' at hq' h3
    generalize q'.drop (x.length + 2) = r' at hq'
    subst hq'
    have hv' : v' < 7 := h1.2.1 v' (by simp)
    have hbv : bar.testBit v' = false := by
      cases hz : bar.testBit v' with
      | false => rfl
      | true =>
        exfalso
        obtain ⟨k, k1, k2, k3⟩ := (hbar v' hv').mp hz
        exact h3 k k1 (by rw [tk, k2]) (by rw [k3])
    rcases hmin _ (ye_spur_cand h1 (fun z hz hb => (hcl z hz).mp hb) hbv) with z | z
    · left
      rw [z]
    · right
      exact ye_lt_app z
theorem ye_spur_none {w : Nat → Nat} {ca s t u cl bar : Nat} {K C : List (List Nat)} {x y : List Nat} (hP : ye_path w ca s t (x ++ u :: y)) (hcl : ∀ z, z < 7 → (cl.testBit z = true ↔ z ∈ x)) (hy : y ≠ [])
    (hbar : ∀ v, v < 7 → (bar.testBit v = true ↔ ∃ k ∈ K, k.take (x.length + 1) = x ++ [u] ∧ ye_dg k (x.length + 1) = v))
    (hno : ∀ q, ¬ ye_cand w ca cl t u bar q) : ye_srv w ca s t K C (x ++ u :: y) (x.length + 1) := by
  have tk : ∀ (z : List Nat), (x ++ u :: z).take (x.length + 1) = x ++ [u] := by
    intro z
    rw [show x ++ u :: z = (x ++ [u]) ++ z by simp, List.take_append_of_le_length (by simp), List.take_of_length_le (by simp)]
  intro q' h1 h2 h3
  exfalso
  rw [tk] at h2
  have hl : x.length + 1 < q'.length := by
    refine ye_agree_lt hP h1 (by rw [tk, h2]) ?_
    rw [List.length_append, List.length_cons]
    have : y.length ≠ 0 := fun z => hy (List.eq_nil_of_length_eq_zero z)
    omega
  have hq' : q' = x ++ u :: ye_dg q' (x.length + 1) :: q'.drop (x.length + 2) := by
    have h4 := List.take_append_drop (x.length + 1) q'
    rw [h2, List.drop_eq_getElem_cons hl] at h4
    have h5 : q'[x.length + 1] = ye_dg q' (x.length + 1) := by
      have := ye_dg_of hl
      rw [List.getElem?_eq_getElem hl] at this
      exact Option.some.inj this
    rw [h5, List.append_assoc] at h4
    exact h4.symm
  generalize hgv : ye_dg q' (x.length + 1) = v' at hq' h3
  generalize q'.drop (x.length + 2) = r' at hq'
  subst hq'
  have hv' : v' < 7 := h1.2.1 v' (by simp)
  have hbv : bar.testBit v' = false := by
    cases hz : bar.testBit v' with
    | false => rfl
    | true =>
      exfalso
      obtain ⟨k, k1, k2, k3⟩ := (hbar v' hv').mp hz
      exact h3 k k1 (by rw [tk, k2]) (by rw [k3])
  exact hno _ (ye_spur_cand h1 (fun z hz hb => (hcl z hz).mp hb) hbv)
end
section
/-! PURE: going through all paths (the reference), what is kept of them -/
/-- one turn: the path, what is tried next at each place, the paths found so far -/
def ye_stp (w : Nat → Nat) (t : Nat) (x : List Nat × (Nat → Nat) × List (List Nat)) : List Nat × (Nat → Nat) × List (List Nat) :=
  if x.1.getLastD 0 = t then (x.1.dropLast, va_up x.2.1 x.1.length (x.2.1 x.1.length + 1), x.2.2 ++ [x.1])
  else if 6 < x.2.1 x.1.length then (x.1.dropLast, va_up x.2.1 x.1.length (x.2.1 x.1.length + 1), x.2.2)
  else if 0 < w (7 * x.1.getLastD 0 + x.2.1 x.1.length) ∧ x.2.1 x.1.length ∉ x.1 then (x.1 ++ [x.2.1 x.1.length], va_up (va_up x.2.1 x.1.length (x.2.1 x.1.length + 1)) (x.1.length + 1) 0, x.2.2)
  else (x.1, va_up x.2.1 x.1.length (x.2.1 x.1.length + 1), x.2.2)
/-- n turns, each from a path that isn't empty -/
def ye_run (w : Nat → Nat) (t : Nat) : Nat → (List Nat × (Nat → Nat) × List (List Nat)) → (List Nat × (Nat → Nat) × List (List Nat)) → Prop
  | 0, x, y => x = y
  | n + 1, x, y => x.1 ≠ [] ∧ ye_run w t n (ye_stp w t x) y
theorem ye_run_app {w : Nat → Nat} {t : Nat} : ∀ (n m : Nat) (x y z : List Nat × (Nat → Nat) × List (List Nat)), ye_run w t n x y → ye_run w t m y z → ye_run w t (n + m) x z
  | 0, m, x, y, z => fun h1 h2 => by
    have e : x = y := h1
    rw [e, Nat.zero_add]
    exact h2
  | n + 1, m, x, y, z => fun h1 h2 => by
    rw [show n + 1 + m = (n + m) + 1 by omega]
    exact ⟨h1.1, ye_run_app n m _ y z h1.2 h2⟩
def ye_T : Nat → Nat
  | 0 => 0
  | m + 1 => 8 + m * ye_T m
def ye_en (w : Nat → Nat) (t : Nat) : Nat → List Nat → List (List Nat)
  | 0, _ => []
  | m + 1, p => if p.getLastD 0 = t then [p] else (List.range 7).flatMap (fun v => if 0 < w (7 * p.getLastD 0 + v) ∧ v ∉ p then ye_en w t m (p ++ [v]) else [])
def ye_cnt (p : List Nat) (j : Nat) : Nat := (((List.range 7).drop j).filter (fun v => decide (v ∉ p))).length
theorem ye_drop7 {j : Nat} (h : j < 7) : (List.range 7).drop j = j :: (List.range 7).drop (j + 1) := by
  have h1 : j < (List.range 7).length := by simpa using h
  rw [List.drop_eq_getElem_cons h1]
  simp
theorem ye_cnt_in {p : List Nat} {j : Nat} (h : j < 7) (hp : j ∉ p) : ye_cnt p j = ye_cnt p (j + 1) + 1 := by
  unfold ye_cnt
  rw [ye_drop7 h, List.filter_cons_of_pos (by simpa using hp), List.length_cons]
theorem ye_cnt_le {p : List Nat} {j : Nat} (h : j < 7) : ye_cnt p (j + 1) ≤ ye_cnt p j := by
  unfold ye_cnt
  rw [ye_drop7 h]
  by_cases hp : j ∉ p
  · rw [List.filter_cons_of_pos (by simpa using hp), List.length_cons]
    omega
  · rw [List.filter_cons_of_neg (by simpa using hp)]
    exact Nat.le_refl _
theorem ye_cnt_0 {p : List Nat} (hn : p.Nodup) (h7 : ∀ x ∈ p, x < 7) : ye_cnt p 0 + p.length ≤ 7 := by
  have h1 : (p ++ (List.range 7).filter (fun v => decide (v ∉ p))).Nodup := by
    refine List.nodup_append.mpr ⟨hn, List.Pairwise.filter _ List.nodup_range, fun a ha b hb e => ?_⟩
    have h2 := (List.mem_filter.mp hb).2
    simp at h2
    exact h2 (by rw [← e]; exact ha)
  have h2 := ye_nodup_len 7 _ h1 (fun x hx => by
    rcases List.mem_append.mp hx with z | z
    · exact h7 x z
    · have := (List.mem_filter.mp z).1
      simpa using this)
  rw [List.length_append] at h2
  unfold ye_cnt
  rw [List.drop_zero]
  omega
/-- from a path and what is tried next: all that begins with it is found, in a bounded number of turns, and the path is left -/
theorem ye_dfs {w : Nat → Nat} {t : Nat} : ∀ (m : Nat) (p : List Nat), p.length + m = 8 → p.Nodup → (∀ x ∈ p, x < 7) → p ≠ [] → ∀ (k j : Nat), j + k = 7 → ∀ (tr : Nat → Nat) (Z : List (List Nat)), tr p.length = j →
    ∃ (n : Nat) (tr' : Nat → Nat), n ≤ (8 - j) + ye_cnt p j * ye_T (m - 1) ∧ (∀ i, i < p.length → tr' i = tr i) ∧ ye_run w t n (p, tr, Z) (p.dropLast, tr', Z ++ if p.getLastD 0 = t then [p] else ((List.range 7).drop j).flatMap (fun v => if 0 < w (7 * p.getLastD 0 + v) ∧ v ∉ p then ye_en w t (m - 1) (p ++ [v]) else [])) := by
  intro m
  induction m with
  | zero =>
    intro p h1 h2 h3
    have := ye_nodup_len 7 p h2 h3
    omega
  | succ m ihm =>
    intro p hl hn h7 hne k
    have hone : ∀ i (v : Nat) (tr : Nat → Nat), i < p.length → va_up tr p.length v i = tr i := fun i v tr hi => by
      unfold va_up
      rw [if_neg (by omega)]
    by_cases ht : p.getLastD 0 = t
    · intro j hj tr Z htr
      refine ⟨1, va_up tr p.length (tr p.length + 1), by omega, fun i hi => hone i _ tr hi, hne, ?_⟩
      show ye_stp w t (p, tr, Z) = _
      unfold ye_stp
      rw [if_pos ht, if_pos ht]
    · induction k with
      | zero =>
        intro j hj tr Z htr
        refine ⟨1, va_up tr p.length (tr p.length + 1), by omega, fun i hi => hone i _ tr hi, hne, ?_⟩
        show ye_stp w t (p, tr, Z) = _
        unfold ye_stp
        have h6 : 6 < tr p.length := by omega
        have hd : (List.range 7).drop j = [] := by
          rw [show j = 7 by omega]
          rfl
        rw [if_neg ht, if_pos h6, if_neg ht, hd]
        simp
      | succ k ihk =>
        intro j hj tr Z htr
        have hj7 : j < 7 := by omega
        by_cases hc : 0 < w (7 * p.getLastD 0 + j) ∧ j ∉ p
        · -- on to j
          have hstp : ye_stp w t (p, tr, Z) = (p ++ [j], va_up (va_up tr p.length (j + 1)) (p.length + 1) 0, Z) := by
            unfold ye_stp
            have h6 : ¬ 6 < tr p.length := by omega
            simp only [htr]
            rw [if_neg ht, if_neg (by omega), if_pos hc]
          have hn2 : (p ++ [j]).Nodup := by
            refine List.nodup_append.mpr ⟨hn, by simp, fun a ha b hb e => ?_⟩
            have : b = j := by simpa using hb
            exact hc.2 (by rw [← this, ← e]; exact ha)
          have h72 : ∀ x ∈ p ++ [j], x < 7 := by
            intro x hx
            rcases List.mem_append.mp hx with z | z
            · exact h7 x z
            · have : x = j := by simpa using z
              omega
          have hlen : (p ++ [j]).length = p.length + 1 := by simp
          obtain ⟨n1, tr1, b1, b2, b3⟩ := ihm (p ++ [j]) (by rw [hlen]; omega) hn2 h72 (by simp) 7 0 (by omega) (va_up (va_up tr p.length (j + 1)) (p.length + 1) 0) Z (by rw [hlen]; simp [va_up])
          have hdl : (p ++ [j]).dropLast = p := by simp
          have htr1 : tr1 p.length = j + 1 := by
            rw [b2 p.length (by rw [hlen]; omega)]
            simp [va_up]
          have hZ : (if (p ++ [j]).getLastD 0 = t then [p ++ [j]] else ((List.range 7).drop 0).flatMap (fun v => if 0 < w (7 * (p ++ [j]).getLastD 0 + v) ∧ v ∉ p ++ [j] then ye_en w t (m - 1) (p ++ [j] ++ [v]) else [])) = ye_en w t m (p ++ [j]) := by
            have hm : m ≠ 0 := by
              have := ye_nodup_len 7 _ hn2 h72
              omega
            obtain ⟨m', rfl⟩ : ∃ m', m = m' + 1 := ⟨m - 1, by omega⟩
            rfl
          rw [hZ, hdl] at b3
          obtain ⟨n2, tr2, c1, c2, c3⟩ := ihk (j + 1) (by omega) tr1 (Z ++ ye_en w t m (p ++ [j])) htr1
          refine ⟨n1 + n2 + 1, tr2, ?_, fun i hi => ?_, hne, ?_⟩
          · have e1 := ye_cnt_in hj7 hc.2
            have e2 := ye_cnt_0 hn2 h72
            rw [hlen] at e2
            have hm : m ≠ 0 := by
              have := ye_nodup_len 7 _ hn2 h72
              omega
            have e3 : ye_T m = 8 + (m - 1) * ye_T (m - 1) := by
              obtain ⟨m', rfl⟩ : ∃ m', m = m' + 1 := ⟨m - 1, by omega⟩
              rfl
            have e4 : ye_cnt (p ++ [j]) 0 * ye_T (m - 1) ≤ (m - 1) * ye_T (m - 1) := Nat.mul_le_mul_right _ (by omega)
            rw [show m + 1 - 1 = m by omega] at c1 ⊢
            rw [e1, Nat.add_mul, Nat.one_mul]
            omega
          · rw [c2 i hi, b2 i (by rw [hlen]; omega)]
            unfold va_up
            rw [if_neg (by omega), if_neg (by omega)]
          · have h9 := ye_run_app n1 n2 _ _ _ b3 c3
            rw [hstp]
            rw [if_neg ht] at h9 ⊢
            rw [ye_drop7 hj7, List.flatMap_cons, if_pos hc, ← List.append_assoc]
            exact h9
        · have hstp : ye_stp w t (p, tr, Z) = (p, va_up tr p.length (j + 1), Z) := by
            unfold ye_stp
            have h6 : ¬ 6 < tr p.length := by omega
            simp only [htr]
            rw [if_neg ht, if_neg (by omega), if_neg hc]
          obtain ⟨n2, tr2, c1, c2, c3⟩ := ihk (j + 1) (by omega) (va_up tr p.length (j + 1)) Z (by simp [va_up])
          refine ⟨n2 + 1, tr2, ?_, fun i hi => ?_, hne, ?_⟩
          · have e1 := ye_cnt_le (p := p) hj7
            have e4 : ye_cnt p (j + 1) * ye_T (m + 1 - 1) ≤ ye_cnt p j * ye_T (m + 1 - 1) := Nat.mul_le_mul_right _ e1
            omega
          · rw [c2 i hi]
            exact hone i _ tr hi
          · rw [hstp]
            rw [if_neg ht] at c3 ⊢
            rw [ye_drop7 hj7, List.flatMap_cons, if_neg hc, List.nil_append]
            exact c3
/-- the whole search -/
theorem ye_search {w : Nat → Nat} {s t : Nat} (hs : s < 7) (tr : Nat → Nat) (h0 : tr 1 = 0) : ∃ (n : Nat) (tr' : Nat → Nat), n ≤ 15656 ∧ ye_run w t n ([s], tr, []) ([], tr', ye_en w t 7 [s]) := by
  obtain ⟨n, tr', h1, -, h3⟩ := ye_dfs (w := w) (t := t) 7 [s] rfl (by simp) (fun x hx => by
    have : x = s := by simpa using hx
    omega) (by simp) 7 0 rfl tr [] h0
  have h2 := ye_cnt_0 (p := [s]) (by simp) (fun x hx => by
    have : x = s := by simpa using hx
    omega)
  have h4 : ye_T 6 = 2608 := by decide
  have h5 : ye_cnt [s] 0 * ye_T 6 ≤ 6 * ye_T 6 := Nat.mul_le_mul_right _ (by simp at h2; omega)
  refine ⟨n, tr', ?_, ?_⟩
  · rw [show 7 - 1 = 6 by rfl] at h1
    omega
  · exact h3
-- ===== what is gone through =====
theorem ye_en_mem {w : Nat → Nat} {ca t : Nat} (hca : 49 ≤ ca) : ∀ (m : Nat) (p : List Nat), p.length + m = 8 → p.Nodup → (∀ x ∈ p, x < 7) → p ≠ [] → ye_wk w ca p → ∀ q, q ∈ ye_en w t m p ↔ (q.Nodup ∧ (∀ x ∈ q, x < 7) ∧ q.getLast? = some t ∧ ye_wk w ca q ∧ ∃ r, q = p ++ r) := by
  intro m
  induction m with
  | zero =>
    intro p h1 h2 h3
    have := ye_nodup_len 7 p h2 h3
    omega
  | succ m ih =>
    intro p hl hn h7 hne hwk q
    obtain ⟨x, a, rfl⟩ : ∃ x a, p = x ++ [a] := ⟨p.dropLast, p.getLast hne, (List.dropLast_concat_getLast hne).symm⟩
    have hla : (x ++ [a]).getLastD 0 = a := by simp
    have hg : (x ++ [a]).getLast? = some a := by simp
    unfold ye_en
    rw [hla]
    by_cases ht : a = t
    · rw [if_pos ht]
      constructor
      · intro h
        have e : q = x ++ [a] := by simpa using h
        rw [e]
        exact ⟨hn, h7, by rw [hg, ht], hwk, [], by simp⟩
      · rintro ⟨q1, q2, q3, q4, r, rfl⟩
        have := ye_no_begin (x ++ [a]) r (by rw [hg, ht]) q3 q1
        rw [this]
        simp
    · rw [if_neg ht]
      have ext : ∀ v, v < 7 → v ∉ x ++ [a] → w (7 * a + v) ≠ 0 → (x ++ [a] ++ [v]).length + m = 8 ∧ (x ++ [a] ++ [v]).Nodup ∧ (∀ z ∈ x ++ [a] ++ [v], z < 7) ∧ ye_wk w ca (x ++ [a] ++ [v]) := by
        intro v hv hv2 hv3
        refine ⟨by rw [List.length_append, List.length_singleton]; omega, ?_, ?_, ?_⟩
        · refine List.nodup_append.mpr ⟨hn, by simp, fun b hb c hc e => ?_⟩
          have : c = v := by simpa using hc
          exact hv2 (by rw [← this, ← e]; exact hb)
        · intro z hz
          rcases List.mem_append.mp hz with y | y
          · exact h7 z y
          · have : z = v := by simpa using y
            omega
        · have ha : a < 7 := h7 a (by simp)
          rw [List.append_assoc]
          show ye_wk w ca (x ++ a :: [v])
          rw [ye_wk_app]
          exact ⟨hwk, ⟨hv3, by omega⟩, trivial⟩
      constructor
      · intro h
        obtain ⟨v, hv, hq⟩ := List.mem_flatMap.mp h
        have hv7 : v < 7 := by simpa using hv
        split at hq
        · rename_i hc
          obtain ⟨e1, e2, e3, e4⟩ := ext v hv7 hc.2 (by omega)
          obtain ⟨q1, q2, q3, q4, r, q5⟩ := (ih _ e1 e2 e3 (by simp) e4 q).mp hq
          exact ⟨q1, q2, q3, q4, v :: r, by rw [q5]; simp⟩
        · cases hq
      · rintro ⟨q1, q2, q3, q4, r, rfl⟩
        cases r with
        | nil =>
          exfalso
          rw [List.append_nil, hg] at q3
          exact ht (Option.some.inj q3)
        | cons v r =>
          have hv7 : v < 7 := q2 v (by simp)
          have hvn : v ∉ x ++ [a] := fun hm => (List.nodup_append.mp q1).2.2 v hm v List.mem_cons_self rfl
          have hwk2 : ye_wk w ca (x ++ a :: v :: r) := by
            rw [show x ++ a :: v :: r = x ++ [a] ++ v :: r by simp]
            exact q4
          rw [ye_wk_app] at hwk2
          have hw0 : w (7 * a + v) ≠ 0 := hwk2.2.1.1
          refine List.mem_flatMap.mpr ⟨v, by simpa using hv7, ?_⟩
          rw [if_pos ⟨by omega, hvn⟩]
          obtain ⟨e1, e2, e3, e4⟩ := ext v hv7 hvn hw0
          exact (ih _ e1 e2 e3 (by simp) e4 _).mpr ⟨q1, q2, q3, q4, r, by simp⟩
theorem ye_en_begin {w : Nat → Nat} {t : Nat} : ∀ (m : Nat) (p q : List Nat), q ∈ ye_en w t m p → ∃ r, q = p ++ r
  | 0, p, q => fun h => by cases h
  | m + 1, p, q => fun h => by
    unfold ye_en at h
    split at h
    · exact ⟨[], by simpa using h⟩
    · obtain ⟨v, hv, hq⟩ := List.mem_flatMap.mp h
      split at hq
      · obtain ⟨r, hr⟩ := ye_en_begin m (p ++ [v]) q hq
        exact ⟨v :: r, by rw [hr]; simp⟩
      · cases hq
theorem ye_en_nodup {w : Nat → Nat} {t : Nat} : ∀ (m : Nat) (p : List Nat), (ye_en w t m p).Nodup
  | 0, p => List.nodup_nil
  | m + 1, p => by
    unfold ye_en
    split
    · simp
    · refine List.pairwise_flatMap.mpr ⟨fun v _ => ?_, ?_⟩
      · split
        · exact ye_en_nodup m _
        · exact List.nodup_nil
      · refine List.Pairwise.imp ?_ (List.nodup_range (n := 7))
        intro a b hab x hx y hy e
        split at hx
        · split at hy
          · obtain ⟨r1, e1⟩ := ye_en_begin m _ x hx
            obtain ⟨r2, e2⟩ := ye_en_begin m _ y hy
            rw [e1, e2, List.append_assoc, List.append_assoc] at e
            have e3 := List.append_cancel_left e
            simp at e3
            exact hab e3.1
          · cases hy
        · cases hx
theorem ye_en_path {w : Nat → Nat} {ca s t : Nat} (hca : 49 ≤ ca) (hs : s < 7) (q : List Nat) : q ∈ ye_en w t 7 [s] ↔ ye_path w ca s t q := by
  rw [ye_en_mem (ca := ca) hca 7 [s] rfl (by simp) (fun x hx => by
    have : x = s := by simpa using hx
    omega) (by simp) trivial q]
  constructor
  · rintro ⟨q1, q2, q3, q4, r, rfl⟩
    exact ⟨q1, q2, rfl, q3, q4⟩
  · rintro ⟨q1, q2, q3, q4, q5⟩
    refine ⟨q1, q2, q4, q5, ?_⟩
    cases q with
    | nil => simp at q3
    | cons a r =>
      have : a = s := by simpa using q3
      exact ⟨r, by rw [this]; rfl⟩
-- ===== what is kept =====
theorem ye_keep {lt : List Nat → List Nat → Prop} (hirr : ∀ a, ¬ lt a a) (htr : ∀ a b c, lt a b → lt b c → lt a c) {Z A B : List (List Nat)} {p : List Nat} (h : ye_first lt (fun q => q ∈ Z) 12 (A ++ B)) (hA : ∀ a ∈ A, lt a p) (hB : ∀ b ∈ B, lt p b) : ye_first lt (fun q => q ∈ Z ++ [p]) 12 ((A ++ p :: B).take 12) := by
  obtain ⟨h1, h2, h3, h4⟩ := h
  obtain ⟨a1, a2, a3⟩ := List.pairwise_append.mp h1
  have hpw : (A ++ p :: B).Pairwise lt := by
    refine List.pairwise_append.mpr ⟨a1, List.pairwise_cons.mpr ⟨hB, a2⟩, fun x hx y hy => ?_⟩
    rcases List.mem_cons.mp hy with z | z
    · rw [z]; exact hA x hx
    · exact a3 x hx y z
  have hsplit : (A ++ p :: B).take 12 ++ (A ++ p :: B).drop 12 = A ++ p :: B := List.take_append_drop _ _
  have hpw2 := hpw
  rw [← hsplit] at hpw2
  obtain ⟨b1, b2, b3⟩ := List.pairwise_append.mp hpw2
  have hlen : (A ++ p :: B).length = (A ++ B).length + 1 := by simp; omega
  have hmem : ∀ x, x ∈ A ++ p :: B ↔ x ∈ A ++ B ∨ x = p := by
    intro x
    simp only [List.mem_append, List.mem_cons]
    constructor
    · rintro (z | z | z)
      · exact Or.inl (Or.inl z)
      · exact Or.inr z
      · exact Or.inl (Or.inr z)
    · rintro ((z | z) | z)
      · exact Or.inl z
      · exact Or.inr (Or.inr z)
      · exact Or.inr (Or.inl z)
  refine ⟨b1, fun x hx => ?_, by rw [List.length_take]; omega, fun q hq hqn => ?_⟩
  · have hx2 := (hmem x).mp (List.mem_of_mem_take hx)
    rcases hx2 with z | z
    · exact List.mem_append_left _ (h2 x z)
    · rw [z]; simp
  · by_cases hq1 : q ∈ A ++ p :: B
    · rw [← hsplit] at hq1
      rcases List.mem_append.mp hq1 with z | z
      · exact absurd z hqn
      · refine ⟨?_, fun x hx => b3 x hx q z⟩
        have : ((A ++ p :: B).drop 12).length ≠ 0 := fun e => by
          rw [List.eq_nil_of_length_eq_zero e] at z
          cases z
        rw [List.length_drop] at this
        rw [List.length_take]
        omega
    · have hqK : q ∉ A ++ B := fun z => hq1 ((hmem q).mpr (Or.inl z))
      have hqZ : q ∈ Z := by
        rcases List.mem_append.mp hq with z | z
        · exact z
        · have : q = p := by simpa using z
          exact absurd ((hmem q).mpr (Or.inr this)) hq1
      obtain ⟨c1, c2⟩ := h4 q hqZ hqK
      refine ⟨by rw [List.length_take]; omega, fun x hx => ?_⟩
      rcases (hmem x).mp (List.mem_of_mem_take hx) with z | z
      · exact c2 x z
      · -- x = p stands among the first twelve: the one left over comes behind it
        obtain ⟨y, hy⟩ : ∃ y, y ∈ (A ++ p :: B).drop 12 := by
          cases hd : (A ++ p :: B).drop 12 with
          | nil =>
            have : ((A ++ p :: B).drop 12).length = 0 := by rw [hd]; rfl
            rw [List.length_drop] at this
            omega
          | cons y r => exact ⟨y, List.mem_cons_self⟩
        have hxy := b3 x hx y hy
        rcases (hmem y).mp (List.mem_of_mem_drop hy) with z2 | z2
        · exact htr x y q hxy (c2 y z2)
        · exfalso
          rw [z, z2] at hxy
          exact hirr p hxy
/-- does a path use the arc from u to v -/
def ye_has (u v : Nat) : List Nat → Bool
  | a :: b :: r => (a == u && b == v) || ye_has u v (b :: r)
  | _ => false
/-- the least length without that arc -/
def ye_sw (w : Nat → Nat) (u v : Nat) (S : List Nat → Prop) (x : Nat) : Prop := (x = 4294967294 ∧ ∀ q, S q → ye_has u v q = true) ∨ (x < 2147483648 ∧ ∃ q, S q ∧ ye_has u v q = false ∧ x = ye_len w q ∧ ∀ q', S q' → ye_has u v q' = false → ye_len w q ≤ ye_len w q')
theorem ye_sw_one {w : Nat → Nat} {u v x y : Nat} {S : List Nat → Prop} (hx : ye_sw w u v S x) (hy : ye_sw w u v S y) : x = y := by
  rcases hx with ⟨x1, x2⟩ | ⟨x0, q, x1, x2, x3, x4⟩ <;> rcases hy with ⟨y1, y2⟩ | ⟨y0, q', y1, y2, y3, y4⟩
  · rw [x1, y1]
  · rw [x2 q' y1] at y2
    cases y2
  · rw [y2 q x1] at x2
    cases x2
  · have h1 := x4 q' y1 y2
    have h2 := y4 q x1 x2
    omega
theorem ye_sw_nil {w : Nat → Nat} {u v : Nat} : ye_sw w u v (fun q => q ∈ ([] : List (List Nat))) 4294967294 := Or.inl ⟨rfl, fun q h => by cases h⟩
theorem ye_sw_has {w : Nat → Nat} {u v x : Nat} {Z : List (List Nat)} {p : List Nat} (h : ye_sw w u v (fun q => q ∈ Z) x) (hp : ye_has u v p = true) : ye_sw w u v (fun q => q ∈ Z ++ [p]) x := by
  have hm : ∀ q, q ∈ Z ++ [p] → q ∈ Z ∨ q = p := fun q hq => by simpa using hq
  rcases h with ⟨x1, x2⟩ | ⟨x0, q, x1, x2, x3, x4⟩
  · refine Or.inl ⟨x1, fun q hq => ?_⟩
    rcases hm q hq with z | z
    · exact x2 q z
    · rw [z]; exact hp
  · refine Or.inr ⟨x0, q, List.mem_append_left _ x1, x2, x3, fun q' hq' hh => ?_⟩
    rcases hm q' hq' with z | z
    · exact x4 q' z hh
    · rw [z, hp] at hh
      cases hh
theorem ye_sw_new {w : Nat → Nat} {u v x : Nat} {Z : List (List Nat)} {p : List Nat} (h : ye_sw w u v (fun q => q ∈ Z) x) (hp : ye_has u v p = false) (hl : ye_len w p < 2147483648) (hx : x = 4294967294 ∨ ye_len w p < x) : ye_sw w u v (fun q => q ∈ Z ++ [p]) (ye_len w p) := by
  have hm : ∀ q, q ∈ Z ++ [p] → q ∈ Z ∨ q = p := fun q hq => by simpa using hq
  refine Or.inr ⟨hl, p, by simp, hp, rfl, fun q' hq' hh => ?_⟩
  rcases hm q' hq' with z | z
  · rcases h with ⟨x1, x2⟩ | ⟨x0, q, x1, x2, x3, x4⟩
    · rw [x2 q' z] at hh
      cases hh
    · have := x4 q' z hh
      omega
  · rw [z]
    exact Nat.le_refl _
theorem ye_sw_old {w : Nat → Nat} {u v x : Nat} {Z : List (List Nat)} {p : List Nat} (h : ye_sw w u v (fun q => q ∈ Z) x) (hx : x ≠ 4294967294) (hle : x ≤ ye_len w p) : ye_sw w u v (fun q => q ∈ Z ++ [p]) x := by
  have hm : ∀ q, q ∈ Z ++ [p] → q ∈ Z ∨ q = p := fun q hq => by simpa using hq
  rcases h with ⟨x1, x2⟩ | ⟨x0, q, x1, x2, x3, x4⟩
  · exact absurd x1 hx
  · refine Or.inr ⟨x0, q, List.mem_append_left _ x1, x2, x3, fun q' hq' hh => ?_⟩
    rcases hm q' hq' with z | z
    · exact x4 q' z hh
    · rw [z]
      omega
/-- the vertices that all paths pass, as a set of bits -/
def ye_ev (S : List Nat → Prop) (x : Nat) : Prop := x < 128 ∧ ∀ v, v < 7 → (x.testBit v = true ↔ ∀ q, S q → v ∈ q)
theorem ye_ev_one {S : List Nat → Prop} {x y : Nat} (hx : ye_ev S x) (hy : ye_ev S y) : x = y := by
  apply Nat.eq_of_testBit_eq
  intro i
  by_cases hi : i < 7
  · have h1 := hx.2 i hi
    have h2 := hy.2 i hi
    cases a : x.testBit i <;> cases b : y.testBit i
    · rfl
    · rw [a] at h1
      exact absurd (h1.mpr (h2.mp b)) (by decide)
    · rw [b] at h2
      exact absurd (h2.mpr (h1.mp a)) (by decide)
    · rfl
  · have hp : 2 ^ 7 ≤ 2 ^ i := Nat.pow_le_pow_right (by decide) (by omega)
    rw [Nat.testBit_lt_two_pow (Nat.lt_of_lt_of_le hx.1 hp), Nat.testBit_lt_two_pow (Nat.lt_of_lt_of_le hy.1 hp)]
theorem ye_ev_nil : ye_ev (fun q => q ∈ ([] : List (List Nat))) 127 := by
  refine ⟨by decide, fun v hv => ⟨fun _ q h => (by cases h), fun _ => ?_⟩⟩
  have : ∀ v : Fin 7, (127 : Nat).testBit v.val = true := by decide
  exact this ⟨v, hv⟩
theorem ye_ev_and {Z : List (List Nat)} {p : List Nat} {x y : Nat} (h : ye_ev (fun q => q ∈ Z) x) (hy : ∀ v, v < 7 → (y.testBit v = true ↔ v ∈ p)) : ye_ev (fun q => q ∈ Z ++ [p]) (x &&& y) := by
  have hm : ∀ q, q ∈ Z ++ [p] → q ∈ Z ∨ q = p := fun q hq => by simpa using hq
  refine ⟨Nat.lt_of_le_of_lt Nat.and_le_left h.1, fun v hv => ?_⟩
  rw [Nat.testBit_and, Bool.and_eq_true, h.2 v hv, hy v hv]
  constructor
  · rintro ⟨a, b⟩ q hq
    rcases hm q hq with z | z
    · exact a q z
    · rw [z]; exact b
  · intro a
    exact ⟨fun q hq => a q (List.mem_append_left _ hq), a p (by simp)⟩
end
section
/-! WALK: isVertex, vertexIn, measure (printed by gen.py out of walk/20.measure.walk) -/
set_option maxRecDepth 100000
section Y20
variable {p : Program} {l : Launch} {e : Env} {R : Room} {s : State} {m : MethodId} {args : Array Value} {below : List Frame} {meth : Method} {c : Code} {Q : State → Prop} {D : va_G} {A : Nat → Prop} {o : Nat} {ad : Nat → Nat} {dA : Nat → ClassId} {G : Nat → Nat} {F : Nat → Nat → Nat}
/-- isVertex(v): whether v is one of 0 .. 6; nothing changes -/
theorem x_isVertex (l : Launch) (D : va_G) (o : Nat) (ad : Nat → Nat) (dA : Nat → ClassId) (G : Nat → Nat) (F : Nat → Nat → Nat) (v : Nat) (hv : v < 4294967296) : xMi l yX0_isVertex cX0_isVertex 2 .boolean rX0_isVertex D o ad dA G F [nI v] (fun r G' F' => r = (if v < 7 then 1 else 0) ∧ G' = G ∧ F' = F) := by
  refine xMi.intro (L := [some (.ref o), some (.int (nI v))]) (by decide) rfl (Nat.le_of_ble_eq_true rfl) rfl ?_
  intro p e s m args below meth c A C hr hlocks hA
  refine ky_iload_n (pc := 0) C dX0_isVertex_0 rfl ?_
  refine ky_if_lt (pc := 1) (tgt := 14) C dX0_isVertex_1 (by decide) (by omega) (fun h_1 => ?_) (fun h_1 => ?_)
  · refine ky_iconst (pc := 14) C 0 dX0_isVertex_14 (by decide) ?_
    exact x_zret C hr hlocks dX0_isVertex_15 (by decide) ⟨by rw [if_neg (by omega)], rfl, rfl⟩
  · refine ky_iload_n (pc := 4) C dX0_isVertex_4 rfl ?_
    refine ky_bipush (pc := 5) C 6 dX0_isVertex_5 (by decide) ?_
    refine ky_icmp_gt (pc := 7) (tgt := 14) C dX0_isVertex_7 (by decide) (by omega) (by omega) (fun h_7 => ?_) (fun h_7 => ?_)
    · refine ky_iconst (pc := 14) C 0 dX0_isVertex_14 (by decide) ?_
      exact x_zret C hr hlocks dX0_isVertex_15 (by decide) ⟨by rw [if_neg (by omega)], rfl, rfl⟩
    · refine ky_iconst (pc := 10) C 1 dX0_isVertex_10 (by decide) ?_
      refine ky_goto (pc := 11) (tgt := 15) C dX0_isVertex_11 (by decide) ?_
      exact x_zret C hr hlocks dX0_isVertex_15 (by decide) ⟨by rw [if_pos (by omega)], rfl, rfl⟩
/-- vertexIn(code, i): the digit at place i -/
theorem x_vertexIn (l : Launch) (D : va_G) (o : Nat) (ad : Nat → Nat) (dA : Nat → ClassId) (G : Nat → Nat) (F : Nat → Nat → Nat) (x i : Nat) (hx : x < 2147483648) (hi : i < 7) : xMi l yX0_vertexIn cX0_vertexIn 3 .int rX0_vertexIn D o ad dA G F [nI x, nI i] (fun r G' F' => r = x / 2 ^ (3 * (6 - i)) &&& 7 ∧ G' = G ∧ F' = F) := by
  refine xMi.intro (L := [some (.ref o), some (.int (nI x)), some (.int (nI i))]) (by decide) rfl (Nat.le_of_ble_eq_true rfl) rfl ?_
  intro p e s m args below meth c A C hr hlocks hA
  refine ky_iload_n (pc := 0) C dX0_vertexIn_0 rfl ?_
  refine ky_iconst (pc := 1) C 3 dX0_vertexIn_1 (by decide) ?_
  refine ky_bipush (pc := 2) C 6 dX0_vertexIn_2 (by decide) ?_
  refine ky_iload_n (pc := 4) C dX0_vertexIn_4 rfl ?_
  refine ky_isub (pc := 5) C dX0_vertexIn_5 (by omega) ?_
  refine ky_imul (pc := 6) C dX0_vertexIn_6 ?_
  refine ky_ishr (pc := 7) C dX0_vertexIn_7 (by omega) (by omega) ?_
  refine ky_bipush (pc := 8) C 7 dX0_vertexIn_8 (by decide) ?_
  refine ky_iand (pc := 10) C dX0_vertexIn_10 ?_
  exact x_iret C hr hlocks dX0_vertexIn_11 ⟨rfl, rfl, rfl⟩
/-- the first loop: all far -/
theorem x_meas1 {cl : Nat} (C : ky_C p s m args c cX0_measure 6 RX0 D (xT dA)) (kk : ∀ d : Nat → Nat, (∀ j, j < 7 → d j = 1000000) → ky_At p l e R s m args below meth c 0 0 Q D A 6 (xW o ad dA G (va_up F 12 d)) 22 [some (.ref o), some (.int (nI cl)), some (.int (nI 7)), none, none, none] []) : ∀ (n i : Nat) (d : Nat → Nat), i + n = 7 → (∀ j, j < i → d j = 1000000) → ky_At p l e R s m args below meth c 0 0 Q D A 6 (xW o ad dA G (va_up F 12 d)) 2 [some (.ref o), some (.int (nI cl)), some (.int (nI i)), none, none, none] [] := by
  intro n
  induction n with
  | zero =>
    intro i d hi hd
    refine ky_iload_n (pc := 2) C dX0_measure_2 rfl ?_
    refine ky_bipush (pc := 3) C 7 dX0_measure_3 (by decide) ?_
    refine ky_icmp_ge (pc := 5) (tgt := 22) C dX0_measure_5 (by decide) (by omega) (by omega) (fun h_5 => ?_) (fun h_5 => ?_)
    · have e7 : i = 7 := by omega
      subst e7
      exact kk d hd
    · omega
  | succ n ih =>
    intro i d hi hd
    refine ky_iload_n (pc := 2) C dX0_measure_2 rfl ?_
    refine ky_bipush (pc := 3) C 7 dX0_measure_3 (by decide) ?_
    refine ky_icmp_ge (pc := 5) (tgt := 22) C dX0_measure_5 (by decide) (by omega) (by omega) (fun h_5 => ?_) (fun h_5 => ?_)
    · omega
    · refine ky_aload_n (pc := 8) C dX0_measure_8 rfl ?_
      refine x_g12 (pc := 9) C dX0_measure_9 ?_
      refine ky_iload_n (pc := 12) C dX0_measure_12 rfl ?_
      refine ky_ldc (pc := 13) C 1000000 dX0_measure_13 q120 (by decide) ?_
      refine x_s12 (pc := 15) C dX0_measure_15 (by omega) ?_
      refine ky_iinc1 (pc := 16) C dX0_measure_16 rfl (by decide) ?_
      refine ky_goto (pc := 19) (tgt := 2) C dX0_measure_19 (by decide) ?_
      rw [bx_uu]
      refine ih (i + 1) (va_up d i 1000000) (by omega) (fun j hj => ?_)
      by_cases e : j = i
      · rw [e]; exact vu_at _ _ _
      · rw [vu_ne e]; exact hd j (by omega)
/-- the inner loop: a round over all arcs -/
theorem x_meas3 {cl rnd : Nat} {d : Nat → Nat} (C : ky_C p s m args c cX0_measure 6 RX0 D (xT dA)) (hw : ∀ j, j < 49 → F 0 j ≤ 50) (hca : G 13 < 4294967296) (hcl : cl < 128) (hd : ∀ v, v < 7 → d v ≤ 1000000) (kk : ky_At p l e R s m args below meth c 0 0 Q D A 6 (xW o ad dA G (va_up F 12 (ye_rnd (F 0) (G 13) cl d 49))) 139 [some (.ref o), some (.int (nI cl)), some (.int (nI rnd)), some (.int (nI 49)), none, none] []) :
    ∀ (n a : Nat), a + n = 49 → ky_At p l e R s m args below meth c 0 0 Q D A 6 (xW o ad dA G (va_up F 12 (ye_rnd (F 0) (G 13) cl d a))) 53 [some (.ref o), some (.int (nI cl)), some (.int (nI rnd)), some (.int (nI a)), none, none] [] := by
  intro n
  induction n with
  | zero =>
    intro a ha
    refine ky_iload_n (pc := 53) C dX0_measure_53 rfl ?_
    refine ky_bipush (pc := 54) C 49 dX0_measure_54 (by decide) ?_
    refine ky_icmp_ge (pc := 56) (tgt := 139) C dX0_measure_56 (by decide) (by omega) (by omega) (fun h_56 => ?_) (fun h_56 => ?_)
    · have e : a = 49 := by omega
      subst e
      exact kk
    · omega
  | succ n ih =>
    intro a ha
    have hrn : ye_rx (F 0) (G 13) cl (ye_rnd (F 0) (G 13) cl d a) a = ye_rnd (F 0) (G 13) cl d (a + 1) := rfl
    have hdd : ∀ v, v < 7 → ye_rnd (F 0) (G 13) cl d a v ≤ 1000000 := fun v hv => Nat.le_trans (ye_rnd_le v a) (hd v hv)
    have hih := ih (a + 1) (by omega)
    rw [← hrn] at hih
    generalize ye_rnd (F 0) (G 13) cl d a = dd at hih hdd ⊢
    have fin : ∀ x : Nat → Nat, x = ye_rx (F 0) (G 13) cl dd a → ky_At p l e R s m args below meth c 0 0 Q D A 6 (xW o ad dA G (va_up F 12 x)) 133 [some (.ref o), some (.int (nI cl)), some (.int (nI rnd)), some (.int (nI a)), none, none] [] := by
      intro x hx
      rw [hx]
      refine ky_iinc1 (pc := 133) C dX0_measure_133 rfl (by decide) ?_
      refine ky_goto (pc := 136) (tgt := 53) C dX0_measure_136 (by decide) ?_
      exact hih
    have hwa := hw a (by omega)
    have h1 := hdd (a % 7) (by omega)
    have h2 := hdd (a / 7) (by omega)
    refine ky_iload_n (pc := 53) C dX0_measure_53 rfl ?_
    refine ky_bipush (pc := 54) C 49 dX0_measure_54 (by decide) ?_
    refine ky_icmp_ge (pc := 56) (tgt := 139) C dX0_measure_56 (by decide) (by omega) (by omega) (fun h_56 => ?_) (fun h_56 => ?_)
    · omega
    · refine ky_iload_n (pc := 59) C dX0_measure_59 rfl ?_
      refine ky_bipush (pc := 60) C 7 dX0_measure_60 (by decide) ?_
      refine ky_idiv (pc := 62) C dX0_measure_62 (by omega) (by omega) (by omega) ?_
      refine ky_istore (pc := 63) C dX0_measure_63 (by decide) ?_
      refine ky_aload_n (pc := 65) C dX0_measure_65 rfl ?_
      refine x_g0 (pc := 66) C dX0_measure_66 ?_
      refine ky_iload_n (pc := 69) C dX0_measure_69 rfl ?_
      refine x_l0 (pc := 70) C dX0_measure_70 (v := F 0 a) (by omega) rfl ?_
      refine ky_if_eq (pc := 71) (tgt := 133) C dX0_measure_71 (by decide) (by omega) (fun h_71 => ?_) (fun h_71 => ?_)
      · refine ky_forget 4 ?_
        exact fin dd (if_pos (Or.inl h_71)).symm
      · refine ky_iload_n (pc := 74) C dX0_measure_74 rfl ?_
        refine ky_aload_n (pc := 75) C dX0_measure_75 rfl ?_
        refine x_g13 (pc := 76) C dX0_measure_76 rfl ?_
        refine ky_icmp_eq (pc := 79) (tgt := 133) C dX0_measure_79 (by decide) (by omega) (by omega) (fun h_79 => ?_) (fun h_79 => ?_)
        · refine ky_forget 4 ?_
          exact fin dd (if_pos (Or.inr (Or.inl h_79))).symm
        · refine ky_iload_n (pc := 82) C dX0_measure_82 rfl ?_
          refine ky_iload (pc := 83) C dX0_measure_83 rfl ?_
          refine ky_ishr (pc := 85) C dX0_measure_85 (by omega) (by omega) ?_
          refine ky_iconst (pc := 86) C 1 dX0_measure_86 (by decide) ?_
          refine ky_iand (pc := 87) C dX0_measure_87 ?_
          refine ky_if_eq (pc := 88) (tgt := 94) C dX0_measure_88 (by decide) (kn_bit_lt _) (fun h_88 => ?_) (fun h_88 => ?_)
          · refine ky_aload_n (pc := 94) C dX0_measure_94 rfl ?_
            refine x_g12 (pc := 95) C dX0_measure_95 ?_
            refine ky_iload_n (pc := 98) C dX0_measure_98 rfl ?_
            refine ky_bipush (pc := 99) C 7 dX0_measure_99 (by decide) ?_
            refine ky_irem (pc := 101) C dX0_measure_101 (by omega) (by omega) (by omega) ?_
            refine x_l12 (pc := 102) C dX0_measure_102 (v := dd (a % 7)) (by omega) rfl ?_
            refine ky_aload_n (pc := 103) C dX0_measure_103 rfl ?_
            refine x_g0 (pc := 104) C dX0_measure_104 ?_
            refine ky_iload_n (pc := 107) C dX0_measure_107 rfl ?_
            refine x_l0 (pc := 108) C dX0_measure_108 (v := F 0 a) (by omega) rfl ?_
            refine ky_iadd (pc := 109) C dX0_measure_109 ?_
            refine ky_istore (pc := 110) C dX0_measure_110 (by decide) ?_
            refine ky_iload (pc := 112) C dX0_measure_112 rfl ?_
            refine ky_aload_n (pc := 114) C dX0_measure_114 rfl ?_
            refine x_g12 (pc := 115) C dX0_measure_115 ?_
            refine ky_iload (pc := 118) C dX0_measure_118 rfl ?_
            refine x_l12 (pc := 120) C dX0_measure_120 (v := dd (a / 7)) (by omega) rfl ?_
            refine ky_icmp_ge (pc := 121) (tgt := 133) C dX0_measure_121 (by decide) (by omega) (by omega) (fun h_121 => ?_) (fun h_121 => ?_)
            · refine ky_forget 4 (ky_forget 5 ?_)
              refine fin dd ?_
              unfold ye_rx
              rw [if_neg (by rw [kn_bit0] at h_88; simp [h_71, h_79, h_88]), if_neg (by omega)]
            · refine ky_aload_n (pc := 124) C dX0_measure_124 rfl ?_
              refine x_g12 (pc := 125) C dX0_measure_125 ?_
              refine ky_iload (pc := 128) C dX0_measure_128 rfl ?_
              refine ky_iload (pc := 130) C dX0_measure_130 rfl ?_
              refine x_s12 (pc := 132) C dX0_measure_132 (by omega) ?_
              rw [bx_uu]
              refine ky_forget 4 (ky_forget 5 ?_)
              refine fin _ ?_
              unfold ye_rx
              rw [if_neg (by rw [kn_bit0] at h_88; simp [h_71, h_79, h_88]), if_pos (by omega)]
              rfl
          · refine ky_goto (pc := 91) (tgt := 133) C dX0_measure_91 (by decide) ?_
            refine ky_forget 4 ?_
            refine fin dd (if_pos (Or.inr (Or.inr ?_))).symm
            rw [Ne, kn_bit0] at h_88
            simpa using h_88
/-- the outer loop: six rounds -/
theorem x_meas2 {cl : Nat} {d : Nat → Nat} (C : ky_C p s m args c cX0_measure 6 RX0 D (xT dA)) (hw : ∀ j, j < 49 → F 0 j ≤ 50) (hca : G 13 < 4294967296) (hcl : cl < 128) (hd : ∀ v, v < 7 → d v ≤ 1000000) (kk : ky_At p l e R s m args below meth c 0 0 Q D A 6 (xW o ad dA G (va_up F 12 (ye_rnds (F 0) (G 13) cl d 6))) 145 [some (.ref o), some (.int (nI cl)), some (.int (nI 6)), none, none, none] []) :
    ∀ (n r : Nat), r + n = 6 → ky_At p l e R s m args below meth c 0 0 Q D A 6 (xW o ad dA G (va_up F 12 (ye_rnds (F 0) (G 13) cl d r))) 45 [some (.ref o), some (.int (nI cl)), some (.int (nI r)), none, none, none] [] := by
  intro n
  induction n with
  | zero =>
    intro r hr
    refine ky_iload_n (pc := 45) C dX0_measure_45 rfl ?_
    refine ky_bipush (pc := 46) C 6 dX0_measure_46 (by decide) ?_
    refine ky_icmp_ge (pc := 48) (tgt := 145) C dX0_measure_48 (by decide) (by omega) (by omega) (fun h_48 => ?_) (fun h_48 => ?_)
    · have e : r = 6 := by omega
      subst e
      exact kk
    · omega
  | succ n ih =>
    intro r hr
    have hrn : ye_rnd (F 0) (G 13) cl (ye_rnds (F 0) (G 13) cl d r) 49 = ye_rnds (F 0) (G 13) cl d (r + 1) := rfl
    have hdr : ∀ k v, v < 7 → ye_rnds (F 0) (G 13) cl d k v ≤ 1000000 := by
      intro k
      induction k with
      | zero => exact hd
      | succ k ik => exact fun v hv => Nat.le_trans (ye_rnd_le v 49) (ik v hv)
    refine ky_iload_n (pc := 45) C dX0_measure_45 rfl ?_
    refine ky_bipush (pc := 46) C 6 dX0_measure_46 (by decide) ?_
    refine ky_icmp_ge (pc := 48) (tgt := 145) C dX0_measure_48 (by decide) (by omega) (by omega) (fun h_48 => ?_) (fun h_48 => ?_)
    · omega
    · refine ky_iconst (pc := 51) C 0 dX0_measure_51 (by decide) ?_
      refine ky_istore_n (pc := 52) C dX0_measure_52 (by decide) ?_
      refine x_meas3 C hw hca hcl (hdr r) ?_ 49 0 rfl
      rw [hrn]
      refine ky_iinc1 (pc := 139) C dX0_measure_139 rfl (by decide) ?_
      refine ky_goto (pc := 142) (tgt := 45) C dX0_measure_142 (by decide) ?_
      refine ky_forget 3 ?_
      exact ih (r + 1) (by omega)
/-- measure(cl): the least lengths to the target over walks that keep off cl -/
theorem x_measure (l : Launch) (D : va_G) (o : Nat) (ad : Nat → Nat) (dA : Nat → ClassId) (G : Nat → Nat) (F : Nat → Nat → Nat) (cl : Nat) (hw : ∀ j, j < 49 → F 0 j ≤ 50) (hca : G 13 < 4294967296) (hcl : cl < 128) (ht : G 2 < 7) (hct : cl.testBit (G 2) = false) : xMv l yX0_measure cX0_measure 6 rX0_measure D o ad dA G F [nI cl] (fun G' F' => G' = G ∧ ∃ d, F' = va_up F 12 d ∧ ye_D (F 0) (G 13) cl (G 2) d) := by
  refine xMv.intro (L := [some (.ref o), some (.int (nI cl)), none, none, none, none]) (by decide) rfl (Nat.le_of_ble_eq_true rfl) rfl ?_
  intro p e s m args below meth c A C hr hlocks hA
  refine ky_iconst (pc := 0) C 0 dX0_measure_0 (by decide) ?_
  refine ky_istore_n (pc := 1) C dX0_measure_1 (by decide) ?_
  have k1 := x_meas1 (G := G) (F := F) (l := l) (e := e) (R := rX0_measure) (below := below) (meth := meth) (A := A) (cl := cl) (o := o) (ad := ad) (Q := xQv below D o ad dA A args s (fun G' F' => G' = G ∧ ∃ d, F' = va_up F 12 d ∧ ye_D (F 0) (G 13) cl (G 2) d)) C (fun d hd => ?_) 7 0 (F 12) rfl (fun j hj => absurd hj (by omega))
  · rw [vu_self] at k1
    exact k1
  · refine ky_iload_n (pc := 22) C dX0_measure_22 rfl ?_
    refine ky_aload_n (pc := 23) C dX0_measure_23 rfl ?_
    refine x_g2 (pc := 24) C dX0_measure_24 rfl ?_
    refine ky_ishr (pc := 27) C dX0_measure_27 (by omega) (by omega) ?_
    refine ky_iconst (pc := 28) C 1 dX0_measure_28 (by decide) ?_
    refine ky_iand (pc := 29) C dX0_measure_29 ?_
    refine ky_if_ne (pc := 30) (tgt := 43) C dX0_measure_30 (by decide) (kn_bit_lt _) (fun h_30 => ?_) (fun h_30 => ?_)
    · rw [Ne, kn_bit0] at h_30
      exact absurd hct h_30
    · refine ky_aload_n (pc := 33) C dX0_measure_33 rfl ?_
      refine x_g12 (pc := 34) C dX0_measure_34 ?_
      refine ky_aload_n (pc := 37) C dX0_measure_37 rfl ?_
      refine x_g2 (pc := 38) C dX0_measure_38 rfl ?_
      refine ky_iconst (pc := 41) C 0 dX0_measure_41 (by decide) ?_
      refine x_s12 (pc := 42) C dX0_measure_42 (by omega) ?_
      refine ky_iconst (pc := 43) C 0 dX0_measure_43 (by decide) ?_
      refine ky_istore_n (pc := 44) C dX0_measure_44 (by decide) ?_
      rw [bx_uu]
      have hd2 : ∀ v, v < 7 → va_up (va_up F 12 d 12) (G 2) 0 v = if v = G 2 then 0 else 1000000 := by
        intro v hv
        show va_up d (G 2) 0 v = _
        unfold va_up
        split
        · rfl
        · exact hd v hv
      refine x_meas2 (d := va_up (va_up F 12 d 12) (G 2) 0) C hw hca hcl (fun v hv => ?_) ?_ 6 0 rfl
      · rw [hd2 v hv]
        split <;> omega
      · exact x_vret C hr hlocks dX0_measure_145 ⟨rfl, _, rfl, ye_measure ht hct hd2⟩
end Y20
end
section
/-! WALK: nearer, codeOfWay, keep, propose, bestCandidate, takenAfter (printed by gen.py out of walk/21.leaves.walk) -/
set_option maxRecDepth 100000
theorem kn_or8 {a b : Nat} (hb : b < 8) : a * 2 ^ 3 ||| b = a * 8 + b := by
  have h := Nat.two_pow_add_eq_or_of_lt (i := 3) (b := b) (by omega) a
  rw [Nat.mul_comm a (2 ^ 3), ← h, Nat.mul_comm]
section Y21
variable {p : Program} {l : Launch} {e : Env} {R : Room} {s : State} {m : MethodId} {args : Array Value} {below : List Frame} {meth : Method} {c : Code} {Q : State → Prop} {D : va_G} {A : Nat → Prop} {o : Nat} {ad : Nat → Nat} {dA : Nat → ClassId} {G : Nat → Nat} {F : Nat → Nat → Nat}
theorem x_near1 {u : Nat} (C : ky_C p s m args c cX0_nearer 4 RX0 D (xT dA)) (hu : u < 7) (hw : ∀ j, j < 49 → F 0 j ≤ 50) (hca : G 13 < 4294967296) (hd : ∀ v, v < 7 → F 12 v ≤ 1000000)
    (k1 : ∀ i, i < 7 → ye_ok (F 0) (G 13) (F 12) u i → (∀ x, x < i → ¬ ye_ok (F 0) (G 13) (F 12) u x) → ky_At p l e R s m args below meth c 0 0 Q D A 4 (xW o ad dA G F) 69 [some (.ref o), some (.int (nI u)), some (.int (nI i)), none] [.int (nI i)])
    (k2 : (∀ x, x < 7 → ¬ ye_ok (F 0) (G 13) (F 12) u x) → ky_At p l e R s m args below meth c 0 0 Q D A 4 (xW o ad dA G F) 76 [some (.ref o), some (.int (nI u)), some (.int (nI 7)), none] []) :
    ∀ (n i : Nat), i + n = 7 → (∀ x, x < i → ¬ ye_ok (F 0) (G 13) (F 12) u x) → ky_At p l e R s m args below meth c 0 0 Q D A 4 (xW o ad dA G F) 2 [some (.ref o), some (.int (nI u)), some (.int (nI i)), none] [] := by
  intro n
  induction n with
  | zero =>
    intro i hi hno
    refine ky_iload_n (pc := 2) C dX0_nearer_2 rfl ?_
    refine ky_bipush (pc := 3) C 7 dX0_nearer_3 (by decide) ?_
    refine ky_icmp_ge (pc := 5) (tgt := 76) C dX0_nearer_5 (by decide) (by omega) (by omega) (fun h_5 => ?_) (fun h_5 => ?_)
    · have e : i = 7 := by omega
      subst e
      exact k2 hno
    · omega
  | succ n ih =>
    intro i hi hno
    have fin : ¬ ye_ok (F 0) (G 13) (F 12) u i → ky_At p l e R s m args below meth c 0 0 Q D A 4 (xW o ad dA G F) 70 [some (.ref o), some (.int (nI u)), some (.int (nI i)), none] [] := by
      intro hx
      refine ky_iinc1 (pc := 70) C dX0_nearer_70 rfl (by decide) ?_
      refine ky_goto (pc := 73) (tgt := 2) C dX0_nearer_73 (by decide) ?_
      refine ih (i + 1) (by omega) (fun x hx2 => ?_)
      by_cases e : x = i
      · rw [e]; exact hx
      · exact hno x (by omega)
    have hwa := hw (7 * u + i) (by omega)
    have hdu := hd u hu
    refine ky_iload_n (pc := 2) C dX0_nearer_2 rfl ?_
    refine ky_bipush (pc := 3) C 7 dX0_nearer_3 (by decide) ?_
    refine ky_icmp_ge (pc := 5) (tgt := 76) C dX0_nearer_5 (by decide) (by omega) (by omega) (fun h_5 => ?_) (fun h_5 => ?_)
    · omega
    · have hdi := hd i (by omega)
      refine ky_bipush (pc := 8) C 7 dX0_nearer_8 (by decide) ?_
      refine ky_iload_n (pc := 10) C dX0_nearer_10 rfl ?_
      refine ky_imul (pc := 11) C dX0_nearer_11 ?_
      refine ky_iload_n (pc := 12) C dX0_nearer_12 rfl ?_
      refine ky_iadd (pc := 13) C dX0_nearer_13 ?_
      refine ky_istore_n (pc := 14) C dX0_nearer_14 (by decide) ?_
      refine ky_aload_n (pc := 15) C dX0_nearer_15 rfl ?_
      refine x_g0 (pc := 16) C dX0_nearer_16 ?_
      refine ky_iload_n (pc := 19) C dX0_nearer_19 rfl ?_
      refine x_l0 (pc := 20) C dX0_nearer_20 (by omega) rfl ?_
      refine ky_if_eq (pc := 21) (tgt := 70) C dX0_nearer_21 (by decide) (by omega) (fun h_21 => ?_) (fun h_21 => ?_)
      · refine ky_forget 3 ?_
        exact fin (fun z => z.1 h_21)
      · refine ky_iload_n (pc := 24) C dX0_nearer_24 rfl ?_
        refine ky_aload_n (pc := 25) C dX0_nearer_25 rfl ?_
        refine x_g13 (pc := 26) C dX0_nearer_26 rfl ?_
        refine ky_icmp_eq (pc := 29) (tgt := 70) C dX0_nearer_29 (by decide) (by omega) (by omega) (fun h_29 => ?_) (fun h_29 => ?_)
        · refine ky_forget 3 ?_
          exact fin (fun z => z.2.1 h_29)
        · refine ky_aload_n (pc := 32) C dX0_nearer_32 rfl ?_
          refine x_g12 (pc := 33) C dX0_nearer_33 ?_
          refine ky_iload_n (pc := 36) C dX0_nearer_36 rfl ?_
          refine x_l12 (pc := 37) C dX0_nearer_37 (by omega) rfl ?_
          refine ky_ldc (pc := 38) C 1000000 dX0_nearer_38 q120 (by decide) ?_
          refine ky_icmp_lt (pc := 40) (tgt := 46) C dX0_nearer_40 (by decide) (by omega) (by omega) (fun h_40 => ?_) (fun h_40 => ?_)
          · refine ky_aload_n (pc := 46) C dX0_nearer_46 rfl ?_
            refine x_g12 (pc := 47) C dX0_nearer_47 ?_
            refine ky_iload_n (pc := 50) C dX0_nearer_50 rfl ?_
            refine x_l12 (pc := 51) C dX0_nearer_51 (by omega) rfl ?_
            refine ky_aload_n (pc := 52) C dX0_nearer_52 rfl ?_
            refine x_g0 (pc := 53) C dX0_nearer_53 ?_
            refine ky_iload_n (pc := 56) C dX0_nearer_56 rfl ?_
            refine x_l0 (pc := 57) C dX0_nearer_57 (by omega) rfl ?_
            refine ky_iadd (pc := 58) C dX0_nearer_58 ?_
            refine ky_aload_n (pc := 59) C dX0_nearer_59 rfl ?_
            refine x_g12 (pc := 60) C dX0_nearer_60 ?_
            refine ky_iload_n (pc := 63) C dX0_nearer_63 rfl ?_
            refine x_l12 (pc := 64) C dX0_nearer_64 (by omega) rfl ?_
            refine ky_icmp_ne (pc := 65) (tgt := 70) C dX0_nearer_65 (by decide) (by omega) (by omega) (fun h_65 => ?_) (fun h_65 => ?_)
            · refine ky_forget 3 ?_
              exact fin (fun z => h_65 z.2.2.2)
            · refine ky_iload_n (pc := 68) C dX0_nearer_68 rfl ?_
              refine ky_forget 3 ?_
              exact k1 i (by omega) ⟨h_21, h_29, h_40, h_65⟩ hno
          · refine ky_goto (pc := 43) (tgt := 70) C dX0_nearer_43 (by decide) ?_
            refine ky_forget 3 ?_
            exact fin (fun z => by have := z.2.2.1; omega)
/-- nearer(u): the smallest vertex that a shortest way goes to next -/
theorem x_nearer (l : Launch) (D : va_G) (o : Nat) (ad : Nat → Nat) (dA : Nat → ClassId) (G : Nat → Nat) (F : Nat → Nat → Nat) (u : Nat) (hu : u < 7) (hw : ∀ j, j < 49 → F 0 j ≤ 50) (hca : G 13 < 4294967296) (hd : ∀ v, v < 7 → F 12 v ≤ 1000000) : xMi l yX0_nearer cX0_nearer 4 .int rX0_nearer D o ad dA G F [nI u] (fun r G' F' => ye_nr (F 0) (G 13) (F 12) (G 2) u r ∧ G' = G ∧ F' = F) := by
  refine xMi.intro (L := [some (.ref o), some (.int (nI u)), none, none]) (by decide) rfl (Nat.le_of_ble_eq_true rfl) rfl ?_
  intro p e s m args below meth c A C hr hlocks hA
  refine ky_iconst (pc := 0) C 0 dX0_nearer_0 (by decide) ?_
  refine ky_istore_n (pc := 1) C dX0_nearer_1 (by decide) ?_
  refine x_near1 C hu hw hca hd (fun i h1 h2 h3 => ?_) (fun h1 => ?_) 7 0 rfl (fun x hx => absurd hx (by omega))
  · exact x_iret C hr hlocks dX0_nearer_69 ⟨Or.inl ⟨h1, h2, h3⟩, rfl, rfl⟩
  · refine ky_aload_n (pc := 76) C dX0_nearer_76 rfl ?_
    refine x_g2 (pc := 77) C dX0_nearer_77 rfl ?_
    exact x_iret C hr hlocks dX0_nearer_80 ⟨Or.inr ⟨rfl, h1⟩, rfl, rfl⟩
theorem x_code1 {f : Nat → Nat} (C : ky_C p s m args c cX0_codeOfWay 3 RX0 D (xT dA)) (he : G 15 ≤ 7) (hf : ∀ i, i < 7 → f i < 8) (h1 : ∀ i, i < G 15 → F 14 i = f i) (h2 : ∀ i, G 15 ≤ i → f i = 0)
    (kk : ky_At p l e R s m args below meth c 0 0 Q D A 3 (xW o ad dA G F) 39 [some (.ref o), some (.int (nI (ye_hor f 7))), some (.int (nI 7))] []) :
    ∀ (n i : Nat), i + n = 7 → ky_At p l e R s m args below meth c 0 0 Q D A 3 (xW o ad dA G F) 4 [some (.ref o), some (.int (nI (ye_hor f i))), some (.int (nI i))] [] := by
  intro n
  induction n with
  | zero =>
    intro i hi
    refine ky_iload_n (pc := 4) C dX0_codeOfWay_4 rfl ?_
    refine ky_bipush (pc := 5) C 7 dX0_codeOfWay_5 (by decide) ?_
    refine ky_icmp_ge (pc := 7) (tgt := 39) C dX0_codeOfWay_7 (by decide) (by omega) (by omega) (fun h_7 => ?_) (fun h_7 => ?_)
    · have e : i = 7 := by omega
      subst e
      exact kk
    · omega
  | succ n ih =>
    intro i hi
    have hb : ye_hor f i < 2097152 := by
      have a1 := ye_hor_lt (f := f) i (fun j hj => hf j (by omega))
      have a2 : 8 ^ i ≤ 8 ^ 7 := Nat.pow_le_pow_right (by decide) (by omega)
      omega
    have fin : ∀ x, x = ye_hor f (i + 1) → ky_At p l e R s m args below meth c 0 0 Q D A 3 (xW o ad dA G F) 32 [some (.ref o), some (.int (nI (ye_hor f i))), some (.int (nI i))] [.int (nI x)] := by
      intro x hx
      rw [hx]
      refine ky_istore_n (pc := 32) C dX0_codeOfWay_32 (by decide) ?_
      refine ky_iinc1 (pc := 33) C dX0_codeOfWay_33 rfl (by decide) ?_
      refine ky_goto (pc := 36) (tgt := 4) C dX0_codeOfWay_36 (by decide) ?_
      exact ih (i + 1) (by omega)
    refine ky_iload_n (pc := 4) C dX0_codeOfWay_4 rfl ?_
    refine ky_bipush (pc := 5) C 7 dX0_codeOfWay_5 (by decide) ?_
    refine ky_icmp_ge (pc := 7) (tgt := 39) C dX0_codeOfWay_7 (by decide) (by omega) (by omega) (fun h_7 => ?_) (fun h_7 => ?_)
    · omega
    · refine ky_iload_n (pc := 10) C dX0_codeOfWay_10 rfl ?_
      refine ky_iconst (pc := 11) C 3 dX0_codeOfWay_11 (by decide) ?_
      refine ky_ishl (pc := 12) C dX0_codeOfWay_12 (by omega) (by first | omega | exact kn_p7 (by omega)) ?_
      refine ky_iload_n (pc := 13) C dX0_codeOfWay_13 rfl ?_
      refine ky_aload_n (pc := 14) C dX0_codeOfWay_14 rfl ?_
      refine x_g15 (pc := 15) C dX0_codeOfWay_15 rfl ?_
      refine ky_icmp_ge (pc := 18) (tgt := 30) C dX0_codeOfWay_18 (by decide) (by omega) (by omega) (fun h_18 => ?_) (fun h_18 => ?_)
      · refine ky_iconst (pc := 30) C 0 dX0_codeOfWay_30 (by decide) ?_
        refine ky_ior (pc := 31) C dX0_codeOfWay_31 ?_
        refine fin _ ?_
        rw [kn_or8 (by omega)]
        show _ = ye_hor f i * 8 + f i
        rw [h2 i h_18]
      · refine ky_aload_n (pc := 21) C dX0_codeOfWay_21 rfl ?_
        refine x_g14 (pc := 22) C dX0_codeOfWay_22 ?_
        refine ky_iload_n (pc := 25) C dX0_codeOfWay_25 rfl ?_
        refine x_l14 (pc := 26) C dX0_codeOfWay_26 (v := f i) (by omega) (h1 i h_18) ?_
        refine ky_goto (pc := 27) (tgt := 31) C dX0_codeOfWay_27 (by decide) ?_
        refine ky_ior (pc := 31) C dX0_codeOfWay_31 ?_
        refine fin _ ?_
        rw [kn_or8 (hf i (by omega))]
        rfl
/-- codeOfWay(): the way as a number -/
theorem x_codeOfWay (l : Launch) (D : va_G) (o : Nat) (ad : Nat → Nat) (dA : Nat → ClassId) (G : Nat → Nat) (F : Nat → Nat → Nat) (q : List Nat) (h7 : ∀ x ∈ q, x < 7) (hl : q.length ≤ 7) (he : G 15 = q.length) (hq : ∀ i, i < q.length → F 14 i = ye_dg q i) : xMi l yX0_codeOfWay cX0_codeOfWay 3 .int rX0_codeOfWay D o ad dA G F [] (fun r G' F' => r = ye_code q ∧ G' = G ∧ F' = F) := by
  refine xMi.intro (L := [some (.ref o), none, none]) (by decide) rfl (Nat.le_of_ble_eq_true rfl) rfl ?_
  intro p e s m args below meth c A C hr hlocks hA
  refine ky_iconst (pc := 0) C 0 dX0_codeOfWay_0 (by decide) ?_
  refine ky_istore_n (pc := 1) C dX0_codeOfWay_1 (by decide) ?_
  refine ky_iconst (pc := 2) C 0 dX0_codeOfWay_2 (by decide) ?_
  refine ky_istore_n (pc := 3) C dX0_codeOfWay_3 (by decide) ?_
  refine x_code1 (f := ye_dg q) C (by omega) (fun i _ => ye_dg_lt h7 i) (fun i hi => hq i (by omega)) (fun i hi => ?_) ?_ 7 0 rfl
  · unfold ye_dg
    rw [List.getD_eq_getElem?_getD, List.getElem?_eq_none (by omega)]
    rfl
  · refine ky_iload_n (pc := 39) C dX0_codeOfWay_39 rfl ?_
    exact x_iret C hr hlocks dX0_codeOfWay_40 ⟨rfl, rfl, rfl⟩
/-- keep(code, length, size): one more known path -/
theorem x_keep (l : Launch) (D : va_G) (o : Nat) (ad : Nat → Nat) (dA : Nat → ClassId) (G : Nat → Nat) (F : Nat → Nat → Nat) (x y z : Nat) (hn : G 4 < 12) : xMv l yX0_keep cX0_keep 4 rX0_keep D o ad dA G F [nI x, nI y, nI z] (fun G' F' => G' = va_up G 4 (G 4 + 1) ∧ F' = va_up (va_up (va_up F 5 (va_up (F 5) (G 4) x)) 6 (va_up (F 6) (G 4) y)) 7 (va_up (F 7) (G 4) z)) := by
  refine xMv.intro (L := [some (.ref o), some (.int (nI x)), some (.int (nI y)), some (.int (nI z))]) (by decide) rfl (Nat.le_of_ble_eq_true rfl) rfl ?_
  intro p e s m args below meth c A C hr hlocks hA
  refine ky_aload_n (pc := 0) C dX0_keep_0 rfl ?_
  refine x_g5 (pc := 1) C dX0_keep_1 ?_
  refine ky_aload_n (pc := 4) C dX0_keep_4 rfl ?_
  refine x_g4 (pc := 5) C dX0_keep_5 rfl ?_
  refine ky_iload_n (pc := 8) C dX0_keep_8 rfl ?_
  refine x_s5 (pc := 9) C dX0_keep_9 (by omega) ?_
  refine ky_aload_n (pc := 10) C dX0_keep_10 rfl ?_
  refine x_g6 (pc := 11) C dX0_keep_11 ?_
  refine ky_aload_n (pc := 14) C dX0_keep_14 rfl ?_
  refine x_g4 (pc := 15) C dX0_keep_15 rfl ?_
  refine ky_iload_n (pc := 18) C dX0_keep_18 rfl ?_
  refine x_s6 (pc := 19) C dX0_keep_19 (by omega) ?_
  refine ky_aload_n (pc := 20) C dX0_keep_20 rfl ?_
  refine x_g7 (pc := 21) C dX0_keep_21 ?_
  refine ky_aload_n (pc := 24) C dX0_keep_24 rfl ?_
  refine x_g4 (pc := 25) C dX0_keep_25 rfl ?_
  refine ky_iload_n (pc := 28) C dX0_keep_28 rfl ?_
  refine x_s7 (pc := 29) C dX0_keep_29 (by omega) ?_
  refine ky_aload_n (pc := 30) C dX0_keep_30 rfl ?_
  refine ky_dup (pc := 31) C dX0_keep_31 rfl ?_
  refine x_g4 (pc := 32) C dX0_keep_32 rfl ?_
  refine ky_iconst (pc := 35) C 1 dX0_keep_35 (by decide) ?_
  refine ky_iadd (pc := 36) C dX0_keep_36 ?_
  refine x_p4 (pc := 37) C dX0_keep_37 ?_
  exact x_vret C hr hlocks dX0_keep_40 ⟨rfl, rfl⟩
theorem x_prop1 {x y z : Nat} (C : ky_C p s m args c cX0_propose 5 RX0 D (xT dA)) (hx : x < 4294967296) (hn : G 8 ≤ 72) (hc : ∀ i, i < G 8 → F 9 i < 4294967296)
    (k1 : ∀ i, i < G 8 → F 9 i = x → ky_At p l e R s m args below meth c 0 0 Q D A 5 (xW o ad dA G F) 23 [some (.ref o), some (.int (nI x)), some (.int (nI y)), some (.int (nI z)), none] [])
    (k2 : (∀ i, i < G 8 → F 9 i ≠ x) → ky_At p l e R s m args below meth c 0 0 Q D A 5 (xW o ad dA G F) 30 [some (.ref o), some (.int (nI x)), some (.int (nI y)), some (.int (nI z)), none] []) :
    ∀ (n i : Nat), i + n = G 8 → (∀ j, j < i → F 9 j ≠ x) → ky_At p l e R s m args below meth c 0 0 Q D A 5 (xW o ad dA G F) 3 [some (.ref o), some (.int (nI x)), some (.int (nI y)), some (.int (nI z)), some (.int (nI i))] [] := by
  intro n
  induction n with
  | zero =>
    intro i hi hno
    refine ky_iload (pc := 3) C dX0_propose_3 rfl ?_
    refine ky_aload_n (pc := 5) C dX0_propose_5 rfl ?_
    refine x_g8 (pc := 6) C dX0_propose_6 rfl ?_
    refine ky_icmp_ge (pc := 9) (tgt := 30) C dX0_propose_9 (by decide) (by omega) (by omega) (fun h_9 => ?_) (fun h_9 => ?_)
    · refine ky_forget 4 ?_
      exact k2 (fun j hj => hno j (by omega))
    · omega
  | succ n ih =>
    intro i hi hno
    have hci := hc i (by omega)
    refine ky_iload (pc := 3) C dX0_propose_3 rfl ?_
    refine ky_aload_n (pc := 5) C dX0_propose_5 rfl ?_
    refine x_g8 (pc := 6) C dX0_propose_6 rfl ?_
    refine ky_icmp_ge (pc := 9) (tgt := 30) C dX0_propose_9 (by decide) (by omega) (by omega) (fun h_9 => ?_) (fun h_9 => ?_)
    · omega
    · refine ky_aload_n (pc := 12) C dX0_propose_12 rfl ?_
      refine x_g9 (pc := 13) C dX0_propose_13 ?_
      refine ky_iload (pc := 16) C dX0_propose_16 rfl ?_
      refine x_l9 (pc := 18) C dX0_propose_18 (by omega) rfl ?_
      refine ky_iload_n (pc := 19) C dX0_propose_19 rfl ?_
      refine ky_icmp_ne (pc := 20) (tgt := 24) C dX0_propose_20 (by decide) (by omega) (by omega) (fun h_20 => ?_) (fun h_20 => ?_)
      · refine ky_iinc1 (pc := 24) C dX0_propose_24 rfl (by decide) ?_
        refine ky_goto (pc := 27) (tgt := 3) C dX0_propose_27 (by decide) ?_
        refine ih (i + 1) (by omega) (fun j hj => ?_)
        by_cases e : j = i
        · rw [e]; exact h_20
        · exact hno j (by omega)
      · refine ky_forget 4 ?_
        exact k1 i h_9 h_20
/-- propose(code, length, size): a candidate, unless it is there -/
theorem x_propose (l : Launch) (D : va_G) (o : Nat) (ad : Nat → Nat) (dA : Nat → ClassId) (G : Nat → Nat) (F : Nat → Nat → Nat) (x y z : Nat) (hx : x < 4294967296) (hn : G 8 < 72) (hc : ∀ i, i < G 8 → F 9 i < 4294967296) : xMv l yX0_propose cX0_propose 5 rX0_propose D o ad dA G F [nI x, nI y, nI z] (fun G' F' => ((∃ i, i < G 8 ∧ F 9 i = x) ∧ G' = G ∧ F' = F) ∨ ((∀ i, i < G 8 → F 9 i ≠ x) ∧ G' = va_up G 8 (G 8 + 1) ∧ F' = va_up (va_up (va_up F 9 (va_up (F 9) (G 8) x)) 10 (va_up (F 10) (G 8) y)) 11 (va_up (F 11) (G 8) z))) := by
  refine xMv.intro (L := [some (.ref o), some (.int (nI x)), some (.int (nI y)), some (.int (nI z)), none]) (by decide) rfl (Nat.le_of_ble_eq_true rfl) rfl ?_
  intro p e s m args below meth c A C hr hlocks hA
  refine ky_iconst (pc := 0) C 0 dX0_propose_0 (by decide) ?_
  refine ky_istore (pc := 1) C dX0_propose_1 (by decide) ?_
  refine x_prop1 C hx (by omega) hc (fun i h1 h2 => ?_) (fun h1 => ?_) (G 8) 0 (by omega) (fun j hj => absurd hj (by omega))
  · exact x_vret C hr hlocks dX0_propose_23 (Or.inl ⟨⟨i, h1, h2⟩, rfl, rfl⟩)
  · refine ky_aload_n (pc := 30) C dX0_propose_30 rfl ?_
    refine x_g9 (pc := 31) C dX0_propose_31 ?_
    refine ky_aload_n (pc := 34) C dX0_propose_34 rfl ?_
    refine x_g8 (pc := 35) C dX0_propose_35 rfl ?_
    refine ky_iload_n (pc := 38) C dX0_propose_38 rfl ?_
    refine x_s9 (pc := 39) C dX0_propose_39 (by omega) ?_
    refine ky_aload_n (pc := 40) C dX0_propose_40 rfl ?_
    refine x_g10 (pc := 41) C dX0_propose_41 ?_
    refine ky_aload_n (pc := 44) C dX0_propose_44 rfl ?_
    refine x_g8 (pc := 45) C dX0_propose_45 rfl ?_
    refine ky_iload_n (pc := 48) C dX0_propose_48 rfl ?_
    refine x_s10 (pc := 49) C dX0_propose_49 (by omega) ?_
    refine ky_aload_n (pc := 50) C dX0_propose_50 rfl ?_
    refine x_g11 (pc := 51) C dX0_propose_51 ?_
    refine ky_aload_n (pc := 54) C dX0_propose_54 rfl ?_
    refine x_g8 (pc := 55) C dX0_propose_55 rfl ?_
    refine ky_iload_n (pc := 58) C dX0_propose_58 rfl ?_
    refine x_s11 (pc := 59) C dX0_propose_59 (by omega) ?_
    refine ky_aload_n (pc := 60) C dX0_propose_60 rfl ?_
    refine ky_dup (pc := 61) C dX0_propose_61 rfl ?_
    refine x_g8 (pc := 62) C dX0_propose_62 rfl ?_
    refine ky_iconst (pc := 65) C 1 dX0_propose_65 (by decide) ?_
    refine ky_iadd (pc := 66) C dX0_propose_66 ?_
    refine x_p8 (pc := 67) C dX0_propose_67 ?_
    exact x_vret C hr hlocks dX0_propose_70 (Or.inr ⟨h1, rfl, rfl⟩)
def ye_le2 (F : Nat → Nat → Nat) (b i : Nat) : Prop := F 10 b < F 10 i ∨ (F 10 b = F 10 i ∧ F 9 b ≤ F 9 i)
def ye_bst (F : Nat → Nat → Nat) (n b : Nat) : Prop := (n = 0 ∧ b = 4294967295) ∨ (b < n ∧ ∀ i, i < n → ye_le2 F b i)
theorem x_best1 (C : ky_C p s m args c cX0_bestCandidate 4 RX0 D (xT dA)) (hn : G 8 ≤ 72) (hc : ∀ i, i < G 8 → F 9 i < 2147483648 ∧ F 10 i < 2147483648)
    (kk : ∀ b, ye_bst F (G 8) b → ky_At p l e R s m args below meth c 0 0 Q D A 4 (xW o ad dA G F) 79 [some (.ref o), some (.int (nI b)), none, none] []) :
    ∀ (n i b : Nat), i + n = G 8 → ye_bst F i b → ky_At p l e R s m args below meth c 0 0 Q D A 4 (xW o ad dA G F) 4 [some (.ref o), some (.int (nI b)), some (.int (nI i)), none] [] := by
  intro n
  induction n with
  | zero =>
    intro i b hi hb
    have hb2 : i < 2147483648 := by omega
    refine ky_iload_n (pc := 4) C dX0_bestCandidate_4 rfl ?_
    refine ky_aload_n (pc := 5) C dX0_bestCandidate_5 rfl ?_
    refine x_g8 (pc := 6) C dX0_bestCandidate_6 rfl ?_
    refine ky_icmp_ge (pc := 9) (tgt := 79) C dX0_bestCandidate_9 (by decide) (by omega) (by omega) (fun h_9 => ?_) (fun h_9 => ?_)
    · have e : i = G 8 := by omega
      refine ky_forget 2 ?_
      exact kk b (by rw [← e]; exact hb)
    · omega
  | succ n ih =>
    intro i b hi hb
    have hci := hc i (by omega)
    have hbb : b < 4294967296 := by rcases hb with ⟨-, h⟩ | ⟨h, -⟩ <;> omega
    have yes : ye_bst F (i + 1) i → ky_At p l e R s m args below meth c 0 0 Q D A 4 (xW o ad dA G F) 61 [some (.ref o), some (.int (nI b)), some (.int (nI i)), none] [] := by
      intro h
      refine ky_iconst (pc := 61) C 1 dX0_bestCandidate_61 (by decide) ?_
      refine ky_goto (pc := 62) (tgt := 66) C dX0_bestCandidate_62 (by decide) ?_
      refine ky_istore_n (pc := 66) C dX0_bestCandidate_66 (by decide) ?_
      refine ky_iload_n (pc := 67) C dX0_bestCandidate_67 rfl ?_
      refine ky_if_eq (pc := 68) (tgt := 73) C dX0_bestCandidate_68 (by decide) (by omega) (fun h_68 => ?_) (fun h_68 => ?_)
      · exact absurd h_68 (by decide)
      · refine ky_iload_n (pc := 71) C dX0_bestCandidate_71 rfl ?_
        refine ky_istore_n (pc := 72) C dX0_bestCandidate_72 (by decide) ?_
        refine ky_iinc1 (pc := 73) C dX0_bestCandidate_73 rfl (by decide) ?_
        refine ky_goto (pc := 76) (tgt := 4) C dX0_bestCandidate_76 (by decide) ?_
        refine ky_forget 3 ?_
        exact ih (i + 1) i (by omega) h
    have no : ye_bst F (i + 1) b → ky_At p l e R s m args below meth c 0 0 Q D A 4 (xW o ad dA G F) 65 [some (.ref o), some (.int (nI b)), some (.int (nI i)), none] [] := by
      intro h
      refine ky_iconst (pc := 65) C 0 dX0_bestCandidate_65 (by decide) ?_
      refine ky_istore_n (pc := 66) C dX0_bestCandidate_66 (by decide) ?_
      refine ky_iload_n (pc := 67) C dX0_bestCandidate_67 rfl ?_
      refine ky_if_eq (pc := 68) (tgt := 73) C dX0_bestCandidate_68 (by decide) (by omega) (fun h_68 => ?_) (fun h_68 => ?_)
      · refine ky_iinc1 (pc := 73) C dX0_bestCandidate_73 rfl (by decide) ?_
        refine ky_goto (pc := 76) (tgt := 4) C dX0_bestCandidate_76 (by decide) ?_
        refine ky_forget 3 ?_
        exact ih (i + 1) b (by omega) h
      · exact absurd rfl h_68
    refine ky_iload_n (pc := 4) C dX0_bestCandidate_4 rfl ?_
    refine ky_aload_n (pc := 5) C dX0_bestCandidate_5 rfl ?_
    refine x_g8 (pc := 6) C dX0_bestCandidate_6 rfl ?_
    refine ky_icmp_ge (pc := 9) (tgt := 79) C dX0_bestCandidate_9 (by decide) (by omega) (by omega) (fun h_9 => ?_) (fun h_9 => ?_)
    · omega
    · refine ky_iload_n (pc := 12) C dX0_bestCandidate_12 rfl ?_
      refine ky_if_lt (pc := 13) (tgt := 61) C dX0_bestCandidate_13 (by decide) (by omega) (fun h_13 => ?_) (fun h_13 => ?_)
      · refine yes (Or.inr ⟨by omega, fun j hj => ?_⟩)
        rcases hb with ⟨h1, h2⟩ | ⟨h1, h2⟩
        · have e : j = i := by omega
          rw [e]
          exact Or.inr ⟨rfl, Nat.le_refl _⟩
        · omega
      · rcases hb with ⟨h1, h2⟩ | ⟨h1, h2⟩
        · omega
        have hcb := hc b (by omega)
        have hyes : (F 10 i < F 10 b ∨ (F 10 i = F 10 b ∧ F 9 i < F 9 b)) → ye_bst F (i + 1) i := by
          intro h
          refine Or.inr ⟨by omega, fun j hj => ?_⟩
          by_cases e : j = i
          · rw [e]; exact Or.inr ⟨rfl, Nat.le_refl _⟩
          · have := h2 j (by omega)
            unfold ye_le2 at this ⊢
            omega
        have hno : (F 10 b < F 10 i ∨ (F 10 b = F 10 i ∧ F 9 b ≤ F 9 i)) → ye_bst F (i + 1) b := by
          intro h
          refine Or.inr ⟨by omega, fun j hj => ?_⟩
          by_cases e : j = i
          · rw [e]; exact h
          · exact h2 j (by omega)
        refine ky_aload_n (pc := 16) C dX0_bestCandidate_16 rfl ?_
        refine x_g10 (pc := 17) C dX0_bestCandidate_17 ?_
        refine ky_iload_n (pc := 20) C dX0_bestCandidate_20 rfl ?_
        refine x_l10 (pc := 21) C dX0_bestCandidate_21 (by omega) rfl ?_
        refine ky_aload_n (pc := 22) C dX0_bestCandidate_22 rfl ?_
        refine x_g10 (pc := 23) C dX0_bestCandidate_23 ?_
        refine ky_iload_n (pc := 26) C dX0_bestCandidate_26 rfl ?_
        refine x_l10 (pc := 27) C dX0_bestCandidate_27 (by omega) rfl ?_
        refine ky_icmp_lt (pc := 28) (tgt := 61) C dX0_bestCandidate_28 (by decide) (by omega) (by omega) (fun h_28 => ?_) (fun h_28 => ?_)
        · exact yes (hyes (Or.inl h_28))
        · refine ky_aload_n (pc := 31) C dX0_bestCandidate_31 rfl ?_
          refine x_g10 (pc := 32) C dX0_bestCandidate_32 ?_
          refine ky_iload_n (pc := 35) C dX0_bestCandidate_35 rfl ?_
          refine x_l10 (pc := 36) C dX0_bestCandidate_36 (by omega) rfl ?_
          refine ky_aload_n (pc := 37) C dX0_bestCandidate_37 rfl ?_
          refine x_g10 (pc := 38) C dX0_bestCandidate_38 ?_
          refine ky_iload_n (pc := 41) C dX0_bestCandidate_41 rfl ?_
          refine x_l10 (pc := 42) C dX0_bestCandidate_42 (by omega) rfl ?_
          refine ky_icmp_ne (pc := 43) (tgt := 65) C dX0_bestCandidate_43 (by decide) (by omega) (by omega) (fun h_43 => ?_) (fun h_43 => ?_)
          · exact no (hno (Or.inl (by omega)))
          · refine ky_aload_n (pc := 46) C dX0_bestCandidate_46 rfl ?_
            refine x_g9 (pc := 47) C dX0_bestCandidate_47 ?_
            refine ky_iload_n (pc := 50) C dX0_bestCandidate_50 rfl ?_
            refine x_l9 (pc := 51) C dX0_bestCandidate_51 (by omega) rfl ?_
            refine ky_aload_n (pc := 52) C dX0_bestCandidate_52 rfl ?_
            refine x_g9 (pc := 53) C dX0_bestCandidate_53 ?_
            refine ky_iload_n (pc := 56) C dX0_bestCandidate_56 rfl ?_
            refine x_l9 (pc := 57) C dX0_bestCandidate_57 (by omega) rfl ?_
            refine ky_icmp_ge (pc := 58) (tgt := 65) C dX0_bestCandidate_58 (by decide) (by omega) (by omega) (fun h_58 => ?_) (fun h_58 => ?_)
            · exact no (hno (Or.inr ⟨h_43.symm, h_58⟩))
            · exact yes (hyes (Or.inr ⟨h_43, h_58⟩))
/-- bestCandidate(): the place of the least candidate, -1 if there is none -/
theorem x_bestCandidate (l : Launch) (D : va_G) (o : Nat) (ad : Nat → Nat) (dA : Nat → ClassId) (G : Nat → Nat) (F : Nat → Nat → Nat) (hn : G 8 ≤ 72) (hc : ∀ i, i < G 8 → F 9 i < 2147483648 ∧ F 10 i < 2147483648) : xMi l yX0_bestCandidate cX0_bestCandidate 4 .int rX0_bestCandidate D o ad dA G F [] (fun r G' F' => ye_bst F (G 8) r ∧ G' = G ∧ F' = F) := by
  refine xMi.intro (L := [some (.ref o), none, none, none]) (by decide) rfl (Nat.le_of_ble_eq_true rfl) rfl ?_
  intro p e s m args below meth c A C hr hlocks hA
  refine ky_iconst (pc := 0) C 4294967295 dX0_bestCandidate_0 (by decide) ?_
  refine ky_istore_n (pc := 1) C dX0_bestCandidate_1 (by decide) ?_
  refine ky_iconst (pc := 2) C 0 dX0_bestCandidate_2 (by decide) ?_
  refine ky_istore_n (pc := 3) C dX0_bestCandidate_3 (by decide) ?_
  refine x_best1 C hn hc (fun b hb => ?_) (G 8) 0 4294967295 (by omega) (Or.inl ⟨rfl, rfl⟩)
  refine ky_iload_n (pc := 79) C dX0_bestCandidate_79 rfl ?_
  exact x_iret C hr hlocks dX0_bestCandidate_80 ⟨hb, rfl, rfl⟩
def ye_tk (F : Nat → Nat → Nat) (x i n t : Nat) : Prop := t < 256 ∧ ∀ v, t.testBit v = true ↔ ∃ k, k < n ∧ F 5 k / 2 ^ (3 * (6 - i)) = x / 2 ^ (3 * (6 - i)) ∧ i + 1 < F 7 k ∧ F 5 k / 2 ^ (3 * (6 - (i + 1))) &&& 7 = v
theorem ye_tk_skip {F : Nat → Nat → Nat} {x i n t : Nat} (h : ye_tk F x i n t) (hn : ¬ (F 5 n / 2 ^ (3 * (6 - i)) = x / 2 ^ (3 * (6 - i)) ∧ i + 1 < F 7 n)) : ye_tk F x i (n + 1) t := by
  refine ⟨h.1, fun v => ?_⟩
  rw [h.2 v]
  constructor
  · rintro ⟨k, k1, k2⟩
    exact ⟨k, by omega, k2⟩
  · rintro ⟨k, k1, k2, k3, k4⟩
    by_cases e : k = n
    · rw [e] at k2 k3
      exact absurd ⟨k2, k3⟩ hn
    · exact ⟨k, by omega, k2, k3, k4⟩
theorem ye_tk_take {F : Nat → Nat → Nat} {x i n t g : Nat} (h : ye_tk F x i n t) (h1 : F 5 n / 2 ^ (3 * (6 - i)) = x / 2 ^ (3 * (6 - i))) (h2 : i + 1 < F 7 n) (hg : F 5 n / 2 ^ (3 * (6 - (i + 1))) &&& 7 = g) : ye_tk F x i (n + 1) (t ||| 1 * 2 ^ g) := by
  have hg8 : g < 8 := by
    have : F 5 n / 2 ^ (3 * (6 - (i + 1))) &&& 7 ≤ 7 := Nat.and_le_right
    omega
  refine ⟨?_, fun v => ?_⟩
  · have : t ||| 1 * 2 ^ g < 2 ^ 8 := by
      refine Nat.or_lt_two_pow (by have := h.1; omega) ?_
      rw [Nat.one_mul]
      exact Nat.pow_lt_pow_right (by decide) hg8
    omega
  · rw [Nat.one_mul, Nat.testBit_or, Nat.testBit_two_pow, Bool.or_eq_true, h.2 v, decide_eq_true_iff]
    constructor
    · rintro (⟨k, k1, k2⟩ | e)
      · exact ⟨k, by omega, k2⟩
      · exact ⟨n, by omega, h1, h2, by rw [hg, e]⟩
    · rintro ⟨k, k1, k2, k3, k4⟩
      by_cases e : k = n
      · right
        rw [e, hg] at k4
        exact k4
      · exact Or.inl ⟨k, by omega, k2, k3, k4⟩
theorem x_tak1 {x i : Nat} (C : ky_C p s m args c cX0_takenAfter 6 RX0 D (xT dA)) (hA : ∀ q : Nat, s.heap.size ≤ q → A q) (hR : rX0_vertexIn.frames + 1 ≤ R.frames ∧ 8 + (3 + 11) + rX0_vertexIn.locals ≤ R.locals) (hx : x < 2147483648) (hi : i < 6) (hn : G 4 ≤ 12) (hc : ∀ k, k < G 4 → F 5 k < 2147483648 ∧ F 7 k < 2147483648)
    (kk : ∀ t, ye_tk F x i (G 4) t → ky_At p l e R s m args below meth c 0 0 Q D A 6 (xW o ad dA G F) 77 [some (.ref o), some (.int (nI x)), some (.int (nI i)), some (.int (nI t)), none, none] []) :
    ∀ (n k t : Nat), k + n = G 4 → ye_tk F x i k t → ky_At p l e R s m args below meth c 0 0 Q D A 6 (xW o ad dA G F) 13 [some (.ref o), some (.int (nI x)), some (.int (nI i)), some (.int (nI t)), some (.int (nI (3 * (6 - i)))), some (.int (nI k))] [] := by
  intro n
  induction n with
  | zero =>
    intro k t hk ht
    refine ky_iload (pc := 13) C dX0_takenAfter_13 rfl ?_
    refine ky_aload_n (pc := 15) C dX0_takenAfter_15 rfl ?_
    refine x_g4 (pc := 16) C dX0_takenAfter_16 rfl ?_
    refine ky_icmp_ge (pc := 19) (tgt := 77) C dX0_takenAfter_19 (by decide) (by omega) (by omega) (fun h_19 => ?_) (fun h_19 => ?_)
    · have e : k = G 4 := by omega
      refine ky_forget 4 (ky_forget 5 ?_)
      exact kk t (by rw [← e]; exact ht)
    · omega
  | succ n ih =>
    intro k t hk ht
    have hck := hc k (by omega)
    have d1 := Nat.div_le_self (F 5 k) (2 ^ (3 * (6 - i)))
    have d2 := Nat.div_le_self x (2 ^ (3 * (6 - i)))
    have fin : ∀ t', ye_tk F x i (k + 1) t' → ky_At p l e R s m args below meth c 0 0 Q D A 6 (xW o ad dA G F) 71 [some (.ref o), some (.int (nI x)), some (.int (nI i)), some (.int (nI t')), some (.int (nI (3 * (6 - i)))), some (.int (nI k))] [] := by
      intro t' ht'
      refine ky_iinc1 (pc := 71) C dX0_takenAfter_71 rfl (by decide) ?_
      refine ky_goto (pc := 74) (tgt := 13) C dX0_takenAfter_74 (by decide) ?_
      exact ih (k + 1) t' (by omega) ht'
    refine ky_iload (pc := 13) C dX0_takenAfter_13 rfl ?_
    refine ky_aload_n (pc := 15) C dX0_takenAfter_15 rfl ?_
    refine x_g4 (pc := 16) C dX0_takenAfter_16 rfl ?_
    refine ky_icmp_ge (pc := 19) (tgt := 77) C dX0_takenAfter_19 (by decide) (by omega) (by omega) (fun h_19 => ?_) (fun h_19 => ?_)
    · omega
    · refine ky_aload_n (pc := 22) C dX0_takenAfter_22 rfl ?_
      refine x_g5 (pc := 23) C dX0_takenAfter_23 ?_
      refine ky_iload (pc := 26) C dX0_takenAfter_26 rfl ?_
      refine x_l5 (pc := 28) C dX0_takenAfter_28 (by omega) rfl ?_
      refine ky_iload (pc := 29) C dX0_takenAfter_29 rfl ?_
      refine ky_ishr (pc := 31) C dX0_takenAfter_31 (by omega) (by omega) ?_
      refine ky_iload_n (pc := 32) C dX0_takenAfter_32 rfl ?_
      refine ky_iload (pc := 33) C dX0_takenAfter_33 rfl ?_
      refine ky_ishr (pc := 35) C dX0_takenAfter_35 (by omega) (by omega) ?_
      refine ky_icmp_ne (pc := 36) (tgt := 71) C dX0_takenAfter_36 (by decide) (by omega) (by omega) (fun h_36 => ?_) (fun h_36 => ?_)
      · exact fin t (ye_tk_skip ht (fun z => h_36 z.1))
      · refine ky_iload_n (pc := 39) C dX0_takenAfter_39 rfl ?_
        refine ky_iconst (pc := 40) C 1 dX0_takenAfter_40 (by decide) ?_
        refine ky_iadd (pc := 41) C dX0_takenAfter_41 ?_
        refine ky_aload_n (pc := 42) C dX0_takenAfter_42 rfl ?_
        refine x_g7 (pc := 43) C dX0_takenAfter_43 ?_
        refine ky_iload (pc := 46) C dX0_takenAfter_46 rfl ?_
        refine x_l7 (pc := 48) C dX0_takenAfter_48 (by omega) rfl ?_
        refine ky_icmp_ge (pc := 49) (tgt := 71) C dX0_takenAfter_49 (by decide) (by omega) (by omega) (fun h_49 => ?_) (fun h_49 => ?_)
        · exact fin t (ye_tk_skip ht (fun z => by have := z.2; omega))
        · refine ky_iload_n (pc := 52) C dX0_takenAfter_52 rfl ?_
          refine ky_iconst (pc := 53) C 1 dX0_takenAfter_53 (by decide) ?_
          refine ky_aload_n (pc := 54) C dX0_takenAfter_54 rfl ?_
          refine ky_aload_n (pc := 55) C dX0_takenAfter_55 rfl ?_
          refine x_g5 (pc := 56) C dX0_takenAfter_56 ?_
          refine ky_iload (pc := 59) C dX0_takenAfter_59 rfl ?_
          refine x_l5 (pc := 61) C dX0_takenAfter_61 (by omega) rfl ?_
          refine ky_iload_n (pc := 62) C dX0_takenAfter_62 rfl ?_
          refine ky_iconst (pc := 63) C 1 dX0_takenAfter_63 (by decide) ?_
          refine ky_iadd (pc := 64) C dX0_takenAfter_64 ?_
          refine x_ci (pc := 65) C hA (x_vertexIn l D o ad dA G F (F 5 k) (i + 1) (by omega) (by omega)) (cwV 2 C.2.2.2.2.1 (lw_V q137 q139 qs8 q24 q140) rfl rfl rfl (by decide +kernel) hR) rfl rfl (Nat.le_of_ble_eq_true rfl) dX0_takenAfter_65 (fun v G' F' hv => ?_)
          obtain ⟨hv, rfl, rfl⟩ := hv
          have hv7 : v ≤ 7 := by rw [hv]; exact Nat.and_le_right
          have hp7 : 1 * 2 ^ v < 4294967296 := by
            have : 2 ^ v ≤ 2 ^ 7 := Nat.pow_le_pow_right (by decide) hv7
            omega
          refine ky_ishl (pc := 68) C dX0_takenAfter_68 (by omega) hp7 ?_
          refine ky_ior (pc := 69) C dX0_takenAfter_69 ?_
          refine ky_istore_n (pc := 70) C dX0_takenAfter_70 (by decide) ?_
          exact fin _ (ye_tk_take ht h_36 h_49 hv.symm)
/-- takenAfter(code, i): where known paths with the same beginning go next -/
theorem x_takenAfter (l : Launch) (D : va_G) (o : Nat) (ad : Nat → Nat) (dA : Nat → ClassId) (G : Nat → Nat) (F : Nat → Nat → Nat) (x i : Nat) (hx : x < 2147483648) (hi : i < 6) (hn : G 4 ≤ 12) (hc : ∀ k, k < G 4 → F 5 k < 2147483648 ∧ F 7 k < 2147483648) : xMi l yX0_takenAfter cX0_takenAfter 6 .int rX0_takenAfter D o ad dA G F [nI x, nI i] (fun r G' F' => ye_tk F x i (G 4) r ∧ G' = G ∧ F' = F) := by
  refine xMi.intro (L := [some (.ref o), some (.int (nI x)), some (.int (nI i)), none, none, none]) (by decide) rfl (Nat.le_of_ble_eq_true rfl) rfl ?_
  intro p e s m args below meth c A C hr hlocks hA
  refine ky_iconst (pc := 0) C 0 dX0_takenAfter_0 (by decide) ?_
  refine ky_istore_n (pc := 1) C dX0_takenAfter_1 (by decide) ?_
  refine ky_iconst (pc := 2) C 3 dX0_takenAfter_2 (by decide) ?_
  refine ky_bipush (pc := 3) C 6 dX0_takenAfter_3 (by decide) ?_
  refine ky_iload_n (pc := 5) C dX0_takenAfter_5 rfl ?_
  refine ky_isub (pc := 6) C dX0_takenAfter_6 (by omega) ?_
  refine ky_imul (pc := 7) C dX0_takenAfter_7 ?_
  refine ky_istore (pc := 8) C dX0_takenAfter_8 (by decide) ?_
  refine ky_iconst (pc := 10) C 0 dX0_takenAfter_10 (by decide) ?_
  refine ky_istore (pc := 11) C dX0_takenAfter_11 (by decide) ?_
  refine x_tak1 C hA (by decide) hx hi hn hc (fun t ht => ?_) (G 4) 0 0 (by omega) ⟨by decide, fun v => ?_⟩
  · refine ky_iload_n (pc := 77) C dX0_takenAfter_77 rfl ?_
    exact x_iret C hr hlocks dX0_takenAfter_78 ⟨ht, rfl, rfl⟩
  · rw [Nat.zero_testBit]
    constructor
    · intro h
      cases h
    · rintro ⟨k, k1, -⟩
      omega
end Y21
end
section
/-! WALK: goOn (printed by gen.py out of walk/22.goOn.walk) -/
set_option maxRecDepth 100000
section Y22
variable {p : Program} {l : Launch} {e : Env} {R : Room} {s : State} {m : MethodId} {args : Array Value} {below : List Frame} {meth : Method} {c : Code} {Q : State → Prop} {D : va_G} {A : Nat → Prop} {o : Nat} {ad : Nat → Nat} {dA : Nat → ClassId} {G : Nat → Nat} {F : Nat → Nat → Nat}
theorem x_go1 {u cl bar : Nat} {d : Nat → Nat} (C : ky_C p s m args c cX0_goOn 8 RX0 D (xT dA)) (hu : u < 7) (hw : ∀ j, j < 49 → F 0 j ≤ 50) (hca : G 13 < 4294967296) (hd : ∀ v, v < 7 → d v ≤ 1000000) (hbar : bar < 2147483648)
    (kk : ∀ best next, ye_sel (F 0) (G 13) u bar d 7 best next → ky_At p l e R s m args below meth c 0 0 Q D A 8 (xW o ad dA G (va_up F 12 d)) 116 [some (.ref o), some (.int (nI u)), some (.int (nI cl)), some (.int (nI bar)), some (.int (nI next)), some (.int (nI best)), none, none] []) :
    ∀ (n i best next : Nat), i + n = 7 → ye_sel (F 0) (G 13) u bar d i best next → ky_At p l e R s m args below meth c 0 0 Q D A 8 (xW o ad dA G (va_up F 12 d)) 19 [some (.ref o), some (.int (nI u)), some (.int (nI cl)), some (.int (nI bar)), some (.int (nI next)), some (.int (nI best)), some (.int (nI i)), none] [] := by
  intro n
  induction n with
  | zero =>
    intro i best next hi hs
    refine ky_iload (pc := 19) C dX0_goOn_19 rfl ?_
    refine ky_bipush (pc := 21) C 7 dX0_goOn_21 (by decide) ?_
    refine ky_icmp_ge (pc := 23) (tgt := 116) C dX0_goOn_23 (by decide) (by omega) (by omega) (fun h_23 => ?_) (fun h_23 => ?_)
    · have e : i = 7 := by omega
      subst e
      refine ky_forget 6 ?_
      exact kk best next hs
    · omega
  | succ n ih =>
    intro i best next hi hs
    have hwa := hw (7 * u + i) (by omega)
    have hbb := ye_sel_bound hs
    have fin : ∀ b x, ye_sel (F 0) (G 13) u bar d (i + 1) b x → ky_At p l e R s m args below meth c 0 0 Q D A 8 (xW o ad dA G (va_up F 12 d)) 110 [some (.ref o), some (.int (nI u)), some (.int (nI cl)), some (.int (nI bar)), some (.int (nI x)), some (.int (nI b)), some (.int (nI i)), none] [] := by
      intro b x hx
      refine ky_iinc1 (pc := 110) C dX0_goOn_110 rfl (by decide) ?_
      refine ky_goto (pc := 113) (tgt := 19) C dX0_goOn_113 (by decide) ?_
      exact ih (i + 1) b x (by omega) hx
    refine ky_iload (pc := 19) C dX0_goOn_19 rfl ?_
    refine ky_bipush (pc := 21) C 7 dX0_goOn_21 (by decide) ?_
    refine ky_icmp_ge (pc := 23) (tgt := 116) C dX0_goOn_23 (by decide) (by omega) (by omega) (fun h_23 => ?_) (fun h_23 => ?_)
    · omega
    · have hdi := hd i (by omega)
      refine ky_bipush (pc := 26) C 7 dX0_goOn_26 (by decide) ?_
      refine ky_iload_n (pc := 28) C dX0_goOn_28 rfl ?_
      refine ky_imul (pc := 29) C dX0_goOn_29 ?_
      refine ky_iload (pc := 30) C dX0_goOn_30 rfl ?_
      refine ky_iadd (pc := 32) C dX0_goOn_32 ?_
      refine ky_istore (pc := 33) C dX0_goOn_33 (by decide) ?_
      refine ky_aload_n (pc := 35) C dX0_goOn_35 rfl ?_
      refine x_g0 (pc := 36) C dX0_goOn_36 ?_
      refine ky_iload (pc := 39) C dX0_goOn_39 rfl ?_
      refine x_l0 (pc := 41) C dX0_goOn_41 (v := F 0 (7 * u + i)) (by omega) rfl ?_
      refine ky_if_eq (pc := 42) (tgt := 110) C dX0_goOn_42 (by decide) (by omega) (fun h_42 => ?_) (fun h_42 => ?_)
      · refine ky_forget 7 ?_
        exact fin best next (ye_sel_skip hs (fun z => absurd h_42 z.1))
      · refine ky_iload (pc := 45) C dX0_goOn_45 rfl ?_
        refine ky_aload_n (pc := 47) C dX0_goOn_47 rfl ?_
        refine x_g13 (pc := 48) C dX0_goOn_48 rfl ?_
        refine ky_icmp_eq (pc := 51) (tgt := 110) C dX0_goOn_51 (by decide) (by omega) (by omega) (fun h_51 => ?_) (fun h_51 => ?_)
        · refine ky_forget 7 ?_
          exact fin best next (ye_sel_skip hs (fun z => absurd h_51 z.2.1))
        · refine ky_iload_n (pc := 54) C dX0_goOn_54 rfl ?_
          refine ky_iload (pc := 55) C dX0_goOn_55 rfl ?_
          refine ky_ishr (pc := 57) C dX0_goOn_57 (by omega) (by omega) ?_
          refine ky_iconst (pc := 58) C 1 dX0_goOn_58 (by decide) ?_
          refine ky_iand (pc := 59) C dX0_goOn_59 ?_
          refine ky_if_eq (pc := 60) (tgt := 66) C dX0_goOn_60 (by decide) (kn_bit_lt _) (fun h_60 => ?_) (fun h_60 => ?_)
          · rw [kn_bit0] at h_60
            refine ky_aload_n (pc := 66) C dX0_goOn_66 rfl ?_
            refine x_g12 (pc := 67) C dX0_goOn_67 ?_
            refine ky_iload (pc := 70) C dX0_goOn_70 rfl ?_
            refine x_l12 (pc := 72) C dX0_goOn_72 (v := d i) (by omega) rfl ?_
            refine ky_aload_n (pc := 73) C dX0_goOn_73 rfl ?_
            refine x_g0 (pc := 74) C dX0_goOn_74 ?_
            refine ky_iload (pc := 77) C dX0_goOn_77 rfl ?_
            refine x_l0 (pc := 79) C dX0_goOn_79 (v := F 0 (7 * u + i)) (by omega) rfl ?_
            refine ky_iadd (pc := 80) C dX0_goOn_80 ?_
            refine ky_iload (pc := 81) C dX0_goOn_81 rfl ?_
            refine ky_icmp_lt (pc := 83) (tgt := 89) C dX0_goOn_83 (by decide) (by omega) (by omega) (fun h_83 => ?_) (fun h_83 => ?_)
            · refine ky_aload_n (pc := 89) C dX0_goOn_89 rfl ?_
              refine x_g12 (pc := 90) C dX0_goOn_90 ?_
              refine ky_iload (pc := 93) C dX0_goOn_93 rfl ?_
              refine x_l12 (pc := 95) C dX0_goOn_95 (v := d i) (by omega) rfl ?_
              refine ky_aload_n (pc := 96) C dX0_goOn_96 rfl ?_
              refine x_g0 (pc := 97) C dX0_goOn_97 ?_
              refine ky_iload (pc := 100) C dX0_goOn_100 rfl ?_
              refine x_l0 (pc := 102) C dX0_goOn_102 (v := F 0 (7 * u + i)) (by omega) rfl ?_
              refine ky_iadd (pc := 103) C dX0_goOn_103 ?_
              refine ky_istore (pc := 104) C dX0_goOn_104 (by decide) ?_
              refine ky_iload (pc := 106) C dX0_goOn_106 rfl ?_
              refine ky_istore (pc := 108) C dX0_goOn_108 (by decide) ?_
              refine ky_forget 7 ?_
              exact fin _ _ (ye_sel_take hs (by omega) ⟨h_42, h_51, h_60⟩ h_83)
            · refine ky_goto (pc := 86) (tgt := 110) C dX0_goOn_86 (by decide) ?_
              refine ky_forget 7 ?_
              exact fin best next (ye_sel_skip hs (fun _ => h_83))
          · rw [Ne, kn_bit0] at h_60
            refine ky_goto (pc := 63) (tgt := 110) C dX0_goOn_63 (by decide) ?_
            refine ky_forget 7 ?_
            exact fin best next (ye_sel_skip hs (fun z => absurd z.2.2 h_60))
/-- the way is filled along the least lengths -/
theorem x_go2 {u cl bar b : Nat} {d : Nat → Nat} (C : ky_C p s m args c cX0_goOn 8 RX0 D (xT dA)) (hA : ∀ q : Nat, s.heap.size ≤ q → A q) (hR : rX0_nearer.frames + 1 ≤ R.frames ∧ 8 + (4 + 11) + rX0_nearer.locals ≤ R.locals) (hw : ∀ j, j < 49 → F 0 j ≤ 50) (hca : G 13 < 4294967296) (ht : G 2 < 7) (hd : ∀ v, v < 7 → d v ≤ 1000000) :
    ∀ (q : List Nat) (x k : Nat) (wy : Nat → Nat), q.head? = some x → ye_fol (F 0) (G 13) d (G 2) q → (∀ y ∈ q, y < 7) → k + q.length ≤ 7 →
    (∀ wy' : Nat → Nat, (∀ j, j < k → wy' j = wy j) → (∀ j, j < q.length → wy' (k + j) = ye_dg q j) → ky_At p l e R s m args below meth c 0 0 Q D A 8 (xW o ad dA (va_up (va_up G 16 b) 15 (k + q.length)) (va_up (va_up F 12 d) 14 wy')) 225 [some (.ref o), some (.int (nI u)), some (.int (nI cl)), some (.int (nI bar)), none, none, none, none] []) →
    ky_At p l e R s m args below meth c 0 0 Q D A 8 (xW o ad dA (va_up (va_up G 16 b) 15 k) (va_up (va_up F 12 d) 14 wy)) 150 [some (.ref o), some (.int (nI u)), some (.int (nI cl)), some (.int (nI bar)), some (.int (nI x)), none, none, none] [] := by
  intro q
  induction q with
  | nil => intro x k wy h; simp at h
  | cons x' r ih =>
    intro x k wy hx hf h7 hk kk
    have ex : x' = x := by simpa using hx
    subst ex
    have hx7 := h7 x' List.mem_cons_self
    cases r with
    | nil =>
      have ext : x' = G 2 := hf
      simp only [List.length_cons, List.length_nil] at hk
      refine ky_iload (pc := 150) C dX0_goOn_150 rfl ?_
      refine ky_aload_n (pc := 152) C dX0_goOn_152 rfl ?_
      refine x_g2 (pc := 153) C dX0_goOn_153 (v := G 2) rfl ?_
      refine ky_icmp_eq (pc := 156) (tgt := 201) C dX0_goOn_156 (by decide) (by omega) (by omega) (fun h_156 => ?_) (fun h_156 => ?_)
      · refine ky_aload_n (pc := 201) C dX0_goOn_201 rfl ?_
        refine x_g14 (pc := 202) C dX0_goOn_202 ?_
        refine ky_aload_n (pc := 205) C dX0_goOn_205 rfl ?_
        refine x_g15 (pc := 206) C dX0_goOn_206 (v := k) rfl ?_
        refine ky_aload_n (pc := 209) C dX0_goOn_209 rfl ?_
        refine x_g2 (pc := 210) C dX0_goOn_210 (v := G 2) rfl ?_
        refine ky_i2b (pc := 213) C dX0_goOn_213 (by omega) ?_
        refine x_s14 (pc := 214) C dX0_goOn_214 (by omega) (by omega) ?_
        refine ky_aload_n (pc := 215) C dX0_goOn_215 rfl ?_
        refine ky_dup (pc := 216) C dX0_goOn_216 rfl ?_
        refine x_g15 (pc := 217) C dX0_goOn_217 (v := k) rfl ?_
        refine ky_iconst (pc := 220) C 1 dX0_goOn_220 (by decide) ?_
        refine ky_iadd (pc := 221) C dX0_goOn_221 ?_
        refine x_p15 (pc := 222) C dX0_goOn_222 ?_
        simp only [bx_uu]
        refine ky_forget 4 ?_
        refine kk _ (fun j hj => ?_) (fun j hj => ?_)
        · exact vu_ne (by omega)
        · have e0 : j = 0 := by simpa using hj
          subst e0
          rw [Nat.add_zero, vu_at, ← ext]
          rfl
      · exact absurd ext h_156
    | cons y r =>
      simp only [List.length_cons] at hk
      refine ky_iload (pc := 150) C dX0_goOn_150 rfl ?_
      refine ky_aload_n (pc := 152) C dX0_goOn_152 rfl ?_
      refine x_g2 (pc := 153) C dX0_goOn_153 (v := G 2) rfl ?_
      refine ky_icmp_eq (pc := 156) (tgt := 201) C dX0_goOn_156 (by decide) (by omega) (by omega) (fun h_156 => ?_) (fun h_156 => ?_)
      · exact absurd h_156 hf.1
      · refine ky_aload_n (pc := 159) C dX0_goOn_159 rfl ?_
        refine x_g15 (pc := 160) C dX0_goOn_160 (v := k) rfl ?_
        refine ky_bipush (pc := 163) C 6 dX0_goOn_163 (by decide) ?_
        refine ky_icmp_ge (pc := 165) (tgt := 201) C dX0_goOn_165 (by decide) (by omega) (by omega) (fun h_165 => ?_) (fun h_165 => ?_)
        · omega
        · refine ky_aload_n (pc := 168) C dX0_goOn_168 rfl ?_
          refine x_g14 (pc := 169) C dX0_goOn_169 ?_
          refine ky_aload_n (pc := 172) C dX0_goOn_172 rfl ?_
          refine x_g15 (pc := 173) C dX0_goOn_173 (v := k) rfl ?_
          refine ky_iload (pc := 176) C dX0_goOn_176 rfl ?_
          refine ky_i2b (pc := 178) C dX0_goOn_178 (by omega) ?_
          refine x_s14 (pc := 179) C dX0_goOn_179 (by omega) (by omega) ?_
          refine ky_aload_n (pc := 180) C dX0_goOn_180 rfl ?_
          refine ky_dup (pc := 181) C dX0_goOn_181 rfl ?_
          refine x_g15 (pc := 182) C dX0_goOn_182 (v := k) rfl ?_
          refine ky_iconst (pc := 185) C 1 dX0_goOn_185 (by decide) ?_
          refine ky_iadd (pc := 186) C dX0_goOn_186 ?_
          refine x_p15 (pc := 187) C dX0_goOn_187 ?_
          refine ky_aload_n (pc := 190) C dX0_goOn_190 rfl ?_
          refine ky_iload (pc := 191) C dX0_goOn_191 rfl ?_
          simp only [bx_uu]
          refine x_ci (pc := 193) C hA (x_nearer l D o ad dA _ _ x' hx7 hw hca hd) (cwV 1 C.2.2.2.2.1 (lw_V q121 q123 qs4 q24 q124) rfl rfl rfl (by decide +kernel) hR) rfl rfl (Nat.le_of_ble_eq_true rfl) dX0_goOn_193 (fun v G' F' hv => ?_)
          obtain ⟨hv, rfl, rfl⟩ := hv
          have hv1 : ye_nr (F 0) (G 13) d (G 2) x' v := hv
          have ev : v = y := ye_nr_one hv1 hf.2.1
          subst ev
          refine ky_istore (pc := 196) C dX0_goOn_196 (by decide) ?_
          refine ky_goto (pc := 198) (tgt := 150) C dX0_goOn_198 (by decide) ?_
          refine ih v (k + 1) (va_up wy k x') rfl hf.2.2 (fun z hz => h7 z (List.mem_cons_of_mem _ hz)) (by simp only [List.length_cons]; omega) (fun wy' w1 w2 => ?_)
          have e2 : k + 1 + (v :: r).length = k + (x' :: v :: r).length := by simp only [List.length_cons]; omega
          rw [e2]
          refine kk wy' (fun j hj => ?_) (fun j hj => ?_)
          · rw [w1 j (by omega)]
            exact vu_ne (by omega)
          · cases j with
            | zero =>
              rw [Nat.add_zero, w1 k (by omega), vu_at]
              rfl
            | succ j =>
              have h3 := w2 j (by simp only [List.length_cons] at hj ⊢; omega)
              rw [show k + (j + 1) = k + 1 + j by omega, h3]
              rfl
/-- goOn(u, cl, bar): behind what the way holds already (P), the first shortest way from u to the target that keeps off cl and doesn't begin with an arc to a barred vertex -/
theorem x_goOn (l : Launch) (D : va_G) (o : Nat) (ad : Nat → Nat) (dA : Nat → ClassId) (G : Nat → Nat) (F : Nat → Nat → Nat) (u cl bar : Nat) (P : List Nat) (hw : ∀ j, j < 49 → F 0 j ≤ 50) (hca : G 13 < 4294967296) (hu : u < 7) (ht : G 2 < 7) (hut : u ≠ G 2) (hcl : cl < 128) (hct : cl.testBit (G 2) = false) (hbar : bar < 2147483648)
    (hPn : P.Nodup) (hP7 : ∀ x ∈ P, x < 7) (hPc : ∀ x ∈ P, cl.testBit x = true) (huP : u ∉ P) (hPl : G 15 = P.length) (hPw : ∀ i, i < P.length → F 14 i = ye_dg P i) : xMi l yX0_goOn cX0_goOn 8 .boolean rX0_goOn D o ad dA G F [nI u, nI cl, nI bar] (fun r G' F' =>
      (r = 0 ∧ (∀ q, ¬ ye_cand (F 0) (G 13) cl (G 2) u bar q) ∧ G' = G ∧ ∃ d, F' = va_up F 12 d) ∨
      (r = 1 ∧ ∃ (q : List Nat) (d wy : Nat → Nat), ye_cand (F 0) (G 13) cl (G 2) u bar (u :: q) ∧ (u :: q).Nodup ∧ (∀ q', ye_cand (F 0) (G 13) cl (G 2) u bar q' → u :: q = q' ∨ ye_lt (F 0) (u :: q) q') ∧ (P ++ u :: q).length ≤ 7 ∧ (∀ x ∈ P ++ u :: q, x < 7) ∧
        G' = va_up (va_up G 16 (ye_len (F 0) (u :: q))) 15 (P ++ u :: q).length ∧ F' = va_up (va_up F 12 d) 14 wy ∧ ∀ i, i < (P ++ u :: q).length → wy i = ye_dg (P ++ u :: q) i)) := by
  refine xMi.intro (L := [some (.ref o), some (.int (nI u)), some (.int (nI cl)), some (.int (nI bar)), none, none, none, none]) (by decide) rfl (Nat.le_of_ble_eq_true rfl) rfl ?_
  intro p e s m args below meth c A C hr hlocks hA
  have hcl2 : cl ||| 1 * 2 ^ u < 128 := by
    have h1 : 2 ^ u < 2 ^ 7 := Nat.pow_lt_pow_right (by decide) hu
    have h2 : cl ||| 1 * 2 ^ u < 2 ^ 7 := Nat.or_lt_two_pow (by omega) (by omega)
    omega
  have hct2 : (cl ||| 1 * 2 ^ u).testBit (G 2) = false := by
    rw [Nat.one_mul, Nat.testBit_or, hct, Nat.testBit_two_pow]
    simp [hut]
  refine ky_aload_n (pc := 0) C dX0_goOn_0 rfl ?_
  refine ky_iload_n (pc := 1) C dX0_goOn_1 rfl ?_
  refine ky_iconst (pc := 2) C 1 dX0_goOn_2 (by decide) ?_
  refine ky_iload_n (pc := 3) C dX0_goOn_3 rfl ?_
  refine ky_ishl (pc := 4) C dX0_goOn_4 (by omega) (by first | omega | exact kn_p7 (by omega)) ?_
  refine ky_ior (pc := 5) C dX0_goOn_5 ?_
  refine x_cv (pc := 6) C hA (x_measure l D o ad dA G F (cl ||| 1 * 2 ^ u) hw hca hcl2 ht hct2) (cwV 1 C.2.2.2.2.1 (lw_V q116 q118 qs3 q24 q119) rfl rfl rfl (by decide +kernel) ⟨Nat.le_of_ble_eq_true rfl, Nat.le_of_ble_eq_true rfl⟩) rfl rfl (Nat.le_of_ble_eq_true rfl) dX0_goOn_6 (fun G' F' hv => ?_)
  obtain ⟨rfl, d, rfl, hD⟩ := hv
  rw [Nat.one_mul] at hD
  refine ky_iconst (pc := 9) C 4294967295 dX0_goOn_9 (by decide) ?_
  refine ky_istore (pc := 10) C dX0_goOn_10 (by decide) ?_
  refine ky_ldc (pc := 12) C 1000000 dX0_goOn_12 q120 (by decide) ?_
  refine ky_istore (pc := 14) C dX0_goOn_14 (by decide) ?_
  refine ky_iconst (pc := 16) C 0 dX0_goOn_16 (by decide) ?_
  refine ky_istore (pc := 17) C dX0_goOn_17 (by decide) ?_
  refine x_go1 C hu hw hca hD.1 hbar (fun best next hs => ?_) 7 0 1000000 4294967295 rfl ye_sel_0
  have hb := ye_sel_bound hs
  refine ky_iload (pc := 116) C dX0_goOn_116 rfl ?_
  refine ky_if_ge (pc := 118) (tgt := 123) C dX0_goOn_118 (by decide) (by omega) (fun h_118 => ?_) (fun h_118 => ?_)
  · have hn7 : next < 7 := by
      rcases hs with ⟨h1, -⟩ | ⟨-, h1, -⟩ <;> omega
    obtain ⟨q, q1, q2, q3, q4, q5, q6, q7, q8⟩ := ye_goOn_some ht hD hs hn7
    have hdisj : (P ++ u :: q).Nodup := by
      refine List.nodup_append.mpr ⟨hPn, q4, fun a ha b hb e => ?_⟩
      rw [← e] at hb
      rcases List.mem_cons.mp hb with z | z
      · exact huP (by rw [← z]; exact ha)
      · have h1 := (q6 a z).2
        rw [Nat.testBit_or, hPc a ha] at h1
        simp at h1
    have hall : ∀ x ∈ P ++ u :: q, x < 7 := by
      intro x hx
      rcases List.mem_append.mp hx with z | z
      · exact hP7 x z
      · rcases List.mem_cons.mp z with z | z
        · rw [z]; exact hu
        · exact (q6 x z).1
    have hlen := ye_nodup_len 7 _ hdisj hall
    have hlen2 : (P ++ u :: q).length = P.length + 1 + q.length := by
      rw [List.length_append, List.length_cons]
      omega
    have hq0 : q.length ≠ 0 := fun z => by
      rw [List.eq_nil_of_length_eq_zero z] at q1
      simp at q1
    refine ky_aload_n (pc := 123) C dX0_goOn_123 rfl ?_
    refine ky_iload (pc := 124) C dX0_goOn_124 rfl ?_
    refine x_p16 (pc := 126) C dX0_goOn_126 ?_
    refine ky_aload_n (pc := 129) C dX0_goOn_129 rfl ?_
    refine x_g14 (pc := 130) C dX0_goOn_130 ?_
    refine ky_aload_n (pc := 133) C dX0_goOn_133 rfl ?_
    refine x_g15 (pc := 134) C dX0_goOn_134 (v := P.length) hPl ?_
    refine ky_iload_n (pc := 137) C dX0_goOn_137 rfl ?_
    refine ky_i2b (pc := 138) C dX0_goOn_138 (by omega) ?_
    refine x_s14 (pc := 139) C dX0_goOn_139 (by omega) (by omega) ?_
    refine ky_aload_n (pc := 140) C dX0_goOn_140 rfl ?_
    refine ky_dup (pc := 141) C dX0_goOn_141 rfl ?_
    refine x_g15 (pc := 142) C dX0_goOn_142 (v := P.length) hPl ?_
    refine ky_iconst (pc := 145) C 1 dX0_goOn_145 (by decide) ?_
    refine ky_iadd (pc := 146) C dX0_goOn_146 ?_
    refine x_p15 (pc := 147) C dX0_goOn_147 ?_
    refine ky_forget 5 ?_
    refine x_go2 C hA (by decide) hw hca ht hD.1 q next (P.length + 1) (va_up (F 14) P.length u) q1 q2 (fun y hy => (q6 y hy).1) (by omega) (fun wy' w1 w2 => ?_)
    refine ky_iconst (pc := 225) C 1 dX0_goOn_225 (by decide) ?_
    refine x_zret C hr hlocks dX0_goOn_226 (by decide) (Or.inr ⟨rfl, q, d, wy', q3, q4, q8, hlen, hall, ?_, rfl, fun i hi => ?_⟩)
    · rw [q5, hlen2]
    · rcases Nat.lt_or_ge i P.length with z | z
      · rw [w1 i (by omega), vu_ne (by omega), hPw i z]
        unfold ye_dg
        rw [List.getD_eq_getElem?_getD, List.getD_eq_getElem?_getD, List.getElem?_append_left z]
      · rcases Nat.lt_or_ge i (P.length + 1) with z2 | z2
        · have e : i = P.length := by omega
          subst e
          rw [w1 P.length (by omega), vu_at]
          symm
          apply ye_dg_some
          rw [List.getElem?_append_right (by omega)]
          simp
        · obtain ⟨j, rfl⟩ : ∃ j, i = P.length + 1 + j := ⟨i - (P.length + 1), by omega⟩
          rw [w2 j (by omega)]
          symm
          apply ye_dg_some
          rw [List.getElem?_append_right (by omega), show P.length + 1 + j - P.length = j + 1 by omega, List.getElem?_cons_succ]
          exact ye_dg_of (by omega)
  · have hnn : next = 4294967295 := by
      rcases hs with ⟨h1, -⟩ | ⟨-, h1, -⟩ <;> omega
    subst hnn
    refine ky_iconst (pc := 121) C 0 dX0_goOn_121 (by decide) ?_
    exact x_zret C hr hlocks dX0_goOn_122 (by decide) (Or.inl ⟨rfl, fun q => ye_goOn_none hw hu hD hs q, rfl, d, rfl⟩)
end Y22
end
section
/-! PURE: arrays that hold lists of paths; one spur of branchOff; taking the least candidate out -/
def ye_rep (w : Nat → Nat) (f g h : Nat → Nat) (K : List (List Nat)) : Prop := ∀ (k : Nat) (p : List Nat), K[k]? = some p → f k = ye_code p ∧ g k = ye_len w p ∧ h k = p.length
theorem ye_rep_push {w f g h : Nat → Nat} {K : List (List Nat)} {p : List Nat} {n a b c : Nat} (hr : ye_rep w f g h K) (hn : n = K.length) (ha : a = ye_code p) (hb : b = ye_len w p) (hc : c = p.length) : ye_rep w (va_up f n a) (va_up g n b) (va_up h n c) (K ++ [p]) := by
  subst hn ha hb hc
  intro k q hq
  rcases Nat.lt_or_ge k K.length with z | z
  · rw [List.getElem?_append_left z] at hq
    rw [vu_ne (by omega), vu_ne (by omega), vu_ne (by omega)]
    exact hr k q hq
  · rw [List.getElem?_append_right z] at hq
    have h0 : k - K.length < 1 := (List.getElem?_eq_some_iff.mp hq).1
    have e : k = K.length := by omega
    subst e
    rw [Nat.sub_self] at hq
    have e2 : p = q := by simpa using hq
    rw [vu_at, vu_at, vu_at, e2]
    exact ⟨rfl, rfl, rfl⟩
theorem ye_rep_mem {w f g h : Nat → Nat} {K : List (List Nat)} {p : List Nat} (hr : ye_rep w f g h K) (hp : p ∈ K) : ∃ k, k < K.length ∧ K[k]? = some p ∧ f k = ye_code p ∧ g k = ye_len w p ∧ h k = p.length := by
  obtain ⟨k, hk⟩ := List.getElem?_of_mem hp
  exact ⟨k, (List.getElem?_eq_some_iff.mp hk).1, hk, hr k p hk⟩
theorem ye_rep_get {w f g h : Nat → Nat} {K : List (List Nat)} {k : Nat} (hr : ye_rep w f g h K) (hk : k < K.length) : ∃ p, p ∈ K ∧ K[k]? = some p ∧ f k = ye_code p ∧ g k = ye_len w p ∧ h k = p.length := by
  have h1 := List.getElem?_eq_getElem hk
  exact ⟨K[k], List.getElem_mem hk, h1, hr k _ h1⟩
theorem ye_take_step {P : List Nat} {i : Nat} (h : i < P.length) : P.take (i + 1) = P.take i ++ [ye_dg P i] := by
  rw [List.take_add_one, ye_dg_of h]
  rfl
theorem ye_split {P : List Nat} {i : Nat} (h : i < P.length) : P.take i ++ ye_dg P i :: P.drop (i + 1) = P := by
  have h1 := List.take_append_drop (i + 1) P
  rw [ye_take_step h, List.append_assoc] at h1
  exact h1
theorem ye_path_bound {w : Nat → Nat} {ca s t : Nat} {p : List Nat} (hw : ∀ j, j < 49 → w j ≤ 50) (hp : ye_path w ca s t p) : ye_code p < 2097152 ∧ ye_len w p ≤ 300 ∧ p.length ≤ 7 := by
  have h1 := ye_path_len hp
  have h2 := ye_len_le hw p hp.2.1
  exact ⟨ye_code_lt hp.2.1, by omega, h1⟩
/-- what takenAfter answers, by the paths -/
theorem ye_bars {w : Nat → Nat} {ca s t i n bar : Nat} {K : List (List Nat)} {P : List Nat} {F : Nat → Nat → Nat} (hK : ∀ k ∈ K, ye_path w ca s t k) (hr : ye_rep w (F 5) (F 6) (F 7) K) (hn : n = K.length) (hP : ye_path w ca s t P) (hi : i + 1 < P.length) (hb : ye_tk F (ye_code P) i n bar) : ∀ v, v < 7 → (bar.testBit v = true ↔ ∃ k ∈ K, k.take (i + 1) = P.take (i + 1) ∧ ye_dg k (i + 1) = v) := by
  have hl := ye_path_len hP
  intro v hv
  rw [hb.2 v]
  constructor
  · rintro ⟨k, k1, k2, k3, k4⟩
    obtain ⟨q, q1, q2, q3, q4, q5⟩ := ye_rep_get hr (by omega : k < K.length)
    have hq := hK q q1
    rw [q3] at k2 k4
    rw [q5] at k3
    refine ⟨q, q1, (ye_code_begin hq.2.1 hP.2.1 (by omega) (by omega) (by omega)).mp k2, ?_⟩
    rw [ye_code_at hq.2.1 (by omega)] at k4
    exact k4
  · rintro ⟨q, q1, q2, q3⟩
    have hq := hK q q1
    obtain ⟨k, k1, k2, k3, k4, k5⟩ := ye_rep_mem hr q1
    have hlq : i + 1 < q.length := ye_agree_lt hP hq q2.symm hi
    refine ⟨k, by omega, ?_, by omega, ?_⟩
    · rw [k3]
      exact (ye_code_begin hq.2.1 hP.2.1 (by omega) (by omega) (by omega)).mpr q2
    · rw [k3, ye_code_at hq.2.1 (by omega)]
      exact q3
/-- the state of branchOff's loop: the candidates so far -/
def ye_bo (w : Nat → Nat) (ca s t : Nat) (K C0 : List (List Nat)) (P : List Nat) (i : Nat) (C : List (List Nat)) : Prop :=
  (∀ c ∈ C0, c ∈ C) ∧ C.Nodup ∧ (∀ c ∈ C, ye_path w ca s t c ∧ c ∉ K) ∧ C.length ≤ C0.length + i ∧ ∀ n, 1 ≤ n → n ≤ i → ye_srv w ca s t K C P n
theorem ye_bo_none {w : Nat → Nat} {ca s t i cl bar : Nat} {K C0 C : List (List Nat)} {P : List Nat} (h : ye_bo w ca s t K C0 P i C) (hP : ye_path w ca s t P) (hi : i + 1 < P.length) (hcl : ∀ z, z < 7 → (cl.testBit z = true ↔ z ∈ P.take i)) (hbar : ∀ v, v < 7 → (bar.testBit v = true ↔ ∃ k ∈ K, k.take (i + 1) = P.take (i + 1) ∧ ye_dg k (i + 1) = v)) (hno : ∀ q, ¬ ye_cand w ca cl t (ye_dg P i) bar q) : ye_bo w ca s t K C0 P (i + 1) C := by
  obtain ⟨h1, h2, h3, h4, h5⟩ := h
  refine ⟨h1, h2, h3, by omega, fun n hn1 hn2 => ?_⟩
  by_cases e : n = i + 1
  · subst e
    have hs := ye_split (P := P) (i := i) (by omega)
    have hx : (P.take i).length = i := by rw [List.length_take]; omega
    have hP2 := hP
    rw [← hs] at hP2
    have h6 := ye_spur_none (K := K) (C := C) hP2 hcl (fun z => by
      have : (P.drop (i + 1)).length = 0 := by rw [z]; rfl
      rw [List.length_drop] at this
      omega) (by rw [hx, ← ye_take_step (by omega)]; exact hbar) hno
    rw [hs, hx] at h6
    exact h6
  · exact h5 n hn1 (by omega)
theorem ye_bo_some {w : Nat → Nat} {ca s t i cl bar : Nat} {K C0 C : List (List Nat)} {P q : List Nat} (h : ye_bo w ca s t K C0 P i C) (hK : ∀ k ∈ K, ye_path w ca s t k) (hP : ye_path w ca s t P) (hi : i + 1 < P.length) (hcl : ∀ z, z < 7 → (cl.testBit z = true ↔ z ∈ P.take i)) (hbar : ∀ v, v < 7 → (bar.testBit v = true ↔ ∃ k ∈ K, k.take (i + 1) = P.take (i + 1) ∧ ye_dg k (i + 1) = v))
    (hc : ye_cand w ca cl t (ye_dg P i) bar (ye_dg P i :: q)) (hn : (ye_dg P i :: q).Nodup) (hmin : ∀ q', ye_cand w ca cl t (ye_dg P i) bar q' → ye_dg P i :: q = q' ∨ ye_lt w (ye_dg P i :: q) q') :
    ye_path w ca s t (P.take i ++ ye_dg P i :: q) ∧ (P.take i ++ ye_dg P i :: q ∈ C → ye_bo w ca s t K C0 P (i + 1) C) ∧ (P.take i ++ ye_dg P i :: q ∉ C → ye_bo w ca s t K C0 P (i + 1) (C ++ [P.take i ++ ye_dg P i :: q])) := by
  obtain ⟨h1, h2, h3, h4, h5⟩ := h
  have hs := ye_split (P := P) (i := i) (by omega)
  have hx : (P.take i).length = i := by rw [List.length_take]; omega
  have hP2 := hP
  rw [← hs] at hP2
  have key : ∀ C' : List (List Nat), ye_path w ca s t (P.take i ++ ye_dg P i :: q) ∧ P.take i ++ ye_dg P i :: q ∉ K ∧ (P.take i ++ ye_dg P i :: q ∈ C' → ye_srv w ca s t K C' P (i + 1)) := by
    intro C'
    have h6 := ye_spur_some (K := K) (C := C') hP2 hcl (fun z => by
      have : (P.drop (i + 1)).length = 0 := by rw [z]; rfl
      rw [List.length_drop] at this
      omega) (by rw [hx, ← ye_take_step (by omega)]; exact hbar) hK hc hn hmin
    rw [hs, hx] at h6
    exact h6
  refine ⟨(key C).1, fun hm => ⟨h1, h2, h3, by omega, fun n hn1 hn2 => ?_⟩, fun hm => ⟨fun c hc => List.mem_append_left _ (h1 c hc), ?_, ?_, ?_, fun n hn1 hn2 => ?_⟩⟩
  · by_cases e : n = i + 1
    · subst e
      exact (key C).2.2 hm
    · exact h5 n hn1 (by omega)
  · refine List.nodup_append.mpr ⟨h2, by simp, fun a ha b hb e => ?_⟩
    have : b = P.take i ++ ye_dg P i :: q := by simpa using hb
    exact hm (by rw [← this, ← e]; exact ha)
  · intro c hc
    rcases List.mem_append.mp hc with z | z
    · exact h3 c z
    · have : c = P.take i ++ ye_dg P i :: q := by simpa using z
      rw [this]
      exact ⟨(key C).1, (key C).2.1⟩
  · rw [List.length_append, List.length_singleton]
    omega
  · by_cases e : n = i + 1
    · subst e
      exact (key _).2.2 (by simp)
    · exact ye_srv_mono (h5 n hn1 (by omega)) (fun c hc => List.mem_append_left _ hc)
/-- the set of the vertices so far, one more -/
theorem ye_bits_next {P : List Nat} {i cl : Nat} (hi : i < P.length) (h7 : ∀ x ∈ P, x < 7) (hcl : cl < 128) (h : ∀ z, z < 7 → (cl.testBit z = true ↔ z ∈ P.take i)) : cl ||| 1 * 2 ^ ye_dg P i < 128 ∧ ∀ z, z < 7 → ((cl ||| 1 * 2 ^ ye_dg P i).testBit z = true ↔ z ∈ P.take (i + 1)) := by
  have hu : ye_dg P i < 7 := h7 _ (List.mem_of_getElem? (ye_dg_of hi))
  constructor
  · have h1 : 2 ^ ye_dg P i < 2 ^ 7 := Nat.pow_lt_pow_right (by decide) hu
    have h2 : cl ||| 1 * 2 ^ ye_dg P i < 2 ^ 7 := Nat.or_lt_two_pow (by omega) (by omega)
    omega
  · intro z hz
    rw [Nat.one_mul, Nat.testBit_or, Bool.or_eq_true, h z hz, Nat.testBit_two_pow, decide_eq_true_iff, ye_take_step hi, List.mem_append, List.mem_singleton]
    constructor
    · rintro (a | a)
      · exact Or.inl a
      · exact Or.inr a.symm
    · rintro (a | a)
      · exact Or.inl a
      · exact Or.inr a.symm
theorem ye_len_next {w : Nat → Nat} {P : List Nat} {i : Nat} (hi : i + 1 < P.length) : ye_len w (P.take (i + 2)) = ye_len w (P.take (i + 1)) + w (7 * ye_dg P i + ye_dg P (i + 1)) := by
  have e1 : P.take (i + 2) = P.take i ++ ye_dg P i :: [ye_dg P (i + 1)] := by
    rw [ye_take_step (i := i + 1) hi, ye_take_step (i := i) (by omega), List.append_assoc]
    rfl
  rw [e1, ye_len_app, ← ye_take_step (by omega)]
  rfl
/-- taking one out: the last one goes to its place -/
theorem ye_out {C : List (List Nat)} {b : Nat} {x : List Nat} (hn : C.Nodup) (hb : C[b]? = some x) : ∃ C' : List (List Nat), C'.length + 1 = C.length ∧ C'.Nodup ∧ (∀ c, c ∈ C' ↔ c ∈ C ∧ c ≠ x) ∧ ∀ (k : Nat) (c : List Nat), C'[k]? = some c → C[if k = b then C.length - 1 else k]? = some c := by
  have hlt : b < C.length := (List.getElem?_eq_some_iff.mp hb).1
  have hx : C[b] = x := by
    rw [List.getElem?_eq_getElem hlt] at hb
    exact Option.some.inj hb
  have hC : C.take b ++ x :: C.drop (b + 1) = C := by
    have h1 := List.take_append_drop b C
    rw [List.drop_eq_getElem_cons hlt, hx] at h1
    exact h1
  have hbl : (C.take b).length = b := by rw [List.length_take]; omega
  generalize hX : C.take b = X at hC hbl
  rcases List.eq_nil_or_concat (C.drop (b + 1)) with hy | ⟨Y, z, hy⟩
  · rw [hy] at hC
    have hlen : C.length = b + 1 := by rw [← hC, List.length_append, hbl]; rfl
    subst hC
    have n1 := List.nodup_append.mp hn
    refine ⟨X, by omega, n1.1, fun c => ?_, fun k c hk => ?_⟩
    · constructor
      · intro h
        exact ⟨List.mem_append_left _ h, fun e => n1.2.2 c h x (by simp) e⟩
      · rintro ⟨h1, h2⟩
        rcases List.mem_append.mp h1 with y | y
        · exact y
        · exact absurd (by simpa using y) h2
    · have hk2 : k < X.length := (List.getElem?_eq_some_iff.mp hk).1
      rw [if_neg (by omega), List.getElem?_append_left hk2]
      exact hk
  · rw [List.concat_eq_append] at hy
    rw [hy] at hC
    have hlen : C.length = b + 1 + Y.length + 1 := by
      rw [← hC, List.length_append, hbl, List.length_cons]
      simp
      omega
    subst hC
    have n1 := List.nodup_append.mp hn
    have n2 := List.nodup_cons.mp n1.2.1
    have n3 := List.nodup_append.mp n2.2
    have mz : ∀ c, c ∈ Y ++ [z] ↔ c = z ∨ c ∈ Y := fun c => by
      rw [List.mem_append, List.mem_singleton]
      exact or_comm
    refine ⟨X ++ z :: Y, ?_, ?_, fun c => ?_, fun k c hk => ?_⟩
    · rw [List.length_append, List.length_cons, hlen]
      omega
    · refine List.nodup_append.mpr ⟨n1.1, List.nodup_cons.mpr ⟨fun h => n3.2.2 z h z (by simp) rfl, n3.1⟩, fun a ha b' hb' e => ?_⟩
      refine n1.2.2 a ha b' (List.mem_cons_of_mem _ ((mz b').mpr ?_)) e
      exact List.mem_cons.mp hb'
    · rw [List.mem_append, List.mem_append, List.mem_cons, List.mem_cons, mz]
      constructor
      · rintro (h | h)
        · exact ⟨Or.inl h, fun e => n1.2.2 c h x List.mem_cons_self e⟩
        · exact ⟨Or.inr (Or.inr h), fun e => n2.1 (by rw [← e]; exact (mz c).mpr h)⟩
      · rintro ⟨h | h | h, h2⟩
        · exact Or.inl h
        · exact absurd h h2
        · exact Or.inr h
    · rw [hlen]
      rcases Nat.lt_trichotomy k b with y | y | y
      · rw [if_neg (by omega), List.getElem?_append_left (by omega)]
        rw [List.getElem?_append_left (by omega)] at hk
        exact hk
      · rw [if_pos y, List.getElem?_append_right (by omega)]
        rw [List.getElem?_append_right (by omega), show k - X.length = 0 by omega, List.getElem?_cons_zero] at hk
        rw [show b + 1 + Y.length + 1 - 1 - X.length = Y.length + 1 by omega, List.getElem?_cons_succ, List.getElem?_append_right (by omega), Nat.sub_self]
        exact hk
      · rw [if_neg (by omega), List.getElem?_append_right (by omega)]
        rw [List.getElem?_append_right (by omega), show k - X.length = (k - b - 1) + 1 by omega, List.getElem?_cons_succ] at hk
        have hk2 : k - b - 1 < Y.length := (List.getElem?_eq_some_iff.mp hk).1
        rw [show k - X.length = (k - b - 1) + 1 by omega, List.getElem?_cons_succ, List.getElem?_append_left hk2]
        exact hk
/-- the least candidate by numbers is the least by order -/
theorem ye_bst_lt {w : Nat → Nat} {ca s t b : Nat} {C : List (List Nat)} {F : Nat → Nat → Nat} (hC : ∀ c ∈ C, ye_path w ca s t c) (hr : ye_rep w (F 9) (F 10) (F 11) C) (h : ∀ i, i < C.length → ye_le2 F b i) {x : List Nat} (hx : C[b]? = some x) : ∀ c ∈ C, c = x ∨ ye_lt w x c := by
  intro c hc
  obtain ⟨k, k1, k2, k3, k4, k5⟩ := ye_rep_mem hr hc
  obtain ⟨x1, x2, x3⟩ := hr b x hx
  have h1 := h k k1
  unfold ye_le2 at h1
  rw [k3, k4, x1, x2] at h1
  have px := hC x (List.mem_of_getElem? hx)
  have pc := hC c hc
  rcases h1 with z | ⟨z1, z2⟩
  · exact Or.inr (Or.inl z)
  · rcases Nat.lt_or_eq_of_le z2 with y | y
    · exact Or.inr (Or.inr ⟨z1, (ye_code_lx px pc).mp y⟩)
    · exact Or.inl (ye_code_inj px pc y).symm
end
section
/-! WALK: branchOff (printed by gen.py out of walk/24.branch.walk) -/
set_option maxRecDepth 100000
/-- what branchOff leaves alone -/
def x_frG (G0 G : Nat → Nat) : Prop := ∀ j, j ≠ 8 → j ≠ 15 → j ≠ 16 → G j = G0 j
def x_frF (F0 F : Nat → Nat → Nat) : Prop := ∀ j, j ≠ 9 → j ≠ 10 → j ≠ 11 → j ≠ 12 → j ≠ 14 → F j = F0 j
/-- goOn with names of its own for the weights, the closed arc and the target -/
theorem x_goOnW (l : Launch) (D : va_G) (o : Nat) (ad : Nat → Nat) (dA : Nat → ClassId) (G : Nat → Nat) (F : Nat → Nat → Nat) (u cl bar : Nat) (P : List Nat) (w : Nat → Nat) (ca t : Nat) (e0 : F 0 = w) (e13 : G 13 = ca) (e2 : G 2 = t) (hw : ∀ j, j < 49 → w j ≤ 50) (hca : ca < 4294967296) (hu : u < 7) (ht : t < 7) (hut : u ≠ t) (hcl : cl < 128) (hct : cl.testBit t = false) (hbar : bar < 2147483648)
    (hPn : P.Nodup) (hP7 : ∀ x ∈ P, x < 7) (hPc : ∀ x ∈ P, cl.testBit x = true) (huP : u ∉ P) (hPl : G 15 = P.length) (hPw : ∀ i, i < P.length → F 14 i = ye_dg P i) : xMi l yX0_goOn cX0_goOn 8 .boolean rX0_goOn D o ad dA G F [nI u, nI cl, nI bar] (fun r G' F' =>
      (r = 0 ∧ (∀ q, ¬ ye_cand w ca cl t u bar q) ∧ G' = G ∧ ∃ d, F' = va_up F 12 d) ∨
      (r = 1 ∧ ∃ (q : List Nat) (d wy : Nat → Nat), ye_cand w ca cl t u bar (u :: q) ∧ (u :: q).Nodup ∧ (∀ q', ye_cand w ca cl t u bar q' → u :: q = q' ∨ ye_lt w (u :: q) q') ∧ (P ++ u :: q).length ≤ 7 ∧ (∀ x ∈ P ++ u :: q, x < 7) ∧
        G' = va_up (va_up G 16 (ye_len w (u :: q))) 15 (P ++ u :: q).length ∧ F' = va_up (va_up F 12 d) 14 wy ∧ ∀ i, i < (P ++ u :: q).length → wy i = ye_dg (P ++ u :: q) i)) := by
  subst e0 e13 e2
  exact x_goOn l D o ad dA G F u cl bar P hw hca hu ht hut hcl hct hbar hPn hP7 hPc huP hPl hPw
section Y24
variable {p : Program} {l : Launch} {e : Env} {R : Room} {s : State} {m : MethodId} {args : Array Value} {below : List Frame} {meth : Method} {c : Code} {Q : State → Prop} {D : va_G} {A : Nat → Prop} {o : Nat} {ad : Nat → Nat} {dA : Nat → ClassId} {G : Nat → Nat} {F : Nat → Nat → Nat}
/-- the beginning is copied into the way -/
theorem x_br2 {k beg cl i u bar : Nat} {P : List Nat} (C : ky_C p s m args c cX0_branchOff 8 RX0 D (xT dA)) (hA : ∀ q : Nat, s.heap.size ≤ q → A q) (hR : rX0_vertexIn.frames + 1 ≤ R.frames ∧ 8 + (3 + 11) + rX0_vertexIn.locals ≤ R.locals) (hk : k < 12) (h7 : ∀ x ∈ P, x < 7) (hl : P.length ≤ 7) (hi : i < P.length) (h5 : F 5 k = ye_code P)
    (kk : ∀ wy : Nat → Nat, (∀ x, x < i → wy x = ye_dg P x) → ky_At p l e R s m args below meth c 0 0 Q D A 8 (xW o ad dA G (va_up F 14 wy)) 90 [some (.ref o), some (.int (nI k)), some (.int (nI beg)), some (.int (nI cl)), some (.int (nI i)), some (.int (nI u)), some (.int (nI bar)), none] []) :
    ∀ (n j : Nat) (wy : Nat → Nat), j + n = i → (∀ x, x < j → wy x = ye_dg P x) → ky_At p l e R s m args below meth c 0 0 Q D A 8 (xW o ad dA G (va_up F 14 wy)) 57 [some (.ref o), some (.int (nI k)), some (.int (nI beg)), some (.int (nI cl)), some (.int (nI i)), some (.int (nI u)), some (.int (nI bar)), some (.int (nI j))] [] := by
  intro n
  induction n with
  | zero =>
    intro j wy hj hwy
    refine ky_iload (pc := 57) C dX0_branchOff_57 rfl ?_
    refine ky_iload (pc := 59) C dX0_branchOff_59 rfl ?_
    refine ky_icmp_ge (pc := 61) (tgt := 90) C dX0_branchOff_61 (by decide) (by omega) (by omega) (fun h_61 => ?_) (fun h_61 => ?_)
    · refine ky_forget 7 ?_
      exact kk wy (fun x hx => hwy x (by omega))
    · omega
  | succ n ih =>
    intro j wy hj hwy
    have hcd := ye_code_lt h7
    have hdj : ye_dg P j < 7 := h7 _ (List.mem_of_getElem? (ye_dg_of (by omega)))
    refine ky_iload (pc := 57) C dX0_branchOff_57 rfl ?_
    refine ky_iload (pc := 59) C dX0_branchOff_59 rfl ?_
    refine ky_icmp_ge (pc := 61) (tgt := 90) C dX0_branchOff_61 (by decide) (by omega) (by omega) (fun h_61 => ?_) (fun h_61 => ?_)
    · omega
    · refine ky_aload_n (pc := 64) C dX0_branchOff_64 rfl ?_
      refine x_g14 (pc := 65) C dX0_branchOff_65 ?_
      refine ky_iload (pc := 68) C dX0_branchOff_68 rfl ?_
      refine ky_aload_n (pc := 70) C dX0_branchOff_70 rfl ?_
      refine ky_aload_n (pc := 71) C dX0_branchOff_71 rfl ?_
      refine x_g5 (pc := 72) C dX0_branchOff_72 ?_
      refine ky_iload_n (pc := 75) C dX0_branchOff_75 rfl ?_
      refine x_l5 (pc := 76) C dX0_branchOff_76 (v := ye_code P) (by omega) h5 ?_
      refine ky_iload (pc := 77) C dX0_branchOff_77 rfl ?_
      refine x_ci (pc := 79) C hA (x_vertexIn l D o ad dA G (va_up F 14 wy) (ye_code P) j (by omega) (by omega)) (cwV 2 C.2.2.2.2.1 (lw_V q137 q139 qs8 q24 q140) rfl rfl rfl (by decide +kernel) hR) rfl rfl (Nat.le_of_ble_eq_true rfl) dX0_branchOff_79 (fun v G' F' hv => ?_)
      obtain ⟨hv, eG, eF⟩ := hv
      rw [eG, eF]
      clear eG eF
      rw [ye_code_at h7 (by omega)] at hv
      subst hv
      refine ky_i2b (pc := 82) C dX0_branchOff_82 (by omega) ?_
      refine x_s14 (pc := 83) C dX0_branchOff_83 (by omega) (by omega) ?_
      refine ky_iinc1 (pc := 84) C dX0_branchOff_84 rfl (by decide) ?_
      refine ky_goto (pc := 87) (tgt := 57) C dX0_branchOff_87 (by decide) ?_
      rw [bx_uu]
      refine ih (j + 1) (va_up wy j (ye_dg P j)) (by omega) (fun x hx => ?_)
      by_cases e : x = j
      · rw [e, vu_at]
      · rw [vu_ne e]
        exact hwy x (by omega)
theorem x_br1 {k : Nat} {P : List Nat} {K C0 : List (List Nat)} {G0 : Nat → Nat} {F0 : Nat → Nat → Nat} (C : ky_C p s m args c cX0_branchOff 8 RX0 D (xT dA)) (hA : ∀ q : Nat, s.heap.size ≤ q → A q) (hR : 2 ≤ R.frames ∧ 52 ≤ R.locals) (hw : ∀ j, j < 49 → F0 0 j ≤ 50) (hca : G0 13 < 4294967296) (ht : G0 2 < 7)
    (hK : ∀ q ∈ K, ye_path (F0 0) (G0 13) (G0 1) (G0 2) q) (hrK : ye_rep (F0 0) (F0 5) (F0 6) (F0 7) K) (hn : G0 4 = K.length) (hn12 : K.length ≤ 12) (hP : K[k]? = some P) (hC0 : C0.length + 6 ≤ 72)
    (kk : ∀ (G : Nat → Nat) (F : Nat → Nat → Nat) (Cs : List (List Nat)), x_frG G0 G → x_frF F0 F → G 8 = Cs.length → ye_rep (F0 0) (F 9) (F 10) (F 11) Cs → ye_bo (F0 0) (G0 13) (G0 1) (G0 2) K C0 P (P.length - 1) Cs → ky_At p l e R s m args below meth c 0 0 Q D A 8 (xW o ad dA G F) 165 [some (.ref o), some (.int (nI k)), none, none, none, none, none, none] []) :
    ∀ (n i beg cl : Nat) (G : Nat → Nat) (F : Nat → Nat → Nat) (Cs : List (List Nat)), i + n + 1 = P.length → x_frG G0 G → x_frF F0 F → G 8 = Cs.length → ye_rep (F0 0) (F 9) (F 10) (F 11) Cs → ye_bo (F0 0) (G0 13) (G0 1) (G0 2) K C0 P i Cs → beg = ye_len (F0 0) (P.take (i + 1)) → cl < 128 → (∀ z, z < 7 → (cl.testBit z = true ↔ z ∈ P.take i)) →
    ky_At p l e R s m args below meth c 0 0 Q D A 8 (xW o ad dA G F) 7 [some (.ref o), some (.int (nI k)), some (.int (nI beg)), some (.int (nI cl)), some (.int (nI i)), none, none, none] [] := by
  have hPm : P ∈ K := List.mem_of_getElem? hP
  have hPp := hK P hPm
  have hP7 := hPp.2.1
  have hPl := ye_path_len hPp
  have hk12 : k < 12 := by
    have := (List.getElem?_eq_some_iff.mp hP).1
    omega
  have hcd := ye_code_lt hP7
  have hRv : rX0_vertexIn.frames + 1 ≤ R.frames ∧ 8 + (3 + 11) + rX0_vertexIn.locals ≤ R.locals := ⟨by show 1 ≤ R.frames; omega, by show 22 ≤ R.locals; omega⟩
  have hRt : rX0_takenAfter.frames + 1 ≤ R.frames ∧ 8 + (6 + 11) + rX0_takenAfter.locals ≤ R.locals := ⟨by show 2 ≤ R.frames; omega, by show 47 ≤ R.locals; omega⟩
  have hRg : rX0_goOn.frames + 1 ≤ R.frames ∧ 8 + (8 + 11) + rX0_goOn.locals ≤ R.locals := ⟨by show 2 ≤ R.frames; omega, by show 52 ≤ R.locals; omega⟩
  have hRp : rX0_propose.frames + 1 ≤ R.frames ∧ 8 + (5 + 11) + rX0_propose.locals ≤ R.locals := ⟨by show 1 ≤ R.frames; omega, by show 24 ≤ R.locals; omega⟩
  intro n
  induction n with
  | zero =>
    intro i beg cl G F Cs hi hG hF h8 hrC hbo hbeg hcl hclb
    have e7 : F 7 k = P.length := by rw [hF 7 (by decide) (by decide) (by decide) (by decide) (by decide)]; exact (hrK k P hP).2.2
    refine ky_iload (pc := 7) C dX0_branchOff_7 rfl ?_
    refine ky_iconst (pc := 9) C 1 dX0_branchOff_9 (by decide) ?_
    refine ky_iadd (pc := 10) C dX0_branchOff_10 ?_
    refine ky_aload_n (pc := 11) C dX0_branchOff_11 rfl ?_
    refine x_g7 (pc := 12) C dX0_branchOff_12 ?_
    refine ky_iload_n (pc := 15) C dX0_branchOff_15 rfl ?_
    refine x_l7 (pc := 16) C dX0_branchOff_16 (v := P.length) (by omega) e7 ?_
    refine ky_icmp_ge (pc := 17) (tgt := 165) C dX0_branchOff_17 (by decide) (by omega) (by omega) (fun h_17 => ?_) (fun h_17 => ?_)
    · refine ky_forget 2 (ky_forget 3 (ky_forget 4 ?_))
      refine kk G F Cs hG hF h8 hrC ?_
      rw [show P.length - 1 = i by omega]
      exact hbo
    · omega
  | succ n ih =>
    intro i beg cl G F Cs hi hG hF h8 hrC hbo hbeg hcl hclb
    have f0 : F 0 = F0 0 := hF 0 (by decide) (by decide) (by decide) (by decide) (by decide)
    have f5 : F 5 = F0 5 := hF 5 (by decide) (by decide) (by decide) (by decide) (by decide)
    have f6 : F 6 = F0 6 := hF 6 (by decide) (by decide) (by decide) (by decide) (by decide)
    have f7 : F 7 = F0 7 := hF 7 (by decide) (by decide) (by decide) (by decide) (by decide)
    have g2 : G 2 = G0 2 := hG 2 (by decide) (by decide) (by decide)
    have g4 : G 4 = K.length := by rw [hG 4 (by decide) (by decide) (by decide)]; exact hn
    have g13 : G 13 = G0 13 := hG 13 (by decide) (by decide) (by decide)
    have hrK2 : ye_rep (F0 0) (F 5) (F 6) (F 7) K := by rw [f5, f6, f7]; exact hrK
    have e5 : F 5 k = ye_code P := (hrK2 k P hP).1
    have e7 : F 7 k = P.length := (hrK2 k P hP).2.2
    have hu7 : ye_dg P i < 7 := hP7 _ (List.mem_of_getElem? (ye_dg_of (by omega)))
    have hu7' : ye_dg P (i + 1) < 7 := hP7 _ (List.mem_of_getElem? (ye_dg_of (by omega)))
    have hbnd : ∀ x, x < G 4 → F 5 x < 2147483648 ∧ F 7 x < 2147483648 := by
      intro x hx
      obtain ⟨q, q1, q2, q3, q4, q5⟩ := ye_rep_get hrK2 (by omega : x < K.length)
      have := ye_path_bound hw (hK q q1)
      omega
    have hbeg2 : beg ≤ 300 := by
      have h1 := ye_len_le hw (P.take (i + 1)) (fun x hx => hP7 x (List.mem_of_mem_take hx))
      rw [List.length_take] at h1
      omega
    have fin : ∀ (G : Nat → Nat) (F : Nat → Nat → Nat) (Cs : List (List Nat)), x_frG G0 G → x_frF F0 F → G 8 = Cs.length → ye_rep (F0 0) (F 9) (F 10) (F 11) Cs → ye_bo (F0 0) (G0 13) (G0 1) (G0 2) K C0 P (i + 1) Cs → ky_At p l e R s m args below meth c 0 0 Q D A 8 (xW o ad dA G F) 124 [some (.ref o), some (.int (nI k)), some (.int (nI beg)), some (.int (nI cl)), some (.int (nI i)), some (.int (nI (ye_dg P i))), none, none] [] := by
      intro G F Cs hG hF h8 hrC hbo
      have f0 : F 0 = F0 0 := hF 0 (by decide) (by decide) (by decide) (by decide) (by decide)
      have f5 : F 5 = F0 5 := hF 5 (by decide) (by decide) (by decide) (by decide) (by decide)
      have e5 : F 5 k = ye_code P := by rw [f5]; exact (hrK k P hP).1
      have hwx := hw (7 * ye_dg P i + ye_dg P (i + 1)) (by omega)
      have hbn := ye_bits_next (i := i) (by omega) hP7 hcl hclb
      refine ky_iload_n (pc := 124) C dX0_branchOff_124 rfl ?_
      refine ky_iconst (pc := 125) C 1 dX0_branchOff_125 (by decide) ?_
      refine ky_iload (pc := 126) C dX0_branchOff_126 rfl ?_
      refine ky_ishl (pc := 128) C dX0_branchOff_128 (by omega) (by first | omega | exact kn_p7 (by omega)) ?_
      refine ky_ior (pc := 129) C dX0_branchOff_129 ?_
      refine ky_istore_n (pc := 130) C dX0_branchOff_130 (by decide) ?_
      refine ky_iload_n (pc := 131) C dX0_branchOff_131 rfl ?_
      refine ky_aload_n (pc := 132) C dX0_branchOff_132 rfl ?_
      refine x_g0 (pc := 133) C dX0_branchOff_133 ?_
      refine ky_bipush (pc := 136) C 7 dX0_branchOff_136 (by decide) ?_
      refine ky_iload (pc := 138) C dX0_branchOff_138 rfl ?_
      refine ky_imul (pc := 140) C dX0_branchOff_140 ?_
      refine ky_aload_n (pc := 141) C dX0_branchOff_141 rfl ?_
      refine ky_aload_n (pc := 142) C dX0_branchOff_142 rfl ?_
      refine x_g5 (pc := 143) C dX0_branchOff_143 ?_
      refine ky_iload_n (pc := 146) C dX0_branchOff_146 rfl ?_
      refine x_l5 (pc := 147) C dX0_branchOff_147 (v := ye_code P) (by omega) e5 ?_
      refine ky_iload (pc := 148) C dX0_branchOff_148 rfl ?_
      refine ky_iconst (pc := 150) C 1 dX0_branchOff_150 (by decide) ?_
      refine ky_iadd (pc := 151) C dX0_branchOff_151 ?_
      refine x_ci (pc := 152) C hA (x_vertexIn l D o ad dA G F (ye_code P) (i + 1) (by omega) (by omega)) (cwV 2 C.2.2.2.2.1 (lw_V q137 q139 qs8 q24 q140) rfl rfl rfl (by decide +kernel) hRv) rfl rfl (Nat.le_of_ble_eq_true rfl) dX0_branchOff_152 (fun v G' F' hv => ?_)
      obtain ⟨hv, eG, eF⟩ := hv
      rw [eG, eF]
      clear eG eF
      rw [ye_code_at hP7 (by omega)] at hv
      subst hv
      refine ky_iadd (pc := 155) C dX0_branchOff_155 ?_
      refine x_l0 (pc := 156) C dX0_branchOff_156 (v := F0 0 (7 * ye_dg P i + ye_dg P (i + 1))) (by omega) (by rw [f0]) ?_
      refine ky_iadd (pc := 157) C dX0_branchOff_157 ?_
      refine ky_istore_n (pc := 158) C dX0_branchOff_158 (by decide) ?_
      refine ky_iinc1 (pc := 159) C dX0_branchOff_159 rfl (by decide) ?_
      refine ky_goto (pc := 162) (tgt := 7) C dX0_branchOff_162 (by decide) ?_
      refine ky_forget 5 ?_
      exact ih (i + 1) _ _ G F Cs (by omega) hG hF h8 hrC hbo (by rw [ye_len_next (by omega), hbeg]) hbn.1 hbn.2
    refine ky_iload (pc := 7) C dX0_branchOff_7 rfl ?_
    refine ky_iconst (pc := 9) C 1 dX0_branchOff_9 (by decide) ?_
    refine ky_iadd (pc := 10) C dX0_branchOff_10 ?_
    refine ky_aload_n (pc := 11) C dX0_branchOff_11 rfl ?_
    refine x_g7 (pc := 12) C dX0_branchOff_12 ?_
    refine ky_iload_n (pc := 15) C dX0_branchOff_15 rfl ?_
    refine x_l7 (pc := 16) C dX0_branchOff_16 (v := P.length) (by omega) e7 ?_
    refine ky_icmp_ge (pc := 17) (tgt := 165) C dX0_branchOff_17 (by decide) (by omega) (by omega) (fun h_17 => ?_) (fun h_17 => ?_)
    · omega
    · refine ky_aload_n (pc := 20) C dX0_branchOff_20 rfl ?_
      refine ky_aload_n (pc := 21) C dX0_branchOff_21 rfl ?_
      refine x_g5 (pc := 22) C dX0_branchOff_22 ?_
      refine ky_iload_n (pc := 25) C dX0_branchOff_25 rfl ?_
      refine x_l5 (pc := 26) C dX0_branchOff_26 (v := ye_code P) (by omega) e5 ?_
      refine ky_iload (pc := 27) C dX0_branchOff_27 rfl ?_
      refine x_ci (pc := 29) C hA (x_vertexIn l D o ad dA G F (ye_code P) i (by omega) (by omega)) (cwV 2 C.2.2.2.2.1 (lw_V q137 q139 qs8 q24 q140) rfl rfl rfl (by decide +kernel) hRv) rfl rfl (Nat.le_of_ble_eq_true rfl) dX0_branchOff_29 (fun v G' F' hv => ?_)
      obtain ⟨hv, eG, eF⟩ := hv
      rw [eG, eF]
      clear eG eF
      rw [ye_code_at hP7 (by omega)] at hv
      subst hv
      refine ky_istore (pc := 32) C dX0_branchOff_32 (by decide) ?_
      refine ky_aload_n (pc := 34) C dX0_branchOff_34 rfl ?_
      refine ky_aload_n (pc := 35) C dX0_branchOff_35 rfl ?_
      refine x_g5 (pc := 36) C dX0_branchOff_36 ?_
      refine ky_iload_n (pc := 39) C dX0_branchOff_39 rfl ?_
      refine x_l5 (pc := 40) C dX0_branchOff_40 (v := ye_code P) (by omega) e5 ?_
      refine ky_iload (pc := 41) C dX0_branchOff_41 rfl ?_
      refine x_ci (pc := 43) C hA (x_takenAfter l D o ad dA G F (ye_code P) i (by omega) (by omega) (by omega) hbnd) (cwV 2 C.2.2.2.2.1 (lw_V q141 q143 qs9 q24 q144) rfl rfl rfl (by decide +kernel) hRt) rfl rfl (Nat.le_of_ble_eq_true rfl) dX0_branchOff_43 (fun bar G' F' hv => ?_)
      obtain ⟨hbar, eG, eF⟩ := hv
      rw [eG, eF]
      clear eG eF
      have hbar1 := hbar.1
      have hbars := ye_bars hK hrK2 g4 hPp (by omega) hbar
      refine ky_istore (pc := 46) C dX0_branchOff_46 (by decide) ?_
      refine ky_aload_n (pc := 48) C dX0_branchOff_48 rfl ?_
      refine ky_iload (pc := 49) C dX0_branchOff_49 rfl ?_
      refine x_p15 (pc := 51) C dX0_branchOff_51 ?_
      refine ky_iconst (pc := 54) C 0 dX0_branchOff_54 (by decide) ?_
      refine ky_istore (pc := 55) C dX0_branchOff_55 (by decide) ?_
      have hb2 := x_br2 (o := o) (ad := ad) (G := va_up G 15 i) (F := F) (l := l) (e := e) (R := R) (below := below) (meth := meth) (Q := Q) (A := A) (beg := beg) (cl := cl) (i := i) (u := ye_dg P i) (bar := bar) (P := P) C hA hRv hk12 hP7 hPl (by omega) e5 (fun wy hwy => ?_) i 0 (F 14) (by omega) (fun x hx => absurd hx (by omega))
      · rw [vu_self] at hb2
        exact hb2
      · have htk : (P.take i).length = i := by rw [List.length_take]; omega
        have hsp := ye_split (P := P) (i := i) (by omega)
        have hnd := hPp.1
        rw [← hsp] at hnd
        have hnd2 := List.nodup_append.mp hnd
        have hnt : ∀ x ∈ P.take (i + 1), x ≠ G0 2 := by
          intro x hx e
          have hlast := hPp.2.2.2.1
          have hsp2 := List.take_append_drop (i + 1) P
          rw [← hsp2, List.getLast?_append] at hlast
          have hne : (P.drop (i + 1)).length ≠ 0 := by rw [List.length_drop]; omega
          cases hz : (P.drop (i + 1)).getLast? with
          | none =>
            rw [List.getLast?_eq_none_iff] at hz
            rw [hz] at hne
            exact hne rfl
          | some y =>
            rw [hz] at hlast
            have ey : y = G0 2 := by simpa using hlast
            have hy := List.mem_of_getLast? hz
            have hnd3 := hPp.1
            rw [← hsp2] at hnd3
            exact (List.nodup_append.mp hnd3).2.2 x hx y hy (by rw [e, ey])
        have hut : ye_dg P i ≠ G0 2 := hnt _ (by rw [ye_take_step (by omega)]; simp)
        have hct : cl.testBit (G0 2) = false := by
          cases hz : cl.testBit (G0 2) with
          | false => rfl
          | true => exact absurd rfl (hnt _ (by rw [ye_take_step (by omega)]; exact List.mem_append_left _ ((hclb _ ht).mp hz)))
        refine ky_aload_n (pc := 90) C dX0_branchOff_90 rfl ?_
        refine ky_iload (pc := 91) C dX0_branchOff_91 rfl ?_
        refine ky_iload_n (pc := 93) C dX0_branchOff_93 rfl ?_
        refine ky_iload (pc := 94) C dX0_branchOff_94 rfl ?_
        refine x_ci (pc := 96) C hA (x_goOnW l D o ad dA (va_up G 15 i) (va_up F 14 wy) (ye_dg P i) cl bar (P.take i) (F0 0) (G0 13) (G0 2) f0 g13 g2 hw hca hu7 ht hut hcl hct (by omega) hnd2.1 (fun x hx => hP7 x (List.mem_of_mem_take hx)) (fun x hx => (hclb x (hP7 x (List.mem_of_mem_take hx))).mpr hx) (fun hx => hnd2.2.2 _ hx _ List.mem_cons_self rfl) (by rw [htk]; rfl) (fun x hx => by rw [htk] at hx; show wy x = _; rw [hwy x hx]; unfold ye_dg; rw [List.getD_eq_getElem?_getD, List.getD_eq_getElem?_getD, List.getElem?_take_of_lt hx])) (cwV 3 C.2.2.2.2.1 (lw_V q112 q114 qs2 q24 q115) rfl rfl rfl (by decide +kernel) hRg) rfl rfl (Nat.le_of_ble_eq_true rfl) dX0_branchOff_96 (fun r G' F' hv => ?_)
        rcases hv with ⟨rfl, hno, rfl, d, rfl⟩ | ⟨rfl, q, d, wy2, hc, hqn, hmin, hql, hq7, rfl, rfl, hwy2⟩
        · refine ky_if_eq (pc := 99) (tgt := 124) C dX0_branchOff_99 (by decide) (by omega) (fun h_99 => ?_) (fun h_99 => ?_)
          · refine ky_forget 6 ?_
            refine fin _ _ Cs (fun j h1 h2 h3 => ?_) (fun j h1 h2 h3 h4 h5 => ?_) h8 hrC (ye_bo_none hbo hPp (by omega) hclb hbars hno)
            · rw [vu_ne h2]; exact hG j h1 h2 h3
            · rw [vu_ne h4, vu_ne h5]; exact hF j h1 h2 h3 h4 h5
          · exact absurd rfl h_99
        · obtain ⟨hcp, hin, hout⟩ := ye_bo_some hbo hK hPp (by omega) hclb hbars hc hqn hmin
          have hlc : ye_len (F0 0) (P.take i ++ ye_dg P i :: q) = beg + ye_len (F0 0) (ye_dg P i :: q) := by rw [ye_len_app, ← ye_take_step (by omega), hbeg]
          have hbc := ye_path_bound hw hcp
          refine ky_if_eq (pc := 99) (tgt := 124) C dX0_branchOff_99 (by decide) (by omega) (fun h_99 => ?_) (fun h_99 => ?_)
          · exact absurd h_99 (by decide)
          · refine ky_aload_n (pc := 102) C dX0_branchOff_102 rfl ?_
            refine x_ci (pc := 103) C hA (x_codeOfWay l D o ad dA _ _ (P.take i ++ ye_dg P i :: q) hq7 hql rfl hwy2) (cwV 0 C.2.2.2.2.1 (lw_V q125 q127 qs5 q24 q128) rfl rfl rfl (by decide +kernel) hRv) rfl rfl (Nat.le_of_ble_eq_true rfl) dX0_branchOff_103 (fun v G' F' hv => ?_)
            obtain ⟨rfl, rfl, rfl⟩ := hv
            have hbC : Cs.length ≤ C0.length + i := hbo.2.2.2.1
            have h872 : G 8 < 72 := by omega
            have hcb : ∀ x, x < G 8 → F 9 x < 4294967296 := by
              intro x hx
              obtain ⟨y, y1, y2, y3, y4, y5⟩ := ye_rep_get hrC (by omega : x < Cs.length)
              have := ye_path_bound hw (hbo.2.2.1 y y1).1
              omega
            refine ky_istore (pc := 106) C dX0_branchOff_106 (by decide) ?_
            refine ky_aload_n (pc := 108) C dX0_branchOff_108 rfl ?_
            refine ky_iload (pc := 109) C dX0_branchOff_109 rfl ?_
            refine ky_iload_n (pc := 111) C dX0_branchOff_111 rfl ?_
            refine ky_aload_n (pc := 112) C dX0_branchOff_112 rfl ?_
            refine x_g16 (pc := 113) C dX0_branchOff_113 (v := ye_len (F0 0) (ye_dg P i :: q)) rfl ?_
            refine ky_iadd (pc := 116) C dX0_branchOff_116 ?_
            refine ky_aload_n (pc := 117) C dX0_branchOff_117 rfl ?_
            refine x_g15 (pc := 118) C dX0_branchOff_118 (v := (P.take i ++ ye_dg P i :: q).length) rfl ?_
            refine x_cv (pc := 121) C hA (x_propose l D o ad dA _ _ (ye_code (P.take i ++ ye_dg P i :: q)) (beg + ye_len (F0 0) (ye_dg P i :: q)) (P.take i ++ ye_dg P i :: q).length (by omega) h872 hcb) (cwV 3 C.2.2.2.2.1 (lw_V q145 q147 qs10 q24 q148) rfl rfl rfl (by decide +kernel) hRp) rfl rfl (Nat.le_of_ble_eq_true rfl) dX0_branchOff_121 (fun G' F' hv => ?_)
            rcases hv with ⟨⟨x, hx, hxc⟩, rfl, rfl⟩ | ⟨hnew, rfl, rfl⟩
            · have hx2 : x < Cs.length := by rw [← h8]; exact hx
              obtain ⟨y, y1, y2, y3, y4, y5⟩ := ye_rep_get hrC hx2
              have hyc : y = P.take i ++ ye_dg P i :: q := ye_code_inj (hbo.2.2.1 y y1).1 hcp (by rw [← y3]; exact hxc)
              refine ky_forget 6 (ky_forget 7 ?_)
              refine fin _ _ Cs (fun j h1 h2 h3 => ?_) (fun j h1 h2 h3 h4 h5 => ?_) h8 hrC (hin (by rw [← hyc]; exact y1))
              · rw [vu_ne h2, vu_ne h3, vu_ne h2]; exact hG j h1 h2 h3
              · rw [vu_ne h5, vu_ne h4, vu_ne h5]; exact hF j h1 h2 h3 h4 h5
            · have hnm : P.take i ++ ye_dg P i :: q ∉ Cs := fun hm => by
                obtain ⟨x, x1, x2, x3, x4, x5⟩ := ye_rep_mem hrC hm
                exact hnew x (by show x < G 8; omega) x3
              refine ky_forget 6 (ky_forget 7 ?_)
              refine fin _ _ (Cs ++ [P.take i ++ ye_dg P i :: q]) (fun j h1 h2 h3 => ?_) (fun j h1 h2 h3 h4 h5 => ?_) ?_ ?_ (hout hnm)
              · rw [vu_ne h1, vu_ne h2, vu_ne h3, vu_ne h2]; exact hG j h1 h2 h3
              · rw [vu_ne h3, vu_ne h2, vu_ne h1, vu_ne h5, vu_ne h4, vu_ne h5]; exact hF j h1 h2 h3 h4 h5
              · show G 8 + 1 = _
                rw [h8, List.length_append]
                rfl
              · exact ye_rep_push hrC h8 rfl hlc.symm rfl
/-- branchOff(k): from every vertex of the path P at place k but its last, a candidate that goes on as no known path does -/
theorem x_branchOff (l : Launch) (D : va_G) (o : Nat) (ad : Nat → Nat) (dA : Nat → ClassId) (G : Nat → Nat) (F : Nat → Nat → Nat) (k : Nat) (P : List Nat) (K Cs : List (List Nat)) (hst : G 1 ≠ G 2) (hw : ∀ j, j < 49 → F 0 j ≤ 50) (hca : G 13 < 4294967296) (ht : G 2 < 7)
    (hK : ∀ q ∈ K, ye_path (F 0) (G 13) (G 1) (G 2) q) (hrK : ye_rep (F 0) (F 5) (F 6) (F 7) K) (hn : G 4 = K.length) (hn12 : K.length ≤ 12) (hP : K[k]? = some P) (h8 : G 8 = Cs.length) (hrC : ye_rep (F 0) (F 9) (F 10) (F 11) Cs) (hC72 : Cs.length + 6 ≤ 72) (hCn : Cs.Nodup) (hCp : ∀ q ∈ Cs, ye_path (F 0) (G 13) (G 1) (G 2) q ∧ q ∉ K) :
    xMv l yX0_branchOff cX0_branchOff 8 rX0_branchOff D o ad dA G F [nI k] (fun G' F' => x_frG G G' ∧ x_frF F F' ∧ ∃ C' : List (List Nat), G' 8 = C'.length ∧ ye_rep (F 0) (F' 9) (F' 10) (F' 11) C' ∧ ye_bo (F 0) (G 13) (G 1) (G 2) K Cs P (P.length - 1) C') := by
  refine xMv.intro (L := [some (.ref o), some (.int (nI k)), none, none, none, none, none, none]) (by decide) rfl (Nat.le_of_ble_eq_true rfl) rfl ?_
  intro p e s m args below meth c A C hr hlocks hA
  have hPp := hK P (List.mem_of_getElem? hP)
  have h2 := ye_path_two hst hPp
  refine ky_iconst (pc := 0) C 0 dX0_branchOff_0 (by decide) ?_
  refine ky_istore_n (pc := 1) C dX0_branchOff_1 (by decide) ?_
  refine ky_iconst (pc := 2) C 0 dX0_branchOff_2 (by decide) ?_
  refine ky_istore_n (pc := 3) C dX0_branchOff_3 (by decide) ?_
  refine ky_iconst (pc := 4) C 0 dX0_branchOff_4 (by decide) ?_
  refine ky_istore (pc := 5) C dX0_branchOff_5 (by decide) ?_
  refine x_br1 (G0 := G) (F0 := F) (C0 := Cs) C hA (by decide) hw hca ht hK hrK hn hn12 hP hC72 (fun G' F' C' q1 q2 q3 q4 q5 => ?_) (P.length - 1) 0 0 0 G F Cs (by omega) (fun _ _ _ _ => rfl) (fun _ _ _ _ _ _ => rfl) h8 hrC ⟨fun _ h => h, hCn, hCp, by omega, fun n a b => absurd a (by omega)⟩ ?_ (by decide) (fun z hz => ?_)
  · exact x_vret C hr hlocks dX0_branchOff_165 ⟨q1, q2, C', q3, q4, q5⟩
  · rw [ye_take1 hPp.2.2.1]
    rfl
  · rw [Nat.zero_testBit]
    simp
end Y24
end
section
/-! WALK: findPaths (printed by gen.py out of walk/25.find.walk) -/
set_option maxRecDepth 100000
/-- the kept paths are the first twelve -/
def x_cache (G : Nat → Nat) (F : Nat → Nat → Nat) : Prop := ∃ K, ye_first (ye_lt (F 0)) (ye_path (F 0) (G 13) (G 1) (G 2)) 12 K ∧ ye_rep (F 0) (F 5) (F 6) (F 7) K ∧ G 4 = K.length
/-- what holds of the object between calls -/
def x_I (G : Nat → Nat) (F : Nat → Nat → Nat) : Prop := (∀ j, j < 49 → F 0 j ≤ 50) ∧ G 1 < 7 ∧ G 2 < 7 ∧ G 1 ≠ G 2 ∧ G 13 = 4294967295 ∧ (G 3 = 0 ∨ (G 3 = 1 ∧ x_cache G F))
theorem ye_cand_path {w : Nat → Nat} {ca s t cl bar : Nat} {q : List Nat} (hs : s < 7) (hc : ye_cand w ca cl t s bar (s :: q)) (hn : (s :: q).Nodup) : ye_path w ca s t (s :: q) := by
  obtain ⟨v, r, e, c1, c2, c3, c4⟩ := hc
  have e2 : q = v :: r := by simpa using e
  subst e2
  refine ⟨hn, ?_, rfl, ?_, ⟨c1, c2⟩, c4.2.2.1⟩
  · intro x hx
    rcases List.mem_cons.mp hx with z | z
    · rw [z]; exact hs
    · exact (c4.2.2.2 x z).1
  · rw [List.getLast?_cons_cons]
    exact c4.2.1
theorem ye_path_cand {w : Nat → Nat} {ca s t : Nat} {q : List Nat} (hst : s ≠ t) (hp : ye_path w ca s t q) : ye_cand w ca 0 t s 0 q := by
  have h2 := ye_path_two hst hp
  match q, hp, h2 with
  | [], _, h2 => simp at h2
  | [a], _, h2 => simp at h2
  | a :: v :: r, hp, _ =>
    have e : a = s := by simpa using hp.2.2.1
    subst e
    exact ye_spur_cand (x := []) hp (fun z _ hb => by rw [Nat.zero_testBit] at hb; cases hb) (Nat.zero_testBit v)
theorem x_branchOffW (l : Launch) (D : va_G) (o : Nat) (ad : Nat → Nat) (dA : Nat → ClassId) (G : Nat → Nat) (F : Nat → Nat → Nat) (k : Nat) (P : List Nat) (K Cs : List (List Nat)) (w : Nat → Nat) (ca s t : Nat) (e0 : F 0 = w) (e13 : G 13 = ca) (e1 : G 1 = s) (e2 : G 2 = t) (hst : s ≠ t) (hw : ∀ j, j < 49 → w j ≤ 50) (hca : ca < 4294967296) (ht : t < 7)
    (hK : ∀ q ∈ K, ye_path w ca s t q) (hrK : ye_rep w (F 5) (F 6) (F 7) K) (hn : G 4 = K.length) (hn12 : K.length ≤ 12) (hP : K[k]? = some P) (h8 : G 8 = Cs.length) (hrC : ye_rep w (F 9) (F 10) (F 11) Cs) (hC72 : Cs.length + 6 ≤ 72) (hCn : Cs.Nodup) (hCp : ∀ q ∈ Cs, ye_path w ca s t q ∧ q ∉ K) :
    xMv l yX0_branchOff cX0_branchOff 8 rX0_branchOff D o ad dA G F [nI k] (fun G' F' => x_frG G G' ∧ x_frF F F' ∧ ∃ C' : List (List Nat), G' 8 = C'.length ∧ ye_rep w (F' 9) (F' 10) (F' 11) C' ∧ ye_bo w ca s t K Cs P (P.length - 1) C') := by
  subst e0 e13 e1 e2
  exact x_branchOff l D o ad dA G F k P K Cs hst hw hca ht hK hrK hn hn12 hP h8 hrC hC72 hCn hCp
section Y25
variable {p : Program} {l : Launch} {e : Env} {R : Room} {s : State} {m : MethodId} {args : Array Value} {below : List Frame} {meth : Method} {c : Code} {Q : State → Prop} {D : va_G} {A : Nat → Prop} {o : Nat} {ad : Nat → Nat} {dA : Nat → ClassId} {G : Nat → Nat} {F : Nat → Nat → Nat}
theorem x_fp1 {w : Nat → Nat} {ca vs vt : Nat} (C : ky_C p s m args c cX0_findPaths 3 RX0 D (xT dA)) (hA : ∀ q : Nat, s.heap.size ≤ q → A q) (hR : 3 ≤ R.frames ∧ 79 ≤ R.locals) (hw : ∀ j, j < 49 → w j ≤ 50) (hca : ca < 4294967296) (ht : vt < 7) (hst : vs ≠ vt)
    (kk : ∀ (pc : Nat) (G : Nat → Nat) (F : Nat → Nat → Nat) (K : List (List Nat)), pc = 88 ∨ pc = 169 → F 0 = w → G 13 = ca → G 1 = vs → G 2 = vt → G 3 = 1 → ye_first (ye_lt w) (ye_path w ca vs vt) 12 K → ye_rep w (F 5) (F 6) (F 7) K → G 4 = K.length → ky_At p l e R s m args below meth c 0 0 Q D A 3 (xW o ad dA G F) pc [some (.ref o), none, none] []) :
    ∀ (n : Nat) (K Cs : List (List Nat)) (P : List Nat) (G : Nat → Nat) (F : Nat → Nat → Nat), K.length + n = 12 → F 0 = w → G 13 = ca → G 1 = vs → G 2 = vt → G 3 = 1 → ye_inv w ca vs vt K Cs P → K[K.length - 1]? = some P → ye_rep w (F 5) (F 6) (F 7) K → ye_rep w (F 9) (F 10) (F 11) Cs → G 4 = K.length → G 8 = Cs.length → Cs.length + 6 ≤ 6 * K.length →
    ky_At p l e R s m args below meth c 0 0 Q D A 3 (xW o ad dA G F) 60 [some (.ref o), none, none] [] := by
  have hRb : rX0_branchOff.frames + 1 ≤ R.frames ∧ 8 + (8 + 11) + rX0_branchOff.locals ≤ R.locals := ⟨by show 3 ≤ R.frames; omega, by show 79 ≤ R.locals; omega⟩
  have hRc : rX0_bestCandidate.frames + 1 ≤ R.frames ∧ 8 + (4 + 11) + rX0_bestCandidate.locals ≤ R.locals := ⟨by show 1 ≤ R.frames; omega, by show 23 ≤ R.locals; omega⟩
  have hRk : rX0_keep.frames + 1 ≤ R.frames ∧ 8 + (4 + 11) + rX0_keep.locals ≤ R.locals := ⟨by show 1 ≤ R.frames; omega, by show 23 ≤ R.locals; omega⟩
  intro n
  induction n with
  | zero =>
    intro K Cs P G F hn e0 e13 e1 e2 e3 hinv hlast hrK hrC h4 h8 hlen
    refine ky_aload_n (pc := 60) C dX0_findPaths_60 rfl ?_
    refine x_g4 (pc := 61) C dX0_findPaths_61 rfl ?_
    refine ky_bipush (pc := 64) C 12 dX0_findPaths_64 (by decide) ?_
    refine ky_icmp_ge (pc := 66) (tgt := 169) C dX0_findPaths_66 (by decide) (by omega) (by omega) (fun h_66 => ?_) (fun h_66 => ?_)
    · exact kk 169 G F K (Or.inr rfl) e0 e13 e1 e2 e3 (ye_inv_full hinv (by omega)) hrK h4
    · omega
  | succ n ih =>
    intro K Cs P G F hn e0 e13 e1 e2 e3 hinv hlast hrK hrC h4 h8 hlen
    have hPl := ye_path_len (hinv.2.1 P hinv.2.2.2.2.2.1)
    have hK1 : 1 ≤ K.length := by
      have := (List.getElem?_eq_some_iff.mp hlast).1
      omega
    refine ky_aload_n (pc := 60) C dX0_findPaths_60 rfl ?_
    refine x_g4 (pc := 61) C dX0_findPaths_61 rfl ?_
    refine ky_bipush (pc := 64) C 12 dX0_findPaths_64 (by decide) ?_
    refine ky_icmp_ge (pc := 66) (tgt := 169) C dX0_findPaths_66 (by decide) (by omega) (by omega) (fun h_66 => ?_) (fun h_66 => ?_)
    · omega
    · refine ky_aload_n (pc := 69) C dX0_findPaths_69 rfl ?_
      refine ky_aload_n (pc := 70) C dX0_findPaths_70 rfl ?_
      refine x_g4 (pc := 71) C dX0_findPaths_71 (v := K.length) h4 ?_
      refine ky_iconst (pc := 74) C 1 dX0_findPaths_74 (by decide) ?_
      refine ky_isub (pc := 75) C dX0_findPaths_75 (by omega) ?_
      refine x_cv (pc := 76) C hA (x_branchOffW l D o ad dA G F (K.length - 1) P K Cs w ca vs vt e0 e13 e1 e2 hst hw hca ht hinv.2.1 hrK h4 (by omega) hlast h8 hrC (by omega) hinv.2.2.2.1 hinv.2.2.2.2.1) (cwV 1 C.2.2.2.2.1 (lw_V q133 q135 qs7 q24 q136) rfl rfl rfl (by decide +kernel) hRb) rfl rfl (Nat.le_of_ble_eq_true rfl) dX0_findPaths_76 (fun G1 F1 hv => ?_)
      obtain ⟨fG, fF, C1, g8, hrC1, hbo⟩ := hv
      have f0 : F1 0 = w := by rw [fF 0 (by decide) (by decide) (by decide) (by decide) (by decide)]; exact e0
      have f5 : F1 5 = F 5 := fF 5 (by decide) (by decide) (by decide) (by decide) (by decide)
      have f6 : F1 6 = F 6 := fF 6 (by decide) (by decide) (by decide) (by decide) (by decide)
      have f7 : F1 7 = F 7 := fF 7 (by decide) (by decide) (by decide) (by decide) (by decide)
      have g1 : G1 1 = vs := by rw [fG 1 (by decide) (by decide) (by decide)]; exact e1
      have g2 : G1 2 = vt := by rw [fG 2 (by decide) (by decide) (by decide)]; exact e2
      have g3 : G1 3 = 1 := by rw [fG 3 (by decide) (by decide) (by decide)]; exact e3
      have g4 : G1 4 = K.length := by rw [fG 4 (by decide) (by decide) (by decide)]; exact h4
      have g13 : G1 13 = ca := by rw [fG 13 (by decide) (by decide) (by decide)]; exact e13
      have hrK1 : ye_rep w (F1 5) (F1 6) (F1 7) K := by rw [f5, f6, f7]; exact hrK
      obtain ⟨b1, b2, b3, b4, b5⟩ := hbo
      have hbnd : ∀ x, x < G1 8 → F1 9 x < 2147483648 ∧ F1 10 x < 2147483648 := by
        intro x hx
        obtain ⟨q, q1, q2, q3, q4, q5⟩ := ye_rep_get hrC1 (by omega : x < C1.length)
        have := ye_path_bound hw (b3 q q1).1
        omega
      have hsrv : ∀ n, 1 ≤ n → n < P.length → ye_srv w ca vs vt K C1 P n := fun n a1 a2 => b5 n a1 (by omega)
      refine ky_aload_n (pc := 79) C dX0_findPaths_79 rfl ?_
      refine x_ci (pc := 80) C hA (x_bestCandidate l D o ad dA G1 F1 (by omega) hbnd) (cwV 0 C.2.2.2.2.1 (lw_V q149 q151 qs11 q24 q152) rfl rfl rfl (by decide +kernel) hRc) rfl rfl (Nat.le_of_ble_eq_true rfl) dX0_findPaths_80 (fun b G' F' hv => ?_)
      obtain ⟨hb, eG, eF⟩ := hv
      rw [eG, eF]
      clear eG eF
      have hbb : b < 4294967296 := by rcases hb with ⟨-, h⟩ | ⟨h, -⟩ <;> omega
      refine ky_istore_n (pc := 83) C dX0_findPaths_83 (by decide) ?_
      refine ky_iload_n (pc := 84) C dX0_findPaths_84 rfl ?_
      refine ky_if_ge (pc := 85) (tgt := 89) C dX0_findPaths_85 (by decide) (by omega) (fun h_85 => ?_) (fun h_85 => ?_)
      · rcases hb with ⟨-, hb2⟩ | ⟨hb1, hb2⟩
        · omega
        have hbl : b < C1.length := by omega
        obtain ⟨x, x1, x2, x3, x4, x5⟩ := ye_rep_get hrC1 hbl
        have hxb := ye_path_bound hw (b3 x x1).1
        have hmin := ye_bst_lt (fun q hq => (b3 q hq).1) hrC1 (fun i hi => hb2 i (by omega)) x2
        obtain ⟨C2, c1, c2, c3, c4⟩ := ye_out b2 x2
        have hinv2 := ye_inv_next hst hinv b1 b3 hsrv x1 hmin c2 c3
        refine ky_aload_n (pc := 89) C dX0_findPaths_89 rfl ?_
        refine ky_aload_n (pc := 90) C dX0_findPaths_90 rfl ?_
        refine x_g9 (pc := 91) C dX0_findPaths_91 ?_
        refine ky_iload_n (pc := 94) C dX0_findPaths_94 rfl ?_
        refine x_l9 (pc := 95) C dX0_findPaths_95 (v := ye_code x) (by omega) x3 ?_
        refine ky_aload_n (pc := 96) C dX0_findPaths_96 rfl ?_
        refine x_g10 (pc := 97) C dX0_findPaths_97 ?_
        refine ky_iload_n (pc := 100) C dX0_findPaths_100 rfl ?_
        refine x_l10 (pc := 101) C dX0_findPaths_101 (v := ye_len w x) (by omega) x4 ?_
        refine ky_aload_n (pc := 102) C dX0_findPaths_102 rfl ?_
        refine x_g11 (pc := 103) C dX0_findPaths_103 ?_
        refine ky_iload_n (pc := 106) C dX0_findPaths_106 rfl ?_
        refine x_l11 (pc := 107) C dX0_findPaths_107 (v := x.length) (by omega) x5 ?_
        refine x_cv (pc := 108) C hA (x_keep l D o ad dA G1 F1 (ye_code x) (ye_len w x) x.length (by omega)) (cwV 3 C.2.2.2.2.1 (lw_V q129 q131 qs6 q24 q132) rfl rfl rfl (by decide +kernel) hRk) rfl rfl (Nat.le_of_ble_eq_true rfl) dX0_findPaths_108 (fun G' F' hv => ?_)
        obtain ⟨rfl, rfl⟩ := hv
        have hl1 : (K ++ [x]).length = K.length + 1 := by rw [List.length_append]; rfl
        refine ky_aload_n (pc := 111) C dX0_findPaths_111 rfl ?_
        refine ky_dup (pc := 112) C dX0_findPaths_112 rfl ?_
        refine x_g8 (pc := 113) C dX0_findPaths_113 (v := C1.length) g8 ?_
        refine ky_iconst (pc := 116) C 1 dX0_findPaths_116 (by decide) ?_
        refine ky_isub (pc := 117) C dX0_findPaths_117 (by omega) ?_
        refine x_p8 (pc := 118) C dX0_findPaths_118 ?_
        refine ky_aload_n (pc := 121) C dX0_findPaths_121 rfl ?_
        refine x_g9 (pc := 122) C dX0_findPaths_122 ?_
        refine ky_iload_n (pc := 125) C dX0_findPaths_125 rfl ?_
        refine ky_aload_n (pc := 126) C dX0_findPaths_126 rfl ?_
        refine x_g9 (pc := 127) C dX0_findPaths_127 ?_
        refine ky_aload_n (pc := 130) C dX0_findPaths_130 rfl ?_
        refine x_g8 (pc := 131) C dX0_findPaths_131 (v := C1.length - 1) rfl ?_
        refine x_l9 (pc := 134) C dX0_findPaths_134 (v := F1 9 (C1.length - 1)) (by omega) rfl ?_
        refine x_s9 (pc := 135) C dX0_findPaths_135 (by omega) ?_
        refine ky_aload_n (pc := 136) C dX0_findPaths_136 rfl ?_
        refine x_g10 (pc := 137) C dX0_findPaths_137 ?_
        refine ky_iload_n (pc := 140) C dX0_findPaths_140 rfl ?_
        refine ky_aload_n (pc := 141) C dX0_findPaths_141 rfl ?_
        refine x_g10 (pc := 142) C dX0_findPaths_142 ?_
        refine ky_aload_n (pc := 145) C dX0_findPaths_145 rfl ?_
        refine x_g8 (pc := 146) C dX0_findPaths_146 (v := C1.length - 1) rfl ?_
        refine x_l10 (pc := 149) C dX0_findPaths_149 (v := F1 10 (C1.length - 1)) (by omega) rfl ?_
        refine x_s10 (pc := 150) C dX0_findPaths_150 (by omega) ?_
        refine ky_aload_n (pc := 151) C dX0_findPaths_151 rfl ?_
        refine x_g11 (pc := 152) C dX0_findPaths_152 ?_
        refine ky_iload_n (pc := 155) C dX0_findPaths_155 rfl ?_
        refine ky_aload_n (pc := 156) C dX0_findPaths_156 rfl ?_
        refine x_g11 (pc := 157) C dX0_findPaths_157 ?_
        refine ky_aload_n (pc := 160) C dX0_findPaths_160 rfl ?_
        refine x_g8 (pc := 161) C dX0_findPaths_161 (v := C1.length - 1) rfl ?_
        refine x_l11 (pc := 164) C dX0_findPaths_164 (v := F1 11 (C1.length - 1)) (by omega) rfl ?_
        refine x_s11 (pc := 165) C dX0_findPaths_165 (by omega) ?_
        refine ky_goto (pc := 166) (tgt := 60) C dX0_findPaths_166 (by decide) ?_
        refine ky_forget 2 ?_
        refine ih (K ++ [x]) C2 x _ _ (by omega) f0 g13 g1 g2 g3 hinv2 ?_ ?_ ?_ ?_ ?_ (by omega)
        · rw [hl1, Nat.add_sub_cancel, List.getElem?_append_right (Nat.le_refl _), Nat.sub_self]
          rfl
        · exact ye_rep_push hrK1 g4 rfl rfl rfl
        · intro k q hq
          have h1 := hrC1 _ q (c4 k q hq)
          show va_up (F1 9) b (F1 9 (C1.length - 1)) k = _ ∧ va_up (F1 10) b (F1 10 (C1.length - 1)) k = _ ∧ va_up (F1 11) b (F1 11 (C1.length - 1)) k = _
          unfold va_up
          split
          · rename_i hkb
            rw [if_pos hkb] at h1
            exact h1
          · rename_i hkb
            rw [if_neg hkb] at h1
            exact h1
        · show G1 4 + 1 = _
          rw [g4, hl1]
        · show C1.length - 1 = _
          omega
      · rcases hb with ⟨hb1, hb2⟩ | ⟨hb1, hb2⟩
        · have hC1 : C1 = [] := List.eq_nil_of_length_eq_zero (by omega)
          refine ky_forget 2 ?_
          exact kk 88 G1 F1 K (Or.inl rfl) f0 g13 g1 g2 g3 (ye_inv_end hst hinv b1 hsrv hC1 (by omega)) hrK1 g4
        · omega
/-- findPaths(): afterwards the kept paths are the first twelve -/
theorem x_findPaths (l : Launch) (D : va_G) (o : Nat) (ad : Nat → Nat) (dA : Nat → ClassId) (G : Nat → Nat) (F : Nat → Nat → Nat) (hI : x_I G F) : xMv l yX0_findPaths cX0_findPaths 3 rX0_findPaths D o ad dA G F [] (fun G' F' => x_I G' F' ∧ x_cache G' F' ∧ F' 0 = F 0 ∧ G' 1 = G 1 ∧ G' 2 = G 2) := by
  refine xMv.intro (L := [some (.ref o), none, none]) (by decide) rfl (Nat.le_of_ble_eq_true rfl) rfl ?_
  intro p e s m args below meth c A C hr hlocks hA
  obtain ⟨hw, h1, h2, hst, h13, h3⟩ := hI
  have hfin : ∀ (G' : Nat → Nat) (F' : Nat → Nat → Nat) (K : List (List Nat)), F' 0 = F 0 → G' 13 = G 13 → G' 1 = G 1 → G' 2 = G 2 → G' 3 = 1 → ye_first (ye_lt (F 0)) (ye_path (F 0) (G 13) (G 1) (G 2)) 12 K → ye_rep (F 0) (F' 5) (F' 6) (F' 7) K → G' 4 = K.length → x_I G' F' ∧ x_cache G' F' ∧ F' 0 = F 0 ∧ G' 1 = G 1 ∧ G' 2 = G 2 := by
    intro G' F' K a0 a13 a1 a2 a3 a4 a5 a6
    have hc : x_cache G' F' := ⟨K, by rw [a0, a13, a1, a2]; exact a4, by rw [a0]; exact a5, a6⟩
    exact ⟨⟨by rw [a0]; exact hw, by rw [a1]; exact h1, by rw [a2]; exact h2, by rw [a1, a2]; exact hst, by rw [a13]; exact h13, Or.inr ⟨a3, hc⟩⟩, hc, a0, a1, a2⟩
  have h3b : G 3 < 4294967296 := by rcases h3 with h | ⟨h, -⟩ <;> omega
  refine ky_aload_n (pc := 0) C dX0_findPaths_0 rfl ?_
  refine x_g3 (pc := 1) C dX0_findPaths_1 rfl ?_
  refine ky_if_eq (pc := 4) (tgt := 8) C dX0_findPaths_4 (by decide) (by omega) (fun h_4 => ?_) (fun h_4 => ?_)
  · refine ky_aload_n (pc := 8) C dX0_findPaths_8 rfl ?_
    refine ky_iconst (pc := 9) C 1 dX0_findPaths_9 (by decide) ?_
    refine x_p3 (pc := 10) C dX0_findPaths_10 rfl rfl ?_
    refine ky_aload_n (pc := 13) C dX0_findPaths_13 rfl ?_
    refine ky_iconst (pc := 14) C 0 dX0_findPaths_14 (by decide) ?_
    refine x_p4 (pc := 15) C dX0_findPaths_15 ?_
    refine ky_aload_n (pc := 18) C dX0_findPaths_18 rfl ?_
    refine ky_iconst (pc := 19) C 0 dX0_findPaths_19 (by decide) ?_
    refine x_p8 (pc := 20) C dX0_findPaths_20 ?_
    refine ky_aload_n (pc := 23) C dX0_findPaths_23 rfl ?_
    refine ky_iconst (pc := 24) C 0 dX0_findPaths_24 (by decide) ?_
    refine x_p15 (pc := 25) C dX0_findPaths_25 ?_
    refine ky_aload_n (pc := 28) C dX0_findPaths_28 rfl ?_
    refine ky_aload_n (pc := 29) C dX0_findPaths_29 rfl ?_
    refine x_g1 (pc := 30) C dX0_findPaths_30 rfl ?_
    refine ky_iconst (pc := 33) C 0 dX0_findPaths_33 (by decide) ?_
    refine ky_iconst (pc := 34) C 0 dX0_findPaths_34 (by decide) ?_
    refine x_ci (pc := 35) C hA (x_goOnW l D o ad dA _ _ (G 1) 0 0 [] (F 0) (G 13) (G 2) rfl rfl rfl hw (by omega) h1 h2 hst (by decide) (Nat.zero_testBit _) (by decide) (by simp) (fun x hx => by cases hx) (fun x hx => by cases hx) (by simp) rfl (fun i hi => absurd hi (by simp))) (cwV 3 C.2.2.2.2.1 (lw_V q112 q114 qs2 q24 q115) rfl rfl rfl (by decide +kernel) ⟨Nat.le_of_ble_eq_true rfl, Nat.le_of_ble_eq_true rfl⟩) rfl rfl (Nat.le_of_ble_eq_true rfl) dX0_findPaths_35 (fun r G' F' hv => ?_)
    rcases hv with ⟨rfl, hno, rfl, d, rfl⟩ | ⟨rfl, q, d, wy2, hc, hqn, hmin, hql, hq7, rfl, rfl, hwy2⟩
    · refine ky_if_ne (pc := 38) (tgt := 42) C dX0_findPaths_38 (by decide) (by omega) (fun h_38 => ?_) (fun h_38 => ?_)
      · exact absurd rfl h_38
      · refine x_vret C hr hlocks dX0_findPaths_41 (hfin _ _ [] rfl rfl rfl rfl rfl ?_ ?_ rfl)
        · exact ⟨List.Pairwise.nil, fun p hp => (by cases hp), by simp, fun q hq _ => absurd (ye_path_cand hst hq) (hno q)⟩
        · intro k p hp
          simp at hp
    · rw [List.nil_append] at hql hq7 hwy2
      have hP : ye_path (F 0) (G 13) (G 1) (G 2) (G 1 :: q) := ye_cand_path h1 hc hqn
      have hinv := ye_inv_start hP (fun q' hq' => hmin q' (ye_path_cand hst hq'))
      refine ky_if_ne (pc := 38) (tgt := 42) C dX0_findPaths_38 (by decide) (by omega) (fun h_38 => ?_) (fun h_38 => ?_)
      · refine ky_aload_n (pc := 42) C dX0_findPaths_42 rfl ?_
        refine x_ci (pc := 43) C hA (x_codeOfWay l D o ad dA _ _ (G 1 :: q) hq7 hql rfl hwy2) (cwV 0 C.2.2.2.2.1 (lw_V q125 q127 qs5 q24 q128) rfl rfl rfl (by decide +kernel) ⟨Nat.le_of_ble_eq_true rfl, Nat.le_of_ble_eq_true rfl⟩) rfl rfl (Nat.le_of_ble_eq_true rfl) dX0_findPaths_43 (fun v G' F' hv => ?_)
        obtain ⟨rfl, rfl, rfl⟩ := hv
        refine ky_istore_n (pc := 46) C dX0_findPaths_46 (by decide) ?_
        refine ky_aload_n (pc := 47) C dX0_findPaths_47 rfl ?_
        refine ky_iload_n (pc := 48) C dX0_findPaths_48 rfl ?_
        refine ky_aload_n (pc := 49) C dX0_findPaths_49 rfl ?_
        refine x_g16 (pc := 50) C dX0_findPaths_50 (v := ye_len (F 0) (G 1 :: q)) rfl ?_
        refine ky_aload_n (pc := 53) C dX0_findPaths_53 rfl ?_
        refine x_g15 (pc := 54) C dX0_findPaths_54 (v := (G 1 :: q).length) rfl ?_
        refine x_cv (pc := 57) C hA (x_keep l D o ad dA _ _ (ye_code (G 1 :: q)) (ye_len (F 0) (G 1 :: q)) (G 1 :: q).length (Nat.le_of_ble_eq_true rfl)) (cwV 3 C.2.2.2.2.1 (lw_V q129 q131 qs6 q24 q132) rfl rfl rfl (by decide +kernel) ⟨Nat.le_of_ble_eq_true rfl, Nat.le_of_ble_eq_true rfl⟩) rfl rfl (Nat.le_of_ble_eq_true rfl) dX0_findPaths_57 (fun G' F' hv => ?_)
        obtain ⟨rfl, rfl⟩ := hv
        refine ky_forget 1 ?_
        refine x_fp1 (w := F 0) (ca := G 13) (vs := G 1) (vt := G 2) C hA (by decide) hw (by omega) h2 hst (fun pc G' F' K hpc a0 a13 a1 a2 a3 a4 a5 a6 => ?_) 11 [G 1 :: q] [] (G 1 :: q) _ _ rfl rfl rfl rfl rfl rfl hinv rfl ?_ ?_ rfl rfl (Nat.le_of_ble_eq_true rfl)
        · rcases hpc with rfl | rfl
          · exact x_vret C hr hlocks dX0_findPaths_88 (hfin G' F' K a0 a13 a1 a2 a3 a4 a5 a6)
          · exact x_vret C hr hlocks dX0_findPaths_169 (hfin G' F' K a0 a13 a1 a2 a3 a4 a5 a6)
        · intro k p hp
          cases k with
          | zero =>
            have e : G 1 :: q = p := by simpa using hp
            rw [← e]
            exact ⟨rfl, rfl, rfl⟩
          | succ k => simp at hp
        · intro k p hp
          simp at hp
      · exact absurd h_38 (by decide)
  · rcases h3 with h3 | ⟨h3, K, k1, k2, k3⟩
    · exact absurd h3 h_4
    · exact x_vret C hr hlocks dX0_findPaths_7 (hfin G F K rfl rfl rfl rfl h3 k1 k2 k3)
end Y25
end
section
/-! PURE: the answers -/
/-- the first twelve paths -/
def ye_K (w : Nat → Nat) (s t : Nat) (K : List (List Nat)) : Prop := ye_first (ye_lt w) (ye_path w 4294967295 s t) 12 K
theorem ye_K_one {w : Nat → Nat} {s t : Nat} {K K' : List (List Nat)} (h : ye_K w s t K) (h' : ye_K w s t K') : K = K' := ye_first_one (fun _ _ => ye_lt_asym) K K' _ _ h h'
theorem ye_has_iff {u v : Nat} : ∀ (p : List Nat), ye_has u v p = true ↔ ∃ i, i + 1 < p.length ∧ ye_dg p i = u ∧ ye_dg p (i + 1) = v
  | [] => by simp [ye_has]
  | [a] => by simp [ye_has]
  | a :: b :: r => by
    have ih := ye_has_iff (u := u) (v := v) (b :: r)
    unfold ye_has
    rw [Bool.or_eq_true, Bool.and_eq_true, beq_iff_eq, beq_iff_eq, ih]
    constructor
    · rintro (⟨h1, h2⟩ | ⟨i, i1, i2, i3⟩)
      · exact ⟨0, by simp, h1, h2⟩
      · exact ⟨i + 1, by simp at i1 ⊢; omega, i2, i3⟩
    · rintro ⟨i, i1, i2, i3⟩
      cases i with
      | zero => exact Or.inl ⟨i2, i3⟩
      | succ i => exact Or.inr ⟨i, by simp at i1 ⊢; omega, i2, i3⟩
/-- how often the arc stands before place n -/
def ye_hc (u v : Nat) (p : List Nat) : Nat → Nat
  | 0 => 0
  | n + 1 => ye_hc u v p n + (if ye_dg p n = u ∧ ye_dg p (n + 1) = v then 1 else 0)
theorem ye_hc_0 {u v : Nat} {p : List Nat} : ∀ n, (∀ i, i < n → ¬ (ye_dg p i = u ∧ ye_dg p (i + 1) = v)) → ye_hc u v p n = 0
  | 0 => fun _ => rfl
  | n + 1 => fun h => by
    show ye_hc u v p n + _ = 0
    rw [ye_hc_0 n (fun i hi => h i (by omega)), if_neg (h n (by omega))]
theorem ye_hc_1 {u v : Nat} {p : List Nat} {i : Nat} (hi : ye_dg p i = u ∧ ye_dg p (i + 1) = v) : ∀ n, i < n → (∀ j, j < n → j ≠ i → ¬ (ye_dg p j = u ∧ ye_dg p (j + 1) = v)) → ye_hc u v p n = 1
  | 0 => fun h => absurd h (by omega)
  | n + 1 => fun h hu => by
    show ye_hc u v p n + _ = 1
    by_cases e : n = i
    · subst e
      rw [ye_hc_0 n (fun j hj => hu j (by omega) (by omega)), if_pos hi]
    · rw [ye_hc_1 hi n (by omega) (fun j hj => hu j (by omega)), if_neg (hu n (by omega) e)]
theorem ye_hc_has {u v : Nat} {p : List Nat} (hn : p.Nodup) : ye_hc u v p (p.length - 1) = if ye_has u v p = true then 1 else 0 := by
  by_cases h : ye_has u v p = true
  · rw [if_pos h]
    obtain ⟨i, i1, i2, i3⟩ := (ye_has_iff p).mp h
    refine ye_hc_1 ⟨i2, i3⟩ _ (by omega) (fun j hj hne hx => ?_)
    have h1 : p[i]? = some u := by rw [ye_dg_of (by omega), i2]
    have h2 : p[j]? = some u := by rw [ye_dg_of (by omega), hx.1]
    exact hne ((List.getElem?_inj (i := i) (j := j) (by omega) hn).mp (by rw [h1, h2])).symm
  · rw [if_neg h]
    refine ye_hc_0 _ (fun i hi hx => h ((ye_has_iff p).mpr ⟨i, by omega, hx⟩))
theorem ye_count_next {K : List (List Nat)} {f : List Nat → Bool} {k : Nat} {p : List Nat} (hk : K[k]? = some p) : (K.take (k + 1)).countP f = (K.take k).countP f + (if f p = true then 1 else 0) := by
  rw [List.take_add_one, hk, List.countP_append]
  congr 1
  show [p].countP f = _
  rw [List.countP_cons]
  simp
/-- closing an arc is the same as keeping off it -/
theorem ye_wk_has {w : Nat → Nat} {u v : Nat} (hu : u < 7) (hv : v < 7) : ∀ (p : List Nat), (∀ x ∈ p, x < 7) → (ye_wk w (7 * u + v) p ↔ ye_wk w 4294967295 p ∧ ye_has u v p = false)
  | [] => fun _ => by simp [ye_wk, ye_has]
  | [_] => fun _ => by simp [ye_wk, ye_has]
  | a :: b :: r => fun h => by
    have ih := ye_wk_has (w := w) hu hv (b :: r) (fun x hx => h x (List.mem_cons_of_mem _ hx))
    have ha := h a List.mem_cons_self
    have hb := h b (List.mem_cons_of_mem _ List.mem_cons_self)
    show ((w (7 * a + b) ≠ 0 ∧ 7 * a + b ≠ 7 * u + v) ∧ ye_wk w (7 * u + v) (b :: r)) ↔ ((w (7 * a + b) ≠ 0 ∧ 7 * a + b ≠ 4294967295) ∧ ye_wk w 4294967295 (b :: r)) ∧ ((a == u && b == v) || ye_has u v (b :: r)) = false
    rw [ih, Bool.or_eq_false_iff, Bool.and_eq_false_iff, beq_eq_false_iff_ne, beq_eq_false_iff_ne]
    constructor
    · rintro ⟨⟨h1, h2⟩, h3, h4⟩
      refine ⟨⟨⟨h1, by omega⟩, h3⟩, ?_, h4⟩
      by_cases e : a = u
      · right
        intro e2
        exact h2 (by rw [e, e2])
      · exact Or.inl e
    · rintro ⟨⟨⟨h1, h2⟩, h3⟩, h4, h5⟩
      refine ⟨⟨h1, fun e => ?_⟩, h3, h5⟩
      rcases h4 with h4 | h4
      · exact h4 (by omega)
      · exact h4 (by omega)
theorem ye_path_has {w : Nat → Nat} {u v s t : Nat} {p : List Nat} (hu : u < 7) (hv : v < 7) : ye_path w (7 * u + v) s t p ↔ ye_path w 4294967295 s t p ∧ ye_has u v p = false := by
  constructor
  · rintro ⟨p1, p2, p3, p4, p5⟩
    have h := (ye_wk_has hu hv p p2).mp p5
    exact ⟨⟨p1, p2, p3, p4, h.1⟩, h.2⟩
  · rintro ⟨⟨p1, p2, p3, p4, p5⟩, h⟩
    exact ⟨p1, p2, p3, p4, (ye_wk_has hu hv p p2).mpr ⟨p5, h⟩⟩
/-- keeping off a vertex -/
theorem ye_path_off {w : Nat → Nat} {ca s t x : Nat} {q : List Nat} (hst : s ≠ t) (hp : ye_path w ca s t q) (hx : x ∉ q) : ye_cand w ca (1 * 2 ^ x) t s 0 q := by
  have h2 := ye_path_two hst hp
  match q, hp, h2, hx with
  | [], _, h2, _ => simp at h2
  | [a], _, h2, _ => simp at h2
  | a :: v :: r, hp, _, hx =>
    have e : a = s := by simpa using hp.2.2.1
    subst e
    have h3 := ye_spur_cand (cl := 0) (bar := 0) (x := []) hp (fun z _ hb => by rw [Nat.zero_testBit] at hb; cases hb) (Nat.zero_testBit v)
    obtain ⟨v', r', e', c1, c2, c3, c4⟩ := h3
    refine ⟨v', r', e', c1, c2, c3, c4.1, c4.2.1, c4.2.2.1, fun z hz => ⟨(c4.2.2.2 z hz).1, ?_⟩⟩
    have h4 := (c4.2.2.2 z hz).2
    rw [Nat.zero_or] at h4
    rw [Nat.one_mul, Nat.testBit_or, h4, Nat.testBit_two_pow]
    have : x ≠ z := fun e2 => hx (by
      rw [e2]
      have e3 : v :: r = v' :: r' := by simpa using e'
      rw [e3]
      exact List.mem_cons_of_mem _ hz)
    simp [this]
theorem ye_off_path {w : Nat → Nat} {ca s t x : Nat} {q : List Nat} (hs : s < 7) (hxs : x ≠ s) (hc : ye_cand w ca (1 * 2 ^ x) t s 0 (s :: q)) (hn : (s :: q).Nodup) : ye_path w ca s t (s :: q) ∧ x ∉ s :: q := by
  refine ⟨ye_cand_path hs hc hn, fun hm => ?_⟩
  obtain ⟨v, r, e, c1, c2, c3, c4⟩ := hc
  have e2 : q = v :: r := by simpa using e
  subst e2
  rcases List.mem_cons.mp hm with z | z
  · exact hxs z
  · have h4 := (c4.2.2.2 x z).2
    rw [Nat.one_mul, Nat.testBit_or, Nat.testBit_two_pow] at h4
    simp at h4
theorem ye_path_ends {w : Nat → Nat} {ca s t : Nat} {q : List Nat} (hp : ye_path w ca s t q) : s ∈ q ∧ t ∈ q := by
  obtain ⟨-, -, h1, h2, -⟩ := hp
  exact ⟨List.mem_of_head? h1, List.mem_of_getLast? h2⟩
/-- the set that unavoidable gathers -/
def ye_un (w : Nat → Nat) (s t n x : Nat) : Prop := x < 128 ∧ ∀ v, v < 7 → (x.testBit v = true ↔ v = s ∨ v = t ∨ (v < n ∧ ∀ q, ye_path w 4294967295 s t q → v ∈ q))
theorem ye_un_0 {w : Nat → Nat} {s t : Nat} (hs : s < 7) (ht : t < 7) : ye_un w s t 0 (1 * 2 ^ s ||| 1 * 2 ^ t) := by
  refine ⟨?_, fun v hv => ?_⟩
  · have h1 : 2 ^ s < 2 ^ 7 := Nat.pow_lt_pow_right (by decide) hs
    have h2 : 2 ^ t < 2 ^ 7 := Nat.pow_lt_pow_right (by decide) ht
    have h3 : 1 * 2 ^ s ||| 1 * 2 ^ t < 2 ^ 7 := Nat.or_lt_two_pow (by omega) (by omega)
    omega
  · rw [Nat.one_mul, Nat.one_mul, Nat.testBit_or, Bool.or_eq_true, Nat.testBit_two_pow, Nat.testBit_two_pow, decide_eq_true_iff, decide_eq_true_iff]
    constructor
    · rintro (h | h)
      · exact Or.inl h.symm
      · exact Or.inr (Or.inl h.symm)
    · rintro (h | h | ⟨h, -⟩)
      · exact Or.inl h.symm
      · exact Or.inr h.symm
      · omega
theorem ye_un_skip {w : Nat → Nat} {s t n x : Nat} (h : ye_un w s t n x) (hn : n = s ∨ n = t ∨ ¬ ∀ q, ye_path w 4294967295 s t q → n ∈ q) : ye_un w s t (n + 1) x := by
  refine ⟨h.1, fun v hv => ?_⟩
  rw [h.2 v hv]
  constructor
  · rintro (a | a | ⟨a, b⟩)
    · exact Or.inl a
    · exact Or.inr (Or.inl a)
    · exact Or.inr (Or.inr ⟨by omega, b⟩)
  · rintro (a | a | ⟨a, b⟩)
    · exact Or.inl a
    · exact Or.inr (Or.inl a)
    · by_cases e : v = n
      · rw [e] at b ⊢
        rcases hn with c | c | c
        · exact Or.inl c
        · exact Or.inr (Or.inl c)
        · exact absurd b c
      · exact Or.inr (Or.inr ⟨by omega, b⟩)
theorem ye_un_take {w : Nat → Nat} {s t n x : Nat} (h : ye_un w s t n x) (h7 : n < 7) (hn : ∀ q, ye_path w 4294967295 s t q → n ∈ q) : ye_un w s t (n + 1) (x ||| 1 * 2 ^ n) := by
  refine ⟨?_, fun v hv => ?_⟩
  · have h1 : 2 ^ n < 2 ^ 7 := Nat.pow_lt_pow_right (by decide) h7
    have h2 := h.1
    have h3 : x ||| 1 * 2 ^ n < 2 ^ 7 := Nat.or_lt_two_pow (by omega) (by omega)
    omega
  · rw [Nat.one_mul, Nat.testBit_or, Bool.or_eq_true, Nat.testBit_two_pow, decide_eq_true_iff, h.2 v hv]
    constructor
    · rintro ((a | a | ⟨a, b⟩) | a)
      · exact Or.inl a
      · exact Or.inr (Or.inl a)
      · exact Or.inr (Or.inr ⟨by omega, b⟩)
      · rw [← a]
        exact Or.inr (Or.inr ⟨by omega, hn⟩)
    · rintro (a | a | ⟨a, b⟩)
      · exact Or.inl (Or.inl a)
      · exact Or.inl (Or.inr (Or.inl a))
      · by_cases e : v = n
        · exact Or.inr e.symm
        · exact Or.inl (Or.inr (Or.inr ⟨by omega, b⟩))
theorem ye_un_ev {w : Nat → Nat} {s t x : Nat} (h : ye_un w s t 7 x) : ye_ev (ye_path w 4294967295 s t) x := by
  refine ⟨h.1, fun v hv => ?_⟩
  rw [h.2 v hv]
  constructor
  · rintro (a | a | ⟨-, b⟩) q hq
    · rw [a]; exact (ye_path_ends hq).1
    · rw [a]; exact (ye_path_ends hq).2
    · exact b q hq
  · intro b
    exact Or.inr (Or.inr ⟨hv, b⟩)
end
section
/-! WALK: the public methods of YenKPaths (printed by gen.py out of walk/27.pub.walk) -/
set_option maxRecDepth 100000
/-- what a question leaves: the object in order, the same graph, the same ends -/
def x_sm (G : Nat → Nat) (F : Nat → Nat → Nat) (G' : Nat → Nat) (F' : Nat → Nat → Nat) : Prop := x_I G' F' ∧ F' 0 = F 0 ∧ G' 1 = G 1 ∧ G' 2 = G 2
theorem x_sm_rf {G : Nat → Nat} {F : Nat → Nat → Nat} (h : x_I G F) : x_sm G F G F := ⟨h, rfl, rfl, rfl⟩
theorem x_cache_K {G : Nat → Nat} {F : Nat → Nat → Nat} (hI : x_I G F) (h : x_cache G F) : ∃ K, ye_K (F 0) (G 1) (G 2) K ∧ ye_rep (F 0) (F 5) (F 6) (F 7) K ∧ G 4 = K.length := by
  obtain ⟨K, k1, k2, k3⟩ := h
  rw [hI.2.2.2.2.1] at k1
  exact ⟨K, k1, k2, k3⟩
def ye_arcOk (u v x : Nat) : Prop := u < 7 ∧ v < 7 ∧ u ≠ v ∧ x ≤ 50
def ye_endOk (u v : Nat) : Prop := u < 7 ∧ v < 7 ∧ u ≠ v
section Y27
variable {p : Program} {l : Launch} {e : Env} {R : Room} {s : State} {m : MethodId} {args : Array Value} {below : List Frame} {meth : Method} {c : Code} {Q : State → Prop} {D : va_G} {A : Nat → Prop} {o : Nat} {ad : Nat → Nat} {dA : Nat → ClassId} {G : Nat → Nat} {F : Nat → Nat → Nat}
/-- arc(u, v, x) -/
theorem x_arc (l : Launch) (D : va_G) (o : Nat) (ad : Nat → Nat) (dA : Nat → ClassId) (G : Nat → Nat) (F : Nat → Nat → Nat) (u v x : Nat) (hu : u < 4294967296) (hv : v < 4294967296) (hx : x < 4294967296) (hI : x_I G F) : xMi l yX0_arc cX0_arc 4 .boolean rX0_arc D o ad dA G F [nI u, nI v, nI x] (fun r G' F' => ((ye_arcOk u v x ∧ r = 1 ∧ F' 0 = va_up (F 0) (7 * u + v) x) ∨ (¬ ye_arcOk u v x ∧ r = 0 ∧ F' 0 = F 0)) ∧ x_I G' F' ∧ G' 1 = G 1 ∧ G' 2 = G 2) := by
  refine xMi.intro (L := [some (.ref o), some (.int (nI u)), some (.int (nI v)), some (.int (nI x))]) (by decide) rfl (Nat.le_of_ble_eq_true rfl) rfl ?_
  intro p e s m args below meth c A C hr hlocks hA
  have no : ¬ ye_arcOk u v x → ky_At p l e rX0_arc s m args below meth c 0 0 (xQi below D o ad dA A args s (fun r G' F' => ((ye_arcOk u v x ∧ r = 1 ∧ F' 0 = va_up (F 0) (7 * u + v) x) ∨ (¬ ye_arcOk u v x ∧ r = 0 ∧ F' 0 = F 0)) ∧ x_I G' F' ∧ G' 1 = G 1 ∧ G' 2 = G 2)) D A 4 (xW o ad dA G F) 31 [some (.ref o), some (.int (nI u)), some (.int (nI v)), some (.int (nI x))] [] := by
    intro hno
    refine ky_iconst (pc := 31) C 0 dX0_arc_31 (by decide) ?_
    exact x_zret C hr hlocks dX0_arc_32 (by decide) ⟨Or.inr ⟨hno, rfl, rfl⟩, hI, rfl, rfl⟩
  refine ky_aload_n (pc := 0) C dX0_arc_0 rfl ?_
  refine ky_iload_n (pc := 1) C dX0_arc_1 rfl ?_
  refine x_ci (pc := 2) C hA (x_isVertex l D o ad dA G F u hu) (cwV 1 C.2.2.2.2.1 (lw_V q92 q94 qs0 q24 q95) rfl rfl rfl (by decide +kernel) ⟨Nat.le_of_ble_eq_true rfl, Nat.le_of_ble_eq_true rfl⟩) rfl rfl (Nat.le_of_ble_eq_true rfl) dX0_arc_2 (fun r G' F' hv1 => ?_)
  obtain ⟨hv1, eG, eF⟩ := hv1
  rw [eG, eF]
  clear eG eF
  by_cases hu7 : u < 7
  · rw [if_pos hu7] at hv1
    subst hv1
    refine ky_if_eq (pc := 5) (tgt := 31) C dX0_arc_5 (by decide) (by omega) (fun h_5 => ?_) (fun h_5 => ?_)
    · exact absurd h_5 (by decide)
    · refine ky_aload_n (pc := 8) C dX0_arc_8 rfl ?_
      refine ky_iload_n (pc := 9) C dX0_arc_9 rfl ?_
      refine x_ci (pc := 10) C hA (x_isVertex l D o ad dA G F v hv) (cwV 1 C.2.2.2.2.1 (lw_V q92 q94 qs0 q24 q95) rfl rfl rfl (by decide +kernel) ⟨Nat.le_of_ble_eq_true rfl, Nat.le_of_ble_eq_true rfl⟩) rfl rfl (Nat.le_of_ble_eq_true rfl) dX0_arc_10 (fun r G' F' hv1 => ?_)
      obtain ⟨hv1, eG, eF⟩ := hv1
      rw [eG, eF]
      clear eG eF
      by_cases hv7 : v < 7
      · rw [if_pos hv7] at hv1
        subst hv1
        refine ky_if_eq (pc := 13) (tgt := 31) C dX0_arc_13 (by decide) (by omega) (fun h_13 => ?_) (fun h_13 => ?_)
        · exact absurd h_13 (by decide)
        · refine ky_iload_n (pc := 16) C dX0_arc_16 rfl ?_
          refine ky_iload_n (pc := 17) C dX0_arc_17 rfl ?_
          refine ky_icmp_eq (pc := 18) (tgt := 31) C dX0_arc_18 (by decide) (by omega) (by omega) (fun h_18 => ?_) (fun h_18 => ?_)
          · exact no (fun z => z.2.2.1 h_18)
          · refine ky_iload_n (pc := 21) C dX0_arc_21 rfl ?_
            refine ky_if_lt (pc := 22) (tgt := 31) C dX0_arc_22 (by decide) (by omega) (fun h_22 => ?_) (fun h_22 => ?_)
            · exact no (fun z => by have := z.2.2.2; omega)
            · refine ky_iload_n (pc := 25) C dX0_arc_25 rfl ?_
              refine ky_bipush (pc := 26) C 50 dX0_arc_26 (by decide) ?_
              refine ky_icmp_le (pc := 28) (tgt := 33) C dX0_arc_28 (by decide) (by omega) (by omega) (fun h_28 => ?_) (fun h_28 => ?_)
              · refine ky_aload_n (pc := 33) C dX0_arc_33 rfl ?_
                refine x_g0 (pc := 34) C dX0_arc_34 ?_
                refine ky_bipush (pc := 37) C 7 dX0_arc_37 (by decide) ?_
                refine ky_iload_n (pc := 39) C dX0_arc_39 rfl ?_
                refine ky_imul (pc := 40) C dX0_arc_40 ?_
                refine ky_iload_n (pc := 41) C dX0_arc_41 rfl ?_
                refine ky_iadd (pc := 42) C dX0_arc_42 ?_
                refine ky_iload_n (pc := 43) C dX0_arc_43 rfl ?_
                refine ky_i2b (pc := 44) C dX0_arc_44 (by omega) ?_
                refine x_s0 (pc := 45) C dX0_arc_45 (by omega) (by omega) ?_
                refine ky_aload_n (pc := 46) C dX0_arc_46 rfl ?_
                refine ky_iconst (pc := 47) C 0 dX0_arc_47 (by decide) ?_
                refine x_p3 (pc := 48) C dX0_arc_48 rfl rfl ?_
                refine ky_iconst (pc := 51) C 1 dX0_arc_51 (by decide) ?_
                obtain ⟨i1, i2, i3, i4, i5, i6⟩ := hI
                refine x_zret C hr hlocks dX0_arc_52 (by decide) ⟨Or.inl ⟨⟨hu7, hv7, h_18, h_28⟩, rfl, rfl⟩, ⟨?_, i2, i3, i4, i5, Or.inl rfl⟩, rfl, rfl⟩
                intro j hj
                show va_up (F 0) (7 * u + v) x j ≤ 50
                unfold va_up
                split
                · exact h_28
                · exact i1 j hj
              · exact no (fun z => by have := z.2.2.2; omega)
      · rw [if_neg hv7] at hv1
        subst hv1
        refine ky_if_eq (pc := 13) (tgt := 31) C dX0_arc_13 (by decide) (by omega) (fun h_13 => ?_) (fun h_13 => ?_)
        · exact no (fun z => hv7 z.2.1)
        · exact absurd rfl h_13
  · rw [if_neg hu7] at hv1
    subst hv1
    refine ky_if_eq (pc := 5) (tgt := 31) C dX0_arc_5 (by decide) (by omega) (fun h_5 => ?_) (fun h_5 => ?_)
    · exact no (fun z => hu7 z.1)
    · exact absurd rfl h_5
/-- ends(u, v) -/
theorem x_ends (l : Launch) (D : va_G) (o : Nat) (ad : Nat → Nat) (dA : Nat → ClassId) (G : Nat → Nat) (F : Nat → Nat → Nat) (u v : Nat) (hu : u < 4294967296) (hv : v < 4294967296) (hI : x_I G F) : xMi l yX0_ends cX0_ends 3 .boolean rX0_ends D o ad dA G F [nI u, nI v] (fun r G' F' => ((ye_endOk u v ∧ r = 1 ∧ G' 1 = u ∧ G' 2 = v) ∨ (¬ ye_endOk u v ∧ r = 0 ∧ G' 1 = G 1 ∧ G' 2 = G 2)) ∧ x_I G' F' ∧ F' 0 = F 0) := by
  refine xMi.intro (L := [some (.ref o), some (.int (nI u)), some (.int (nI v))]) (by decide) rfl (Nat.le_of_ble_eq_true rfl) rfl ?_
  intro p e s m args below meth c A C hr hlocks hA
  have no : ¬ ye_endOk u v → ky_At p l e rX0_ends s m args below meth c 0 0 (xQi below D o ad dA A args s (fun r G' F' => ((ye_endOk u v ∧ r = 1 ∧ G' 1 = u ∧ G' 2 = v) ∨ (¬ ye_endOk u v ∧ r = 0 ∧ G' 1 = G 1 ∧ G' 2 = G 2)) ∧ x_I G' F' ∧ F' 0 = F 0)) D A 3 (xW o ad dA G F) 21 [some (.ref o), some (.int (nI u)), some (.int (nI v))] [] := by
    intro hno
    refine ky_iconst (pc := 21) C 0 dX0_ends_21 (by decide) ?_
    exact x_zret C hr hlocks dX0_ends_22 (by decide) ⟨Or.inr ⟨hno, rfl, rfl, rfl⟩, hI, rfl⟩
  refine ky_aload_n (pc := 0) C dX0_ends_0 rfl ?_
  refine ky_iload_n (pc := 1) C dX0_ends_1 rfl ?_
  refine x_ci (pc := 2) C hA (x_isVertex l D o ad dA G F u hu) (cwV 1 C.2.2.2.2.1 (lw_V q92 q94 qs0 q24 q95) rfl rfl rfl (by decide +kernel) ⟨Nat.le_of_ble_eq_true rfl, Nat.le_of_ble_eq_true rfl⟩) rfl rfl (Nat.le_of_ble_eq_true rfl) dX0_ends_2 (fun r G' F' hv1 => ?_)
  obtain ⟨hv1, eG, eF⟩ := hv1
  rw [eG, eF]
  clear eG eF
  by_cases hu7 : u < 7
  · rw [if_pos hu7] at hv1
    subst hv1
    refine ky_if_eq (pc := 5) (tgt := 21) C dX0_ends_5 (by decide) (by omega) (fun h_5 => ?_) (fun h_5 => ?_)
    · exact absurd h_5 (by decide)
    · refine ky_aload_n (pc := 8) C dX0_ends_8 rfl ?_
      refine ky_iload_n (pc := 9) C dX0_ends_9 rfl ?_
      refine x_ci (pc := 10) C hA (x_isVertex l D o ad dA G F v hv) (cwV 1 C.2.2.2.2.1 (lw_V q92 q94 qs0 q24 q95) rfl rfl rfl (by decide +kernel) ⟨Nat.le_of_ble_eq_true rfl, Nat.le_of_ble_eq_true rfl⟩) rfl rfl (Nat.le_of_ble_eq_true rfl) dX0_ends_10 (fun r G' F' hv1 => ?_)
      obtain ⟨hv1, eG, eF⟩ := hv1
      rw [eG, eF]
      clear eG eF
      by_cases hv7 : v < 7
      · rw [if_pos hv7] at hv1
        subst hv1
        refine ky_if_eq (pc := 13) (tgt := 21) C dX0_ends_13 (by decide) (by omega) (fun h_13 => ?_) (fun h_13 => ?_)
        · exact absurd h_13 (by decide)
        · refine ky_iload_n (pc := 16) C dX0_ends_16 rfl ?_
          refine ky_iload_n (pc := 17) C dX0_ends_17 rfl ?_
          refine ky_icmp_ne (pc := 18) (tgt := 23) C dX0_ends_18 (by decide) (by omega) (by omega) (fun h_18 => ?_) (fun h_18 => ?_)
          · refine ky_aload_n (pc := 23) C dX0_ends_23 rfl ?_
            refine ky_iload_n (pc := 24) C dX0_ends_24 rfl ?_
            refine x_p1 (pc := 25) C dX0_ends_25 ?_
            refine ky_aload_n (pc := 28) C dX0_ends_28 rfl ?_
            refine ky_iload_n (pc := 29) C dX0_ends_29 rfl ?_
            refine x_p2 (pc := 30) C dX0_ends_30 ?_
            refine ky_aload_n (pc := 33) C dX0_ends_33 rfl ?_
            refine ky_iconst (pc := 34) C 0 dX0_ends_34 (by decide) ?_
            refine x_p3 (pc := 35) C dX0_ends_35 rfl rfl ?_
            refine ky_iconst (pc := 38) C 1 dX0_ends_38 (by decide) ?_
            obtain ⟨i1, i2, i3, i4, i5, i6⟩ := hI
            exact x_zret C hr hlocks dX0_ends_39 (by decide) ⟨Or.inl ⟨⟨hu7, hv7, h_18⟩, rfl, rfl, rfl⟩, ⟨i1, hu7, hv7, h_18, i5, Or.inl rfl⟩, rfl⟩
          · exact no (fun z => z.2.2 h_18)
      · rw [if_neg hv7] at hv1
        subst hv1
        refine ky_if_eq (pc := 13) (tgt := 21) C dX0_ends_13 (by decide) (by omega) (fun h_13 => ?_) (fun h_13 => ?_)
        · exact no (fun z => hv7 z.2.1)
        · exact absurd rfl h_13
  · rw [if_neg hu7] at hv1
    subst hv1
    refine ky_if_eq (pc := 5) (tgt := 21) C dX0_ends_5 (by decide) (by omega) (fun h_5 => ?_) (fun h_5 => ?_)
    · exact no (fun z => hu7 z.1)
    · exact absurd rfl h_5
/-- weight(u, v) -/
theorem x_weight (l : Launch) (D : va_G) (o : Nat) (ad : Nat → Nat) (dA : Nat → ClassId) (G : Nat → Nat) (F : Nat → Nat → Nat) (u v : Nat) (hu : u < 4294967296) (hv : v < 4294967296) (hI : x_I G F) : xMi l yX0_weight cX0_weight 3 .int rX0_weight D o ad dA G F [nI u, nI v] (fun r G' F' => r = (if u < 7 ∧ v < 7 then F 0 (7 * u + v) else 4294967295) ∧ x_sm G F G' F') := by
  refine xMi.intro (L := [some (.ref o), some (.int (nI u)), some (.int (nI v))]) (by decide) rfl (Nat.le_of_ble_eq_true rfl) rfl ?_
  intro p e s m args below meth c A C hr hlocks hA
  refine ky_aload_n (pc := 0) C dX0_weight_0 rfl ?_
  refine ky_iload_n (pc := 1) C dX0_weight_1 rfl ?_
  refine x_ci (pc := 2) C hA (x_isVertex l D o ad dA G F u hu) (cwV 1 C.2.2.2.2.1 (lw_V q92 q94 qs0 q24 q95) rfl rfl rfl (by decide +kernel) ⟨Nat.le_of_ble_eq_true rfl, Nat.le_of_ble_eq_true rfl⟩) rfl rfl (Nat.le_of_ble_eq_true rfl) dX0_weight_2 (fun r G' F' hv1 => ?_)
  obtain ⟨hv1, eG, eF⟩ := hv1
  rw [eG, eF]
  clear eG eF
  by_cases hu7 : u < 7
  · rw [if_pos hu7] at hv1
    subst hv1
    refine ky_if_eq (pc := 5) (tgt := 30) C dX0_weight_5 (by decide) (by omega) (fun h_5 => ?_) (fun h_5 => ?_)
    · exact absurd h_5 (by decide)
    · refine ky_aload_n (pc := 8) C dX0_weight_8 rfl ?_
      refine ky_iload_n (pc := 9) C dX0_weight_9 rfl ?_
      refine x_ci (pc := 10) C hA (x_isVertex l D o ad dA G F v hv) (cwV 1 C.2.2.2.2.1 (lw_V q92 q94 qs0 q24 q95) rfl rfl rfl (by decide +kernel) ⟨Nat.le_of_ble_eq_true rfl, Nat.le_of_ble_eq_true rfl⟩) rfl rfl (Nat.le_of_ble_eq_true rfl) dX0_weight_10 (fun r G' F' hv1 => ?_)
      obtain ⟨hv1, eG, eF⟩ := hv1
      rw [eG, eF]
      clear eG eF
      by_cases hv7 : v < 7
      · rw [if_pos hv7] at hv1
        subst hv1
        refine ky_if_eq (pc := 13) (tgt := 30) C dX0_weight_13 (by decide) (by omega) (fun h_13 => ?_) (fun h_13 => ?_)
        · exact absurd h_13 (by decide)
        · refine ky_aload_n (pc := 16) C dX0_weight_16 rfl ?_
          refine x_g0 (pc := 17) C dX0_weight_17 ?_
          refine ky_bipush (pc := 20) C 7 dX0_weight_20 (by decide) ?_
          refine ky_iload_n (pc := 22) C dX0_weight_22 rfl ?_
          refine ky_imul (pc := 23) C dX0_weight_23 ?_
          refine ky_iload_n (pc := 24) C dX0_weight_24 rfl ?_
          refine ky_iadd (pc := 25) C dX0_weight_25 ?_
          refine x_l0 (pc := 26) C dX0_weight_26 (by omega) rfl ?_
          refine ky_goto (pc := 27) (tgt := 31) C dX0_weight_27 (by decide) ?_
          exact x_iret C hr hlocks dX0_weight_31 ⟨by rw [if_pos ⟨hu7, hv7⟩], x_sm_rf hI⟩
      · rw [if_neg hv7] at hv1
        subst hv1
        refine ky_if_eq (pc := 13) (tgt := 30) C dX0_weight_13 (by decide) (by omega) (fun h_13 => ?_) (fun h_13 => ?_)
        · refine ky_iconst (pc := 30) C 4294967295 dX0_weight_30 (by decide) ?_
          exact x_iret C hr hlocks dX0_weight_31 ⟨by rw [if_neg (fun z => hv7 z.2)], x_sm_rf hI⟩
        · exact absurd rfl h_13
  · rw [if_neg hu7] at hv1
    subst hv1
    refine ky_if_eq (pc := 5) (tgt := 30) C dX0_weight_5 (by decide) (by omega) (fun h_5 => ?_) (fun h_5 => ?_)
    · refine ky_iconst (pc := 30) C 4294967295 dX0_weight_30 (by decide) ?_
      exact x_iret C hr hlocks dX0_weight_31 ⟨by rw [if_neg (fun z => hu7 z.1)], x_sm_rf hI⟩
    · exact absurd rfl h_5
/-- paths() -/
theorem x_paths (l : Launch) (D : va_G) (o : Nat) (ad : Nat → Nat) (dA : Nat → ClassId) (G : Nat → Nat) (F : Nat → Nat → Nat) (hI : x_I G F) : xMi l yX0_paths cX0_paths 1 .int rX0_paths D o ad dA G F [] (fun r G' F' => (∃ K, ye_K (F 0) (G 1) (G 2) K ∧ r = K.length) ∧ x_sm G F G' F') := by
  refine xMi.intro (L := [some (.ref o)]) (by decide) rfl (Nat.le_of_ble_eq_true rfl) rfl ?_
  intro p e s m args below meth c A C hr hlocks hA
  refine ky_aload_n (pc := 0) C dX0_paths_0 rfl ?_
  refine x_cv (pc := 1) C hA (x_findPaths l D o ad dA G F hI) (cwV 0 C.2.2.2.2.1 (lw_V q108 q110 qs1 q24 q111) rfl rfl rfl (by decide +kernel) ⟨Nat.le_of_ble_eq_true rfl, Nat.le_of_ble_eq_true rfl⟩) rfl rfl (Nat.le_of_ble_eq_true rfl) dX0_paths_1 (fun G' F' hv => ?_)
  obtain ⟨hI', hc, e0, e1, e2⟩ := hv
  obtain ⟨K, k1, k2, k3⟩ := x_cache_K hI' hc
  rw [e0, e1, e2] at k1
  refine ky_aload_n (pc := 4) C dX0_paths_4 rfl ?_
  refine x_g4 (pc := 5) C dX0_paths_5 rfl ?_
  exact x_iret C hr hlocks dX0_paths_8 ⟨⟨K, k1, k3⟩, hI', e0, e1, e2⟩
/-- length(k) -/
theorem x_length (l : Launch) (D : va_G) (o : Nat) (ad : Nat → Nat) (dA : Nat → ClassId) (G : Nat → Nat) (F : Nat → Nat → Nat) (k : Nat) (hk : k < 4294967296) (hI : x_I G F) : xMi l yX0_length cX0_length 2 .int rX0_length D o ad dA G F [nI k] (fun r G' F' => (∃ K, ye_K (F 0) (G 1) (G 2) K ∧ r = ((K[k]?).map (ye_len (F 0))).getD 4294967294) ∧ x_sm G F G' F') := by
  refine xMi.intro (L := [some (.ref o), some (.int (nI k))]) (by decide) rfl (Nat.le_of_ble_eq_true rfl) rfl ?_
  intro p e s m args below meth c A C hr hlocks hA
  refine ky_aload_n (pc := 0) C dX0_length_0 rfl ?_
  refine x_cv (pc := 1) C hA (x_findPaths l D o ad dA G F hI) (cwV 0 C.2.2.2.2.1 (lw_V q108 q110 qs1 q24 q111) rfl rfl rfl (by decide +kernel) ⟨Nat.le_of_ble_eq_true rfl, Nat.le_of_ble_eq_true rfl⟩) rfl rfl (Nat.le_of_ble_eq_true rfl) dX0_length_1 (fun G' F' hv => ?_)
  obtain ⟨hI', hc, e0, e1, e2⟩ := hv
  obtain ⟨K, k1, k2, k3⟩ := x_cache_K hI' hc
  rw [e0, e1, e2] at k1
  rw [e0] at k2
  have h12 : K.length ≤ 12 := k1.2.2.1
  refine ky_iload_n (pc := 4) C dX0_length_4 rfl ?_
  refine ky_if_lt (pc := 5) (tgt := 16) C dX0_length_5 (by decide) (by omega) (fun h_5 => ?_) (fun h_5 => ?_)
  · refine ky_bipush (pc := 16) C 4294967294 dX0_length_16 (by decide) ?_
    refine ky_goto (pc := 18) (tgt := 27) C dX0_length_18 (by decide) ?_
    refine x_iret C hr hlocks dX0_length_27 ⟨⟨K, k1, ?_⟩, hI', e0, e1, e2⟩
    rw [List.getElem?_eq_none (by omega)]
    rfl
  · refine ky_iload_n (pc := 8) C dX0_length_8 rfl ?_
    refine ky_aload_n (pc := 9) C dX0_length_9 rfl ?_
    refine x_g4 (pc := 10) C dX0_length_10 rfl ?_
    refine ky_icmp_lt (pc := 13) (tgt := 21) C dX0_length_13 (by decide) (by omega) (by omega) (fun h_13 => ?_) (fun h_13 => ?_)
    · have hlt : k < K.length := by omega
      obtain ⟨q, q1, q2, q3, q4, q5⟩ := ye_rep_get k2 hlt
      refine ky_aload_n (pc := 21) C dX0_length_21 rfl ?_
      refine x_g6 (pc := 22) C dX0_length_22 ?_
      refine ky_iload_n (pc := 25) C dX0_length_25 rfl ?_
      refine x_l6 (pc := 26) C dX0_length_26 (v := ye_len (F 0) q) (by omega) q4 ?_
      refine x_iret C hr hlocks dX0_length_27 ⟨⟨K, k1, ?_⟩, hI', e0, e1, e2⟩
      rw [q2]
      rfl
    · refine ky_bipush (pc := 16) C 4294967294 dX0_length_16 (by decide) ?_
      refine ky_goto (pc := 18) (tgt := 27) C dX0_length_18 (by decide) ?_
      refine x_iret C hr hlocks dX0_length_27 ⟨⟨K, k1, ?_⟩, hI', e0, e1, e2⟩
      rw [List.getElem?_eq_none (by omega)]
      rfl
/-- size(k) -/
theorem x_size (l : Launch) (D : va_G) (o : Nat) (ad : Nat → Nat) (dA : Nat → ClassId) (G : Nat → Nat) (F : Nat → Nat → Nat) (k : Nat) (hk : k < 4294967296) (hI : x_I G F) : xMi l yX0_size cX0_size 2 .int rX0_size D o ad dA G F [nI k] (fun r G' F' => (∃ K, ye_K (F 0) (G 1) (G 2) K ∧ r = ((K[k]?).map List.length).getD 4294967294) ∧ x_sm G F G' F') := by
  refine xMi.intro (L := [some (.ref o), some (.int (nI k))]) (by decide) rfl (Nat.le_of_ble_eq_true rfl) rfl ?_
  intro p e s m args below meth c A C hr hlocks hA
  refine ky_aload_n (pc := 0) C dX0_size_0 rfl ?_
  refine x_cv (pc := 1) C hA (x_findPaths l D o ad dA G F hI) (cwV 0 C.2.2.2.2.1 (lw_V q108 q110 qs1 q24 q111) rfl rfl rfl (by decide +kernel) ⟨Nat.le_of_ble_eq_true rfl, Nat.le_of_ble_eq_true rfl⟩) rfl rfl (Nat.le_of_ble_eq_true rfl) dX0_size_1 (fun G' F' hv => ?_)
  obtain ⟨hI', hc, e0, e1, e2⟩ := hv
  obtain ⟨K, k1, k2, k3⟩ := x_cache_K hI' hc
  rw [e0, e1, e2] at k1
  rw [e0] at k2
  have h12 : K.length ≤ 12 := k1.2.2.1
  refine ky_iload_n (pc := 4) C dX0_size_4 rfl ?_
  refine ky_if_lt (pc := 5) (tgt := 16) C dX0_size_5 (by decide) (by omega) (fun h_5 => ?_) (fun h_5 => ?_)
  · refine ky_bipush (pc := 16) C 4294967294 dX0_size_16 (by decide) ?_
    refine ky_goto (pc := 18) (tgt := 27) C dX0_size_18 (by decide) ?_
    refine x_iret C hr hlocks dX0_size_27 ⟨⟨K, k1, ?_⟩, hI', e0, e1, e2⟩
    rw [List.getElem?_eq_none (by omega)]
    rfl
  · refine ky_iload_n (pc := 8) C dX0_size_8 rfl ?_
    refine ky_aload_n (pc := 9) C dX0_size_9 rfl ?_
    refine x_g4 (pc := 10) C dX0_size_10 rfl ?_
    refine ky_icmp_lt (pc := 13) (tgt := 21) C dX0_size_13 (by decide) (by omega) (by omega) (fun h_13 => ?_) (fun h_13 => ?_)
    · have hlt : k < K.length := by omega
      obtain ⟨q, q1, q2, q3, q4, q5⟩ := ye_rep_get k2 hlt
      refine ky_aload_n (pc := 21) C dX0_size_21 rfl ?_
      refine x_g7 (pc := 22) C dX0_size_22 ?_
      refine ky_iload_n (pc := 25) C dX0_size_25 rfl ?_
      refine x_l7 (pc := 26) C dX0_size_26 (v := q.length) (by omega) q5 ?_
      refine x_iret C hr hlocks dX0_size_27 ⟨⟨K, k1, ?_⟩, hI', e0, e1, e2⟩
      rw [q2]
      rfl
    · refine ky_bipush (pc := 16) C 4294967294 dX0_size_16 (by decide) ?_
      refine ky_goto (pc := 18) (tgt := 27) C dX0_size_18 (by decide) ?_
      refine x_iret C hr hlocks dX0_size_27 ⟨⟨K, k1, ?_⟩, hI', e0, e1, e2⟩
      rw [List.getElem?_eq_none (by omega)]
      rfl
/-- vertex(k, i) -/
theorem x_vertex (l : Launch) (D : va_G) (o : Nat) (ad : Nat → Nat) (dA : Nat → ClassId) (G : Nat → Nat) (F : Nat → Nat → Nat) (k i : Nat) (hk : k < 4294967296) (hi : i < 4294967296) (hI : x_I G F) : xMi l yX0_vertex cX0_vertex 3 .int rX0_vertex D o ad dA G F [nI k, nI i] (fun r G' F' => (∃ K, ye_K (F 0) (G 1) (G 2) K ∧ r = ((K[k]?).bind (fun q => q[i]?)).getD 4294967294) ∧ x_sm G F G' F') := by
  refine xMi.intro (L := [some (.ref o), some (.int (nI k)), some (.int (nI i))]) (by decide) rfl (Nat.le_of_ble_eq_true rfl) rfl ?_
  intro p e s m args below meth c A C hr hlocks hA
  refine ky_aload_n (pc := 0) C dX0_vertex_0 rfl ?_
  refine x_cv (pc := 1) C hA (x_findPaths l D o ad dA G F hI) (cwV 0 C.2.2.2.2.1 (lw_V q108 q110 qs1 q24 q111) rfl rfl rfl (by decide +kernel) ⟨Nat.le_of_ble_eq_true rfl, Nat.le_of_ble_eq_true rfl⟩) rfl rfl (Nat.le_of_ble_eq_true rfl) dX0_vertex_1 (fun G' F' hv => ?_)
  obtain ⟨hI', hc, e0, e1, e2⟩ := hv
  obtain ⟨K, k1, k2, k3⟩ := x_cache_K hI' hc
  rw [e0, e1, e2] at k1
  rw [e0] at k2
  have h12 : K.length ≤ 12 := k1.2.2.1
  refine ky_iload_n (pc := 4) C dX0_vertex_4 rfl ?_
  refine ky_if_lt (pc := 5) (tgt := 30) C dX0_vertex_5 (by decide) (by omega) (fun h_5 => ?_) (fun h_5 => ?_)
  · refine ky_bipush (pc := 30) C 4294967294 dX0_vertex_30 (by decide) ?_
    refine x_iret C hr hlocks dX0_vertex_32 ⟨⟨K, k1, ?_⟩, hI', e0, e1, e2⟩
    rw [List.getElem?_eq_none (by omega)]
    rfl
  · refine ky_iload_n (pc := 8) C dX0_vertex_8 rfl ?_
    refine ky_aload_n (pc := 9) C dX0_vertex_9 rfl ?_
    refine x_g4 (pc := 10) C dX0_vertex_10 rfl ?_
    refine ky_icmp_ge (pc := 13) (tgt := 30) C dX0_vertex_13 (by decide) (by omega) (by omega) (fun h_13 => ?_) (fun h_13 => ?_)
    · refine ky_bipush (pc := 30) C 4294967294 dX0_vertex_30 (by decide) ?_
      refine x_iret C hr hlocks dX0_vertex_32 ⟨⟨K, k1, ?_⟩, hI', e0, e1, e2⟩
      rw [List.getElem?_eq_none (by omega)]
      rfl
    · have hlt : k < K.length := by omega
      obtain ⟨q, q1, q2, q3, q4, q5⟩ := ye_rep_get k2 hlt
      have hq := k1.2.1 q q1
      have hql := ye_path_len hq
      have hqc := ye_code_lt hq.2.1
      refine ky_iload_n (pc := 16) C dX0_vertex_16 rfl ?_
      refine ky_if_lt (pc := 17) (tgt := 30) C dX0_vertex_17 (by decide) (by omega) (fun h_17 => ?_) (fun h_17 => ?_)
      · refine ky_bipush (pc := 30) C 4294967294 dX0_vertex_30 (by decide) ?_
        refine x_iret C hr hlocks dX0_vertex_32 ⟨⟨K, k1, ?_⟩, hI', e0, e1, e2⟩
        rw [q2, Option.bind_some, List.getElem?_eq_none (by omega)]
        rfl
      · refine ky_iload_n (pc := 20) C dX0_vertex_20 rfl ?_
        refine ky_aload_n (pc := 21) C dX0_vertex_21 rfl ?_
        refine x_g7 (pc := 22) C dX0_vertex_22 ?_
        refine ky_iload_n (pc := 25) C dX0_vertex_25 rfl ?_
        refine x_l7 (pc := 26) C dX0_vertex_26 (v := q.length) (by omega) q5 ?_
        refine ky_icmp_lt (pc := 27) (tgt := 33) C dX0_vertex_27 (by decide) (by omega) (by omega) (fun h_27 => ?_) (fun h_27 => ?_)
        · refine ky_aload_n (pc := 33) C dX0_vertex_33 rfl ?_
          refine ky_aload_n (pc := 34) C dX0_vertex_34 rfl ?_
          refine x_g5 (pc := 35) C dX0_vertex_35 ?_
          refine ky_iload_n (pc := 38) C dX0_vertex_38 rfl ?_
          refine x_l5 (pc := 39) C dX0_vertex_39 (v := ye_code q) (by omega) q3 ?_
          refine ky_iload_n (pc := 40) C dX0_vertex_40 rfl ?_
          refine x_ci (pc := 41) C hA (x_vertexIn l D o ad dA G' F' (ye_code q) i (by omega) (by omega)) (cwV 2 C.2.2.2.2.1 (lw_V q137 q139 qs8 q24 q140) rfl rfl rfl (by decide +kernel) ⟨Nat.le_of_ble_eq_true rfl, Nat.le_of_ble_eq_true rfl⟩) rfl rfl (Nat.le_of_ble_eq_true rfl) dX0_vertex_41 (fun r G2 F2 hv1 => ?_)
          obtain ⟨hv1, eG, eF⟩ := hv1
          rw [eG, eF]
          rw [ye_code_at hq.2.1 (by omega)] at hv1
          refine x_iret C hr hlocks dX0_vertex_44 ⟨⟨K, k1, ?_⟩, hI', e0, e1, e2⟩
          rw [q2, Option.bind_some, ye_dg_of (by omega), hv1]
          rfl
        · refine ky_bipush (pc := 30) C 4294967294 dX0_vertex_30 (by decide) ?_
          refine x_iret C hr hlocks dX0_vertex_32 ⟨⟨K, k1, ?_⟩, hI', e0, e1, e2⟩
          rw [q2, Option.bind_some, List.getElem?_eq_none (by omega)]
          rfl
theorem x_pas2 {u v k tot : Nat} {q : List Nat} (C : ky_C p s m args c cX0_passing 6 RX0 D (xT dA)) (hA : ∀ q : Nat, s.heap.size ≤ q → A q) (hR : 1 ≤ R.frames ∧ 22 ≤ R.locals) (hu : u < 7) (hv : v < 7) (hk : k < 12) (ht : tot ≤ 12) (hq7 : ∀ x ∈ q, x < 7) (hql : q.length ≤ 7) (h1 : 1 ≤ q.length) (h5 : F 5 k = ye_code q) (h7 : F 7 k = q.length)
    (kk : ky_At p l e R s m args below meth c 0 0 Q D A 6 (xW o ad dA G F) 98 [some (.ref o), some (.int (nI u)), some (.int (nI v)), some (.int (nI (tot + ye_hc u v q (q.length - 1)))), some (.int (nI k)), none] []) :
    ∀ (n i : Nat), i + n + 1 = q.length → ky_At p l e R s m args below meth c 0 0 Q D A 6 (xW o ad dA G F) 39 [some (.ref o), some (.int (nI u)), some (.int (nI v)), some (.int (nI (tot + ye_hc u v q i))), some (.int (nI k)), some (.int (nI i))] [] := by
  have hRv : rX0_vertexIn.frames + 1 ≤ R.frames ∧ 8 + (3 + 11) + rX0_vertexIn.locals ≤ R.locals := ⟨by show 1 ≤ R.frames; omega, by show 22 ≤ R.locals; omega⟩
  have hqc := ye_code_lt hq7
  intro n
  induction n with
  | zero =>
    intro i hi
    refine ky_iload (pc := 39) C dX0_passing_39 rfl ?_
    refine ky_iconst (pc := 41) C 1 dX0_passing_41 (by decide) ?_
    refine ky_iadd (pc := 42) C dX0_passing_42 ?_
    refine ky_aload_n (pc := 43) C dX0_passing_43 rfl ?_
    refine x_g7 (pc := 44) C dX0_passing_44 ?_
    refine ky_iload (pc := 47) C dX0_passing_47 rfl ?_
    refine x_l7 (pc := 49) C dX0_passing_49 (v := q.length) (by omega) h7 ?_
    refine ky_icmp_ge (pc := 50) (tgt := 98) C dX0_passing_50 (by decide) (by omega) (by omega) (fun h_50 => ?_) (fun h_50 => ?_)
    · refine ky_forget 5 ?_
      rw [show i = q.length - 1 by omega]
      exact kk
    · omega
  | succ n ih =>
    intro i hi
    have hd1 : ye_dg q i < 7 := hq7 _ (List.mem_of_getElem? (ye_dg_of (by omega)))
    have hd2 : ye_dg q (i + 1) < 7 := hq7 _ (List.mem_of_getElem? (ye_dg_of (by omega)))
    have fin : ∀ x, x = tot + ye_hc u v q (i + 1) → ky_At p l e R s m args below meth c 0 0 Q D A 6 (xW o ad dA G F) 92 [some (.ref o), some (.int (nI u)), some (.int (nI v)), some (.int (nI x)), some (.int (nI k)), some (.int (nI i))] [] := by
      intro x hx
      rw [hx]
      refine ky_iinc1 (pc := 92) C dX0_passing_92 rfl (by decide) ?_
      refine ky_goto (pc := 95) (tgt := 39) C dX0_passing_95 (by decide) ?_
      exact ih (i + 1) (by omega)
    have hstep : ye_hc u v q (i + 1) = ye_hc u v q i + (if ye_dg q i = u ∧ ye_dg q (i + 1) = v then 1 else 0) := rfl
    refine ky_iload (pc := 39) C dX0_passing_39 rfl ?_
    refine ky_iconst (pc := 41) C 1 dX0_passing_41 (by decide) ?_
    refine ky_iadd (pc := 42) C dX0_passing_42 ?_
    refine ky_aload_n (pc := 43) C dX0_passing_43 rfl ?_
    refine x_g7 (pc := 44) C dX0_passing_44 ?_
    refine ky_iload (pc := 47) C dX0_passing_47 rfl ?_
    refine x_l7 (pc := 49) C dX0_passing_49 (v := q.length) (by omega) h7 ?_
    refine ky_icmp_ge (pc := 50) (tgt := 98) C dX0_passing_50 (by decide) (by omega) (by omega) (fun h_50 => ?_) (fun h_50 => ?_)
    · omega
    · refine ky_aload_n (pc := 53) C dX0_passing_53 rfl ?_
      refine ky_aload_n (pc := 54) C dX0_passing_54 rfl ?_
      refine x_g5 (pc := 55) C dX0_passing_55 ?_
      refine ky_iload (pc := 58) C dX0_passing_58 rfl ?_
      refine x_l5 (pc := 60) C dX0_passing_60 (v := ye_code q) (by omega) h5 ?_
      refine ky_iload (pc := 61) C dX0_passing_61 rfl ?_
      refine x_ci (pc := 63) C hA (x_vertexIn l D o ad dA G F (ye_code q) i (by omega) (by omega)) (cwV 2 C.2.2.2.2.1 (lw_V q137 q139 qs8 q24 q140) rfl rfl rfl (by decide +kernel) hRv) rfl rfl (Nat.le_of_ble_eq_true rfl) dX0_passing_63 (fun r G' F' hv1 => ?_)
      obtain ⟨hv1, eG, eF⟩ := hv1
      rw [eG, eF]
      clear eG eF
      rw [ye_code_at hq7 (by omega)] at hv1
      subst hv1
      refine ky_iload_n (pc := 66) C dX0_passing_66 rfl ?_
      refine ky_icmp_ne (pc := 67) (tgt := 92) C dX0_passing_67 (by decide) (by omega) (by omega) (fun h_67 => ?_) (fun h_67 => ?_)
      · exact fin _ (by rw [hstep, if_neg (fun z => h_67 z.1)]; rfl)
      · refine ky_aload_n (pc := 70) C dX0_passing_70 rfl ?_
        refine ky_aload_n (pc := 71) C dX0_passing_71 rfl ?_
        refine x_g5 (pc := 72) C dX0_passing_72 ?_
        refine ky_iload (pc := 75) C dX0_passing_75 rfl ?_
        refine x_l5 (pc := 77) C dX0_passing_77 (v := ye_code q) (by omega) h5 ?_
        refine ky_iload (pc := 78) C dX0_passing_78 rfl ?_
        refine ky_iconst (pc := 80) C 1 dX0_passing_80 (by decide) ?_
        refine ky_iadd (pc := 81) C dX0_passing_81 ?_
        refine x_ci (pc := 82) C hA (x_vertexIn l D o ad dA G F (ye_code q) (i + 1) (by omega) (by omega)) (cwV 2 C.2.2.2.2.1 (lw_V q137 q139 qs8 q24 q140) rfl rfl rfl (by decide +kernel) hRv) rfl rfl (Nat.le_of_ble_eq_true rfl) dX0_passing_82 (fun r G' F' hv1 => ?_)
        obtain ⟨hv1, eG, eF⟩ := hv1
        rw [eG, eF]
        clear eG eF
        rw [ye_code_at hq7 (by omega)] at hv1
        subst hv1
        refine ky_iload_n (pc := 85) C dX0_passing_85 rfl ?_
        refine ky_icmp_ne (pc := 86) (tgt := 92) C dX0_passing_86 (by decide) (by omega) (by omega) (fun h_86 => ?_) (fun h_86 => ?_)
        · exact fin _ (by rw [hstep, if_neg (fun z => h_86 z.2)]; rfl)
        · refine ky_iinc1 (pc := 89) C dX0_passing_89 rfl (by decide) ?_
          exact fin _ (by rw [hstep, if_pos ⟨h_67, h_86⟩]; rfl)
theorem x_pas1 {u v : Nat} {w : Nat → Nat} {vs vt : Nat} {K : List (List Nat)} (C : ky_C p s m args c cX0_passing 6 RX0 D (xT dA)) (hA : ∀ q : Nat, s.heap.size ≤ q → A q) (hR : 1 ≤ R.frames ∧ 22 ≤ R.locals) (hu : u < 7) (hv : v < 7) (hst : vs ≠ vt) (hK : ∀ q ∈ K, ye_path w 4294967295 vs vt q) (h12 : K.length ≤ 12) (hr : ye_rep w (F 5) (F 6) (F 7) K) (h4 : G 4 = K.length)
    (kk : ky_At p l e R s m args below meth c 0 0 Q D A 6 (xW o ad dA G F) 104 [some (.ref o), some (.int (nI u)), some (.int (nI v)), some (.int (nI (K.countP (ye_has u v)))), none, none] []) :
    ∀ (n k : Nat), k + n = K.length → ky_At p l e R s m args below meth c 0 0 Q D A 6 (xW o ad dA G F) 27 [some (.ref o), some (.int (nI u)), some (.int (nI v)), some (.int (nI ((K.take k).countP (ye_has u v)))), some (.int (nI k)), none] [] := by
  intro n
  induction n with
  | zero =>
    intro k hk
    refine ky_iload (pc := 27) C dX0_passing_27 rfl ?_
    refine ky_aload_n (pc := 29) C dX0_passing_29 rfl ?_
    refine x_g4 (pc := 30) C dX0_passing_30 rfl ?_
    refine ky_icmp_ge (pc := 33) (tgt := 104) C dX0_passing_33 (by decide) (by omega) (by omega) (fun h_33 => ?_) (fun h_33 => ?_)
    · refine ky_forget 4 ?_
      rw [List.take_of_length_le (by omega)]
      exact kk
    · omega
  | succ n ih =>
    intro k hk
    obtain ⟨q, q1, q2, q3, q4, q5⟩ := ye_rep_get hr (by omega : k < K.length)
    have hq := hK q q1
    have hql := ye_path_len hq
    have hq2 := ye_path_two hst hq
    have hct : (K.take k).countP (ye_has u v) ≤ 12 := by
      have h1 := List.countP_le_length (p := ye_has u v) (l := K.take k)
      rw [List.length_take] at h1
      omega
    refine ky_iload (pc := 27) C dX0_passing_27 rfl ?_
    refine ky_aload_n (pc := 29) C dX0_passing_29 rfl ?_
    refine x_g4 (pc := 30) C dX0_passing_30 rfl ?_
    refine ky_icmp_ge (pc := 33) (tgt := 104) C dX0_passing_33 (by decide) (by omega) (by omega) (fun h_33 => ?_) (fun h_33 => ?_)
    · omega
    · refine ky_iconst (pc := 36) C 0 dX0_passing_36 (by decide) ?_
      refine ky_istore (pc := 37) C dX0_passing_37 (by decide) ?_
      refine x_pas2 (q := q) (tot := (K.take k).countP (ye_has u v)) C hA hR hu hv (by omega) hct hq.2.1 hql (by omega) q3 q5 ?_ (q.length - 1) 0 (by omega)
      rw [ye_hc_has hq.1, ← ye_count_next q2]
      refine ky_iinc1 (pc := 98) C dX0_passing_98 rfl (by decide) ?_
      refine ky_goto (pc := 101) (tgt := 27) C dX0_passing_101 (by decide) ?_
      exact ih (k + 1) (by omega)
/-- passing(u, v) -/
theorem x_passing (l : Launch) (D : va_G) (o : Nat) (ad : Nat → Nat) (dA : Nat → ClassId) (G : Nat → Nat) (F : Nat → Nat → Nat) (u v : Nat) (hu : u < 4294967296) (hv : v < 4294967296) (hI : x_I G F) : xMi l yX0_passing cX0_passing 6 .int rX0_passing D o ad dA G F [nI u, nI v] (fun r G' F' => ((u < 7 ∧ v < 7 ∧ ∃ K, ye_K (F 0) (G 1) (G 2) K ∧ r = K.countP (ye_has u v)) ∨ (¬ (u < 7 ∧ v < 7) ∧ r = 4294967295)) ∧ x_sm G F G' F') := by
  refine xMi.intro (L := [some (.ref o), some (.int (nI u)), some (.int (nI v)), none, none, none]) (by decide) rfl (Nat.le_of_ble_eq_true rfl) rfl ?_
  intro p e s m args below meth c A C hr hlocks hA
  refine ky_aload_n (pc := 0) C dX0_passing_0 rfl ?_
  refine ky_iload_n (pc := 1) C dX0_passing_1 rfl ?_
  refine x_ci (pc := 2) C hA (x_isVertex l D o ad dA G F u hu) (cwV 1 C.2.2.2.2.1 (lw_V q92 q94 qs0 q24 q95) rfl rfl rfl (by decide +kernel) ⟨Nat.le_of_ble_eq_true rfl, Nat.le_of_ble_eq_true rfl⟩) rfl rfl (Nat.le_of_ble_eq_true rfl) dX0_passing_2 (fun r G' F' hv1 => ?_)
  obtain ⟨hv1, eG, eF⟩ := hv1
  rw [eG, eF]
  clear eG eF
  by_cases hu7 : u < 7
  · rw [if_pos hu7] at hv1
    subst hv1
    refine ky_if_eq (pc := 5) (tgt := 16) C dX0_passing_5 (by decide) (by omega) (fun h_5 => ?_) (fun h_5 => ?_)
    · exact absurd h_5 (by decide)
    · refine ky_aload_n (pc := 8) C dX0_passing_8 rfl ?_
      refine ky_iload_n (pc := 9) C dX0_passing_9 rfl ?_
      refine x_ci (pc := 10) C hA (x_isVertex l D o ad dA G F v hv) (cwV 1 C.2.2.2.2.1 (lw_V q92 q94 qs0 q24 q95) rfl rfl rfl (by decide +kernel) ⟨Nat.le_of_ble_eq_true rfl, Nat.le_of_ble_eq_true rfl⟩) rfl rfl (Nat.le_of_ble_eq_true rfl) dX0_passing_10 (fun r G' F' hv1 => ?_)
      obtain ⟨hv1, eG, eF⟩ := hv1
      rw [eG, eF]
      clear eG eF
      by_cases hv7 : v < 7
      · rw [if_pos hv7] at hv1
        subst hv1
        refine ky_if_ne (pc := 13) (tgt := 18) C dX0_passing_13 (by decide) (by omega) (fun h_13 => ?_) (fun h_13 => ?_)
        · refine ky_aload_n (pc := 18) C dX0_passing_18 rfl ?_
          refine x_cv (pc := 19) C hA (x_findPaths l D o ad dA G F hI) (cwV 0 C.2.2.2.2.1 (lw_V q108 q110 qs1 q24 q111) rfl rfl rfl (by decide +kernel) ⟨Nat.le_of_ble_eq_true rfl, Nat.le_of_ble_eq_true rfl⟩) rfl rfl (Nat.le_of_ble_eq_true rfl) dX0_passing_19 (fun G' F' hv => ?_)
          obtain ⟨hI', hc, e0, e1, e2⟩ := hv
          obtain ⟨K, k1, k2, k3⟩ := x_cache_K hI' hc
          have hst := hI'.2.2.2.1
          refine ky_iconst (pc := 22) C 0 dX0_passing_22 (by decide) ?_
          refine ky_istore_n (pc := 23) C dX0_passing_23 (by decide) ?_
          refine ky_iconst (pc := 24) C 0 dX0_passing_24 (by decide) ?_
          refine ky_istore (pc := 25) C dX0_passing_25 (by decide) ?_
          refine x_pas1 (K := K) C hA (by decide) hu7 hv7 hst k1.2.1 k1.2.2.1 k2 k3 ?_ K.length 0 (by omega)
          refine ky_iload_n (pc := 104) C dX0_passing_104 rfl ?_
          rw [e0, e1, e2] at k1
          exact x_iret C hr hlocks dX0_passing_105 ⟨Or.inl ⟨hu7, hv7, K, k1, rfl⟩, hI', e0, e1, e2⟩
        · exact absurd h_13 (by decide)
      · rw [if_neg hv7] at hv1
        subst hv1
        refine ky_if_ne (pc := 13) (tgt := 18) C dX0_passing_13 (by decide) (by omega) (fun h_13 => ?_) (fun h_13 => ?_)
        · exact absurd rfl h_13
        · refine ky_iconst (pc := 16) C 4294967295 dX0_passing_16 (by decide) ?_
          exact x_iret C hr hlocks dX0_passing_17 ⟨Or.inr ⟨fun z => hv7 z.2, rfl⟩, x_sm_rf hI⟩
  · rw [if_neg hu7] at hv1
    subst hv1
    refine ky_if_eq (pc := 5) (tgt := 16) C dX0_passing_5 (by decide) (by omega) (fun h_5 => ?_) (fun h_5 => ?_)
    · refine ky_iconst (pc := 16) C 4294967295 dX0_passing_16 (by decide) ?_
      exact x_iret C hr hlocks dX0_passing_17 ⟨Or.inr ⟨fun z => hu7 z.1, rfl⟩, x_sm_rf hI⟩
    · exact absurd rfl h_5
/-- avoiding(u, v) -/
theorem x_avoiding (l : Launch) (D : va_G) (o : Nat) (ad : Nat → Nat) (dA : Nat → ClassId) (G : Nat → Nat) (F : Nat → Nat → Nat) (u v : Nat) (hu : u < 4294967296) (hv : v < 4294967296) (hI : x_I G F) : xMi l yX0_avoiding cX0_avoiding 4 .int rX0_avoiding D o ad dA G F [nI u, nI v] (fun r G' F' => ((u < 7 ∧ v < 7 ∧ ye_sw (F 0) u v (ye_path (F 0) 4294967295 (G 1) (G 2)) r) ∨ (¬ (u < 7 ∧ v < 7) ∧ r = 4294967295)) ∧ x_sm G F G' F') := by
  refine xMi.intro (L := [some (.ref o), some (.int (nI u)), some (.int (nI v)), none]) (by decide) rfl (Nat.le_of_ble_eq_true rfl) rfl ?_
  intro p e s m args below meth c A C hr hlocks hA
  refine ky_aload_n (pc := 0) C dX0_avoiding_0 rfl ?_
  refine ky_iload_n (pc := 1) C dX0_avoiding_1 rfl ?_
  refine x_ci (pc := 2) C hA (x_isVertex l D o ad dA G F u hu) (cwV 1 C.2.2.2.2.1 (lw_V q92 q94 qs0 q24 q95) rfl rfl rfl (by decide +kernel) ⟨Nat.le_of_ble_eq_true rfl, Nat.le_of_ble_eq_true rfl⟩) rfl rfl (Nat.le_of_ble_eq_true rfl) dX0_avoiding_2 (fun r G' F' hv1 => ?_)
  obtain ⟨hv1, eG, eF⟩ := hv1
  rw [eG, eF]
  clear eG eF
  by_cases hu7 : u < 7
  · rw [if_pos hu7] at hv1
    subst hv1
    refine ky_if_eq (pc := 5) (tgt := 16) C dX0_avoiding_5 (by decide) (by omega) (fun h_5 => ?_) (fun h_5 => ?_)
    · exact absurd h_5 (by decide)
    · refine ky_aload_n (pc := 8) C dX0_avoiding_8 rfl ?_
      refine ky_iload_n (pc := 9) C dX0_avoiding_9 rfl ?_
      refine x_ci (pc := 10) C hA (x_isVertex l D o ad dA G F v hv) (cwV 1 C.2.2.2.2.1 (lw_V q92 q94 qs0 q24 q95) rfl rfl rfl (by decide +kernel) ⟨Nat.le_of_ble_eq_true rfl, Nat.le_of_ble_eq_true rfl⟩) rfl rfl (Nat.le_of_ble_eq_true rfl) dX0_avoiding_10 (fun r G' F' hv1 => ?_)
      obtain ⟨hv1, eG, eF⟩ := hv1
      rw [eG, eF]
      clear eG eF
      by_cases hv7 : v < 7
      · rw [if_pos hv7] at hv1
        subst hv1
        have hI2 := hI
        obtain ⟨i1, i2, i3, i4, i5, i6⟩ := hI
        refine ky_if_ne (pc := 13) (tgt := 18) C dX0_avoiding_13 (by decide) (by omega) (fun h_13 => ?_) (fun h_13 => ?_)
        · refine ky_aload_n (pc := 18) C dX0_avoiding_18 rfl ?_
          refine ky_bipush (pc := 19) C 7 dX0_avoiding_19 (by decide) ?_
          refine ky_iload_n (pc := 21) C dX0_avoiding_21 rfl ?_
          refine ky_imul (pc := 22) C dX0_avoiding_22 ?_
          refine ky_iload_n (pc := 23) C dX0_avoiding_23 rfl ?_
          refine ky_iadd (pc := 24) C dX0_avoiding_24 ?_
          refine x_p13 (pc := 25) C dX0_avoiding_25 ?_
          refine ky_aload_n (pc := 28) C dX0_avoiding_28 rfl ?_
          refine ky_iconst (pc := 29) C 0 dX0_avoiding_29 (by decide) ?_
          refine x_p15 (pc := 30) C dX0_avoiding_30 ?_
          refine ky_aload_n (pc := 33) C dX0_avoiding_33 rfl ?_
          refine ky_aload_n (pc := 34) C dX0_avoiding_34 rfl ?_
          refine x_g1 (pc := 35) C dX0_avoiding_35 rfl ?_
          refine ky_iconst (pc := 38) C 0 dX0_avoiding_38 (by decide) ?_
          refine ky_iconst (pc := 39) C 0 dX0_avoiding_39 (by decide) ?_
          refine x_ci (pc := 40) C hA (x_goOnW l D o ad dA _ _ (G 1) 0 0 [] (F 0) (7 * u + v) (G 2) rfl rfl rfl i1 (by omega) i2 i3 i4 (by decide) (Nat.zero_testBit _) (by decide) (by simp) (fun x hx => by cases hx) (fun x hx => by cases hx) (by simp) rfl (fun i hi => absurd hi (by simp))) (cwV 3 C.2.2.2.2.1 (lw_V q112 q114 qs2 q24 q115) rfl rfl rfl (by decide +kernel) ⟨Nat.le_of_ble_eq_true rfl, Nat.le_of_ble_eq_true rfl⟩) rfl rfl (Nat.le_of_ble_eq_true rfl) dX0_avoiding_40 (fun r G' F' hv => ?_)
          rcases hv with ⟨rfl, hno, rfl, d, rfl⟩ | ⟨rfl, q, d, wy2, hc, hqn, hmin, hql, hq7, rfl, rfl, hwy2⟩
          · refine ky_istore_n (pc := 43) C dX0_avoiding_43 (by decide) ?_
            refine ky_aload_n (pc := 44) C dX0_avoiding_44 rfl ?_
            refine ky_iconst (pc := 45) C 4294967295 dX0_avoiding_45 (by decide) ?_
            refine x_p13 (pc := 46) C dX0_avoiding_46 ?_
            refine ky_iload_n (pc := 49) C dX0_avoiding_49 rfl ?_
            refine ky_if_eq (pc := 50) (tgt := 60) C dX0_avoiding_50 (by decide) (by omega) (fun h_50 => ?_) (fun h_50 => ?_)
            · refine ky_bipush (pc := 60) C 4294967294 dX0_avoiding_60 (by decide) ?_
              refine x_iret C hr hlocks dX0_avoiding_62 ⟨Or.inl ⟨hu7, hv7, Or.inl ⟨rfl, fun q hq => ?_⟩⟩, ⟨i1, i2, i3, i4, rfl, ?_⟩, rfl, rfl, rfl⟩
              · cases hz : ye_has u v q with
                | true => rfl
                | false => exact absurd (ye_path_cand i4 ((ye_path_has hu7 hv7).mpr ⟨hq, hz⟩)) (hno q)
              · rcases i6 with i6 | ⟨i6, K, k1, k2, k3⟩
                · exact Or.inl i6
                · rw [i5] at k1
                  exact Or.inr ⟨i6, K, k1, k2, k3⟩
            · exact absurd rfl h_50
          · have hP := (ye_path_has hu7 hv7).mp (ye_cand_path i2 hc hqn)
            have hlb := (ye_path_bound i1 hP.1).2.1
            refine ky_istore_n (pc := 43) C dX0_avoiding_43 (by decide) ?_
            refine ky_aload_n (pc := 44) C dX0_avoiding_44 rfl ?_
            refine ky_iconst (pc := 45) C 4294967295 dX0_avoiding_45 (by decide) ?_
            refine x_p13 (pc := 46) C dX0_avoiding_46 ?_
            refine ky_iload_n (pc := 49) C dX0_avoiding_49 rfl ?_
            refine ky_if_eq (pc := 50) (tgt := 60) C dX0_avoiding_50 (by decide) (by omega) (fun h_50 => ?_) (fun h_50 => ?_)
            · exact absurd h_50 (by decide)
            · refine ky_aload_n (pc := 53) C dX0_avoiding_53 rfl ?_
              refine x_g16 (pc := 54) C dX0_avoiding_54 (v := ye_len (F 0) (G 1 :: q)) rfl ?_
              refine ky_goto (pc := 57) (tgt := 62) C dX0_avoiding_57 (by decide) ?_
              refine x_iret C hr hlocks dX0_avoiding_62 ⟨Or.inl ⟨hu7, hv7, Or.inr ⟨by omega, G 1 :: q, hP.1, hP.2, rfl, fun q' hq' hz => ?_⟩⟩, ⟨i1, i2, i3, i4, rfl, ?_⟩, rfl, rfl, rfl⟩
              · rcases hmin q' (ye_path_cand i4 ((ye_path_has hu7 hv7).mpr ⟨hq', hz⟩)) with z | z | z
                · rw [z]; exact Nat.le_refl _
                · omega
                · omega
              · rcases i6 with i6 | ⟨i6, K, k1, k2, k3⟩
                · exact Or.inl i6
                · rw [i5] at k1
                  exact Or.inr ⟨i6, K, k1, k2, k3⟩
        · exact absurd h_13 (by decide)
      · rw [if_neg hv7] at hv1
        subst hv1
        refine ky_if_ne (pc := 13) (tgt := 18) C dX0_avoiding_13 (by decide) (by omega) (fun h_13 => ?_) (fun h_13 => ?_)
        · exact absurd rfl h_13
        · refine ky_iconst (pc := 16) C 4294967295 dX0_avoiding_16 (by decide) ?_
          exact x_iret C hr hlocks dX0_avoiding_17 ⟨Or.inr ⟨fun z => hv7 z.2, rfl⟩, x_sm_rf hI⟩
  · rw [if_neg hu7] at hv1
    subst hv1
    refine ky_if_eq (pc := 5) (tgt := 16) C dX0_avoiding_5 (by decide) (by omega) (fun h_5 => ?_) (fun h_5 => ?_)
    · refine ky_iconst (pc := 16) C 4294967295 dX0_avoiding_16 (by decide) ?_
      exact x_iret C hr hlocks dX0_avoiding_17 ⟨Or.inr ⟨fun z => hu7 z.1, rfl⟩, x_sm_rf hI⟩
    · exact absurd rfl h_5
theorem x_una1 {w : Nat → Nat} {vs vt : Nat} (C : ky_C p s m args c cX0_unavoidable 3 RX0 D (xT dA)) (hA : ∀ q : Nat, s.heap.size ≤ q → A q) (hR : 2 ≤ R.frames ∧ 52 ≤ R.locals)
    (kk : ∀ (G : Nat → Nat) (F : Nat → Nat → Nat) (x : Nat), x_I G F → F 0 = w → G 1 = vs → G 2 = vt → ye_un w vs vt 7 x → ky_At p l e R s m args below meth c 0 0 Q D A 3 (xW o ad dA G F) 73 [some (.ref o), some (.int (nI x)), none] []) :
    ∀ (n i x : Nat) (G : Nat → Nat) (F : Nat → Nat → Nat), i + n = 7 → x_I G F → F 0 = w → G 1 = vs → G 2 = vt → ye_un w vs vt i x → ky_At p l e R s m args below meth c 0 0 Q D A 3 (xW o ad dA G F) 16 [some (.ref o), some (.int (nI x)), some (.int (nI i))] [] := by
  have hRg : rX0_goOn.frames + 1 ≤ R.frames ∧ 8 + (8 + 11) + rX0_goOn.locals ≤ R.locals := ⟨by show 2 ≤ R.frames; omega, by show 52 ≤ R.locals; omega⟩
  intro n
  induction n with
  | zero =>
    intro i x G F hi hI e0 e1 e2 hx
    refine ky_iload_n (pc := 16) C dX0_unavoidable_16 rfl ?_
    refine ky_bipush (pc := 17) C 7 dX0_unavoidable_17 (by decide) ?_
    refine ky_icmp_ge (pc := 19) (tgt := 73) C dX0_unavoidable_19 (by decide) (by omega) (by omega) (fun h_19 => ?_) (fun h_19 => ?_)
    · have e : i = 7 := by omega
      subst e
      refine ky_forget 2 ?_
      exact kk G F x hI e0 e1 e2 hx
    · omega
  | succ n ih =>
    intro i x G F hi hI e0 e1 e2 hx
    have fin : ∀ (G : Nat → Nat) (F : Nat → Nat → Nat) (x : Nat), x_I G F → F 0 = w → G 1 = vs → G 2 = vt → ye_un w vs vt (i + 1) x → ky_At p l e R s m args below meth c 0 0 Q D A 3 (xW o ad dA G F) 67 [some (.ref o), some (.int (nI x)), some (.int (nI i))] [] := by
      intro G F x hI e0 e1 e2 hx
      refine ky_iinc1 (pc := 67) C dX0_unavoidable_67 rfl (by decide) ?_
      refine ky_goto (pc := 70) (tgt := 16) C dX0_unavoidable_70 (by decide) ?_
      exact ih (i + 1) x G F (by omega) hI e0 e1 e2 hx
    have hI2 := hI
    obtain ⟨i1, i2, i3, i4, i5, i6⟩ := hI
    refine ky_iload_n (pc := 16) C dX0_unavoidable_16 rfl ?_
    refine ky_bipush (pc := 17) C 7 dX0_unavoidable_17 (by decide) ?_
    refine ky_icmp_ge (pc := 19) (tgt := 73) C dX0_unavoidable_19 (by decide) (by omega) (by omega) (fun h_19 => ?_) (fun h_19 => ?_)
    · omega
    · refine ky_iload_n (pc := 22) C dX0_unavoidable_22 rfl ?_
      refine ky_aload_n (pc := 23) C dX0_unavoidable_23 rfl ?_
      refine x_g1 (pc := 24) C dX0_unavoidable_24 rfl ?_
      refine ky_icmp_eq (pc := 27) (tgt := 67) C dX0_unavoidable_27 (by decide) (by omega) (by omega) (fun h_27 => ?_) (fun h_27 => ?_)
      · exact fin G F x hI2 e0 e1 e2 (ye_un_skip hx (Or.inl (by omega)))
      · refine ky_iload_n (pc := 30) C dX0_unavoidable_30 rfl ?_
        refine ky_aload_n (pc := 31) C dX0_unavoidable_31 rfl ?_
        refine x_g2 (pc := 32) C dX0_unavoidable_32 rfl ?_
        refine ky_icmp_ne (pc := 35) (tgt := 41) C dX0_unavoidable_35 (by decide) (by omega) (by omega) (fun h_35 => ?_) (fun h_35 => ?_)
        · refine ky_aload_n (pc := 41) C dX0_unavoidable_41 rfl ?_
          refine ky_iconst (pc := 42) C 0 dX0_unavoidable_42 (by decide) ?_
          refine x_p15 (pc := 43) C dX0_unavoidable_43 ?_
          refine ky_aload_n (pc := 46) C dX0_unavoidable_46 rfl ?_
          refine ky_aload_n (pc := 47) C dX0_unavoidable_47 rfl ?_
          refine x_g1 (pc := 48) C dX0_unavoidable_48 rfl ?_
          refine ky_iconst (pc := 51) C 1 dX0_unavoidable_51 (by decide) ?_
          refine ky_iload_n (pc := 52) C dX0_unavoidable_52 rfl ?_
          refine ky_ishl (pc := 53) C dX0_unavoidable_53 (by omega) (by first | omega | exact kn_p7 (by omega)) ?_
          refine ky_iconst (pc := 54) C 0 dX0_unavoidable_54 (by decide) ?_
          refine x_ci (pc := 55) C hA (x_goOnW l D o ad dA _ _ (G 1) (1 * 2 ^ i) 0 [] (F 0) (G 13) (G 2) rfl rfl rfl i1 (by omega) i2 i3 i4 (by have h1 : 2 ^ i < 2 ^ 7 := Nat.pow_lt_pow_right (by decide) (by omega); omega) (by rw [Nat.one_mul, Nat.testBit_two_pow]; simp [h_35]) (by decide) (by simp) (fun x hx => by cases hx) (fun x hx => by cases hx) (by simp) rfl (fun i hi => absurd hi (by simp))) (cwV 3 C.2.2.2.2.1 (lw_V q112 q114 qs2 q24 q115) rfl rfl rfl (by decide +kernel) hRg) rfl rfl (Nat.le_of_ble_eq_true rfl) dX0_unavoidable_55 (fun r G' F' hv => ?_)
          rcases hv with ⟨rfl, hno, rfl, d, rfl⟩ | ⟨rfl, q, d, wy2, hc, hqn, hmin, hql, hq7, rfl, rfl, hwy2⟩
          · refine ky_if_ne (pc := 58) (tgt := 67) C dX0_unavoidable_58 (by decide) (by omega) (fun h_58 => ?_) (fun h_58 => ?_)
            · exact absurd rfl h_58
            · refine ky_iload_n (pc := 61) C dX0_unavoidable_61 rfl ?_
              refine ky_iconst (pc := 62) C 1 dX0_unavoidable_62 (by decide) ?_
              refine ky_iload_n (pc := 63) C dX0_unavoidable_63 rfl ?_
              refine ky_ishl (pc := 64) C dX0_unavoidable_64 (by omega) (by first | omega | exact kn_p7 (by omega)) ?_
              refine ky_ior (pc := 65) C dX0_unavoidable_65 ?_
              refine ky_istore_n (pc := 66) C dX0_unavoidable_66 (by decide) ?_
              refine fin _ _ _ ⟨i1, i2, i3, i4, i5, i6⟩ e0 e1 e2 (ye_un_take hx (by omega) (fun q hq => ?_))
              by_cases hm : i ∈ q
              · exact hm
              · exfalso
                rw [← e0, ← e1, ← e2, ← i5] at hq
                exact hno q (ye_path_off i4 hq hm)
          · have hP := ye_off_path i2 h_27 hc hqn
            refine ky_if_ne (pc := 58) (tgt := 67) C dX0_unavoidable_58 (by decide) (by omega) (fun h_58 => ?_) (fun h_58 => ?_)
            · refine fin _ _ _ ⟨i1, i2, i3, i4, i5, i6⟩ e0 e1 e2 (ye_un_skip hx (Or.inr (Or.inr (fun hall => ?_))))
              have h1 := hP.1
              rw [i5, e0, e1, e2] at h1
              rw [e1] at hP
              exact hP.2 (hall _ h1)
            · exact absurd h_58 (by decide)
        · refine ky_goto (pc := 38) (tgt := 67) C dX0_unavoidable_38 (by decide) ?_
          exact fin G F x hI2 e0 e1 e2 (ye_un_skip hx (Or.inr (Or.inl (by omega))))
/-- unavoidable() -/
theorem x_unavoidable (l : Launch) (D : va_G) (o : Nat) (ad : Nat → Nat) (dA : Nat → ClassId) (G : Nat → Nat) (F : Nat → Nat → Nat) (hI : x_I G F) : xMi l yX0_unavoidable cX0_unavoidable 3 .int rX0_unavoidable D o ad dA G F [] (fun r G' F' => ye_ev (ye_path (F 0) 4294967295 (G 1) (G 2)) r ∧ x_sm G F G' F') := by
  refine xMi.intro (L := [some (.ref o), none, none]) (by decide) rfl (Nat.le_of_ble_eq_true rfl) rfl ?_
  intro p e s m args below meth c A C hr hlocks hA
  have h1 := hI.2.1
  have h2 := hI.2.2.1
  refine ky_iconst (pc := 0) C 1 dX0_unavoidable_0 (by decide) ?_
  refine ky_aload_n (pc := 1) C dX0_unavoidable_1 rfl ?_
  refine x_g1 (pc := 2) C dX0_unavoidable_2 rfl ?_
  refine ky_ishl (pc := 5) C dX0_unavoidable_5 (by omega) (by first | omega | exact kn_p7 (by omega)) ?_
  refine ky_iconst (pc := 6) C 1 dX0_unavoidable_6 (by decide) ?_
  refine ky_aload_n (pc := 7) C dX0_unavoidable_7 rfl ?_
  refine x_g2 (pc := 8) C dX0_unavoidable_8 rfl ?_
  refine ky_ishl (pc := 11) C dX0_unavoidable_11 (by omega) (by first | omega | exact kn_p7 (by omega)) ?_
  refine ky_ior (pc := 12) C dX0_unavoidable_12 ?_
  refine ky_istore_n (pc := 13) C dX0_unavoidable_13 (by decide) ?_
  refine ky_iconst (pc := 14) C 0 dX0_unavoidable_14 (by decide) ?_
  refine ky_istore_n (pc := 15) C dX0_unavoidable_15 (by decide) ?_
  refine x_una1 (w := F 0) (vs := G 1) (vt := G 2) C hA (by decide) (fun G' F' x hI' e0 e1 e2 hx => ?_) 7 0 _ G F rfl hI rfl rfl rfl (ye_un_0 h1 h2)
  refine ky_iload_n (pc := 73) C dX0_unavoidable_73 rfl ?_
  exact x_iret C hr hlocks dX0_unavoidable_74 ⟨ye_un_ev hx, hI', e0, e1, e2⟩
end Y27
end
section
/-! PURE: what the reference keeps, in its arrays -/
theorem ye_lx_of : ∀ (j : Nat) (p q : List Nat), j < p.length → j < q.length → (∀ k, k < j → ye_dg p k = ye_dg q k) → ye_dg p j < ye_dg q j → ye_lx p q
  | _, [], _ => fun h => by simp at h
  | _, _ :: _, [] => fun _ h => by simp at h
  | 0, a :: p, b :: q => fun _ _ _ h => Or.inl h
  | j + 1, a :: p, b :: q => fun h1 h2 h3 h4 => by
    have e : a = b := h3 0 (by omega)
    exact Or.inr ⟨e, ye_lx_of j p q (by simpa using h1) (by simpa using h2) (fun k hk => h3 (k + 1) (by omega)) h4⟩
/-- place k of the arrays holds the path q -/
def w_sl (w : Nat → Nat) (F : Nat → Nat → Nat) (k : Nat) (q : List Nat) : Prop := F 7 k = ye_len w q ∧ F 8 k = q.length ∧ ∀ i, i < q.length → F 9 (7 * k + i) = ye_dg q i
def w_rep (w : Nat → Nat) (F : Nat → Nat → Nat) (K : List (List Nat)) : Prop := ∀ (k : Nat) (q : List Nat), K[k]? = some q → w_sl w F k q
theorem w_rep_get {w : Nat → Nat} {F : Nat → Nat → Nat} {K : List (List Nat)} {k : Nat} (hr : w_rep w F K) (hk : k < K.length) : ∃ q, q ∈ K ∧ K[k]? = some q ∧ w_sl w F k q := by
  have h1 := List.getElem?_eq_getElem hk
  exact ⟨K[k], List.getElem_mem hk, h1, hr k _ h1⟩
/-- the state of keep's loop: a is where the new path goes as far as is known, places from j on have been looked at -/
def w_kp (w : Nat → Nat) (p : List Nat) (K : List (List Nat)) (j a : Nat) (F : Nat → Nat → Nat) : Prop :=
  j ≤ a ∧ a ≤ K.length ∧ (∀ i q, j ≤ i → i < a → K[i]? = some q → ¬ ye_lt w p q) ∧ (∀ i q, a ≤ i → K[i]? = some q → ye_lt w p q) ∧ (∀ i q, i < a → K[i]? = some q → w_sl w F i q) ∧ ∀ i q, a ≤ i → K[i]? = some q → w_sl w F (i + 1) q
theorem w_kp_start {w : Nat → Nat} {p : List Nat} {K : List (List Nat)} {F : Nat → Nat → Nat} (h : w_rep w F K) : w_kp w p K K.length K.length F := by
  refine ⟨Nat.le_refl _, Nat.le_refl _, fun i q h1 h2 => absurd h1 (by omega), fun i q h1 h2 => ?_, fun i q _ h2 => h i q h2, fun i q h1 h2 => ?_⟩
  · have := (List.getElem?_eq_some_iff.mp h2).1
    omega
  · have := (List.getElem?_eq_some_iff.mp h2).1
    omega
theorem w_kp_no {w : Nat → Nat} {p q : List Nat} {K : List (List Nat)} {j a : Nat} {F : Nat → Nat → Nat} (h : w_kp w p K (j + 1) a F) (hq : K[j]? = some q) (hn : ¬ ye_lt w p q) : w_kp w p K j a F := by
  obtain ⟨h1, h2, h3, h4, h5, h6⟩ := h
  refine ⟨by omega, h2, fun i q' i1 i2 i3 => ?_, h4, h5, h6⟩
  by_cases e : i = j
  · rw [e, hq] at i3
    rw [← Option.some.inj i3]
    exact hn
  · exact h3 i q' (by omega) i2 i3
theorem w_kp_at {w : Nat → Nat} {p q : List Nat} {K : List (List Nat)} {j a : Nat} {F : Nat → Nat → Nat} (hK : K.Pairwise (ye_lt w)) (h : w_kp w p K (j + 1) a F) (hq : K[j]? = some q) (hy : ye_lt w p q) : a = j + 1 := by
  obtain ⟨h1, h2, h3, h4, h5, h6⟩ := h
  rcases Nat.lt_or_ge (j + 1) a with z | z
  · exfalso
    have hlt : j + 1 < K.length := by omega
    have h7 := List.getElem?_eq_getElem hlt
    refine h3 (j + 1) _ (Nat.le_refl _) z h7 ?_
    refine ye_lt_trans hy ?_
    have h8 : j < K.length := by omega
    have h9 : K[j] = q := by
      rw [List.getElem?_eq_getElem h8] at hq
      exact Option.some.inj hq
    rw [← h9]
    exact List.pairwise_iff_getElem.mp hK j (j + 1) h8 hlt (by omega)
  · omega
theorem w_kp_yes {w : Nat → Nat} {p q : List Nat} {K : List (List Nat)} {j : Nat} {F F' : Nat → Nat → Nat} (h : w_kp w p K (j + 1) (j + 1) F) (hq : K[j]? = some q) (hy : ye_lt w p q) (hs : w_sl w F' (j + 1) q) (ho : ∀ i q, i ≠ j + 1 → q ∈ K → w_sl w F i q → w_sl w F' i q) : w_kp w p K j j F' := by
  obtain ⟨h1, h2, h3, h4, h5, h6⟩ := h
  refine ⟨Nat.le_refl _, by omega, fun i q' i1 i2 => absurd i1 (by omega), fun i q' i1 i2 => ?_, fun i q' i1 i2 => ho i q' (by omega) (List.mem_of_getElem? i2) (h5 i q' (by omega) i2), fun i q' i1 i2 => ?_⟩
  · by_cases e : i = j
    · rw [e, hq] at i2
      rw [← Option.some.inj i2]
      exact hy
    · exact h4 i q' (by omega) i2
  · by_cases e : i = j
    · rw [e, hq] at i2
      rw [← Option.some.inj i2, e]
      exact hs
    · exact ho (i + 1) q' (by omega) (List.mem_of_getElem? i2) (h6 i q' (by omega) i2)
/-- behind the loop, with the new path laid at a -/
theorem w_kp_end {w : Nat → Nat} {p : List Nat} {K : List (List Nat)} {a : Nat} {F F' : Nat → Nat → Nat} (h : w_kp w p K 0 a F) (hs : w_sl w F' a p) (ho : ∀ i q, i ≠ a → q ∈ K → w_sl w F i q → w_sl w F' i q) :
    w_rep w F' (K.take a ++ p :: K.drop a) ∧ (∀ x ∈ K.take a, ¬ ye_lt w p x) ∧ (∀ x ∈ K.drop a, ye_lt w p x) := by
  obtain ⟨h1, h2, h3, h4, h5, h6⟩ := h
  have hl : (K.take a).length = a := by rw [List.length_take]; omega
  refine ⟨fun k q hk => ?_, fun x hx => ?_, fun x hx => ?_⟩
  · rcases Nat.lt_trichotomy k a with z | z | z
    · rw [List.getElem?_append_left (by omega), List.getElem?_take_of_lt z] at hk
      exact ho k q (by omega) (List.mem_of_getElem? hk) (h5 k q z hk)
    · rw [List.getElem?_append_right (by omega), z, hl, Nat.sub_self, List.getElem?_cons_zero] at hk
      rw [← Option.some.inj hk, z]
      exact hs
    · rw [List.getElem?_append_right (by omega), hl, show k - a = (k - a - 1) + 1 by omega, List.getElem?_cons_succ, List.getElem?_drop] at hk
      have h7 := h6 (a + (k - a - 1)) q (by omega) hk
      rw [show a + (k - a - 1) + 1 = k by omega] at h7
      exact ho k q (by omega) (List.mem_of_getElem? hk) h7
  · obtain ⟨i, hi⟩ := List.getElem?_of_mem hx
    have hia : i < a := by
      have := (List.getElem?_eq_some_iff.mp hi).1
      omega
    rw [List.getElem?_take_of_lt hia] at hi
    exact h3 i x (by omega) hia hi
  · obtain ⟨i, hi⟩ := List.getElem?_of_mem hx
    rw [List.getElem?_drop] at hi
    exact h4 (a + i) x (by omega) hi
theorem w_rep_take {w : Nat → Nat} {F : Nat → Nat → Nat} {K : List (List Nat)} {n : Nat} (h : w_rep w F K) : w_rep w F (K.take n) := by
  intro k q hk
  have hkn : k < n := by
    have := (List.getElem?_eq_some_iff.mp hk).1
    rw [List.length_take] at this
    omega
  rw [List.getElem?_take_of_lt hkn] at hk
  exact h k q hk
/-- the state of the search -/
def ye_good (w : Nat → Nat) (s : Nat) (x : List Nat × (Nat → Nat) × List (List Nat)) : Prop := x.1.Nodup ∧ (∀ y ∈ x.1, y < 7) ∧ ye_wk w 4294967295 x.1 ∧ (x.1 ≠ [] → x.1.head? = some s) ∧ ∀ i, 1 ≤ i → i ≤ x.1.length → x.2.1 i ≤ 7
theorem ye_getLastD {p : List Nat} (h : p ≠ []) : p.getLastD 0 = ye_dg p (p.length - 1) ∧ p.getLast? = some (p.getLastD 0) := by
  obtain ⟨x, a, rfl⟩ : ∃ x a, p = x ++ [a] := ⟨p.dropLast, p.getLast h, (List.dropLast_concat_getLast h).symm⟩
  constructor
  · have h1 : (x ++ [a])[(x ++ [a]).length - 1]? = some a := by
      rw [List.length_append, List.length_singleton, Nat.add_sub_cancel, List.getElem?_append_right (Nat.le_refl _), Nat.sub_self]
      rfl
    rw [ye_dg_some h1]
    simp
  · simp
theorem ye_good_pop {w : Nat → Nat} {s v : Nat} {p : List Nat} {tr : Nat → Nat} {Z Z' : List (List Nat)} (h : ye_good w s (p, tr, Z)) (hp : p ≠ []) : ye_good w s (p.dropLast, va_up tr p.length v, Z') := by
  obtain ⟨h1, h2, h3, h4, h5⟩ := h
  obtain ⟨x, a, rfl⟩ : ∃ x a, p = x ++ [a] := ⟨p.dropLast, p.getLast hp, (List.dropLast_concat_getLast hp).symm⟩
  have e : (x ++ [a]).dropLast = x := by simp
  have el : (x ++ [a]).length = x.length + 1 := by simp
  unfold ye_good
  dsimp only at h1 h2 h3 h4 h5 ⊢
  rw [e]
  refine ⟨(List.nodup_append.mp h1).1, fun y hy => h2 y (List.mem_append_left _ hy), ?_, fun hx => ?_, fun i i1 i2 => ?_⟩
  · rcases List.eq_nil_or_concat x with z | ⟨x', b, z⟩
    · rw [z]; trivial
    · rw [List.concat_eq_append] at z
      subst z
      have h6 : ye_wk w 4294967295 (x' ++ b :: [a]) := by
        rw [List.append_assoc] at h3
        exact h3
      exact ((ye_wk_app b [a] x').mp h6).1
  · have h6 := h4 hp
    cases x with
    | nil => exact absurd rfl hx
    | cons b x => exact h6
  · rw [vu_ne (by omega)]
    exact h5 i i1 (by omega)
theorem ye_good_push {w : Nat → Nat} {s j v : Nat} {p : List Nat} {tr : Nat → Nat} {Z : List (List Nat)} (h : ye_good w s (p, tr, Z)) (hp : p ≠ []) (hj : j < 7) (hv : v ≤ 7) (hw : 0 < w (7 * p.getLastD 0 + j)) (hn : j ∉ p) : ye_good w s (p ++ [j], va_up (va_up tr p.length v) (p.length + 1) 0, Z) := by
  obtain ⟨h1, h2, h3, h4, h5⟩ := h
  obtain ⟨x, a, rfl⟩ : ∃ x a, p = x ++ [a] := ⟨p.dropLast, p.getLast hp, (List.dropLast_concat_getLast hp).symm⟩
  have hla : (x ++ [a]).getLastD 0 = a := by simp
  rw [hla] at hw
  dsimp only at h1 h2 h3 h4 h5
  refine ⟨?_, ?_, ?_, fun _ => ?_, fun i i1 i2 => ?_⟩
  · refine List.nodup_append.mpr ⟨h1, by simp, fun b hb c hc e => ?_⟩
    have : c = j := by simpa using hc
    exact hn (by rw [← this, ← e]; exact hb)
  · intro y hy
    rcases List.mem_append.mp hy with z | z
    · exact h2 y z
    · have : y = j := by simpa using z
      omega
  · show ye_wk w 4294967295 (x ++ [a] ++ [j])
    rw [List.append_assoc]
    show ye_wk w 4294967295 (x ++ a :: [j])
    rw [ye_wk_app]
    have ha := h2 a (by simp)
    exact ⟨h3, ⟨by omega, by omega⟩, trivial⟩
  · have h6 := h4 hp
    show (x ++ [a] ++ [j]).head? = some s
    cases x with
    | nil => exact h6
    | cons b x => exact h6
  · show va_up (va_up tr (x ++ [a]).length v) ((x ++ [a]).length + 1) 0 i ≤ 7
    have i3 : i ≤ (x ++ [a]).length + 1 := by
      have : (x ++ [a] ++ [j]).length = (x ++ [a]).length + 1 := by rw [List.length_append]; rfl
      rw [← this]
      exact i2
    unfold va_up
    split
    · omega
    · split
      · exact hv
      · exact h5 i i1 (by omega)
theorem ye_good_stay {w : Nat → Nat} {s v : Nat} {p : List Nat} {tr : Nat → Nat} {Z : List (List Nat)} (h : ye_good w s (p, tr, Z)) (hv : v ≤ 7) : ye_good w s (p, va_up tr p.length v, Z) := by
  obtain ⟨h1, h2, h3, h4, h5⟩ := h
  refine ⟨h1, h2, h3, h4, fun i i1 i2 => ?_⟩
  show va_up tr p.length v i ≤ 7
  unfold va_up
  split
  · exact hv
  · exact h5 i i1 i2
theorem ye_run_Z {w : Nat → Nat} {t : Nat} : ∀ (n : Nat) (x y : List Nat × (Nat → Nat) × List (List Nat)), ye_run w t n x y → ∃ r, y.2.2 = x.2.2 ++ r
  | 0, x, y => fun h => ⟨[], by
      have e : x = y := h
      rw [e]; simp⟩
  | n + 1, x, y => fun h => by
    obtain ⟨r, hr⟩ := ye_run_Z n _ _ h.2
    have hs : ∃ r', (ye_stp w t x).2.2 = x.2.2 ++ r' := by
      unfold ye_stp
      split
      · exact ⟨[x.1], rfl⟩
      · split
        · exact ⟨[], by simp⟩
        · split
          · exact ⟨[], by simp⟩
          · exact ⟨[], by simp⟩
    obtain ⟨r', hr'⟩ := hs
    exact ⟨r' ++ r, by rw [hr, hr', List.append_assoc]⟩
end
section
/-! WALK: the reference's own methods up to keep (printed by gen.py out of walk/31.model1.walk) -/
set_option maxRecDepth 100000
theorem kn_dec (a : Nat) : nI a - nI 1 = nI (a + 4294967295) := by
  rw [← nI_add, Int32.sub_eq_add_neg]
  congr 1
theorem kn_decI (a : Nat) : nI a + Int32.ofInt (-1) = nI (a + 4294967295) := by
  rw [← nI_add]
  congr 1
/-- the path being made -/
def w_pr (G : Nat → Nat) (F : Nat → Nat → Nat) (q : List Nat) : Prop := G 5 = q.length ∧ q.length ≤ 7 ∧ (∀ x ∈ q, x < 7) ∧ ∀ i, i < q.length → F 3 i = ye_dg q i
section Y31
variable {p : Program} {l : Launch} {e : Env} {R : Room} {s : State} {m : MethodId} {args : Array Value} {below : List Frame} {meth : Method} {c : Code} {Q : State → Prop} {D : va_G} {A : Nat → Prop} {o : Nat} {ad : Nat → Nat} {dA : Nat → ClassId} {G : Nat → Nat} {F : Nat → Nat → Nat}
theorem w_isVertex (l : Launch) (D : va_G) (o : Nat) (ad : Nat → Nat) (dA : Nat → ClassId) (G : Nat → Nat) (F : Nat → Nat → Nat) (v : Nat) (hv : v < 4294967296) : wMi l yX1_isVertex cX1_isVertex 2 .boolean rX1_isVertex D o ad dA G F [nI v] (fun r G' F' => r = (if v < 7 then 1 else 0) ∧ G' = G ∧ F' = F) := by
  refine wMi.intro (L := [some (.ref o), some (.int (nI v))]) (by decide) rfl (Nat.le_of_ble_eq_true rfl) rfl ?_
  intro p e s m args below meth c A C hr hlocks hA
  refine ky_iload_n (pc := 0) C dX1_isVertex_0 rfl ?_
  refine ky_if_lt (pc := 1) (tgt := 14) C dX1_isVertex_1 (by decide) (by omega) (fun h_1 => ?_) (fun h_1 => ?_)
  · refine ky_iconst (pc := 14) C 0 dX1_isVertex_14 (by decide) ?_
    exact w_zret C hr hlocks dX1_isVertex_15 (by decide) ⟨by rw [if_neg (by omega)], rfl, rfl⟩
  · refine ky_iload_n (pc := 4) C dX1_isVertex_4 rfl ?_
    refine ky_bipush (pc := 5) C 6 dX1_isVertex_5 (by decide) ?_
    refine ky_icmp_gt (pc := 7) (tgt := 14) C dX1_isVertex_7 (by decide) (by omega) (by omega) (fun h_7 => ?_) (fun h_7 => ?_)
    · refine ky_iconst (pc := 14) C 0 dX1_isVertex_14 (by decide) ?_
      exact w_zret C hr hlocks dX1_isVertex_15 (by decide) ⟨by rw [if_neg (by omega)], rfl, rfl⟩
    · refine ky_iconst (pc := 10) C 1 dX1_isVertex_10 (by decide) ?_
      refine ky_goto (pc := 11) (tgt := 15) C dX1_isVertex_11 (by decide) ?_
      exact w_zret C hr hlocks dX1_isVertex_15 (by decide) ⟨by rw [if_pos (by omega)], rfl, rfl⟩
theorem w_onp1 {v : Nat} {q : List Nat} (C : ky_C p s m args c cX1_onPath 3 RX1 D (wT dA)) (hv : v < 4294967296) (hq : w_pr G F q)
    (k1 : v ∈ q → ky_At p l e R s m args below meth c 0 0 Q D A 3 (wW o ad dA G F) 20 [some (.ref o), some (.int (nI v)), none] [])
    (k2 : v ∉ q → ky_At p l e R s m args below meth c 0 0 Q D A 3 (wW o ad dA G F) 28 [some (.ref o), some (.int (nI v)), none] []) :
    ∀ (n i : Nat), i + n = q.length → (∀ j, j < i → ye_dg q j ≠ v) → ky_At p l e R s m args below meth c 0 0 Q D A 3 (wW o ad dA G F) 2 [some (.ref o), some (.int (nI v)), some (.int (nI i))] [] := by
  obtain ⟨q1, q2, q3, q4⟩ := hq
  intro n
  induction n with
  | zero =>
    intro i hi hno
    refine ky_iload_n (pc := 2) C dX1_onPath_2 rfl ?_
    refine ky_aload_n (pc := 3) C dX1_onPath_3 rfl ?_
    refine w_g5 (pc := 4) C dX1_onPath_4 rfl ?_
    refine ky_icmp_ge (pc := 7) (tgt := 28) C dX1_onPath_7 (by decide) (by omega) (by omega) (fun h_7 => ?_) (fun h_7 => ?_)
    · refine ky_forget 2 ?_
      refine k2 (fun hm => ?_)
      obtain ⟨j, hj⟩ := List.getElem?_of_mem hm
      have hjl := (List.getElem?_eq_some_iff.mp hj).1
      exact hno j (by omega) (ye_dg_some hj)
    · omega
  | succ n ih =>
    intro i hi hno
    have hx : ye_dg q i < 7 := q3 _ (List.mem_of_getElem? (ye_dg_of (by omega)))
    refine ky_iload_n (pc := 2) C dX1_onPath_2 rfl ?_
    refine ky_aload_n (pc := 3) C dX1_onPath_3 rfl ?_
    refine w_g5 (pc := 4) C dX1_onPath_4 rfl ?_
    refine ky_icmp_ge (pc := 7) (tgt := 28) C dX1_onPath_7 (by decide) (by omega) (by omega) (fun h_7 => ?_) (fun h_7 => ?_)
    · omega
    · refine ky_aload_n (pc := 10) C dX1_onPath_10 rfl ?_
      refine w_g3 (pc := 11) C dX1_onPath_11 ?_
      refine ky_iload_n (pc := 14) C dX1_onPath_14 rfl ?_
      refine w_l3 (pc := 15) C dX1_onPath_15 (v := ye_dg q i) (by omega) (q4 i (by omega)) ?_
      refine ky_iload_n (pc := 16) C dX1_onPath_16 rfl ?_
      refine ky_icmp_ne (pc := 17) (tgt := 22) C dX1_onPath_17 (by decide) (by omega) (by omega) (fun h_17 => ?_) (fun h_17 => ?_)
      · refine ky_iinc1 (pc := 22) C dX1_onPath_22 rfl (by decide) ?_
        refine ky_goto (pc := 25) (tgt := 2) C dX1_onPath_25 (by decide) ?_
        refine ih (i + 1) (by omega) (fun j hj => ?_)
        by_cases e : j = i
        · rw [e]; exact h_17
        · exact hno j (by omega)
      · refine ky_forget 2 ?_
        exact k1 (by rw [← h_17]; exact List.mem_of_getElem? (ye_dg_of (by omega)))
/-- onPath(v) -/
theorem w_onPath (l : Launch) (D : va_G) (o : Nat) (ad : Nat → Nat) (dA : Nat → ClassId) (G : Nat → Nat) (F : Nat → Nat → Nat) (v : Nat) (q : List Nat) (hv : v < 4294967296) (hq : w_pr G F q) : wMi l yX1_onPath cX1_onPath 3 .boolean rX1_onPath D o ad dA G F [nI v] (fun r G' F' => ((r = 1 ∧ v ∈ q) ∨ (r = 0 ∧ v ∉ q)) ∧ G' = G ∧ F' = F) := by
  refine wMi.intro (L := [some (.ref o), some (.int (nI v)), none]) (by decide) rfl (Nat.le_of_ble_eq_true rfl) rfl ?_
  intro p e s m args below meth c A C hr hlocks hA
  refine ky_iconst (pc := 0) C 0 dX1_onPath_0 (by decide) ?_
  refine ky_istore_n (pc := 1) C dX1_onPath_1 (by decide) ?_
  refine w_onp1 C hv hq (fun h => ?_) (fun h => ?_) q.length 0 (by omega) (fun j hj => absurd hj (by omega))
  · refine ky_iconst (pc := 20) C 1 dX1_onPath_20 (by decide) ?_
    exact w_zret C hr hlocks dX1_onPath_21 (by decide) ⟨Or.inl ⟨rfl, h⟩, rfl, rfl⟩
  · refine ky_iconst (pc := 28) C 0 dX1_onPath_28 (by decide) ?_
    exact w_zret C hr hlocks dX1_onPath_29 (by decide) ⟨Or.inr ⟨rfl, h⟩, rfl, rfl⟩
theorem w_len1 {q : List Nat} (C : ky_C p s m args c cX1_lengthOfPath 3 RX1 D (wT dA)) (hw : ∀ j, j < 49 → F 0 j ≤ 50) (hq : w_pr G F q) (h1 : 1 ≤ q.length)
    (kk : ky_At p l e R s m args below meth c 0 0 Q D A 3 (wW o ad dA G F) 44 [some (.ref o), some (.int (nI (ye_len (F 0) q))), none] []) :
    ∀ (n i x : Nat), i + n = q.length → 1 ≤ i → x = ye_len (F 0) (q.take i) → ky_At p l e R s m args below meth c 0 0 Q D A 3 (wW o ad dA G F) 4 [some (.ref o), some (.int (nI x)), some (.int (nI i))] [] := by
  obtain ⟨q1, q2, q3, q4⟩ := hq
  intro n
  induction n with
  | zero =>
    intro i x hi hi1 hx0
    refine ky_iload_n (pc := 4) C dX1_lengthOfPath_4 rfl ?_
    refine ky_aload_n (pc := 5) C dX1_lengthOfPath_5 rfl ?_
    refine w_g5 (pc := 6) C dX1_lengthOfPath_6 rfl ?_
    refine ky_icmp_ge (pc := 9) (tgt := 44) C dX1_lengthOfPath_9 (by decide) (by omega) (by omega) (fun h_9 => ?_) (fun h_9 => ?_)
    · refine ky_forget 2 ?_
      rw [hx0, List.take_of_length_le (by omega)]
      exact kk
    · omega
  | succ n ih =>
    intro i x hi hi1 hx0
    have hx : ye_dg q i < 7 := q3 _ (List.mem_of_getElem? (ye_dg_of (by omega)))
    have hy : ye_dg q (i - 1) < 7 := q3 _ (List.mem_of_getElem? (ye_dg_of (by omega)))
    have hstep := ye_len_next (w := F 0) (P := q) (i := i - 1) (by omega)
    rw [show i - 1 + 1 = i by omega, show i - 1 + 2 = i + 1 by omega] at hstep
    refine ky_iload_n (pc := 4) C dX1_lengthOfPath_4 rfl ?_
    refine ky_aload_n (pc := 5) C dX1_lengthOfPath_5 rfl ?_
    refine w_g5 (pc := 6) C dX1_lengthOfPath_6 rfl ?_
    refine ky_icmp_ge (pc := 9) (tgt := 44) C dX1_lengthOfPath_9 (by decide) (by omega) (by omega) (fun h_9 => ?_) (fun h_9 => ?_)
    · omega
    · refine ky_iload_n (pc := 12) C dX1_lengthOfPath_12 rfl ?_
      refine ky_aload_n (pc := 13) C dX1_lengthOfPath_13 rfl ?_
      refine w_g0 (pc := 14) C dX1_lengthOfPath_14 ?_
      refine ky_bipush (pc := 17) C 7 dX1_lengthOfPath_17 (by decide) ?_
      refine ky_aload_n (pc := 19) C dX1_lengthOfPath_19 rfl ?_
      refine w_g3 (pc := 20) C dX1_lengthOfPath_20 ?_
      refine ky_iload_n (pc := 23) C dX1_lengthOfPath_23 rfl ?_
      refine ky_iconst (pc := 24) C 1 dX1_lengthOfPath_24 (by decide) ?_
      refine ky_isub (pc := 25) C dX1_lengthOfPath_25 (by omega) ?_
      refine w_l3 (pc := 26) C dX1_lengthOfPath_26 (v := ye_dg q (i - 1)) (by omega) (q4 (i - 1) (by omega)) ?_
      refine ky_imul (pc := 27) C dX1_lengthOfPath_27 ?_
      refine ky_aload_n (pc := 28) C dX1_lengthOfPath_28 rfl ?_
      refine w_g3 (pc := 29) C dX1_lengthOfPath_29 ?_
      refine ky_iload_n (pc := 32) C dX1_lengthOfPath_32 rfl ?_
      refine w_l3 (pc := 33) C dX1_lengthOfPath_33 (v := ye_dg q i) (by omega) (q4 i (by omega)) ?_
      refine ky_iadd (pc := 34) C dX1_lengthOfPath_34 ?_
      refine w_l0 (pc := 35) C dX1_lengthOfPath_35 (by omega) rfl ?_
      refine ky_iadd (pc := 36) C dX1_lengthOfPath_36 ?_
      refine ky_istore_n (pc := 37) C dX1_lengthOfPath_37 (by decide) ?_
      refine ky_iinc1 (pc := 38) C dX1_lengthOfPath_38 rfl (by decide) ?_
      refine ky_goto (pc := 41) (tgt := 4) C dX1_lengthOfPath_41 (by decide) ?_
      exact ih (i + 1) _ (by omega) (by omega) (by rw [hx0, hstep])
/-- lengthOfPath() -/
theorem w_lengthOfPath (l : Launch) (D : va_G) (o : Nat) (ad : Nat → Nat) (dA : Nat → ClassId) (G : Nat → Nat) (F : Nat → Nat → Nat) (q : List Nat) (hw : ∀ j, j < 49 → F 0 j ≤ 50) (hq : w_pr G F q) (h1 : 1 ≤ q.length) : wMi l yX1_lengthOfPath cX1_lengthOfPath 3 .int rX1_lengthOfPath D o ad dA G F [] (fun r G' F' => r = ye_len (F 0) q ∧ G' = G ∧ F' = F) := by
  refine wMi.intro (L := [some (.ref o), none, none]) (by decide) rfl (Nat.le_of_ble_eq_true rfl) rfl ?_
  intro p e s m args below meth c A C hr hlocks hA
  have h0 : ye_len (F 0) (q.take 1) = 0 := by
    cases q with
    | nil => simp at h1
    | cons a r => rfl
  refine ky_iconst (pc := 0) C 0 dX1_lengthOfPath_0 (by decide) ?_
  refine ky_istore_n (pc := 1) C dX1_lengthOfPath_1 (by decide) ?_
  refine ky_iconst (pc := 2) C 1 dX1_lengthOfPath_2 (by decide) ?_
  refine ky_istore_n (pc := 3) C dX1_lengthOfPath_3 (by decide) ?_
  refine w_len1 C hw hq h1 ?_ (q.length - 1) 1 0 (by omega) (Nat.le_refl _) h0.symm
  refine ky_iload_n (pc := 44) C dX1_lengthOfPath_44 rfl ?_
  exact w_iret C hr hlocks dX1_lengthOfPath_45 ⟨rfl, rfl, rfl⟩
theorem w_pps1 {u v : Nat} {q : List Nat} (C : ky_C p s m args c cX1_pathPasses 4 RX1 D (wT dA)) (hu : u < 4294967296) (hv : v < 4294967296) (hq : w_pr G F q)
    (k1 : ye_has u v q = true → ky_At p l e R s m args below meth c 0 0 Q D A 4 (wW o ad dA G F) 32 [some (.ref o), some (.int (nI u)), some (.int (nI v)), none] [])
    (k2 : ye_has u v q = false → ky_At p l e R s m args below meth c 0 0 Q D A 4 (wW o ad dA G F) 40 [some (.ref o), some (.int (nI u)), some (.int (nI v)), none] []) :
    ∀ (n i : Nat), i + n = q.length + 1 → 1 ≤ i → (∀ j, j + 1 < i → ¬ (ye_dg q j = u ∧ ye_dg q (j + 1) = v)) → ky_At p l e R s m args below meth c 0 0 Q D A 4 (wW o ad dA G F) 2 [some (.ref o), some (.int (nI u)), some (.int (nI v)), some (.int (nI i))] [] := by
  obtain ⟨q1, q2, q3, q4⟩ := hq
  intro n
  induction n with
  | zero =>
    intro i hi hi1 hno
    refine ky_iload_n (pc := 2) C dX1_pathPasses_2 rfl ?_
    refine ky_aload_n (pc := 3) C dX1_pathPasses_3 rfl ?_
    refine w_g5 (pc := 4) C dX1_pathPasses_4 rfl ?_
    refine ky_icmp_ge (pc := 7) (tgt := 40) C dX1_pathPasses_7 (by decide) (by omega) (by omega) (fun h_7 => ?_) (fun h_7 => ?_)
    · refine ky_forget 3 (k2 ?_)
      cases hz : ye_has u v q with
      | false => rfl
      | true =>
        obtain ⟨j, j1, j2⟩ := (ye_has_iff q).mp hz
        exact absurd j2 (hno j (by omega))
    · omega
  | succ n ih =>
    intro i hi hi1 hno
    refine ky_iload_n (pc := 2) C dX1_pathPasses_2 rfl ?_
    refine ky_aload_n (pc := 3) C dX1_pathPasses_3 rfl ?_
    refine w_g5 (pc := 4) C dX1_pathPasses_4 rfl ?_
    refine ky_icmp_ge (pc := 7) (tgt := 40) C dX1_pathPasses_7 (by decide) (by omega) (by omega) (fun h_7 => ?_) (fun h_7 => ?_)
    · refine ky_forget 3 (k2 ?_)
      cases hz : ye_has u v q with
      | false => rfl
      | true =>
        obtain ⟨j, j1, j2⟩ := (ye_has_iff q).mp hz
        exact absurd j2 (hno j (by omega))
    · have hx : ye_dg q i < 7 := q3 _ (List.mem_of_getElem? (ye_dg_of (by omega)))
      have hy : ye_dg q (i - 1) < 7 := q3 _ (List.mem_of_getElem? (ye_dg_of (by omega)))
      have fin : ¬ (ye_dg q (i - 1) = u ∧ ye_dg q i = v) → ky_At p l e R s m args below meth c 0 0 Q D A 4 (wW o ad dA G F) 34 [some (.ref o), some (.int (nI u)), some (.int (nI v)), some (.int (nI i))] [] := by
        intro hn
        refine ky_iinc1 (pc := 34) C dX1_pathPasses_34 rfl (by decide) ?_
        refine ky_goto (pc := 37) (tgt := 2) C dX1_pathPasses_37 (by decide) ?_
        refine ih (i + 1) (by omega) (by omega) (fun j hj => ?_)
        by_cases e : j + 1 = i
        · have e2 : i - 1 = j := by omega
          rw [← e, e2.symm.trans (by omega : i - 1 = j)] at hn
          exact hn
        · exact hno j (by omega)
      refine ky_aload_n (pc := 10) C dX1_pathPasses_10 rfl ?_
      refine w_g3 (pc := 11) C dX1_pathPasses_11 ?_
      refine ky_iload_n (pc := 14) C dX1_pathPasses_14 rfl ?_
      refine ky_iconst (pc := 15) C 1 dX1_pathPasses_15 (by decide) ?_
      refine ky_isub (pc := 16) C dX1_pathPasses_16 (by omega) ?_
      refine w_l3 (pc := 17) C dX1_pathPasses_17 (v := ye_dg q (i - 1)) (by omega) (q4 (i - 1) (by omega)) ?_
      refine ky_iload_n (pc := 18) C dX1_pathPasses_18 rfl ?_
      refine ky_icmp_ne (pc := 19) (tgt := 34) C dX1_pathPasses_19 (by decide) (by omega) (by omega) (fun h_19 => ?_) (fun h_19 => ?_)
      · exact fin (fun z => h_19 z.1)
      · refine ky_aload_n (pc := 22) C dX1_pathPasses_22 rfl ?_
        refine w_g3 (pc := 23) C dX1_pathPasses_23 ?_
        refine ky_iload_n (pc := 26) C dX1_pathPasses_26 rfl ?_
        refine w_l3 (pc := 27) C dX1_pathPasses_27 (v := ye_dg q i) (by omega) (q4 i (by omega)) ?_
        refine ky_iload_n (pc := 28) C dX1_pathPasses_28 rfl ?_
        refine ky_icmp_ne (pc := 29) (tgt := 34) C dX1_pathPasses_29 (by decide) (by omega) (by omega) (fun h_29 => ?_) (fun h_29 => ?_)
        · exact fin (fun z => h_29 z.2)
        · refine ky_forget 3 (k1 ?_)
          exact (ye_has_iff q).mpr ⟨i - 1, by omega, h_19, by rw [show i - 1 + 1 = i by omega]; exact h_29⟩
/-- pathPasses(u, v) -/
theorem w_pathPasses (l : Launch) (D : va_G) (o : Nat) (ad : Nat → Nat) (dA : Nat → ClassId) (G : Nat → Nat) (F : Nat → Nat → Nat) (u v : Nat) (q : List Nat) (hu : u < 4294967296) (hv : v < 4294967296) (hq : w_pr G F q) : wMi l yX1_pathPasses cX1_pathPasses 4 .boolean rX1_pathPasses D o ad dA G F [nI u, nI v] (fun r G' F' => ((r = 1 ∧ ye_has u v q = true) ∨ (r = 0 ∧ ye_has u v q = false)) ∧ G' = G ∧ F' = F) := by
  refine wMi.intro (L := [some (.ref o), some (.int (nI u)), some (.int (nI v)), none]) (by decide) rfl (Nat.le_of_ble_eq_true rfl) rfl ?_
  intro p e s m args below meth c A C hr hlocks hA
  refine ky_iconst (pc := 0) C 1 dX1_pathPasses_0 (by decide) ?_
  refine ky_istore_n (pc := 1) C dX1_pathPasses_1 (by decide) ?_
  refine w_pps1 C hu hv hq (fun h => ?_) (fun h => ?_) q.length 1 (by omega) (Nat.le_refl _) (fun j hj => absurd hj (by omega))
  · refine ky_iconst (pc := 32) C 1 dX1_pathPasses_32 (by decide) ?_
    exact w_zret C hr hlocks dX1_pathPasses_33 (by decide) ⟨Or.inl ⟨rfl, h⟩, rfl, rfl⟩
  · refine ky_iconst (pc := 40) C 0 dX1_pathPasses_40 (by decide) ?_
    exact w_zret C hr hlocks dX1_pathPasses_41 (by decide) ⟨Or.inr ⟨rfl, h⟩, rfl, rfl⟩
theorem w_cbf1 {x k : Nat} {q z : List Nat} (C : ky_C p s m args c cX1_comesBefore 4 RX1 D (wT dA)) (hk : k < 13) (hq : w_pr G F q) (hz7 : ∀ y ∈ z, y < 7) (hzl : z.length ≤ 7) (hz8 : F 8 k = z.length) (hz9 : ∀ i, i < z.length → F 9 (7 * k + i) = ye_dg z i)
    (kk : ∀ (pc r : Nat), (pc = 97 ∨ pc = 105) → ((r = 1 ∧ ye_lx q z) ∨ (r = 0 ∧ ¬ ye_lx q z)) → ky_At p l e R s m args below meth c 0 0 Q D A 4 (wW o ad dA G F) pc [some (.ref o), some (.int (nI x)), some (.int (nI k)), none] [.int (nI r)]) :
    ∀ (n i : Nat), i + n = 7 → (∀ j, j < i → ye_dg q j = ye_dg z j) → ky_At p l e R s m args below meth c 0 0 Q D A 4 (wW o ad dA G F) 28 [some (.ref o), some (.int (nI x)), some (.int (nI k)), some (.int (nI i))] [] := by
  obtain ⟨q1, q2, q3, q4⟩ := hq
  intro n
  have out : ∀ i, (∀ j, j < i → ye_dg q j = ye_dg z j) → (7 ≤ i ∨ q.length ≤ i ∨ z.length ≤ i) → ky_At p l e R s m args below meth c 0 0 Q D A 4 (wW o ad dA G F) 104 [some (.ref o), some (.int (nI x)), some (.int (nI k)), some (.int (nI i))] [] := by
    intro i hi ho
    refine ky_iconst (pc := 104) C 0 dX1_comesBefore_104 (by decide) ?_
    refine ky_forget 3 ?_
    refine kk 105 0 (Or.inr rfl) (Or.inr ⟨rfl, fun hl => ?_⟩)
    obtain ⟨j, j1, j2, j3, j4⟩ := ye_lx_at q z hl
    have := hi j (by omega)
    omega
  induction n with
  | zero =>
    intro i hi he
    refine ky_iload_n (pc := 28) C dX1_comesBefore_28 rfl ?_
    refine ky_bipush (pc := 29) C 7 dX1_comesBefore_29 (by decide) ?_
    refine ky_icmp_ge (pc := 31) (tgt := 104) C dX1_comesBefore_31 (by decide) (by omega) (by omega) (fun h_31 => ?_) (fun h_31 => ?_)
    · exact out i he (Or.inl (by omega))
    · omega
  | succ n ih =>
    intro i hi he
    refine ky_iload_n (pc := 28) C dX1_comesBefore_28 rfl ?_
    refine ky_bipush (pc := 29) C 7 dX1_comesBefore_29 (by decide) ?_
    refine ky_icmp_ge (pc := 31) (tgt := 104) C dX1_comesBefore_31 (by decide) (by omega) (by omega) (fun h_31 => ?_) (fun h_31 => ?_)
    · exact out i he (Or.inl (by omega))
    · refine ky_iload_n (pc := 34) C dX1_comesBefore_34 rfl ?_
      refine ky_aload_n (pc := 35) C dX1_comesBefore_35 rfl ?_
      refine w_g5 (pc := 36) C dX1_comesBefore_36 rfl ?_
      refine ky_icmp_ge (pc := 39) (tgt := 104) C dX1_comesBefore_39 (by decide) (by omega) (by omega) (fun h_39 => ?_) (fun h_39 => ?_)
      · exact out i he (Or.inr (Or.inl (by omega)))
      · refine ky_iload_n (pc := 42) C dX1_comesBefore_42 rfl ?_
        refine ky_aload_n (pc := 43) C dX1_comesBefore_43 rfl ?_
        refine w_g8 (pc := 44) C dX1_comesBefore_44 ?_
        refine ky_iload_n (pc := 47) C dX1_comesBefore_47 rfl ?_
        refine w_l8 (pc := 48) C dX1_comesBefore_48 (v := z.length) (by omega) hz8 ?_
        refine ky_icmp_ge (pc := 49) (tgt := 104) C dX1_comesBefore_49 (by decide) (by omega) (by omega) (fun h_49 => ?_) (fun h_49 => ?_)
        · exact out i he (Or.inr (Or.inr (by omega)))
        · have hx1 : ye_dg q i < 7 := q3 _ (List.mem_of_getElem? (ye_dg_of (by omega)))
          have hx2 : ye_dg z i < 7 := hz7 _ (List.mem_of_getElem? (ye_dg_of (by omega)))
          refine ky_aload_n (pc := 52) C dX1_comesBefore_52 rfl ?_
          refine w_g3 (pc := 53) C dX1_comesBefore_53 ?_
          refine ky_iload_n (pc := 56) C dX1_comesBefore_56 rfl ?_
          refine w_l3 (pc := 57) C dX1_comesBefore_57 (v := ye_dg q i) (by omega) (q4 i (by omega)) ?_
          refine ky_aload_n (pc := 58) C dX1_comesBefore_58 rfl ?_
          refine w_g9 (pc := 59) C dX1_comesBefore_59 ?_
          refine ky_bipush (pc := 62) C 7 dX1_comesBefore_62 (by decide) ?_
          refine ky_iload_n (pc := 64) C dX1_comesBefore_64 rfl ?_
          refine ky_imul (pc := 65) C dX1_comesBefore_65 ?_
          refine ky_iload_n (pc := 66) C dX1_comesBefore_66 rfl ?_
          refine ky_iadd (pc := 67) C dX1_comesBefore_67 ?_
          refine w_l9 (pc := 68) C dX1_comesBefore_68 (v := ye_dg z i) (by omega) (hz9 i (by omega)) ?_
          refine ky_icmp_eq (pc := 69) (tgt := 98) C dX1_comesBefore_69 (by decide) (by omega) (by omega) (fun h_69 => ?_) (fun h_69 => ?_)
          · refine ky_iinc1 (pc := 98) C dX1_comesBefore_98 rfl (by decide) ?_
            refine ky_goto (pc := 101) (tgt := 28) C dX1_comesBefore_101 (by decide) ?_
            refine ih (i + 1) (by omega) (fun j hj => ?_)
            by_cases e : j = i
            · rw [e]; exact h_69
            · exact he j (by omega)
          · refine ky_aload_n (pc := 72) C dX1_comesBefore_72 rfl ?_
            refine w_g3 (pc := 73) C dX1_comesBefore_73 ?_
            refine ky_iload_n (pc := 76) C dX1_comesBefore_76 rfl ?_
            refine w_l3 (pc := 77) C dX1_comesBefore_77 (v := ye_dg q i) (by omega) (q4 i (by omega)) ?_
            refine ky_aload_n (pc := 78) C dX1_comesBefore_78 rfl ?_
            refine w_g9 (pc := 79) C dX1_comesBefore_79 ?_
            refine ky_bipush (pc := 82) C 7 dX1_comesBefore_82 (by decide) ?_
            refine ky_iload_n (pc := 84) C dX1_comesBefore_84 rfl ?_
            refine ky_imul (pc := 85) C dX1_comesBefore_85 ?_
            refine ky_iload_n (pc := 86) C dX1_comesBefore_86 rfl ?_
            refine ky_iadd (pc := 87) C dX1_comesBefore_87 ?_
            refine w_l9 (pc := 88) C dX1_comesBefore_88 (v := ye_dg z i) (by omega) (hz9 i (by omega)) ?_
            refine ky_icmp_ge (pc := 89) (tgt := 96) C dX1_comesBefore_89 (by decide) (by omega) (by omega) (fun h_89 => ?_) (fun h_89 => ?_)
            · refine ky_iconst (pc := 96) C 0 dX1_comesBefore_96 (by decide) ?_
              refine ky_forget 3 ?_
              refine kk 97 0 (Or.inl rfl) (Or.inr ⟨rfl, fun hl => ?_⟩)
              obtain ⟨j, j1, j2, j3, j4⟩ := ye_lx_at q z hl
              rcases Nat.lt_trichotomy j i with y | y | y
              · have := he j y
                omega
              · subst y
                omega
              · exact h_69 (j3 i y)
            · refine ky_iconst (pc := 92) C 1 dX1_comesBefore_92 (by decide) ?_
              refine ky_goto (pc := 93) (tgt := 97) C dX1_comesBefore_93 (by decide) ?_
              refine ky_forget 3 ?_
              exact kk 97 1 (Or.inl rfl) (Or.inl ⟨rfl, ye_lx_of i q z (by omega) (by omega) he h_89⟩)
/-- comesBefore(length, k): whether the path just made comes before the one at place k -/
theorem w_comesBefore (l : Launch) (D : va_G) (o : Nat) (ad : Nat → Nat) (dA : Nat → ClassId) (G : Nat → Nat) (F : Nat → Nat → Nat) (x k : Nat) (w : Nat → Nat) (q z : List Nat) (hx : x = ye_len w q) (hk : k < 13) (hxb : x < 2147483648) (hzb : ye_len w z < 2147483648) (hq : w_pr G F q) (hz7 : ∀ y ∈ z, y < 7) (hzl : z.length ≤ 7) (hz : w_sl w F k z) : wMi l yX1_comesBefore cX1_comesBefore 4 .boolean rX1_comesBefore D o ad dA G F [nI x, nI k] (fun r G' F' => ((r = 1 ∧ ye_lt w q z) ∨ (r = 0 ∧ ¬ ye_lt w q z)) ∧ G' = G ∧ F' = F) := by
  refine wMi.intro (L := [some (.ref o), some (.int (nI x)), some (.int (nI k)), none]) (by decide) rfl (Nat.le_of_ble_eq_true rfl) rfl ?_
  intro p e s m args below meth c A C hr hlocks hA
  obtain ⟨z1, z2, z3⟩ := hz
  refine ky_iload_n (pc := 0) C dX1_comesBefore_0 rfl ?_
  refine ky_aload_n (pc := 1) C dX1_comesBefore_1 rfl ?_
  refine w_g7 (pc := 2) C dX1_comesBefore_2 ?_
  refine ky_iload_n (pc := 5) C dX1_comesBefore_5 rfl ?_
  refine w_l7 (pc := 6) C dX1_comesBefore_6 (v := ye_len w z) (by omega) z1 ?_
  refine ky_icmp_eq (pc := 7) (tgt := 26) C dX1_comesBefore_7 (by decide) (by omega) (by omega) (fun h_7 => ?_) (fun h_7 => ?_)
  · refine ky_iconst (pc := 26) C 0 dX1_comesBefore_26 (by decide) ?_
    refine ky_istore_n (pc := 27) C dX1_comesBefore_27 (by decide) ?_
    refine w_cbf1 C hk hq hz7 hzl z2 z3 (fun pc r hpc hrr => ?_) 7 0 rfl (fun j hj => absurd hj (by omega))
    have hr2 : r < 2 := by rcases hrr with ⟨h, -⟩ | ⟨h, -⟩ <;> omega
    have hpost : ((r = 1 ∧ ye_lt w q z) ∨ (r = 0 ∧ ¬ ye_lt w q z)) := by
      rcases hrr with ⟨h, h2⟩ | ⟨h, h2⟩
      · exact Or.inl ⟨h, Or.inr ⟨by rw [← hx]; exact h_7, h2⟩⟩
      · refine Or.inr ⟨h, fun h3 => ?_⟩
        rcases h3 with h3 | ⟨-, h3⟩
        · omega
        · exact h2 h3
    rcases hpc with rfl | rfl
    · exact w_zret C hr hlocks dX1_comesBefore_97 hr2 ⟨hpost, rfl, rfl⟩
    · exact w_zret C hr hlocks dX1_comesBefore_105 hr2 ⟨hpost, rfl, rfl⟩
  · refine ky_iload_n (pc := 10) C dX1_comesBefore_10 rfl ?_
    refine ky_aload_n (pc := 11) C dX1_comesBefore_11 rfl ?_
    refine w_g7 (pc := 12) C dX1_comesBefore_12 ?_
    refine ky_iload_n (pc := 15) C dX1_comesBefore_15 rfl ?_
    refine w_l7 (pc := 16) C dX1_comesBefore_16 (v := ye_len w z) (by omega) z1 ?_
    refine ky_icmp_ge (pc := 17) (tgt := 24) C dX1_comesBefore_17 (by decide) (by omega) (by omega) (fun h_17 => ?_) (fun h_17 => ?_)
    · refine ky_iconst (pc := 24) C 0 dX1_comesBefore_24 (by decide) ?_
      refine w_zret C hr hlocks dX1_comesBefore_25 (by decide) ⟨Or.inr ⟨rfl, fun h3 => ?_⟩, rfl, rfl⟩
      rcases h3 with h3 | ⟨h3, -⟩
      · omega
      · omega
    · refine ky_iconst (pc := 20) C 1 dX1_comesBefore_20 (by decide) ?_
      refine ky_goto (pc := 21) (tgt := 25) C dX1_comesBefore_21 (by decide) ?_
      exact w_zret C hr hlocks dX1_comesBefore_25 (by decide) ⟨Or.inl ⟨rfl, Or.inl (by omega)⟩, rfl, rfl⟩
theorem w_shf1 {k : Nat} {g : Nat → Nat} (C : ky_C p s m args c cX1_shift 3 RX1 D (wT dA)) (hk : k < 12)
    (kk : ∀ f : Nat → Nat, (∀ i, i < 7 → f (7 * k + 7 + i) = g (7 * k + i)) → (∀ j, j < 7 * k + 7 ∨ 7 * k + 14 ≤ j → f j = g j) → ky_At p l e R s m args below meth c 0 0 Q D A 3 (wW o ad dA G (va_up F 9 f)) 67 [some (.ref o), some (.int (nI k)), none] []) :
    ∀ (n i : Nat) (f : Nat → Nat), i + n = 7 → (∀ j, j < i → f (7 * k + 7 + j) = g (7 * k + j)) → (∀ j, j < 7 * k + 7 ∨ 7 * k + 14 ≤ j → f j = g j) → ky_At p l e R s m args below meth c 0 0 Q D A 3 (wW o ad dA G (va_up F 9 f)) 30 [some (.ref o), some (.int (nI k)), some (.int (nI i))] [] := by
  intro n
  induction n with
  | zero =>
    intro i f hi h1 h2
    refine ky_iload_n (pc := 30) C dX1_shift_30 rfl ?_
    refine ky_bipush (pc := 31) C 7 dX1_shift_31 (by decide) ?_
    refine ky_icmp_ge (pc := 33) (tgt := 67) C dX1_shift_33 (by decide) (by omega) (by omega) (fun h_33 => ?_) (fun h_33 => ?_)
    · refine ky_forget 2 ?_
      exact kk f (fun j hj => h1 j (by omega)) h2
    · omega
  | succ n ih =>
    intro i f hi h1 h2
    refine ky_iload_n (pc := 30) C dX1_shift_30 rfl ?_
    refine ky_bipush (pc := 31) C 7 dX1_shift_31 (by decide) ?_
    refine ky_icmp_ge (pc := 33) (tgt := 67) C dX1_shift_33 (by decide) (by omega) (by omega) (fun h_33 => ?_) (fun h_33 => ?_)
    · omega
    · refine ky_aload_n (pc := 36) C dX1_shift_36 rfl ?_
      refine w_g9 (pc := 37) C dX1_shift_37 ?_
      refine ky_bipush (pc := 40) C 7 dX1_shift_40 (by decide) ?_
      refine ky_iload_n (pc := 42) C dX1_shift_42 rfl ?_
      refine ky_imul (pc := 43) C dX1_shift_43 ?_
      refine ky_bipush (pc := 44) C 7 dX1_shift_44 (by decide) ?_
      refine ky_iadd (pc := 46) C dX1_shift_46 ?_
      refine ky_iload_n (pc := 47) C dX1_shift_47 rfl ?_
      refine ky_iadd (pc := 48) C dX1_shift_48 ?_
      refine ky_aload_n (pc := 49) C dX1_shift_49 rfl ?_
      refine w_g9 (pc := 50) C dX1_shift_50 ?_
      refine ky_bipush (pc := 53) C 7 dX1_shift_53 (by decide) ?_
      refine ky_iload_n (pc := 55) C dX1_shift_55 rfl ?_
      refine ky_imul (pc := 56) C dX1_shift_56 ?_
      refine ky_iload_n (pc := 57) C dX1_shift_57 rfl ?_
      refine ky_iadd (pc := 58) C dX1_shift_58 ?_
      refine w_l9 (pc := 59) C dX1_shift_59 (v := g (7 * k + i)) (by omega) (h2 (7 * k + i) (Or.inl (by omega))) ?_
      refine w_s9 (pc := 60) C dX1_shift_60 (by omega) ?_
      refine ky_iinc1 (pc := 61) C dX1_shift_61 rfl (by decide) ?_
      refine ky_goto (pc := 64) (tgt := 30) C dX1_shift_64 (by decide) ?_
      rw [bx_uu]
      refine ih (i + 1) (va_up f (7 * k + 7 + i) (g (7 * k + i))) (by omega) (fun j hj => ?_) (fun j hj => ?_)
      · by_cases e : j = i
        · rw [e, vu_at]
        · rw [vu_ne (by omega)]
          exact h1 j (by omega)
      · rw [vu_ne (by omega)]
        exact h2 j hj
/-- shift(k): place k + 1 is what place k is -/
theorem w_shift (l : Launch) (D : va_G) (o : Nat) (ad : Nat → Nat) (dA : Nat → ClassId) (G : Nat → Nat) (F : Nat → Nat → Nat) (k : Nat) (hk : k < 12) : wMv l yX1_shift cX1_shift 3 rX1_shift D o ad dA G F [nI k] (fun G' F' => G' = G ∧ ∃ f : Nat → Nat, (∀ i, i < 7 → f (7 * k + 7 + i) = F 9 (7 * k + i)) ∧ (∀ j, j < 7 * k + 7 ∨ 7 * k + 14 ≤ j → f j = F 9 j) ∧ F' = va_up (va_up (va_up F 7 (va_up (F 7) (k + 1) (F 7 k))) 8 (va_up (F 8) (k + 1) (F 8 k))) 9 f) := by
  refine wMv.intro (L := [some (.ref o), some (.int (nI k)), none]) (by decide) rfl (Nat.le_of_ble_eq_true rfl) rfl ?_
  intro p e s m args below meth c A C hr hlocks hA
  refine ky_aload_n (pc := 0) C dX1_shift_0 rfl ?_
  refine w_g7 (pc := 1) C dX1_shift_1 ?_
  refine ky_iload_n (pc := 4) C dX1_shift_4 rfl ?_
  refine ky_iconst (pc := 5) C 1 dX1_shift_5 (by decide) ?_
  refine ky_iadd (pc := 6) C dX1_shift_6 ?_
  refine ky_aload_n (pc := 7) C dX1_shift_7 rfl ?_
  refine w_g7 (pc := 8) C dX1_shift_8 ?_
  refine ky_iload_n (pc := 11) C dX1_shift_11 rfl ?_
  refine w_l7 (pc := 12) C dX1_shift_12 (v := F 7 k) (by omega) rfl ?_
  refine w_s7 (pc := 13) C dX1_shift_13 (by omega) ?_
  refine ky_aload_n (pc := 14) C dX1_shift_14 rfl ?_
  refine w_g8 (pc := 15) C dX1_shift_15 ?_
  refine ky_iload_n (pc := 18) C dX1_shift_18 rfl ?_
  refine ky_iconst (pc := 19) C 1 dX1_shift_19 (by decide) ?_
  refine ky_iadd (pc := 20) C dX1_shift_20 ?_
  refine ky_aload_n (pc := 21) C dX1_shift_21 rfl ?_
  refine w_g8 (pc := 22) C dX1_shift_22 ?_
  refine ky_iload_n (pc := 25) C dX1_shift_25 rfl ?_
  refine w_l8 (pc := 26) C dX1_shift_26 (v := F 8 k) (by omega) rfl ?_
  refine w_s8 (pc := 27) C dX1_shift_27 (by omega) ?_
  refine ky_iconst (pc := 28) C 0 dX1_shift_28 (by decide) ?_
  refine ky_istore_n (pc := 29) C dX1_shift_29 (by decide) ?_
  refine ky_eqW (ws' := wW o ad dA G (va_up (va_up (va_up F 7 (va_up (F 7) (k + 1) (F 7 k))) 8 (va_up (F 8) (k + 1) (F 8 k))) 9 (F 9))) ?_ ?_
  · congr 1
    symm
    exact vu_self (va_up (va_up F 7 (va_up (F 7) (k + 1) (F 7 k))) 8 (va_up (F 8) (k + 1) (F 8 k))) 9
  · refine w_shf1 (g := F 9) C hk (fun f h1 h2 => ?_) 7 0 (F 9) rfl (fun j hj => absurd hj (by omega)) (fun j _ => rfl)
    exact w_vret C hr hlocks dX1_shift_67 ⟨rfl, f, h1, h2, rfl⟩
theorem w_kp1 {x : Nat} {w : Nat → Nat} {q : List Nat} {K : List (List Nat)} (C : ky_C p s m args c cX1_keep 4 RX1 D (wT dA)) (hA : ∀ q : Nat, s.heap.size ≤ q → A q) (hR : 1 ≤ R.frames ∧ 23 ≤ R.locals) (hx : x = ye_len w q) (hxb : x < 2147483648) (hq : w_pr G F q) (hK12 : K.length ≤ 12) (hK : K.Pairwise (ye_lt w)) (hKb : ∀ z ∈ K, (∀ y ∈ z, y < 7) ∧ z.length ≤ 7 ∧ ye_len w z < 2147483648)
    (kk : ∀ (a : Nat) (F' : Nat → Nat → Nat), (∀ j, j ≠ 7 → j ≠ 8 → j ≠ 9 → F' j = F j) → w_kp w q K 0 a F' → ky_At p l e R s m args below meth c 0 0 Q D A 4 (wW o ad dA G F') 43 [some (.ref o), some (.int (nI x)), some (.int (nI a)), none] []) :
    ∀ (j a : Nat) (v : Int32) (F' : Nat → Nat → Nat), v = nI (j + 4294967295) → j ≤ K.length → (∀ i, i ≠ 7 → i ≠ 8 → i ≠ 9 → F' i = F i) → w_kp w q K j a F' → ky_At p l e R s m args below meth c 0 0 Q D A 4 (wW o ad dA G F') 17 [some (.ref o), some (.int (nI x)), some (.int (nI a)), some (.int v)] [] := by
  have hRc : rX1_comesBefore.frames + 1 ≤ R.frames ∧ 8 + (4 + 11) + rX1_comesBefore.locals ≤ R.locals := ⟨by show 1 ≤ R.frames; omega, by show 23 ≤ R.locals; omega⟩
  have hRs : rX1_shift.frames + 1 ≤ R.frames ∧ 8 + (3 + 11) + rX1_shift.locals ≤ R.locals := ⟨by show 1 ≤ R.frames; omega, by show 22 ≤ R.locals; omega⟩
  intro j
  induction j with
  | zero =>
    intro a v F' hv hj hF hkp
    rw [Nat.zero_add] at hv
    subst hv
    refine ky_iload_n (pc := 17) C dX1_keep_17 rfl ?_
    refine ky_if_lt (pc := 18) (tgt := 43) C dX1_keep_18 (by decide) (by omega) (fun h_18 => ?_) (fun h_18 => ?_)
    · refine ky_forget 3 ?_
      exact kk a F' hF hkp
    · omega
  | succ j ih =>
    intro a v F' hv hj hF hkp
    have hv2 : v = nI j := by
      rw [hv, show j + 1 + 4294967295 = j + 4294967296 by omega]
      exact kn_wrap j
    clear hv
    subst hv2
    have hjK : j < K.length := by omega
    have hzj := List.getElem?_eq_getElem hjK
    generalize K[j] = z at hzj
    have hzm : z ∈ K := List.mem_of_getElem? hzj
    obtain ⟨hz7, hzl, hzb⟩ := hKb z hzm
    have hsl : w_sl w F' j z := hkp.2.2.2.2.1 j z (by have := hkp.1; omega) hzj
    have hq' : w_pr G F' q := by
      obtain ⟨q1, q2, q3, q4⟩ := hq
      exact ⟨q1, q2, q3, by rw [hF 3 (by decide) (by decide) (by decide)]; exact q4⟩
    have fin : ∀ (a : Nat) (F' : Nat → Nat → Nat), (∀ i, i ≠ 7 → i ≠ 8 → i ≠ 9 → F' i = F i) → w_kp w q K j a F' → ky_At p l e R s m args below meth c 0 0 Q D A 4 (wW o ad dA G F') 37 [some (.ref o), some (.int (nI x)), some (.int (nI a)), some (.int (nI j))] [] := by
      intro a F' hF hkp
      refine ky_iinc (pc := 37) C (j + 4294967295) dX1_keep_37 rfl (kn_decI j) (by decide) ?_
      refine ky_goto (pc := 40) (tgt := 17) C dX1_keep_40 (by decide) ?_
      exact ih a _ F' rfl (by omega) hF hkp
    refine ky_iload_n (pc := 17) C dX1_keep_17 rfl ?_
    refine ky_if_lt (pc := 18) (tgt := 43) C dX1_keep_18 (by decide) (by omega) (fun h_18 => ?_) (fun h_18 => ?_)
    · omega
    · refine ky_aload_n (pc := 21) C dX1_keep_21 rfl ?_
      refine ky_iload_n (pc := 22) C dX1_keep_22 rfl ?_
      refine ky_iload_n (pc := 23) C dX1_keep_23 rfl ?_
      refine w_ci (pc := 24) C hA (w_comesBefore l D o ad dA G F' x j w q z hx (by omega) hxb hzb hq' hz7 hzl hsl) (cwV 2 C.2.2.2.2.1 (lw_V q264 q266 qs19 q25 q267) rfl rfl rfl (by decide +kernel) hRc) rfl rfl (Nat.le_of_ble_eq_true rfl) dX1_keep_24 (fun r G' F2 hv => ?_)
      obtain ⟨hv, eG, eF⟩ := hv
      rw [eG, eF]
      clear eG eF
      rcases hv with ⟨rfl, hlt⟩ | ⟨rfl, hlt⟩
      · have ea := w_kp_at hK hkp hzj hlt
        subst ea
        refine ky_if_eq (pc := 27) (tgt := 37) C dX1_keep_27 (by decide) (by omega) (fun h_27 => ?_) (fun h_27 => ?_)
        · exact absurd h_27 (by decide)
        · refine ky_aload_n (pc := 30) C dX1_keep_30 rfl ?_
          refine ky_iload_n (pc := 31) C dX1_keep_31 rfl ?_
          refine w_cv (pc := 32) C hA (w_shift l D o ad dA G F' j (by omega)) (cwV 1 C.2.2.2.2.1 (lw_V q268 q270 qs20 q25 q271) rfl rfl rfl (by decide +kernel) hRs) rfl rfl (Nat.le_of_ble_eq_true rfl) dX1_keep_32 (fun G' F2 hv => ?_)
          obtain ⟨eG, f, f1, f2, rfl⟩ := hv
          rw [eG]
          clear eG
          refine ky_iload_n (pc := 35) C dX1_keep_35 rfl ?_
          refine ky_istore_n (pc := 36) C dX1_keep_36 (by decide) ?_
          refine fin j _ (fun i h1 h2 h3 => ?_) (w_kp_yes hkp hzj hlt ?_ ?_)
          · rw [vu_ne h3, vu_ne h2, vu_ne h1]
            exact hF i h1 h2 h3
          · obtain ⟨s1, s2, s3⟩ := hsl
            refine ⟨?_, ?_, fun i hi => ?_⟩
            · show va_up (F' 7) (j + 1) (F' 7 j) (j + 1) = _
              rw [vu_at]; exact s1
            · show va_up (F' 8) (j + 1) (F' 8 j) (j + 1) = _
              rw [vu_at]; exact s2
            · show f (7 * (j + 1) + i) = _
              rw [show 7 * (j + 1) + i = 7 * j + 7 + i by omega, f1 i (by omega)]
              exact s3 i hi
          · intro i y hi hym hs
            obtain ⟨s1, s2, s3⟩ := hs
            have hyl := (hKb y hym).2.1
            refine ⟨?_, ?_, fun i' hi' => ?_⟩
            · show va_up (F' 7) (j + 1) (F' 7 j) i = _
              rw [vu_ne hi]; exact s1
            · show va_up (F' 8) (j + 1) (F' 8 j) i = _
              rw [vu_ne hi]; exact s2
            · show f (7 * i + i') = _
              rw [f2 _ (by omega)]
              exact s3 i' hi'
      · refine ky_if_eq (pc := 27) (tgt := 37) C dX1_keep_27 (by decide) (by omega) (fun h_27 => ?_) (fun h_27 => ?_)
        · exact fin a F' hF (w_kp_no hkp hzj hlt)
        · exact absurd rfl h_27
theorem w_kp2 {x a : Nat} {q : List Nat} {g : Nat → Nat} (C : ky_C p s m args c cX1_keep 4 RX1 D (wT dA)) (ha : a < 13) (hq : w_pr G F q)
    (kk : ∀ f : Nat → Nat, (∀ i, i < q.length → f (7 * a + i) = ye_dg q i) → (∀ j, j < 7 * a ∨ 7 * a + q.length ≤ j → f j = g j) → ky_At p l e R s m args below meth c 0 0 Q D A 4 (wW o ad dA G (va_up F 9 f)) 93 [some (.ref o), some (.int (nI x)), some (.int (nI a)), none] []) :
    ∀ (n i : Nat) (f : Nat → Nat), i + n = q.length → (∀ j, j < i → f (7 * a + j) = ye_dg q j) → (∀ j, j < 7 * a ∨ 7 * a + q.length ≤ j → f j = g j) → ky_At p l e R s m args below meth c 0 0 Q D A 4 (wW o ad dA G (va_up F 9 f)) 62 [some (.ref o), some (.int (nI x)), some (.int (nI a)), some (.int (nI i))] [] := by
  obtain ⟨q1, q2, q3, q4⟩ := hq
  intro n
  induction n with
  | zero =>
    intro i f hi h1 h2
    refine ky_iload_n (pc := 62) C dX1_keep_62 rfl ?_
    refine ky_aload_n (pc := 63) C dX1_keep_63 rfl ?_
    refine w_g5 (pc := 64) C dX1_keep_64 rfl ?_
    refine ky_icmp_ge (pc := 67) (tgt := 93) C dX1_keep_67 (by decide) (by omega) (by omega) (fun h_67 => ?_) (fun h_67 => ?_)
    · refine ky_forget 3 ?_
      exact kk f (fun j hj => h1 j (by omega)) h2
    · omega
  | succ n ih =>
    intro i f hi h1 h2
    refine ky_iload_n (pc := 62) C dX1_keep_62 rfl ?_
    refine ky_aload_n (pc := 63) C dX1_keep_63 rfl ?_
    refine w_g5 (pc := 64) C dX1_keep_64 rfl ?_
    refine ky_icmp_ge (pc := 67) (tgt := 93) C dX1_keep_67 (by decide) (by omega) (by omega) (fun h_67 => ?_) (fun h_67 => ?_)
    · omega
    · refine ky_aload_n (pc := 70) C dX1_keep_70 rfl ?_
      refine w_g9 (pc := 71) C dX1_keep_71 ?_
      refine ky_bipush (pc := 74) C 7 dX1_keep_74 (by decide) ?_
      refine ky_iload_n (pc := 76) C dX1_keep_76 rfl ?_
      refine ky_imul (pc := 77) C dX1_keep_77 ?_
      refine ky_iload_n (pc := 78) C dX1_keep_78 rfl ?_
      refine ky_iadd (pc := 79) C dX1_keep_79 ?_
      refine ky_aload_n (pc := 80) C dX1_keep_80 rfl ?_
      refine w_g3 (pc := 81) C dX1_keep_81 ?_
      refine ky_iload_n (pc := 84) C dX1_keep_84 rfl ?_
      refine w_l3 (pc := 85) C dX1_keep_85 (v := ye_dg q i) (by omega) (q4 i (by omega)) ?_
      refine w_s9 (pc := 86) C dX1_keep_86 (by omega) ?_
      refine ky_iinc1 (pc := 87) C dX1_keep_87 rfl (by decide) ?_
      refine ky_goto (pc := 90) (tgt := 62) C dX1_keep_90 (by decide) ?_
      rw [bx_uu]
      refine ih (i + 1) (va_up f (7 * a + i) (ye_dg q i)) (by omega) (fun j hj => ?_) (fun j hj => ?_)
      · by_cases e : j = i
        · rw [e, vu_at]
        · rw [vu_ne (by omega)]
          exact h1 j (by omega)
      · rw [vu_ne (by omega)]
        exact h2 j hj
/-- keep(): the path goes to its place among the first twelve -/
theorem w_keep (l : Launch) (D : va_G) (o : Nat) (ad : Nat → Nat) (dA : Nat → ClassId) (G : Nat → Nat) (F : Nat → Nat → Nat) (q : List Nat) (K : List (List Nat)) (hw : ∀ j, j < 49 → F 0 j ≤ 50) (hq : w_pr G F q) (h1 : 1 ≤ q.length) (hK12 : K.length ≤ 12) (hK : K.Pairwise (ye_lt (F 0))) (hKb : ∀ z ∈ K, (∀ y ∈ z, y < 7) ∧ z.length ≤ 7) (h6 : G 6 = K.length) (hrp : w_rep (F 0) F K) :
    wMv l yX1_keep cX1_keep 4 rX1_keep D o ad dA G F [] (fun G' F' => ∃ a n, (∀ x ∈ K.take a, ¬ ye_lt (F 0) q x) ∧ (∀ x ∈ K.drop a, ye_lt (F 0) q x) ∧ w_rep (F 0) F' ((K.take a ++ q :: K.drop a).take 12) ∧ n = ((K.take a ++ q :: K.drop a).take 12).length ∧ G' = va_up G 6 n ∧ ∀ j, j ≠ 7 → j ≠ 8 → j ≠ 9 → F' j = F j) := by
  refine wMv.intro (L := [some (.ref o), none, none, none]) (by decide) rfl (Nat.le_of_ble_eq_true rfl) rfl ?_
  intro p e s m args below meth c A C hr hlocks hA
  have hqb := ye_len_le hw q hq.2.2.1
  have hq7 := hq.2.1
  have hKb2 : ∀ z ∈ K, (∀ y ∈ z, y < 7) ∧ z.length ≤ 7 ∧ ye_len (F 0) z < 2147483648 := by
    intro z hz
    obtain ⟨z1, z2⟩ := hKb z hz
    have z3 := ye_len_le hw z z1
    exact ⟨z1, z2, by omega⟩
  refine ky_aload_n (pc := 0) C dX1_keep_0 rfl ?_
  refine w_ci (pc := 1) C hA (w_lengthOfPath l D o ad dA G F q hw hq h1) (cwV 0 C.2.2.2.2.1 (lw_V q252 q254 qs16 q25 q255) rfl rfl rfl (by decide +kernel) ⟨Nat.le_of_ble_eq_true rfl, Nat.le_of_ble_eq_true rfl⟩) rfl rfl (Nat.le_of_ble_eq_true rfl) dX1_keep_1 (fun r G' F' hv => ?_)
  obtain ⟨hv, eG, eF⟩ := hv
  rw [eG, eF]
  clear eG eF
  subst hv
  refine ky_istore_n (pc := 4) C dX1_keep_4 (by decide) ?_
  refine ky_aload_n (pc := 5) C dX1_keep_5 rfl ?_
  refine w_g6 (pc := 6) C dX1_keep_6 h6 ?_
  refine ky_istore_n (pc := 9) C dX1_keep_9 (by decide) ?_
  refine ky_aload_n (pc := 10) C dX1_keep_10 rfl ?_
  refine w_g6 (pc := 11) C dX1_keep_11 h6 ?_
  refine ky_iconst (pc := 14) C 1 dX1_keep_14 (by decide) ?_
  refine ky_isubW (pc := 15) C (K.length + 4294967295) dX1_keep_15 (kn_dec _) ?_
  refine ky_istore_n (pc := 16) C dX1_keep_16 (by decide) ?_
  refine w_kp1 (K := K) (w := F 0) (q := q) C hA (by decide) rfl (by omega) hq hK12 hK hKb2 (fun a F' hF hkp => ?_) K.length K.length _ F rfl (Nat.le_refl _) (fun _ _ _ _ => rfl) (w_kp_start hrp)
  have ha := hkp.2.1
  have hd : G 5 = q.length := hq.1
  have hq4 : ∀ i, i < q.length → F' 3 i = ye_dg q i := by
    rw [hF 3 (by decide) (by decide) (by decide)]
    exact hq.2.2.2
  refine ky_aload_n (pc := 43) C dX1_keep_43 rfl ?_
  refine w_g7 (pc := 44) C dX1_keep_44 ?_
  refine ky_iload_n (pc := 47) C dX1_keep_47 rfl ?_
  refine ky_iload_n (pc := 48) C dX1_keep_48 rfl ?_
  refine w_s7 (pc := 49) C dX1_keep_49 (by omega) ?_
  refine ky_aload_n (pc := 50) C dX1_keep_50 rfl ?_
  refine w_g8 (pc := 51) C dX1_keep_51 ?_
  refine ky_iload_n (pc := 54) C dX1_keep_54 rfl ?_
  refine ky_aload_n (pc := 55) C dX1_keep_55 rfl ?_
  refine w_g5 (pc := 56) C dX1_keep_56 hd ?_
  refine w_s8 (pc := 59) C dX1_keep_59 (by omega) ?_
  refine ky_iconst (pc := 60) C 0 dX1_keep_60 (by decide) ?_
  refine ky_istore_n (pc := 61) C dX1_keep_61 (by decide) ?_
  refine ky_eqW (ws' := wW o ad dA G (va_up (va_up (va_up F' 7 (va_up (F' 7) a (ye_len (F 0) q))) 8 (va_up (F' 8) a q.length)) 9 (F' 9))) ?_ ?_
  · congr 1
    symm
    exact vu_self (va_up (va_up F' 7 (va_up (F' 7) a (ye_len (F 0) q))) 8 (va_up (F' 8) a q.length)) 9
  · refine w_kp2 (F := va_up (va_up F' 7 (va_up (F' 7) a (ye_len (F 0) q))) 8 (va_up (F' 8) a q.length)) (a := a) (x := ye_len (F 0) q) (g := F' 9) (q := q) C (by omega) ⟨hq.1, hq.2.1, hq.2.2.1, hq4⟩ (fun f f1 f2 => ?_) q.length 0 (F' 9) (by omega) (fun j hj => absurd hj (by omega)) (fun j _ => rfl)
    have hs : w_sl (F 0) (va_up (va_up (va_up F' 7 (va_up (F' 7) a (ye_len (F 0) q))) 8 (va_up (F' 8) a q.length)) 9 f) a q := by
      refine ⟨?_, ?_, f1⟩
      · show va_up (F' 7) a (ye_len (F 0) q) a = _
        exact vu_at _ _ _
      · show va_up (F' 8) a q.length a = _
        exact vu_at _ _ _
    have hend := w_kp_end hkp hs (fun i y hi hym hsl => by
      obtain ⟨s1, s2, s3⟩ := hsl
      have hyl := (hKb y hym).2
      refine ⟨?_, ?_, fun i' hi' => ?_⟩
      · show va_up (F' 7) a (ye_len (F 0) q) i = _
        rw [vu_ne hi]; exact s1
      · show va_up (F' 8) a q.length i = _
        rw [vu_ne hi]; exact s2
      · show f (7 * i + i') = _
        rw [f2 _ (by omega)]
        exact s3 i' hi')
    have hFF : ∀ j, j ≠ 7 → j ≠ 8 → j ≠ 9 → va_up (va_up (va_up F' 7 (va_up (F' 7) a (ye_len (F 0) q))) 8 (va_up (F' 8) a q.length)) 9 f j = F j := by
      intro j j7 j8 j9
      rw [vu_ne j9, vu_ne j8, vu_ne j7]
      exact hF j j7 j8 j9
    have hlen : ((K.take a ++ q :: K.drop a).take 12).length = min 12 (K.length + 1) := by
      rw [List.length_take]
      congr 1
      simp only [List.length_append, List.length_cons, List.length_take, List.length_drop]
      omega
    refine ky_aload_n (pc := 93) C dX1_keep_93 rfl ?_
    refine w_g6 (pc := 94) C dX1_keep_94 h6 ?_
    refine ky_bipush (pc := 97) C 12 dX1_keep_97 (by decide) ?_
    refine ky_icmp_ge (pc := 99) (tgt := 112) C dX1_keep_99 (by decide) (by omega) (by omega) (fun h_99 => ?_) (fun h_99 => ?_)
    · refine w_vret C hr hlocks dX1_keep_112 ⟨a, K.length, hend.2.1, hend.2.2, w_rep_take hend.1, by rw [hlen]; omega, ?_, hFF⟩
      rw [← h6]
      exact (vu_self G 6).symm
    · refine ky_aload_n (pc := 102) C dX1_keep_102 rfl ?_
      refine ky_dup (pc := 103) C dX1_keep_103 rfl ?_
      refine w_g6 (pc := 104) C dX1_keep_104 h6 ?_
      refine ky_iconst (pc := 107) C 1 dX1_keep_107 (by decide) ?_
      refine ky_iadd (pc := 108) C dX1_keep_108 ?_
      refine w_p6 (pc := 109) C dX1_keep_109 ?_
      exact w_vret C hr hlocks dX1_keep_112 ⟨a, K.length + 1, hend.2.1, hend.2.2, w_rep_take hend.1, by rw [hlen]; omega, rfl, hFF⟩
end Y31
end
section
/-! WALK: the reference's search (printed by gen.py out of walk/32.model2.walk) -/
set_option maxRecDepth 100000
/-- what is known of the paths gone through so far -/
def w_kv (w : Nat → Nat) (u v : Nat) (G : Nat → Nat) (F : Nat → Nat → Nat) (Z : List (List Nat)) : Prop :=
  (∃ K, ye_first (ye_lt w) (fun q => q ∈ Z) 12 K ∧ w_rep w F K ∧ G 6 = K.length) ∧ ye_sw w u v (fun q => q ∈ Z) (G 10) ∧ ye_ev (fun q => q ∈ Z) (G 11)
theorem ye_sw_lt {w : Nat → Nat} {u v x : Nat} {S : List Nat → Prop} (h : ye_sw w u v S x) : x < 4294967296 ∧ (x ≠ 4294967294 → x < 2147483648) := by
  rcases h with ⟨h, -⟩ | ⟨h, -⟩ <;> omega
theorem ye_dg_dropLast {p : List Nat} {i : Nat} (h : i < p.length - 1) : ye_dg p.dropLast i = ye_dg p i := by
  apply ye_dg_some
  rw [List.getElem?_dropLast, if_pos h, ye_dg_of (by omega)]
theorem ye_dg_push {p : List Nat} {j i : Nat} (h : i < p.length) : ye_dg (p ++ [j]) i = ye_dg p i := by
  apply ye_dg_some
  rw [List.getElem?_append_left h, ye_dg_of h]
theorem ye_dg_end {p : List Nat} {j : Nat} : ye_dg (p ++ [j]) p.length = j := by
  apply ye_dg_some
  rw [List.getElem?_append_right (Nat.le_refl _), Nat.sub_self]
  rfl
theorem ye_bit_nx {q : List Nat} {x i : Nat} (hi : i < q.length) (hd : ye_dg q i < 7) (hx : x < 128) (hb : ∀ b, b < 7 → (x.testBit b = true ↔ b ∈ q.take i)) : (x ||| 1 * 2 ^ ye_dg q i) < 128 ∧ ∀ b, b < 7 → ((x ||| 1 * 2 ^ ye_dg q i).testBit b = true ↔ b ∈ q.take (i + 1)) := by
  refine ⟨?_, fun b hb7 => ?_⟩
  · have h1 : 2 ^ ye_dg q i < 2 ^ 7 := Nat.pow_lt_pow_right (by decide) hd
    have h3 : x ||| 1 * 2 ^ ye_dg q i < 2 ^ 7 := Nat.or_lt_two_pow (by omega) (by omega)
    omega
  · rw [Nat.one_mul, Nat.testBit_or, Bool.or_eq_true, Nat.testBit_two_pow, decide_eq_true_iff, hb b hb7, List.take_add_one, ye_dg_of hi]
    constructor
    · rintro (h | h)
      · exact List.mem_append_left _ h
      · rw [h]; simp
    · intro h
      rcases List.mem_append.mp h with h | h
      · exact Or.inl h
      · have h2 : b = ye_dg q i := by simpa using h
        exact Or.inr h2.symm
section Y32
variable {p : Program} {l : Launch} {e : Env} {R : Room} {s : State} {m : MethodId} {args : Array Value} {below : List Frame} {meth : Method} {c : Code} {Q : State → Prop} {D : va_G} {A : Nat → Prop} {o : Nat} {ad : Nat → Nat} {dA : Nat → ClassId} {G : Nat → Nat} {F : Nat → Nat → Nat}
theorem w_fnd1 {u v z : Nat} {q : List Nat} (C : ky_C p s m args c cX1_found 6 RX1 D (wT dA)) (hq : w_pr G F q)
    (kk : ∀ x, x < 128 → (∀ b, b < 7 → (x.testBit b = true ↔ b ∈ q)) → ky_At p l e R s m args below meth c 0 0 Q D A 6 (wW o ad dA G F) 40 [some (.ref o), some (.int (nI u)), some (.int (nI v)), some (.int (nI z)), some (.int (nI x)), none] []) :
    ∀ (n i x : Nat), i + n = q.length → x < 128 → (∀ b, b < 7 → (x.testBit b = true ↔ b ∈ q.take i)) → ky_At p l e R s m args below meth c 0 0 Q D A 6 (wW o ad dA G F) 11 [some (.ref o), some (.int (nI u)), some (.int (nI v)), some (.int (nI z)), some (.int (nI x)), some (.int (nI i))] [] := by
  obtain ⟨q1, q2, q3, q4⟩ := hq
  intro n
  induction n with
  | zero =>
    intro i x hi hx hb
    refine ky_iload (pc := 11) C dX1_found_11 rfl ?_
    refine ky_aload_n (pc := 13) C dX1_found_13 rfl ?_
    refine w_g5 (pc := 14) C dX1_found_14 rfl ?_
    refine ky_icmp_ge (pc := 17) (tgt := 40) C dX1_found_17 (by decide) (by omega) (by omega) (fun h_17 => ?_) (fun h_17 => ?_)
    · refine ky_forget 5 ?_
      rw [List.take_of_length_le (by omega)] at hb
      exact kk x hx hb
    · omega
  | succ n ih =>
    intro i x hi hx hb
    have hd : ye_dg q i < 7 := q3 _ (List.mem_of_getElem? (ye_dg_of (by omega)))
    obtain ⟨b1, b2⟩ := ye_bit_nx (by omega) hd hx hb
    refine ky_iload (pc := 11) C dX1_found_11 rfl ?_
    refine ky_aload_n (pc := 13) C dX1_found_13 rfl ?_
    refine w_g5 (pc := 14) C dX1_found_14 rfl ?_
    refine ky_icmp_ge (pc := 17) (tgt := 40) C dX1_found_17 (by decide) (by omega) (by omega) (fun h_17 => ?_) (fun h_17 => ?_)
    · omega
    · refine ky_iload (pc := 20) C dX1_found_20 rfl ?_
      refine ky_iconst (pc := 22) C 1 dX1_found_22 (by decide) ?_
      refine ky_aload_n (pc := 23) C dX1_found_23 rfl ?_
      refine w_g3 (pc := 24) C dX1_found_24 ?_
      refine ky_iload (pc := 27) C dX1_found_27 rfl ?_
      refine w_l3 (pc := 29) C dX1_found_29 (v := ye_dg q i) (by omega) (q4 i (by omega)) ?_
      refine ky_ishl (pc := 30) C dX1_found_30 (by omega) (by first | omega | exact kn_p7 (by omega)) ?_
      refine ky_ior (pc := 31) C dX1_found_31 ?_
      refine ky_istore (pc := 32) C dX1_found_32 (by decide) ?_
      refine ky_iinc1 (pc := 34) C dX1_found_34 rfl (by decide) ?_
      refine ky_goto (pc := 37) (tgt := 11) C dX1_found_37 (by decide) ?_
      exact ih (i + 1) _ (by omega) b1 b2
/-- found(u, v): one path more -/
theorem w_found (l : Launch) (D : va_G) (o : Nat) (ad : Nat → Nat) (dA : Nat → ClassId) (G : Nat → Nat) (F : Nat → Nat → Nat) (u v vs vt : Nat) (q : List Nat) (Z : List (List Nat)) (hu : u < 4294967296) (hv : v < 4294967296) (hw : ∀ j, j < 49 → F 0 j ≤ 50) (hq : w_pr G F q) (hp : ye_path (F 0) 4294967295 vs vt q) (hZ : ∀ z ∈ Z, ye_path (F 0) 4294967295 vs vt z) (hn : q ∉ Z) (hk : w_kv (F 0) u v G F Z) :
    wMv l yX1_found cX1_found 6 rX1_found D o ad dA G F [nI u, nI v] (fun G' F' => w_kv (F 0) u v G' F' (Z ++ [q]) ∧ (∀ j, j ≠ 6 → j ≠ 10 → j ≠ 11 → G' j = G j) ∧ ∀ j, j ≠ 7 → j ≠ 8 → j ≠ 9 → F' j = F j) := by
  refine wMv.intro (L := [some (.ref o), some (.int (nI u)), some (.int (nI v)), none, none, none]) (by decide) rfl (Nat.le_of_ble_eq_true rfl) rfl ?_
  intro p e s m args below meth c A C hr hlocks hA
  obtain ⟨⟨K, k1, k2, k3⟩, k4, k5⟩ := hk
  have hlq := ye_len_le hw q hq.2.2.1
  have hq7 := hq.2.1
  have h1 : 1 ≤ q.length := by
    cases q with
    | nil => have := hp.2.2.1; simp at this
    | cons a r => simp
  have hKb : ∀ z ∈ K, (∀ y ∈ z, y < 7) ∧ z.length ≤ 7 := fun z hz => ⟨(hZ z (k1.2.1 z hz)).2.1, ye_path_len (hZ z (k1.2.1 z hz))⟩
  have fin : ∀ (G2 : Nat → Nat) (x z : Nat), G2 5 = G 5 → G2 6 = G 6 → ye_sw (F 0) u v (fun q' => q' ∈ Z ++ [q]) (G2 10) → ye_ev (fun q' => q' ∈ Z ++ [q]) (G2 11) → (∀ j, j ≠ 6 → j ≠ 10 → j ≠ 11 → G2 j = G j) → ky_At p l e rX1_found s m args below meth c 0 0 (wQv below D o ad dA A args s (fun G' F' => w_kv (F 0) u v G' F' (Z ++ [q]) ∧ (∀ j, j ≠ 6 → j ≠ 10 → j ≠ 11 → G' j = G j) ∧ ∀ j, j ≠ 7 → j ≠ 8 → j ≠ 9 → F' j = F j)) D A 6 (wW o ad dA G2 F) 82 [some (.ref o), some (.int (nI u)), some (.int (nI v)), some (.int (nI z)), some (.int (nI x)), none] [] := by
    intro G2 x z g5 g6 g10 g11 gj
    refine ky_aload_n (pc := 82) C dX1_found_82 rfl ?_
    refine w_cv (pc := 83) C hA (w_keep l D o ad dA G2 F q K hw ⟨g5.trans hq.1, hq.2.1, hq.2.2.1, hq.2.2.2⟩ h1 k1.2.2.1 k1.1 hKb (g6.trans k3) k2) (cwV 0 C.2.2.2.2.1 (lw_V q260 q262 qs18 q25 q263) rfl rfl rfl (by decide +kernel) ⟨Nat.le_of_ble_eq_true rfl, Nat.le_of_ble_eq_true rfl⟩) rfl rfl (Nat.le_of_ble_eq_true rfl) dX1_found_83 (fun G' F' hv => ?_)
    obtain ⟨a, n, ha, hb, hrep, hn2, rfl, hF⟩ := hv
    refine w_vret C hr hlocks dX1_found_86 ⟨⟨⟨_, ?_, hrep, hn2⟩, g10, g11⟩, ?_, hF⟩
    · refine ye_keep (fun _ => ye_lt_irr) (fun _ _ _ => ye_lt_trans) (by rw [List.take_append_drop]; exact k1) (fun x hx => ?_) hb
      have hxZ := k1.2.1 x (List.mem_of_mem_take hx)
      rcases ye_path_tri hp (hZ x hxZ) with t | t | t
      · exact absurd (by rw [t]; exact hxZ) hn
      · exact absurd t (ha x hx)
      · exact t
    · intro j j6 j10 j11
      rw [vu_ne j6]
      exact gj j j6 j10 j11
  refine ky_aload_n (pc := 0) C dX1_found_0 rfl ?_
  refine w_ci (pc := 1) C hA (w_lengthOfPath l D o ad dA G F q hw hq h1) (cwV 0 C.2.2.2.2.1 (lw_V q252 q254 qs16 q25 q255) rfl rfl rfl (by decide +kernel) ⟨Nat.le_of_ble_eq_true rfl, Nat.le_of_ble_eq_true rfl⟩) rfl rfl (Nat.le_of_ble_eq_true rfl) dX1_found_1 (fun r G' F' hv1 => ?_)
  obtain ⟨hv1, eG, eF⟩ := hv1
  rw [eG, eF]
  clear eG eF
  subst hv1
  refine ky_istore_n (pc := 4) C dX1_found_4 (by decide) ?_
  refine ky_iconst (pc := 5) C 0 dX1_found_5 (by decide) ?_
  refine ky_istore (pc := 6) C dX1_found_6 (by decide) ?_
  refine ky_iconst (pc := 8) C 0 dX1_found_8 (by decide) ?_
  refine ky_istore (pc := 9) C dX1_found_9 (by decide) ?_
  refine w_fnd1 (q := q) C hq (fun x hx hb => ?_) q.length 0 0 (by omega) (by decide) (fun b _ => by rw [Nat.zero_testBit]; simp)
  have hev := ye_ev_and k5 hb
  have hsl := ye_sw_lt k4
  refine ky_aload_n (pc := 40) C dX1_found_40 rfl ?_
  refine ky_aload_n (pc := 41) C dX1_found_41 rfl ?_
  refine w_g11 (pc := 42) C dX1_found_42 (v := G 11) rfl ?_
  refine ky_iload (pc := 45) C dX1_found_45 rfl ?_
  refine ky_iand (pc := 47) C dX1_found_47 ?_
  refine w_p11 (pc := 48) C dX1_found_48 ?_
  refine ky_aload_n (pc := 51) C dX1_found_51 rfl ?_
  refine ky_iload_n (pc := 52) C dX1_found_52 rfl ?_
  refine ky_iload_n (pc := 53) C dX1_found_53 rfl ?_
  refine w_ci (pc := 54) C hA (w_pathPasses l D o ad dA (va_up G 11 (G 11 &&& x)) F u v q hu hv ⟨hq.1, hq.2.1, hq.2.2.1, hq.2.2.2⟩) (cwV 2 C.2.2.2.2.1 (lw_V q256 q258 qs17 q25 q259) rfl rfl rfl (by decide +kernel) ⟨Nat.le_of_ble_eq_true rfl, Nat.le_of_ble_eq_true rfl⟩) rfl rfl (Nat.le_of_ble_eq_true rfl) dX1_found_54 (fun r G' F' hv1 => ?_)
  obtain ⟨hv1, eG, eF⟩ := hv1
  rw [eG, eF]
  clear eG eF
  have gj1 : ∀ j, j ≠ 6 → j ≠ 10 → j ≠ 11 → va_up G 11 (G 11 &&& x) j = G j := fun j _ _ j11 => vu_ne j11
  have gj2 : ∀ y j, j ≠ 6 → j ≠ 10 → j ≠ 11 → va_up (va_up G 11 (G 11 &&& x)) 10 y j = G j := fun y j _ j10 j11 => by rw [vu_ne j10, vu_ne j11]
  rcases hv1 with ⟨rfl, hhas⟩ | ⟨rfl, hhas⟩
  · refine ky_if_ne (pc := 57) (tgt := 82) C dX1_found_57 (by decide) (by omega) (fun h_57 => ?_) (fun h_57 => ?_)
    · exact fin _ _ _ rfl rfl (ye_sw_has k4 hhas) hev gj1
    · exact absurd h_57 (by decide)
  · refine ky_if_ne (pc := 57) (tgt := 82) C dX1_found_57 (by decide) (by omega) (fun h_57 => ?_) (fun h_57 => ?_)
    · exact absurd rfl h_57
    · refine ky_aload_n (pc := 60) C dX1_found_60 rfl ?_
      refine w_g10 (pc := 61) C dX1_found_61 (v := G 10) rfl ?_
      refine ky_bipush (pc := 64) C 4294967294 dX1_found_64 (by decide) ?_
      refine ky_icmp_eq (pc := 66) (tgt := 77) C dX1_found_66 (by decide) (by omega) (by omega) (fun h_66 => ?_) (fun h_66 => ?_)
      · refine ky_aload_n (pc := 77) C dX1_found_77 rfl ?_
        refine ky_iload_n (pc := 78) C dX1_found_78 rfl ?_
        refine w_p10 (pc := 79) C dX1_found_79 ?_
        exact fin _ _ _ rfl rfl (ye_sw_new k4 hhas (by omega) (Or.inl h_66)) hev (gj2 _)
      · have hg10 := hsl.2 h_66
        refine ky_iload_n (pc := 69) C dX1_found_69 rfl ?_
        refine ky_aload_n (pc := 70) C dX1_found_70 rfl ?_
        refine w_g10 (pc := 71) C dX1_found_71 (v := G 10) rfl ?_
        refine ky_icmp_ge (pc := 74) (tgt := 82) C dX1_found_74 (by decide) (by omega) (by omega) (fun h_74 => ?_) (fun h_74 => ?_)
        · exact fin _ _ _ rfl rfl (ye_sw_old k4 h_66 h_74) hev gj1
        · refine ky_aload_n (pc := 77) C dX1_found_77 rfl ?_
          refine ky_iload_n (pc := 78) C dX1_found_78 rfl ?_
          refine w_p10 (pc := 79) C dX1_found_79 ?_
          exact fin _ _ _ rfl rfl (ye_sw_new k4 hhas (by omega) (Or.inr h_74)) hev (gj2 _)
/-- the search's state: the path, what is tried next at each place, the paths found -/
def w_stt (w : Nat → Nat) (vs vt u v : Nat) (G : Nat → Nat) (F : Nat → Nat → Nat) (x : List Nat × (Nat → Nat) × List (List Nat)) : Prop :=
  ye_good w vs x ∧ w_pr G F x.1 ∧ (∀ i, 1 ≤ i → i ≤ x.1.length → F 4 i = x.2.1 i) ∧ w_kv w u v G F x.2.2 ∧ (∀ z ∈ x.2.2, ye_path w 4294967295 vs vt z) ∧ F 0 = w ∧ G 1 = vs ∧ G 2 = vt
/-- turn(u, v) -/
theorem w_turn (l : Launch) (D : va_G) (o : Nat) (ad : Nat → Nat) (dA : Nat → ClassId) (G : Nat → Nat) (F : Nat → Nat → Nat) (w : Nat → Nat) (u v vs vt : Nat) (pp : List Nat) (tr : Nat → Nat) (Z : List (List Nat)) (hu : u < 4294967296) (hv : v < 4294967296) (hw : ∀ j, j < 49 → w j ≤ 50) (ht7 : vt < 7) (hne : pp ≠ []) (hfr : pp.getLastD 0 = vt → pp ∉ Z) (hst : w_stt w vs vt u v G F (pp, tr, Z)) :
    wMv l yX1_turn cX1_turn 5 rX1_turn D o ad dA G F [nI u, nI v] (fun G' F' => w_stt w vs vt u v G' F' (ye_stp w vt (pp, tr, Z))) := by
  refine wMv.intro (L := [some (.ref o), some (.int (nI u)), some (.int (nI v)), none, none]) (by decide) rfl (Nat.le_of_ble_eq_true rfl) rfl ?_
  intro p e s m args below meth c A C hr hlocks hA
  obtain ⟨hg, hpr, htr, hkv, hZ, hF0, hG1, hG2⟩ := hst
  have hg' := hg
  obtain ⟨g1, g2, g3, g4, g5⟩ := hg
  obtain ⟨p1, p2, p3, p4⟩ := hpr
  dsimp only at g1 g2 g3 g4 g5 p1 p2 p3 p4 htr hkv hZ
  have hlen : 1 ≤ pp.length := by
    cases pp with
    | nil => exact absurd rfl hne
    | cons a r => simp
  obtain ⟨la1, la2⟩ := ye_getLastD hne
  have hl7 : pp.getLastD 0 < 7 := g2 _ (List.mem_of_getLast? la2)
  have hla : F 3 (pp.length - 1) = pp.getLastD 0 := by rw [p4 _ (by omega), ← la1]
  have htl : F 4 pp.length = tr pp.length := htr _ hlen (Nat.le_refl _)
  have ht77 : tr pp.length ≤ 7 := g5 _ hlen (Nat.le_refl _)
  have hdl : pp.dropLast.length = pp.length - 1 := List.length_dropLast
  -- one vertex back
  have back : ∀ (G2 : Nat → Nat) (F2 : Nat → Nat → Nat) (Z2 : List (List Nat)), ye_stp w vt (pp, tr, Z) = (pp.dropLast, va_up tr pp.length (tr pp.length + 1), Z2) → w_kv w u v G2 F2 Z2 → (∀ z ∈ Z2, ye_path w 4294967295 vs vt z) → F2 0 = w → F2 3 = F 3 → F2 4 = va_up (F 4) pp.length (tr pp.length + 1) → G2 1 = vs → G2 2 = vt → G2 5 = pp.length → ky_At p l e rX1_turn s m args below meth c 0 0 (wQv below D o ad dA A args s (fun G' F' => w_stt w vs vt u v G' F' (ye_stp w vt (pp, tr, Z)))) D A 5 (wW o ad dA G2 F2) 65 [some (.ref o), some (.int (nI u)), some (.int (nI v)), some (.int (nI (pp.getLastD 0))), some (.int (nI (tr pp.length)))] [] := by
    intro G2 F2 Z2 hstp hkv2 hZ2 f0 f3 f4 e1 e2 e5
    refine ky_aload_n (pc := 65) C dX1_turn_65 rfl ?_
    refine ky_dup (pc := 66) C dX1_turn_66 rfl ?_
    refine w_g5 (pc := 67) C dX1_turn_67 e5 ?_
    refine ky_iconst (pc := 70) C 1 dX1_turn_70 (by decide) ?_
    refine ky_isub (pc := 71) C dX1_turn_71 (by omega) ?_
    refine w_p5 (pc := 72) C dX1_turn_72 ?_
    refine ky_goto (pc := 75) (tgt := 147) C dX1_turn_75 (by decide) ?_
    refine w_vret C hr hlocks dX1_turn_147 ?_
    rw [hstp]
    refine ⟨ye_good_pop hg' hne, ⟨?_, ?_, ?_, ?_⟩, ?_, hkv2, hZ2, f0, e1, e2⟩
    · show pp.length - 1 = pp.dropLast.length
      rw [hdl]
    · show pp.dropLast.length ≤ 7
      omega
    · intro x hx
      exact g2 x ((List.dropLast_sublist pp).subset hx)
    · intro i hi
      show F2 3 i = ye_dg pp.dropLast i
      have hi2 : i < pp.dropLast.length := hi
      rw [ye_dg_dropLast (by omega), f3]
      exact p4 i (by omega)
    · intro i i1 i2
      show F2 4 i = va_up tr pp.length (tr pp.length + 1) i
      have hi2 : i ≤ pp.dropLast.length := i2
      rw [f4, vu_ne (by omega), vu_ne (by omega)]
      exact htr i i1 (by omega)
  -- it stays where it is
  have stay : ye_stp w vt (pp, tr, Z) = (pp, va_up tr pp.length (tr pp.length + 1), Z) → tr pp.length ≤ 6 → ky_At p l e rX1_turn s m args below meth c 0 0 (wQv below D o ad dA A args s (fun G' F' => w_stt w vs vt u v G' F' (ye_stp w vt (pp, tr, Z)))) D A 5 (wW o ad dA G (va_up F 4 (va_up (F 4) pp.length (tr pp.length + 1)))) 147 [some (.ref o), some (.int (nI u)), some (.int (nI v)), some (.int (nI (pp.getLastD 0))), some (.int (nI (tr pp.length)))] [] := by
    intro hstp h6
    refine w_vret C hr hlocks dX1_turn_147 ?_
    rw [hstp]
    refine ⟨ye_good_stay hg' (by omega), ⟨p1, p2, p3, p4⟩, ?_, hkv, hZ, hF0, hG1, hG2⟩
    intro i i1 i2
    show va_up (F 4) pp.length (tr pp.length + 1) i = va_up tr pp.length (tr pp.length + 1) i
    have hi2 : i ≤ pp.length := i2
    by_cases ei : i = pp.length
    · rw [ei, vu_at, vu_at]
    · rw [vu_ne ei, vu_ne ei]
      exact htr i i1 hi2
  refine ky_aload_n (pc := 0) C dX1_turn_0 rfl ?_
  refine w_g3 (pc := 1) C dX1_turn_1 ?_
  refine ky_aload_n (pc := 4) C dX1_turn_4 rfl ?_
  refine w_g5 (pc := 5) C dX1_turn_5 p1 ?_
  refine ky_iconst (pc := 8) C 1 dX1_turn_8 (by decide) ?_
  refine ky_isub (pc := 9) C dX1_turn_9 (by omega) ?_
  refine w_l3 (pc := 10) C dX1_turn_10 (v := pp.getLastD 0) (by omega) hla ?_
  refine ky_istore_n (pc := 11) C dX1_turn_11 (by decide) ?_
  refine ky_aload_n (pc := 12) C dX1_turn_12 rfl ?_
  refine w_g4 (pc := 13) C dX1_turn_13 ?_
  refine ky_aload_n (pc := 16) C dX1_turn_16 rfl ?_
  refine w_g5 (pc := 17) C dX1_turn_17 p1 ?_
  refine w_l4 (pc := 20) C dX1_turn_20 (v := tr pp.length) (by omega) htl ?_
  refine ky_istore (pc := 21) C dX1_turn_21 (by decide) ?_
  refine ky_aload_n (pc := 23) C dX1_turn_23 rfl ?_
  refine w_g4 (pc := 24) C dX1_turn_24 ?_
  refine ky_aload_n (pc := 27) C dX1_turn_27 rfl ?_
  refine w_g5 (pc := 28) C dX1_turn_28 p1 ?_
  refine ky_dup2 (pc := 31) C dX1_turn_31 rfl rfl ?_
  refine w_l4 (pc := 32) C dX1_turn_32 (v := tr pp.length) (by omega) htl ?_
  refine ky_iconst (pc := 33) C 1 dX1_turn_33 (by decide) ?_
  refine ky_iadd (pc := 34) C dX1_turn_34 ?_
  refine w_s4 (pc := 35) C dX1_turn_35 (by omega) ?_
  refine ky_iload_n (pc := 36) C dX1_turn_36 rfl ?_
  refine ky_aload_n (pc := 37) C dX1_turn_37 rfl ?_
  refine w_g2 (pc := 38) C dX1_turn_38 hG2 ?_
  refine ky_icmp_eq (pc := 41) (tgt := 51) C dX1_turn_41 (by decide) (by omega) (by omega) (fun h_41 => ?_) (fun h_41 => ?_)
  · -- at the target
    refine ky_iload_n (pc := 51) C dX1_turn_51 rfl ?_
    refine ky_aload_n (pc := 52) C dX1_turn_52 rfl ?_
    refine w_g2 (pc := 53) C dX1_turn_53 hG2 ?_
    refine ky_icmp_ne (pc := 56) (tgt := 65) C dX1_turn_56 (by decide) (by omega) (by omega) (fun h_56 => ?_) (fun h_56 => ?_)
    · exact absurd h_41 h_56
    · refine ky_aload_n (pc := 59) C dX1_turn_59 rfl ?_
      refine ky_iload_n (pc := 60) C dX1_turn_60 rfl ?_
      refine ky_iload_n (pc := 61) C dX1_turn_61 rfl ?_
      have hpath : ye_path w 4294967295 vs vt pp := ⟨g1, g2, g4 hne, by rw [la2, h_41], g3⟩
      have hpath0 := hpath
      have hZ0 := hZ
      have hkv0 := hkv
      rw [← hF0] at hpath0 hZ0 hkv0
      refine w_cv (pc := 62) C hA (w_found l D o ad dA G (va_up F 4 (va_up (F 4) pp.length (tr pp.length + 1))) u v vs vt pp Z hu hv (by show ∀ j, j < 49 → F 0 j ≤ 50; rw [hF0]; exact hw) ⟨p1, p2, p3, p4⟩ hpath0 hZ0 (hfr h_41) hkv0) (cwV 2 C.2.2.2.2.1 (lw_V q248 q250 qs15 q25 q251) rfl rfl rfl (by decide +kernel) ⟨Nat.le_of_ble_eq_true rfl, Nat.le_of_ble_eq_true rfl⟩) rfl rfl (Nat.le_of_ble_eq_true rfl) dX1_turn_62 (fun G' F' hv => ?_)
      obtain ⟨v1, v2, v3⟩ := hv
      have v1' : w_kv w u v G' F' (Z ++ [pp]) := by
        rw [← hF0]
        exact v1
      refine back G' F' (Z ++ [pp]) ?_ v1' ?_ ?_ ?_ ?_ ?_ ?_ ?_
      · unfold ye_stp
        rw [if_pos h_41]
      · intro z hz
        rcases List.mem_append.mp hz with h | h
        · exact hZ z h
        · have : z = pp := by simpa using h
          rw [this]; exact hpath
      · rw [v3 0 (by decide) (by decide) (by decide)]; exact hF0
      · rw [v3 3 (by decide) (by decide) (by decide)]; rfl
      · rw [v3 4 (by decide) (by decide) (by decide)]; rfl
      · rw [v2 1 (by decide) (by decide) (by decide)]; exact hG1
      · rw [v2 2 (by decide) (by decide) (by decide)]; exact hG2
      · rw [v2 5 (by decide) (by decide) (by decide)]; exact p1
  · refine ky_iload (pc := 44) C dX1_turn_44 rfl ?_
    refine ky_bipush (pc := 46) C 6 dX1_turn_46 (by decide) ?_
    refine ky_icmp_le (pc := 48) (tgt := 78) C dX1_turn_48 (by decide) (by omega) (by omega) (fun h_48 => ?_) (fun h_48 => ?_)
    · -- on to a further vertex
      have hwb : w (7 * pp.getLastD 0 + tr pp.length) ≤ 50 := hw _ (by omega)
      have hw0 : F 0 (7 * pp.getLastD 0 + tr pp.length) = w (7 * pp.getLastD 0 + tr pp.length) := by rw [hF0]
      refine ky_aload_n (pc := 78) C dX1_turn_78 rfl ?_
      refine w_g0 (pc := 79) C dX1_turn_79 ?_
      refine ky_bipush (pc := 82) C 7 dX1_turn_82 (by decide) ?_
      refine ky_iload_n (pc := 84) C dX1_turn_84 rfl ?_
      refine ky_imul (pc := 85) C dX1_turn_85 ?_
      refine ky_iload (pc := 86) C dX1_turn_86 rfl ?_
      refine ky_iadd (pc := 88) C dX1_turn_88 ?_
      refine w_l0 (pc := 89) C dX1_turn_89 (v := w (7 * pp.getLastD 0 + tr pp.length)) (by omega) hw0 ?_
      refine ky_if_le (pc := 90) (tgt := 147) C dX1_turn_90 (by decide) (by omega) (fun h_90 => ?_) (fun h_90 => ?_)
      · refine stay ?_ h_48
        unfold ye_stp
        dsimp only
        rw [if_neg h_41, if_neg (by omega), if_neg (fun z => by omega)]
      · refine ky_aload_n (pc := 93) C dX1_turn_93 rfl ?_
        refine ky_iload (pc := 94) C dX1_turn_94 rfl ?_
        refine w_ci (pc := 96) C hA (w_onPath l D o ad dA G (va_up F 4 (va_up (F 4) pp.length (tr pp.length + 1))) (tr pp.length) pp (by omega) ⟨p1, p2, p3, p4⟩) (cwV 1 C.2.2.2.2.1 (lw_V q272 q274 qs21 q25 q275) rfl rfl rfl (by decide +kernel) ⟨Nat.le_of_ble_eq_true rfl, Nat.le_of_ble_eq_true rfl⟩) rfl rfl (Nat.le_of_ble_eq_true rfl) dX1_turn_96 (fun r G' F' hv1 => ?_)
        obtain ⟨hv1, eG, eF⟩ := hv1
        rw [eG, eF]
        clear eG eF
        rcases hv1 with ⟨rfl, hon⟩ | ⟨rfl, hon⟩
        · refine ky_if_ne (pc := 99) (tgt := 147) C dX1_turn_99 (by decide) (by omega) (fun h_99 => ?_) (fun h_99 => ?_)
          · refine stay ?_ h_48
            unfold ye_stp
            dsimp only
            rw [if_neg h_41, if_neg (by omega), if_neg (fun z => z.2 hon)]
          · exact absurd h_99 (by decide)
        · have hgp := ye_good_push hg' hne (by omega : tr pp.length < 7) (by omega : tr pp.length + 1 ≤ 7) (by omega) hon
          have hlp : (pp ++ [tr pp.length]).length = pp.length + 1 := by rw [List.length_append]; rfl
          have hl7' : pp.length + 1 ≤ 7 := by
            have := ye_nodup_len 7 _ hgp.1 hgp.2.1
            dsimp only at this
            omega
          have hstp : ye_stp w vt (pp, tr, Z) = (pp ++ [tr pp.length], va_up (va_up tr pp.length (tr pp.length + 1)) (pp.length + 1) 0, Z) := by
            unfold ye_stp
            dsimp only
            rw [if_neg h_41, if_neg (by omega), if_pos ⟨by omega, hon⟩]
          have done : ∀ k, k = pp.length + 1 → w_stt w vs vt u v (va_up G 5 (pp.length + 1)) (va_up (va_up (va_up F 4 (va_up (F 4) pp.length (tr pp.length + 1))) 3 (va_up (F 3) pp.length (tr pp.length))) 4 (va_up (va_up (F 4) pp.length (tr pp.length + 1)) k 0)) (ye_stp w vt (pp, tr, Z)) := by
            intro k hk
            subst hk
            rw [hstp]
            refine ⟨hgp, ⟨?_, ?_, ?_, ?_⟩, ?_, hkv, hZ, hF0, hG1, hG2⟩
            · exact hlp.symm
            · show (pp ++ [tr pp.length]).length ≤ 7
              omega
            · exact hgp.2.1
            · intro i hi
              show va_up (F 3) pp.length (tr pp.length) i = ye_dg (pp ++ [tr pp.length]) i
              have hi2 : i < (pp ++ [tr pp.length]).length := hi
              by_cases ei : i = pp.length
              · rw [ei, vu_at, ye_dg_end]
              · rw [vu_ne ei, ye_dg_push (by omega)]
                exact p4 i (by omega)
            · intro i i1 i2
              show va_up (va_up (F 4) pp.length (tr pp.length + 1)) (pp.length + 1) 0 i = va_up (va_up tr pp.length (tr pp.length + 1)) (pp.length + 1) 0 i
              have hi2 : i ≤ (pp ++ [tr pp.length]).length := i2
              by_cases ei : i = pp.length + 1
              · rw [ei, vu_at, vu_at]
              · rw [vu_ne ei, vu_ne ei]
                by_cases ej : i = pp.length
                · rw [ej, vu_at, vu_at]
                · rw [vu_ne ej, vu_ne ej]
                  exact htr i i1 (by omega)
          refine ky_if_ne (pc := 99) (tgt := 147) C dX1_turn_99 (by decide) (by omega) (fun h_99 => ?_) (fun h_99 => ?_)
          · exact absurd rfl h_99
          · refine ky_aload_n (pc := 102) C dX1_turn_102 rfl ?_
            refine w_g3 (pc := 103) C dX1_turn_103 ?_
            refine ky_aload_n (pc := 106) C dX1_turn_106 rfl ?_
            refine w_g5 (pc := 107) C dX1_turn_107 p1 ?_
            refine ky_iload (pc := 110) C dX1_turn_110 rfl ?_
            refine w_s3 (pc := 112) C dX1_turn_112 (by omega) ?_
            refine ky_aload_n (pc := 113) C dX1_turn_113 rfl ?_
            refine ky_dup (pc := 114) C dX1_turn_114 rfl ?_
            refine w_g5 (pc := 115) C dX1_turn_115 p1 ?_
            refine ky_iconst (pc := 118) C 1 dX1_turn_118 (by decide) ?_
            refine ky_iadd (pc := 119) C dX1_turn_119 ?_
            refine w_p5 (pc := 120) C dX1_turn_120 ?_
            refine ky_aload_n (pc := 123) C dX1_turn_123 rfl ?_
            refine w_g4 (pc := 124) C dX1_turn_124 ?_
            refine ky_aload_n (pc := 127) C dX1_turn_127 rfl ?_
            refine w_g5 (pc := 128) C dX1_turn_128 (v := pp.length + 1) rfl ?_
            refine ky_bipush (pc := 131) C 7 dX1_turn_131 (by decide) ?_
            refine ky_icmp_ge (pc := 133) (tgt := 143) C dX1_turn_133 (by decide) (by omega) (by omega) (fun h_133 => ?_) (fun h_133 => ?_)
            · have e7 : pp.length + 1 = 7 := by omega
              refine ky_bipush (pc := 143) C 7 dX1_turn_143 (by decide) ?_
              refine ky_iconst (pc := 145) C 0 dX1_turn_145 (by decide) ?_
              refine w_s4 (pc := 146) C dX1_turn_146 (by omega) ?_
              exact w_vret C hr hlocks dX1_turn_147 (done 7 e7.symm)
            · refine ky_aload_n (pc := 136) C dX1_turn_136 rfl ?_
              refine w_g5 (pc := 137) C dX1_turn_137 (v := pp.length + 1) rfl ?_
              refine ky_goto (pc := 140) (tgt := 145) C dX1_turn_140 (by decide) ?_
              refine ky_iconst (pc := 145) C 0 dX1_turn_145 (by decide) ?_
              refine w_s4 (pc := 146) C dX1_turn_146 (by omega) ?_
              exact w_vret C hr hlocks dX1_turn_147 (done _ rfl)
    · refine ky_iload_n (pc := 51) C dX1_turn_51 rfl ?_
      refine ky_aload_n (pc := 52) C dX1_turn_52 rfl ?_
      refine w_g2 (pc := 53) C dX1_turn_53 hG2 ?_
      refine ky_icmp_ne (pc := 56) (tgt := 65) C dX1_turn_56 (by decide) (by omega) (by omega) (fun h_56 => ?_) (fun h_56 => ?_)
      · refine back G _ Z ?_ hkv hZ hF0 rfl rfl hG1 hG2 p1
        unfold ye_stp
        dsimp only
        rw [if_neg h_41, if_pos h_48]
      · exact absurd h_56 h_41
theorem ye_run_fresh {w : Nat → Nat} {t n : Nat} {x y : List Nat × (Nat → Nat) × List (List Nat)} (h : ye_run w t (n + 1) x y) (hn : y.2.2.Nodup) (hl : x.1.getLastD 0 = t) : x.1 ∉ x.2.2 := by
  obtain ⟨r, hr⟩ := ye_run_Z n _ _ h.2
  have e : (ye_stp w t x).2.2 = x.2.2 ++ [x.1] := by
    unfold ye_stp
    rw [if_pos hl]
  rw [hr, e] at hn
  intro hm
  have h2 := (List.nodup_append.mp hn).1
  exact (List.nodup_append.mp h2).2.2 x.1 hm x.1 (by simp) rfl
theorem w_sea1 {w : Nat → Nat} {u v vs vt : Nat} {y : List Nat × (Nat → Nat) × List (List Nat)} (C : ky_C p s m args c cX1_search 4 RX1 D (wT dA)) (hA : ∀ q : Nat, s.heap.size ≤ q → A q) (hR : 4 ≤ R.frames ∧ 95 ≤ R.locals) (hu : u < 4294967296) (hv : v < 4294967296) (hw : ∀ j, j < 49 → w j ≤ 50) (ht7 : vt < 7) (hy : y.1 = []) (hyn : y.2.2.Nodup)
    (kk : ∀ (G : Nat → Nat) (F : Nat → Nat → Nat), w_stt w vs vt u v G F y → ky_At p l e R s m args below meth c 0 0 Q D A 4 (wW o ad dA G F) 67 [some (.ref o), some (.int (nI u)), some (.int (nI v)), none] []) :
    ∀ (n k : Nat) (x : List Nat × (Nat → Nat) × List (List Nat)) (G : Nat → Nat) (F : Nat → Nat → Nat), k + n ≤ 20000 → ye_run w vt n x y → w_stt w vs vt u v G F x → ky_At p l e R s m args below meth c 0 0 Q D A 4 (wW o ad dA G F) 41 [some (.ref o), some (.int (nI u)), some (.int (nI v)), some (.int (nI k))] [] := by
  have hRt : rX1_turn.frames + 1 ≤ R.frames ∧ 8 + (5 + 11) + rX1_turn.locals ≤ R.locals := ⟨by show 4 ≤ R.frames; omega, by show 95 ≤ R.locals; omega⟩
  intro n
  induction n with
  | zero =>
    intro k x G F hk hrun hst
    have hxy : x = y := hrun
    subst hxy
    have hd : G 5 = 0 := by
      have := hst.2.1.1
      rw [hy] at this
      exact this
    refine ky_iload_n (pc := 41) C dX1_search_41 rfl ?_
    refine ky_sipush (pc := 42) C 20000 dX1_search_42 (by decide) ?_
    refine ky_icmp_ge (pc := 45) (tgt := 67) C dX1_search_45 (by decide) (by omega) (by omega) (fun h_45 => ?_) (fun h_45 => ?_)
    · refine ky_forget 3 ?_
      exact kk G F hst
    · refine ky_aload_n (pc := 48) C dX1_search_48 rfl ?_
      refine w_g5 (pc := 49) C dX1_search_49 hd ?_
      refine ky_if_le (pc := 52) (tgt := 67) C dX1_search_52 (by decide) (by omega) (fun h_52 => ?_) (fun h_52 => ?_)
      · refine ky_forget 3 ?_
        exact kk G F hst
      · omega
  | succ n ih =>
    intro k x G F hk hrun hst
    have hne : x.1 ≠ [] := hrun.1
    have hfr := ye_run_fresh hrun hyn
    obtain ⟨pp, tr, Z⟩ := x
    have hd : G 5 = pp.length := hst.2.1.1
    have hpl : pp.length ≤ 7 := hst.2.1.2.1
    have hl0 : pp.length ≠ 0 := fun e => hne (List.eq_nil_of_length_eq_zero e)
    refine ky_iload_n (pc := 41) C dX1_search_41 rfl ?_
    refine ky_sipush (pc := 42) C 20000 dX1_search_42 (by decide) ?_
    refine ky_icmp_ge (pc := 45) (tgt := 67) C dX1_search_45 (by decide) (by omega) (by omega) (fun h_45 => ?_) (fun h_45 => ?_)
    · omega
    · refine ky_aload_n (pc := 48) C dX1_search_48 rfl ?_
      refine w_g5 (pc := 49) C dX1_search_49 hd ?_
      refine ky_if_le (pc := 52) (tgt := 67) C dX1_search_52 (by decide) (by omega) (fun h_52 => ?_) (fun h_52 => ?_)
      · omega
      · refine ky_aload_n (pc := 55) C dX1_search_55 rfl ?_
        refine ky_iload_n (pc := 56) C dX1_search_56 rfl ?_
        refine ky_iload_n (pc := 57) C dX1_search_57 rfl ?_
        refine w_cv (pc := 58) C hA (w_turn l D o ad dA G F w u v vs vt pp tr Z hu hv hw ht7 hne hfr hst) (cwV 2 C.2.2.2.2.1 (lw_V q244 q246 qs14 q25 q247) rfl rfl rfl (by decide +kernel) hRt) rfl rfl (Nat.le_of_ble_eq_true rfl) dX1_search_58 (fun G' F' hv => ?_)
        refine ky_iinc1 (pc := 61) C dX1_search_61 rfl (by decide) ?_
        refine ky_goto (pc := 64) (tgt := 41) C dX1_search_64 (by decide) ?_
        exact ih (k + 1) _ G' F' (by omega) hrun.2 hv
/-- what holds of the reference between calls -/
def w_I (G : Nat → Nat) (F : Nat → Nat → Nat) : Prop := (∀ j, j < 49 → F 0 j ≤ 50) ∧ G 1 < 7 ∧ G 2 < 7 ∧ G 1 ≠ G 2
/-- what a search leaves: the first twelve paths, the least length without the arc, the vertices of all paths -/
def w_res (w : Nat → Nat) (vs vt u v : Nat) (G' : Nat → Nat) (F' : Nat → Nat → Nat) : Prop :=
  (∃ K, ye_K w vs vt K ∧ w_rep w F' K ∧ G' 6 = K.length) ∧ ye_sw w u v (ye_path w 4294967295 vs vt) (G' 10) ∧ ye_ev (ye_path w 4294967295 vs vt) (G' 11)
/-- what a question leaves: the same graph, the same ends -/
def w_sm (G : Nat → Nat) (F : Nat → Nat → Nat) (G' : Nat → Nat) (F' : Nat → Nat → Nat) : Prop := w_I G' F' ∧ F' 0 = F 0 ∧ G' 1 = G 1 ∧ G' 2 = G 2
theorem w_sm_rf {G : Nat → Nat} {F : Nat → Nat → Nat} (h : w_I G F) : w_sm G F G F := ⟨h, rfl, rfl, rfl⟩
/-- search(u, v) -/
theorem w_search (l : Launch) (D : va_G) (o : Nat) (ad : Nat → Nat) (dA : Nat → ClassId) (G : Nat → Nat) (F : Nat → Nat → Nat) (u v : Nat) (hu : u < 4294967296) (hv : v < 4294967296) (hI : w_I G F) :
    wMv l yX1_search cX1_search 4 rX1_search D o ad dA G F [nI u, nI v] (fun G' F' => w_res (F 0) (G 1) (G 2) u v G' F' ∧ w_sm G F G' F') := by
  refine wMv.intro (L := [some (.ref o), some (.int (nI u)), some (.int (nI v)), none]) (by decide) rfl (Nat.le_of_ble_eq_true rfl) rfl ?_
  intro p e s m args below meth c A C hr hlocks hA
  obtain ⟨i1, i2, i3, i4⟩ := hI
  obtain ⟨n, tr', hn, hrun⟩ := ye_search (w := F 0) (s := G 1) (t := G 2) i2 (va_up (F 4) 1 0) (vu_at _ _ _)
  refine ky_aload_n (pc := 0) C dX1_search_0 rfl ?_
  refine ky_iconst (pc := 1) C 0 dX1_search_1 (by decide) ?_
  refine w_p6 (pc := 2) C dX1_search_2 ?_
  refine ky_aload_n (pc := 5) C dX1_search_5 rfl ?_
  refine ky_bipush (pc := 6) C 4294967294 dX1_search_6 (by decide) ?_
  refine w_p10 (pc := 8) C dX1_search_8 ?_
  refine ky_aload_n (pc := 11) C dX1_search_11 rfl ?_
  refine ky_bipush (pc := 12) C 127 dX1_search_12 (by decide) ?_
  refine w_p11 (pc := 14) C dX1_search_14 ?_
  refine ky_aload_n (pc := 17) C dX1_search_17 rfl ?_
  refine w_g3 (pc := 18) C dX1_search_18 ?_
  refine ky_iconst (pc := 21) C 0 dX1_search_21 (by decide) ?_
  refine ky_aload_n (pc := 22) C dX1_search_22 rfl ?_
  refine w_g1 (pc := 23) C dX1_search_23 rfl ?_
  refine w_s3 (pc := 26) C dX1_search_26 (by omega) ?_
  refine ky_aload_n (pc := 27) C dX1_search_27 rfl ?_
  refine ky_iconst (pc := 28) C 1 dX1_search_28 (by decide) ?_
  refine w_p5 (pc := 29) C dX1_search_29 ?_
  refine ky_aload_n (pc := 32) C dX1_search_32 rfl ?_
  refine w_g4 (pc := 33) C dX1_search_33 ?_
  refine ky_iconst (pc := 36) C 1 dX1_search_36 (by decide) ?_
  refine ky_iconst (pc := 37) C 0 dX1_search_37 (by decide) ?_
  refine w_s4 (pc := 38) C dX1_search_38 (by omega) ?_
  refine ky_iconst (pc := 39) C 0 dX1_search_39 (by decide) ?_
  refine ky_istore_n (pc := 40) C dX1_search_40 (by decide) ?_
  refine w_sea1 (w := F 0) (vs := G 1) (vt := G 2) (y := ([], tr', ye_en (F 0) (G 2) 7 [G 1])) C hA (by decide) hu hv i1 i3 rfl (ye_en_nodup 7 _) (fun G' F' hst => ?_) n 0 ([G 1], va_up (F 4) 1 0, []) _ _ (by omega) hrun ?_
  · obtain ⟨-, -, -, hkv, -, hF0, hG1, hG2⟩ := hst
    have hS : (fun q => q ∈ ye_en (F 0) (G 2) 7 [G 1]) = ye_path (F 0) 4294967295 (G 1) (G 2) := funext fun q => propext (ye_en_path (by decide) i2 q)
    unfold w_kv at hkv
    dsimp only at hkv
    rw [hS] at hkv
    exact w_vret C hr hlocks dX1_search_67 ⟨hkv, ⟨by rw [hF0]; exact i1, by rw [hG1]; exact i2, by rw [hG2]; exact i3, by rw [hG1, hG2]; exact i4⟩, hF0, hG1, hG2⟩
  · refine ⟨⟨by simp, fun y hy => ?_, trivial, fun _ => rfl, fun i h1 h2 => ?_⟩, ⟨rfl, by show 1 ≤ 7; decide, fun y hy => ?_, fun i hi => ?_⟩, fun i h1 h2 => ?_, ⟨⟨[], ⟨List.Pairwise.nil, fun q hq => (by cases hq), by decide, fun q hq => (by cases hq)⟩, fun k q hk => (by simp at hk), rfl⟩, ye_sw_nil, ye_ev_nil⟩, fun z hz => (by cases hz), rfl, rfl, rfl⟩
    · have : y = G 1 := by simpa using hy
      omega
    · have h3 : i ≤ 1 := h2
      have h4 : i = 1 := by omega
      rw [h4]
      show va_up (F 4) 1 0 1 ≤ 7
      rw [vu_at]
      decide
    · have : y = G 1 := by simpa using hy
      omega
    · have h3 : i < 1 := hi
      have h4 : i = 0 := by omega
      rw [h4]
      rfl
    · have h3 : i ≤ 1 := h2
      have h4 : i = 1 := by omega
      rw [h4]
      rfl
end Y32
end
section
/-! WALK: the public methods of the reference (printed by gen.py out of walk/33.model3.walk) -/
set_option maxRecDepth 100000
section Y33
variable {p : Program} {l : Launch} {e : Env} {R : Room} {s : State} {m : MethodId} {args : Array Value} {below : List Frame} {meth : Method} {c : Code} {Q : State → Prop} {D : va_G} {A : Nat → Prop} {o : Nat} {ad : Nat → Nat} {dA : Nat → ClassId} {G : Nat → Nat} {F : Nat → Nat → Nat}
/-- arc(u, v, x) -/
theorem w_arc (l : Launch) (D : va_G) (o : Nat) (ad : Nat → Nat) (dA : Nat → ClassId) (G : Nat → Nat) (F : Nat → Nat → Nat) (u v x : Nat) (hu : u < 4294967296) (hv : v < 4294967296) (hx : x < 4294967296) (hI : w_I G F) : wMi l yX1_arc cX1_arc 4 .boolean rX1_arc D o ad dA G F [nI u, nI v, nI x] (fun r G' F' => ((ye_arcOk u v x ∧ r = 1 ∧ F' 0 = va_up (F 0) (7 * u + v) x) ∨ (¬ ye_arcOk u v x ∧ r = 0 ∧ F' 0 = F 0)) ∧ w_I G' F' ∧ G' 1 = G 1 ∧ G' 2 = G 2) := by
  refine wMi.intro (L := [some (.ref o), some (.int (nI u)), some (.int (nI v)), some (.int (nI x))]) (by decide) rfl (Nat.le_of_ble_eq_true rfl) rfl ?_
  intro p e s m args below meth c A C hr hlocks hA
  have no : ¬ ye_arcOk u v x → ky_At p l e rX1_arc s m args below meth c 0 0 (wQi below D o ad dA A args s (fun r G' F' => ((ye_arcOk u v x ∧ r = 1 ∧ F' 0 = va_up (F 0) (7 * u + v) x) ∨ (¬ ye_arcOk u v x ∧ r = 0 ∧ F' 0 = F 0)) ∧ w_I G' F' ∧ G' 1 = G 1 ∧ G' 2 = G 2)) D A 4 (wW o ad dA G F) 31 [some (.ref o), some (.int (nI u)), some (.int (nI v)), some (.int (nI x))] [] := by
    intro hno
    refine ky_iconst (pc := 31) C 0 dX1_arc_31 (by decide) ?_
    exact w_zret C hr hlocks dX1_arc_32 (by decide) ⟨Or.inr ⟨hno, rfl, rfl⟩, hI, rfl, rfl⟩
  refine ky_aload_n (pc := 0) C dX1_arc_0 rfl ?_
  refine ky_iload_n (pc := 1) C dX1_arc_1 rfl ?_
  refine w_ci (pc := 2) C hA (w_isVertex l D o ad dA G F u hu) (cwV 1 C.2.2.2.2.1 (lw_V q224 q226 qs12 q25 q227) rfl rfl rfl (by decide +kernel) ⟨Nat.le_of_ble_eq_true rfl, Nat.le_of_ble_eq_true rfl⟩) rfl rfl (Nat.le_of_ble_eq_true rfl) dX1_arc_2 (fun r G' F' hv1 => ?_)
  obtain ⟨hv1, eG, eF⟩ := hv1
  rw [eG, eF]
  clear eG eF
  by_cases hu7 : u < 7
  · rw [if_pos hu7] at hv1
    subst hv1
    refine ky_if_eq (pc := 5) (tgt := 31) C dX1_arc_5 (by decide) (by omega) (fun h_5 => ?_) (fun h_5 => ?_)
    · exact absurd h_5 (by decide)
    · refine ky_aload_n (pc := 8) C dX1_arc_8 rfl ?_
      refine ky_iload_n (pc := 9) C dX1_arc_9 rfl ?_
      refine w_ci (pc := 10) C hA (w_isVertex l D o ad dA G F v hv) (cwV 1 C.2.2.2.2.1 (lw_V q224 q226 qs12 q25 q227) rfl rfl rfl (by decide +kernel) ⟨Nat.le_of_ble_eq_true rfl, Nat.le_of_ble_eq_true rfl⟩) rfl rfl (Nat.le_of_ble_eq_true rfl) dX1_arc_10 (fun r G' F' hv1 => ?_)
      obtain ⟨hv1, eG, eF⟩ := hv1
      rw [eG, eF]
      clear eG eF
      by_cases hv7 : v < 7
      · rw [if_pos hv7] at hv1
        subst hv1
        refine ky_if_eq (pc := 13) (tgt := 31) C dX1_arc_13 (by decide) (by omega) (fun h_13 => ?_) (fun h_13 => ?_)
        · exact absurd h_13 (by decide)
        · refine ky_iload_n (pc := 16) C dX1_arc_16 rfl ?_
          refine ky_iload_n (pc := 17) C dX1_arc_17 rfl ?_
          refine ky_icmp_eq (pc := 18) (tgt := 31) C dX1_arc_18 (by decide) (by omega) (by omega) (fun h_18 => ?_) (fun h_18 => ?_)
          · exact no (fun z => z.2.2.1 h_18)
          · refine ky_iload_n (pc := 21) C dX1_arc_21 rfl ?_
            refine ky_if_lt (pc := 22) (tgt := 31) C dX1_arc_22 (by decide) (by omega) (fun h_22 => ?_) (fun h_22 => ?_)
            · exact no (fun z => by have := z.2.2.2; omega)
            · refine ky_iload_n (pc := 25) C dX1_arc_25 rfl ?_
              refine ky_bipush (pc := 26) C 50 dX1_arc_26 (by decide) ?_
              refine ky_icmp_le (pc := 28) (tgt := 33) C dX1_arc_28 (by decide) (by omega) (by omega) (fun h_28 => ?_) (fun h_28 => ?_)
              · refine ky_aload_n (pc := 33) C dX1_arc_33 rfl ?_
                refine w_g0 (pc := 34) C dX1_arc_34 ?_
                refine ky_bipush (pc := 37) C 7 dX1_arc_37 (by decide) ?_
                refine ky_iload_n (pc := 39) C dX1_arc_39 rfl ?_
                refine ky_imul (pc := 40) C dX1_arc_40 ?_
                refine ky_iload_n (pc := 41) C dX1_arc_41 rfl ?_
                refine ky_iadd (pc := 42) C dX1_arc_42 ?_
                refine ky_iload_n (pc := 43) C dX1_arc_43 rfl ?_
                refine w_s0 (pc := 44) C dX1_arc_44 (by omega) ?_
                refine ky_iconst (pc := 45) C 1 dX1_arc_45 (by decide) ?_
                obtain ⟨i1, i2, i3, i4⟩ := hI
                refine w_zret C hr hlocks dX1_arc_46 (by decide) ⟨Or.inl ⟨⟨hu7, hv7, h_18, h_28⟩, rfl, rfl⟩, ⟨?_, i2, i3, i4⟩, rfl, rfl⟩
                intro j hj
                show va_up (F 0) (7 * u + v) x j ≤ 50
                unfold va_up
                split
                · exact h_28
                · exact i1 j hj
              · exact no (fun z => by have := z.2.2.2; omega)
      · rw [if_neg hv7] at hv1
        subst hv1
        refine ky_if_eq (pc := 13) (tgt := 31) C dX1_arc_13 (by decide) (by omega) (fun h_13 => ?_) (fun h_13 => ?_)
        · exact no (fun z => hv7 z.2.1)
        · exact absurd rfl h_13
  · rw [if_neg hu7] at hv1
    subst hv1
    refine ky_if_eq (pc := 5) (tgt := 31) C dX1_arc_5 (by decide) (by omega) (fun h_5 => ?_) (fun h_5 => ?_)
    · exact no (fun z => hu7 z.1)
    · exact absurd rfl h_5
/-- ends(u, v) -/
theorem w_ends (l : Launch) (D : va_G) (o : Nat) (ad : Nat → Nat) (dA : Nat → ClassId) (G : Nat → Nat) (F : Nat → Nat → Nat) (u v : Nat) (hu : u < 4294967296) (hv : v < 4294967296) (hI : w_I G F) : wMi l yX1_ends cX1_ends 3 .boolean rX1_ends D o ad dA G F [nI u, nI v] (fun r G' F' => ((ye_endOk u v ∧ r = 1 ∧ G' 1 = u ∧ G' 2 = v) ∨ (¬ ye_endOk u v ∧ r = 0 ∧ G' 1 = G 1 ∧ G' 2 = G 2)) ∧ w_I G' F' ∧ F' 0 = F 0) := by
  refine wMi.intro (L := [some (.ref o), some (.int (nI u)), some (.int (nI v))]) (by decide) rfl (Nat.le_of_ble_eq_true rfl) rfl ?_
  intro p e s m args below meth c A C hr hlocks hA
  have no : ¬ ye_endOk u v → ky_At p l e rX1_ends s m args below meth c 0 0 (wQi below D o ad dA A args s (fun r G' F' => ((ye_endOk u v ∧ r = 1 ∧ G' 1 = u ∧ G' 2 = v) ∨ (¬ ye_endOk u v ∧ r = 0 ∧ G' 1 = G 1 ∧ G' 2 = G 2)) ∧ w_I G' F' ∧ F' 0 = F 0)) D A 3 (wW o ad dA G F) 21 [some (.ref o), some (.int (nI u)), some (.int (nI v))] [] := by
    intro hno
    refine ky_iconst (pc := 21) C 0 dX1_ends_21 (by decide) ?_
    exact w_zret C hr hlocks dX1_ends_22 (by decide) ⟨Or.inr ⟨hno, rfl, rfl, rfl⟩, hI, rfl⟩
  refine ky_aload_n (pc := 0) C dX1_ends_0 rfl ?_
  refine ky_iload_n (pc := 1) C dX1_ends_1 rfl ?_
  refine w_ci (pc := 2) C hA (w_isVertex l D o ad dA G F u hu) (cwV 1 C.2.2.2.2.1 (lw_V q224 q226 qs12 q25 q227) rfl rfl rfl (by decide +kernel) ⟨Nat.le_of_ble_eq_true rfl, Nat.le_of_ble_eq_true rfl⟩) rfl rfl (Nat.le_of_ble_eq_true rfl) dX1_ends_2 (fun r G' F' hv1 => ?_)
  obtain ⟨hv1, eG, eF⟩ := hv1
  rw [eG, eF]
  clear eG eF
  by_cases hu7 : u < 7
  · rw [if_pos hu7] at hv1
    subst hv1
    refine ky_if_eq (pc := 5) (tgt := 21) C dX1_ends_5 (by decide) (by omega) (fun h_5 => ?_) (fun h_5 => ?_)
    · exact absurd h_5 (by decide)
    · refine ky_aload_n (pc := 8) C dX1_ends_8 rfl ?_
      refine ky_iload_n (pc := 9) C dX1_ends_9 rfl ?_
      refine w_ci (pc := 10) C hA (w_isVertex l D o ad dA G F v hv) (cwV 1 C.2.2.2.2.1 (lw_V q224 q226 qs12 q25 q227) rfl rfl rfl (by decide +kernel) ⟨Nat.le_of_ble_eq_true rfl, Nat.le_of_ble_eq_true rfl⟩) rfl rfl (Nat.le_of_ble_eq_true rfl) dX1_ends_10 (fun r G' F' hv1 => ?_)
      obtain ⟨hv1, eG, eF⟩ := hv1
      rw [eG, eF]
      clear eG eF
      by_cases hv7 : v < 7
      · rw [if_pos hv7] at hv1
        subst hv1
        refine ky_if_eq (pc := 13) (tgt := 21) C dX1_ends_13 (by decide) (by omega) (fun h_13 => ?_) (fun h_13 => ?_)
        · exact absurd h_13 (by decide)
        · refine ky_iload_n (pc := 16) C dX1_ends_16 rfl ?_
          refine ky_iload_n (pc := 17) C dX1_ends_17 rfl ?_
          refine ky_icmp_ne (pc := 18) (tgt := 23) C dX1_ends_18 (by decide) (by omega) (by omega) (fun h_18 => ?_) (fun h_18 => ?_)
          · refine ky_aload_n (pc := 23) C dX1_ends_23 rfl ?_
            refine ky_iload_n (pc := 24) C dX1_ends_24 rfl ?_
            refine w_p1 (pc := 25) C dX1_ends_25 ?_
            refine ky_aload_n (pc := 28) C dX1_ends_28 rfl ?_
            refine ky_iload_n (pc := 29) C dX1_ends_29 rfl ?_
            refine w_p2 (pc := 30) C dX1_ends_30 ?_
            refine ky_iconst (pc := 33) C 1 dX1_ends_33 (by decide) ?_
            obtain ⟨i1, i2, i3, i4⟩ := hI
            exact w_zret C hr hlocks dX1_ends_34 (by decide) ⟨Or.inl ⟨⟨hu7, hv7, h_18⟩, rfl, rfl, rfl⟩, ⟨i1, hu7, hv7, h_18⟩, rfl⟩
          · exact no (fun z => z.2.2 h_18)
      · rw [if_neg hv7] at hv1
        subst hv1
        refine ky_if_eq (pc := 13) (tgt := 21) C dX1_ends_13 (by decide) (by omega) (fun h_13 => ?_) (fun h_13 => ?_)
        · exact no (fun z => hv7 z.2.1)
        · exact absurd rfl h_13
  · rw [if_neg hu7] at hv1
    subst hv1
    refine ky_if_eq (pc := 5) (tgt := 21) C dX1_ends_5 (by decide) (by omega) (fun h_5 => ?_) (fun h_5 => ?_)
    · exact no (fun z => hu7 z.1)
    · exact absurd rfl h_5
/-- weight(u, v) -/
theorem w_weight (l : Launch) (D : va_G) (o : Nat) (ad : Nat → Nat) (dA : Nat → ClassId) (G : Nat → Nat) (F : Nat → Nat → Nat) (u v : Nat) (hu : u < 4294967296) (hv : v < 4294967296) (hI : w_I G F) : wMi l yX1_weight cX1_weight 3 .int rX1_weight D o ad dA G F [nI u, nI v] (fun r G' F' => r = (if u < 7 ∧ v < 7 then F 0 (7 * u + v) else 4294967295) ∧ w_sm G F G' F') := by
  refine wMi.intro (L := [some (.ref o), some (.int (nI u)), some (.int (nI v))]) (by decide) rfl (Nat.le_of_ble_eq_true rfl) rfl ?_
  intro p e s m args below meth c A C hr hlocks hA
  refine ky_aload_n (pc := 0) C dX1_weight_0 rfl ?_
  refine ky_iload_n (pc := 1) C dX1_weight_1 rfl ?_
  refine w_ci (pc := 2) C hA (w_isVertex l D o ad dA G F u hu) (cwV 1 C.2.2.2.2.1 (lw_V q224 q226 qs12 q25 q227) rfl rfl rfl (by decide +kernel) ⟨Nat.le_of_ble_eq_true rfl, Nat.le_of_ble_eq_true rfl⟩) rfl rfl (Nat.le_of_ble_eq_true rfl) dX1_weight_2 (fun r G' F' hv1 => ?_)
  obtain ⟨hv1, eG, eF⟩ := hv1
  rw [eG, eF]
  clear eG eF
  by_cases hu7 : u < 7
  · rw [if_pos hu7] at hv1
    subst hv1
    refine ky_if_eq (pc := 5) (tgt := 30) C dX1_weight_5 (by decide) (by omega) (fun h_5 => ?_) (fun h_5 => ?_)
    · exact absurd h_5 (by decide)
    · refine ky_aload_n (pc := 8) C dX1_weight_8 rfl ?_
      refine ky_iload_n (pc := 9) C dX1_weight_9 rfl ?_
      refine w_ci (pc := 10) C hA (w_isVertex l D o ad dA G F v hv) (cwV 1 C.2.2.2.2.1 (lw_V q224 q226 qs12 q25 q227) rfl rfl rfl (by decide +kernel) ⟨Nat.le_of_ble_eq_true rfl, Nat.le_of_ble_eq_true rfl⟩) rfl rfl (Nat.le_of_ble_eq_true rfl) dX1_weight_10 (fun r G' F' hv1 => ?_)
      obtain ⟨hv1, eG, eF⟩ := hv1
      rw [eG, eF]
      clear eG eF
      by_cases hv7 : v < 7
      · rw [if_pos hv7] at hv1
        subst hv1
        refine ky_if_eq (pc := 13) (tgt := 30) C dX1_weight_13 (by decide) (by omega) (fun h_13 => ?_) (fun h_13 => ?_)
        · exact absurd h_13 (by decide)
        · refine ky_aload_n (pc := 16) C dX1_weight_16 rfl ?_
          refine w_g0 (pc := 17) C dX1_weight_17 ?_
          refine ky_bipush (pc := 20) C 7 dX1_weight_20 (by decide) ?_
          refine ky_iload_n (pc := 22) C dX1_weight_22 rfl ?_
          refine ky_imul (pc := 23) C dX1_weight_23 ?_
          refine ky_iload_n (pc := 24) C dX1_weight_24 rfl ?_
          refine ky_iadd (pc := 25) C dX1_weight_25 ?_
          refine w_l0 (pc := 26) C dX1_weight_26 (by omega) rfl ?_
          refine ky_goto (pc := 27) (tgt := 31) C dX1_weight_27 (by decide) ?_
          exact w_iret C hr hlocks dX1_weight_31 ⟨by rw [if_pos ⟨hu7, hv7⟩], w_sm_rf hI⟩
      · rw [if_neg hv7] at hv1
        subst hv1
        refine ky_if_eq (pc := 13) (tgt := 30) C dX1_weight_13 (by decide) (by omega) (fun h_13 => ?_) (fun h_13 => ?_)
        · refine ky_iconst (pc := 30) C 4294967295 dX1_weight_30 (by decide) ?_
          exact w_iret C hr hlocks dX1_weight_31 ⟨by rw [if_neg (fun z => hv7 z.2)], w_sm_rf hI⟩
        · exact absurd rfl h_13
  · rw [if_neg hu7] at hv1
    subst hv1
    refine ky_if_eq (pc := 5) (tgt := 30) C dX1_weight_5 (by decide) (by omega) (fun h_5 => ?_) (fun h_5 => ?_)
    · refine ky_iconst (pc := 30) C 4294967295 dX1_weight_30 (by decide) ?_
      exact w_iret C hr hlocks dX1_weight_31 ⟨by rw [if_neg (fun z => hu7 z.1)], w_sm_rf hI⟩
    · exact absurd rfl h_5
/-- paths() -/
theorem w_paths (l : Launch) (D : va_G) (o : Nat) (ad : Nat → Nat) (dA : Nat → ClassId) (G : Nat → Nat) (F : Nat → Nat → Nat) (hI : w_I G F) : wMi l yX1_paths cX1_paths 1 .int rX1_paths D o ad dA G F [] (fun r G' F' => (∃ K, ye_K (F 0) (G 1) (G 2) K ∧ r = K.length) ∧ w_sm G F G' F') := by
  refine wMi.intro (L := [some (.ref o)]) (by decide) rfl (Nat.le_of_ble_eq_true rfl) rfl ?_
  intro p e s m args below meth c A C hr hlocks hA
  refine ky_aload_n (pc := 0) C dX1_paths_0 rfl ?_
  refine ky_iconst (pc := 1) C 4294967295 dX1_paths_1 (by decide) ?_
  refine ky_iconst (pc := 2) C 4294967295 dX1_paths_2 (by decide) ?_
  refine w_cv (pc := 3) C hA (w_search l D o ad dA G F 4294967295 4294967295 (by omega) (by omega) hI) (cwV 2 C.2.2.2.2.1 (lw_V q240 q242 qs13 q25 q243) rfl rfl rfl (by decide +kernel) ⟨Nat.le_of_ble_eq_true rfl, Nat.le_of_ble_eq_true rfl⟩) rfl rfl (Nat.le_of_ble_eq_true rfl) dX1_paths_3 (fun G' F' hv => ?_)
  obtain ⟨⟨⟨K, k1, k2, k3⟩, hsw, hev⟩, hI', e0, e1, e2⟩ := hv
  have h12 : K.length ≤ 12 := k1.2.2.1
  refine ky_aload_n (pc := 6) C dX1_paths_6 rfl ?_
  refine w_g6 (pc := 7) C dX1_paths_7 k3 ?_
  exact w_iret C hr hlocks dX1_paths_10 ⟨⟨K, k1, rfl⟩, hI', e0, e1, e2⟩
/-- length(k) -/
theorem w_length (l : Launch) (D : va_G) (o : Nat) (ad : Nat → Nat) (dA : Nat → ClassId) (G : Nat → Nat) (F : Nat → Nat → Nat) (k : Nat) (hk : k < 4294967296) (hI : w_I G F) : wMi l yX1_length cX1_length 2 .int rX1_length D o ad dA G F [nI k] (fun r G' F' => (∃ K, ye_K (F 0) (G 1) (G 2) K ∧ r = ((K[k]?).map (ye_len (F 0))).getD 4294967294) ∧ w_sm G F G' F') := by
  refine wMi.intro (L := [some (.ref o), some (.int (nI k))]) (by decide) rfl (Nat.le_of_ble_eq_true rfl) rfl ?_
  intro p e s m args below meth c A C hr hlocks hA
  refine ky_aload_n (pc := 0) C dX1_length_0 rfl ?_
  refine ky_iconst (pc := 1) C 4294967295 dX1_length_1 (by decide) ?_
  refine ky_iconst (pc := 2) C 4294967295 dX1_length_2 (by decide) ?_
  refine w_cv (pc := 3) C hA (w_search l D o ad dA G F 4294967295 4294967295 (by omega) (by omega) hI) (cwV 2 C.2.2.2.2.1 (lw_V q240 q242 qs13 q25 q243) rfl rfl rfl (by decide +kernel) ⟨Nat.le_of_ble_eq_true rfl, Nat.le_of_ble_eq_true rfl⟩) rfl rfl (Nat.le_of_ble_eq_true rfl) dX1_length_3 (fun G' F' hv => ?_)
  obtain ⟨⟨⟨K, k1, k2, k3⟩, hsw, hev⟩, hI', e0, e1, e2⟩ := hv
  have h12 : K.length ≤ 12 := k1.2.2.1
  have no : K.length ≤ k → ∃ K, ye_K (F 0) (G 1) (G 2) K ∧ 4294967294 = ((K[k]?).map (ye_len (F 0))).getD 4294967294 := fun h => ⟨K, k1, by rw [List.getElem?_eq_none h]; rfl⟩
  refine ky_iload_n (pc := 6) C dX1_length_6 rfl ?_
  refine ky_if_lt (pc := 7) (tgt := 27) C dX1_length_7 (by decide) (by omega) (fun h_7 => ?_) (fun h_7 => ?_)
  · refine ky_bipush (pc := 27) C 4294967294 dX1_length_27 (by decide) ?_
    exact w_iret C hr hlocks dX1_length_29 ⟨no (by omega), hI', e0, e1, e2⟩
  · refine ky_iload_n (pc := 10) C dX1_length_10 rfl ?_
    refine ky_aload_n (pc := 11) C dX1_length_11 rfl ?_
    refine w_g6 (pc := 12) C dX1_length_12 k3 ?_
    refine ky_icmp_ge (pc := 15) (tgt := 27) C dX1_length_15 (by decide) (by omega) (by omega) (fun h_15 => ?_) (fun h_15 => ?_)
    · refine ky_bipush (pc := 27) C 4294967294 dX1_length_27 (by decide) ?_
      exact w_iret C hr hlocks dX1_length_29 ⟨no (by omega), hI', e0, e1, e2⟩
    · obtain ⟨q, q1, q2, q3, q4, q5⟩ := w_rep_get k2 (by omega : k < K.length)
      refine ky_aload_n (pc := 18) C dX1_length_18 rfl ?_
      refine w_g7 (pc := 19) C dX1_length_19 ?_
      refine ky_iload_n (pc := 22) C dX1_length_22 rfl ?_
      refine w_l7 (pc := 23) C dX1_length_23 (v := ye_len (F 0) q) (by omega) q3 ?_
      refine ky_goto (pc := 24) (tgt := 29) C dX1_length_24 (by decide) ?_
      exact w_iret C hr hlocks dX1_length_29 ⟨⟨K, k1, by rw [q2]; rfl⟩, hI', e0, e1, e2⟩
/-- size(k) -/
theorem w_size (l : Launch) (D : va_G) (o : Nat) (ad : Nat → Nat) (dA : Nat → ClassId) (G : Nat → Nat) (F : Nat → Nat → Nat) (k : Nat) (hk : k < 4294967296) (hI : w_I G F) : wMi l yX1_size cX1_size 2 .int rX1_size D o ad dA G F [nI k] (fun r G' F' => (∃ K, ye_K (F 0) (G 1) (G 2) K ∧ r = ((K[k]?).map List.length).getD 4294967294) ∧ w_sm G F G' F') := by
  refine wMi.intro (L := [some (.ref o), some (.int (nI k))]) (by decide) rfl (Nat.le_of_ble_eq_true rfl) rfl ?_
  intro p e s m args below meth c A C hr hlocks hA
  refine ky_aload_n (pc := 0) C dX1_size_0 rfl ?_
  refine ky_iconst (pc := 1) C 4294967295 dX1_size_1 (by decide) ?_
  refine ky_iconst (pc := 2) C 4294967295 dX1_size_2 (by decide) ?_
  refine w_cv (pc := 3) C hA (w_search l D o ad dA G F 4294967295 4294967295 (by omega) (by omega) hI) (cwV 2 C.2.2.2.2.1 (lw_V q240 q242 qs13 q25 q243) rfl rfl rfl (by decide +kernel) ⟨Nat.le_of_ble_eq_true rfl, Nat.le_of_ble_eq_true rfl⟩) rfl rfl (Nat.le_of_ble_eq_true rfl) dX1_size_3 (fun G' F' hv => ?_)
  obtain ⟨⟨⟨K, k1, k2, k3⟩, hsw, hev⟩, hI', e0, e1, e2⟩ := hv
  have h12 : K.length ≤ 12 := k1.2.2.1
  have no : K.length ≤ k → ∃ K, ye_K (F 0) (G 1) (G 2) K ∧ 4294967294 = ((K[k]?).map List.length).getD 4294967294 := fun h => ⟨K, k1, by rw [List.getElem?_eq_none h]; rfl⟩
  refine ky_iload_n (pc := 6) C dX1_size_6 rfl ?_
  refine ky_if_lt (pc := 7) (tgt := 27) C dX1_size_7 (by decide) (by omega) (fun h_7 => ?_) (fun h_7 => ?_)
  · refine ky_bipush (pc := 27) C 4294967294 dX1_size_27 (by decide) ?_
    exact w_iret C hr hlocks dX1_size_29 ⟨no (by omega), hI', e0, e1, e2⟩
  · refine ky_iload_n (pc := 10) C dX1_size_10 rfl ?_
    refine ky_aload_n (pc := 11) C dX1_size_11 rfl ?_
    refine w_g6 (pc := 12) C dX1_size_12 k3 ?_
    refine ky_icmp_ge (pc := 15) (tgt := 27) C dX1_size_15 (by decide) (by omega) (by omega) (fun h_15 => ?_) (fun h_15 => ?_)
    · refine ky_bipush (pc := 27) C 4294967294 dX1_size_27 (by decide) ?_
      exact w_iret C hr hlocks dX1_size_29 ⟨no (by omega), hI', e0, e1, e2⟩
    · obtain ⟨q, q1, q2, q3, q4, q5⟩ := w_rep_get k2 (by omega : k < K.length)
      refine ky_aload_n (pc := 18) C dX1_size_18 rfl ?_
      refine w_g8 (pc := 19) C dX1_size_19 ?_
      refine ky_iload_n (pc := 22) C dX1_size_22 rfl ?_
      refine w_l8 (pc := 23) C dX1_size_23 (v := q.length) (by omega) q4 ?_
      refine ky_goto (pc := 24) (tgt := 29) C dX1_size_24 (by decide) ?_
      exact w_iret C hr hlocks dX1_size_29 ⟨⟨K, k1, by rw [q2]; rfl⟩, hI', e0, e1, e2⟩
/-- vertex(k, i) -/
theorem w_vertex (l : Launch) (D : va_G) (o : Nat) (ad : Nat → Nat) (dA : Nat → ClassId) (G : Nat → Nat) (F : Nat → Nat → Nat) (k i : Nat) (hk : k < 4294967296) (hi : i < 4294967296) (hI : w_I G F) : wMi l yX1_vertex cX1_vertex 3 .int rX1_vertex D o ad dA G F [nI k, nI i] (fun r G' F' => (∃ K, ye_K (F 0) (G 1) (G 2) K ∧ r = ((K[k]?).bind (fun q => q[i]?)).getD 4294967294) ∧ w_sm G F G' F') := by
  refine wMi.intro (L := [some (.ref o), some (.int (nI k)), some (.int (nI i))]) (by decide) rfl (Nat.le_of_ble_eq_true rfl) rfl ?_
  intro p e s m args below meth c A C hr hlocks hA
  refine ky_aload_n (pc := 0) C dX1_vertex_0 rfl ?_
  refine ky_iconst (pc := 1) C 4294967295 dX1_vertex_1 (by decide) ?_
  refine ky_iconst (pc := 2) C 4294967295 dX1_vertex_2 (by decide) ?_
  refine w_cv (pc := 3) C hA (w_search l D o ad dA G F 4294967295 4294967295 (by omega) (by omega) hI) (cwV 2 C.2.2.2.2.1 (lw_V q240 q242 qs13 q25 q243) rfl rfl rfl (by decide +kernel) ⟨Nat.le_of_ble_eq_true rfl, Nat.le_of_ble_eq_true rfl⟩) rfl rfl (Nat.le_of_ble_eq_true rfl) dX1_vertex_3 (fun G' F' hv => ?_)
  obtain ⟨⟨⟨K, k1, k2, k3⟩, hsw, hev⟩, hI', e0, e1, e2⟩ := hv
  have h12 : K.length ≤ 12 := k1.2.2.1
  have no : (K[k]?).bind (fun q => q[i]?) = none → ∃ K, ye_K (F 0) (G 1) (G 2) K ∧ 4294967294 = ((K[k]?).bind (fun q => q[i]?)).getD 4294967294 := fun h => ⟨K, k1, by rw [h]; rfl⟩
  have no1 : K.length ≤ k → (K[k]?).bind (fun q => q[i]?) = none := fun h => by rw [List.getElem?_eq_none h]; rfl
  refine ky_iload_n (pc := 6) C dX1_vertex_6 rfl ?_
  refine ky_if_lt (pc := 7) (tgt := 46) C dX1_vertex_7 (by decide) (by omega) (fun h_7 => ?_) (fun h_7 => ?_)
  · refine ky_bipush (pc := 46) C 4294967294 dX1_vertex_46 (by decide) ?_
    exact w_iret C hr hlocks dX1_vertex_48 ⟨no (no1 (by omega)), hI', e0, e1, e2⟩
  · refine ky_iload_n (pc := 10) C dX1_vertex_10 rfl ?_
    refine ky_aload_n (pc := 11) C dX1_vertex_11 rfl ?_
    refine w_g6 (pc := 12) C dX1_vertex_12 k3 ?_
    refine ky_icmp_ge (pc := 15) (tgt := 46) C dX1_vertex_15 (by decide) (by omega) (by omega) (fun h_15 => ?_) (fun h_15 => ?_)
    · refine ky_bipush (pc := 46) C 4294967294 dX1_vertex_46 (by decide) ?_
      exact w_iret C hr hlocks dX1_vertex_48 ⟨no (no1 (by omega)), hI', e0, e1, e2⟩
    · obtain ⟨q, q1, q2, q3, q4, q5⟩ := w_rep_get k2 (by omega : k < K.length)
      have hql := ye_path_len (k1.2.1 q q1)
      have no2 : q.length ≤ i → (K[k]?).bind (fun q => q[i]?) = none := fun h => by rw [q2, Option.bind_some, List.getElem?_eq_none h]
      refine ky_iload_n (pc := 18) C dX1_vertex_18 rfl ?_
      refine ky_if_lt (pc := 19) (tgt := 46) C dX1_vertex_19 (by decide) (by omega) (fun h_19 => ?_) (fun h_19 => ?_)
      · refine ky_bipush (pc := 46) C 4294967294 dX1_vertex_46 (by decide) ?_
        exact w_iret C hr hlocks dX1_vertex_48 ⟨no (no2 (by omega)), hI', e0, e1, e2⟩
      · refine ky_iload_n (pc := 22) C dX1_vertex_22 rfl ?_
        refine ky_aload_n (pc := 23) C dX1_vertex_23 rfl ?_
        refine w_g8 (pc := 24) C dX1_vertex_24 ?_
        refine ky_iload_n (pc := 27) C dX1_vertex_27 rfl ?_
        refine w_l8 (pc := 28) C dX1_vertex_28 (v := q.length) (by omega) q4 ?_
        refine ky_icmp_ge (pc := 29) (tgt := 46) C dX1_vertex_29 (by decide) (by omega) (by omega) (fun h_29 => ?_) (fun h_29 => ?_)
        · refine ky_bipush (pc := 46) C 4294967294 dX1_vertex_46 (by decide) ?_
          exact w_iret C hr hlocks dX1_vertex_48 ⟨no (no2 (by omega)), hI', e0, e1, e2⟩
        · refine ky_aload_n (pc := 32) C dX1_vertex_32 rfl ?_
          refine w_g9 (pc := 33) C dX1_vertex_33 ?_
          refine ky_bipush (pc := 36) C 7 dX1_vertex_36 (by decide) ?_
          refine ky_iload_n (pc := 38) C dX1_vertex_38 rfl ?_
          refine ky_imul (pc := 39) C dX1_vertex_39 ?_
          refine ky_iload_n (pc := 40) C dX1_vertex_40 rfl ?_
          refine ky_iadd (pc := 41) C dX1_vertex_41 ?_
          refine w_l9 (pc := 42) C dX1_vertex_42 (v := ye_dg q i) (by omega) (q5 i (by omega)) ?_
          refine ky_goto (pc := 43) (tgt := 48) C dX1_vertex_43 (by decide) ?_
          exact w_iret C hr hlocks dX1_vertex_48 ⟨⟨K, k1, by rw [q2, Option.bind_some, ye_dg_of (by omega)]; rfl⟩, hI', e0, e1, e2⟩
theorem w_kps1 {k u v : Nat} {q : List Nat} (C : ky_C p s m args c cX1_keptPasses 5 RX1 D (wT dA)) (hu : u < 4294967296) (hv : v < 4294967296) (hk : k < 13) (q3 : ∀ x ∈ q, x < 7) (q2 : q.length ≤ 7) (h8 : F 8 k = q.length) (q4 : ∀ i, i < q.length → F 9 (7 * k + i) = ye_dg q i)
    (k1 : ye_has u v q = true → ky_At p l e R s m args below meth c 0 0 Q D A 5 (wW o ad dA G F) 48 [some (.ref o), some (.int (nI k)), some (.int (nI u)), some (.int (nI v)), none] [])
    (k2 : ye_has u v q = false → ky_At p l e R s m args below meth c 0 0 Q D A 5 (wW o ad dA G F) 56 [some (.ref o), some (.int (nI k)), some (.int (nI u)), some (.int (nI v)), none] []) :
    ∀ (n i : Nat), i + n = q.length + 1 → 1 ≤ i → (∀ j, j + 1 < i → ¬ (ye_dg q j = u ∧ ye_dg q (j + 1) = v)) → ky_At p l e R s m args below meth c 0 0 Q D A 5 (wW o ad dA G F) 3 [some (.ref o), some (.int (nI k)), some (.int (nI u)), some (.int (nI v)), some (.int (nI i))] [] := by
  intro n
  have out : ∀ i, q.length ≤ i → (∀ j, j + 1 < i → ¬ (ye_dg q j = u ∧ ye_dg q (j + 1) = v)) → ye_has u v q = false := by
    intro i hi hno
    cases hz : ye_has u v q with
    | false => rfl
    | true =>
      obtain ⟨j, j1, j2⟩ := (ye_has_iff q).mp hz
      exact absurd j2 (hno j (by omega))
  induction n with
  | zero =>
    intro i hi hi1 hno
    refine ky_iload (pc := 3) C dX1_keptPasses_3 rfl ?_
    refine ky_aload_n (pc := 5) C dX1_keptPasses_5 rfl ?_
    refine w_g8 (pc := 6) C dX1_keptPasses_6 ?_
    refine ky_iload_n (pc := 9) C dX1_keptPasses_9 rfl ?_
    refine w_l8 (pc := 10) C dX1_keptPasses_10 (v := q.length) (by omega) h8 ?_
    refine ky_icmp_ge (pc := 11) (tgt := 56) C dX1_keptPasses_11 (by decide) (by omega) (by omega) (fun h_11 => ?_) (fun h_11 => ?_)
    · refine ky_forget 4 (k2 (out i (by omega) hno))
    · omega
  | succ n ih =>
    intro i hi hi1 hno
    refine ky_iload (pc := 3) C dX1_keptPasses_3 rfl ?_
    refine ky_aload_n (pc := 5) C dX1_keptPasses_5 rfl ?_
    refine w_g8 (pc := 6) C dX1_keptPasses_6 ?_
    refine ky_iload_n (pc := 9) C dX1_keptPasses_9 rfl ?_
    refine w_l8 (pc := 10) C dX1_keptPasses_10 (v := q.length) (by omega) h8 ?_
    refine ky_icmp_ge (pc := 11) (tgt := 56) C dX1_keptPasses_11 (by decide) (by omega) (by omega) (fun h_11 => ?_) (fun h_11 => ?_)
    · refine ky_forget 4 (k2 (out i (by omega) hno))
    · have hx : ye_dg q i < 7 := q3 _ (List.mem_of_getElem? (ye_dg_of (by omega)))
      have hy : ye_dg q (i - 1) < 7 := q3 _ (List.mem_of_getElem? (ye_dg_of (by omega)))
      have hq1 : F 9 (7 * k + i - 1) = ye_dg q (i - 1) := by
        rw [show 7 * k + i - 1 = 7 * k + (i - 1) by omega]
        exact q4 (i - 1) (by omega)
      have fin : ¬ (ye_dg q (i - 1) = u ∧ ye_dg q i = v) → ky_At p l e R s m args below meth c 0 0 Q D A 5 (wW o ad dA G F) 50 [some (.ref o), some (.int (nI k)), some (.int (nI u)), some (.int (nI v)), some (.int (nI i))] [] := by
        intro hn
        refine ky_iinc1 (pc := 50) C dX1_keptPasses_50 rfl (by decide) ?_
        refine ky_goto (pc := 53) (tgt := 3) C dX1_keptPasses_53 (by decide) ?_
        refine ih (i + 1) (by omega) (by omega) (fun j hj => ?_)
        by_cases e : j + 1 = i
        · subst e
          exact hn
        · exact hno j (by omega)
      refine ky_aload_n (pc := 14) C dX1_keptPasses_14 rfl ?_
      refine w_g9 (pc := 15) C dX1_keptPasses_15 ?_
      refine ky_bipush (pc := 18) C 7 dX1_keptPasses_18 (by decide) ?_
      refine ky_iload_n (pc := 20) C dX1_keptPasses_20 rfl ?_
      refine ky_imul (pc := 21) C dX1_keptPasses_21 ?_
      refine ky_iload (pc := 22) C dX1_keptPasses_22 rfl ?_
      refine ky_iadd (pc := 24) C dX1_keptPasses_24 ?_
      refine ky_iconst (pc := 25) C 1 dX1_keptPasses_25 (by decide) ?_
      refine ky_isub (pc := 26) C dX1_keptPasses_26 (by omega) ?_
      refine w_l9 (pc := 27) C dX1_keptPasses_27 (v := ye_dg q (i - 1)) (by omega) hq1 ?_
      refine ky_iload_n (pc := 28) C dX1_keptPasses_28 rfl ?_
      refine ky_icmp_ne (pc := 29) (tgt := 50) C dX1_keptPasses_29 (by decide) (by omega) (by omega) (fun h_29 => ?_) (fun h_29 => ?_)
      · exact fin (fun z => h_29 z.1)
      · refine ky_aload_n (pc := 32) C dX1_keptPasses_32 rfl ?_
        refine w_g9 (pc := 33) C dX1_keptPasses_33 ?_
        refine ky_bipush (pc := 36) C 7 dX1_keptPasses_36 (by decide) ?_
        refine ky_iload_n (pc := 38) C dX1_keptPasses_38 rfl ?_
        refine ky_imul (pc := 39) C dX1_keptPasses_39 ?_
        refine ky_iload (pc := 40) C dX1_keptPasses_40 rfl ?_
        refine ky_iadd (pc := 42) C dX1_keptPasses_42 ?_
        refine w_l9 (pc := 43) C dX1_keptPasses_43 (v := ye_dg q i) (by omega) (q4 i (by omega)) ?_
        refine ky_iload_n (pc := 44) C dX1_keptPasses_44 rfl ?_
        refine ky_icmp_ne (pc := 45) (tgt := 50) C dX1_keptPasses_45 (by decide) (by omega) (by omega) (fun h_45 => ?_) (fun h_45 => ?_)
        · exact fin (fun z => h_45 z.2)
        · refine ky_forget 4 (k1 ?_)
          exact (ye_has_iff q).mpr ⟨i - 1, by omega, h_29, by rw [show i - 1 + 1 = i by omega]; exact h_45⟩
/-- keptPasses(k, u, v) -/
theorem w_keptPasses (l : Launch) (D : va_G) (o : Nat) (ad : Nat → Nat) (dA : Nat → ClassId) (G : Nat → Nat) (F : Nat → Nat → Nat) (k u v : Nat) (q : List Nat) (hu : u < 4294967296) (hv : v < 4294967296) (hk : k < 13) (q3 : ∀ x ∈ q, x < 7) (q2 : q.length ≤ 7) (h8 : F 8 k = q.length) (q4 : ∀ i, i < q.length → F 9 (7 * k + i) = ye_dg q i) : wMi l yX1_keptPasses cX1_keptPasses 5 .boolean rX1_keptPasses D o ad dA G F [nI k, nI u, nI v] (fun r G' F' => ((r = 1 ∧ ye_has u v q = true) ∨ (r = 0 ∧ ye_has u v q = false)) ∧ G' = G ∧ F' = F) := by
  refine wMi.intro (L := [some (.ref o), some (.int (nI k)), some (.int (nI u)), some (.int (nI v)), none]) (by decide) rfl (Nat.le_of_ble_eq_true rfl) rfl ?_
  intro p e s m args below meth c A C hr hlocks hA
  refine ky_iconst (pc := 0) C 1 dX1_keptPasses_0 (by decide) ?_
  refine ky_istore (pc := 1) C dX1_keptPasses_1 (by decide) ?_
  refine w_kps1 C hu hv hk q3 q2 h8 q4 (fun h => ?_) (fun h => ?_) q.length 1 (by omega) (Nat.le_refl _) (fun j hj => absurd hj (by omega))
  · refine ky_iconst (pc := 48) C 1 dX1_keptPasses_48 (by decide) ?_
    exact w_zret C hr hlocks dX1_keptPasses_49 (by decide) ⟨Or.inl ⟨rfl, h⟩, rfl, rfl⟩
  · refine ky_iconst (pc := 56) C 0 dX1_keptPasses_56 (by decide) ?_
    exact w_zret C hr hlocks dX1_keptPasses_57 (by decide) ⟨Or.inr ⟨rfl, h⟩, rfl, rfl⟩
theorem w_pas1 {u v : Nat} {w : Nat → Nat} {K : List (List Nat)} (C : ky_C p s m args c cX1_passing 5 RX1 D (wT dA)) (hA : ∀ q : Nat, s.heap.size ≤ q → A q) (hR : 1 ≤ R.frames ∧ 24 ≤ R.locals) (hu : u < 7) (hv : v < 7) (hKb : ∀ q ∈ K, (∀ x ∈ q, x < 7) ∧ q.length ≤ 7) (h12 : K.length ≤ 12) (hrp : w_rep w F K) (h6 : G 6 = K.length)
    (kk : ky_At p l e R s m args below meth c 0 0 Q D A 5 (wW o ad dA G F) 58 [some (.ref o), some (.int (nI u)), some (.int (nI v)), some (.int (nI (K.countP (ye_has u v)))), none] []) :
    ∀ (n k : Nat), k + n = K.length → ky_At p l e R s m args below meth c 0 0 Q D A 5 (wW o ad dA G F) 29 [some (.ref o), some (.int (nI u)), some (.int (nI v)), some (.int (nI ((K.take k).countP (ye_has u v)))), some (.int (nI k))] [] := by
  have hRk : rX1_keptPasses.frames + 1 ≤ R.frames ∧ 8 + (5 + 11) + rX1_keptPasses.locals ≤ R.locals := ⟨by show 1 ≤ R.frames; omega, by show 24 ≤ R.locals; omega⟩
  intro n
  induction n with
  | zero =>
    intro k hk
    refine ky_iload (pc := 29) C dX1_passing_29 rfl ?_
    refine ky_aload_n (pc := 31) C dX1_passing_31 rfl ?_
    refine w_g6 (pc := 32) C dX1_passing_32 h6 ?_
    refine ky_icmp_ge (pc := 35) (tgt := 58) C dX1_passing_35 (by decide) (by omega) (by omega) (fun h_35 => ?_) (fun h_35 => ?_)
    · refine ky_forget 4 ?_
      rw [List.take_of_length_le (by omega)]
      exact kk
    · omega
  | succ n ih =>
    intro k hk
    obtain ⟨q, q1, q2, q3, q4, q5⟩ := w_rep_get hrp (by omega : k < K.length)
    obtain ⟨b1, b2⟩ := hKb q q1
    have hstep := ye_count_next (f := ye_has u v) q2
    have fin : ∀ x, x = (K.take (k + 1)).countP (ye_has u v) → ky_At p l e R s m args below meth c 0 0 Q D A 5 (wW o ad dA G F) 52 [some (.ref o), some (.int (nI u)), some (.int (nI v)), some (.int (nI x)), some (.int (nI k))] [] := by
      intro x hx
      rw [hx]
      refine ky_iinc1 (pc := 52) C dX1_passing_52 rfl (by decide) ?_
      refine ky_goto (pc := 55) (tgt := 29) C dX1_passing_55 (by decide) ?_
      exact ih (k + 1) (by omega)
    refine ky_iload (pc := 29) C dX1_passing_29 rfl ?_
    refine ky_aload_n (pc := 31) C dX1_passing_31 rfl ?_
    refine w_g6 (pc := 32) C dX1_passing_32 h6 ?_
    refine ky_icmp_ge (pc := 35) (tgt := 58) C dX1_passing_35 (by decide) (by omega) (by omega) (fun h_35 => ?_) (fun h_35 => ?_)
    · omega
    · refine ky_aload_n (pc := 38) C dX1_passing_38 rfl ?_
      refine ky_iload (pc := 39) C dX1_passing_39 rfl ?_
      refine ky_iload_n (pc := 41) C dX1_passing_41 rfl ?_
      refine ky_iload_n (pc := 42) C dX1_passing_42 rfl ?_
      refine w_ci (pc := 43) C hA (w_keptPasses l D o ad dA G F k u v q (by omega) (by omega) (by omega) b1 b2 q4 q5) (cwV 3 C.2.2.2.2.1 (lw_V q292 q294 qs22 q25 q295) rfl rfl rfl (by decide +kernel) hRk) rfl rfl (Nat.le_of_ble_eq_true rfl) dX1_passing_43 (fun r G' F' hv1 => ?_)
      obtain ⟨hv1, eG, eF⟩ := hv1
      rw [eG, eF]
      clear eG eF
      rcases hv1 with ⟨rfl, hh⟩ | ⟨rfl, hh⟩
      · rw [if_pos hh] at hstep
        refine ky_if_eq (pc := 46) (tgt := 52) C dX1_passing_46 (by decide) (by omega) (fun h_46 => ?_) (fun h_46 => ?_)
        · exact absurd h_46 (by decide)
        · refine ky_iinc1 (pc := 49) C dX1_passing_49 rfl (by decide) ?_
          exact fin _ hstep.symm
      · rw [hh] at hstep
        refine ky_if_eq (pc := 46) (tgt := 52) C dX1_passing_46 (by decide) (by omega) (fun h_46 => ?_) (fun h_46 => ?_)
        · exact fin _ hstep.symm
        · exact absurd rfl h_46

/-- passing(u, v) -/
theorem w_passing (l : Launch) (D : va_G) (o : Nat) (ad : Nat → Nat) (dA : Nat → ClassId) (G : Nat → Nat) (F : Nat → Nat → Nat) (u v : Nat) (hu : u < 4294967296) (hv : v < 4294967296) (hI : w_I G F) : wMi l yX1_passing cX1_passing 5 .int rX1_passing D o ad dA G F [nI u, nI v] (fun r G' F' => ((u < 7 ∧ v < 7 ∧ ∃ K, ye_K (F 0) (G 1) (G 2) K ∧ r = K.countP (ye_has u v)) ∨ (¬ (u < 7 ∧ v < 7) ∧ r = 4294967295)) ∧ w_sm G F G' F') := by
  refine wMi.intro (L := [some (.ref o), some (.int (nI u)), some (.int (nI v)), none, none]) (by decide) rfl (Nat.le_of_ble_eq_true rfl) rfl ?_
  intro p e s m args below meth c A C hr hlocks hA
  refine ky_aload_n (pc := 0) C dX1_passing_0 rfl ?_
  refine ky_iload_n (pc := 1) C dX1_passing_1 rfl ?_
  refine w_ci (pc := 2) C hA (w_isVertex l D o ad dA G F u hu) (cwV 1 C.2.2.2.2.1 (lw_V q224 q226 qs12 q25 q227) rfl rfl rfl (by decide +kernel) ⟨Nat.le_of_ble_eq_true rfl, Nat.le_of_ble_eq_true rfl⟩) rfl rfl (Nat.le_of_ble_eq_true rfl) dX1_passing_2 (fun r G' F' hv1 => ?_)
  obtain ⟨hv1, eG, eF⟩ := hv1
  rw [eG, eF]
  clear eG eF
  by_cases hu7 : u < 7
  · rw [if_pos hu7] at hv1
    subst hv1
    refine ky_if_eq (pc := 5) (tgt := 16) C dX1_passing_5 (by decide) (by omega) (fun h_5 => ?_) (fun h_5 => ?_)
    · exact absurd h_5 (by decide)
    · refine ky_aload_n (pc := 8) C dX1_passing_8 rfl ?_
      refine ky_iload_n (pc := 9) C dX1_passing_9 rfl ?_
      refine w_ci (pc := 10) C hA (w_isVertex l D o ad dA G F v hv) (cwV 1 C.2.2.2.2.1 (lw_V q224 q226 qs12 q25 q227) rfl rfl rfl (by decide +kernel) ⟨Nat.le_of_ble_eq_true rfl, Nat.le_of_ble_eq_true rfl⟩) rfl rfl (Nat.le_of_ble_eq_true rfl) dX1_passing_10 (fun r G' F' hv1 => ?_)
      obtain ⟨hv1, eG, eF⟩ := hv1
      rw [eG, eF]
      clear eG eF
      by_cases hv7 : v < 7
      · rw [if_pos hv7] at hv1
        subst hv1
        refine ky_if_ne (pc := 13) (tgt := 18) C dX1_passing_13 (by decide) (by omega) (fun h_13 => ?_) (fun h_13 => ?_)
        · refine ky_aload_n (pc := 18) C dX1_passing_18 rfl ?_
          refine ky_iconst (pc := 19) C 4294967295 dX1_passing_19 (by decide) ?_
          refine ky_iconst (pc := 20) C 4294967295 dX1_passing_20 (by decide) ?_
          refine w_cv (pc := 21) C hA (w_search l D o ad dA G F 4294967295 4294967295 (by omega) (by omega) hI) (cwV 2 C.2.2.2.2.1 (lw_V q240 q242 qs13 q25 q243) rfl rfl rfl (by decide +kernel) ⟨Nat.le_of_ble_eq_true rfl, Nat.le_of_ble_eq_true rfl⟩) rfl rfl (Nat.le_of_ble_eq_true rfl) dX1_passing_21 (fun G' F' hv => ?_)
          obtain ⟨⟨⟨K, k1, k2, k3⟩, hsw, hev⟩, hI', e0, e1, e2⟩ := hv
          refine ky_iconst (pc := 24) C 0 dX1_passing_24 (by decide) ?_
          refine ky_istore_n (pc := 25) C dX1_passing_25 (by decide) ?_
          refine ky_iconst (pc := 26) C 0 dX1_passing_26 (by decide) ?_
          refine ky_istore (pc := 27) C dX1_passing_27 (by decide) ?_
          refine w_pas1 (K := K) (w := F 0) C hA (by decide) hu7 hv7 (fun q hq => ⟨(k1.2.1 q hq).2.1, ye_path_len (k1.2.1 q hq)⟩) k1.2.2.1 k2 k3 ?_ K.length 0 (by omega)
          refine ky_iload_n (pc := 58) C dX1_passing_58 rfl ?_
          exact w_iret C hr hlocks dX1_passing_59 ⟨Or.inl ⟨hu7, hv7, K, k1, rfl⟩, hI', e0, e1, e2⟩
        · exact absurd h_13 (by decide)
      · rw [if_neg hv7] at hv1
        subst hv1
        refine ky_if_ne (pc := 13) (tgt := 18) C dX1_passing_13 (by decide) (by omega) (fun h_13 => ?_) (fun h_13 => ?_)
        · exact absurd rfl h_13
        · refine ky_iconst (pc := 16) C 4294967295 dX1_passing_16 (by decide) ?_
          exact w_iret C hr hlocks dX1_passing_17 ⟨Or.inr ⟨fun z => hv7 z.2, rfl⟩, w_sm_rf hI⟩
  · rw [if_neg hu7] at hv1
    subst hv1
    refine ky_if_eq (pc := 5) (tgt := 16) C dX1_passing_5 (by decide) (by omega) (fun h_5 => ?_) (fun h_5 => ?_)
    · refine ky_iconst (pc := 16) C 4294967295 dX1_passing_16 (by decide) ?_
      exact w_iret C hr hlocks dX1_passing_17 ⟨Or.inr ⟨fun z => hu7 z.1, rfl⟩, w_sm_rf hI⟩
    · exact absurd rfl h_5
/-- avoiding(u, v) -/
theorem w_avoiding (l : Launch) (D : va_G) (o : Nat) (ad : Nat → Nat) (dA : Nat → ClassId) (G : Nat → Nat) (F : Nat → Nat → Nat) (u v : Nat) (hu : u < 4294967296) (hv : v < 4294967296) (hI : w_I G F) : wMi l yX1_avoiding cX1_avoiding 3 .int rX1_avoiding D o ad dA G F [nI u, nI v] (fun r G' F' => ((u < 7 ∧ v < 7 ∧ ye_sw (F 0) u v (ye_path (F 0) 4294967295 (G 1) (G 2)) r) ∨ (¬ (u < 7 ∧ v < 7) ∧ r = 4294967295)) ∧ w_sm G F G' F') := by
  refine wMi.intro (L := [some (.ref o), some (.int (nI u)), some (.int (nI v))]) (by decide) rfl (Nat.le_of_ble_eq_true rfl) rfl ?_
  intro p e s m args below meth c A C hr hlocks hA
  refine ky_aload_n (pc := 0) C dX1_avoiding_0 rfl ?_
  refine ky_iload_n (pc := 1) C dX1_avoiding_1 rfl ?_
  refine w_ci (pc := 2) C hA (w_isVertex l D o ad dA G F u hu) (cwV 1 C.2.2.2.2.1 (lw_V q224 q226 qs12 q25 q227) rfl rfl rfl (by decide +kernel) ⟨Nat.le_of_ble_eq_true rfl, Nat.le_of_ble_eq_true rfl⟩) rfl rfl (Nat.le_of_ble_eq_true rfl) dX1_avoiding_2 (fun r G' F' hv1 => ?_)
  obtain ⟨hv1, eG, eF⟩ := hv1
  rw [eG, eF]
  clear eG eF
  by_cases hu7 : u < 7
  · rw [if_pos hu7] at hv1
    subst hv1
    refine ky_if_eq (pc := 5) (tgt := 16) C dX1_avoiding_5 (by decide) (by omega) (fun h_5 => ?_) (fun h_5 => ?_)
    · exact absurd h_5 (by decide)
    · refine ky_aload_n (pc := 8) C dX1_avoiding_8 rfl ?_
      refine ky_iload_n (pc := 9) C dX1_avoiding_9 rfl ?_
      refine w_ci (pc := 10) C hA (w_isVertex l D o ad dA G F v hv) (cwV 1 C.2.2.2.2.1 (lw_V q224 q226 qs12 q25 q227) rfl rfl rfl (by decide +kernel) ⟨Nat.le_of_ble_eq_true rfl, Nat.le_of_ble_eq_true rfl⟩) rfl rfl (Nat.le_of_ble_eq_true rfl) dX1_avoiding_10 (fun r G' F' hv1 => ?_)
      obtain ⟨hv1, eG, eF⟩ := hv1
      rw [eG, eF]
      clear eG eF
      by_cases hv7 : v < 7
      · rw [if_pos hv7] at hv1
        subst hv1
        refine ky_if_ne (pc := 13) (tgt := 18) C dX1_avoiding_13 (by decide) (by omega) (fun h_13 => ?_) (fun h_13 => ?_)
        · refine ky_aload_n (pc := 18) C dX1_avoiding_18 rfl ?_
          refine ky_iload_n (pc := 19) C dX1_avoiding_19 rfl ?_
          refine ky_iload_n (pc := 20) C dX1_avoiding_20 rfl ?_
          refine w_cv (pc := 21) C hA (w_search l D o ad dA G F u v hu hv hI) (cwV 2 C.2.2.2.2.1 (lw_V q240 q242 qs13 q25 q243) rfl rfl rfl (by decide +kernel) ⟨Nat.le_of_ble_eq_true rfl, Nat.le_of_ble_eq_true rfl⟩) rfl rfl (Nat.le_of_ble_eq_true rfl) dX1_avoiding_21 (fun G' F' hv => ?_)
          obtain ⟨⟨-, hsw, hev⟩, hI', e0, e1, e2⟩ := hv
          refine ky_aload_n (pc := 24) C dX1_avoiding_24 rfl ?_
          refine w_g10 (pc := 25) C dX1_avoiding_25 (v := G' 10) rfl ?_
          exact w_iret C hr hlocks dX1_avoiding_28 ⟨Or.inl ⟨hu7, hv7, hsw⟩, hI', e0, e1, e2⟩
        · exact absurd h_13 (by decide)
      · rw [if_neg hv7] at hv1
        subst hv1
        refine ky_if_ne (pc := 13) (tgt := 18) C dX1_avoiding_13 (by decide) (by omega) (fun h_13 => ?_) (fun h_13 => ?_)
        · exact absurd rfl h_13
        · refine ky_iconst (pc := 16) C 4294967295 dX1_avoiding_16 (by decide) ?_
          exact w_iret C hr hlocks dX1_avoiding_17 ⟨Or.inr ⟨fun z => hv7 z.2, rfl⟩, w_sm_rf hI⟩
  · rw [if_neg hu7] at hv1
    subst hv1
    refine ky_if_eq (pc := 5) (tgt := 16) C dX1_avoiding_5 (by decide) (by omega) (fun h_5 => ?_) (fun h_5 => ?_)
    · refine ky_iconst (pc := 16) C 4294967295 dX1_avoiding_16 (by decide) ?_
      exact w_iret C hr hlocks dX1_avoiding_17 ⟨Or.inr ⟨fun z => hu7 z.1, rfl⟩, w_sm_rf hI⟩
    · exact absurd rfl h_5
/-- unavoidable() -/
theorem w_unavoidable (l : Launch) (D : va_G) (o : Nat) (ad : Nat → Nat) (dA : Nat → ClassId) (G : Nat → Nat) (F : Nat → Nat → Nat) (hI : w_I G F) : wMi l yX1_unavoidable cX1_unavoidable 1 .int rX1_unavoidable D o ad dA G F [] (fun r G' F' => ye_ev (ye_path (F 0) 4294967295 (G 1) (G 2)) r ∧ w_sm G F G' F') := by
  refine wMi.intro (L := [some (.ref o)]) (by decide) rfl (Nat.le_of_ble_eq_true rfl) rfl ?_
  intro p e s m args below meth c A C hr hlocks hA
  refine ky_aload_n (pc := 0) C dX1_unavoidable_0 rfl ?_
  refine ky_iconst (pc := 1) C 4294967295 dX1_unavoidable_1 (by decide) ?_
  refine ky_iconst (pc := 2) C 4294967295 dX1_unavoidable_2 (by decide) ?_
  refine w_cv (pc := 3) C hA (w_search l D o ad dA G F 4294967295 4294967295 (by omega) (by omega) hI) (cwV 2 C.2.2.2.2.1 (lw_V q240 q242 qs13 q25 q243) rfl rfl rfl (by decide +kernel) ⟨Nat.le_of_ble_eq_true rfl, Nat.le_of_ble_eq_true rfl⟩) rfl rfl (Nat.le_of_ble_eq_true rfl) dX1_unavoidable_3 (fun G' F' hv => ?_)
  obtain ⟨⟨-, hsw, hev⟩, hI', e0, e1, e2⟩ := hv
  refine ky_aload_n (pc := 6) C dX1_unavoidable_6 rfl ?_
  refine w_g11 (pc := 7) C dX1_unavoidable_7 (v := G' 11) rfl ?_
  exact w_iret C hr hlocks dX1_unavoidable_10 ⟨hev, hI', e0, e1, e2⟩
end Y33
end
section
/-! WALK: the two constructors (printed by mkinit.py) -/
set_option maxRecDepth 100000
/-- the world behind a constructor: its cells, and the classes of its arrays -/
def ky_N (D : va_G) (A : Nat → Prop) (u : va_W × List (ClassId × FieldType)) (t : State) : Prop := va_P D vwCl u.1 t.heap ∧ va_K D vwCl u.2 t ∧ va_D A u.1
/-- the contract of a constructor that makes mc cells of ms slots -/
def ky_Nv (l : Launch) (y : MethodName) (cc : ByteArray) (nL : Nat) (rm : Room) (D : va_G) (ws : va_W) (As : List Value) (mc ms : Nat) (post : va_W × List (ClassId × FieldType) → Prop) : Prop :=
  ∀ sz : Nat, Met l y (ws_ y cc nL none) rm (va_Pc As (fun U => U.heap.size = sz ∧ va_P D vwCl ws U.heap ∧ va_K D vwCl [] U ∧ va_D (fun _ => True) ws)) (va_Qv post (ky_N D (va_A ws sz)) (va_A ws sz)) mc ms (va_A ws sz)
section Y34
variable {p : Program} {l : Launch} {e : Env} {R : Room} {s : State} {m : MethodId} {args : Array Value} {below : List Frame} {meth : Method} {c : Code} {cells slots : Nat} {Q : State → Prop}
variable {cc : ByteArray} {own : String} {D : va_G} {tys : List (ClassId × FieldType)} {A : Nat → Prop} {nL pc : Nat} {ws : va_W} {L : List (Option Value)} {st : List Value}
theorem ky_Nv.intro {y : MethodName} {rm : Room} {As : List Value} {mc ms : Nat} {post : va_W × List (ClassId × FieldType) → Prop} (hy : plainName y.cls = true) (hc : ∀ v ∈ As, v.category = 1) (hn : As.length ≤ nL) (hL : As.map some ++ List.replicate (nL - As.length) none = L)
    (body : ∀ (p : Program) (e : Env) (s : State) (m : MethodId) (args : Array Value) (below : List Frame) (meth : Method) (c : Code) (A : Nat → Prop), ky_C p s m args c cc nL y.cls D [] → meth.sig.returnType = none → meth.locks = false → meth.name = y.name → (∀ q : Nat, s.heap.size ≤ q → A q) →
      ky_At p l e rm s m args below meth c 0 0 (MQ below (va_Qv post (ky_N D A) A) args s mc ms A) D A nL ws 0 L []) : ky_Nv l y cc nL rm D ws As mc ms post := by
  intro sz
  refine Met.ofW (cc := cc) (maxL := nL) (ret := none) hy rfl ?_
  intro p e s m args below meth c s₁ B hml hv
  obtain ⟨rfl, hsz, hP, hK, hD0⟩ := hv
  have hts := atoms_spec (ws := ws_ y cc nL none) B.pre
  have hts : ∀ w ∈ lw_all, w.before _ s = true := fun w h => hts w (List.mem_cons_of_mem _ h)
  have hown : s.vm.findClass y.cls = some m.cls := findClass_of_methodNamed B.named
  have hin : meth.name = y.name := (name_of_methodNamed B.named B.method).1
  subst hsz
  have hD := hD0.self (sz := s.heap.size)
  have hl := ky_entry As nL hc hn
  rw [lg_entry_eq]
  subst hL
  exact body p e s m _ below meth c _ ⟨B.exec, B.bytes, hml, hown, hts, hK⟩ B.returns B.notSynchronized hin (fun q h => Or.inr h) s.heap [] _ ⟨hP, hD, va_S.rf⟩ ⟨hl.1, hl.2.1, fun i v hv => hl.2.2 i v (by
    by_cases hi : i < (As.map some).length
    · rwa [List.getElem?_append_left hi] at hv
    · rw [List.getElem?_append_right (by omega)] at hv
      have := List.mem_of_getElem? hv
      simp at this)⟩
theorem ky_nret (C : ky_C p s m args c cc nL own D tys) {post : va_W × List (ClassId × FieldType) → Prop} (hr : meth.sig.returnType = none) (hlocks : meth.locks = false) (hdg : decode cc pc = .ok (.return_, 1)) (hp : post (ws, tys)) : ky_At p l e R s m args below meth c cells slots (MQ below (va_Qv post (ky_N D A) A) args s cells slots A) D A nL ws pc L [] :=
  fun H locs ls h hl => W.vret C.1 C.2.1 hr (fun t ht hW => ⟨⟨(ws, tys), rfl, hp, by rw [ht]; exact h.1, va_K.moved hW.alike C.2.2.2.2.2, h.2.1⟩, h.2.2.F ht⟩) h.2.2.2.2 hdg hlocks
theorem ky_objInit (C : ky_C p s m args c cc nL own D tys) {idx a : Nat} (hq : Cond.methodLink own idx Lib.objectInit ∈ lw_all) (hdg : decode cc pc = .ok (.invokespecial idx, 3)) (hfr : 1 ≤ R.frames) (hlo : 12 ≤ R.locals) (kk : ky_At p l e R s m args below meth c cells slots Q D A nL ws (pc + 3) L []) : ky_At p l e R s m args below meth c cells slots Q D A nL ws pc L [.ref a] :=
  fun H locs ls h hl => W.objInit C.1 C.2.1 C.2.2.2.1 (C.2.2.2.2.1 _ hq) (C.2.2.2.2.1 _ q32) (C.2.2.2.2.1 _ q33) rfl (hl.1.trans C.2.2.1.symm) rfl hdg hfr hlo (W.eq (g2 := F0 m (pc + 3) ls []) rfl (kk H locs ls h hl))
theorem ky_newa (C : ky_C p s m args c cc nL own D tys) (hA : ∀ q : Nat, s.heap.size ≤ q → A q) {atype : ArrayType} {ty : FieldType} {N : Nat} (hq : Cond.arrayClass (newarray.typeOf atype) ∈ lw_all) (hty : newarray.typeOf atype = ty) (hz : defaultValue ty = .int 0) (hN : N < 2147483648) (hby : N * componentBytes ty ≤ 536870912) (hcells : cells + 1 ≤ R.cells) (hslots : slots + N ≤ R.slots) (hdg : decode cc pc = .ok (.newarray atype, 2))
    (kk : ∀ (q : Nat) (cA : ClassId), ky_C p s m args c cc nL own D (tys ++ [(cA, ty)]) → ky_At p l e R s m args below meth c (cells + 1) (slots + N) Q D A nL (ws ++ [ky_ar q cA N (fun _ => 0)]) (pc + 2) L (.ref q :: st)) : ky_At p l e R s m args below meth c cells slots Q D A nL ws pc L (.int (nI N) :: st) :=
  fun H locs ls h hl => va_newa (a0 := (N, .inl (fun _ => nI 0))) C.1 C.2.1 (C.2.2.2.2.1 _ hq) hty C.2.2.2.2.2 h.1 h.2.1 h.2.2 hA (fun cA => by rw [vp_cell_i, hz, nI_0]) (fun z => by have := (kn_lt0 (by omega)).mp z; omega) (nI_clamp (by omega)) hby hcells hslots hdg (fun q cA H1 hK hP hD hS => kk q cA ⟨C.1, C.2.1, C.2.2.1, C.2.2.2.1, C.2.2.2.2.1, hK⟩ H1 locs ls ⟨hP, hD, hS⟩ hl)
theorem ky_put0F (C : ky_C p s m args c cc nL RX0 D tys) (hin2 : meth.name = "<init>") {o q : Nat} {fs : List Value} {rs : va_W} (k : Nat) (hk : k < 17) {index : Nat} (hq : Cond.fieldLink RX0 index (TX0 k).1 (TX0 k).2.1 (TX0 k).2.2.1 ∈ lw_all) (hfin : (TX0 k).2.2.2 = true) (hdecl : (TX0 k).1 = RX0) {ty : FieldType} (hd : parseFieldDescriptor (TX0 k).2.2.1 = some ty) (hn : narrow ty (.ref q) = .ref q) (hfit : fits ty (.ref q) = true) (hl0 : k < fs.length) (hdg : decode cc pc = .ok (.putfield index, 3))
    (kk : ky_At p l e R s m args below meth c cells slots Q D A nL ((o, .inr (0, fs.set k (.ref q))) :: rs) (pc + 3) L st) : ky_At p l e R s m args below meth c cells slots Q D A nL ((o, .inr (0, fs)) :: rs) pc L (.ref q :: .ref o :: st) :=
  fun H locs ls h hl => va_putF (D := D) (ci := 0) (v := .ref q) (ty := ty) (C := RX0) (T := TX0) (N := 17) C.1 C.2.1 C.2.2.2.2.1 in_X0 tyX0 tyX0_ok nmX0 C.2.2.2.1 C.2.2.2.2.2 h.1 h.2.1 h.2.2 0 rfl rfl k hk (C.2.2.2.2.1 _ hq) (fun _ h9 => h9) hfin hin2 hdecl hd hn hfit hl0 hdg (fun H1 locs1 hP hD hS => kk H1 locs1 ls ⟨hP, hD, hS⟩ hl)
theorem ky_put0 (C : ky_C p s m args c cc nL RX0 D tys) {o : Nat} {v : Value} {fs : List Value} {rs : va_W} (k : Nat) (hk : k < 17) {index : Nat} (hq : Cond.fieldLink RX0 index (TX0 k).1 (TX0 k).2.1 (TX0 k).2.2.1 ∈ lw_all) (hfin : (TX0 k).2.2.2 = false) {ty : FieldType} (hd : parseFieldDescriptor (TX0 k).2.2.1 = some ty) (hn : narrow ty v = v) (hfit : fits ty v = true) (hl0 : k < fs.length) (hdg : decode cc pc = .ok (.putfield index, 3))
    (kk : ky_At p l e R s m args below meth c cells slots Q D A nL ((o, .inr (0, fs.set k v)) :: rs) (pc + 3) L st) : ky_At p l e R s m args below meth c cells slots Q D A nL ((o, .inr (0, fs)) :: rs) pc L (v :: .ref o :: st) :=
  fun H locs ls h hl => va_put (D := D) (ci := 0) (v := v) (ty := ty) (C := RX0) (T := TX0) (N := 17) C.1 C.2.1 C.2.2.2.2.1 in_X0 tyX0 tyX0_ok nmX0 C.2.2.2.1 C.2.2.2.2.2 h.1 h.2.1 h.2.2 0 rfl rfl k hk (C.2.2.2.2.1 _ hq) (fun _ h9 => h9) hfin hd hn hfit hl0 hdg (fun H1 locs1 hP hD hS => kk H1 locs1 ls ⟨hP, hD, hS⟩ hl)
theorem ky_put1 (C : ky_C p s m args c cc nL RX1 D tys) {o : Nat} {v : Value} {fs : List Value} {rs : va_W} (k : Nat) (hk : k < 12) {index : Nat} (hq : Cond.fieldLink RX1 index (TX1 k).1 (TX1 k).2.1 (TX1 k).2.2.1 ∈ lw_all) (hfin : (TX1 k).2.2.2 = false) {ty : FieldType} (hd : parseFieldDescriptor (TX1 k).2.2.1 = some ty) (hn : narrow ty v = v) (hfit : fits ty v = true) (hl0 : k < fs.length) (hdg : decode cc pc = .ok (.putfield index, 3))
    (kk : ky_At p l e R s m args below meth c cells slots Q D A nL ((o, .inr (1, fs.set k v)) :: rs) (pc + 3) L st) : ky_At p l e R s m args below meth c cells slots Q D A nL ((o, .inr (1, fs)) :: rs) pc L (v :: .ref o :: st) :=
  fun H locs ls h hl => va_put (D := D) (ci := 1) (v := v) (ty := ty) (C := RX1) (T := TX1) (N := 12) C.1 C.2.1 C.2.2.2.2.1 in_X1 tyX1 tyX1_ok nmX1 C.2.2.2.1 C.2.2.2.2.2 h.1 h.2.1 h.2.2 0 rfl rfl k hk (C.2.2.2.2.1 _ hq) (fun _ h9 => h9) hfin hd hn hfit hl0 hdg (fun H1 locs1 hP hD hS => kk H1 locs1 ls ⟨hP, hD, hS⟩ hl)
abbrev rX0_ini : Room := { frames := 1, cells := 9, slots := 315, locals := 12 }
/-- the fields as new makes them -/
def xF0 : List Value := [.null, .int (nI 0), .int (nI 0), .int (nI 0), .int (nI 0), .null, .null, .null, .int (nI 0), .null, .null, .null, .null, .int (nI 0), .null, .int (nI 0), .int (nI 0)]
def xG0 : Nat → Nat := va_up (va_up (fun _ => 0) 2 6) 13 4294967295
/-- YenKPaths() -/
theorem x_init (l : Launch) (D : va_G) (o : Nat) : ky_Nv l yX0_init cX0_init 1 rX0_ini D [(o, .inr (0, xF0))] [.ref o] 9 315 (fun u => ∃ ad dA, u = (xW o ad dA xG0 (fun _ _ => 0), xT dA)) := by
  refine ky_Nv.intro (L := [some (.ref o)]) (by decide) (fun v hv => ?_) (Nat.le_of_ble_eq_true rfl) rfl ?_
  · have e : v = .ref o := by simpa using hv
    rw [e]; rfl
  intro p e s m args below meth c A C hr hlocks hin hA
  refine ky_aload_n (pc := 0) C dX0_init_0 rfl ?_
  refine ky_objInit (pc := 1) C q31 dX0_init_1 (by decide) (by decide) ?_
  refine ky_aload_n (pc := 4) C dX0_init_4 rfl ?_
  refine ky_bipush (pc := 5) C 49 dX0_init_5 (by decide) ?_
  refine ky_newa (pc := 7) (atype := .byte) (ty := .byte) C hA q86 rfl rfl (by decide) (by decide) (by decide) (by decide) dX0_init_7 (fun a0 c0 C => ?_)
  refine ky_eqW (ws' := [(o, .inr (0, [.null, .int (nI 0), .int (nI 0), .int (nI 0), .int (nI 0), .null, .null, .null, .int (nI 0), .null, .null, .null, .null, .int (nI 0), .null, .int (nI 0), .int (nI 0)])), ky_ar a0 c0 49 (fun _ => 0)]) rfl ?_
  refine ky_put0F (pc := 9) (ty := .array .byte) C hin 0 (by decide) q34 rfl rfl (by decide +kernel) rfl rfl (Nat.le_of_ble_eq_true rfl) dX0_init_9 ?_
  refine ky_eqW (ws' := [(o, .inr (0, [.ref a0, .int (nI 0), .int (nI 0), .int (nI 0), .int (nI 0), .null, .null, .null, .int (nI 0), .null, .null, .null, .null, .int (nI 0), .null, .int (nI 0), .int (nI 0)])), ky_ar a0 c0 49 (fun _ => 0)]) rfl ?_
  refine ky_aload_n (pc := 12) C dX0_init_12 rfl ?_
  refine ky_bipush (pc := 13) C 12 dX0_init_13 (by decide) ?_
  refine ky_newa (pc := 15) (atype := .int) (ty := .int) C hA q87 rfl rfl (by decide) (by decide) (by decide) (by decide) dX0_init_15 (fun a5 c5 C => ?_)
  refine ky_eqW (ws' := [(o, .inr (0, [.ref a0, .int (nI 0), .int (nI 0), .int (nI 0), .int (nI 0), .null, .null, .null, .int (nI 0), .null, .null, .null, .null, .int (nI 0), .null, .int (nI 0), .int (nI 0)])), ky_ar a0 c0 49 (fun _ => 0), ky_ar a5 c5 12 (fun _ => 0)]) rfl ?_
  refine ky_put0F (pc := 17) (ty := .array .int) C hin 5 (by decide) q39 rfl rfl (by decide +kernel) rfl rfl (Nat.le_of_ble_eq_true rfl) dX0_init_17 ?_
  refine ky_eqW (ws' := [(o, .inr (0, [.ref a0, .int (nI 0), .int (nI 0), .int (nI 0), .int (nI 0), .ref a5, .null, .null, .int (nI 0), .null, .null, .null, .null, .int (nI 0), .null, .int (nI 0), .int (nI 0)])), ky_ar a0 c0 49 (fun _ => 0), ky_ar a5 c5 12 (fun _ => 0)]) rfl ?_
  refine ky_aload_n (pc := 20) C dX0_init_20 rfl ?_
  refine ky_bipush (pc := 21) C 12 dX0_init_21 (by decide) ?_
  refine ky_newa (pc := 23) (atype := .int) (ty := .int) C hA q87 rfl rfl (by decide) (by decide) (by decide) (by decide) dX0_init_23 (fun a6 c6 C => ?_)
  refine ky_eqW (ws' := [(o, .inr (0, [.ref a0, .int (nI 0), .int (nI 0), .int (nI 0), .int (nI 0), .ref a5, .null, .null, .int (nI 0), .null, .null, .null, .null, .int (nI 0), .null, .int (nI 0), .int (nI 0)])), ky_ar a0 c0 49 (fun _ => 0), ky_ar a5 c5 12 (fun _ => 0), ky_ar a6 c6 12 (fun _ => 0)]) rfl ?_
  refine ky_put0F (pc := 25) (ty := .array .int) C hin 6 (by decide) q40 rfl rfl (by decide +kernel) rfl rfl (Nat.le_of_ble_eq_true rfl) dX0_init_25 ?_
  refine ky_eqW (ws' := [(o, .inr (0, [.ref a0, .int (nI 0), .int (nI 0), .int (nI 0), .int (nI 0), .ref a5, .ref a6, .null, .int (nI 0), .null, .null, .null, .null, .int (nI 0), .null, .int (nI 0), .int (nI 0)])), ky_ar a0 c0 49 (fun _ => 0), ky_ar a5 c5 12 (fun _ => 0), ky_ar a6 c6 12 (fun _ => 0)]) rfl ?_
  refine ky_aload_n (pc := 28) C dX0_init_28 rfl ?_
  refine ky_bipush (pc := 29) C 12 dX0_init_29 (by decide) ?_
  refine ky_newa (pc := 31) (atype := .int) (ty := .int) C hA q87 rfl rfl (by decide) (by decide) (by decide) (by decide) dX0_init_31 (fun a7 c7 C => ?_)
  refine ky_eqW (ws' := [(o, .inr (0, [.ref a0, .int (nI 0), .int (nI 0), .int (nI 0), .int (nI 0), .ref a5, .ref a6, .null, .int (nI 0), .null, .null, .null, .null, .int (nI 0), .null, .int (nI 0), .int (nI 0)])), ky_ar a0 c0 49 (fun _ => 0), ky_ar a5 c5 12 (fun _ => 0), ky_ar a6 c6 12 (fun _ => 0), ky_ar a7 c7 12 (fun _ => 0)]) rfl ?_
  refine ky_put0F (pc := 33) (ty := .array .int) C hin 7 (by decide) q41 rfl rfl (by decide +kernel) rfl rfl (Nat.le_of_ble_eq_true rfl) dX0_init_33 ?_
  refine ky_eqW (ws' := [(o, .inr (0, [.ref a0, .int (nI 0), .int (nI 0), .int (nI 0), .int (nI 0), .ref a5, .ref a6, .ref a7, .int (nI 0), .null, .null, .null, .null, .int (nI 0), .null, .int (nI 0), .int (nI 0)])), ky_ar a0 c0 49 (fun _ => 0), ky_ar a5 c5 12 (fun _ => 0), ky_ar a6 c6 12 (fun _ => 0), ky_ar a7 c7 12 (fun _ => 0)]) rfl ?_
  refine ky_aload_n (pc := 36) C dX0_init_36 rfl ?_
  refine ky_bipush (pc := 37) C 72 dX0_init_37 (by decide) ?_
  refine ky_newa (pc := 39) (atype := .int) (ty := .int) C hA q87 rfl rfl (by decide) (by decide) (by decide) (by decide) dX0_init_39 (fun a9 c9 C => ?_)
  refine ky_eqW (ws' := [(o, .inr (0, [.ref a0, .int (nI 0), .int (nI 0), .int (nI 0), .int (nI 0), .ref a5, .ref a6, .ref a7, .int (nI 0), .null, .null, .null, .null, .int (nI 0), .null, .int (nI 0), .int (nI 0)])), ky_ar a0 c0 49 (fun _ => 0), ky_ar a5 c5 12 (fun _ => 0), ky_ar a6 c6 12 (fun _ => 0), ky_ar a7 c7 12 (fun _ => 0), ky_ar a9 c9 72 (fun _ => 0)]) rfl ?_
  refine ky_put0F (pc := 41) (ty := .array .int) C hin 9 (by decide) q43 rfl rfl (by decide +kernel) rfl rfl (Nat.le_of_ble_eq_true rfl) dX0_init_41 ?_
  refine ky_eqW (ws' := [(o, .inr (0, [.ref a0, .int (nI 0), .int (nI 0), .int (nI 0), .int (nI 0), .ref a5, .ref a6, .ref a7, .int (nI 0), .ref a9, .null, .null, .null, .int (nI 0), .null, .int (nI 0), .int (nI 0)])), ky_ar a0 c0 49 (fun _ => 0), ky_ar a5 c5 12 (fun _ => 0), ky_ar a6 c6 12 (fun _ => 0), ky_ar a7 c7 12 (fun _ => 0), ky_ar a9 c9 72 (fun _ => 0)]) rfl ?_
  refine ky_aload_n (pc := 44) C dX0_init_44 rfl ?_
  refine ky_bipush (pc := 45) C 72 dX0_init_45 (by decide) ?_
  refine ky_newa (pc := 47) (atype := .int) (ty := .int) C hA q87 rfl rfl (by decide) (by decide) (by decide) (by decide) dX0_init_47 (fun a10 c10 C => ?_)
  refine ky_eqW (ws' := [(o, .inr (0, [.ref a0, .int (nI 0), .int (nI 0), .int (nI 0), .int (nI 0), .ref a5, .ref a6, .ref a7, .int (nI 0), .ref a9, .null, .null, .null, .int (nI 0), .null, .int (nI 0), .int (nI 0)])), ky_ar a0 c0 49 (fun _ => 0), ky_ar a5 c5 12 (fun _ => 0), ky_ar a6 c6 12 (fun _ => 0), ky_ar a7 c7 12 (fun _ => 0), ky_ar a9 c9 72 (fun _ => 0), ky_ar a10 c10 72 (fun _ => 0)]) rfl ?_
  refine ky_put0F (pc := 49) (ty := .array .int) C hin 10 (by decide) q44 rfl rfl (by decide +kernel) rfl rfl (Nat.le_of_ble_eq_true rfl) dX0_init_49 ?_
  refine ky_eqW (ws' := [(o, .inr (0, [.ref a0, .int (nI 0), .int (nI 0), .int (nI 0), .int (nI 0), .ref a5, .ref a6, .ref a7, .int (nI 0), .ref a9, .ref a10, .null, .null, .int (nI 0), .null, .int (nI 0), .int (nI 0)])), ky_ar a0 c0 49 (fun _ => 0), ky_ar a5 c5 12 (fun _ => 0), ky_ar a6 c6 12 (fun _ => 0), ky_ar a7 c7 12 (fun _ => 0), ky_ar a9 c9 72 (fun _ => 0), ky_ar a10 c10 72 (fun _ => 0)]) rfl ?_
  refine ky_aload_n (pc := 52) C dX0_init_52 rfl ?_
  refine ky_bipush (pc := 53) C 72 dX0_init_53 (by decide) ?_
  refine ky_newa (pc := 55) (atype := .int) (ty := .int) C hA q87 rfl rfl (by decide) (by decide) (by decide) (by decide) dX0_init_55 (fun a11 c11 C => ?_)
  refine ky_eqW (ws' := [(o, .inr (0, [.ref a0, .int (nI 0), .int (nI 0), .int (nI 0), .int (nI 0), .ref a5, .ref a6, .ref a7, .int (nI 0), .ref a9, .ref a10, .null, .null, .int (nI 0), .null, .int (nI 0), .int (nI 0)])), ky_ar a0 c0 49 (fun _ => 0), ky_ar a5 c5 12 (fun _ => 0), ky_ar a6 c6 12 (fun _ => 0), ky_ar a7 c7 12 (fun _ => 0), ky_ar a9 c9 72 (fun _ => 0), ky_ar a10 c10 72 (fun _ => 0), ky_ar a11 c11 72 (fun _ => 0)]) rfl ?_
  refine ky_put0F (pc := 57) (ty := .array .int) C hin 11 (by decide) q45 rfl rfl (by decide +kernel) rfl rfl (Nat.le_of_ble_eq_true rfl) dX0_init_57 ?_
  refine ky_eqW (ws' := [(o, .inr (0, [.ref a0, .int (nI 0), .int (nI 0), .int (nI 0), .int (nI 0), .ref a5, .ref a6, .ref a7, .int (nI 0), .ref a9, .ref a10, .ref a11, .null, .int (nI 0), .null, .int (nI 0), .int (nI 0)])), ky_ar a0 c0 49 (fun _ => 0), ky_ar a5 c5 12 (fun _ => 0), ky_ar a6 c6 12 (fun _ => 0), ky_ar a7 c7 12 (fun _ => 0), ky_ar a9 c9 72 (fun _ => 0), ky_ar a10 c10 72 (fun _ => 0), ky_ar a11 c11 72 (fun _ => 0)]) rfl ?_
  refine ky_aload_n (pc := 60) C dX0_init_60 rfl ?_
  refine ky_bipush (pc := 61) C 7 dX0_init_61 (by decide) ?_
  refine ky_newa (pc := 63) (atype := .int) (ty := .int) C hA q87 rfl rfl (by decide) (by decide) (by decide) (by decide) dX0_init_63 (fun a12 c12 C => ?_)
  refine ky_eqW (ws' := [(o, .inr (0, [.ref a0, .int (nI 0), .int (nI 0), .int (nI 0), .int (nI 0), .ref a5, .ref a6, .ref a7, .int (nI 0), .ref a9, .ref a10, .ref a11, .null, .int (nI 0), .null, .int (nI 0), .int (nI 0)])), ky_ar a0 c0 49 (fun _ => 0), ky_ar a5 c5 12 (fun _ => 0), ky_ar a6 c6 12 (fun _ => 0), ky_ar a7 c7 12 (fun _ => 0), ky_ar a9 c9 72 (fun _ => 0), ky_ar a10 c10 72 (fun _ => 0), ky_ar a11 c11 72 (fun _ => 0), ky_ar a12 c12 7 (fun _ => 0)]) rfl ?_
  refine ky_put0F (pc := 65) (ty := .array .int) C hin 12 (by decide) q46 rfl rfl (by decide +kernel) rfl rfl (Nat.le_of_ble_eq_true rfl) dX0_init_65 ?_
  refine ky_eqW (ws' := [(o, .inr (0, [.ref a0, .int (nI 0), .int (nI 0), .int (nI 0), .int (nI 0), .ref a5, .ref a6, .ref a7, .int (nI 0), .ref a9, .ref a10, .ref a11, .ref a12, .int (nI 0), .null, .int (nI 0), .int (nI 0)])), ky_ar a0 c0 49 (fun _ => 0), ky_ar a5 c5 12 (fun _ => 0), ky_ar a6 c6 12 (fun _ => 0), ky_ar a7 c7 12 (fun _ => 0), ky_ar a9 c9 72 (fun _ => 0), ky_ar a10 c10 72 (fun _ => 0), ky_ar a11 c11 72 (fun _ => 0), ky_ar a12 c12 7 (fun _ => 0)]) rfl ?_
  refine ky_aload_n (pc := 68) C dX0_init_68 rfl ?_
  refine ky_bipush (pc := 69) C 7 dX0_init_69 (by decide) ?_
  refine ky_newa (pc := 71) (atype := .byte) (ty := .byte) C hA q86 rfl rfl (by decide) (by decide) (by decide) (by decide) dX0_init_71 (fun a14 c14 C => ?_)
  refine ky_eqW (ws' := [(o, .inr (0, [.ref a0, .int (nI 0), .int (nI 0), .int (nI 0), .int (nI 0), .ref a5, .ref a6, .ref a7, .int (nI 0), .ref a9, .ref a10, .ref a11, .ref a12, .int (nI 0), .null, .int (nI 0), .int (nI 0)])), ky_ar a0 c0 49 (fun _ => 0), ky_ar a5 c5 12 (fun _ => 0), ky_ar a6 c6 12 (fun _ => 0), ky_ar a7 c7 12 (fun _ => 0), ky_ar a9 c9 72 (fun _ => 0), ky_ar a10 c10 72 (fun _ => 0), ky_ar a11 c11 72 (fun _ => 0), ky_ar a12 c12 7 (fun _ => 0), ky_ar a14 c14 7 (fun _ => 0)]) rfl ?_
  refine ky_put0F (pc := 73) (ty := .array .byte) C hin 14 (by decide) q48 rfl rfl (by decide +kernel) rfl rfl (Nat.le_of_ble_eq_true rfl) dX0_init_73 ?_
  refine ky_eqW (ws' := [(o, .inr (0, [.ref a0, .int (nI 0), .int (nI 0), .int (nI 0), .int (nI 0), .ref a5, .ref a6, .ref a7, .int (nI 0), .ref a9, .ref a10, .ref a11, .ref a12, .int (nI 0), .ref a14, .int (nI 0), .int (nI 0)])), ky_ar a0 c0 49 (fun _ => 0), ky_ar a5 c5 12 (fun _ => 0), ky_ar a6 c6 12 (fun _ => 0), ky_ar a7 c7 12 (fun _ => 0), ky_ar a9 c9 72 (fun _ => 0), ky_ar a10 c10 72 (fun _ => 0), ky_ar a11 c11 72 (fun _ => 0), ky_ar a12 c12 7 (fun _ => 0), ky_ar a14 c14 7 (fun _ => 0)]) rfl ?_
  refine ky_aload_n (pc := 76) C dX0_init_76 rfl ?_
  refine ky_bipush (pc := 77) C 6 dX0_init_77 (by decide) ?_
  refine ky_put0 (pc := 79) (ty := .int) C 2 (by decide) q36 rfl (by decide +kernel) rfl rfl (Nat.le_of_ble_eq_true rfl) dX0_init_79 ?_
  refine ky_eqW (ws' := [(o, .inr (0, [.ref a0, .int (nI 0), .int (nI 6), .int (nI 0), .int (nI 0), .ref a5, .ref a6, .ref a7, .int (nI 0), .ref a9, .ref a10, .ref a11, .ref a12, .int (nI 0), .ref a14, .int (nI 0), .int (nI 0)])), ky_ar a0 c0 49 (fun _ => 0), ky_ar a5 c5 12 (fun _ => 0), ky_ar a6 c6 12 (fun _ => 0), ky_ar a7 c7 12 (fun _ => 0), ky_ar a9 c9 72 (fun _ => 0), ky_ar a10 c10 72 (fun _ => 0), ky_ar a11 c11 72 (fun _ => 0), ky_ar a12 c12 7 (fun _ => 0), ky_ar a14 c14 7 (fun _ => 0)]) rfl ?_
  refine ky_aload_n (pc := 82) C dX0_init_82 rfl ?_
  refine ky_iconst (pc := 83) C 4294967295 dX0_init_83 (by decide) ?_
  refine ky_put0 (pc := 84) (ty := .int) C 13 (by decide) q47 rfl (by decide +kernel) rfl rfl (Nat.le_of_ble_eq_true rfl) dX0_init_84 ?_
  refine ky_eqW (ws' := [(o, .inr (0, [.ref a0, .int (nI 0), .int (nI 6), .int (nI 0), .int (nI 0), .ref a5, .ref a6, .ref a7, .int (nI 0), .ref a9, .ref a10, .ref a11, .ref a12, .int (nI 4294967295), .ref a14, .int (nI 0), .int (nI 0)])), ky_ar a0 c0 49 (fun _ => 0), ky_ar a5 c5 12 (fun _ => 0), ky_ar a6 c6 12 (fun _ => 0), ky_ar a7 c7 12 (fun _ => 0), ky_ar a9 c9 72 (fun _ => 0), ky_ar a10 c10 72 (fun _ => 0), ky_ar a11 c11 72 (fun _ => 0), ky_ar a12 c12 7 (fun _ => 0), ky_ar a14 c14 7 (fun _ => 0)]) rfl ?_
  exact ky_nret (pc := 87) C hr hlocks dX0_init_87 ⟨va_up (va_up (va_up (va_up (va_up (va_up (va_up (va_up (fun _ => a14) 0 a0) 5 a5) 6 a6) 7 a7) 9 a9) 10 a10) 11 a11) 12 a12, va_up (va_up (va_up (va_up (va_up (va_up (va_up (va_up (fun _ => c14) 0 c0) 5 c5) 6 c6) 7 c7) 9 c9) 10 c10) 11 c11) 12 c12, by first | rfl | (unfold xG0; rfl)⟩
abbrev rX1_ini : Room := { frames := 1, cells := 6, slots := 181, locals := 12 }
/-- the fields as new makes them -/
def wF0 : List Value := [.null, .int (nI 0), .int (nI 0), .null, .null, .int (nI 0), .int (nI 0), .null, .null, .null, .int (nI 0), .int (nI 0)]
def wG0 : Nat → Nat := va_up (fun _ => 0) 2 6
/-- YenKPathsModel() -/
theorem w_init (l : Launch) (D : va_G) (o : Nat) : ky_Nv l yX1_init cX1_init 1 rX1_ini D [(o, .inr (1, wF0))] [.ref o] 6 181 (fun u => ∃ ad dA, u = (wW o ad dA wG0 (fun _ _ => 0), wT dA)) := by
  refine ky_Nv.intro (L := [some (.ref o)]) (by decide) (fun v hv => ?_) (Nat.le_of_ble_eq_true rfl) rfl ?_
  · have e : v = .ref o := by simpa using hv
    rw [e]; rfl
  intro p e s m args below meth c A C hr hlocks hin hA
  refine ky_aload_n (pc := 0) C dX1_init_0 rfl ?_
  refine ky_objInit (pc := 1) C q182 dX1_init_1 (by decide) (by decide) ?_
  refine ky_aload_n (pc := 4) C dX1_init_4 rfl ?_
  refine ky_bipush (pc := 5) C 49 dX1_init_5 (by decide) ?_
  refine ky_newa (pc := 7) (atype := .int) (ty := .int) C hA q87 rfl rfl (by decide) (by decide) (by decide) (by decide) dX1_init_7 (fun a0 c0 C => ?_)
  refine ky_eqW (ws' := [(o, .inr (1, [.null, .int (nI 0), .int (nI 0), .null, .null, .int (nI 0), .int (nI 0), .null, .null, .null, .int (nI 0), .int (nI 0)])), ky_ar a0 c0 49 (fun _ => 0)]) rfl ?_
  refine ky_put1 (pc := 9) (ty := .array .int) C 0 (by decide) q183 rfl (by decide +kernel) rfl rfl (Nat.le_of_ble_eq_true rfl) dX1_init_9 ?_
  refine ky_eqW (ws' := [(o, .inr (1, [.ref a0, .int (nI 0), .int (nI 0), .null, .null, .int (nI 0), .int (nI 0), .null, .null, .null, .int (nI 0), .int (nI 0)])), ky_ar a0 c0 49 (fun _ => 0)]) rfl ?_
  refine ky_aload_n (pc := 12) C dX1_init_12 rfl ?_
  refine ky_iconst (pc := 13) C 0 dX1_init_13 (by decide) ?_
  refine ky_put1 (pc := 14) (ty := .int) C 1 (by decide) q184 rfl (by decide +kernel) rfl rfl (Nat.le_of_ble_eq_true rfl) dX1_init_14 ?_
  refine ky_eqW (ws' := [(o, .inr (1, [.ref a0, .int (nI 0), .int (nI 0), .null, .null, .int (nI 0), .int (nI 0), .null, .null, .null, .int (nI 0), .int (nI 0)])), ky_ar a0 c0 49 (fun _ => 0)]) rfl ?_
  refine ky_aload_n (pc := 17) C dX1_init_17 rfl ?_
  refine ky_bipush (pc := 18) C 6 dX1_init_18 (by decide) ?_
  refine ky_put1 (pc := 20) (ty := .int) C 2 (by decide) q185 rfl (by decide +kernel) rfl rfl (Nat.le_of_ble_eq_true rfl) dX1_init_20 ?_
  refine ky_eqW (ws' := [(o, .inr (1, [.ref a0, .int (nI 0), .int (nI 6), .null, .null, .int (nI 0), .int (nI 0), .null, .null, .null, .int (nI 0), .int (nI 0)])), ky_ar a0 c0 49 (fun _ => 0)]) rfl ?_
  refine ky_aload_n (pc := 23) C dX1_init_23 rfl ?_
  refine ky_bipush (pc := 24) C 7 dX1_init_24 (by decide) ?_
  refine ky_newa (pc := 26) (atype := .int) (ty := .int) C hA q87 rfl rfl (by decide) (by decide) (by decide) (by decide) dX1_init_26 (fun a3 c3 C => ?_)
  refine ky_eqW (ws' := [(o, .inr (1, [.ref a0, .int (nI 0), .int (nI 6), .null, .null, .int (nI 0), .int (nI 0), .null, .null, .null, .int (nI 0), .int (nI 0)])), ky_ar a0 c0 49 (fun _ => 0), ky_ar a3 c3 7 (fun _ => 0)]) rfl ?_
  refine ky_put1 (pc := 28) (ty := .array .int) C 3 (by decide) q186 rfl (by decide +kernel) rfl rfl (Nat.le_of_ble_eq_true rfl) dX1_init_28 ?_
  refine ky_eqW (ws' := [(o, .inr (1, [.ref a0, .int (nI 0), .int (nI 6), .ref a3, .null, .int (nI 0), .int (nI 0), .null, .null, .null, .int (nI 0), .int (nI 0)])), ky_ar a0 c0 49 (fun _ => 0), ky_ar a3 c3 7 (fun _ => 0)]) rfl ?_
  refine ky_aload_n (pc := 31) C dX1_init_31 rfl ?_
  refine ky_bipush (pc := 32) C 8 dX1_init_32 (by decide) ?_
  refine ky_newa (pc := 34) (atype := .int) (ty := .int) C hA q87 rfl rfl (by decide) (by decide) (by decide) (by decide) dX1_init_34 (fun a4 c4 C => ?_)
  refine ky_eqW (ws' := [(o, .inr (1, [.ref a0, .int (nI 0), .int (nI 6), .ref a3, .null, .int (nI 0), .int (nI 0), .null, .null, .null, .int (nI 0), .int (nI 0)])), ky_ar a0 c0 49 (fun _ => 0), ky_ar a3 c3 7 (fun _ => 0), ky_ar a4 c4 8 (fun _ => 0)]) rfl ?_
  refine ky_put1 (pc := 36) (ty := .array .int) C 4 (by decide) q187 rfl (by decide +kernel) rfl rfl (Nat.le_of_ble_eq_true rfl) dX1_init_36 ?_
  refine ky_eqW (ws' := [(o, .inr (1, [.ref a0, .int (nI 0), .int (nI 6), .ref a3, .ref a4, .int (nI 0), .int (nI 0), .null, .null, .null, .int (nI 0), .int (nI 0)])), ky_ar a0 c0 49 (fun _ => 0), ky_ar a3 c3 7 (fun _ => 0), ky_ar a4 c4 8 (fun _ => 0)]) rfl ?_
  refine ky_aload_n (pc := 39) C dX1_init_39 rfl ?_
  refine ky_bipush (pc := 40) C 13 dX1_init_40 (by decide) ?_
  refine ky_newa (pc := 42) (atype := .int) (ty := .int) C hA q87 rfl rfl (by decide) (by decide) (by decide) (by decide) dX1_init_42 (fun a7 c7 C => ?_)
  refine ky_eqW (ws' := [(o, .inr (1, [.ref a0, .int (nI 0), .int (nI 6), .ref a3, .ref a4, .int (nI 0), .int (nI 0), .null, .null, .null, .int (nI 0), .int (nI 0)])), ky_ar a0 c0 49 (fun _ => 0), ky_ar a3 c3 7 (fun _ => 0), ky_ar a4 c4 8 (fun _ => 0), ky_ar a7 c7 13 (fun _ => 0)]) rfl ?_
  refine ky_put1 (pc := 44) (ty := .array .int) C 7 (by decide) q190 rfl (by decide +kernel) rfl rfl (Nat.le_of_ble_eq_true rfl) dX1_init_44 ?_
  refine ky_eqW (ws' := [(o, .inr (1, [.ref a0, .int (nI 0), .int (nI 6), .ref a3, .ref a4, .int (nI 0), .int (nI 0), .ref a7, .null, .null, .int (nI 0), .int (nI 0)])), ky_ar a0 c0 49 (fun _ => 0), ky_ar a3 c3 7 (fun _ => 0), ky_ar a4 c4 8 (fun _ => 0), ky_ar a7 c7 13 (fun _ => 0)]) rfl ?_
  refine ky_aload_n (pc := 47) C dX1_init_47 rfl ?_
  refine ky_bipush (pc := 48) C 13 dX1_init_48 (by decide) ?_
  refine ky_newa (pc := 50) (atype := .int) (ty := .int) C hA q87 rfl rfl (by decide) (by decide) (by decide) (by decide) dX1_init_50 (fun a8 c8 C => ?_)
  refine ky_eqW (ws' := [(o, .inr (1, [.ref a0, .int (nI 0), .int (nI 6), .ref a3, .ref a4, .int (nI 0), .int (nI 0), .ref a7, .null, .null, .int (nI 0), .int (nI 0)])), ky_ar a0 c0 49 (fun _ => 0), ky_ar a3 c3 7 (fun _ => 0), ky_ar a4 c4 8 (fun _ => 0), ky_ar a7 c7 13 (fun _ => 0), ky_ar a8 c8 13 (fun _ => 0)]) rfl ?_
  refine ky_put1 (pc := 52) (ty := .array .int) C 8 (by decide) q191 rfl (by decide +kernel) rfl rfl (Nat.le_of_ble_eq_true rfl) dX1_init_52 ?_
  refine ky_eqW (ws' := [(o, .inr (1, [.ref a0, .int (nI 0), .int (nI 6), .ref a3, .ref a4, .int (nI 0), .int (nI 0), .ref a7, .ref a8, .null, .int (nI 0), .int (nI 0)])), ky_ar a0 c0 49 (fun _ => 0), ky_ar a3 c3 7 (fun _ => 0), ky_ar a4 c4 8 (fun _ => 0), ky_ar a7 c7 13 (fun _ => 0), ky_ar a8 c8 13 (fun _ => 0)]) rfl ?_
  refine ky_aload_n (pc := 55) C dX1_init_55 rfl ?_
  refine ky_bipush (pc := 56) C 91 dX1_init_56 (by decide) ?_
  refine ky_newa (pc := 58) (atype := .int) (ty := .int) C hA q87 rfl rfl (by decide) (by decide) (by decide) (by decide) dX1_init_58 (fun a9 c9 C => ?_)
  refine ky_eqW (ws' := [(o, .inr (1, [.ref a0, .int (nI 0), .int (nI 6), .ref a3, .ref a4, .int (nI 0), .int (nI 0), .ref a7, .ref a8, .null, .int (nI 0), .int (nI 0)])), ky_ar a0 c0 49 (fun _ => 0), ky_ar a3 c3 7 (fun _ => 0), ky_ar a4 c4 8 (fun _ => 0), ky_ar a7 c7 13 (fun _ => 0), ky_ar a8 c8 13 (fun _ => 0), ky_ar a9 c9 91 (fun _ => 0)]) rfl ?_
  refine ky_put1 (pc := 60) (ty := .array .int) C 9 (by decide) q192 rfl (by decide +kernel) rfl rfl (Nat.le_of_ble_eq_true rfl) dX1_init_60 ?_
  refine ky_eqW (ws' := [(o, .inr (1, [.ref a0, .int (nI 0), .int (nI 6), .ref a3, .ref a4, .int (nI 0), .int (nI 0), .ref a7, .ref a8, .ref a9, .int (nI 0), .int (nI 0)])), ky_ar a0 c0 49 (fun _ => 0), ky_ar a3 c3 7 (fun _ => 0), ky_ar a4 c4 8 (fun _ => 0), ky_ar a7 c7 13 (fun _ => 0), ky_ar a8 c8 13 (fun _ => 0), ky_ar a9 c9 91 (fun _ => 0)]) rfl ?_
  exact ky_nret (pc := 63) C hr hlocks dX1_init_63 ⟨va_up (va_up (va_up (va_up (va_up (fun _ => a9) 0 a0) 3 a3) 4 a4) 7 a7) 8 a8, va_up (va_up (va_up (va_up (va_up (fun _ => c9) 0 c0) 3 c3) 4 c4) 7 c7) 8 c8, by first | rfl | (unfold wG0; rfl)⟩
end Y34
end
section
/-! the law: the skeleton's words, rows of the law, calls on one of two objects (printed by mklaw.py) -/
set_option maxRecDepth 100000
/-! THE CLAIM OUT OF ONE WALK OF THE LAW'S BODY. Your part is whole_start (and what it stands on); all else here is the same for every law, but numbers. -/
def R_law : String := "YenKPathsLaw"
def lw_P (b : Addr) (xs : List Int32) (args : Array Value) (s : State) : Prop := args = #[.ref b] ∧ s.IntsAt b xs ∧ xs.length ≤ 256 ∧ (Jvm.Cond.and given_1 narrow_1).before args s = true
def lw_Q (_ : Array Value) (s : State) (o : Outcome) (t : State) : Prop := o = .returned (some (.int 1)) ∧ Framed s o t [] 600000 7290000
def lw_Z (below : List Frame) (a : Array Value) (s : State) : State → Prop := fun t => ∃ o, t.status = .running ∧ Ended t below o ∧ lw_Q a s o t
/-- the law's own end, with 1 on the stack, nothing written that was there before, its room as the claim has it -/
theorem lw_ret {p : Program} {l : Launch} {e : Env} {s : State} {m : MethodId} {below : List Frame} {meth : Method} {c : Code} {b : Nat} (hx : p.tables.exec = Jvm.exec) (hb : c.code = code) (hr : meth.sig.returnType = ret) (hlocks : meth.locks = false) {pc : Nat} {H : Heap} {ls : Array Slot} (hdg : decode code pc = .ok (.ireturn, 1)) : W p l e room_1 s m #[Value.ref b] below meth c H [] 600000 7290000 (lw_Z below #[Value.ref b] s) (F0 m pc ls [.int 1]) := by
  intro T hT X
  obtain ⟨fs, hret, hrun, hended, hW, hframe⟩ := X.leave (v := some (.int 1)) (hlocks := hlocks) (fun h => by rw [hr] at h; cases h)
  have hmeth' : T.vm.method? m = some meth := X.method'
  refine ⟨T.setFrames fs, ?_, .returned (some (.int 1)), hrun, hended, rfl, ⟨_, rfl⟩, hW, hframe⟩
  jvm_step X.here [X.here.top, hx, hb, hdg, hmeth', hr, ret, narrow_b1]
  (try refine ⟨rfl, ?_⟩); (try refine ⟨rfl, ?_⟩)
  first | (intro acts; rw [hret _ acts rfl rfl rfl]) | rw [hret _ _ rfl rfl rfl]
  exact Steps.refl _
/-- what holds at the law's entry: the machine, the code, the tables' words (any of lw_tbl by 'hts w (by decide +kernel)'), the script of L ints xs at the cell b, what the Statement gives of the start (any of its parts by flat_of_before) -/
def lw_At (p : Program) (s : State) (m : MethodId) (meth : Method) (c : Code) (b L : Nat) (xs : Nat → Int32) : Prop :=
  p.tables.exec = Jvm.exec ∧ c.code = code ∧ meth.sig.returnType = ret ∧ c.maxLocals = 4 ∧ s.vm.findClass R_law = some m.cls ∧ (∀ w ∈ lw_tbl, w.before #[Value.ref b] s = true) ∧ va_X b L xs s s.heap ∧ b < s.heap.size ∧ meth.locks = false ∧ (Jvm.Cond.and given_1 narrow_1).before #[Value.ref b] s = true
/-- the script's ints as numbers -/
def la_xv (xs : Nat → Int32) (j : Nat) : Nat := (xs j).toBitVec.toNat
theorem la_xe (xs : Nat → Int32) (j : Nat) : xs j = nI (la_xv xs j) := Int32.toBitVec_inj.mp (by show _ = BitVec.ofNat 32 _; simp [la_xv])
theorem la_xl (xs : Nat → Int32) (j : Nat) : la_xv xs j < 4294967296 := (xs j).toBitVec.isLt
theorem kn_sub4 {n : Nat} (h : n < 4) : nI n - nI 4 = nI (n + 4294967292) := by
  have : ∀ j : Fin 4, nI j.val - nI 4 = nI (j.val + 4294967292) := by decide +kernel
  exact this ⟨n, h⟩
section Y35
variable {p : Program} {l : Launch} {e : Env} {R : Room} {s : State} {m : MethodId} {args : Array Value} {below : List Frame} {meth : Method} {c : Code} {cells slots : Nat} {Q : State → Prop}
variable {cc : ByteArray} {own : String} {D : va_G} {tys : List (ClassId × FieldType)} {A : Nat → Prop} {nL pc : Nat} {ws : va_W} {L : List (Option Value)} {st : List Value}
variable {o o2 b N i : Nat} {ad ad2 : Nat → Nat} {dA dB : Nat → ClassId} {G G' G2 G2' : Nat → Nat} {F F' F2 F2' : Nat → Nat → Nat} {xs : Nat → Int32}
theorem ky_sld (C : ky_C p s m args c cc nL own D tys) (hX : va_X b N xs s s.heap) (hbl : b < s.heap.size) (hbA : ¬ A b) {k v : Nat} (hk : k < N) (hN : N ≤ 256) (hv : xs k = nI v) (hdg : decode cc pc = .ok (.iaload, 1)) (kk : ky_At p l e R s m args below meth c cells slots Q D A nL ws (pc + 1) L (.int (nI v) :: st)) : ky_At p l e R s m args below meth c cells slots Q D A nL ws pc L (.int (nI k) :: .ref b :: st) := by
  intro H locs ls h hl
  refine va_sld C.1 C.2.1 hX hbl hbA h.2.2 (vp_in_nI hk (by omega)) hdg ?_
  rw [nI_clamp (by omega), hv]
  exact kk H locs ls h hl
theorem ky_slen (C : ky_C p s m args c cc nL own D tys) (hX : va_X b N xs s s.heap) (hbl : b < s.heap.size) (hbA : ¬ A b) (hdg : decode cc pc = .ok (.arraylength, 1)) (kk : ky_At p l e R s m args below meth c cells slots Q D A nL ws (pc + 1) L (.int (nI N) :: st)) : ky_At p l e R s m args below meth c cells slots Q D A nL ws pc L (.ref b :: st) :=
  fun H locs ls h hl => va_slen C.1 C.2.1 hX hbl hbA h.2.2 hdg (kk H locs ls h hl)
theorem ky_icmp_gtN (C : ky_C p s m args c cc nL own D tys) {x y : Nat} {off : Int} {tgt : Nat} (hdg : decode cc pc = .ok (.if_icmp .gt off, 3)) (ht : (pc : Int) + off = (tgt : Int)) (hx : x < 2147483648) (hy : 2147483648 ≤ y) (hy2 : y < 4294967296) (kt : ky_At p l e R s m args below meth c cells slots Q D A nL ws tgt L st) : ky_At p l e R s m args below meth c cells slots Q D A nL ws pc L (.int (nI y) :: .int (nI x) :: st) := by
  intro H locs ls h hl
  refine lv_icmp_gt C.1 C.2.1 hdg ht (fun _ => kt H locs ls h hl) (fun q => absurd ?_ q)
  rw [Int32.lt_iff_toInt_lt, kn_toInt (by omega), kn_toInt (by omega), if_neg (by omega), if_pos hx]
  omega
theorem ky_icmp_same (C : ky_C p s m args c cc nL own D tys) {x : Int32} {off : Int} {tgt : Nat} (hdg : decode cc pc = .ok (.if_icmp .eq off, 3)) (ht : (pc : Int) + off = (tgt : Int)) (kt : ky_At p l e R s m args below meth c cells slots Q D A nL ws tgt L st) : ky_At p l e R s m args below meth c cells slots Q D A nL ws pc L (.int x :: .int x :: st) :=
  fun H locs ls h hl => lv_icmp_eq C.1 C.2.1 hdg ht (fun _ => kt H locs ls h hl) (fun q => absurd rfl q)
theorem ky_tabIn (C : ky_C p s m args c cc nL own D tys) {dflt hi : Int} {offs : Array Int} {len z : Nat} {off : Int} {tgt : Nat} (hdg : decode cc pc = .ok (.tableswitch dflt 0 hi offs, len)) (hz : z < 2147483648) (hh : ¬ hi < (z : Int)) (ho : offs[z]? = some off) (ht : (pc : Int) + off = (tgt : Int)) (kk : ky_At p l e R s m args below meth c cells slots Q D A nL ws tgt L st) : ky_At p l e R s m args below meth c cells slots Q D A nL ws pc L (.int (nI z) :: st) := by
  have e : (nI z).toInt = (z : Int) := by rw [kn_toInt (by omega), if_pos hz]
  exact fun H locs ls h hl => lv_tableIn C.1 C.2.1 hdg (by rw [e]; omega) (by rw [e]; exact hh) (by rw [e, show ((z : Int) - 0).toNat = z by omega]; exact ho) ht (kk H locs ls h hl)
theorem ky_tabOut (C : ky_C p s m args c cc nL own D tys) {dflt hi : Int} {offs : Array Int} {len z : Nat} {tgt : Nat} (hdg : decode cc pc = .ok (.tableswitch dflt 0 hi offs, len)) (hz : z < 2147483648) (hh : hi < (z : Int)) (ht : (pc : Int) + dflt = (tgt : Int)) (kk : ky_At p l e R s m args below meth c cells slots Q D A nL ws tgt L st) : ky_At p l e R s m args below meth c cells slots Q D A nL ws pc L (.int (nI z) :: st) := by
  have e : (nI z).toInt = (z : Int) := by rw [kn_toInt (by omega), if_pos hz]
  exact fun H locs ls h hl => lv_tableOut C.1 C.2.1 hdg (Or.inr (by rw [e]; exact hh)) ht (kk H locs ls h hl)
/-- a call on the object -/
theorem la_cx (C : ky_C p s m args c cc nL own D (xT dA ++ wT dB)) (hA : ∀ q : Nat, s.heap.size ≤ q → A q) {y : MethodName} {cy : ByteArray} {nY n index : Nat} {ty : FieldType} {rm : Room} {As : List Int32} {S : List Value} {post : Nat → (Nat → Nat) → (Nat → Nat → Nat) → Prop}
    (hM : xMi l y cy nY ty rm D o ad dA G F As post) (cw : CallW R s args own RX0 index y cy nY (some ty) (ws_ y cy nY (some ty)) rm 0 0 n) (hS : S = (As.map Value.int).reverse ++ .ref o :: st) (hn : (As.map Value.int).length = n) (hst : (st.map fun v => v.category).sum ≤ 8) (hf : cells ≤ R.cells ∧ slots ≤ R.slots) (hdg : decode cc pc = .ok (.invokevirtual index, 3))
    (kk : ∀ (v : Nat) (G' : Nat → Nat) (F' : Nat → Nat → Nat), post v G' F' → ky_At p l e R s m args below meth c cells slots Q D A nL (xW o ad dA G' F' ++ wW o2 ad2 dB G2 F2) (pc + 3) L (.int (nI v) :: st)) : ky_At p l e R s m args below meth c cells slots Q D A nL (xW o ad dA G F ++ wW o2 ad2 dB G2 F2) pc L S := by
  subst hS
  intro H locs ls h hl
  obtain ⟨hP, hD, hS⟩ := h
  have hPc := hP.sub (ws' := xW o ad dA G F) [0, 1, 2, 3, 4, 5, 6, 7, 8, 9] rfl
  have hDc := hD.sub (ws' := xW o ad dA G F) [0, 1, 2, 3, 4, 5, 6, 7, 8, 9] (by decide) rfl
  have hKc := C.2.2.2.2.2.sub (tys' := xT dA) [0, 1, 2, 3, 4, 5, 6, 7, 8] rfl
  have hFc := va_free (wc := xW o ad dA G F) hD hS hA [0, 1, 2, 3, 4, 5, 6, 7, 8, 9] rfl
  refine va_calli (va_runV (As := As.map Value.int) (rest := st) (Ts := lw_all) ⟨C.1, C.2.1, C.2.2.1, C.2.2.2.1, C.2.2.2.2.1⟩ (hM H.size) cw ⟨ky_blind, va_recv hKc hPc (ci := 0) (q0 := 0) rfl rfl, fun U hU hW => ⟨rfl, by rw [hU], by rw [hU]; exact hPc, va_K.moved hW.alike hKc, hDc.weaken (fun _ _ _ _ => trivial)⟩⟩ rfl hn hl.1 rfl (lv_room hst) hdg hf) hS (fun q _ h => hFc q h) hFc (fun r w t H1 locs1 ht hvm hp hB hz hk hS1 => ?_)
  obtain ⟨v, G', F', rfl, rfl, hpost⟩ := hp
  obtain ⟨hP1, hK1, hD1⟩ := hB
  rw [ht] at hP1
  obtain ⟨hP2, hD2⟩ := va_join (wr := wW o2 ad2 dB G2 F2) (w1 := xW o ad dA G' F') hP hD [0, 1, 2, 3, 4, 5, 6, 7, 8, 9] [10, 11, 12, 13, 14, 15, 16] rfl rfl (by decide) (by decide) hk hFc hP1 hD1
  exact kk v G' F' hpost H1 locs1 ls ⟨hP2.sub (ws' := xW o ad dA G' F' ++ wW o2 ad2 dB G2 F2) [7, 8, 9, 10, 11, 12, 13, 14, 15, 16, 0, 1, 2, 3, 4, 5, 6] rfl, hD2.sub (ws' := xW o ad dA G' F' ++ wW o2 ad2 dB G2 F2) [7, 8, 9, 10, 11, 12, 13, 14, 15, 16, 0, 1, 2, 3, 4, 5, 6] (by decide) rfl, hS1⟩ hl
/-- a call on the reference -/
theorem la_cm (C : ky_C p s m args c cc nL own D (xT dA ++ wT dB)) (hA : ∀ q : Nat, s.heap.size ≤ q → A q) {y : MethodName} {cy : ByteArray} {nY n index : Nat} {ty : FieldType} {rm : Room} {As : List Int32} {S : List Value} {post : Nat → (Nat → Nat) → (Nat → Nat → Nat) → Prop}
    (hM : wMi l y cy nY ty rm D o2 ad2 dB G2 F2 As post) (cw : CallW R s args own RX1 index y cy nY (some ty) (ws_ y cy nY (some ty)) rm 0 0 n) (hS : S = (As.map Value.int).reverse ++ .ref o2 :: st) (hn : (As.map Value.int).length = n) (hst : (st.map fun v => v.category).sum ≤ 8) (hf : cells ≤ R.cells ∧ slots ≤ R.slots) (hdg : decode cc pc = .ok (.invokevirtual index, 3))
    (kk : ∀ (v : Nat) (G2' : Nat → Nat) (F2' : Nat → Nat → Nat), post v G2' F2' → ky_At p l e R s m args below meth c cells slots Q D A nL (xW o ad dA G F ++ wW o2 ad2 dB G2' F2') (pc + 3) L (.int (nI v) :: st)) : ky_At p l e R s m args below meth c cells slots Q D A nL (xW o ad dA G F ++ wW o2 ad2 dB G2 F2) pc L S := by
  subst hS
  intro H locs ls h hl
  obtain ⟨hP, hD, hS⟩ := h
  have hPc := hP.sub (ws' := wW o2 ad2 dB G2 F2) [10, 11, 12, 13, 14, 15, 16] rfl
  have hDc := hD.sub (ws' := wW o2 ad2 dB G2 F2) [10, 11, 12, 13, 14, 15, 16] (by decide) rfl
  have hKc := C.2.2.2.2.2.sub (tys' := wT dB) [9, 10, 11, 12, 13, 14] rfl
  have hFc := va_free (wc := wW o2 ad2 dB G2 F2) hD hS hA [10, 11, 12, 13, 14, 15, 16] rfl
  refine va_calli (va_runV (As := As.map Value.int) (rest := st) (Ts := lw_all) ⟨C.1, C.2.1, C.2.2.1, C.2.2.2.1, C.2.2.2.2.1⟩ (hM H.size) cw ⟨ky_blind, va_recv hKc hPc (ci := 1) (q0 := 0) rfl rfl, fun U hU hW => ⟨rfl, by rw [hU], by rw [hU]; exact hPc, va_K.moved hW.alike hKc, hDc.weaken (fun _ _ _ _ => trivial)⟩⟩ rfl hn hl.1 rfl (lv_room hst) hdg hf) hS (fun q _ h => hFc q h) hFc (fun r w t H1 locs1 ht hvm hp hB hz hk hS1 => ?_)
  obtain ⟨v, G2', F2', rfl, rfl, hpost⟩ := hp
  obtain ⟨hP1, hK1, hD1⟩ := hB
  rw [ht] at hP1
  obtain ⟨hP2, hD2⟩ := va_join (wr := xW o ad dA G F) (w1 := wW o2 ad2 dB G2' F2') hP hD [10, 11, 12, 13, 14, 15, 16] [0, 1, 2, 3, 4, 5, 6, 7, 8, 9] rfl rfl (by decide) (by decide) hk hFc hP1 hD1
  exact kk v G2' F2' hpost H1 locs1 ls ⟨hP2.sub (ws' := xW o ad dA G F ++ wW o2 ad2 dB G2' F2') [0, 1, 2, 3, 4, 5, 6, 7, 8, 9, 10, 11, 12, 13, 14, 15, 16] rfl, hD2.sub (ws' := xW o ad dA G F ++ wW o2 ad2 dB G2' F2') [0, 1, 2, 3, 4, 5, 6, 7, 8, 9, 10, 11, 12, 13, 14, 15, 16] (by decide) rfl, hS1⟩ hl
theorem ky_new0 (C : ky_C p s m args c cc nL own D tys) (hA : ∀ q : Nat, s.heap.size ≤ q → A q) {index : Nat} (hq : Cond.classLink own index RX0 ∈ lw_all) (hcells : cells + 1 ≤ R.cells) (hslots : slots + 17 ≤ R.slots) (hdg : decode cc pc = .ok (.new index, 3))
    (kk : ∀ q : Nat, ky_At p l e R s m args below meth c (cells + 1) (slots + 17) Q D A nL (ws ++ [(q, .inr (0, xF0))]) (pc + 3) L (.ref q :: st)) : ky_At p l e R s m args below meth c cells slots Q D A nL ws pc L st :=
  fun H locs ls h hl => va_new (ci := 0) (fs := xF0) (C := RX0) (T := TX0) (N := 17) C.1 C.2.1 C.2.2.2.2.1 in_X0 tyX0 tyX0_ok C.2.2.2.1 (C.2.2.2.2.1 _ hq) (C.2.2.2.2.1 _ q27) (C.2.2.2.2.1 _ q24) C.2.2.2.2.2 h.1 h.2.1 h.2.2 hA rfl (fun j hj => by
    rcases (show j = 0 ∨ j = 1 ∨ j = 2 ∨ j = 3 ∨ j = 4 ∨ j = 5 ∨ j = 6 ∨ j = 7 ∨ j = 8 ∨ j = 9 ∨ j = 10 ∨ j = 11 ∨ j = 12 ∨ j = 13 ∨ j = 14 ∨ j = 15 ∨ j = 16 by omega) with rfl | rfl | rfl | rfl | rfl | rfl | rfl | rfl | rfl | rfl | rfl | rfl | rfl | rfl | rfl | rfl | rfl <;> first | rfl | (show Value.int 0 = Value.int (nI 0); rw [nI_0])) hcells hslots hdg (fun q H1 hP hD hS => kk q H1 locs ls ⟨hP, hD, hS⟩ hl)
theorem ky_new1 (C : ky_C p s m args c cc nL own D tys) (hA : ∀ q : Nat, s.heap.size ≤ q → A q) {index : Nat} (hq : Cond.classLink own index RX1 ∈ lw_all) (hcells : cells + 1 ≤ R.cells) (hslots : slots + 12 ≤ R.slots) (hdg : decode cc pc = .ok (.new index, 3))
    (kk : ∀ q : Nat, ky_At p l e R s m args below meth c (cells + 1) (slots + 12) Q D A nL (ws ++ [(q, .inr (1, wF0))]) (pc + 3) L (.ref q :: st)) : ky_At p l e R s m args below meth c cells slots Q D A nL ws pc L st :=
  fun H locs ls h hl => va_new (ci := 1) (fs := wF0) (C := RX1) (T := TX1) (N := 12) C.1 C.2.1 C.2.2.2.2.1 in_X1 tyX1 tyX1_ok C.2.2.2.1 (C.2.2.2.2.1 _ hq) (C.2.2.2.2.1 _ q178) (C.2.2.2.2.1 _ q25) C.2.2.2.2.2 h.1 h.2.1 h.2.2 hA rfl (fun j hj => by
    rcases (show j = 0 ∨ j = 1 ∨ j = 2 ∨ j = 3 ∨ j = 4 ∨ j = 5 ∨ j = 6 ∨ j = 7 ∨ j = 8 ∨ j = 9 ∨ j = 10 ∨ j = 11 by omega) with rfl | rfl | rfl | rfl | rfl | rfl | rfl | rfl | rfl | rfl | rfl | rfl <;> first | rfl | (show Value.int 0 = Value.int (nI 0); rw [nI_0])) hcells hslots hdg (fun q H1 hP hD hS => kk q H1 locs ls ⟨hP, hD, hS⟩ hl)
/-- the constructor of the object, alone in its world -/
theorem la_ix (C : ky_C p s m args c cc nL own D []) (hA : ∀ q : Nat, s.heap.size ≤ q → A q) {index : Nat} (hq : Cond.methodLink own index yX0_init ∈ lw_all) (hR : rX0_ini.frames + 1 ≤ R.frames ∧ 8 + (1 + 11) + rX0_ini.locals ≤ R.locals) (hf : cells + 9 ≤ R.cells ∧ slots + 315 ≤ R.slots) (hst : (st.map fun v => v.category).sum ≤ 8) (hdg : decode cc pc = .ok (.invokespecial index, 3))
    (kk : ∀ (ad : Nat → Nat) (dA : Nat → ClassId), ky_C p s m args c cc nL own D (xT dA) → ky_At p l e R s m args below meth c (cells + 9) (slots + 315) Q D A nL (xW o ad dA xG0 (fun _ _ => 0)) (pc + 3) L st) : ky_At p l e R s m args below meth c cells slots Q D A nL [(o, .inr (0, xF0))] pc L (.ref o :: st) := by
  intro H locs ls h hl
  obtain ⟨hP, hD, hS⟩ := h
  have hF := ky_freeAll hD hS hA
  refine va_callv (va_runI (b := o) (As := []) (rest := st) (Ts := lw_all) ⟨C.1, C.2.1, C.2.2.1, C.2.2.2.1, C.2.2.2.2.1⟩ (x_init l D o H.size) (cwI 0 C.2.2.2.2.1 (lw_meth q30) rfl rfl rfl (C.2.2.2.2.1 _ q24) (C.2.2.2.2.1 _ hq) (C.2.2.2.2.1 _ q29) rfl (by decide +kernel) hR) ⟨ky_blind, fun U hU hW => ⟨rfl, by rw [hU], by rw [hU]; exact hP, va_K.moved hW.alike C.2.2.2.2.2, hD.weaken (fun _ _ _ _ => trivial)⟩⟩ rfl rfl hl.1 rfl (lv_room hst) hdg hf) hS (fun q _ h => hF q h) hF (fun u t H1 locs1 ht hvm hp hB hz hk hS1 => ?_)
  obtain ⟨ad, dA, rfl⟩ := hp
  obtain ⟨hP1, hK1, hD1⟩ := hB
  rw [ht] at hP1
  exact kk ad dA ⟨C.1, C.2.1, C.2.2.1, C.2.2.2.1, C.2.2.2.2.1, va_K.moved hvm.symm hK1⟩ H1 locs1 ls ⟨hP1, hD1.weaken (fun k q _ h => hF q.1 h), hS1⟩ hl
/-- the constructor of the reference, beside the object -/
theorem la_im (C : ky_C p s m args c cc nL own D (xT dA)) (hA : ∀ q : Nat, s.heap.size ≤ q → A q) {index : Nat} (hq : Cond.methodLink own index yX1_init ∈ lw_all) (hR : rX1_ini.frames + 1 ≤ R.frames ∧ 8 + (1 + 11) + rX1_ini.locals ≤ R.locals) (hf : cells + 6 ≤ R.cells ∧ slots + 181 ≤ R.slots) (hst : (st.map fun v => v.category).sum ≤ 8) (hdg : decode cc pc = .ok (.invokespecial index, 3))
    (kk : ∀ (ad2 : Nat → Nat) (dB : Nat → ClassId), ky_C p s m args c cc nL own D (xT dA ++ wT dB) → ky_At p l e R s m args below meth c (cells + 6) (slots + 181) Q D A nL (xW o ad dA G F ++ wW o2 ad2 dB wG0 (fun _ _ => 0)) (pc + 3) L st) : ky_At p l e R s m args below meth c cells slots Q D A nL (xW o ad dA G F ++ [(o2, .inr (1, wF0))]) pc L (.ref o2 :: st) := by
  intro H locs ls h hl
  obtain ⟨hP, hD, hS⟩ := h
  have hPc := hP.sub (ws' := [(o2, .inr (1, wF0))]) [10] rfl
  have hDc := hD.sub (ws' := [(o2, .inr (1, wF0))]) [10] (by decide) rfl
  have hKc := C.2.2.2.2.2.sub (tys' := []) [] rfl
  have hFc := va_free (wc := [(o2, .inr (1, wF0))]) hD hS hA [10] rfl
  refine va_callv (va_runI (b := o2) (As := []) (rest := st) (Ts := lw_all) ⟨C.1, C.2.1, C.2.2.1, C.2.2.2.1, C.2.2.2.2.1⟩ (w_init l D o2 H.size) (cwI 0 C.2.2.2.2.1 (lw_meth q181) rfl rfl rfl (C.2.2.2.2.1 _ q25) (C.2.2.2.2.1 _ hq) (C.2.2.2.2.1 _ q180) rfl (by decide +kernel) hR) ⟨ky_blind, fun U hU hW => ⟨rfl, by rw [hU], by rw [hU]; exact hPc, va_K.moved hW.alike hKc, hDc.weaken (fun _ _ _ _ => trivial)⟩⟩ rfl rfl hl.1 rfl (lv_room hst) hdg hf) hS (fun q _ h => hFc q h) hFc (fun u t H1 locs1 ht hvm hp hB hz hk hS1 => ?_)
  obtain ⟨ad2, dB, rfl⟩ := hp
  obtain ⟨hP1, hK1, hD1⟩ := hB
  rw [ht] at hP1
  obtain ⟨hP2, hD2⟩ := va_join (wr := xW o ad dA G F) (w1 := wW o2 ad2 dB wG0 (fun _ _ => 0)) hP hD [10] [0, 1, 2, 3, 4, 5, 6, 7, 8, 9] rfl rfl (by decide) (by decide) hk hFc hP1 hD1
  exact kk ad2 dB ⟨C.1, C.2.1, C.2.2.1, C.2.2.2.1, C.2.2.2.2.1, C.2.2.2.2.2.app (va_K.moved hvm.symm hK1)⟩ H1 locs1 ls ⟨hP2, hD2, hS1⟩ hl
-- ===== the law's invariant, and that the answers are the same =====
def la_I (G : Nat → Nat) (F : Nat → Nat → Nat) (G2 : Nat → Nat) (F2 : Nat → Nat → Nat) : Prop := x_I G F ∧ w_I G2 F2 ∧ F 0 = F2 0 ∧ G 1 = G2 1 ∧ G 2 = G2 2
theorem la_arc {u v x r1 r2 : Nat} (hI : la_I G F G2 F2) (h1 : ((ye_arcOk u v x ∧ r1 = 1 ∧ F' 0 = va_up (F 0) (7 * u + v) x) ∨ (¬ ye_arcOk u v x ∧ r1 = 0 ∧ F' 0 = F 0)) ∧ x_I G' F' ∧ G' 1 = G 1 ∧ G' 2 = G 2) (h2 : ((ye_arcOk u v x ∧ r2 = 1 ∧ F2' 0 = va_up (F2 0) (7 * u + v) x) ∨ (¬ ye_arcOk u v x ∧ r2 = 0 ∧ F2' 0 = F2 0)) ∧ w_I G2' F2' ∧ G2' 1 = G2 1 ∧ G2' 2 = G2 2) : r1 = r2 ∧ la_I G' F' G2' F2' := by
  obtain ⟨i1, i2, i3, i4, i5⟩ := hI
  obtain ⟨a, b, c1, c2⟩ := h1
  obtain ⟨a', b', c1', c2'⟩ := h2
  have hk : r1 = r2 ∧ F' 0 = F2' 0 := by
    rcases a with ⟨q, e1, e2⟩ | ⟨q, e1, e2⟩ <;> rcases a' with ⟨q', e1', e2'⟩ | ⟨q', e1', e2'⟩
    · exact ⟨by rw [e1, e1'], by rw [e2, e2', i3]⟩
    · exact absurd q q'
    · exact absurd q' q
    · exact ⟨by rw [e1, e1'], by rw [e2, e2', i3]⟩
  exact ⟨hk.1, b, b', hk.2, by rw [c1, c1', i4], by rw [c2, c2', i5]⟩
theorem la_ends {u v r1 r2 : Nat} (hI : la_I G F G2 F2) (h1 : ((ye_endOk u v ∧ r1 = 1 ∧ G' 1 = u ∧ G' 2 = v) ∨ (¬ ye_endOk u v ∧ r1 = 0 ∧ G' 1 = G 1 ∧ G' 2 = G 2)) ∧ x_I G' F' ∧ F' 0 = F 0) (h2 : ((ye_endOk u v ∧ r2 = 1 ∧ G2' 1 = u ∧ G2' 2 = v) ∨ (¬ ye_endOk u v ∧ r2 = 0 ∧ G2' 1 = G2 1 ∧ G2' 2 = G2 2)) ∧ w_I G2' F2' ∧ F2' 0 = F2 0) : r1 = r2 ∧ la_I G' F' G2' F2' := by
  obtain ⟨i1, i2, i3, i4, i5⟩ := hI
  obtain ⟨a, b, c1⟩ := h1
  obtain ⟨a', b', c1'⟩ := h2
  have hk : r1 = r2 ∧ G' 1 = G2' 1 ∧ G' 2 = G2' 2 := by
    rcases a with ⟨q, e1, e2, e3⟩ | ⟨q, e1, e2, e3⟩ <;> rcases a' with ⟨q', e1', e2', e3'⟩ | ⟨q', e1', e2', e3'⟩
    · exact ⟨by rw [e1, e1'], by rw [e2, e2'], by rw [e3, e3']⟩
    · exact absurd q q'
    · exact absurd q' q
    · exact ⟨by rw [e1, e1'], by rw [e2, e2', i4], by rw [e3, e3', i5]⟩
  exact ⟨hk.1, b, b', by rw [c1, c1', i3], hk.2.1, hk.2.2⟩
theorem la_q {r1 r2 : Nat} {P : (Nat → Nat) → Nat → Nat → Nat → Prop} (hu : ∀ w a b r r', P w a b r → P w a b r' → r = r') (hI : la_I G F G2 F2) (h1 : P (F 0) (G 1) (G 2) r1 ∧ x_sm G F G' F') (h2 : P (F2 0) (G2 1) (G2 2) r2 ∧ w_sm G2 F2 G2' F2') : r1 = r2 ∧ la_I G' F' G2' F2' := by
  obtain ⟨i1, i2, i3, i4, i5⟩ := hI
  obtain ⟨a, x1, x2, x3, x4⟩ := h1
  obtain ⟨a', y1, y2, y3, y4⟩ := h2
  rw [← i3, ← i4, ← i5] at a'
  exact ⟨hu _ _ _ _ _ a a', x1, y1, by rw [x2, y2, i3], by rw [x3, y3, i4], by rw [x4, y4, i5]⟩
theorem la_uK {f : (Nat → Nat) → List (List Nat) → Nat} (w : Nat → Nat) (a b r r' : Nat) (h : ∃ K, ye_K w a b K ∧ r = f w K) (h' : ∃ K, ye_K w a b K ∧ r' = f w K) : r = r' := by
  obtain ⟨K, k1, k2⟩ := h
  obtain ⟨K', k1', k2'⟩ := h'
  rw [k2, k2', ye_K_one k1 k1']
end Y35
end
section
/-! the law's cases and its loop (printed by mklaw.py) -/
set_option maxRecDepth 100000
section Y36
variable {p : Program} {l : Launch} {e : Env} {s : State} {m : MethodId} {args : Array Value} {below : List Frame} {meth : Method} {c : Code} {Q : State → Prop}
variable {D : va_G} {A : Nat → Prop}
variable {o o2 b N i : Nat} {ad ad2 : Nat → Nat} {dA dB : Nat → ClassId} {G G2 : Nat → Nat} {F F2 : Nat → Nat → Nat} {xs : Nat → Int32}
theorem la_k0 (C : ky_C p s m args c cL_law 4 R_law D (xT dA ++ wT dB)) (hA : ∀ q : Nat, s.heap.size ≤ q → A q) (hX : va_X b N xs s s.heap) (hbl : b < s.heap.size) (hbA : ¬ A b) (hN : N ≤ 256) (hi : i + 4 ≤ N) (hI : la_I G F G2 F2) (fin : ∀ (G : Nat → Nat) (F : Nat → Nat → Nat) (G2 : Nat → Nat) (F2 : Nat → Nat → Nat), la_I G F G2 F2 → ky_At p l e room_1 s m args below meth c 17 525 Q D A 4 (xW o ad dA G F ++ wW o2 ad2 dB G2 F2) 368 [some (.ref b), some (.ref o), some (.ref o2), some (.int (nI i))] []) : ky_At p l e room_1 s m args below meth c 17 525 Q D A 4 (xW o ad dA G F ++ wW o2 ad2 dB G2 F2) 88 [some (.ref b), some (.ref o), some (.ref o2), some (.int (nI i))] [] := by
  refine ky_aload_n (pc := 88) C dL_law_88 rfl ?_
  refine ky_aload_n (pc := 89) C dL_law_89 rfl ?_
  refine ky_iload_n (pc := 90) C dL_law_90 rfl ?_
  refine ky_iconst (pc := 91) C 1 dL_law_91 (by decide) ?_
  refine ky_iadd (pc := 92) C dL_law_92 ?_
  refine ky_sld (pc := 93) (k := i + 1) (v := la_xv xs (i + 1)) C hX hbl hbA (by omega) hN (la_xe xs _) dL_law_93 ?_
  refine ky_aload_n (pc := 94) C dL_law_94 rfl ?_
  refine ky_iload_n (pc := 95) C dL_law_95 rfl ?_
  refine ky_iconst (pc := 96) C 2 dL_law_96 (by decide) ?_
  refine ky_iadd (pc := 97) C dL_law_97 ?_
  refine ky_sld (pc := 98) (k := i + 2) (v := la_xv xs (i + 2)) C hX hbl hbA (by omega) hN (la_xe xs _) dL_law_98 ?_
  refine ky_aload_n (pc := 99) C dL_law_99 rfl ?_
  refine ky_iload_n (pc := 100) C dL_law_100 rfl ?_
  refine ky_iconst (pc := 101) C 3 dL_law_101 (by decide) ?_
  refine ky_iadd (pc := 102) C dL_law_102 ?_
  refine ky_sld (pc := 103) (k := i + 3) (v := la_xv xs (i + 3)) C hX hbl hbA (by omega) hN (la_xe xs _) dL_law_103 ?_
  refine la_cx (pc := 104) C hA (x_arc l D o ad dA G F (la_xv xs (i + 1)) (la_xv xs (i + 2)) (la_xv xs (i + 3)) (la_xl xs _) (la_xl xs _) (la_xl xs _) hI.1) (cwV 3 C.2.2.2.2.1 (lw_V q88 q89 q90 q24 q91) rfl rfl rfl (by decide +kernel) ⟨Nat.le_of_ble_eq_true rfl, Nat.le_of_ble_eq_true rfl⟩) rfl rfl (Nat.le_of_ble_eq_true rfl) ⟨Nat.le_of_ble_eq_true rfl, Nat.le_of_ble_eq_true rfl⟩ dL_law_104 (fun v1 G' F' hv1 => ?_)
  refine ky_aload_n (pc := 107) C dL_law_107 rfl ?_
  refine ky_aload_n (pc := 108) C dL_law_108 rfl ?_
  refine ky_iload_n (pc := 109) C dL_law_109 rfl ?_
  refine ky_iconst (pc := 110) C 1 dL_law_110 (by decide) ?_
  refine ky_iadd (pc := 111) C dL_law_111 ?_
  refine ky_sld (pc := 112) (k := i + 1) (v := la_xv xs (i + 1)) C hX hbl hbA (by omega) hN (la_xe xs _) dL_law_112 ?_
  refine ky_aload_n (pc := 113) C dL_law_113 rfl ?_
  refine ky_iload_n (pc := 114) C dL_law_114 rfl ?_
  refine ky_iconst (pc := 115) C 2 dL_law_115 (by decide) ?_
  refine ky_iadd (pc := 116) C dL_law_116 ?_
  refine ky_sld (pc := 117) (k := i + 2) (v := la_xv xs (i + 2)) C hX hbl hbA (by omega) hN (la_xe xs _) dL_law_117 ?_
  refine ky_aload_n (pc := 118) C dL_law_118 rfl ?_
  refine ky_iload_n (pc := 119) C dL_law_119 rfl ?_
  refine ky_iconst (pc := 120) C 3 dL_law_120 (by decide) ?_
  refine ky_iadd (pc := 121) C dL_law_121 ?_
  refine ky_sld (pc := 122) (k := i + 3) (v := la_xv xs (i + 3)) C hX hbl hbA (by omega) hN (la_xe xs _) dL_law_122 ?_
  refine la_cm (pc := 123) C hA (w_arc l D o2 ad2 dB G2 F2 (la_xv xs (i + 1)) (la_xv xs (i + 2)) (la_xv xs (i + 3)) (la_xl xs _) (la_xl xs _) (la_xl xs _) hI.2.1) (cwV 3 C.2.2.2.2.1 (lw_V q220 q221 q222 q25 q223) rfl rfl rfl (by decide +kernel) ⟨Nat.le_of_ble_eq_true rfl, Nat.le_of_ble_eq_true rfl⟩) rfl rfl (Nat.le_of_ble_eq_true rfl) ⟨Nat.le_of_ble_eq_true rfl, Nat.le_of_ble_eq_true rfl⟩ dL_law_123 (fun v2 G2' F2' hv2 => ?_)
  obtain ⟨e1, hI'⟩ := la_arc hI hv1 hv2
  subst e1
  exact ky_icmp_same (pc := 126) (tgt := 368) C dL_law_126 (by decide) (fin _ _ _ _ hI')
theorem la_k1 (C : ky_C p s m args c cL_law 4 R_law D (xT dA ++ wT dB)) (hA : ∀ q : Nat, s.heap.size ≤ q → A q) (hX : va_X b N xs s s.heap) (hbl : b < s.heap.size) (hbA : ¬ A b) (hN : N ≤ 256) (hi : i + 4 ≤ N) (hI : la_I G F G2 F2) (fin : ∀ (G : Nat → Nat) (F : Nat → Nat → Nat) (G2 : Nat → Nat) (F2 : Nat → Nat → Nat), la_I G F G2 F2 → ky_At p l e room_1 s m args below meth c 17 525 Q D A 4 (xW o ad dA G F ++ wW o2 ad2 dB G2 F2) 368 [some (.ref b), some (.ref o), some (.ref o2), some (.int (nI i))] []) : ky_At p l e room_1 s m args below meth c 17 525 Q D A 4 (xW o ad dA G F ++ wW o2 ad2 dB G2 F2) 131 [some (.ref b), some (.ref o), some (.ref o2), some (.int (nI i))] [] := by
  refine ky_aload_n (pc := 131) C dL_law_131 rfl ?_
  refine ky_aload_n (pc := 132) C dL_law_132 rfl ?_
  refine ky_iload_n (pc := 133) C dL_law_133 rfl ?_
  refine ky_iconst (pc := 134) C 1 dL_law_134 (by decide) ?_
  refine ky_iadd (pc := 135) C dL_law_135 ?_
  refine ky_sld (pc := 136) (k := i + 1) (v := la_xv xs (i + 1)) C hX hbl hbA (by omega) hN (la_xe xs _) dL_law_136 ?_
  refine ky_aload_n (pc := 137) C dL_law_137 rfl ?_
  refine ky_iload_n (pc := 138) C dL_law_138 rfl ?_
  refine ky_iconst (pc := 139) C 2 dL_law_139 (by decide) ?_
  refine ky_iadd (pc := 140) C dL_law_140 ?_
  refine ky_sld (pc := 141) (k := i + 2) (v := la_xv xs (i + 2)) C hX hbl hbA (by omega) hN (la_xe xs _) dL_law_141 ?_
  refine la_cx (pc := 142) C hA (x_ends l D o ad dA G F (la_xv xs (i + 1)) (la_xv xs (i + 2)) (la_xl xs _) (la_xl xs _) hI.1) (cwV 2 C.2.2.2.2.1 (lw_V q96 q97 q98 q24 q99) rfl rfl rfl (by decide +kernel) ⟨Nat.le_of_ble_eq_true rfl, Nat.le_of_ble_eq_true rfl⟩) rfl rfl (Nat.le_of_ble_eq_true rfl) ⟨Nat.le_of_ble_eq_true rfl, Nat.le_of_ble_eq_true rfl⟩ dL_law_142 (fun v1 G' F' hv1 => ?_)
  refine ky_aload_n (pc := 145) C dL_law_145 rfl ?_
  refine ky_aload_n (pc := 146) C dL_law_146 rfl ?_
  refine ky_iload_n (pc := 147) C dL_law_147 rfl ?_
  refine ky_iconst (pc := 148) C 1 dL_law_148 (by decide) ?_
  refine ky_iadd (pc := 149) C dL_law_149 ?_
  refine ky_sld (pc := 150) (k := i + 1) (v := la_xv xs (i + 1)) C hX hbl hbA (by omega) hN (la_xe xs _) dL_law_150 ?_
  refine ky_aload_n (pc := 151) C dL_law_151 rfl ?_
  refine ky_iload_n (pc := 152) C dL_law_152 rfl ?_
  refine ky_iconst (pc := 153) C 2 dL_law_153 (by decide) ?_
  refine ky_iadd (pc := 154) C dL_law_154 ?_
  refine ky_sld (pc := 155) (k := i + 2) (v := la_xv xs (i + 2)) C hX hbl hbA (by omega) hN (la_xe xs _) dL_law_155 ?_
  refine la_cm (pc := 156) C hA (w_ends l D o2 ad2 dB G2 F2 (la_xv xs (i + 1)) (la_xv xs (i + 2)) (la_xl xs _) (la_xl xs _) hI.2.1) (cwV 2 C.2.2.2.2.1 (lw_V q228 q229 q230 q25 q231) rfl rfl rfl (by decide +kernel) ⟨Nat.le_of_ble_eq_true rfl, Nat.le_of_ble_eq_true rfl⟩) rfl rfl (Nat.le_of_ble_eq_true rfl) ⟨Nat.le_of_ble_eq_true rfl, Nat.le_of_ble_eq_true rfl⟩ dL_law_156 (fun v2 G2' F2' hv2 => ?_)
  obtain ⟨e1, hI'⟩ := la_ends hI hv1 hv2
  subst e1
  exact ky_icmp_same (pc := 159) (tgt := 368) C dL_law_159 (by decide) (fin _ _ _ _ hI')
theorem la_k2 (C : ky_C p s m args c cL_law 4 R_law D (xT dA ++ wT dB)) (hA : ∀ q : Nat, s.heap.size ≤ q → A q) (hX : va_X b N xs s s.heap) (hbl : b < s.heap.size) (hbA : ¬ A b) (hN : N ≤ 256) (hi : i + 4 ≤ N) (hI : la_I G F G2 F2) (fin : ∀ (G : Nat → Nat) (F : Nat → Nat → Nat) (G2 : Nat → Nat) (F2 : Nat → Nat → Nat), la_I G F G2 F2 → ky_At p l e room_1 s m args below meth c 17 525 Q D A 4 (xW o ad dA G F ++ wW o2 ad2 dB G2 F2) 368 [some (.ref b), some (.ref o), some (.ref o2), some (.int (nI i))] []) : ky_At p l e room_1 s m args below meth c 17 525 Q D A 4 (xW o ad dA G F ++ wW o2 ad2 dB G2 F2) 164 [some (.ref b), some (.ref o), some (.ref o2), some (.int (nI i))] [] := by
  refine ky_aload_n (pc := 164) C dL_law_164 rfl ?_
  refine ky_aload_n (pc := 165) C dL_law_165 rfl ?_
  refine ky_iload_n (pc := 166) C dL_law_166 rfl ?_
  refine ky_iconst (pc := 167) C 1 dL_law_167 (by decide) ?_
  refine ky_iadd (pc := 168) C dL_law_168 ?_
  refine ky_sld (pc := 169) (k := i + 1) (v := la_xv xs (i + 1)) C hX hbl hbA (by omega) hN (la_xe xs _) dL_law_169 ?_
  refine ky_aload_n (pc := 170) C dL_law_170 rfl ?_
  refine ky_iload_n (pc := 171) C dL_law_171 rfl ?_
  refine ky_iconst (pc := 172) C 2 dL_law_172 (by decide) ?_
  refine ky_iadd (pc := 173) C dL_law_173 ?_
  refine ky_sld (pc := 174) (k := i + 2) (v := la_xv xs (i + 2)) C hX hbl hbA (by omega) hN (la_xe xs _) dL_law_174 ?_
  refine la_cx (pc := 175) C hA (x_weight l D o ad dA G F (la_xv xs (i + 1)) (la_xv xs (i + 2)) (la_xl xs _) (la_xl xs _) hI.1) (cwV 2 C.2.2.2.2.1 (lw_V q100 q101 q102 q24 q103) rfl rfl rfl (by decide +kernel) ⟨Nat.le_of_ble_eq_true rfl, Nat.le_of_ble_eq_true rfl⟩) rfl rfl (Nat.le_of_ble_eq_true rfl) ⟨Nat.le_of_ble_eq_true rfl, Nat.le_of_ble_eq_true rfl⟩ dL_law_175 (fun v1 G' F' hv1 => ?_)
  refine ky_aload_n (pc := 178) C dL_law_178 rfl ?_
  refine ky_aload_n (pc := 179) C dL_law_179 rfl ?_
  refine ky_iload_n (pc := 180) C dL_law_180 rfl ?_
  refine ky_iconst (pc := 181) C 1 dL_law_181 (by decide) ?_
  refine ky_iadd (pc := 182) C dL_law_182 ?_
  refine ky_sld (pc := 183) (k := i + 1) (v := la_xv xs (i + 1)) C hX hbl hbA (by omega) hN (la_xe xs _) dL_law_183 ?_
  refine ky_aload_n (pc := 184) C dL_law_184 rfl ?_
  refine ky_iload_n (pc := 185) C dL_law_185 rfl ?_
  refine ky_iconst (pc := 186) C 2 dL_law_186 (by decide) ?_
  refine ky_iadd (pc := 187) C dL_law_187 ?_
  refine ky_sld (pc := 188) (k := i + 2) (v := la_xv xs (i + 2)) C hX hbl hbA (by omega) hN (la_xe xs _) dL_law_188 ?_
  refine la_cm (pc := 189) C hA (w_weight l D o2 ad2 dB G2 F2 (la_xv xs (i + 1)) (la_xv xs (i + 2)) (la_xl xs _) (la_xl xs _) hI.2.1) (cwV 2 C.2.2.2.2.1 (lw_V q232 q233 q234 q25 q235) rfl rfl rfl (by decide +kernel) ⟨Nat.le_of_ble_eq_true rfl, Nat.le_of_ble_eq_true rfl⟩) rfl rfl (Nat.le_of_ble_eq_true rfl) ⟨Nat.le_of_ble_eq_true rfl, Nat.le_of_ble_eq_true rfl⟩ dL_law_189 (fun v2 G2' F2' hv2 => ?_)
  obtain ⟨e1, hI'⟩ := la_q (P := fun w a b r => r = (if (la_xv xs (i + 1)) < 7 ∧ (la_xv xs (i + 2)) < 7 then w (7 * (la_xv xs (i + 1)) + (la_xv xs (i + 2))) else 4294967295)) (fun w a b r r' h h' => h.trans h'.symm) hI hv1 hv2
  subst e1
  exact ky_icmp_same (pc := 192) (tgt := 368) C dL_law_192 (by decide) (fin _ _ _ _ hI')
theorem la_k3 (C : ky_C p s m args c cL_law 4 R_law D (xT dA ++ wT dB)) (hA : ∀ q : Nat, s.heap.size ≤ q → A q) (hX : va_X b N xs s s.heap) (hbl : b < s.heap.size) (hbA : ¬ A b) (hN : N ≤ 256) (hi : i + 4 ≤ N) (hI : la_I G F G2 F2) (fin : ∀ (G : Nat → Nat) (F : Nat → Nat → Nat) (G2 : Nat → Nat) (F2 : Nat → Nat → Nat), la_I G F G2 F2 → ky_At p l e room_1 s m args below meth c 17 525 Q D A 4 (xW o ad dA G F ++ wW o2 ad2 dB G2 F2) 368 [some (.ref b), some (.ref o), some (.ref o2), some (.int (nI i))] []) : ky_At p l e room_1 s m args below meth c 17 525 Q D A 4 (xW o ad dA G F ++ wW o2 ad2 dB G2 F2) 197 [some (.ref b), some (.ref o), some (.ref o2), some (.int (nI i))] [] := by
  refine ky_aload_n (pc := 197) C dL_law_197 rfl ?_
  refine la_cx (pc := 198) C hA (x_paths l D o ad dA G F   hI.1) (cwV 0 C.2.2.2.2.1 (lw_V q104 q105 q106 q24 q107) rfl rfl rfl (by decide +kernel) ⟨Nat.le_of_ble_eq_true rfl, Nat.le_of_ble_eq_true rfl⟩) rfl rfl (Nat.le_of_ble_eq_true rfl) ⟨Nat.le_of_ble_eq_true rfl, Nat.le_of_ble_eq_true rfl⟩ dL_law_198 (fun v1 G' F' hv1 => ?_)
  refine ky_aload_n (pc := 201) C dL_law_201 rfl ?_
  refine la_cm (pc := 202) C hA (w_paths l D o2 ad2 dB G2 F2   hI.2.1) (cwV 0 C.2.2.2.2.1 (lw_V q236 q237 q238 q25 q239) rfl rfl rfl (by decide +kernel) ⟨Nat.le_of_ble_eq_true rfl, Nat.le_of_ble_eq_true rfl⟩) rfl rfl (Nat.le_of_ble_eq_true rfl) ⟨Nat.le_of_ble_eq_true rfl, Nat.le_of_ble_eq_true rfl⟩ dL_law_202 (fun v2 G2' F2' hv2 => ?_)
  obtain ⟨e1, hI'⟩ := la_q (P := fun w a b r => ∃ K, ye_K w a b K ∧ r = K.length) (la_uK (f := fun _ K => K.length)) hI hv1 hv2
  subst e1
  exact ky_icmp_same (pc := 205) (tgt := 368) C dL_law_205 (by decide) (fin _ _ _ _ hI')
theorem la_k4 (C : ky_C p s m args c cL_law 4 R_law D (xT dA ++ wT dB)) (hA : ∀ q : Nat, s.heap.size ≤ q → A q) (hX : va_X b N xs s s.heap) (hbl : b < s.heap.size) (hbA : ¬ A b) (hN : N ≤ 256) (hi : i + 4 ≤ N) (hI : la_I G F G2 F2) (fin : ∀ (G : Nat → Nat) (F : Nat → Nat → Nat) (G2 : Nat → Nat) (F2 : Nat → Nat → Nat), la_I G F G2 F2 → ky_At p l e room_1 s m args below meth c 17 525 Q D A 4 (xW o ad dA G F ++ wW o2 ad2 dB G2 F2) 368 [some (.ref b), some (.ref o), some (.ref o2), some (.int (nI i))] []) : ky_At p l e room_1 s m args below meth c 17 525 Q D A 4 (xW o ad dA G F ++ wW o2 ad2 dB G2 F2) 210 [some (.ref b), some (.ref o), some (.ref o2), some (.int (nI i))] [] := by
  refine ky_aload_n (pc := 210) C dL_law_210 rfl ?_
  refine ky_aload_n (pc := 211) C dL_law_211 rfl ?_
  refine ky_iload_n (pc := 212) C dL_law_212 rfl ?_
  refine ky_iconst (pc := 213) C 1 dL_law_213 (by decide) ?_
  refine ky_iadd (pc := 214) C dL_law_214 ?_
  refine ky_sld (pc := 215) (k := i + 1) (v := la_xv xs (i + 1)) C hX hbl hbA (by omega) hN (la_xe xs _) dL_law_215 ?_
  refine la_cx (pc := 216) C hA (x_length l D o ad dA G F (la_xv xs (i + 1)) (la_xl xs _) hI.1) (cwV 1 C.2.2.2.2.1 (lw_V q153 q154 q155 q24 q156) rfl rfl rfl (by decide +kernel) ⟨Nat.le_of_ble_eq_true rfl, Nat.le_of_ble_eq_true rfl⟩) rfl rfl (Nat.le_of_ble_eq_true rfl) ⟨Nat.le_of_ble_eq_true rfl, Nat.le_of_ble_eq_true rfl⟩ dL_law_216 (fun v1 G' F' hv1 => ?_)
  refine ky_aload_n (pc := 219) C dL_law_219 rfl ?_
  refine ky_aload_n (pc := 220) C dL_law_220 rfl ?_
  refine ky_iload_n (pc := 221) C dL_law_221 rfl ?_
  refine ky_iconst (pc := 222) C 1 dL_law_222 (by decide) ?_
  refine ky_iadd (pc := 223) C dL_law_223 ?_
  refine ky_sld (pc := 224) (k := i + 1) (v := la_xv xs (i + 1)) C hX hbl hbA (by omega) hN (la_xe xs _) dL_law_224 ?_
  refine la_cm (pc := 225) C hA (w_length l D o2 ad2 dB G2 F2 (la_xv xs (i + 1)) (la_xl xs _) hI.2.1) (cwV 1 C.2.2.2.2.1 (lw_V q276 q277 q278 q25 q279) rfl rfl rfl (by decide +kernel) ⟨Nat.le_of_ble_eq_true rfl, Nat.le_of_ble_eq_true rfl⟩) rfl rfl (Nat.le_of_ble_eq_true rfl) ⟨Nat.le_of_ble_eq_true rfl, Nat.le_of_ble_eq_true rfl⟩ dL_law_225 (fun v2 G2' F2' hv2 => ?_)
  obtain ⟨e1, hI'⟩ := la_q (P := fun w a b r => ∃ K, ye_K w a b K ∧ r = ((K[la_xv xs (i + 1)]?).map (ye_len w)).getD 4294967294) (la_uK (f := fun w K => ((K[la_xv xs (i + 1)]?).map (ye_len w)).getD 4294967294)) hI hv1 hv2
  subst e1
  exact ky_icmp_same (pc := 228) (tgt := 368) C dL_law_228 (by decide) (fin _ _ _ _ hI')
theorem la_k5 (C : ky_C p s m args c cL_law 4 R_law D (xT dA ++ wT dB)) (hA : ∀ q : Nat, s.heap.size ≤ q → A q) (hX : va_X b N xs s s.heap) (hbl : b < s.heap.size) (hbA : ¬ A b) (hN : N ≤ 256) (hi : i + 4 ≤ N) (hI : la_I G F G2 F2) (fin : ∀ (G : Nat → Nat) (F : Nat → Nat → Nat) (G2 : Nat → Nat) (F2 : Nat → Nat → Nat), la_I G F G2 F2 → ky_At p l e room_1 s m args below meth c 17 525 Q D A 4 (xW o ad dA G F ++ wW o2 ad2 dB G2 F2) 368 [some (.ref b), some (.ref o), some (.ref o2), some (.int (nI i))] []) : ky_At p l e room_1 s m args below meth c 17 525 Q D A 4 (xW o ad dA G F ++ wW o2 ad2 dB G2 F2) 233 [some (.ref b), some (.ref o), some (.ref o2), some (.int (nI i))] [] := by
  refine ky_aload_n (pc := 233) C dL_law_233 rfl ?_
  refine ky_aload_n (pc := 234) C dL_law_234 rfl ?_
  refine ky_iload_n (pc := 235) C dL_law_235 rfl ?_
  refine ky_iconst (pc := 236) C 1 dL_law_236 (by decide) ?_
  refine ky_iadd (pc := 237) C dL_law_237 ?_
  refine ky_sld (pc := 238) (k := i + 1) (v := la_xv xs (i + 1)) C hX hbl hbA (by omega) hN (la_xe xs _) dL_law_238 ?_
  refine la_cx (pc := 239) C hA (x_size l D o ad dA G F (la_xv xs (i + 1)) (la_xl xs _) hI.1) (cwV 1 C.2.2.2.2.1 (lw_V q157 q158 q159 q24 q160) rfl rfl rfl (by decide +kernel) ⟨Nat.le_of_ble_eq_true rfl, Nat.le_of_ble_eq_true rfl⟩) rfl rfl (Nat.le_of_ble_eq_true rfl) ⟨Nat.le_of_ble_eq_true rfl, Nat.le_of_ble_eq_true rfl⟩ dL_law_239 (fun v1 G' F' hv1 => ?_)
  refine ky_aload_n (pc := 242) C dL_law_242 rfl ?_
  refine ky_aload_n (pc := 243) C dL_law_243 rfl ?_
  refine ky_iload_n (pc := 244) C dL_law_244 rfl ?_
  refine ky_iconst (pc := 245) C 1 dL_law_245 (by decide) ?_
  refine ky_iadd (pc := 246) C dL_law_246 ?_
  refine ky_sld (pc := 247) (k := i + 1) (v := la_xv xs (i + 1)) C hX hbl hbA (by omega) hN (la_xe xs _) dL_law_247 ?_
  refine la_cm (pc := 248) C hA (w_size l D o2 ad2 dB G2 F2 (la_xv xs (i + 1)) (la_xl xs _) hI.2.1) (cwV 1 C.2.2.2.2.1 (lw_V q280 q281 q282 q25 q283) rfl rfl rfl (by decide +kernel) ⟨Nat.le_of_ble_eq_true rfl, Nat.le_of_ble_eq_true rfl⟩) rfl rfl (Nat.le_of_ble_eq_true rfl) ⟨Nat.le_of_ble_eq_true rfl, Nat.le_of_ble_eq_true rfl⟩ dL_law_248 (fun v2 G2' F2' hv2 => ?_)
  obtain ⟨e1, hI'⟩ := la_q (P := fun w a b r => ∃ K, ye_K w a b K ∧ r = ((K[la_xv xs (i + 1)]?).map List.length).getD 4294967294) (la_uK (f := fun w K => ((K[la_xv xs (i + 1)]?).map List.length).getD 4294967294)) hI hv1 hv2
  subst e1
  exact ky_icmp_same (pc := 251) (tgt := 368) C dL_law_251 (by decide) (fin _ _ _ _ hI')
theorem la_k6 (C : ky_C p s m args c cL_law 4 R_law D (xT dA ++ wT dB)) (hA : ∀ q : Nat, s.heap.size ≤ q → A q) (hX : va_X b N xs s s.heap) (hbl : b < s.heap.size) (hbA : ¬ A b) (hN : N ≤ 256) (hi : i + 4 ≤ N) (hI : la_I G F G2 F2) (fin : ∀ (G : Nat → Nat) (F : Nat → Nat → Nat) (G2 : Nat → Nat) (F2 : Nat → Nat → Nat), la_I G F G2 F2 → ky_At p l e room_1 s m args below meth c 17 525 Q D A 4 (xW o ad dA G F ++ wW o2 ad2 dB G2 F2) 368 [some (.ref b), some (.ref o), some (.ref o2), some (.int (nI i))] []) : ky_At p l e room_1 s m args below meth c 17 525 Q D A 4 (xW o ad dA G F ++ wW o2 ad2 dB G2 F2) 256 [some (.ref b), some (.ref o), some (.ref o2), some (.int (nI i))] [] := by
  refine ky_aload_n (pc := 256) C dL_law_256 rfl ?_
  refine ky_aload_n (pc := 257) C dL_law_257 rfl ?_
  refine ky_iload_n (pc := 258) C dL_law_258 rfl ?_
  refine ky_iconst (pc := 259) C 1 dL_law_259 (by decide) ?_
  refine ky_iadd (pc := 260) C dL_law_260 ?_
  refine ky_sld (pc := 261) (k := i + 1) (v := la_xv xs (i + 1)) C hX hbl hbA (by omega) hN (la_xe xs _) dL_law_261 ?_
  refine ky_aload_n (pc := 262) C dL_law_262 rfl ?_
  refine ky_iload_n (pc := 263) C dL_law_263 rfl ?_
  refine ky_iconst (pc := 264) C 2 dL_law_264 (by decide) ?_
  refine ky_iadd (pc := 265) C dL_law_265 ?_
  refine ky_sld (pc := 266) (k := i + 2) (v := la_xv xs (i + 2)) C hX hbl hbA (by omega) hN (la_xe xs _) dL_law_266 ?_
  refine la_cx (pc := 267) C hA (x_vertex l D o ad dA G F (la_xv xs (i + 1)) (la_xv xs (i + 2)) (la_xl xs _) (la_xl xs _) hI.1) (cwV 2 C.2.2.2.2.1 (lw_V q161 q162 q163 q24 q164) rfl rfl rfl (by decide +kernel) ⟨Nat.le_of_ble_eq_true rfl, Nat.le_of_ble_eq_true rfl⟩) rfl rfl (Nat.le_of_ble_eq_true rfl) ⟨Nat.le_of_ble_eq_true rfl, Nat.le_of_ble_eq_true rfl⟩ dL_law_267 (fun v1 G' F' hv1 => ?_)
  refine ky_aload_n (pc := 270) C dL_law_270 rfl ?_
  refine ky_aload_n (pc := 271) C dL_law_271 rfl ?_
  refine ky_iload_n (pc := 272) C dL_law_272 rfl ?_
  refine ky_iconst (pc := 273) C 1 dL_law_273 (by decide) ?_
  refine ky_iadd (pc := 274) C dL_law_274 ?_
  refine ky_sld (pc := 275) (k := i + 1) (v := la_xv xs (i + 1)) C hX hbl hbA (by omega) hN (la_xe xs _) dL_law_275 ?_
  refine ky_aload_n (pc := 276) C dL_law_276 rfl ?_
  refine ky_iload_n (pc := 277) C dL_law_277 rfl ?_
  refine ky_iconst (pc := 278) C 2 dL_law_278 (by decide) ?_
  refine ky_iadd (pc := 279) C dL_law_279 ?_
  refine ky_sld (pc := 280) (k := i + 2) (v := la_xv xs (i + 2)) C hX hbl hbA (by omega) hN (la_xe xs _) dL_law_280 ?_
  refine la_cm (pc := 281) C hA (w_vertex l D o2 ad2 dB G2 F2 (la_xv xs (i + 1)) (la_xv xs (i + 2)) (la_xl xs _) (la_xl xs _) hI.2.1) (cwV 2 C.2.2.2.2.1 (lw_V q284 q285 q286 q25 q287) rfl rfl rfl (by decide +kernel) ⟨Nat.le_of_ble_eq_true rfl, Nat.le_of_ble_eq_true rfl⟩) rfl rfl (Nat.le_of_ble_eq_true rfl) ⟨Nat.le_of_ble_eq_true rfl, Nat.le_of_ble_eq_true rfl⟩ dL_law_281 (fun v2 G2' F2' hv2 => ?_)
  obtain ⟨e1, hI'⟩ := la_q (P := fun w a b r => ∃ K, ye_K w a b K ∧ r = ((K[la_xv xs (i + 1)]?).bind (fun q => q[la_xv xs (i + 2)]?)).getD 4294967294) (la_uK (f := fun w K => ((K[la_xv xs (i + 1)]?).bind (fun q => q[la_xv xs (i + 2)]?)).getD 4294967294)) hI hv1 hv2
  subst e1
  exact ky_icmp_same (pc := 284) (tgt := 368) C dL_law_284 (by decide) (fin _ _ _ _ hI')
theorem la_k7 (C : ky_C p s m args c cL_law 4 R_law D (xT dA ++ wT dB)) (hA : ∀ q : Nat, s.heap.size ≤ q → A q) (hX : va_X b N xs s s.heap) (hbl : b < s.heap.size) (hbA : ¬ A b) (hN : N ≤ 256) (hi : i + 4 ≤ N) (hI : la_I G F G2 F2) (fin : ∀ (G : Nat → Nat) (F : Nat → Nat → Nat) (G2 : Nat → Nat) (F2 : Nat → Nat → Nat), la_I G F G2 F2 → ky_At p l e room_1 s m args below meth c 17 525 Q D A 4 (xW o ad dA G F ++ wW o2 ad2 dB G2 F2) 368 [some (.ref b), some (.ref o), some (.ref o2), some (.int (nI i))] []) : ky_At p l e room_1 s m args below meth c 17 525 Q D A 4 (xW o ad dA G F ++ wW o2 ad2 dB G2 F2) 289 [some (.ref b), some (.ref o), some (.ref o2), some (.int (nI i))] [] := by
  refine ky_aload_n (pc := 289) C dL_law_289 rfl ?_
  refine ky_aload_n (pc := 290) C dL_law_290 rfl ?_
  refine ky_iload_n (pc := 291) C dL_law_291 rfl ?_
  refine ky_iconst (pc := 292) C 1 dL_law_292 (by decide) ?_
  refine ky_iadd (pc := 293) C dL_law_293 ?_
  refine ky_sld (pc := 294) (k := i + 1) (v := la_xv xs (i + 1)) C hX hbl hbA (by omega) hN (la_xe xs _) dL_law_294 ?_
  refine ky_aload_n (pc := 295) C dL_law_295 rfl ?_
  refine ky_iload_n (pc := 296) C dL_law_296 rfl ?_
  refine ky_iconst (pc := 297) C 2 dL_law_297 (by decide) ?_
  refine ky_iadd (pc := 298) C dL_law_298 ?_
  refine ky_sld (pc := 299) (k := i + 2) (v := la_xv xs (i + 2)) C hX hbl hbA (by omega) hN (la_xe xs _) dL_law_299 ?_
  refine la_cx (pc := 300) C hA (x_passing l D o ad dA G F (la_xv xs (i + 1)) (la_xv xs (i + 2)) (la_xl xs _) (la_xl xs _) hI.1) (cwV 2 C.2.2.2.2.1 (lw_V q165 q166 q167 q24 q168) rfl rfl rfl (by decide +kernel) ⟨Nat.le_of_ble_eq_true rfl, Nat.le_of_ble_eq_true rfl⟩) rfl rfl (Nat.le_of_ble_eq_true rfl) ⟨Nat.le_of_ble_eq_true rfl, Nat.le_of_ble_eq_true rfl⟩ dL_law_300 (fun v1 G' F' hv1 => ?_)
  refine ky_aload_n (pc := 303) C dL_law_303 rfl ?_
  refine ky_aload_n (pc := 304) C dL_law_304 rfl ?_
  refine ky_iload_n (pc := 305) C dL_law_305 rfl ?_
  refine ky_iconst (pc := 306) C 1 dL_law_306 (by decide) ?_
  refine ky_iadd (pc := 307) C dL_law_307 ?_
  refine ky_sld (pc := 308) (k := i + 1) (v := la_xv xs (i + 1)) C hX hbl hbA (by omega) hN (la_xe xs _) dL_law_308 ?_
  refine ky_aload_n (pc := 309) C dL_law_309 rfl ?_
  refine ky_iload_n (pc := 310) C dL_law_310 rfl ?_
  refine ky_iconst (pc := 311) C 2 dL_law_311 (by decide) ?_
  refine ky_iadd (pc := 312) C dL_law_312 ?_
  refine ky_sld (pc := 313) (k := i + 2) (v := la_xv xs (i + 2)) C hX hbl hbA (by omega) hN (la_xe xs _) dL_law_313 ?_
  refine la_cm (pc := 314) C hA (w_passing l D o2 ad2 dB G2 F2 (la_xv xs (i + 1)) (la_xv xs (i + 2)) (la_xl xs _) (la_xl xs _) hI.2.1) (cwV 2 C.2.2.2.2.1 (lw_V q288 q289 q290 q25 q291) rfl rfl rfl (by decide +kernel) ⟨Nat.le_of_ble_eq_true rfl, Nat.le_of_ble_eq_true rfl⟩) rfl rfl (Nat.le_of_ble_eq_true rfl) ⟨Nat.le_of_ble_eq_true rfl, Nat.le_of_ble_eq_true rfl⟩ dL_law_314 (fun v2 G2' F2' hv2 => ?_)
  obtain ⟨e1, hI'⟩ := la_q (P := fun w a b r => ((la_xv xs (i + 1)) < 7 ∧ (la_xv xs (i + 2)) < 7 ∧ ∃ K, ye_K w a b K ∧ r = K.countP (ye_has (la_xv xs (i + 1)) (la_xv xs (i + 2)))) ∨ (¬ ((la_xv xs (i + 1)) < 7 ∧ (la_xv xs (i + 2)) < 7) ∧ r = 4294967295)) (fun w a b r r' h h' => by
    rcases h with ⟨a1, a2, a3⟩ | ⟨a1, a2⟩ <;> rcases h' with ⟨b1, b2, b3⟩ | ⟨b1, b2⟩
    · exact la_uK (f := fun _ K => K.countP (ye_has (la_xv xs (i + 1)) (la_xv xs (i + 2)))) w a b r r' a3 b3
    · exact absurd ⟨a1, a2⟩ b1
    · exact absurd ⟨b1, b2⟩ a1
    · exact a2.trans b2.symm) hI hv1 hv2
  subst e1
  exact ky_icmp_same (pc := 317) (tgt := 368) C dL_law_317 (by decide) (fin _ _ _ _ hI')
theorem la_k8 (C : ky_C p s m args c cL_law 4 R_law D (xT dA ++ wT dB)) (hA : ∀ q : Nat, s.heap.size ≤ q → A q) (hX : va_X b N xs s s.heap) (hbl : b < s.heap.size) (hbA : ¬ A b) (hN : N ≤ 256) (hi : i + 4 ≤ N) (hI : la_I G F G2 F2) (fin : ∀ (G : Nat → Nat) (F : Nat → Nat → Nat) (G2 : Nat → Nat) (F2 : Nat → Nat → Nat), la_I G F G2 F2 → ky_At p l e room_1 s m args below meth c 17 525 Q D A 4 (xW o ad dA G F ++ wW o2 ad2 dB G2 F2) 368 [some (.ref b), some (.ref o), some (.ref o2), some (.int (nI i))] []) : ky_At p l e room_1 s m args below meth c 17 525 Q D A 4 (xW o ad dA G F ++ wW o2 ad2 dB G2 F2) 322 [some (.ref b), some (.ref o), some (.ref o2), some (.int (nI i))] [] := by
  refine ky_aload_n (pc := 322) C dL_law_322 rfl ?_
  refine ky_aload_n (pc := 323) C dL_law_323 rfl ?_
  refine ky_iload_n (pc := 324) C dL_law_324 rfl ?_
  refine ky_iconst (pc := 325) C 1 dL_law_325 (by decide) ?_
  refine ky_iadd (pc := 326) C dL_law_326 ?_
  refine ky_sld (pc := 327) (k := i + 1) (v := la_xv xs (i + 1)) C hX hbl hbA (by omega) hN (la_xe xs _) dL_law_327 ?_
  refine ky_aload_n (pc := 328) C dL_law_328 rfl ?_
  refine ky_iload_n (pc := 329) C dL_law_329 rfl ?_
  refine ky_iconst (pc := 330) C 2 dL_law_330 (by decide) ?_
  refine ky_iadd (pc := 331) C dL_law_331 ?_
  refine ky_sld (pc := 332) (k := i + 2) (v := la_xv xs (i + 2)) C hX hbl hbA (by omega) hN (la_xe xs _) dL_law_332 ?_
  refine la_cx (pc := 333) C hA (x_avoiding l D o ad dA G F (la_xv xs (i + 1)) (la_xv xs (i + 2)) (la_xl xs _) (la_xl xs _) hI.1) (cwV 2 C.2.2.2.2.1 (lw_V q169 q170 q171 q24 q172) rfl rfl rfl (by decide +kernel) ⟨Nat.le_of_ble_eq_true rfl, Nat.le_of_ble_eq_true rfl⟩) rfl rfl (Nat.le_of_ble_eq_true rfl) ⟨Nat.le_of_ble_eq_true rfl, Nat.le_of_ble_eq_true rfl⟩ dL_law_333 (fun v1 G' F' hv1 => ?_)
  refine ky_aload_n (pc := 336) C dL_law_336 rfl ?_
  refine ky_aload_n (pc := 337) C dL_law_337 rfl ?_
  refine ky_iload_n (pc := 338) C dL_law_338 rfl ?_
  refine ky_iconst (pc := 339) C 1 dL_law_339 (by decide) ?_
  refine ky_iadd (pc := 340) C dL_law_340 ?_
  refine ky_sld (pc := 341) (k := i + 1) (v := la_xv xs (i + 1)) C hX hbl hbA (by omega) hN (la_xe xs _) dL_law_341 ?_
  refine ky_aload_n (pc := 342) C dL_law_342 rfl ?_
  refine ky_iload_n (pc := 343) C dL_law_343 rfl ?_
  refine ky_iconst (pc := 344) C 2 dL_law_344 (by decide) ?_
  refine ky_iadd (pc := 345) C dL_law_345 ?_
  refine ky_sld (pc := 346) (k := i + 2) (v := la_xv xs (i + 2)) C hX hbl hbA (by omega) hN (la_xe xs _) dL_law_346 ?_
  refine la_cm (pc := 347) C hA (w_avoiding l D o2 ad2 dB G2 F2 (la_xv xs (i + 1)) (la_xv xs (i + 2)) (la_xl xs _) (la_xl xs _) hI.2.1) (cwV 2 C.2.2.2.2.1 (lw_V q296 q297 q298 q25 q299) rfl rfl rfl (by decide +kernel) ⟨Nat.le_of_ble_eq_true rfl, Nat.le_of_ble_eq_true rfl⟩) rfl rfl (Nat.le_of_ble_eq_true rfl) ⟨Nat.le_of_ble_eq_true rfl, Nat.le_of_ble_eq_true rfl⟩ dL_law_347 (fun v2 G2' F2' hv2 => ?_)
  obtain ⟨e1, hI'⟩ := la_q (P := fun w a b r => ((la_xv xs (i + 1)) < 7 ∧ (la_xv xs (i + 2)) < 7 ∧ ye_sw w (la_xv xs (i + 1)) (la_xv xs (i + 2)) (ye_path w 4294967295 a b) r) ∨ (¬ ((la_xv xs (i + 1)) < 7 ∧ (la_xv xs (i + 2)) < 7) ∧ r = 4294967295)) (fun w a b r r' h h' => by
    rcases h with ⟨a1, a2, a3⟩ | ⟨a1, a2⟩ <;> rcases h' with ⟨b1, b2, b3⟩ | ⟨b1, b2⟩
    · exact ye_sw_one a3 b3
    · exact absurd ⟨a1, a2⟩ b1
    · exact absurd ⟨b1, b2⟩ a1
    · exact a2.trans b2.symm) hI hv1 hv2
  subst e1
  exact ky_icmp_same (pc := 350) (tgt := 368) C dL_law_350 (by decide) (fin _ _ _ _ hI')
theorem la_k9 (C : ky_C p s m args c cL_law 4 R_law D (xT dA ++ wT dB)) (hA : ∀ q : Nat, s.heap.size ≤ q → A q) (hX : va_X b N xs s s.heap) (hbl : b < s.heap.size) (hbA : ¬ A b) (hN : N ≤ 256) (hi : i + 4 ≤ N) (hI : la_I G F G2 F2) (fin : ∀ (G : Nat → Nat) (F : Nat → Nat → Nat) (G2 : Nat → Nat) (F2 : Nat → Nat → Nat), la_I G F G2 F2 → ky_At p l e room_1 s m args below meth c 17 525 Q D A 4 (xW o ad dA G F ++ wW o2 ad2 dB G2 F2) 368 [some (.ref b), some (.ref o), some (.ref o2), some (.int (nI i))] []) : ky_At p l e room_1 s m args below meth c 17 525 Q D A 4 (xW o ad dA G F ++ wW o2 ad2 dB G2 F2) 355 [some (.ref b), some (.ref o), some (.ref o2), some (.int (nI i))] [] := by
  refine ky_aload_n (pc := 355) C dL_law_355 rfl ?_
  refine la_cx (pc := 356) C hA (x_unavoidable l D o ad dA G F   hI.1) (cwV 0 C.2.2.2.2.1 (lw_V q173 q174 q175 q24 q176) rfl rfl rfl (by decide +kernel) ⟨Nat.le_of_ble_eq_true rfl, Nat.le_of_ble_eq_true rfl⟩) rfl rfl (Nat.le_of_ble_eq_true rfl) ⟨Nat.le_of_ble_eq_true rfl, Nat.le_of_ble_eq_true rfl⟩ dL_law_356 (fun v1 G' F' hv1 => ?_)
  refine ky_aload_n (pc := 359) C dL_law_359 rfl ?_
  refine la_cm (pc := 360) C hA (w_unavoidable l D o2 ad2 dB G2 F2   hI.2.1) (cwV 0 C.2.2.2.2.1 (lw_V q300 q301 q302 q25 q303) rfl rfl rfl (by decide +kernel) ⟨Nat.le_of_ble_eq_true rfl, Nat.le_of_ble_eq_true rfl⟩) rfl rfl (Nat.le_of_ble_eq_true rfl) ⟨Nat.le_of_ble_eq_true rfl, Nat.le_of_ble_eq_true rfl⟩ dL_law_360 (fun v2 G2' F2' hv2 => ?_)
  obtain ⟨e1, hI'⟩ := la_q (P := fun w a b r => ye_ev (ye_path w 4294967295 a b) r) (fun w a b r r' h h' => ye_ev_one h h') hI hv1 hv2
  subst e1
  exact ky_icmp_same (pc := 363) (tgt := 368) C dL_law_363 (by decide) (fin _ _ _ _ hI')
/-- the law's loop at its head -/
theorem la_loop (C : ky_C p s m args c cL_law 4 R_law D (xT dA ++ wT dB)) (hA : ∀ q : Nat, s.heap.size ≤ q → A q) (hX : va_X b N xs s s.heap) (hbl : b < s.heap.size) (hbA : ¬ A b) (hN : N ≤ 256) (kk : ∀ (ws : va_W) (L : List (Option Value)), ky_At p l e room_1 s m args below meth c 17 525 Q D A 4 ws 374 L []) :
    ∀ (n i : Nat) (G : Nat → Nat) (F : Nat → Nat → Nat) (G2 : Nat → Nat) (F2 : Nat → Nat → Nat), i ≤ N → N < i + 4 * n + 4 → la_I G F G2 F2 → ky_At p l e room_1 s m args below meth c 17 525 Q D A 4 (xW o ad dA G F ++ wW o2 ad2 dB G2 F2) 18 [some (.ref b), some (.ref o), some (.ref o2), some (.int (nI i))] [] := by
  intro n
  induction n with
  | zero =>
    intro i G F G2 F2 hi hn hI
    refine ky_iload_n (pc := 18) C dL_law_18 rfl ?_
    refine ky_aload_n (pc := 19) C dL_law_19 rfl ?_
    refine ky_slen (pc := 20) C hX hbl hbA dL_law_20 ?_
    refine ky_iconst (pc := 21) C 4 dL_law_21 (by decide) ?_
    by_cases h4 : 4 ≤ N
    · refine ky_isub (pc := 22) C dL_law_22 h4 ?_
      refine ky_icmp_gt (pc := 23) (tgt := 374) C dL_law_23 (by decide) (by omega) (by omega) (fun h => kk _ _) (fun h => ?_)
      omega
    · refine ky_isubW (pc := 22) C (N + 4294967292) dL_law_22 (kn_sub4 (by omega)) ?_
      exact ky_icmp_gtN (pc := 23) (tgt := 374) C dL_law_23 (by decide) (by omega) (by omega) (by omega) (kk _ _)
  | succ n ih =>
    intro i G F G2 F2 hi hn hI
    refine ky_iload_n (pc := 18) C dL_law_18 rfl ?_
    refine ky_aload_n (pc := 19) C dL_law_19 rfl ?_
    refine ky_slen (pc := 20) C hX hbl hbA dL_law_20 ?_
    refine ky_iconst (pc := 21) C 4 dL_law_21 (by decide) ?_
    by_cases h4 : 4 ≤ N
    · refine ky_isub (pc := 22) C dL_law_22 h4 ?_
      refine ky_icmp_gt (pc := 23) (tgt := 374) C dL_law_23 (by decide) (by omega) (by omega) (fun h => kk _ _) (fun h => ?_)
      have fin : ∀ (G : Nat → Nat) (F : Nat → Nat → Nat) (G2 : Nat → Nat) (F2 : Nat → Nat → Nat), la_I G F G2 F2 → ky_At p l e room_1 s m args below meth c 17 525 Q D A 4 (xW o ad dA G F ++ wW o2 ad2 dB G2 F2) 368 [some (.ref b), some (.ref o), some (.ref o2), some (.int (nI i))] [] := by
        intro G F G2 F2 hI
        refine ky_iinc (pc := 368) C (i + 4) dL_law_368 rfl (by rw [← nI_add]; rfl) (by decide) ?_
        refine ky_goto (pc := 371) (tgt := 18) C dL_law_371 (by decide) ?_
        exact ih (i + 4) G F G2 F2 (by omega) (by omega) hI
      refine ky_aload_n (pc := 26) C dL_law_26 rfl ?_
      refine ky_iload_n (pc := 27) C dL_law_27 rfl ?_
      refine ky_sld (pc := 28) (k := i) (v := la_xv xs i) C hX hbl hbA (by omega) hN (la_xe xs _) dL_law_28 ?_
      refine ky_bipush (pc := 29) C 15 dL_law_29 (by decide) ?_
      refine ky_iand (pc := 31) C dL_law_31 ?_
      have hz : la_xv xs i &&& 15 ≤ 15 := Nat.and_le_right
      generalize la_xv xs i &&& 15 = z at hz ⊢
      rcases (show z = 0 ∨ z = 1 ∨ z = 2 ∨ z = 3 ∨ z = 4 ∨ z = 5 ∨ z = 6 ∨ z = 7 ∨ z = 8 ∨ z = 9 ∨ 9 < z by omega) with rfl | rfl | rfl | rfl | rfl | rfl | rfl | rfl | rfl | rfl | h9
      · exact ky_tabIn (pc := 32) (tgt := 88) C dL_law_32 (by decide) (by decide) rfl (by decide) (la_k0 C hA hX hbl hbA hN (by omega) hI fin)
      · exact ky_tabIn (pc := 32) (tgt := 131) C dL_law_32 (by decide) (by decide) rfl (by decide) (la_k1 C hA hX hbl hbA hN (by omega) hI fin)
      · exact ky_tabIn (pc := 32) (tgt := 164) C dL_law_32 (by decide) (by decide) rfl (by decide) (la_k2 C hA hX hbl hbA hN (by omega) hI fin)
      · exact ky_tabIn (pc := 32) (tgt := 197) C dL_law_32 (by decide) (by decide) rfl (by decide) (la_k3 C hA hX hbl hbA hN (by omega) hI fin)
      · exact ky_tabIn (pc := 32) (tgt := 210) C dL_law_32 (by decide) (by decide) rfl (by decide) (la_k4 C hA hX hbl hbA hN (by omega) hI fin)
      · exact ky_tabIn (pc := 32) (tgt := 233) C dL_law_32 (by decide) (by decide) rfl (by decide) (la_k5 C hA hX hbl hbA hN (by omega) hI fin)
      · exact ky_tabIn (pc := 32) (tgt := 256) C dL_law_32 (by decide) (by decide) rfl (by decide) (la_k6 C hA hX hbl hbA hN (by omega) hI fin)
      · exact ky_tabIn (pc := 32) (tgt := 289) C dL_law_32 (by decide) (by decide) rfl (by decide) (la_k7 C hA hX hbl hbA hN (by omega) hI fin)
      · exact ky_tabIn (pc := 32) (tgt := 322) C dL_law_32 (by decide) (by decide) rfl (by decide) (la_k8 C hA hX hbl hbA hN (by omega) hI fin)
      · exact ky_tabIn (pc := 32) (tgt := 355) C dL_law_32 (by decide) (by decide) rfl (by decide) (la_k9 C hA hX hbl hbA hN (by omega) hI fin)
      · exact ky_tabOut (pc := 32) (tgt := 368) C dL_law_32 (by omega) (by omega) (by decide) (fin G F G2 F2 hI)
    · refine ky_isubW (pc := 22) C (N + 4294967292) dL_law_22 (kn_sub4 (by omega)) ?_
      exact ky_icmp_gtN (pc := 23) (tgt := 374) C dL_law_23 (by decide) (by omega) (by omega) (by omega) (kk _ _)
end Y36
end
section
/-! whole_start, and the skeleton's end (printed by mklaw.py) -/
set_option maxRecDepth 100000
theorem whole_start {p : Program} {e : Env} {s : State} {m : MethodId} {below : List Frame} {meth : Method} {c : Code} (l : Launch) {b L : Nat} {xs : Nat → Int32} (hL : L ≤ 256) (C0 : lw_At p s m meth c b L xs) : W p l e room_1 s m #[Value.ref b] below meth c s.heap [] 0 0 (lw_Z below #[Value.ref b] s) (entryFrame m ([Value.ref b] : List Value).toArray 4) := by
  obtain ⟨hx, hb, hr, hml, hown, hts0, hX, hbl, hlocks, hgv⟩ := C0
  have hts : ∀ w ∈ lw_all, w.before #[Value.ref b] s = true := fun w h => hts0 w (lw_all_tbl h)
  have hA : ∀ q : Nat, s.heap.size ≤ q → (fun q : Nat => s.heap.size ≤ q) q := fun _ h => h
  have hbA : ¬ (fun q : Nat => s.heap.size ≤ q) b := Nat.not_le.mpr hbl
  obtain ⟨c0_, iS0, hKn0⟩ := u_known (C := RX0) (T := TX0) (N := 17) (n := 17) hts0 (fun w h => lw_all_tbl (in_X0 w h)) (hts0 _ (lw_all_tbl q27))
  obtain ⟨c1_, iS1, hKn1⟩ := u_known (C := RX1) (T := TX1) (N := 12) (n := 12) hts0 (fun w h => lw_all_tbl (in_X1 w h)) (hts0 _ (lw_all_tbl q178))
  obtain ⟨D, hKc⟩ : ∃ D : va_G, ∀ (k : Nat) (q : vw_C), vwCl[k]? = some q → u_Kn s q.1 q.2.1 q.2.2 (D.1 k) (D.2 k) := by
    refine ⟨(fun k => if k = 0 then c0_ else c1_, fun k => if k = 0 then iS0 else iS1), ?_⟩
    intro k q hq
    match k, hq with
    | 0, hq => cases hq; exact hKn0
    | 1, hq => cases hq; exact hKn1
    | k + 2, hq => simp [vwCl] at hq
  have hK : va_K D vwCl [] s := ⟨hKc, fun k q h => by simp at h⟩
  have C : ky_C p s m #[Value.ref b] c cL_law 4 R_law D [] := ⟨hx, hb, hml, hown, hts, hK⟩
  have exit : ∀ (ws : va_W) (L : List (Option Value)), ky_At p l e room_1 s m #[Value.ref b] below meth c 17 525 (lw_Z below #[Value.ref b] s) D (fun q : Nat => s.heap.size ≤ q) 4 ws 374 L [] := by
    intro ws L H locs ls h hl
    refine lv_iconst (v := 1) hx hb dL_law_374 (by decide) ?_
    refine va_forget (fun q hq => h.2.2.2.2 q hq) ?_
    refine W.widen (k := 600000) (n := 7290000) (by decide) (by decide) ?_
    exact lw_ret hx hb hr hlocks dL_law_375
  have body : ky_At p l e room_1 s m #[Value.ref b] below meth c 0 0 (lw_Z below #[Value.ref b] s) D (fun q : Nat => s.heap.size ≤ q) 4 [] 0 [some (.ref b), none, none, none] [] := by
    refine ky_new0 (pc := 0) C hA q26 (Nat.le_of_ble_eq_true rfl) (Nat.le_of_ble_eq_true rfl) dL_law_0 (fun o => ?_)
    refine ky_eqW (ws' := [(o, .inr (0, xF0))]) rfl ?_
    refine ky_dup (pc := 3) C dL_law_3 rfl ?_
    refine la_ix (pc := 4) C hA q28 ⟨Nat.le_of_ble_eq_true rfl, Nat.le_of_ble_eq_true rfl⟩ ⟨Nat.le_of_ble_eq_true rfl, Nat.le_of_ble_eq_true rfl⟩ (Nat.le_of_ble_eq_true rfl) dL_law_4 (fun ad dA C => ?_)
    refine ky_astore_n (pc := 7) C dL_law_7 (by decide) ?_
    refine ky_new1 (pc := 8) C hA q177 (Nat.le_of_ble_eq_true rfl) (Nat.le_of_ble_eq_true rfl) dL_law_8 (fun o2 => ?_)
    refine ky_dup (pc := 11) C dL_law_11 rfl ?_
    refine la_im (pc := 12) C hA q179 ⟨Nat.le_of_ble_eq_true rfl, Nat.le_of_ble_eq_true rfl⟩ ⟨Nat.le_of_ble_eq_true rfl, Nat.le_of_ble_eq_true rfl⟩ (Nat.le_of_ble_eq_true rfl) dL_law_12 (fun ad2 dB C => ?_)
    refine ky_astore_n (pc := 15) C dL_law_15 (by decide) ?_
    refine ky_iconst (pc := 16) C 0 dL_law_16 (by decide) ?_
    refine ky_istore_n (pc := 17) C dL_law_17 (by decide) ?_
    exact la_loop C hA hX hbl hbA hL exit L 0 xG0 (fun _ _ => 0) wG0 (fun _ _ => 0) (Nat.zero_le _) (by omega) ⟨⟨fun _ _ => Nat.zero_le _, by decide, by decide, by decide, by decide, Or.inl (by decide)⟩, ⟨fun _ _ => Nat.zero_le _, by decide, by decide, by decide⟩, rfl, by decide, by decide⟩
  have hl := ky_entry [Value.ref b] 4 (fun v hv => by
    have e1 : v = .ref b := by simpa using hv
    rw [e1]; rfl) (Nat.le_of_ble_eq_true rfl)
  rw [lg_entry_eq]
  exact body s.heap [] _ ⟨fun k q h => by simp at h, ⟨fun i j p q h => by simp at h, fun k q h => by simp at h⟩, va_S.rf⟩ ⟨hl.1, hl.2.1, fun i v hv => hl.2.2 i v (by
    match i, hv with
    | 0, hv => exact hv
    | 1, hv => cases hv
    | 2, hv => cases hv
    | 3, hv => cases hv
    | k + 4, hv => simp at hv)⟩
set_option maxHeartbeats 4000000 in
theorem lw_walk (l : Launch) (b : Addr) (xs : List Int32) : MetFree l x (headSpec (Jvm.Cond.code x code maxLocals ret :: tables_1) room_1) (lw_P b xs) (fun _ _ _ _ _ => True) lw_Q := by
  refine MetFree.of_bodyS (code := code) (maxLocals := maxLocals) (ret := ret) (by decide) ?_ ?_
  · intro args s m h hn
    obtain ⟨meth, c, h1, h2, h3, h4, h5, h6, -, -⟩ := Cond.code_spec hn (atoms_spec (ws := Jvm.Cond.code x code maxLocals ret :: tables_1) h _ List.mem_cons_self)
    exact ⟨meth, c, h1, h2, h3, h4, h5, h6⟩
  · intro p e s m args below meth c s₁ B hml0 hP _
    obtain ⟨rfl, hx, hbd, hgv⟩ := hP
    obtain ⟨scr, harrAt, hlist, hof, hsmall⟩ := hx
    obtain ⟨hcb, hkn, -, -⟩ := State.arrayAt?_spec harrAt
    have hown : s.vm.findClass R_law = some m.cls := findClass_of_methodNamed B.named
    have hts0 : ∀ c ∈ (Jvm.Cond.code x code maxLocals ret :: tables_1), c.before #[Value.ref b] s = true := atoms_spec (ws := Jvm.Cond.code x code maxLocals ret :: tables_1) B.pre
    have hts : ∀ w ∈ lw_tbl, w.before #[Value.ref b] s = true := k2_hts_sels lw_privs (fun w hw => hts0 w (List.mem_cons_of_mem _ hw)) lw_privs_ok
    have hml : c.maxLocals = 4 := B.maxLocals_eq (hts0 _ List.mem_cons_self)
    have X₀ : Stand p l e room_1 s m #[Value.ref b] below meth c s₁ [] 0 0 := Stand.of_body B
    have hh0 : s₁.heap = s.heap := by rw [B.state]; rfl
    have hsz : scr.slots.size = xs.length := by rw [← Array.length_toList, hlist, List.length_map]
    have hval : ∀ j : Nat, j < xs.length → scr.slots[j]? = some (.int (xs.getD j 0)) := fun j hj => by
      rw [← Array.getElem?_toList, hlist]
      simp [hj]
    have hbl : b < s.heap.size := (Array.getElem?_eq_some_iff.mp hcb).1
    have hX : va_X b xs.length (fun j => xs.getD j 0) s s.heap := ⟨scr, hcb, hof, hkn, hsz, hval⟩
    have K : W p l e room_1 s m #[Value.ref b] below meth c s₁.heap [] 0 0 (lw_Z below #[Value.ref b] s) (entryFrame m ([Value.ref b] : List Value).toArray 4) := by
      rw [hh0]
      exact whole_start l hbd ⟨B.exec, B.bytes, B.returns, hml, hown, hts, hX, hbl, B.notSynchronized, hgv⟩
    obtain ⟨t, a1, o, b1, b2, b3⟩ := K s₁ rfl X₀
    exact ⟨t, o, a1, b1, b2, b3⟩
theorem lw_pre_spec {args : Array Value} {s : State} (h : (Jvm.Cond.and given_1 narrow_1).before args s = true) (hr : rest_1_c.before args s = true) : ∃ (b : Addr) (xs : List Int32), lw_P b xs args s := by
  have hs := flat_of_before _ h
  have hq := flat_of_before _ hr
  have hc : (Cond.count 1).before args s = true := hs _ (by decide +kernel)
  have harr : (Cond.arrayOf (.arg 0) .int).before args s = true := hs _ (by decide +kernel)
  have hle : (Cond.le (.length (.arg 0)) (.int 256)).before args s = true := hs _ (by decide +kernel)
  have hlen : (Cond.isInt (.length (.arg 0))).before args s = true := hq _ (by decide +kernel)
  have hall : (Cond.all (.arg 0) (.isInt (.elem (.arg 0) (.index 0)))).before args s = true := hq _ (by decide +kernel)
  obtain ⟨b, xs, hb, hx⟩ := State.ints_of_pre rfl harr hlen hall
  have hsm : xs.length < 2 ^ 31 := hx.choose_spec.2.2.2
  have hev : (Term.length (.arg 0)).eval args s none [] s = some (.int xs.length.toInt32) := hx.length_eval hb
  have hv := Cond.le_ints hev (show (Term.int 256).eval args s none [] s = some (.int 256) from rfl)
  have hd : xs.length.toInt32 ≤ 256 := by
    simpa [Cond.before, Cond.holds, hv] using hle
  have hN : xs.length ≤ 256 := (Int32.ofNat_le_ofNat hsm (by decide)).mp (show Int32.ofNat xs.length ≤ Int32.ofNat 256 from hd)
  exact ⟨b, xs, Cond.one_arg hc (show args[0]? = some (.ref b) from hb), hx, hN, h⟩
theorem lw_comes (l : Launch) : Comes l x (Jvm.Cond.code x code maxLocals ret :: tables_1) room_1 (fun tb e args s => Calls_1 tb e args s ∧ rest_1 tb e args s ∧ Pre_1 tb e args s)
    (fun _ _ args s o t => lw_Q args s o t) := by
  intro p e ha hc hk s m args below hf hfit hheap happ hpre
  obtain ⟨b, xs, hP⟩ := lw_pre_spec hpre.2.2 hpre.2.1
  obtain ⟨k, o, h1, h2, h3, hQ⟩ := lw_walk l b xs p e ha hc hk s m args below hf ((Spec.applies_iff_loose hf).mp happ).1 hP trivial
  exact ⟨k, o, h1, h2, h3, hQ⟩
theorem lw_frame {s t : State} {o : Outcome} {args : Array Value} (h : Framed s o t [] 600000 7290000) :
    Framed s o t (fieldLocs frame_1_writes args s ++ arrayLocs frame_1_arrays args s ++ staticLocs frame_1_statics s) 600000 7290000 := h
theorem lw_limb (L : Cond) (hL : ∀ (args : Array Value) (s t : State), L.after args s (.returned (some (.int 1))) t = true) :
    ArmFor flags0 classFile x code maxLocals ret World_1 tables_1 room_1 Calls_1 rest_1 Pre_1
      (fun tb e a s o t => postC L tb e a s o t ∧ Framed s o t (fieldLocs frame_1_writes a s ++ arrayLocs frame_1_arrays a s ++ staticLocs frame_1_statics s) 600000 7290000) := by
  intro l _ _ _ p e ha hc hk s m args below hf hfit hheap happ hpre
  obtain ⟨k, o, h1, h2, h3, rfl, hF⟩ := lw_comes l p e ha hc hk s m args below hf hfit hheap happ hpre
  exact ⟨k, _, h1, h2, h3, hL args s _, lw_frame hF⟩
theorem i_vc : Claimed_1_1 ∧ Claimed_1_2 := ⟨lw_limb limb_1_1 (fun args s t => by simp [limb_1_1, Cond.after, Cond.holds, Cond.value]), lw_limb limb_1_2 (fun args s t => Cond.after_iff.mpr (by
  first | (rw [show limb_1_2 = Cond.eq .result (.int 1) from rfl, Cond.eq_ints (x := 1) (y := 1) rfl rfl]; simp; done) | (simp [limb_1_2, Cond.value, Term.eval]; done)))⟩
end
